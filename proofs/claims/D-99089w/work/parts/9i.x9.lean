set_option maxRecDepth 100000
/-! NUMBERS of the other side: division, two -/
section X9
variable {g : GC} {M : MM}
theorem lI_neg0 {a : Int} (ha : b62 a) : (lI a < 0) ↔ a < 0 := by
  have h := lI_lt (a := a) (b := 0) ha (by constructor <;> decide)
  exact h
theorem ct_J12_floorDiv {a b : Int} (ha : b6 a) (hb : b6 b) (hb0 : b ≠ 0) : Ct g yJ12_floorDiv cJ12_floorDiv 6 (some Jvm.ClassFile.FieldType.long) 0 0 0 [.long (lI a), .long (lI b)] M (PQ M (.long (lI (flr a b)))) noX := by
  obtain ⟨ha1, ha2⟩ := ha
  obtain ⟨hb1, hb2⟩ := hb
  have hq : (a.tdiv b).natAbs ≤ a.natAbs := by rw [Int.natAbs_tdiv]; exact Nat.div_le_self _ _
  have hm : (a.tmod b).natAbs ≤ a.natAbs := by rw [Int.natAbs_tmod]; exact Nat.mod_le _ _
  have hd : a.tmod b = a - a.tdiv b * b := by rw [Int.tmod_def, Int.mul_comm]
  have hp : a.tdiv b * b = a - a.tmod b := by omega
  have hf : flr a b = if a.tmod b ≠ 0 ∧ (a < 0 ↔ ¬ b < 0) then a.tdiv b - 1 else a.tdiv b := if_neg hb0
  have hx : (lI a ^^^ lI b < 0) ↔ (a < 0 ↔ ¬ b < 0) := by rw [lxor_neg, lI_neg0 (by constructor <;> omega), lI_neg0 (by constructor <;> omega)]
  refine Ct.ofF pf_J12_floorDiv (Nat.le_of_ble_eq_true rfl) rfl ?_
  refine r_lld0 (pc := 0) dJ12_floorDiv_0 ?_
  refine r_lld2 (pc := 1) dJ12_floorDiv_1 ?_
  first | refine r_ldivI (pc := 2) dJ12_floorDiv_2 (by omega) (by constructor <;> omega) (by constructor <;> omega) ?_ | refine r_ldiv (pc := 2) dJ12_floorDiv_2 (by first | assumption | decide) ?_
  refine r_lst4 (pc := 3) dJ12_floorDiv_3 ?_
  refine r_lld0 (pc := 5) dJ12_floorDiv_5 ?_
  refine r_lld2 (pc := 6) dJ12_floorDiv_6 ?_
  refine r_lxor (pc := 7) dJ12_floorDiv_7 ?_
  refine r_lconst (v := lI 0) (pc := 8) dJ12_floorDiv_8 rfl ?_
  refine r_lcmp (pc := 9) dJ12_floorDiv_9 ?_
  refine r_if_geC (pc := 10) (tgt := 27) dJ12_floorDiv_10 (by decide) (fun h10 => ?_) (fun h10 => ?_)
  · skip
    refine r_lld4 (pc := 27) dJ12_floorDiv_27 ?_
    refine r_lret (pc := 29) dJ12_floorDiv_29 ?_
    exact ⟨by rw [hf, if_neg (fun q => by first | exact absurd (hx.mpr q.2) (Int64.not_lt.mpr h10) | exact absurd q.1 (by omega))], rfl⟩
  · skip
    refine r_lld4 (pc := 13) dJ12_floorDiv_13 ?_
    refine r_lld2 (pc := 15) dJ12_floorDiv_15 ?_
    first | refine r_lmulI (pc := 16) dJ12_floorDiv_16 ?_ | refine r_lmul (pc := 16) dJ12_floorDiv_16 ?_
    rw [hp]
    refine r_lld0 (pc := 17) dJ12_floorDiv_17 ?_
    refine r_lcmp (pc := 18) dJ12_floorDiv_18 ?_
    first | refine r_if_eqCI (pc := 19) (tgt := 27) dJ12_floorDiv_19 (by decide) (by constructor <;> omega) (by constructor <;> omega) (fun h19 => ?_) (fun h19 => ?_) | refine r_if_eqC (pc := 19) (tgt := 27) dJ12_floorDiv_19 (by decide) (fun h19 => ?_) (fun h19 => ?_)
    · skip
      refine r_lld4 (pc := 27) dJ12_floorDiv_27 ?_
      refine r_lret (pc := 29) dJ12_floorDiv_29 ?_
      exact ⟨by rw [hf, if_neg (fun q => by first | exact absurd (hx.mpr q.2) (Int64.not_lt.mpr h10) | exact absurd q.1 (by omega))], rfl⟩
    · skip
      refine r_lld4 (pc := 22) dJ12_floorDiv_22 ?_
      refine r_lconst (v := lI 1) (pc := 24) dJ12_floorDiv_24 rfl ?_
      first | refine r_lsubI (pc := 25) dJ12_floorDiv_25 ?_ | refine r_lsub (pc := 25) dJ12_floorDiv_25 ?_
      refine r_lret (pc := 26) dJ12_floorDiv_26 ?_
      exact ⟨by rw [hf, if_pos ⟨by omega, hx.mp (Int64.not_le.mp h10)⟩], rfl⟩
/-- the sign of a code: + - * / -/
def sgC (op : Nat) : Nat := if op = 1 then 43 else if op = 2 then 45 else if op = 3 then 42 else 47
def jn0 (op : Nat) (a b : Int) : Int := if op = 1 then a + b else if op = 2 then a - b else if op = 3 then a * b else flr a b
theorem jn0_clip {op : Nat} {a b : Int} (h1 : 1 ≤ op) (h4 : op ≤ 4) (ha : b6 a) : clip (jn0 op a b) = jn op a b := by
  have hc : op = 1 ∨ op = 2 ∨ op = 3 ∨ op = 4 := by omega
  rcases hc with rfl | rfl | rfl | rfl
  · rfl
  · rfl
  · rfl
  · exact clip_id (flr_b6 ha)
theorem ct_X9_two {op : Nat} {a b : Int} (h1 : 1 ≤ op) (h4 : op ≤ 4) (ha : b6 a) (hb : b6 b) : Ct g yX9_two cX9_two 5 (some Jvm.ClassFile.FieldType.long) 1 0 0 [.int (nI (sgC op)), .long (lI a), .long (lI b)] M (PQ M (.long (lI (jn0 op a b)))) noX := by
  obtain ⟨ha1, ha2⟩ := ha
  obtain ⟨hb1, hb2⟩ := hb
  have hc : op = 1 ∨ op = 2 ∨ op = 3 ∨ op = 4 := by omega
  refine Ct.of (by decide) (Nat.le_of_ble_eq_true rfl) rfl ?_
  rcases hc with rfl | rfl | rfl | rfl
  · simp only [show sgC 1 = 43 from rfl]
    refine r_ild0 (pc := 0) dX9_two_0 ?_
    refine r_tableIn (pc := 1) (tgt := 32) (off := 31) dX9_two_1 (by decide) (by decide) rfl (by decide) ?_
    refine r_lld1 (pc := 32) dX9_two_32 ?_
    refine r_lld3 (pc := 33) dX9_two_33 ?_
    first | refine r_laddI (pc := 34) dX9_two_34 ?_ | refine r_ladd (pc := 34) dX9_two_34 ?_
    refine r_lret (pc := 35) dX9_two_35 ?_
    exact ⟨rfl, rfl⟩
  · simp only [show sgC 2 = 45 from rfl]
    refine r_ild0 (pc := 0) dX9_two_0 ?_
    refine r_tableIn (pc := 1) (tgt := 36) (off := 35) dX9_two_1 (by decide) (by decide) rfl (by decide) ?_
    refine r_lld1 (pc := 36) dX9_two_36 ?_
    refine r_lld3 (pc := 37) dX9_two_37 ?_
    first | refine r_lsubI (pc := 38) dX9_two_38 ?_ | refine r_lsub (pc := 38) dX9_two_38 ?_
    refine r_lret (pc := 39) dX9_two_39 ?_
    exact ⟨rfl, rfl⟩
  · simp only [show sgC 3 = 42 from rfl]
    refine r_ild0 (pc := 0) dX9_two_0 ?_
    refine r_tableIn (pc := 1) (tgt := 40) (off := 39) dX9_two_1 (by decide) (by decide) rfl (by decide) ?_
    refine r_lld1 (pc := 40) dX9_two_40 ?_
    refine r_lld3 (pc := 41) dX9_two_41 ?_
    first | refine r_lmulI (pc := 42) dX9_two_42 ?_ | refine r_lmul (pc := 42) dX9_two_42 ?_
    refine r_lret (pc := 43) dX9_two_43 ?_
    exact ⟨rfl, rfl⟩
  · simp only [show sgC 4 = 47 from rfl]
    refine r_ild0 (pc := 0) dX9_two_0 ?_
    refine r_tableOut (pc := 1) (tgt := 44) dX9_two_1 (by first | decide | assumption) (by decide) ?_
    refine r_lld3 (pc := 44) dX9_two_44 ?_
    refine r_lconst (v := lI 0) (pc := 45) dX9_two_45 rfl ?_
    refine r_lcmp (pc := 46) dX9_two_46 ?_
    first | refine r_if_neCI (pc := 47) (tgt := 54) dX9_two_47 (by decide) (by constructor <;> omega) (by constructor <;> omega) (fun h47 => ?_) (fun h47 => ?_) | refine r_if_neC (pc := 47) (tgt := 54) dX9_two_47 (by decide) (fun h47 => ?_) (fun h47 => ?_)
    · skip
      refine r_lld1 (pc := 54) dX9_two_54 ?_
      refine r_lld3 (pc := 55) dX9_two_55 ?_
      refine r_cS (pc := 56) dX9_two_56 cs_X9_61 (ct_J12_floorDiv ⟨ha1, ha2⟩ ⟨hb1, hb2⟩ h47) rfl rfl (Nat.le_of_ble_eq_true rfl) (by decide) ?_
      rintro _ _ ⟨rfl, rfl⟩
      refine r_lret (pc := 59) dX9_two_59 ?_
      exact ⟨rfl, rfl⟩
    · skip
      have h47' : b = 0 := by first | exact h47 | omega
      refine r_lconst (v := lI 0) (pc := 50) dX9_two_50 rfl ?_
      refine r_goto (pc := 51) (tgt := 59) dX9_two_51 (by decide) ?_
      refine r_lret (pc := 59) dX9_two_59 ?_
      exact ⟨by rw [show jn0 4 a b = 0 by show flr a b = 0; exact if_pos h47'], rfl⟩
end X9
