set_option maxRecDepth 100000
/-! NUMBERS of the other side -/
section X8
variable {g : GC} {M : MM}
theorem ct_J12_min_2 {a b : Int} (ha : b62 a) (hb : b62 b) : Ct g yJ12_min_2 cJ12_min_2 4 (some Jvm.ClassFile.FieldType.long) 0 0 0 [.long (lI a), .long (lI b)] M (PQ M (.long (lI (if a ≤ b then a else b)))) noX := by
  refine Ct.ofF pf_J12_min_2 (Nat.le_of_ble_eq_true rfl) rfl ?_
  refine r_lld0 (pc := 0) dJ12_min_2_0 ?_
  refine r_lld2 (pc := 1) dJ12_min_2_1 ?_
  refine r_lcmp (pc := 2) dJ12_min_2_2 ?_
  first | refine r_if_gtCI (pc := 3) (tgt := 10) dJ12_min_2_3 (by decide) (by constructor <;> omega) (by constructor <;> omega) (fun h3 => ?_) (fun h3 => ?_) | refine r_if_gtC (pc := 3) (tgt := 10) dJ12_min_2_3 (by decide) (fun h3 => ?_) (fun h3 => ?_)
  · skip
    refine r_lld2 (pc := 10) dJ12_min_2_10 ?_
    refine r_lret (pc := 11) dJ12_min_2_11 ?_
    exact ⟨by first | rw [if_pos (by omega)] | rw [if_neg (by omega)], rfl⟩
  · skip
    refine r_lld0 (pc := 6) dJ12_min_2_6 ?_
    refine r_goto (pc := 7) (tgt := 11) dJ12_min_2_7 (by decide) ?_
    refine r_lret (pc := 11) dJ12_min_2_11 ?_
    exact ⟨by first | rw [if_pos (by omega)] | rw [if_neg (by omega)], rfl⟩
theorem ct_J12_max_2 {a b : Int} (ha : b62 a) (hb : b62 b) : Ct g yJ12_max_2 cJ12_max_2 4 (some Jvm.ClassFile.FieldType.long) 0 0 0 [.long (lI a), .long (lI b)] M (PQ M (.long (lI (if b ≤ a then a else b)))) noX := by
  refine Ct.ofF pf_J12_max_2 (Nat.le_of_ble_eq_true rfl) rfl ?_
  refine r_lld0 (pc := 0) dJ12_max_2_0 ?_
  refine r_lld2 (pc := 1) dJ12_max_2_1 ?_
  refine r_lcmp (pc := 2) dJ12_max_2_2 ?_
  first | refine r_if_ltCI (pc := 3) (tgt := 10) dJ12_max_2_3 (by decide) (by constructor <;> omega) (by constructor <;> omega) (fun h3 => ?_) (fun h3 => ?_) | refine r_if_ltC (pc := 3) (tgt := 10) dJ12_max_2_3 (by decide) (fun h3 => ?_) (fun h3 => ?_)
  · skip
    refine r_lld2 (pc := 10) dJ12_max_2_10 ?_
    refine r_lret (pc := 11) dJ12_max_2_11 ?_
    exact ⟨by first | rw [if_pos (by omega)] | rw [if_neg (by omega)], rfl⟩
  · skip
    refine r_lld0 (pc := 6) dJ12_max_2_6 ?_
    refine r_goto (pc := 7) (tgt := 11) dJ12_max_2_7 (by decide) ?_
    refine r_lret (pc := 11) dJ12_max_2_11 ?_
    exact ⟨by first | rw [if_pos (by omega)] | rw [if_neg (by omega)], rfl⟩
theorem ct_J12_min {a b : Nat} (ha : a < 2147483648) (hb : b < 2147483648) : Ct g yJ12_min cJ12_min 2 (some Jvm.ClassFile.FieldType.int) 0 0 0 [.int (nI a), .int (nI b)] M (PQ M (.int (nI (if a ≤ b then a else b)))) noX := by
  refine Ct.ofF pf_J12_min (Nat.le_of_ble_eq_true rfl) rfl ?_
  refine r_ild0 (pc := 0) dJ12_min_0 ?_
  refine r_ild1 (pc := 1) dJ12_min_1 ?_
  first | refine r_icmp_gtN (pc := 2) (tgt := 9) dJ12_min_2 (by decide) (by omega) (by omega) (fun h2 => ?_) (fun h2 => ?_) | refine r_icmp_gt (pc := 2) (tgt := 9) dJ12_min_2 (by decide) (fun h2 => ?_) (fun h2 => ?_)
  · skip
    refine r_ild1 (pc := 9) dJ12_min_9 ?_
    refine r_iret (pc := 10) dJ12_min_10 ?_
    exact ⟨by first | rw [if_pos (by omega)] | rw [if_neg (by omega)], rfl⟩
  · skip
    refine r_ild0 (pc := 5) dJ12_min_5 ?_
    refine r_goto (pc := 6) (tgt := 10) dJ12_min_6 (by decide) ?_
    refine r_iret (pc := 10) dJ12_min_10 ?_
    exact ⟨by first | rw [if_pos (by omega)] | rw [if_neg (by omega)], rfl⟩
theorem ct_X0_held {v : Int} (hv : b62 v) : Ct g yX0_held cX0_held 2 (some Jvm.ClassFile.FieldType.long) 1 0 0 [.long (lI v)] M (PQ M (.long (lI (clip v)))) noX := by
  have h1 : b62 (if (1000000 : Int) ≤ v then 1000000 else v) := by split <;> (constructor <;> omega)
  refine Ct.of (by decide) (Nat.le_of_ble_eq_true rfl) rfl ?_
  refine r_ldc2 (v := -1000000) (pc := 0) dX0_held_0 q1241 ?_
  refine Bd.eqL (x' := lI (-1000000)) (by decide) ?_
  refine r_ldc2 (v := lI (1000000)) (pc := 3) dX0_held_3 q1242 ?_
  refine r_lld0 (pc := 6) dX0_held_6 ?_
  refine r_cS (pc := 7) dX0_held_7 cs_X0_7 (ct_J12_min_2 (by constructor <;> omega) hv) rfl rfl (Nat.le_of_ble_eq_true rfl) (by decide) ?_
  rintro _ _ ⟨rfl, rfl⟩
  refine r_cS (pc := 10) dX0_held_10 cs_X0_13 (ct_J12_max_2 (by constructor <;> omega) h1) rfl rfl (Nat.le_of_ble_eq_true rfl) (by decide) ?_
  rintro _ _ ⟨rfl, rfl⟩
  refine r_lret (pc := 13) dX0_held_13 ?_
  exact ⟨by unfold clip; split <;> split <;> (try split) <;> (try split) <;> first | rfl | (exfalso; omega) | (congr 3; omega), rfl⟩
theorem lxor_neg {a b : Int64} : (a ^^^ b < 0) ↔ (a < 0 ↔ ¬ b < 0) := by
  simp only [Int64.lt_iff_toBitVec_slt, Int64.toBitVec_xor, Int64.toBitVec_zero, BitVec.slt_zero_eq_msb, BitVec.msb_xor]
  cases a.toBitVec.msb <;> cases b.toBitVec.msb <;> decide
end X8
