set_option maxRecDepth 100000
/-! TEXT: charAt of a StringBuilder -/
theorem fl_J14_15 : Fl RJ14 15 21 0 2 := ⟨by decide, by decide, rfl, q937⟩
theorem fl_J14_22 : Fl RJ14 22 21 1 0 := ⟨by decide, by decide, rfl, q938⟩
theorem fl_J14_79 : Fl RJ14 79 21 3 0 := ⟨by decide, by decide, rfl, q939⟩
section X10
variable {g : GC} {M : MM}
theorem ct_J8_checkIndexq {i n : Nat} {r : Option Nat} (hi : i < n) (hn : n < 1000000) : Ct g yJ8_checkIndex cJ8_checkIndex 3 (some Jvm.ClassFile.FieldType.int) 3 0 0 [.int (nI i), .int (nI n), va_rf r] M (PQ M (.int (nI i))) noX := by
  refine Ct.of (by decide) (by cases r <;> exact Nat.le_of_ble_eq_true rfl) rfl ?_
  cases r with
  | none =>
    refine r_ild0 (pc := 0) dJ8_checkIndex_0 ?_
    refine r_if_lt (pc := 1) (tgt := 9) dJ8_checkIndex_1 (by decide) (fun h1 => ?_) (fun h1 => ?_)
    · skip
      exact absurd h1 (fun q => nI_in' hi (by omega) (Or.inl q))
    · skip
      refine r_ild0 (pc := 4) dJ8_checkIndex_4 ?_
      refine r_ild1 (pc := 5) dJ8_checkIndex_5 ?_
      first | refine r_icmp_ltN (pc := 6) (tgt := 16) dJ8_checkIndex_6 (by decide) (by omega) (by omega) (fun h6 => ?_) (fun h6 => ?_) | refine r_icmp_lt (pc := 6) (tgt := 16) dJ8_checkIndex_6 (by decide) (fun h6 => ?_) (fun h6 => ?_)
      · skip
        refine r_ild0 (pc := 16) dJ8_checkIndex_16 ?_
        refine r_iret (pc := 17) dJ8_checkIndex_17 ?_
        exact ⟨rfl, rfl⟩
      · skip
        exact absurd hi h6
  | some r =>
    refine r_ild0 (pc := 0) dJ8_checkIndex_0 ?_
    refine r_if_lt (pc := 1) (tgt := 9) dJ8_checkIndex_1 (by decide) (fun h1 => ?_) (fun h1 => ?_)
    · skip
      exact absurd h1 (fun q => nI_in' hi (by omega) (Or.inl q))
    · skip
      refine r_ild0 (pc := 4) dJ8_checkIndex_4 ?_
      refine r_ild1 (pc := 5) dJ8_checkIndex_5 ?_
      first | refine r_icmp_ltN (pc := 6) (tgt := 16) dJ8_checkIndex_6 (by decide) (by omega) (by omega) (fun h6 => ?_) (fun h6 => ?_) | refine r_icmp_lt (pc := 6) (tgt := 16) dJ8_checkIndex_6 (by decide) (fun h6 => ?_) (fun h6 => ?_)
      · skip
        refine r_ild0 (pc := 16) dJ8_checkIndex_16 ?_
        refine r_iret (pc := 17) dJ8_checkIndex_17 ?_
        exact ⟨rfl, rfl⟩
      · skip
        exact absurd hi h6
theorem ct_J6_checkIndex {i n : Nat} (hz : NSq g "jdk/internal/util/Preconditions" "SIOOBE_FORMATTER" "Ljava/util/function/BiFunction;") (hi : i < n) (hn : n < 1000000) : Ct g yJ6_checkIndex cJ6_checkIndex 2 none 4 0 0 [.int (nI i), .int (nI n)] M (fun v M' => v = none ∧ M' = M) noX := by
  refine Ct.of (by decide) (Nat.le_of_ble_eq_true rfl) rfl ?_
  refine r_ild0 (pc := 0) dJ6_checkIndex_0 ?_
  refine r_ild1 (pc := 1) dJ6_checkIndex_1 ?_
  refine r_getsq (pc := 2) dJ6_checkIndex_2 q619 hz (fun r => ?_)
  refine r_cS (pc := 5) dJ6_checkIndex_5 cs_J6_1059 (ct_J8_checkIndexq hi hn) rfl rfl (Nat.le_of_ble_eq_true rfl) (by decide) ?_
  rintro _ _ ⟨rfl, rfl⟩
  refine r_pop (pc := 8) dJ6_checkIndex_8 rfl ?_
  refine r_vret (pc := 9) dJ6_checkIndex_9 ?_
  exact ⟨rfl, rfl⟩
/-- a StringBuilder at a: its bytes v, n characters -/
def SbX (M : MM) (a v n : Nat) : Prop := mK M a = 41 ∧ mR M a 0 = some v ∧ mI M a 1 = nI 0 ∧ mI M a 3 = nI n ∧ mK M v = 3 ∧ n ≤ mN M v ∧ mN M v < 1000000
theorem ct_J14_charAt {a v n i c : Nat} (hz : NSq g "jdk/internal/util/Preconditions" "SIOOBE_FORMATTER" "Ljava/util/function/BiFunction;") (h : SbX M a v n) (hi : i < n) (hc : mI M v i = nI c) (hc7 : c < 128) : Ct g yJ14_charAt cJ14_charAt 5 (some Jvm.ClassFile.FieldType.char) 5 0 0 [.ref a, .int (nI i)] M (PQ M (.int (nI c))) noX := by
  obtain ⟨h1, h2, h3, h4, h5, h6, h7⟩ := h
  have e0 : (nI (mN M v)) >>> (nI 0) = nI (mN M v) := by simp [nI]
  have e1 : (nI c) &&& (nI 255) = nI c := by
    have : ∀ c : Fin 128, (nI c.val) &&& (nI 255) = nI c.val := by decide
    exact this ⟨c, hc7⟩
  have e2 : ((nI c).toUInt32 % 65536).toInt32 = nI c := by
    have : ∀ c : Fin 128, ((nI c.val).toUInt32 % 65536).toInt32 = nI c.val := by decide
    exact this ⟨c, hc7⟩
  have e3 : narrow .char (.int (nI c)) = .int (nI c) := by
    have : ∀ c : Fin 128, narrow .char (.int (nI c.val)) = .int (nI c.val) := by decide
    exact this ⟨c, hc7⟩
  refine Ct.of (by decide) (Nat.le_of_ble_eq_true rfl) rfl ?_
  refine r_ald0 (pc := 0) dJ14_charAt_0 ?_
  refine r_getI (pc := 1) dJ14_charAt_1 fl_J14_22 h1 ?_
  rw [h3]
  refine r_ist2 (pc := 4) dJ14_charAt_4 ?_
  refine r_ald0 (pc := 5) dJ14_charAt_5 ?_
  refine r_getR (pc := 6) dJ14_charAt_6 fl_J14_15 h1 h2 ?_
  refine r_ast3 (pc := 9) dJ14_charAt_9 ?_
  refine r_ald0 (pc := 10) dJ14_charAt_10 ?_
  refine r_getI (pc := 11) dJ14_charAt_11 fl_J14_79 h1 ?_
  rw [h4]
  refine r_ald3 (pc := 14) dJ14_charAt_14 ?_
  refine r_alen (pc := 15) dJ14_charAt_15 h5 (by decide) ?_
  refine r_ild2 (pc := 16) dJ14_charAt_16 ?_
  refine r_ishr (pc := 17) dJ14_charAt_17 ?_
  refine Bd.eqI e0 ?_
  refine r_cS (pc := 18) dJ14_charAt_18 cs_J14_138 (ct_J12_min (a := n) (b := mN M v) (by omega) (by omega)) rfl rfl (Nat.le_of_ble_eq_true rfl) (by decide) ?_
  rintro _ _ ⟨rfl, rfl⟩
  rw [if_pos h6]
  refine r_ist4 (pc := 21) dJ14_charAt_21 ?_
  refine r_ild1 (pc := 23) dJ14_charAt_23 ?_
  refine r_ild4 (pc := 24) dJ14_charAt_24 ?_
  refine r_cS (pc := 26) dJ14_charAt_26 cs_J14_144 (ct_J6_checkIndex hz hi (by omega)) rfl rfl (Nat.le_of_ble_eq_true rfl) (by decide) ?_
  rintro _ _ ⟨rfl, rfl⟩
  refine r_ild2 (pc := 29) dJ14_charAt_29 ?_
  first | refine r_if_neZ (pc := 30) (tgt := 42) dJ14_charAt_30 (by decide) (fun h30 => ?_) (fun h30 => ?_) | refine r_if_neN (pc := 30) (tgt := 42) dJ14_charAt_30 (by decide) (by omega) (fun h30 => ?_) (fun h30 => ?_) | refine r_if_ne (pc := 30) (tgt := 42) dJ14_charAt_30 (by decide) (fun h30 => ?_) (fun h30 => ?_)
  · skip
    exact absurd h30 (by decide)
  · skip
    refine r_ald3 (pc := 33) dJ14_charAt_33 ?_
    refine r_ild1 (pc := 34) dJ14_charAt_34 ?_
    refine r_bald (pc := 35) dJ14_charAt_35 h5 (by omega) (by omega) ?_
    rw [hc]
    refine r_sipush (v := nI 255) (pc := 36) dJ14_charAt_36 (by decide) ?_
    refine r_iand (pc := 39) dJ14_charAt_39 ?_
    refine Bd.eqI e1 ?_
    refine r_i2c (pc := 40) dJ14_charAt_40 ?_
    refine Bd.eqI e2 ?_
    exact r_zret (pc := 41) dJ14_charAt_41 e3 ⟨rfl, rfl⟩
end X10
