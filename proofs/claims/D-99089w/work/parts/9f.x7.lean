set_option maxRecDepth 100000
/-! LISTS: their readers -/
section X7
variable {g : GC} {M : MM}
/-- a list at a: its array v, n elements -/
def LsX (M : MM) (a v n : Nat) : Prop := mK M a = 40 ∧ mR M a 1 = some v ∧ mI M a 2 = nI n ∧ mK M v = 6 ∧ n ≤ mN M v ∧ mN M v < 1000000
theorem ct_J2_size {a v n : Nat} (h : LsX M a v n) : Ct g yJ2_size cJ2_size 1 (some Jvm.ClassFile.FieldType.int) 0 0 0 [.ref a] M (PQ M (.int (nI n))) noX := by
  obtain ⟨h1, h2, h3, h4, h5, h6⟩ := h
  refine Ct.of (by decide) (Nat.le_of_ble_eq_true rfl) rfl ?_
  refine r_ald0 (pc := 0) dJ2_size_0 ?_
  refine r_getI (pc := 1) dJ2_size_1 fl_J2_48 h1 ?_
  rw [h3]
  refine r_iret (pc := 4) dJ2_size_4 ?_
  exact ⟨rfl, rfl⟩
theorem ct_J8_checkIndex {i n : Nat} (hi : i < n) (hn : n < 1000000) : Ct g yJ8_checkIndex cJ8_checkIndex 3 (some Jvm.ClassFile.FieldType.int) 3 0 0 [.int (nI i), .int (nI n), .null] M (PQ M (.int (nI i))) noX := by
  refine Ct.of (by decide) (Nat.le_of_ble_eq_true rfl) rfl ?_
  refine r_ild0 (pc := 0) dJ8_checkIndex_0 ?_
  refine r_if_lt (pc := 1) (tgt := 9) dJ8_checkIndex_1 (by decide) (fun h1 => ?_) (fun h1 => ?_)
  · skip
    exact absurd h1 (fun q => nI_in' hi (by omega) (Or.inl q))
  · skip
    refine r_ild0 (pc := 4) dJ8_checkIndex_4 ?_
    refine r_ild1 (pc := 5) dJ8_checkIndex_5 ?_
    first | refine r_icmp_ltN (pc := 6) (tgt := 16) dJ8_checkIndex_6 (by decide) (by omega) (by omega) (fun h6 => ?_) (fun h6 => ?_) | refine r_icmp_lt (pc := 6) (tgt := 16) dJ8_checkIndex_6 (by decide) (fun h6 => ?_) (fun h6 => ?_)
    · skip
      refine r_ild0 (pc := 16) dJ8_checkIndex_16 ?_
      refine r_iret (pc := 17) dJ8_checkIndex_17 ?_
      exact ⟨rfl, rfl⟩
    · skip
      exact absurd hi h6
theorem ct_J11_checkIndex {i n : Nat} (hi : i < n) (hn : n < 1000000) : Ct g yJ11_checkIndex cJ11_checkIndex 2 (some Jvm.ClassFile.FieldType.int) 4 0 0 [.int (nI i), .int (nI n)] M (PQ M (.int (nI i))) noX := by
  refine Ct.of (by decide) (Nat.le_of_ble_eq_true rfl) rfl ?_
  refine r_ild0 (pc := 0) dJ11_checkIndex_0 ?_
  refine r_ild1 (pc := 1) dJ11_checkIndex_1 ?_
  refine r_null (pc := 2) dJ11_checkIndex_2 ?_
  refine r_cS (pc := 3) dJ11_checkIndex_3 cs_J11_105 (ct_J8_checkIndex hi hn) rfl rfl (Nat.le_of_ble_eq_true rfl) (by decide) ?_
  rintro _ _ ⟨rfl, rfl⟩
  refine r_iret (pc := 6) dJ11_checkIndex_6 ?_
  exact ⟨rfl, rfl⟩
theorem ct_J2_elementData {a v n i b : Nat} (h : LsX M a v n) (hi : i < n) (hb : mR M v i = some b) : Ct g yJ2_elementData cJ2_elementData 2 (some ((Jvm.ClassFile.FieldType.object "java/lang/Object"))) 0 0 0 [.ref a, .int (nI i)] M (PQ M (.ref b)) noX := by
  obtain ⟨h1, h2, h3, h4, h5, h6⟩ := h
  refine Ct.of (by decide) (Nat.le_of_ble_eq_true rfl) rfl ?_
  refine r_ald0 (pc := 0) dJ2_elementData_0 ?_
  refine r_getR (pc := 1) dJ2_elementData_1 fl_J2_9 h1 h2 ?_
  refine r_ild1 (pc := 4) dJ2_elementData_4 ?_
  refine r_aaldR (pc := 5) dJ2_elementData_5 h4 (by decide) (by omega) (by omega) hb ?_
  refine r_aretR (pc := 6) dJ2_elementData_6 ?_
  exact ⟨rfl, rfl⟩
theorem ct_J2_get {a v n i b : Nat} (h : LsX M a v n) (hi : i < n) (hb : mR M v i = some b) : Ct g yJ2_get cJ2_get 2 (some ((Jvm.ClassFile.FieldType.object "java/lang/Object"))) 5 0 0 [.ref a, .int (nI i)] M (PQ M (.ref b)) noX := by
  have hh := h
  obtain ⟨h1, h2, h3, h4, h5, h6⟩ := h
  refine Ct.of (by decide) (Nat.le_of_ble_eq_true rfl) rfl ?_
  refine r_ild1 (pc := 0) dJ2_get_0 ?_
  refine r_ald0 (pc := 1) dJ2_get_1 ?_
  refine r_getI (pc := 2) dJ2_get_2 fl_J2_48 h1 ?_
  rw [h3]
  refine r_cS (pc := 5) dJ2_get_5 cs_J2_118 (ct_J11_checkIndex hi (by omega)) rfl rfl (Nat.le_of_ble_eq_true rfl) (by decide) ?_
  rintro _ _ ⟨rfl, rfl⟩
  refine r_pop (pc := 8) dJ2_get_8 rfl ?_
  refine r_ald0 (pc := 9) dJ2_get_9 ?_
  refine r_ild1 (pc := 10) dJ2_get_10 ?_
  refine r_cV (pc := 11) dJ2_get_11 cv_J2_123 h1 (ct_J2_elementData hh hi hb) rfl rfl (Nat.le_of_ble_eq_true rfl) (by decide) ?_
  rintro _ _ ⟨rfl, rfl⟩
  refine r_aretR (pc := 14) dJ2_get_14 ?_
  exact ⟨rfl, rfl⟩
end X7
