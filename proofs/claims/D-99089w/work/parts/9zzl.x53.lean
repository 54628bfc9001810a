set_option maxRecDepth 100000
/-! THE READER: a number -/
section X53
variable {g : GC} {M : MM} {o n : Nat} {f : Nat → Nat}
theorem ct_X0_isN {a lo hi : Nat} (ha : a < 1000000) (hl : lo < 1000000) (hh : hi < 1000000) : Ct g yX0_is cX0_is 3 (some Jvm.ClassFile.FieldType.boolean) 0 0 0 [.int (nI a), .int (nI lo), .int (nI hi)] M (PQ M (.int (zI (lo ≤ a ∧ a ≤ hi)))) noX := by
  refine Ct.of (by decide) (Nat.le_of_ble_eq_true rfl) rfl ?_
  refine r_ild0 (pc := 0) dX0_is_0 ?_
  refine r_ild1 (pc := 1) dX0_is_1 ?_
  first | refine r_icmp_ltN (pc := 2) (tgt := 14) dX0_is_2 (by decide) (by omega) (by omega) (fun h2 => ?_) (fun h2 => ?_) | refine r_icmp_lt (pc := 2) (tgt := 14) dX0_is_2 (by decide) (fun h2 => ?_) (fun h2 => ?_)
  · skip
    refine r_iconst (v := nI 0) (pc := 14) dX0_is_14 (by decide) ?_
    refine r_zret (pc := 15) dX0_is_15 (by first | rfl | exact zI_nar | assumption) ?_
    exact ⟨by first | rw [zI_t (by omega)]; rfl | rw [zI_f (by omega)]; rfl, rfl⟩
  · skip
    refine r_ild0 (pc := 5) dX0_is_5 ?_
    refine r_ild2 (pc := 6) dX0_is_6 ?_
    first | refine r_icmp_gtN (pc := 7) (tgt := 14) dX0_is_7 (by decide) (by omega) (by omega) (fun h7 => ?_) (fun h7 => ?_) | refine r_icmp_gt (pc := 7) (tgt := 14) dX0_is_7 (by decide) (fun h7 => ?_) (fun h7 => ?_)
    · skip
      refine r_iconst (v := nI 0) (pc := 14) dX0_is_14 (by decide) ?_
      refine r_zret (pc := 15) dX0_is_15 (by first | rfl | exact zI_nar | assumption) ?_
      exact ⟨by first | rw [zI_t (by omega)]; rfl | rw [zI_f (by omega)]; rfl, rfl⟩
    · skip
      refine r_iconst (v := nI 1) (pc := 10) dX0_is_10 (by decide) ?_
      refine r_goto (pc := 11) (tgt := 15) dX0_is_11 (by decide) ?_
      refine r_zret (pc := 15) dX0_is_15 (by first | rfl | exact zI_nar | assumption) ?_
      exact ⟨by first | rw [zI_t (by omega)]; rfl | rw [zI_f (by omega)]; rfl, rfl⟩
/-- what number answers -/
def NQ (M : MM) (o p : Nat) (r : Pz (Nat × Nat)) (v : Option Value) (M' : MM) : Prop := ∃ x e, r = .ok (x, e) ∧ v = some (.int (nI x)) ∧ RO M o e M' ∧ mI M' (o + 5) 3 = nI p
def NX (M : MM) (o : Nat) (r : Pz (Nat × Nat)) (q : Nat) (M' : MM) : Prop := ∃ k l, r = .error (k, l) ∧ XE M o k l q M'
theorem numTail {p b v lo hi : Nat} {M2 : MM} (h : RDF g M2 o n f) (hr : RFr o M M2) (h4 : mI M2 (o + 5) 4 = mI M (o + 5) 4) (hA : mI M2 (o + 5) 2 = nI b) (hF : mI M2 (o + 5) 3 = nI p) (hv : v < 100000) (hl : lo < 100000) (hh : hi < 100000) : Bd g yX2_number cX2_number 4 (some Jvm.ClassFile.FieldType.int) [] 2 0 0 M2 101 [some (.ref (o + 5)), some (.int (nI lo)), some (.int (nI hi)), some (.int (nI v))] [] (NQ M o p (numR lo hi p (.ok (v, b)))) (NX M o (numR lo hi p (.ok (v, b)))) := by
  have hg := h.1
  have r7 := h.2.2.2.2.2.2.2.1.1
  have r11 := h.2.2.2.2.2.2.2.2.1
  refine r_ild3 (pc := 101) dX2_number_101 ?_
  refine r_ild1 (pc := 102) dX2_number_102 ?_
  refine r_ild2 (pc := 103) dX2_number_103 ?_
  refine r_cSN (pc := 104) dX2_number_104 (csn_X2_89 hg) (ct_X0_isN (by omega) (by omega) (by omega)) rfl rfl (Nat.le_of_ble_eq_true rfl) (by decide) ?_
  rintro _ M8 ⟨rfl, e8⟩
  rw [e8]
  first | refine r_if_neZ (pc := 107) (tgt := 120) dX2_number_107 (by decide) (fun h107 => ?_) (fun h107 => ?_) | refine r_if_neN (pc := 107) (tgt := 120) dX2_number_107 (by decide) (by omega) (fun h107 => ?_) (fun h107 => ?_) | refine r_if_ne (pc := 107) (tgt := 120) dX2_number_107 (by decide) (fun h107 => ?_) (fun h107 => ?_)
  · skip
    refine r_ild3 (pc := 120) dX2_number_120 ?_
    refine r_iret (pc := 121) dX2_number_121 ?_
    exact ⟨v, b, if_pos h107, rfl, ⟨hr, hA, h4⟩, hF⟩
  · skip
    refine r_ald0 (pc := 110) dX2_number_110 ?_
    refine r_iconst (v := nI 2) (pc := 111) dX2_number_111 (by decide) ?_
    refine r_ald0 (pc := 112) dX2_number_112 ?_
    refine r_getI' (pc := 113) dX2_number_113 fl_X2_61 r7 hF ?_
    refine r_cV (ci := 2) (pc := 116) dX2_number_116 cv_X2_47 r7 (ct_X2_wrong (k := 2) h) rfl rfl (Nat.le_of_ble_eq_true rfl) (by decide) ?_
    rintro _ M9 ⟨rfl, e9⟩
    rw [e9]
    refine r_athrow (pc := 119) dX2_number_119 r11 ⟨2, p, if_neg h107, XE.fl hr⟩
end X53
