set_option maxRecDepth 100000
/-! THE READER: a number (3) -/
section X55
variable {g : GC} {M : MM} {o n : Nat} {f : Nat → Nat}
theorem ct_X2_number {a lo hi : Nat} (h : RDF g M o n f) (ha : a ≤ n) (hA : mI M (o + 5) 2 = nI a) (hl : lo < 100000) (hh : hi < 100000) : Ct g yX2_number cX2_number 4 (some Jvm.ClassFile.FieldType.int) 2 0 0 [.ref (o + 5), .int (nI lo), .int (nI hi)] M (NQ M o (skip f n a) (numP f n lo hi (skip f n a))) (NX M o (numP f n lo hi (skip f n a))) := by
  have hg := h.1
  have hgb := h.2.1
  have r7 := h.2.2.2.2.2.2.2.1.1
  have hsl := skip_le (f := f) ha
  have hct := ct_X2_here h ha hA
  generalize skip f n a = p at *
  by_cases e0 : p < n
  · have hfa := h.2.2.2.2.2.2.1.1 p
    rw [show bI f n p = nI (f p) from if_pos e0] at hct
    refine Ct.of (by decide) (Nat.le_of_ble_eq_true rfl) rfl ?_
    refine r_ald0 (pc := 0) dX2_number_0 ?_
    refine r_cV (ci := 2) (pc := 1) dX2_number_1 cv_X2_43 r7 hct rfl rfl (Nat.le_of_ble_eq_true rfl) (by decide) ?_
    rintro _ M1 ⟨rfl, k1, k2, k3⟩
    have hR := h.fr k1
    have r7' := hR.2.2.2.2.2.2.2.1.1
    have r11 := hR.2.2.2.2.2.2.2.2.1
    refine r_cSN (pc := 4) dX2_number_4 (csn_X2_55 hg) (ct_X0_isDigit hfa) rfl rfl (Nat.le_of_ble_eq_true rfl) (by decide) ?_
    rintro _ M8 ⟨rfl, e8⟩
    rw [e8]
    first | refine r_if_neZ (pc := 7) (tgt := 20) dX2_number_7 (by decide) (fun h7 => ?_) (fun h7 => ?_) | refine r_if_neN (pc := 7) (tgt := 20) dX2_number_7 (by decide) (by omega) (fun h7 => ?_) (fun h7 => ?_) | refine r_if_ne (pc := 7) (tgt := 20) dX2_number_7 (by decide) (fun h7 => ?_) (fun h7 => ?_)
    · skip
      refine r_ald0 (pc := 20) dX2_number_20 ?_
      refine r_cVx (ci := 2) (pc := 21) (kc' := 0) (ks' := 0) dX2_number_21 cv_X2_58 r7' (ct_X2_parted hR (by omega) k2) rfl rfl (Nat.le_of_ble_eq_true rfl) (by decide) (by omega) (by omega) (fun q M' hx => ⟨1, p, by unfold numP; rw [if_neg (fun z => by rw [hx.1] at z; exact absurd z.2.2 (by decide))], XE.pre k1 hx.2⟩) ?_
      rintro _ M7 ⟨rfl, e6, e7⟩
      rw [e7]
      refine r_ald0 (pc := 24) dX2_number_24 ?_
      refine r_ald0 (pc := 25) dX2_number_25 ?_
      refine r_getI' (pc := 26) dX2_number_26 fl_X2_36 r7' k2 ?_
      refine r_putI (pc := 29) (ty := .int) dX2_number_29 fl_X2_61 ⟨rfl, rfl⟩ rfl rfl r7' (by omega) ?_
      refine r_iconst (v := nI 0) (pc := 32) dX2_number_32 (by decide) ?_
      refine r_ist3 (pc := 33) dX2_number_33 ?_
      have h9 := lp_num (M := M) (p := p) (lo := lo) (hi := hi) (hR.at (j := 3) (v := nI p) (by decide)) (k1.trans (RFr.at (by decide) (by decide))) ((mI_sIj (by decide)).trans k3) (mI_sIs _ _ _ _) hl hh (n - p) p 0 0 (by omega) (by omega) (by decide) (by decide)
      rw [show atM (sI M1 (o + 5) 3 (nI p)) o p = sI M1 (o + 5) 3 (nI p) from sI_self ((mI_sIj (by decide)).trans k2)] at h9
      unfold numP
      rw [if_pos ⟨e0, h7, e6⟩]
      exact h9
    · skip
      refine r_ald0 (pc := 10) dX2_number_10 ?_
      refine r_iconst (v := nI 1) (pc := 11) dX2_number_11 (by decide) ?_
      refine r_ald0 (pc := 12) dX2_number_12 ?_
      refine r_getI' (pc := 13) dX2_number_13 fl_X2_36 r7' k2 ?_
      refine r_cV (ci := 2) (pc := 16) dX2_number_16 cv_X2_47 r7' (ct_X2_wrong (k := 1) hR) rfl rfl (Nat.le_of_ble_eq_true rfl) (by decide) ?_
      rintro _ M2 ⟨rfl, e2⟩
      rw [e2]
      refine r_athrow (pc := 19) dX2_number_19 r11 ⟨1, p, by unfold numP; rw [if_neg (fun q => h7 q.2.1)], XE.fl k1⟩
  · rw [show bI f n p = iI (-1) from if_neg e0] at hct
    refine Ct.of (by decide) (Nat.le_of_ble_eq_true rfl) rfl ?_
    refine r_ald0 (pc := 0) dX2_number_0 ?_
    refine r_cV (ci := 2) (pc := 1) dX2_number_1 cv_X2_43 r7 hct rfl rfl (Nat.le_of_ble_eq_true rfl) (by decide) ?_
    rintro _ M1 ⟨rfl, k1, k2, k3⟩
    have hR := h.fr k1
    have r7' := hR.2.2.2.2.2.2.2.1.1
    have r11 := hR.2.2.2.2.2.2.2.2.1
    refine r_cSN (pc := 4) dX2_number_4 (csn_X2_55 hg) ct_X0_isDigit_neg rfl rfl (Nat.le_of_ble_eq_true rfl) (by decide) ?_
    rintro _ M8 ⟨rfl, e8⟩
    rw [e8]
    first | refine r_if_neZ (pc := 7) (tgt := 20) dX2_number_7 (by decide) (fun h7 => ?_) (fun h7 => ?_) | refine r_if_neN (pc := 7) (tgt := 20) dX2_number_7 (by decide) (by omega) (fun h7 => ?_) (fun h7 => ?_) | refine r_if_ne (pc := 7) (tgt := 20) dX2_number_7 (by decide) (fun h7 => ?_) (fun h7 => ?_)
    · skip
      exact absurd rfl h7
    · skip
      refine r_ald0 (pc := 10) dX2_number_10 ?_
      refine r_iconst (v := nI 1) (pc := 11) dX2_number_11 (by decide) ?_
      refine r_ald0 (pc := 12) dX2_number_12 ?_
      refine r_getI' (pc := 13) dX2_number_13 fl_X2_36 r7' k2 ?_
      refine r_cV (ci := 2) (pc := 16) dX2_number_16 cv_X2_47 r7' (ct_X2_wrong (k := 1) hR) rfl rfl (Nat.le_of_ble_eq_true rfl) (by decide) ?_
      rintro _ M2 ⟨rfl, e2⟩
      rw [e2]
      refine r_athrow (pc := 19) dX2_number_19 r11 ⟨1, p, by unfold numP; rw [if_neg (fun q => e0 q.1)], XE.fl k1⟩
end X55
