set_option maxRecDepth 100000
/-! THE READER: does a given word pass -/
section X52
variable {g : GC} {M : MM} {o n : Nat} {f : Nat → Nat}
theorem ct_X2_passes {a z0 : Nat} {w0 : List Nat} (h : RDF g M o n f) (hc : CMPS g) (hs : SKP M o z0 w0) (ha : a ≤ n) (hA : mI M (o + 5) 2 = nI a) : Ct g yX2_passes cX2_passes 3 (some Jvm.ClassFile.FieldType.boolean) 12 (3) (2 * (lts f (n - skip f n a) (skip f n a)).length + 4) [.ref (o + 5), .ref z0] M (fun v M' => (∃ b, psW f n w0 a = .ok (some b) ∧ v = some (.int (nI 1)) ∧ RO M o b M' ∧ mI M' (o + 5) 3 = nI (skip f n a)) ∨ (psW f n w0 a = .ok none ∧ v = some (.int (nI 0)) ∧ ∃ b, RO M o b M' ∧ b ≤ n ∧ skip f n b = skip f n a ∧ a ≤ b)) (fun q M' => psW f n w0 a = .error (1, skip f n a) ∧ XE M o 1 (skip f n a) q M') := by
  have hg := h.1
  have hgb := h.2.1
  have r7 := h.2.2.2.2.2.2.2.1.1
  have hsl := skip_le (f := f) ha
  have hct := ct_X2_here h ha hA
  by_cases e0 : skip f n a < n
  · have hfa := h.2.2.2.2.2.2.1.1 (skip f n a)
    have elk : lookO f n a = some (f (skip f n a)) := if_pos e0
    rw [show bI f n (skip f n a) = nI (f (skip f n a)) from if_pos e0] at hct
    refine Ct.of (by decide) (Nat.le_of_ble_eq_true rfl) rfl ?_
    refine r_ald0 (pc := 0) dX2_passes_0 ?_
    refine r_getI' (pc := 1) dX2_passes_1 fl_X2_36 r7 hA ?_
    refine r_ist2 (pc := 4) dX2_passes_4 ?_
    refine r_ald0 (pc := 5) dX2_passes_5 ?_
    refine r_cV (ci := 2) (pc := 6) dX2_passes_6 cv_X2_43 r7 hct rfl rfl (Nat.le_of_ble_eq_true rfl) (by decide) ?_
    rintro _ M1 ⟨rfl, k1, k2, k3⟩
    have hR := h.fr k1
    have r7' := hR.2.2.2.2.2.2.2.1.1
    refine r_cSN (pc := 9) dX2_passes_9 (csn_X2_51 hg) (ct_X0_isLetter hfa) rfl rfl (Nat.le_of_ble_eq_true rfl) (by decide) ?_
    rintro _ M8 ⟨rfl, e8⟩
    rw [e8]
    first | refine r_if_neZ (pc := 12) (tgt := 17) dX2_passes_12 (by decide) (fun h12 => ?_) (fun h12 => ?_) | refine r_if_neN (pc := 12) (tgt := 17) dX2_passes_12 (by decide) (by omega) (fun h12 => ?_) (fun h12 => ?_) | refine r_if_ne (pc := 12) (tgt := 17) dX2_passes_12 (by decide) (fun h12 => ?_) (fun h12 => ?_)
    · skip
      refine r_ald0 (pc := 17) dX2_passes_17 ?_
      have hw2 := ct_X2_word_2 hR hc hsl k2
      rw [skip_idem] at hw2
      refine r_cVx (ci := 2) (pc := 18) (kc' := 0) (ks' := 0) dX2_passes_18 cv_X2_70 r7' hw2 rfl rfl (Nat.le_of_ble_eq_true rfl) (by decide) (by omega) (by omega) (fun q M' hx => ⟨?_, XE.pre k1 hx.2⟩) ?_
      · unfold psW
        rw [elk, show ltrO (some (f (skip f n a))) = ltr (f (skip f n a)) from rfl, if_pos h12, if_pos]
        have h9 := hx.1
        unfold word at h9
        by_cases ep : ptd f (skip f n a) = true
        · exact ep
        · rw [if_pos ⟨e0, h12, by simpa using ep⟩] at h9; cases h9
      rintro _ M2 ⟨w, z, hw, rfl, q1, q2, q3, q4, q5, q6⟩
      have hR2 := hR.fr q5.1
      have r72 := hR2.2.2.2.2.2.2.2.1.1
      have hpt := (word_some hw).2.2.1
      refine r_ald1 (pc := 21) dX2_passes_21 ?_
      refine r_cV (ci := 22) (pc := 22) dX2_passes_22 cv_X2_74 q2.k (ct_J6_equals hc q2 ((hs.fr k1).fr q5.1)) rfl rfl (Nat.le_of_ble_eq_true rfl) (by decide) ?_
      rintro _ M7 ⟨rfl, e7⟩
      rw [e7]
      first | refine r_if_eqZ (pc := 25) (tgt := 30) dX2_passes_25 (by decide) (fun h25 => ?_) (fun h25 => ?_) | refine r_if_eqN (pc := 25) (tgt := 30) dX2_passes_25 (by decide) (by omega) (fun h25 => ?_) (fun h25 => ?_) | refine r_if_eq (pc := 25) (tgt := 30) dX2_passes_25 (by decide) (fun h25 => ?_) (fun h25 => ?_)
      · skip
        refine r_ald0 (pc := 30) dX2_passes_30 ?_
        refine r_ild2 (pc := 31) dX2_passes_31 ?_
        refine r_putI (pc := 32) (ty := .int) dX2_passes_32 fl_X2_36 ⟨rfl, rfl⟩ rfl rfl r72 (by omega) ?_
        refine r_iconst (v := nI 0) (pc := 35) dX2_passes_35 (by decide) ?_
        refine r_zret (pc := 36) dX2_passes_36 (by first | rfl | exact zI_nar | assumption) ?_
        exact Or.inr ⟨by unfold psW; rw [elk, show ltrO (some (f (skip f n a))) = ltr (f (skip f n a)) from rfl, if_pos h12, if_neg (by rw [hpt]; decide), hw, if_neg (fun q => h25 (Option.some.inj q))], rfl, a, ⟨(k1.trans q5.1).trans (RFr.at (Nat.le_refl 2) (by decide)), mI_sIs _ _ _ _, (mI_sIj (by decide)).trans (q5.2.2.trans k3)⟩, ha, rfl, Nat.le_refl a⟩
      · skip
        refine r_iconst (v := nI 1) (pc := 28) dX2_passes_28 (by decide) ?_
        refine r_zret (pc := 29) dX2_passes_29 (by first | rfl | exact zI_nar | assumption) ?_
        exact Or.inl ⟨skip f n a + w0.length, by unfold psW; rw [elk, show ltrO (some (f (skip f n a))) = ltr (f (skip f n a)) from rfl, if_pos h12, if_neg (by rw [hpt]; decide), hw, h25, if_pos rfl], rfl, by rw [← h25]; exact RO.trans ⟨k1, k2, k3⟩ q5, q6⟩
    · skip
      refine r_iconst (v := nI 0) (pc := 15) dX2_passes_15 (by decide) ?_
      refine r_zret (pc := 16) dX2_passes_16 (by first | rfl | exact zI_nar | assumption) ?_
      exact Or.inr ⟨by unfold psW; rw [elk, show ltrO (some (f (skip f n a))) = ltr (f (skip f n a)) from rfl, if_neg h12], rfl, skip f n a, ⟨k1, k2, k3⟩, hsl, skip_idem f n a, skip_ge f n a⟩
  · have elk : lookO f n a = none := if_neg e0
    rw [show bI f n (skip f n a) = iI (-1) from if_neg e0] at hct
    refine Ct.of (by decide) (Nat.le_of_ble_eq_true rfl) rfl ?_
    refine r_ald0 (pc := 0) dX2_passes_0 ?_
    refine r_getI' (pc := 1) dX2_passes_1 fl_X2_36 r7 hA ?_
    refine r_ist2 (pc := 4) dX2_passes_4 ?_
    refine r_ald0 (pc := 5) dX2_passes_5 ?_
    refine r_cV (ci := 2) (pc := 6) dX2_passes_6 cv_X2_43 r7 hct rfl rfl (Nat.le_of_ble_eq_true rfl) (by decide) ?_
    rintro _ M1 ⟨rfl, k1, k2, k3⟩
    refine r_cSN (pc := 9) dX2_passes_9 (csn_X2_51 hg) ct_X0_isLetter_neg rfl rfl (Nat.le_of_ble_eq_true rfl) (by decide) ?_
    rintro _ M8 ⟨rfl, e8⟩
    rw [e8]
    first | refine r_if_neZ (pc := 12) (tgt := 17) dX2_passes_12 (by decide) (fun h12 => ?_) (fun h12 => ?_) | refine r_if_neN (pc := 12) (tgt := 17) dX2_passes_12 (by decide) (by omega) (fun h12 => ?_) (fun h12 => ?_) | refine r_if_ne (pc := 12) (tgt := 17) dX2_passes_12 (by decide) (fun h12 => ?_) (fun h12 => ?_)
    · skip
      exact absurd rfl h12
    · skip
      refine r_iconst (v := nI 0) (pc := 15) dX2_passes_15 (by decide) ?_
      refine r_zret (pc := 16) dX2_passes_16 (by first | rfl | exact zI_nar | assumption) ?_
      exact Or.inr ⟨by unfold psW; rw [elk, if_neg (by decide)], rfl, skip f n a, ⟨k1, k2, k3⟩, hsl, skip_idem f n a, skip_ge f n a⟩
end X52
