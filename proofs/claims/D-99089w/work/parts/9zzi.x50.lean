set_option maxRecDepth 100000
/-! THE READER: a word (3) -/
section X50
variable {g : GC} {M : MM} {o n : Nat} {f : Nat → Nat}
theorem ct_X2_word_2 {a : Nat} (h : RDF g M o n f) (hc : CMPS g) (ha : a ≤ n) (hA : mI M (o + 5) 2 = nI a) : Ct g yX2_word_2 cX2_word_2 3 (some ((Jvm.ClassFile.FieldType.object "java/lang/String"))) 11 (3) (2 * (lts f (n - skip f n a) (skip f n a)).length + 4) [.ref (o + 5)] M (fun v M' => ∃ w z, word f n (skip f n a) = some w ∧ v = some (.ref z) ∧ WD M o (skip f n a) w z M') (fun q M' => word f n (skip f n a) = none ∧ XE M o 1 (skip f n a) q M') := by
  have hg := h.1
  have hgb := h.2.1
  have hoz := h.2.2.2.2.2.2.2.2.2
  have r7 := h.2.2.2.2.2.2.2.1.1
  have hsl := skip_le (f := f) ha
  have hct := ct_X2_here h ha hA
  generalize skip f n a = p at *
  by_cases e0 : p < n
  · have hfa := h.2.2.2.2.2.2.1.1 p
    rw [show bI f n p = nI (f p) from if_pos e0] at hct
    refine Ct.of (by decide) (Nat.le_of_ble_eq_true rfl) rfl ?_
    refine r_ald0 (pc := 0) dX2_word_2_0 ?_
    refine r_cV (ci := 2) (pc := 1) dX2_word_2_1 cv_X2_43 r7 hct rfl rfl (Nat.le_of_ble_eq_true rfl) (by decide) ?_
    rintro _ M1 ⟨rfl, k1, k2, k3⟩
    have hR := h.fr k1
    have r7' := hR.2.2.2.2.2.2.2.1.1
    have r11 := hR.2.2.2.2.2.2.2.2.1
    refine r_cSN (pc := 4) dX2_word_2_4 (csn_X2_51 hg) (ct_X0_isLetter hfa) rfl rfl (Nat.le_of_ble_eq_true rfl) (by decide) ?_
    rintro _ M8 ⟨rfl, e8⟩
    rw [e8]
    first | refine r_if_neZ (pc := 7) (tgt := 20) dX2_word_2_7 (by decide) (fun h7 => ?_) (fun h7 => ?_) | refine r_if_neN (pc := 7) (tgt := 20) dX2_word_2_7 (by decide) (by omega) (fun h7 => ?_) (fun h7 => ?_) | refine r_if_ne (pc := 7) (tgt := 20) dX2_word_2_7 (by decide) (fun h7 => ?_) (fun h7 => ?_)
    · skip
      refine r_ald0 (pc := 20) dX2_word_2_20 ?_
      refine r_cVx (ci := 2) (pc := 21) (kc' := 3) (ks' := 2 * (lts f (n - p) p).length + 4) dX2_word_2_21 cv_X2_58 r7' (ct_X2_parted hR (by omega) k2) rfl rfl (Nat.le_of_ble_eq_true rfl) (by decide) (by omega) (by omega) (fun q M' hx => ⟨by unfold word; rw [if_neg (fun z => by rw [hx.1] at z; exact absurd z.2.2 (by decide))], XE.pre k1 hx.2⟩) ?_
      rintro _ M7 ⟨rfl, e6, e7⟩
      rw [e7]
      refine r_ald0 (pc := 24) dX2_word_2_24 ?_
      refine r_ald0 (pc := 25) dX2_word_2_25 ?_
      refine r_getI' (pc := 26) dX2_word_2_26 fl_X2_36 r7' k2 ?_
      refine r_putI (pc := 29) (ty := .int) dX2_word_2_29 fl_X2_61 ⟨rfl, rfl⟩ rfl rfl r7' (by omega) ?_
      refine Bd.post (fun v M' q => ?_) (fun _ _ q => q) (bd_word (M := M) (p := p) (hR.at (j := 3) (v := nI p) (by decide)) hc (k1.trans (RFr.at (by decide) (by decide))) ((mI_sIj (by decide)).trans k3) hoz e0 h7 ((mI_sIj (by decide)).trans k2) (mI_sIs _ _ _ _))
      obtain ⟨z, q1, q2⟩ := q
      exact ⟨_, z, by unfold word; rw [if_pos ⟨e0, h7, e6⟩], q1, q2⟩
    · skip
      refine r_ald0 (pc := 10) dX2_word_2_10 ?_
      refine r_iconst (v := nI 1) (pc := 11) dX2_word_2_11 (by decide) ?_
      refine r_ald0 (pc := 12) dX2_word_2_12 ?_
      refine r_getI' (pc := 13) dX2_word_2_13 fl_X2_36 r7' k2 ?_
      refine r_cV (ci := 2) (pc := 16) dX2_word_2_16 cv_X2_47 r7' (ct_X2_wrong (k := 1) hR) rfl rfl (Nat.le_of_ble_eq_true rfl) (by decide) ?_
      rintro _ M2 ⟨rfl, e2⟩
      rw [e2]
      refine r_athrow (pc := 19) dX2_word_2_19 r11 ⟨by unfold word; rw [if_neg (fun q => h7 q.2.1)], XE.fl k1⟩
  · rw [show bI f n p = iI (-1) from if_neg e0] at hct
    refine Ct.of (by decide) (Nat.le_of_ble_eq_true rfl) rfl ?_
    refine r_ald0 (pc := 0) dX2_word_2_0 ?_
    refine r_cV (ci := 2) (pc := 1) dX2_word_2_1 cv_X2_43 r7 hct rfl rfl (Nat.le_of_ble_eq_true rfl) (by decide) ?_
    rintro _ M1 ⟨rfl, k1, k2, k3⟩
    have hR := h.fr k1
    have r7' := hR.2.2.2.2.2.2.2.1.1
    have r11 := hR.2.2.2.2.2.2.2.2.1
    refine r_cSN (pc := 4) dX2_word_2_4 (csn_X2_51 hg) ct_X0_isLetter_neg rfl rfl (Nat.le_of_ble_eq_true rfl) (by decide) ?_
    rintro _ M8 ⟨rfl, e8⟩
    rw [e8]
    first | refine r_if_neZ (pc := 7) (tgt := 20) dX2_word_2_7 (by decide) (fun h7 => ?_) (fun h7 => ?_) | refine r_if_neN (pc := 7) (tgt := 20) dX2_word_2_7 (by decide) (by omega) (fun h7 => ?_) (fun h7 => ?_) | refine r_if_ne (pc := 7) (tgt := 20) dX2_word_2_7 (by decide) (fun h7 => ?_) (fun h7 => ?_)
    · skip
      exact absurd rfl h7
    · skip
      refine r_ald0 (pc := 10) dX2_word_2_10 ?_
      refine r_iconst (v := nI 1) (pc := 11) dX2_word_2_11 (by decide) ?_
      refine r_ald0 (pc := 12) dX2_word_2_12 ?_
      refine r_getI' (pc := 13) dX2_word_2_13 fl_X2_36 r7' k2 ?_
      refine r_cV (ci := 2) (pc := 16) dX2_word_2_16 cv_X2_47 r7' (ct_X2_wrong (k := 1) hR) rfl rfl (Nat.le_of_ble_eq_true rfl) (by decide) ?_
      rintro _ M2 ⟨rfl, e2⟩
      rw [e2]
      refine r_athrow (pc := 19) dX2_word_2_19 r11 ⟨by unfold word; rw [if_neg (fun q => e0 q.1)], XE.fl k1⟩
end X50
