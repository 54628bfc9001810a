set_option maxRecDepth 100000
/-! THE READER: a given word -/
/-- a text that stands while the reader reads -/
def SKP (M : MM) (o z : Nat) (w : List Nat) : Prop := STR M (fun c => c < mZ M ∧ c ≠ o + 5 ∧ c ≠ o + 6) z w
theorem SKP.fr {M M' : MM} {o z : Nat} {w : List Nat} (h : SKP M o z w) (hr : RFr o M M') : SKP M' o z w := STR.fr h (fun c hc => hr.1.2 c hc.1 (fun e => by omega)) (fun c hc => ⟨Nat.lt_of_lt_of_le hc.1 hr.1.1, hc.2⟩)
section X51
variable {g : GC} {M : MM} {o n : Nat} {f : Nat → Nat}
theorem ct_X2_word {a z0 : Nat} {w0 : List Nat} (h : RDF g M o n f) (hc : CMPS g) (hs : SKP M o z0 w0) (ha : a ≤ n) (hA : mI M (o + 5) 2 = nI a) : Ct g yX2_word cX2_word 2 none 12 (3) (2 * (lts f (n - skip f n a) (skip f n a)).length + 4) [.ref (o + 5), .ref z0] M (fun v M' => v = none ∧ ∃ b, kwP f n w0 a = .ok b ∧ RO M o b M') (fun q M' => kwP f n w0 a = .error (1, skip f n a) ∧ XE M o 1 (skip f n a) q M') := by
  have r7 := h.2.2.2.2.2.2.2.1.1
  refine Ct.of (by decide) (Nat.le_of_ble_eq_true rfl) rfl ?_
  refine r_ald0 (pc := 0) dX2_word_0 ?_
  refine r_cVx (ci := 2) (pc := 1) (kc' := 0) (ks' := 0) dX2_word_1 cv_X2_70 r7 (ct_X2_word_2 h hc ha hA) rfl rfl (Nat.le_of_ble_eq_true rfl) (by decide) (by omega) (by omega) (fun q M' hx => ⟨by unfold kwP; rw [hx.1, if_neg (by simp)], hx.2⟩) ?_
  rintro _ M1 ⟨w, z, hw, rfl, q1, q2, q3, q4, q5, q6⟩
  have hR := h.fr q5.1
  have r7' := hR.2.2.2.2.2.2.2.1.1
  have r11 := hR.2.2.2.2.2.2.2.2.1
  refine r_ald1 (pc := 4) dX2_word_4 ?_
  refine r_cV (ci := 22) (pc := 5) dX2_word_5 cv_X2_74 q2.k (ct_J6_equals hc q2 (hs.fr q5.1)) rfl rfl (Nat.le_of_ble_eq_true rfl) (by decide) ?_
  rintro _ M8 ⟨rfl, e8⟩
  rw [e8]
  first | refine r_if_neZ (pc := 8) (tgt := 21) dX2_word_8 (by decide) (fun h8 => ?_) (fun h8 => ?_) | refine r_if_neN (pc := 8) (tgt := 21) dX2_word_8 (by decide) (by omega) (fun h8 => ?_) (fun h8 => ?_) | refine r_if_ne (pc := 8) (tgt := 21) dX2_word_8 (by decide) (fun h8 => ?_) (fun h8 => ?_)
  · skip
    refine r_vret (pc := 21) dX2_word_21 ?_
    exact ⟨rfl, skip f n a + w0.length, by unfold kwP; rw [hw, h8, if_pos rfl], by rw [← h8]; exact q5⟩
  · skip
    refine r_ald0 (pc := 11) dX2_word_11 ?_
    refine r_iconst (v := nI 1) (pc := 12) dX2_word_12 (by decide) ?_
    refine r_ald0 (pc := 13) dX2_word_13 ?_
    refine r_getI' (pc := 14) dX2_word_14 fl_X2_61 r7' q6 ?_
    refine r_cV (ci := 2) (pc := 17) dX2_word_17 cv_X2_47 r7' (ct_X2_wrong (k := 1) hR) rfl rfl (Nat.le_of_ble_eq_true rfl) (by decide) ?_
    rintro _ M2 ⟨rfl, e2⟩
    rw [e2]
    refine r_athrow (pc := 20) dX2_word_20 r11 ⟨by unfold kwP; rw [hw, if_neg (fun q => h8 (Option.some.inj q))], XE.fl q5.1⟩
end X51
