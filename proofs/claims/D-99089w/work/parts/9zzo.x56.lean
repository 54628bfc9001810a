set_option maxRecDepth 100000
/-! THE READER: a word and a number -/
theorem NQ.pre {M M1 M2 : MM} {o b p : Nat} {r : Pz (Nat × Nat)} {v : Option Value} (h : RO M o b M1) (h' : NQ M1 o p r v M2) : NQ M o p r v M2 := by
  obtain ⟨x, e, h1, h2, h3, h4⟩ := h'
  exact ⟨x, e, h1, h2, h.trans h3, h4⟩
theorem NX.pre {M M1 M2 : MM} {o q : Nat} {r : Pz (Nat × Nat)} (h : RFr o M M1) (h' : NX M1 o r q M2) : NX M o r q M2 := by
  obtain ⟨k, l, h1, h2⟩ := h'
  exact ⟨k, l, h1, XE.pre h h2⟩
theorem kwP_le {f : Nat → Nat} {n a b : Nat} {w : List Nat} (h : kwP f n w a = .ok b) : b ≤ n := by
  unfold kwP at h
  by_cases e : word f n (skip f n a) = some w
  · rw [if_pos e] at h
    obtain ⟨h1, -, -, h2⟩ := word_some e
    have h3 := lts_le f (n - skip f n a) (skip f n a)
    rw [h2] at h3
    cases h
    omega
  · rw [if_neg e] at h; cases h
section X56
variable {g : GC} {M : MM} {o n : Nat} {f : Nat → Nat}
theorem ct_X2_number_2 {a lo hi z0 : Nat} {w0 : List Nat} (h : RDF g M o n f) (hc : CMPS g) (hs : SKP M o z0 w0) (ha : a ≤ n) (hA : mI M (o + 5) 2 = nI a) (hl : lo < 100000) (hh : hi < 100000) : Ct g yX2_number_2 cX2_number_2 4 (some Jvm.ClassFile.FieldType.int) 13 (3) (2 * (lts f (n - skip f n a) (skip f n a)).length + 4) [.ref (o + 5), .ref z0, .int (nI lo), .int (nI hi)] M (fun v M' => ∃ b, kwP f n w0 a = .ok b ∧ NQ M o (skip f n b) (numP f n lo hi (skip f n b)) v M') (fun q M' => (kwP f n w0 a = .error (1, skip f n a) ∧ XE M o 1 (skip f n a) q M') ∨ ∃ b, kwP f n w0 a = .ok b ∧ NX M o (numP f n lo hi (skip f n b)) q M') := by
  have r7 := h.2.2.2.2.2.2.2.1.1
  refine Ct.of (by decide) (Nat.le_of_ble_eq_true rfl) rfl ?_
  refine r_ald0 (pc := 0) dX2_number_2_0 ?_
  refine r_ald1 (pc := 1) dX2_number_2_1 ?_
  refine r_cVx (ci := 2) (pc := 2) (kc' := 0) (ks' := 0) dX2_number_2_2 cv_X2_93 r7 (ct_X2_word h hc hs ha hA) rfl rfl (Nat.le_of_ble_eq_true rfl) (by decide) (by omega) (by omega) (fun q M' hx => Or.inl hx) ?_
  rintro _ M1 ⟨rfl, b, hb, k1, k2, k3⟩
  have hR := h.fr k1
  have r7' := hR.2.2.2.2.2.2.2.1.1
  refine r_ald0 (pc := 5) dX2_number_2_5 ?_
  refine r_ild2 (pc := 6) dX2_number_2_6 ?_
  refine r_ild3 (pc := 7) dX2_number_2_7 ?_
  refine r_cVx (ci := 2) (pc := 8) (kc' := 0) (ks' := 0) dX2_number_2_8 cv_X2_96 r7' (ct_X2_number hR (kwP_le hb) k2 hl hh) rfl rfl (Nat.le_of_ble_eq_true rfl) (by decide) (by omega) (by omega) (fun q M' hx => Or.inr ⟨b, hb, NX.pre k1 hx⟩) ?_
  rintro _ M2 ⟨x, e, h1, rfl, h3, h4⟩
  refine r_iret (pc := 11) dX2_number_2_11 ?_
  exact ⟨b, hb, x, e, h1, rfl, RO.trans ⟨k1, k2, k3⟩ h3, h4⟩
end X56
