set_option maxRecDepth 100000
/-! TEXTS: their length, their characters, whether they are equal -/
section X20
variable {g : GC} {M : MM} {P P' : Nat → Prop}
theorem STR.k {z : Nat} {w : List Nat} (h : STR M P z w) : mK M z = 42 := h.2.1
theorem sh0 (n : Nat) : (nI n) >>> (nI 0) = nI n := by simp [nI]
theorem ch7 {c : Nat} (h : c < 128) : (nI c) &&& (nI 255) = nI c ∧ ((nI c).toUInt32 % 65536).toInt32 = nI c ∧ narrow .char (.int (nI c)) = .int (nI c) := by
  have : ∀ c : Fin 128, (nI c.val) &&& (nI 255) = nI c.val ∧ ((nI c.val).toUInt32 % 65536).toInt32 = nI c.val ∧ narrow .char (.int (nI c.val)) = .int (nI c.val) := by decide
  exact this ⟨c, h⟩
theorem ct_J6_coder {z : Nat} {w : List Nat} (hc : CMPS g) (h : STR M P z w) : Ct g yJ6_coder cJ6_coder 1 (some Jvm.ClassFile.FieldType.byte) 0 0 0 [.ref z] M (PQ M (.int (nI 0))) noX := by
  obtain ⟨-, h2, h3', -⟩ := h
  refine Ct.of (by decide) (Nat.le_of_ble_eq_true rfl) rfl ?_
  refine r_gets (pc := 0) dJ6_coder_0 q577 hc ?_
  refine r_if_eq (pc := 3) (tgt := 13) dJ6_coder_3 (by decide) (fun h3 => ?_) (fun h3 => ?_)
  · skip
    exact absurd h3 (by decide)
  · skip
    refine r_ald0 (pc := 6) dJ6_coder_6 ?_
    refine r_getI (pc := 7) dJ6_coder_7 fl_J6_15 h2 ?_
    rw [h3']
    refine r_goto (pc := 10) (tgt := 14) dJ6_coder_10 (by decide) ?_
    refine r_zret (pc := 14) dJ6_coder_14 (by first | rfl | exact zI_nar | assumption) ?_
    exact ⟨rfl, rfl⟩
theorem ct_J6_isLatin1 {z : Nat} {w : List Nat} (hc : CMPS g) (h : STR M P z w) : Ct g yJ6_isLatin1 cJ6_isLatin1 1 (some Jvm.ClassFile.FieldType.boolean) 0 0 0 [.ref z] M (PQ M (.int (nI 1))) noX := by
  obtain ⟨-, h2, h3', -⟩ := h
  refine Ct.of (by decide) (Nat.le_of_ble_eq_true rfl) rfl ?_
  refine r_gets (pc := 0) dJ6_isLatin1_0 q577 hc ?_
  refine r_if_eq (pc := 3) (tgt := 17) dJ6_isLatin1_3 (by decide) (fun h3 => ?_) (fun h3 => ?_)
  · skip
    exact absurd h3 (by decide)
  · skip
    refine r_ald0 (pc := 6) dJ6_isLatin1_6 ?_
    refine r_getI (pc := 7) dJ6_isLatin1_7 fl_J6_15 h2 ?_
    rw [h3']
    first | refine r_if_neZ (pc := 10) (tgt := 17) dJ6_isLatin1_10 (by decide) (fun h10 => ?_) (fun h10 => ?_) | refine r_if_neN (pc := 10) (tgt := 17) dJ6_isLatin1_10 (by decide) (by omega) (fun h10 => ?_) (fun h10 => ?_) | refine r_if_ne (pc := 10) (tgt := 17) dJ6_isLatin1_10 (by decide) (fun h10 => ?_) (fun h10 => ?_)
    · skip
      exact absurd rfl h10
    · skip
      refine r_iconst (v := nI 1) (pc := 13) dJ6_isLatin1_13 (by decide) ?_
      refine r_goto (pc := 14) (tgt := 18) dJ6_isLatin1_14 (by decide) ?_
      refine r_zret (pc := 18) dJ6_isLatin1_18 (by first | rfl | exact zI_nar | assumption) ?_
      exact ⟨rfl, rfl⟩
theorem ct_J6_length {z : Nat} {w : List Nat} (hc : CMPS g) (h : STR M P z w) : Ct g yJ6_length cJ6_length 1 (some Jvm.ClassFile.FieldType.int) 1 0 0 [.ref z] M (PQ M (.int (nI w.length))) noX := by
  have hh := h
  obtain ⟨-, h2, h3, v, h4, -, h6, h7, -⟩ := h
  refine Ct.of (by decide) (Nat.le_of_ble_eq_true rfl) rfl ?_
  refine r_ald0 (pc := 0) dJ6_length_0 ?_
  refine r_getR (pc := 1) dJ6_length_1 fl_J6_9 h2 h4 ?_
  refine r_alen (pc := 4) dJ6_length_4 h6 (by decide) ?_
  rw [h7]
  refine r_ald0 (pc := 5) dJ6_length_5 ?_
  refine r_cV (pc := 6) dJ6_length_6 cv_J6_335 h2 (ct_J6_coder hc hh) rfl rfl (Nat.le_of_ble_eq_true rfl) (by decide) ?_
  rintro _ _ ⟨rfl, rfl⟩
  refine r_ishr (pc := 9) dJ6_length_9 ?_
  refine Bd.eqI (x' := nI w.length) (sh0 _) ?_
  refine r_iret (pc := 10) dJ6_length_10 ?_
  exact ⟨rfl, rfl⟩
theorem ct_J9_charAt {v i c n : Nat} (hz : SIOF g) (h1 : mK M v = 3) (h2 : mN M v = n) (hn : n < 1000000) (hi : i < n) (hc : mI M v i = nI c) (hc7 : c < 128) : Ct g yJ9_charAt cJ9_charAt 2 (some Jvm.ClassFile.FieldType.char) 5 0 0 [.ref v, .int (nI i)] M (PQ M (.int (nI c))) noX := by
  obtain ⟨e1, e2, e3⟩ := ch7 hc7
  refine Ct.of (by decide) (Nat.le_of_ble_eq_true rfl) rfl ?_
  refine r_ild1 (pc := 0) dJ9_charAt_0 ?_
  refine r_ald0 (pc := 1) dJ9_charAt_1 ?_
  refine r_alen (pc := 2) dJ9_charAt_2 h1 (by decide) ?_
  rw [h2]
  refine r_cS (pc := 3) dJ9_charAt_3 cs_J9_9 (ct_J6_checkIndex hz hi (by omega)) rfl rfl (Nat.le_of_ble_eq_true rfl) (by first | decide | omega) ?_
  rintro _ _ ⟨rfl, rfl⟩
  refine r_ald0 (pc := 6) dJ9_charAt_6 ?_
  refine r_ild1 (pc := 7) dJ9_charAt_7 ?_
  refine r_bald (pc := 8) dJ9_charAt_8 h1 (by omega) (by omega) ?_
  rw [hc]
  refine r_sipush (v := nI 255) (pc := 9) dJ9_charAt_9 (by decide) ?_
  refine r_iand (pc := 12) dJ9_charAt_12 ?_
  refine Bd.eqI e1 ?_
  refine r_i2c (pc := 13) dJ9_charAt_13 ?_
  refine Bd.eqI e2 ?_
  refine r_zret (pc := 14) dJ9_charAt_14 (by first | rfl | exact zI_nar | assumption) ?_
  exact ⟨rfl, rfl⟩
theorem ct_J6_charAt {z i : Nat} {w : List Nat} (hc : CMPS g) (hz : SIOF g) (h : STR M P z w) (hi : i < w.length) : Ct g yJ6_charAt cJ6_charAt 2 (some Jvm.ClassFile.FieldType.char) 7 0 0 [.ref z, .int (nI i)] M (PQ M (.int (nI (w.getD i 0)))) noX := by
  have hh := h
  obtain ⟨-, h2, h3, v, h4', -, h6, h7, h8, h9, hl⟩ := h
  obtain ⟨e1, e2, e3⟩ := ch7 (h9 i hi)
  refine Ct.of (by decide) (Nat.le_of_ble_eq_true rfl) rfl ?_
  refine r_ald0 (pc := 0) dJ6_charAt_0 ?_
  refine r_cV (pc := 1) dJ6_charAt_1 cv_J6_492 h2 (ct_J6_isLatin1 hc hh) rfl rfl (Nat.le_of_ble_eq_true rfl) (by decide) ?_
  rintro _ _ ⟨rfl, rfl⟩
  refine r_if_eqN (pc := 4) (tgt := 16) dJ6_charAt_4 (by decide) (by omega) (fun h4 => ?_) (fun h4 => ?_)
  · skip
    exact absurd h4 (by decide)
  · skip
    refine r_ald0 (pc := 7) dJ6_charAt_7 ?_
    refine r_getR (pc := 8) dJ6_charAt_8 fl_J6_9 h2 h4' ?_
    refine r_ild1 (pc := 11) dJ6_charAt_11 ?_
    refine r_cS (pc := 12) dJ6_charAt_12 cs_J6_495 (ct_J9_charAt hz h6 h7 (by omega) hi (h8 i hi) (h9 i hi)) rfl rfl (Nat.le_of_ble_eq_true rfl) (by first | decide | omega) ?_
    rintro _ _ ⟨rfl, rfl⟩
    refine r_zret (pc := 15) dJ6_charAt_15 (by first | rfl | exact zI_nar | assumption) ?_
    exact ⟨rfl, rfl⟩
theorem ct_X7_letter {a k : Nat} {w : List Nat} (hc : CMPS g) (hz : SIOF g) (h : NmX M P a w) (hk : k < 100000) : Ct g yX7_letter cX7_letter 2 (some Jvm.ClassFile.FieldType.int) 8 0 0 [.ref a, .int (nI k)] M (PQ M (.int (nI (w.getD k 0)))) noX := by
  obtain ⟨-, h2, h3, z, h4, h5⟩ := h
  have hl : (w.map (fun c => c + 96)).length = w.length := by simp
  have hl2 : w.length < 100000 := by have := h5.2.2.2; obtain ⟨v, -, -, -, -, -, -, q⟩ := this; rw [hl] at q; exact q
  refine Ct.of (by decide) (Nat.le_of_ble_eq_true rfl) rfl ?_
  refine r_ild1 (pc := 0) dX7_letter_0 ?_
  refine r_ald0 (pc := 1) dX7_letter_1 ?_
  refine r_getR (pc := 2) dX7_letter_2 fl_X7_15 h2 h4 ?_
  refine r_cV (pc := 5) dX7_letter_5 cv_X7_29 h5.k (ct_J6_length hc h5) rfl rfl (Nat.le_of_ble_eq_true rfl) (by decide) ?_
  rintro _ _ ⟨rfl, rfl⟩
  rw [hl]
  first | refine r_icmp_geN (pc := 8) (tgt := 27) dX7_letter_8 (by decide) (by omega) (by omega) (fun h8 => ?_) (fun h8 => ?_) | refine r_icmp_ge (pc := 8) (tgt := 27) dX7_letter_8 (by decide) (fun h8 => ?_) (fun h8 => ?_)
  · skip
    rw [show w.getD k 0 = 0 by rw [List.getD_eq_getElem?_getD, List.getElem?_eq_none (by omega)]; rfl]
    refine r_iconst (v := nI 0) (pc := 27) dX7_letter_27 (by decide) ?_
    refine r_iret (pc := 28) dX7_letter_28 ?_
    exact ⟨rfl, rfl⟩
  · skip
    refine r_ald0 (pc := 11) dX7_letter_11 ?_
    refine r_getR (pc := 12) dX7_letter_12 fl_X7_15 h2 h4 ?_
    refine r_ild1 (pc := 15) dX7_letter_15 ?_
    refine r_cV (pc := 16) dX7_letter_16 cv_X7_35 h5.k (ct_J6_charAt hc hz h5 (i := k) (by rw [hl]; omega)) rfl rfl (Nat.le_of_ble_eq_true rfl) (by decide) ?_
    rintro _ _ ⟨rfl, rfl⟩
    have hw := h3 k (by omega)
    rw [show (w.map (fun c => c + 96)).getD k 0 = w.getD k 0 + 96 by rw [List.getD_eq_getElem?_getD, List.getD_eq_getElem?_getD, List.getElem?_map, List.getElem?_eq_getElem (show k < w.length by omega)]; rfl]
    refine r_bipush (v := nI 97) (pc := 19) dX7_letter_19 (by decide) ?_
    refine r_isubM (pc := 21) dX7_letter_21 ?_
    refine r_iconst (v := nI 1) (pc := 22) dX7_letter_22 (by decide) ?_
    refine r_iadd (pc := 23) dX7_letter_23 ?_
    refine Bd.eqI (x' := nI (w.getD k 0)) (by rw [nI_iI, nI_iI, iI_add]; congr 1; omega) ?_
    skip
    refine r_goto (pc := 24) (tgt := 28) dX7_letter_24 (by decide) ?_
    refine r_iret (pc := 28) dX7_letter_28 ?_
    exact ⟨rfl, rfl⟩
theorem allR_iff {f : Nat → Bool} : ∀ {k i : Nat}, allR f k i = true ↔ ∀ j, i ≤ j → j < i + k → f j = true
  | 0, i => ⟨fun _ j h1 h2 => by omega, fun _ => rfl⟩
  | k + 1, i => by
    show (f i && allR f k (i + 1)) = true ↔ _
    rw [Bool.and_eq_true, allR_iff (k := k) (i := i + 1)]
    constructor
    · intro ⟨h1, h2⟩ j h3 h4
      by_cases e : j = i
      · rw [e]; exact h1
      · exact h2 j (by omega) (by omega)
    · intro h
      exact ⟨h i (Nat.le_refl i) (by omega), fun j h1 h2 => h j (by omega) (by omega)⟩
/-- bytes i .. of two texts -/
theorem xeqLoop {v v' n : Nat} {w w' : List Nat} (h1 : mK M v = 3) (h1' : mK M v' = 3) (h2 : mN M v = n) (h2' : mN M v' = n) (hn : n < 1000000) (hw : w.length = n) (hw' : w'.length = n) (h3 : ∀ j, j < n → mI M v j = nI (w.getD j 0) ∧ w.getD j 0 < 128) (h3' : ∀ j, j < n → mI M v' j = nI (w'.getD j 0) ∧ w'.getD j 0 < 128) : ∀ k i, i + k = n →
    Bd g yJ9_equals cJ9_equals 3 (some Jvm.ClassFile.FieldType.boolean) [] 0 0 0 M 9 [some (.ref v), some (.ref v'), some (.int (nI i))] [] (PQ M (.int (zI (allR (fun j => decide (w.getD j 0 = w'.getD j 0)) k i = true)))) noX := by
  intro k
  induction k with
  | zero =>
    intro i hi
    refine r_ild2 (pc := 9) dJ9_equals_9 ?_
    refine r_ald0 (pc := 10) dJ9_equals_10 ?_
    refine r_alen (pc := 11) dJ9_equals_11 h1 (by decide) ?_
    rw [h2]
    first | refine r_icmp_geN (pc := 12) (tgt := 32) dJ9_equals_12 (by decide) (by omega) (by omega) (fun h12 => ?_) (fun h12 => ?_) | refine r_icmp_ge (pc := 12) (tgt := 32) dJ9_equals_12 (by decide) (fun h12 => ?_) (fun h12 => ?_)
    · skip
      refine r_iconst (v := nI 1) (pc := 32) dJ9_equals_32 (by decide) ?_
      refine r_zret (pc := 33) dJ9_equals_33 (by first | rfl | exact zI_nar | assumption) ?_
      exact ⟨by rw [zI_t (show allR _ 0 i = true from rfl)]; rfl, rfl⟩
    · skip
      exact absurd h12 (by omega)
  | succ k ih =>
    intro i hi
    obtain ⟨p1, p2⟩ := h3 i (by omega)
    obtain ⟨p1', p2'⟩ := h3' i (by omega)
    refine r_ild2 (pc := 9) dJ9_equals_9 ?_
    refine r_ald0 (pc := 10) dJ9_equals_10 ?_
    refine r_alen (pc := 11) dJ9_equals_11 h1 (by decide) ?_
    rw [h2]
    first | refine r_icmp_geN (pc := 12) (tgt := 32) dJ9_equals_12 (by decide) (by omega) (by omega) (fun h12 => ?_) (fun h12 => ?_) | refine r_icmp_ge (pc := 12) (tgt := 32) dJ9_equals_12 (by decide) (fun h12 => ?_) (fun h12 => ?_)
    · skip
      exact absurd h12 (by omega)
    · skip
      refine r_ald0 (pc := 15) dJ9_equals_15 ?_
      refine r_ild2 (pc := 16) dJ9_equals_16 ?_
      refine r_bald (pc := 17) dJ9_equals_17 h1 (by omega) (by omega) ?_
      rw [p1]
      refine r_ald1 (pc := 18) dJ9_equals_18 ?_
      refine r_ild2 (pc := 19) dJ9_equals_19 ?_
      refine r_bald (pc := 20) dJ9_equals_20 h1' (by omega) (by omega) ?_
      rw [p1']
      first | refine r_icmp_eqN (pc := 21) (tgt := 26) dJ9_equals_21 (by decide) (by omega) (by omega) (fun h21 => ?_) (fun h21 => ?_) | refine r_icmp_eq (pc := 21) (tgt := 26) dJ9_equals_21 (by decide) (fun h21 => ?_) (fun h21 => ?_)
      · skip
        first | refine r_iinc2N (j := 1) (pc := 26) dJ9_equals_26 rfl ?_ | refine r_iinc2 (pc := 26) dJ9_equals_26 ?_
        refine r_goto (pc := 29) (tgt := 9) dJ9_equals_29 (by decide) ?_
        have := ih (i + 1) (by omega)
        rw [show allR (fun j => decide (w.getD j 0 = w'.getD j 0)) (k + 1) i = allR (fun j => decide (w.getD j 0 = w'.getD j 0)) k (i + 1) by simp only [allR, decide_eq_true h21, Bool.true_and]]
        exact this
      · skip
        refine r_iconst (v := nI 0) (pc := 24) dJ9_equals_24 (by decide) ?_
        refine r_zret (pc := 25) dJ9_equals_25 (by first | rfl | exact zI_nar | assumption) ?_
        exact ⟨by rw [zI_f (by simp only [allR, decide_eq_false h21, Bool.false_and]; decide)]; rfl, rfl⟩
theorem ct_J9_equals {v v' : Nat} {w w' : List Nat} (h1 : mK M v = 3) (h1' : mK M v' = 3) (h2 : mN M v = w.length) (h2' : mN M v' = w'.length) (hn : w.length < 1000000) (hn' : w'.length < 1000000) (h3 : ∀ j, j < w.length → mI M v j = nI (w.getD j 0) ∧ w.getD j 0 < 128) (h3' : ∀ j, j < w'.length → mI M v' j = nI (w'.getD j 0) ∧ w'.getD j 0 < 128) : Ct g yJ9_equals cJ9_equals 3 (some Jvm.ClassFile.FieldType.boolean) 0 0 0 [.ref v, .ref v'] M (PQ M (.int (zI (w = w')))) noX := by
  refine Ct.of (by decide) (Nat.le_of_ble_eq_true rfl) rfl ?_
  refine r_ald0 (pc := 0) dJ9_equals_0 ?_
  refine r_alen (pc := 1) dJ9_equals_1 h1 (by decide) ?_
  rw [h2]
  refine r_ald1 (pc := 2) dJ9_equals_2 ?_
  refine r_alen (pc := 3) dJ9_equals_3 h1' (by decide) ?_
  rw [h2']
  first | refine r_icmp_neN (pc := 4) (tgt := 34) dJ9_equals_4 (by decide) (by omega) (by omega) (fun h4 => ?_) (fun h4 => ?_) | refine r_icmp_ne (pc := 4) (tgt := 34) dJ9_equals_4 (by decide) (fun h4 => ?_) (fun h4 => ?_)
  · skip
    refine r_iconst (v := nI 0) (pc := 34) dJ9_equals_34 (by decide) ?_
    refine r_zret (pc := 35) dJ9_equals_35 (by first | rfl | exact zI_nar | assumption) ?_
    exact ⟨by rw [zI_f (fun q => h4 (by rw [q]))]; rfl, rfl⟩
  · skip
    refine r_iconst (v := nI 0) (pc := 7) dJ9_equals_7 (by decide) ?_
    refine r_ist2 (pc := 8) dJ9_equals_8 ?_
    have := xeqLoop (g := g) h1 h1' h2 (h2'.trans h4.symm) hn rfl h4.symm h3 (fun j hj => h3' j (by omega)) w.length 0 (by omega)
    rw [zI_congr (p := w = w') (q := allR (fun j => decide (w.getD j 0 = w'.getD j 0)) w.length 0 = true) ⟨fun q => allR_iff.mpr (fun j _ _ => by rw [q]; exact decide_eq_true rfl), fun q => list_ext h4 (fun j hj => of_decide_eq_true (allR_iff.mp q j (Nat.zero_le j) (by omega)))⟩]
    exact this
theorem ct_J6_equals {z z' : Nat} {w w' : List Nat} (hc : CMPS g) (h : STR M P z w) (h' : STR M P' z' w') : Ct g yJ6_equals cJ6_equals 3 (some Jvm.ClassFile.FieldType.boolean) 1 0 0 [.ref z, .ref z'] M (PQ M (.int (zI (w = w')))) noX := by
  obtain ⟨-, h2, h3, v, h4, -, h6, h7, h8, h9, hl⟩ := h
  obtain ⟨-, h2', h3', v', h4', -, h6', h7', h8', h9', hl'⟩ := h'
  refine Ct.of (by decide) (Nat.le_of_ble_eq_true rfl) rfl ?_
  by_cases e : z = z'
  · subst e
    have hvv : v = v' := Option.some.inj (h4.symm.trans h4')
    subst hvv
    have hll : w.length = w'.length := h7.symm.trans h7'
    have hww : w = w' := list_ext hll (fun j hj => (nI_eq (by have := h9 j (by omega); omega) (by have := h9' j hj; omega)).mp ((h8 j (by omega)).symm.trans (h8' j hj)))
    refine r_ald0 (pc := 0) dJ6_equals_0 ?_
    refine r_ald1 (pc := 1) dJ6_equals_1 ?_
    refine r_acmp_ne (rx := some z) (ry := some z) (pc := 2) (tgt := 7) dJ6_equals_2 (by decide) (fun h2 => ?_) (fun h2 => ?_)
    · skip
      exact absurd rfl h2
    · skip
      refine r_iconst (v := nI 1) (pc := 5) dJ6_equals_5 (by decide) ?_
      refine r_zret (pc := 6) dJ6_equals_6 (by first | rfl | exact zI_nar | assumption) ?_
      exact ⟨by rw [zI_t hww]; rfl, rfl⟩
  · skip
    refine r_ald0 (pc := 0) dJ6_equals_0 ?_
    refine r_ald1 (pc := 1) dJ6_equals_1 ?_
    refine r_acmp_ne (rx := some z) (ry := some z') (pc := 2) (tgt := 7) dJ6_equals_2 (by decide) (fun h2 => ?_) (fun h2 => ?_)
    · skip
      refine r_ald1 (pc := 7) dJ6_equals_7 ?_
      refine r_instE (ci := 22) (pc := 8) dJ6_equals_8 q567 h2' ?_
      refine r_if_eq (pc := 11) (tgt := 54) dJ6_equals_11 (by decide) (fun h11 => ?_) (fun h11 => ?_)
      · skip
        exact absurd h11 (by decide)
      · skip
        refine r_ald1 (pc := 14) dJ6_equals_14 ?_
        refine r_castE (ci := 22) (pc := 15) dJ6_equals_15 q567 h2' ?_
        refine r_ast2 (pc := 18) dJ6_equals_18 ?_
        refine r_gets (pc := 19) dJ6_equals_19 q577 hc ?_
        refine r_if_eq (pc := 22) (tgt := 36) dJ6_equals_22 (by decide) (fun h22 => ?_) (fun h22 => ?_)
        · skip
          exact absurd h22 (by decide)
        · skip
          refine r_ald0 (pc := 25) dJ6_equals_25 ?_
          refine r_getI (pc := 26) dJ6_equals_26 fl_J6_15 (by assumption) ?_
          rw [h3]
          refine r_ald2 (pc := 29) dJ6_equals_29 ?_
          refine r_getI (pc := 30) dJ6_equals_30 fl_J6_15 h2' ?_
          rw [h3']
          first | refine r_icmp_neN (pc := 33) (tgt := 54) dJ6_equals_33 (by decide) (by omega) (by omega) (fun h33 => ?_) (fun h33 => ?_) | refine r_icmp_ne (pc := 33) (tgt := 54) dJ6_equals_33 (by decide) (fun h33 => ?_) (fun h33 => ?_)
          · skip
            exact absurd rfl h33
          · skip
            refine r_ald0 (pc := 36) dJ6_equals_36 ?_
            refine r_getR (pc := 37) dJ6_equals_37 fl_J6_9 (by assumption) h4 ?_
            refine r_ald2 (pc := 40) dJ6_equals_40 ?_
            refine r_getR (pc := 41) dJ6_equals_41 fl_J6_9 h2' h4' ?_
            refine r_cS (pc := 44) dJ6_equals_44 cs_J6_541 (ct_J9_equals h6 h6' h7 h7' (by omega) (by omega) (fun j hj => ⟨h8 j hj, h9 j hj⟩) (fun j hj => ⟨h8' j hj, h9' j hj⟩)) rfl rfl (Nat.le_of_ble_eq_true rfl) (by first | decide | omega) ?_
            rintro _ _ ⟨rfl, rfl⟩
            first | refine r_if_eqZ (pc := 47) (tgt := 54) dJ6_equals_47 (by decide) (fun h47 => ?_) (fun h47 => ?_) | refine r_if_eqN (pc := 47) (tgt := 54) dJ6_equals_47 (by decide) (by omega) (fun h47 => ?_) (fun h47 => ?_) | refine r_if_eq (pc := 47) (tgt := 54) dJ6_equals_47 (by decide) (fun h47 => ?_) (fun h47 => ?_)
            · skip
              refine r_iconst (v := nI 0) (pc := 54) dJ6_equals_54 (by decide) ?_
              refine r_zret (pc := 55) dJ6_equals_55 (by first | rfl | exact zI_nar | assumption) ?_
              exact ⟨by first | (rw [zI_t h47]; rfl) | (rw [zI_f h47]; rfl), rfl⟩
            · skip
              refine r_iconst (v := nI 1) (pc := 50) dJ6_equals_50 (by decide) ?_
              refine r_goto (pc := 51) (tgt := 55) dJ6_equals_51 (by decide) ?_
              refine r_zret (pc := 55) dJ6_equals_55 (by first | rfl | exact zI_nar | assumption) ?_
              exact ⟨by first | (rw [zI_t h47]; rfl) | (rw [zI_f h47]; rfl), rfl⟩
    · skip
      exact absurd (Option.some.inj h2) e
end X20
