set_option maxRecDepth 100000
/-! THE READER: what is parted, faults of too many, brackets -/
section X47
variable {g : GC} {M : MM} {o n : Nat} {f : Nat → Nat}
theorem ct_X2_parted {a : Nat} (h : RDF g M o n f) (ha : a ≤ n) (hA : mI M (o + 5) 2 = nI a) : Ct g yX2_parted cX2_parted 1 none 1 0 0 [.ref (o + 5)] M (fun v M' => v = none ∧ ptd f a = false ∧ M' = M) (fun q M' => ptd f a = true ∧ XE M o 1 a q M') := by
  have hgb := h.2.1
  have r7 := h.2.2.2.2.2.2.2.1.1
  have hn := h.2.2.2.2.1
  have hg := h.1
  have r11 := h.2.2.2.2.2.2.2.2.1
  by_cases e0 : a = 0
  · subst e0
    have e1 : nI 0 - nI 1 = iI (-1) := by decide
    refine Ct.of (by decide) (Nat.le_of_ble_eq_true rfl) rfl ?_
    refine r_ald0 (pc := 0) dX2_parted_0 ?_
    refine r_ald0 (pc := 1) dX2_parted_1 ?_
    refine r_getI' (pc := 2) dX2_parted_2 fl_X2_36 r7 hA ?_
    refine r_iconst (v := nI 1) (pc := 5) dX2_parted_5 (by decide) ?_
    refine r_isub (pc := 6) dX2_parted_6 ?_
    refine Bd.eqI e1 ?_
    refine r_cV (ci := 2) (pc := 7) dX2_parted_7 cv_X2_39 r7 (ct_X2_byteAt_neg h) rfl rfl (Nat.le_of_ble_eq_true rfl) (by decide) ?_
    rintro _ M9 ⟨rfl, e9⟩
    rw [e9]
    refine r_cSN (pc := 10) dX2_parted_10 (csn_X2_51 hg) ct_X0_isLetter_neg rfl rfl (Nat.le_of_ble_eq_true rfl) (by decide) ?_
    rintro _ M8 ⟨rfl, e8⟩
    rw [e8]
    first | refine r_if_neZ (pc := 13) (tgt := 32) dX2_parted_13 (by decide) (fun h13 => ?_) (fun h13 => ?_) | refine r_if_neN (pc := 13) (tgt := 32) dX2_parted_13 (by decide) (by omega) (fun h13 => ?_) (fun h13 => ?_) | refine r_if_ne (pc := 13) (tgt := 32) dX2_parted_13 (by decide) (fun h13 => ?_) (fun h13 => ?_)
    · skip
      exact absurd rfl h13
    · skip
      refine r_ald0 (pc := 16) dX2_parted_16 ?_
      refine r_ald0 (pc := 17) dX2_parted_17 ?_
      refine r_getI' (pc := 18) dX2_parted_18 fl_X2_36 r7 hA ?_
      refine r_iconst (v := nI 1) (pc := 21) dX2_parted_21 (by decide) ?_
      refine r_isub (pc := 22) dX2_parted_22 ?_
      refine Bd.eqI e1 ?_
      refine r_cV (ci := 2) (pc := 23) dX2_parted_23 cv_X2_39 r7 (ct_X2_byteAt_neg h) rfl rfl (Nat.le_of_ble_eq_true rfl) (by decide) ?_
      rintro _ M7 ⟨rfl, e7⟩
      rw [e7]
      refine r_cSN (pc := 26) dX2_parted_26 (csn_X2_55 hg) ct_X0_isDigit_neg rfl rfl (Nat.le_of_ble_eq_true rfl) (by decide) ?_
      rintro _ M6 ⟨rfl, e6⟩
      rw [e6]
      first | refine r_if_eqZ (pc := 29) (tgt := 42) dX2_parted_29 (by decide) (fun h29 => ?_) (fun h29 => ?_) | refine r_if_eqN (pc := 29) (tgt := 42) dX2_parted_29 (by decide) (by omega) (fun h29 => ?_) (fun h29 => ?_) | refine r_if_eq (pc := 29) (tgt := 42) dX2_parted_29 (by decide) (fun h29 => ?_) (fun h29 => ?_)
      · skip
        refine r_vret (pc := 42) dX2_parted_42 ?_
        exact ⟨rfl, rfl, rfl⟩
      · skip
        exact absurd h29 (by decide)
  · have hfa := h.2.2.2.2.2.2.1.1 (a - 1)
    have eb : bI f n (a - 1) = nI (f (a - 1)) := if_pos (by omega)
    have hct := ct_X2_byteAt h (show a - 1 ≤ 1600 by omega)
    rw [eb] at hct
    have hp : ptd f a = (ltr (f (a - 1)) || dgt (f (a - 1))) := by unfold ptd; rw [decide_eq_true (show 0 < a by omega), Bool.true_and]
    refine Ct.of (by decide) (Nat.le_of_ble_eq_true rfl) rfl ?_
    refine r_ald0 (pc := 0) dX2_parted_0 ?_
    refine r_ald0 (pc := 1) dX2_parted_1 ?_
    refine r_getI' (pc := 2) dX2_parted_2 fl_X2_36 r7 hA ?_
    refine r_iconst (v := nI 1) (pc := 5) dX2_parted_5 (by decide) ?_
    refine r_isubN (pc := 6) dX2_parted_6 (by omega) ?_
    refine r_cV (ci := 2) (pc := 7) dX2_parted_7 cv_X2_39 r7 hct rfl rfl (Nat.le_of_ble_eq_true rfl) (by decide) ?_
    rintro _ M9 ⟨rfl, e9⟩
    rw [e9]
    refine r_cSN (pc := 10) dX2_parted_10 (csn_X2_51 hg) (ct_X0_isLetter hfa) rfl rfl (Nat.le_of_ble_eq_true rfl) (by decide) ?_
    rintro _ M8 ⟨rfl, e8⟩
    rw [e8]
    first | refine r_if_neZ (pc := 13) (tgt := 32) dX2_parted_13 (by decide) (fun h13 => ?_) (fun h13 => ?_) | refine r_if_neN (pc := 13) (tgt := 32) dX2_parted_13 (by decide) (by omega) (fun h13 => ?_) (fun h13 => ?_) | refine r_if_ne (pc := 13) (tgt := 32) dX2_parted_13 (by decide) (fun h13 => ?_) (fun h13 => ?_)
    · skip
      refine r_ald0 (pc := 32) dX2_parted_32 ?_
      refine r_iconst (v := nI 1) (pc := 33) dX2_parted_33 (by decide) ?_
      refine r_ald0 (pc := 34) dX2_parted_34 ?_
      refine r_getI' (pc := 35) dX2_parted_35 fl_X2_36 r7 hA ?_
      refine r_cV (ci := 2) (pc := 38) dX2_parted_38 cv_X2_47 r7 (ct_X2_wrong (k := 1) h) rfl rfl (Nat.le_of_ble_eq_true rfl) (by decide) ?_
      rintro _ M2 ⟨rfl, e2⟩
      rw [e2]
      refine r_athrow (pc := 41) dX2_parted_41 r11 ⟨by rw [hp]; simp_all, XE.fl RFr.rf⟩
    · skip
      refine r_ald0 (pc := 16) dX2_parted_16 ?_
      refine r_ald0 (pc := 17) dX2_parted_17 ?_
      refine r_getI' (pc := 18) dX2_parted_18 fl_X2_36 r7 hA ?_
      refine r_iconst (v := nI 1) (pc := 21) dX2_parted_21 (by decide) ?_
      refine r_isubN (pc := 22) dX2_parted_22 (by omega) ?_
      refine r_cV (ci := 2) (pc := 23) dX2_parted_23 cv_X2_39 r7 hct rfl rfl (Nat.le_of_ble_eq_true rfl) (by decide) ?_
      rintro _ M7 ⟨rfl, e7⟩
      rw [e7]
      refine r_cSN (pc := 26) dX2_parted_26 (csn_X2_55 hg) (ct_X0_isDigit hfa) rfl rfl (Nat.le_of_ble_eq_true rfl) (by decide) ?_
      rintro _ M6 ⟨rfl, e6⟩
      rw [e6]
      first | refine r_if_eqZ (pc := 29) (tgt := 42) dX2_parted_29 (by decide) (fun h29 => ?_) (fun h29 => ?_) | refine r_if_eqN (pc := 29) (tgt := 42) dX2_parted_29 (by decide) (by omega) (fun h29 => ?_) (fun h29 => ?_) | refine r_if_eq (pc := 29) (tgt := 42) dX2_parted_29 (by decide) (fun h29 => ?_) (fun h29 => ?_)
      · skip
        refine r_vret (pc := 42) dX2_parted_42 ?_
        exact ⟨rfl, by rw [hp]; simp_all, rfl⟩
      · skip
        refine r_ald0 (pc := 32) dX2_parted_32 ?_
        refine r_iconst (v := nI 1) (pc := 33) dX2_parted_33 (by decide) ?_
        refine r_ald0 (pc := 34) dX2_parted_34 ?_
        refine r_getI' (pc := 35) dX2_parted_35 fl_X2_36 r7 hA ?_
        refine r_cV (ci := 2) (pc := 38) dX2_parted_38 cv_X2_47 r7 (ct_X2_wrong (k := 1) h) rfl rfl (Nat.le_of_ble_eq_true rfl) (by decide) ?_
        rintro _ M2 ⟨rfl, e2⟩
        rw [e2]
        refine r_athrow (pc := 41) dX2_parted_41 r11 ⟨by rw [hp]; simp_all, XE.fl RFr.rf⟩
theorem ct_X2_most {p : Nat} {b : Bool} (h : RDF g M o n f) : Ct g yX2_most cX2_most 3 none 1 0 0 [.ref (o + 5), .int (zI (b = true)), .int (nI p)] M (fun v M' => v = none ∧ b = false ∧ M' = M) (fun q M' => b = true ∧ XE M o 5 p q M') := by
  have r7 := h.2.2.2.2.2.2.2.1.1
  have r11 := h.2.2.2.2.2.2.2.2.1
  refine Ct.of (by decide) (Nat.le_of_ble_eq_true rfl) rfl ?_
  refine r_ild1 (pc := 0) dX2_most_0 ?_
  first | refine r_if_eqZ (pc := 1) (tgt := 11) dX2_most_1 (by decide) (fun h1 => ?_) (fun h1 => ?_) | refine r_if_eqN (pc := 1) (tgt := 11) dX2_most_1 (by decide) (by omega) (fun h1 => ?_) (fun h1 => ?_) | refine r_if_eq (pc := 1) (tgt := 11) dX2_most_1 (by decide) (fun h1 => ?_) (fun h1 => ?_)
  · skip
    refine r_vret (pc := 11) dX2_most_11 ?_
    exact ⟨rfl, by simp_all, rfl⟩
  · skip
    refine r_ald0 (pc := 4) dX2_most_4 ?_
    refine r_iconst (v := nI 5) (pc := 5) dX2_most_5 (by decide) ?_
    refine r_ild2 (pc := 6) dX2_most_6 ?_
    refine r_cV (ci := 2) (pc := 7) dX2_most_7 cv_X2_47 r7 (ct_X2_wrong (k := 5) h) rfl rfl (Nat.le_of_ble_eq_true rfl) (by decide) ?_
    rintro _ M2 ⟨rfl, e2⟩
    rw [e2]
    refine r_athrow (pc := 10) dX2_most_10 r11 ⟨by simp_all, XE.fl RFr.rf⟩
theorem ct_X2_opens {p k : Nat} (h : RDF g M o n f) (hk : mI M (o + 5) 4 = nI k) (hk6 : k ≤ 6) : Ct g yX2_opens cX2_opens 2 none 1 0 0 [.ref (o + 5), .int (nI p)] M (fun v M' => v = none ∧ k < 6 ∧ M' = sI M (o + 5) 4 (nI (k + 1))) (fun q M' => k = 6 ∧ XE M o 4 p q M') := by
  have hgb := h.2.1
  have r7 := h.2.2.2.2.2.2.2.1.1
  have r11 := h.2.2.2.2.2.2.2.2.1
  refine Ct.of (by decide) (Nat.le_of_ble_eq_true rfl) rfl ?_
  refine r_ald0 (pc := 0) dX2_opens_0 ?_
  refine r_getI' (pc := 1) dX2_opens_1 fl_X2_113 r7 hk ?_
  refine r_bipush (v := nI 6) (pc := 4) dX2_opens_4 (by decide) ?_
  first | refine r_icmp_neN (pc := 6) (tgt := 16) dX2_opens_6 (by decide) (by omega) (by omega) (fun h6 => ?_) (fun h6 => ?_) | refine r_icmp_ne (pc := 6) (tgt := 16) dX2_opens_6 (by decide) (fun h6 => ?_) (fun h6 => ?_)
  · skip
    refine r_ald0 (pc := 16) dX2_opens_16 ?_
    refine r_dup (pc := 17) dX2_opens_17 rfl ?_
    refine r_getI' (pc := 18) dX2_opens_18 fl_X2_113 r7 hk ?_
    refine r_iconst (v := nI 1) (pc := 21) dX2_opens_21 (by decide) ?_
    first | refine r_iaddN (pc := 22) dX2_opens_22 ?_ | refine r_iaddJ (pc := 22) dX2_opens_22 ?_ | refine r_iadd (pc := 22) dX2_opens_22 ?_
    refine r_putI (pc := 23) (ty := .int) dX2_opens_23 fl_X2_113 ⟨rfl, rfl⟩ rfl rfl r7 (by omega) ?_
    refine r_vret (pc := 26) dX2_opens_26 ?_
    exact ⟨rfl, by omega, rfl⟩
  · skip
    refine r_ald0 (pc := 9) dX2_opens_9 ?_
    refine r_iconst (v := nI 4) (pc := 10) dX2_opens_10 (by decide) ?_
    refine r_ild1 (pc := 11) dX2_opens_11 ?_
    refine r_cV (ci := 2) (pc := 12) dX2_opens_12 cv_X2_47 r7 (ct_X2_wrong (k := 4) h) rfl rfl (Nat.le_of_ble_eq_true rfl) (by decide) ?_
    rintro _ M2 ⟨rfl, e2⟩
    rw [e2]
    refine r_athrow (pc := 15) dX2_opens_15 r11 ⟨by omega, XE.fl RFr.rf⟩
end X47
