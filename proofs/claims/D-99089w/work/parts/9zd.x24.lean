set_option maxRecDepth 100000
/-! RETOUCHED: acts, 2 -/
section X24
variable {g : GC} {M : MM} {o ta : Nat} {P : Nat → Prop} {s : XS} {q : Sg}
theorem px_undo (hI : IX g M o P ta s q) (hG : GI q) : Ct g yX0_undo cX0_undo 1 (some Jvm.ClassFile.FieldType.boolean) 1 0 0 [.ref o] (putX M o s) (QI g M o P ta (undoS q).2 (.int (undoS q).1)) noX := by
  have W := hI.W
  have S := hI.So
  have hg := W.gx
  have hS := W.S
  have hX := W.X
  have hTB := W.B
  have hn8 := hTB.1
  have hH9 := hTB.2.1
  have hN := hI.nw.1
  have hR := hI.nw.2
  have hB : SB (tn (gT q)) (gS q) := hG.2.2.2.2.2.1.1
  have h20 : (gUn q).length ≤ 20 := hG.2.2.2.2.2.2.2.1
  obtain ⟨pmN, hpmN⟩ := hI.pm 12 isS_12
  obtain ⟨hu, pk, hpk, hE⟩ := hI.un
  refine Ct.of (by decide) (Nat.le_of_ble_eq_true rfl) rfl ?_
  unfold undoS
  cases hc : gUn q with
  | nil =>
    rw [hc] at hu
    refine r_ald0 (pc := 0) dX0_undo_0 ?_
    refine x_getI (c := 0) hS ow_0 kd_0 (pc := 1) dX0_undo_1 fl_X0_137 ?_
    rw [hu]
    refine r_if_neN (pc := 4) (tgt := 21) dX0_undo_4 (by decide) (by decide) (fun h4 => ?_) (fun h4 => ?_)
    · skip
      exact absurd rfl h4
    · skip
      refine r_ald0 (pc := 7) dX0_undo_7 ?_
      refine r_iconst (v := nI 4) (pc := 8) dX0_undo_8 (by decide) ?_
      refine r_cV (pc := 9) dX0_undo_9 cv_X0_107 (hS.k (c := 0) ow_0 kd_0) (ct_X0_refuses hS hX (by decide)) rfl rfl (Nat.le_of_ble_eq_true rfl) (by first | decide | omega) ?_
      rintro _ _ ⟨rfl, rfl⟩
      refine r_if_lt (pc := 12) (tgt := 19) dX0_undo_12 (by decide) (fun h12 => ?_) (fun h12 => ?_)
      · skip
        refine r_iconst (v := nI 0) (pc := 19) dX0_undo_19 (by decide) ?_
        refine r_zret (pc := 20) dX0_undo_20 (by first | rfl | exact zI_nar | assumption) ?_
        exact ⟨_, rfl, rfl, hI.ref hG (by decide)⟩
      · skip
        exact absurd (by decide) h12
  | cons x xs =>
    have hl : (gUn q).length = xs.length + 1 := by rw [hc]; rfl
    rw [hl] at hu h20 hE
    obtain ⟨k1, k2⟩ := hpk.1 xs.length (by omega)
    obtain ⟨e1, e2⟩ := hE 0 x (by rw [hc]; rfl)
    rw [show xs.length + 1 - 1 - 0 = xs.length by omega] at e1 e2
    have hb := isS_kp k1
    obtain ⟨w1, w2, a1, a2, a3, a4, a5, a6, a7, a8, a9, a10⟩ := hI
    refine r_ald0 (pc := 0) dX0_undo_0 ?_
    refine x_getI (c := 0) hS ow_0 kd_0 (pc := 1) dX0_undo_1 fl_X0_137 ?_
    rw [hu]
    refine r_if_neN (pc := 4) (tgt := 21) dX0_undo_4 (by decide) (by omega) (fun h4 => ?_) (fun h4 => ?_)
    · skip
      refine r_ald0 (pc := 21) dX0_undo_21 ?_
      refine r_dup (pc := 22) dX0_undo_22 rfl ?_
      refine x_getI (c := 0) hS ow_0 kd_0 (pc := 23) dX0_undo_23 fl_X0_137 ?_
      rw [hu]
      refine r_iconst (v := nI 1) (pc := 26) dX0_undo_26 (by decide) ?_
      refine r_isubN (pc := 27) dX0_undo_27 (by omega) ?_
      rw [show xs.length + 1 - 1 = xs.length by omega]
      refine x_putI (c := 0) hS ow_0 kd_0 (pc := 28) dX0_undo_28 fl_X0_137 fw_X0_18 rfl rfl ?_
      refine r_ald0 (pc := 31) dX0_undo_31 ?_
      refine x_getR (c := 0) hS ow_0 kd_0 (pc := 32) dX0_undo_32 fl_X0_69 (fx_0_9 hX) ?_
      refine r_ald0 (pc := 35) dX0_undo_35 ?_
      refine x_getR (c := 0) hS ow_0 kd_0 (pc := 36) dX0_undo_36 fl_X0_93 (fx_0_17 hX) ?_
      refine r_ald0 (pc := 39) dX0_undo_39 ?_
      refine x_getI (c := 0) hS ow_0 kd_0 (pc := 40) dX0_undo_40 fl_X0_137 ?_
      rw [iX_s]
      refine x_aald (c := 395) (j := xs.length) hS ow_395 kd_395 (by decide) ln_395 (pc := 43) dX0_undo_43 (by omega) (by omega) k2 ?_
      refine r_cV (pc := 44) dX0_undo_44 cv_X0_239 (hS.k (c := 12) (st_ow isS_12) (st_kd isS_12)) (ct_X5_copy (s := uI s 0 18 (nI xs.length)) hS hX isS_12 hb (by omega) (e1.fr (fun c h1 h2 j _ => by rw [iX_c (by omega)]) hn8) hn8 (e2.fr (fun c j hc => by rw [iX_c (by omega)]) (fun _ => rfl)) hpmN) rfl rfl (Nat.le_of_ble_eq_true rfl) (by first | decide | omega) ?_
      rintro _ _ ⟨s2, rfl, rfl, hN2, hR2, hr2, hF2⟩
      refine r_pop (pc := 47) dX0_undo_47 rfl ?_
      refine r_iconst (v := nI 1) (pc := 48) dX0_undo_48 (by decide) ?_
      refine r_zret (pc := 49) dX0_undo_49 (by first | rfl | exact zI_nar | assumption) ?_
      have hst : ∀ c, stP 12 c → 12 ≤ c ∧ c < 68 := fun c z => by unfold stP at z; omega
      have hag : ∀ R : Nat → Nat → Prop, ¬ R 0 18 → (∀ c j, R c j → ¬ (12 ≤ c ∧ c < 68)) → Ag R s s2 := fun R h1 h2 => (Ag.uI h1).trans (Ag.of hF2 fun c j r z => h2 c j r (hst _ z))
      have hrr : rX s2 = rX s := hr2
      refine ⟨_, rfl, rfl, w1.rx hrr (fun k hk => by rw [hF2.2.1 8 (fun z => by have := hst _ z; omega)]; exact w1.m k hk), w2, a1.fr (hag _ (by unfold rTp; omega) (by unfold rTp; intros; omega)), a2.fr (hag _ (by unfold rFt; omega) (by unfold rFt; intros; omega)), a3.fr (hag _ (by unfold rRf; omega) (by unfold rRf; intros; omega)), ⟨hN2, hR2⟩, ⟨?_, pk, (by rw [hrr]; exact hpk), fun i y hy => ?_⟩, (by unfold cPm; rw [hrr]; exact a6), a7.fr (hag _ (by unfold rRw; omega) (by unfold rRw; intros; omega)), (by unfold cSd; rw [hF2.2.1 0 (fun z => by have := hst _ z; omega)]; exact a8), a9.fr (hag _ (by unfold rOu; omega) (by unfold rOu; intros; omega)), fun k hk => by rw [hF2.2.1 10 (fun z => by have := hst _ z; omega)]; exact a10 k hk⟩
      · show iX s2 0 18 = nI xs.length
        rw [hF2.1 0 (fun z => by have := hst _ z; omega)]; exact iX_s
      · have hy : xs[i]? = some y := hy
        have hi : i < xs.length := (List.getElem?_eq_some_iff.mp hy).1
        obtain ⟨f1, f2⟩ := hE (i + 1) y (by rw [hc]; exact hy)
        rw [show xs.length + 1 - 1 - (i + 1) = xs.length - 1 - i by omega] at f1 f2
        have hp2 := (hpk.1 (xs.length - 1 - i) (by omega)).1
        show SX s2 (396 + 56 * pk (xs.length - 1 - i)) (tn (gT q)) (fa (gT q)) (ki (gT q)) y.1 ∧ RX s2 o (396 + 56 * pk (xs.length - 1 - i)) y.2
        exact ⟨f1.fr (fun c h1 h2 j _ => by rw [hF2.1 c (fun z => by have := hst _ z; omega), iX_c (by omega)]) hn8, f2.fr (fun c j hc => by rw [hF2.1 c (fun z => by have := hst _ z; omega), iX_c (by omega)]) (fun j => by rw [hrr])⟩
    · skip
      exact absurd h4 (by omega)
theorem px_change {x y : Int32} (hI : IX g M o P ta s q) (hG : GI q) (hGk : GI (keepU q)) : Ct g yX0_change cX0_change 3 (some Jvm.ClassFile.FieldType.boolean) 2 0 0 [.ref o, .int x, .int y] (putX M o s) (QI g M o P ta (changeQ q x y).2 (.int (changeQ q x y).1)) noX := by
  have W := hI.W
  have S := hI.So
  have hg := W.gx
  have hS := W.S
  have hX := W.X
  have hTB := W.B
  have hn8 := hTB.1
  have hH9 := hTB.2.1
  have hN := hI.nw.1
  have hR := hI.nw.2
  have hB : SB (tn (gT q)) (gS q) := hG.2.2.2.2.2.1.1
  refine Ct.of (by decide) (Nat.le_of_ble_eq_true rfl) rfl ?_
  unfold changeQ
  cases hp : pidx x (tH (gT q)) with
  | none =>
    have hp := pidx_none hp
    refine r_ald0 (pc := 0) dX0_change_0 ?_
    refine r_ild1 (pc := 1) dX0_change_1 ?_
    refine r_cV (pc := 2) dX0_change_2 cv_X0_201 (hS.k (c := 0) ow_0 kd_0) (ct_X0_isHouse W) rfl rfl (Nat.le_of_ble_eq_true rfl) (by first | decide | omega) ?_
    rintro _ _ ⟨rfl, rfl⟩
    first | refine r_if_eqZ (pc := 5) (tgt := 45) dX0_change_5 (by decide) (fun h5 => ?_) (fun h5 => ?_) | refine r_if_eqN (pc := 5) (tgt := 45) dX0_change_5 (by decide) (by omega) (fun h5 => ?_) (fun h5 => ?_) | refine r_if_eq (pc := 5) (tgt := 45) dX0_change_5 (by decide) (fun h5 => ?_) (fun h5 => ?_)
    · skip
      refine r_ald0 (pc := 45) dX0_change_45 ?_
      refine r_iconst (v := nI 2) (pc := 46) dX0_change_46 (by decide) ?_
      refine r_cV (pc := 47) dX0_change_47 cv_X0_107 (hS.k (c := 0) ow_0 kd_0) (ct_X0_refuses hS hX (by decide)) rfl rfl (Nat.le_of_ble_eq_true rfl) (by first | decide | omega) ?_
      rintro _ _ ⟨rfl, rfl⟩
      refine r_if_lt (pc := 50) (tgt := 57) dX0_change_50 (by decide) (fun h50 => ?_) (fun h50 => ?_)
      · skip
        refine r_iconst (v := nI 0) (pc := 57) dX0_change_57 (by decide) ?_
        refine r_zret (pc := 58) dX0_change_58 (by first | rfl | exact zI_nar | assumption) ?_
        exact ⟨_, rfl, rfl, hI.ref hG (by decide)⟩
      · skip
        exact absurd (by decide) h50
    · skip
      exact absurd h5 hp
  | some a =>
    obtain ⟨ha, rfl⟩ := pidx_some hp
    cases hk : pidx y (tH (gT q)) with
    | none =>
      have hk := pidx_none hk
      refine r_ald0 (pc := 0) dX0_change_0 ?_
      refine r_ild1 (pc := 1) dX0_change_1 ?_
      refine r_cV (pc := 2) dX0_change_2 cv_X0_201 (hS.k (c := 0) ow_0 kd_0) (ct_X0_isHouse W) rfl rfl (Nat.le_of_ble_eq_true rfl) (by first | decide | omega) ?_
      rintro _ _ ⟨rfl, rfl⟩
      first | refine r_if_eqZ (pc := 5) (tgt := 45) dX0_change_5 (by decide) (fun h5 => ?_) (fun h5 => ?_) | refine r_if_eqN (pc := 5) (tgt := 45) dX0_change_5 (by decide) (by omega) (fun h5 => ?_) (fun h5 => ?_) | refine r_if_eq (pc := 5) (tgt := 45) dX0_change_5 (by decide) (fun h5 => ?_) (fun h5 => ?_)
      · skip
        exact absurd (by rw [nI_toInt (by omega)]; omega) h5
      · skip
        refine r_ald0 (pc := 8) dX0_change_8 ?_
        refine r_ild2 (pc := 9) dX0_change_9 ?_
        refine r_cV (pc := 10) dX0_change_10 cv_X0_201 (hS.k (c := 0) ow_0 kd_0) (ct_X0_isHouse W) rfl rfl (Nat.le_of_ble_eq_true rfl) (by first | decide | omega) ?_
        rintro _ _ ⟨rfl, rfl⟩
        first | refine r_if_eqZ (pc := 13) (tgt := 45) dX0_change_13 (by decide) (fun h13 => ?_) (fun h13 => ?_) | refine r_if_eqN (pc := 13) (tgt := 45) dX0_change_13 (by decide) (by omega) (fun h13 => ?_) (fun h13 => ?_) | refine r_if_eq (pc := 13) (tgt := 45) dX0_change_13 (by decide) (fun h13 => ?_) (fun h13 => ?_)
        · skip
          refine r_ald0 (pc := 45) dX0_change_45 ?_
          refine r_iconst (v := nI 2) (pc := 46) dX0_change_46 (by decide) ?_
          refine r_cV (pc := 47) dX0_change_47 cv_X0_107 (hS.k (c := 0) ow_0 kd_0) (ct_X0_refuses hS hX (by decide)) rfl rfl (Nat.le_of_ble_eq_true rfl) (by first | decide | omega) ?_
          rintro _ _ ⟨rfl, rfl⟩
          refine r_if_lt (pc := 50) (tgt := 57) dX0_change_50 (by decide) (fun h50 => ?_) (fun h50 => ?_)
          · skip
            refine r_iconst (v := nI 0) (pc := 57) dX0_change_57 (by decide) ?_
            refine r_zret (pc := 58) dX0_change_58 (by first | rfl | exact zI_nar | assumption) ?_
            exact ⟨_, rfl, rfl, hI.ref hG (by decide)⟩
          · skip
            exact absurd (by decide) h50
        · skip
          exact absurd h13 hk
    | some b =>
      obtain ⟨hb, rfl⟩ := pidx_some hk
      by_cases hab : a = b ∨ (who (gS q) (tn (gT q)) a = none ∧ who (gS q) (tn (gT q)) b = none)
      · simp only [if_pos hab]
        refine r_ald0 (pc := 0) dX0_change_0 ?_
        refine r_ild1 (pc := 1) dX0_change_1 ?_
        refine r_cV (pc := 2) dX0_change_2 cv_X0_201 (hS.k (c := 0) ow_0 kd_0) (ct_X0_isHouse W) rfl rfl (Nat.le_of_ble_eq_true rfl) (by first | decide | omega) ?_
        rintro _ _ ⟨rfl, rfl⟩
        first | refine r_if_eqZ (pc := 5) (tgt := 45) dX0_change_5 (by decide) (fun h5 => ?_) (fun h5 => ?_) | refine r_if_eqN (pc := 5) (tgt := 45) dX0_change_5 (by decide) (by omega) (fun h5 => ?_) (fun h5 => ?_) | refine r_if_eq (pc := 5) (tgt := 45) dX0_change_5 (by decide) (fun h5 => ?_) (fun h5 => ?_)
        · skip
          exact absurd (by rw [nI_toInt (by omega)]; omega) h5
        · skip
          refine r_ald0 (pc := 8) dX0_change_8 ?_
          refine r_ild2 (pc := 9) dX0_change_9 ?_
          refine r_cV (pc := 10) dX0_change_10 cv_X0_201 (hS.k (c := 0) ow_0 kd_0) (ct_X0_isHouse W) rfl rfl (Nat.le_of_ble_eq_true rfl) (by first | decide | omega) ?_
          rintro _ _ ⟨rfl, rfl⟩
          first | refine r_if_eqZ (pc := 13) (tgt := 45) dX0_change_13 (by decide) (fun h13 => ?_) (fun h13 => ?_) | refine r_if_eqN (pc := 13) (tgt := 45) dX0_change_13 (by decide) (by omega) (fun h13 => ?_) (fun h13 => ?_) | refine r_if_eq (pc := 13) (tgt := 45) dX0_change_13 (by decide) (fun h13 => ?_) (fun h13 => ?_)
          · skip
            exact absurd (by rw [nI_toInt (by omega)]; omega) h13
          · skip
            refine r_ild1 (pc := 16) dX0_change_16 ?_
            refine r_ild2 (pc := 17) dX0_change_17 ?_
            first | refine r_icmp_eqN (pc := 18) (tgt := 45) dX0_change_18 (by decide) (by omega) (by omega) (fun h18 => ?_) (fun h18 => ?_) | refine r_icmp_eq (pc := 18) (tgt := 45) dX0_change_18 (by decide) (fun h18 => ?_) (fun h18 => ?_)
            · skip
              refine r_ald0 (pc := 45) dX0_change_45 ?_
              refine r_iconst (v := nI 2) (pc := 46) dX0_change_46 (by decide) ?_
              refine r_cV (pc := 47) dX0_change_47 cv_X0_107 (hS.k (c := 0) ow_0 kd_0) (ct_X0_refuses hS hX (by decide)) rfl rfl (Nat.le_of_ble_eq_true rfl) (by first | decide | omega) ?_
              rintro _ _ ⟨rfl, rfl⟩
              refine r_if_lt (pc := 50) (tgt := 57) dX0_change_50 (by decide) (fun h50 => ?_) (fun h50 => ?_)
              · skip
                refine r_iconst (v := nI 0) (pc := 57) dX0_change_57 (by decide) ?_
                refine r_zret (pc := 58) dX0_change_58 (by first | rfl | exact zI_nar | assumption) ?_
                exact ⟨_, rfl, rfl, hI.ref hG (by decide)⟩
              · skip
                exact absurd (by decide) h50
            · skip
              have hab := hab.resolve_left h18
              refine r_ald0 (pc := 21) dX0_change_21 ?_
              refine x_getR (c := 0) hS ow_0 kd_0 (pc := 22) dX0_change_22 fl_X0_69 (fx_0_9 hX) ?_
              refine r_ild1 (pc := 25) dX0_change_25 ?_
              refine r_cV (pc := 26) dX0_change_26 cv_X0_204 (hS.k (c := 12) (st_ow isS_12) (st_kd isS_12)) (ct_X5_who hS hX isS_12 hN hB hn8 (by omega)) rfl rfl (Nat.le_of_ble_eq_true rfl) (by first | decide | omega) ?_
              rintro _ _ ⟨rfl, rfl⟩
              rw [hab.1, oI_none]
              refine r_iconst (v := -1) (pc := 29) dX0_change_29 (by decide) ?_
              first | refine r_icmp_neN (pc := 30) (tgt := 59) dX0_change_30 (by decide) (by omega) (by omega) (fun h30 => ?_) (fun h30 => ?_) | refine r_icmp_ne (pc := 30) (tgt := 59) dX0_change_30 (by decide) (fun h30 => ?_) (fun h30 => ?_)
              · skip
                exact absurd rfl h30
              · skip
                refine r_ald0 (pc := 33) dX0_change_33 ?_
                refine x_getR (c := 0) hS ow_0 kd_0 (pc := 34) dX0_change_34 fl_X0_69 (fx_0_9 hX) ?_
                refine r_ild2 (pc := 37) dX0_change_37 ?_
                refine r_cV (pc := 38) dX0_change_38 cv_X0_204 (hS.k (c := 12) (st_ow isS_12) (st_kd isS_12)) (ct_X5_who hS hX isS_12 hN hB hn8 (by omega)) rfl rfl (Nat.le_of_ble_eq_true rfl) (by first | decide | omega) ?_
                rintro _ _ ⟨rfl, rfl⟩
                rw [hab.2, oI_none]
                refine r_iconst (v := -1) (pc := 41) dX0_change_41 (by decide) ?_
                first | refine r_icmp_neN (pc := 42) (tgt := 59) dX0_change_42 (by decide) (by omega) (by omega) (fun h42 => ?_) (fun h42 => ?_) | refine r_icmp_ne (pc := 42) (tgt := 59) dX0_change_42 (by decide) (fun h42 => ?_) (fun h42 => ?_)
                · skip
                  exact absurd rfl h42
                · skip
                  refine r_ald0 (pc := 45) dX0_change_45 ?_
                  refine r_iconst (v := nI 2) (pc := 46) dX0_change_46 (by decide) ?_
                  refine r_cV (pc := 47) dX0_change_47 cv_X0_107 (hS.k (c := 0) ow_0 kd_0) (ct_X0_refuses hS hX (by decide)) rfl rfl (Nat.le_of_ble_eq_true rfl) (by first | decide | omega) ?_
                  rintro _ _ ⟨rfl, rfl⟩
                  refine r_if_lt (pc := 50) (tgt := 57) dX0_change_50 (by decide) (fun h50 => ?_) (fun h50 => ?_)
                  · skip
                    refine r_iconst (v := nI 0) (pc := 57) dX0_change_57 (by decide) ?_
                    refine r_zret (pc := 58) dX0_change_58 (by first | rfl | exact zI_nar | assumption) ?_
                    exact ⟨_, rfl, rfl, hI.ref hG (by decide)⟩
                  · skip
                    exact absurd (by decide) h50
      · simp only [if_neg hab]
        have hne : a ≠ b := fun z => hab (Or.inl z)
        have hww : ¬ (who (gS q) (tn (gT q)) a = none ∧ who (gS q) (tn (gT q)) b = none) := fun z => hab (Or.inr z)
        refine r_ald0 (pc := 0) dX0_change_0 ?_
        refine r_ild1 (pc := 1) dX0_change_1 ?_
        refine r_cV (pc := 2) dX0_change_2 cv_X0_201 (hS.k (c := 0) ow_0 kd_0) (ct_X0_isHouse W) rfl rfl (Nat.le_of_ble_eq_true rfl) (by first | decide | omega) ?_
        rintro _ _ ⟨rfl, rfl⟩
        first | refine r_if_eqZ (pc := 5) (tgt := 45) dX0_change_5 (by decide) (fun h5 => ?_) (fun h5 => ?_) | refine r_if_eqN (pc := 5) (tgt := 45) dX0_change_5 (by decide) (by omega) (fun h5 => ?_) (fun h5 => ?_) | refine r_if_eq (pc := 5) (tgt := 45) dX0_change_5 (by decide) (fun h5 => ?_) (fun h5 => ?_)
        · skip
          exact absurd (by rw [nI_toInt (by omega)]; omega) h5
        · skip
          refine r_ald0 (pc := 8) dX0_change_8 ?_
          refine r_ild2 (pc := 9) dX0_change_9 ?_
          refine r_cV (pc := 10) dX0_change_10 cv_X0_201 (hS.k (c := 0) ow_0 kd_0) (ct_X0_isHouse W) rfl rfl (Nat.le_of_ble_eq_true rfl) (by first | decide | omega) ?_
          rintro _ _ ⟨rfl, rfl⟩
          first | refine r_if_eqZ (pc := 13) (tgt := 45) dX0_change_13 (by decide) (fun h13 => ?_) (fun h13 => ?_) | refine r_if_eqN (pc := 13) (tgt := 45) dX0_change_13 (by decide) (by omega) (fun h13 => ?_) (fun h13 => ?_) | refine r_if_eq (pc := 13) (tgt := 45) dX0_change_13 (by decide) (fun h13 => ?_) (fun h13 => ?_)
          · skip
            exact absurd (by rw [nI_toInt (by omega)]; omega) h13
          · skip
            refine r_ild1 (pc := 16) dX0_change_16 ?_
            refine r_ild2 (pc := 17) dX0_change_17 ?_
            first | refine r_icmp_eqN (pc := 18) (tgt := 45) dX0_change_18 (by decide) (by omega) (by omega) (fun h18 => ?_) (fun h18 => ?_) | refine r_icmp_eq (pc := 18) (tgt := 45) dX0_change_18 (by decide) (fun h18 => ?_) (fun h18 => ?_)
            · skip
              exact absurd h18 hne
            · skip
              refine r_ald0 (pc := 21) dX0_change_21 ?_
              refine x_getR (c := 0) hS ow_0 kd_0 (pc := 22) dX0_change_22 fl_X0_69 (fx_0_9 hX) ?_
              refine r_ild1 (pc := 25) dX0_change_25 ?_
              refine r_cV (pc := 26) dX0_change_26 cv_X0_204 (hS.k (c := 12) (st_ow isS_12) (st_kd isS_12)) (ct_X5_who hS hX isS_12 hN hB hn8 (by omega)) rfl rfl (Nat.le_of_ble_eq_true rfl) (by first | decide | omega) ?_
              rintro _ _ ⟨rfl, rfl⟩
              refine r_iconst (v := -1) (pc := 29) dX0_change_29 (by decide) ?_
              first | refine r_icmp_neN (pc := 30) (tgt := 59) dX0_change_30 (by decide) (by omega) (by omega) (fun h30 => ?_) (fun h30 => ?_) | refine r_icmp_ne (pc := 30) (tgt := 59) dX0_change_30 (by decide) (fun h30 => ?_) (fun h30 => ?_)
              · skip
                refine r_ald0 (pc := 59) dX0_change_59 ?_
                refine r_cV (pc := 60) dX0_change_60 cv_X0_287 (hS.k (c := 0) ow_0 kd_0) (ct_X0_keeps hI hG) rfl rfl (Nat.le_of_ble_eq_true rfl) (by first | decide | omega) ?_
                rintro _ _ ⟨s1, rfl, rfl, hI1⟩
                have hX := hI1.W.X
                have hN1 : SX s1 12 (tn (gT q)) (fa (gT q)) (ki (gT q)) (gS q) := hI1.nw.1
                refine r_ald0 (pc := 63) dX0_change_63 ?_
                refine x_getR (c := 0) hS ow_0 kd_0 (pc := 64) dX0_change_64 fl_X0_69 (fx_0_9 hX) ?_
                refine r_ild1 (pc := 67) dX0_change_67 ?_
                refine r_ild2 (pc := 68) dX0_change_68 ?_
                refine r_cV (pc := 69) dX0_change_69 cv_X0_250 (hS.k (c := 12) (st_ow isS_12) (st_kd isS_12)) (ct_X5_changes hS hX isS_12 hN1 hB hn8 (by omega) (by omega)) rfl rfl (Nat.le_of_ble_eq_true rfl) (by first | decide | omega) ?_
                rintro _ _ ⟨s2, rfl, rfl, hN2, hr2, hF2⟩
                refine r_pop (pc := 72) dX0_change_72 rfl ?_
                refine r_iconst (v := nI 1) (pc := 73) dX0_change_73 (by decide) ?_
                refine r_zret (pc := 74) dX0_change_74 (by first | rfl | exact zI_nar | assumption) ?_
                refine ⟨s2, rfl, rfl, IX.now (L' := gK q) hI1 hGk hN2 ((show RX s1 o 12 (gK q) from hI1.nw.2).fr (fun c j hc => by rw [hF2.1 c (by omega)]) (fun j => by rw [hr2])) (hF2.mono (fun c hc => Or.inl ⟨by omega, by omega⟩)) (by rw [hr2]; exact hX) (fun k hk => by rw [hF2.2.1 8 (by decide)]; exact hI1.W.m k hk)⟩
              · skip
                have hw1 : who (gS q) (tn (gT q)) a = none := by cases hw : who (gS q) (tn (gT q)) a with | none => rfl | some p => rw [hw, oI_some] at h30; exact absurd h30 (nI_m1 (by have := who_lt hw; omega))
                refine r_ald0 (pc := 33) dX0_change_33 ?_
                refine x_getR (c := 0) hS ow_0 kd_0 (pc := 34) dX0_change_34 fl_X0_69 (fx_0_9 hX) ?_
                refine r_ild2 (pc := 37) dX0_change_37 ?_
                refine r_cV (pc := 38) dX0_change_38 cv_X0_204 (hS.k (c := 12) (st_ow isS_12) (st_kd isS_12)) (ct_X5_who hS hX isS_12 hN hB hn8 (by omega)) rfl rfl (Nat.le_of_ble_eq_true rfl) (by first | decide | omega) ?_
                rintro _ _ ⟨rfl, rfl⟩
                refine r_iconst (v := -1) (pc := 41) dX0_change_41 (by decide) ?_
                first | refine r_icmp_neN (pc := 42) (tgt := 59) dX0_change_42 (by decide) (by omega) (by omega) (fun h42 => ?_) (fun h42 => ?_) | refine r_icmp_ne (pc := 42) (tgt := 59) dX0_change_42 (by decide) (fun h42 => ?_) (fun h42 => ?_)
                · skip
                  refine r_ald0 (pc := 59) dX0_change_59 ?_
                  refine r_cV (pc := 60) dX0_change_60 cv_X0_287 (hS.k (c := 0) ow_0 kd_0) (ct_X0_keeps hI hG) rfl rfl (Nat.le_of_ble_eq_true rfl) (by first | decide | omega) ?_
                  rintro _ _ ⟨s1, rfl, rfl, hI1⟩
                  have hX := hI1.W.X
                  have hN1 : SX s1 12 (tn (gT q)) (fa (gT q)) (ki (gT q)) (gS q) := hI1.nw.1
                  refine r_ald0 (pc := 63) dX0_change_63 ?_
                  refine x_getR (c := 0) hS ow_0 kd_0 (pc := 64) dX0_change_64 fl_X0_69 (fx_0_9 hX) ?_
                  refine r_ild1 (pc := 67) dX0_change_67 ?_
                  refine r_ild2 (pc := 68) dX0_change_68 ?_
                  refine r_cV (pc := 69) dX0_change_69 cv_X0_250 (hS.k (c := 12) (st_ow isS_12) (st_kd isS_12)) (ct_X5_changes hS hX isS_12 hN1 hB hn8 (by omega) (by omega)) rfl rfl (Nat.le_of_ble_eq_true rfl) (by first | decide | omega) ?_
                  rintro _ _ ⟨s2, rfl, rfl, hN2, hr2, hF2⟩
                  refine r_pop (pc := 72) dX0_change_72 rfl ?_
                  refine r_iconst (v := nI 1) (pc := 73) dX0_change_73 (by decide) ?_
                  refine r_zret (pc := 74) dX0_change_74 (by first | rfl | exact zI_nar | assumption) ?_
                  refine ⟨s2, rfl, rfl, IX.now (L' := gK q) hI1 hGk hN2 ((show RX s1 o 12 (gK q) from hI1.nw.2).fr (fun c j hc => by rw [hF2.1 c (by omega)]) (fun j => by rw [hr2])) (hF2.mono (fun c hc => Or.inl ⟨by omega, by omega⟩)) (by rw [hr2]; exact hX) (fun k hk => by rw [hF2.2.1 8 (by decide)]; exact hI1.W.m k hk)⟩
                · skip
                  exfalso
                  have hw2 : who (gS q) (tn (gT q)) b = none := by cases hw : who (gS q) (tn (gT q)) b with | none => rfl | some p => rw [hw, oI_some] at h42; exact absurd h42 (nI_m1 (by have := who_lt hw; omega))
                  exact hww ⟨hw1, hw2⟩
theorem px_right {x : Int32} (hI : IX g M o P ta s q) (hG : GI q) (hGk : GI (keepU q)) : Ct g yX0_right cX0_right 2 (some Jvm.ClassFile.FieldType.boolean) 5 0 0 [.ref o, .int x] (putX M o s) (QI g M o P ta (rightQ q x).2 (.int (rightQ q x).1)) noX := by
  have W := hI.W
  have S := hI.So
  have hg := W.gx
  have hS := W.S
  have hX := W.X
  have hTB := W.B
  have hn8 := hTB.1
  have hH9 := hTB.2.1
  have hN := hI.nw.1
  have hR := hI.nw.2
  have hB : SB (tn (gT q)) (gS q) := hG.2.2.2.2.2.1.1
  refine Ct.of (by decide) (Nat.le_of_ble_eq_true rfl) rfl ?_
  unfold rightQ
  cases hp : pidx x (tn (gT q)) with
  | none =>
    have hp := pidx_none hp
    refine r_ald0 (pc := 0) dX0_right_0 ?_
    refine r_ild1 (pc := 1) dX0_right_1 ?_
    refine r_cV (pc := 2) dX0_right_2 cv_X0_161 (hS.k (c := 0) ow_0 kd_0) (ct_X0_isPerson W S) rfl rfl (Nat.le_of_ble_eq_true rfl) (by first | decide | omega) ?_
    rintro _ _ ⟨rfl, rfl⟩
    first | refine r_if_eqZ (pc := 5) (tgt := 32) dX0_right_5 (by decide) (fun h5 => ?_) (fun h5 => ?_) | refine r_if_eqN (pc := 5) (tgt := 32) dX0_right_5 (by decide) (by omega) (fun h5 => ?_) (fun h5 => ?_) | refine r_if_eq (pc := 5) (tgt := 32) dX0_right_5 (by decide) (fun h5 => ?_) (fun h5 => ?_)
    · skip
      refine r_ald0 (pc := 32) dX0_right_32 ?_
      refine r_iconst (v := nI 2) (pc := 33) dX0_right_33 (by decide) ?_
      refine r_cV (pc := 34) dX0_right_34 cv_X0_107 (hS.k (c := 0) ow_0 kd_0) (ct_X0_refuses hS hX (by decide)) rfl rfl (Nat.le_of_ble_eq_true rfl) (by first | decide | omega) ?_
      rintro _ _ ⟨rfl, rfl⟩
      refine r_if_lt (pc := 37) (tgt := 44) dX0_right_37 (by decide) (fun h37 => ?_) (fun h37 => ?_)
      · skip
        refine r_iconst (v := nI 0) (pc := 44) dX0_right_44 (by decide) ?_
        refine r_zret (pc := 45) dX0_right_45 (by first | rfl | exact zI_nar | assumption) ?_
        exact ⟨_, rfl, rfl, hI.ref hG (by decide)⟩
      · skip
        exact absurd (by decide) h37
    · skip
      exact absurd h5 hp
  | some p =>
    obtain ⟨hp1, rfl⟩ := pidx_some hp
    have hl := (hB.2 p hp1).2.1
    have hf := (hTB.2.2.1 p hp1).1
    by_cases he : lk (gS q) p = 10 * fa (gT q) p
    · simp only [if_pos he]
      refine r_ald0 (pc := 0) dX0_right_0 ?_
      refine r_ild1 (pc := 1) dX0_right_1 ?_
      refine r_cV (pc := 2) dX0_right_2 cv_X0_161 (hS.k (c := 0) ow_0 kd_0) (ct_X0_isPerson W S) rfl rfl (Nat.le_of_ble_eq_true rfl) (by first | decide | omega) ?_
      rintro _ _ ⟨rfl, rfl⟩
      first | refine r_if_eqZ (pc := 5) (tgt := 32) dX0_right_5 (by decide) (fun h5 => ?_) (fun h5 => ?_) | refine r_if_eqN (pc := 5) (tgt := 32) dX0_right_5 (by decide) (by omega) (fun h5 => ?_) (fun h5 => ?_) | refine r_if_eq (pc := 5) (tgt := 32) dX0_right_5 (by decide) (fun h5 => ?_) (fun h5 => ?_)
      · skip
        exact absurd (by rw [nI_toInt (by omega)]; omega) h5
      · skip
        refine r_ald0 (pc := 8) dX0_right_8 ?_
        refine x_getR (c := 0) hS ow_0 kd_0 (pc := 9) dX0_right_9 fl_X0_69 (fx_0_9 hX) ?_
        refine x_getRN (c := 12) hS (st_ow isS_12) (st_kd isS_12) (pc := 12) dX0_right_12 (fn_X0_174 hg) (fs_4 hX isS_12) ?_
        refine r_ild1 (pc := 15) dX0_right_15 ?_
        refine x_iald (c := (12 + 2)) hS (st_ow2 isS_12) (st_kd2 isS_12) (st_ln2 isS_12) (pc := 16) dX0_right_16 (by omega) (by omega) ?_
        refine Bd.eqI (hN.2.2.2.1 p hp1) ?_
        refine r_bipush (v := nI 10) (pc := 17) dX0_right_17 (by decide) ?_
        refine r_ald0 (pc := 19) dX0_right_19 ?_
        refine x_getR (c := 0) hS ow_0 kd_0 (pc := 20) dX0_right_20 fl_X0_69 (fx_0_9 hX) ?_
        refine x_getRN (c := 12) hS (st_ow isS_12) (st_kd isS_12) (pc := 23) dX0_right_23 (fn_X0_210 hg) (fs_5 hX isS_12) ?_
        refine r_ild1 (pc := 26) dX0_right_26 ?_
        refine x_iald (c := (12 + 3)) hS (st_ow3 isS_12) (st_kd3 isS_12) (st_ln3 isS_12) (pc := 27) dX0_right_27 (by omega) (by omega) ?_
        refine Bd.eqI (hN.2.2.2.2.1 p hp1) ?_
        first | refine r_imulN (pc := 28) dX0_right_28 ?_ | refine r_imulJ (pc := 28) dX0_right_28 ?_ | refine r_imul (pc := 28) dX0_right_28 ?_
        first | refine r_icmp_neN (pc := 29) (tgt := 46) dX0_right_29 (by decide) (by omega) (by omega) (fun h29 => ?_) (fun h29 => ?_) | refine r_icmp_ne (pc := 29) (tgt := 46) dX0_right_29 (by decide) (fun h29 => ?_) (fun h29 => ?_)
        · skip
          exact absurd he h29
        · skip
          refine r_ald0 (pc := 32) dX0_right_32 ?_
          refine r_iconst (v := nI 2) (pc := 33) dX0_right_33 (by decide) ?_
          refine r_cV (pc := 34) dX0_right_34 cv_X0_107 (hS.k (c := 0) ow_0 kd_0) (ct_X0_refuses hS hX (by decide)) rfl rfl (Nat.le_of_ble_eq_true rfl) (by first | decide | omega) ?_
          rintro _ _ ⟨rfl, rfl⟩
          refine r_if_lt (pc := 37) (tgt := 44) dX0_right_37 (by decide) (fun h37 => ?_) (fun h37 => ?_)
          · skip
            refine r_iconst (v := nI 0) (pc := 44) dX0_right_44 (by decide) ?_
            refine r_zret (pc := 45) dX0_right_45 (by first | rfl | exact zI_nar | assumption) ?_
            exact ⟨_, rfl, rfl, hI.ref hG (by decide)⟩
          · skip
            exact absurd (by decide) h37
    · simp only [if_neg he]
      refine r_ald0 (pc := 0) dX0_right_0 ?_
      refine r_ild1 (pc := 1) dX0_right_1 ?_
      refine r_cV (pc := 2) dX0_right_2 cv_X0_161 (hS.k (c := 0) ow_0 kd_0) (ct_X0_isPerson W S) rfl rfl (Nat.le_of_ble_eq_true rfl) (by first | decide | omega) ?_
      rintro _ _ ⟨rfl, rfl⟩
      first | refine r_if_eqZ (pc := 5) (tgt := 32) dX0_right_5 (by decide) (fun h5 => ?_) (fun h5 => ?_) | refine r_if_eqN (pc := 5) (tgt := 32) dX0_right_5 (by decide) (by omega) (fun h5 => ?_) (fun h5 => ?_) | refine r_if_eq (pc := 5) (tgt := 32) dX0_right_5 (by decide) (fun h5 => ?_) (fun h5 => ?_)
      · skip
        exact absurd (by rw [nI_toInt (by omega)]; omega) h5
      · skip
        refine r_ald0 (pc := 8) dX0_right_8 ?_
        refine x_getR (c := 0) hS ow_0 kd_0 (pc := 9) dX0_right_9 fl_X0_69 (fx_0_9 hX) ?_
        refine x_getRN (c := 12) hS (st_ow isS_12) (st_kd isS_12) (pc := 12) dX0_right_12 (fn_X0_174 hg) (fs_4 hX isS_12) ?_
        refine r_ild1 (pc := 15) dX0_right_15 ?_
        refine x_iald (c := (12 + 2)) hS (st_ow2 isS_12) (st_kd2 isS_12) (st_ln2 isS_12) (pc := 16) dX0_right_16 (by omega) (by omega) ?_
        refine Bd.eqI (hN.2.2.2.1 p hp1) ?_
        refine r_bipush (v := nI 10) (pc := 17) dX0_right_17 (by decide) ?_
        refine r_ald0 (pc := 19) dX0_right_19 ?_
        refine x_getR (c := 0) hS ow_0 kd_0 (pc := 20) dX0_right_20 fl_X0_69 (fx_0_9 hX) ?_
        refine x_getRN (c := 12) hS (st_ow isS_12) (st_kd isS_12) (pc := 23) dX0_right_23 (fn_X0_210 hg) (fs_5 hX isS_12) ?_
        refine r_ild1 (pc := 26) dX0_right_26 ?_
        refine x_iald (c := (12 + 3)) hS (st_ow3 isS_12) (st_kd3 isS_12) (st_ln3 isS_12) (pc := 27) dX0_right_27 (by omega) (by omega) ?_
        refine Bd.eqI (hN.2.2.2.2.1 p hp1) ?_
        first | refine r_imulN (pc := 28) dX0_right_28 ?_ | refine r_imulJ (pc := 28) dX0_right_28 ?_ | refine r_imul (pc := 28) dX0_right_28 ?_
        first | refine r_icmp_neN (pc := 29) (tgt := 46) dX0_right_29 (by decide) (by omega) (by omega) (fun h29 => ?_) (fun h29 => ?_) | refine r_icmp_ne (pc := 29) (tgt := 46) dX0_right_29 (by decide) (fun h29 => ?_) (fun h29 => ?_)
        · skip
          refine r_ald0 (pc := 46) dX0_right_46 ?_
          refine r_cV (pc := 47) dX0_right_47 cv_X0_287 (hS.k (c := 0) ow_0 kd_0) (ct_X0_keeps hI hG) rfl rfl (Nat.le_of_ble_eq_true rfl) (by first | decide | omega) ?_
          rintro _ _ ⟨s1, rfl, rfl, hI1⟩
          have hX := hI1.W.X
          have hN1 : SX s1 12 (tn (gT q)) (fa (gT q)) (ki (gT q)) (gS q) := hI1.nw.1
          refine r_ald0 (pc := 50) dX0_right_50 ?_
          refine x_getR (c := 0) hS ow_0 kd_0 (pc := 51) dX0_right_51 fl_X0_69 (fx_0_9 hX) ?_
          refine x_getRN (c := 12) hS (st_ow isS_12) (st_kd isS_12) (pc := 54) dX0_right_54 (fn_X0_174 hg) (fs_4 hX isS_12) ?_
          refine r_ild1 (pc := 57) dX0_right_57 ?_
          refine r_bipush (v := nI 10) (pc := 58) dX0_right_58 (by decide) ?_
          refine r_ald0 (pc := 60) dX0_right_60 ?_
          refine x_getR (c := 0) hS ow_0 kd_0 (pc := 61) dX0_right_61 fl_X0_69 (fx_0_9 hX) ?_
          refine x_getRN (c := 12) hS (st_ow isS_12) (st_kd isS_12) (pc := 64) dX0_right_64 (fn_X0_210 hg) (fs_5 hX isS_12) ?_
          refine r_ild1 (pc := 67) dX0_right_67 ?_
          refine x_iald (c := (12 + 3)) hS (st_ow3 isS_12) (st_kd3 isS_12) (st_ln3 isS_12) (pc := 68) dX0_right_68 (by omega) (by omega) ?_
          refine Bd.eqI (hN1.2.2.2.2.1 p hp1) ?_
          first | refine r_imulN (pc := 69) dX0_right_69 ?_ | refine r_imulJ (pc := 69) dX0_right_69 ?_ | refine r_imul (pc := 69) dX0_right_69 ?_
          refine x_iast (c := (12 + 2)) hS (st_ow2 isS_12) (st_kd2 isS_12) (st_ln2 isS_12) (pc := 70) dX0_right_70 (by omega) (by omega) ?_
          refine r_iconst (v := nI 1) (pc := 71) dX0_right_71 (by decide) ?_
          refine r_zret (pc := 72) dX0_right_72 (by first | rfl | exact zI_nar | assumption) ?_
          refine ⟨_, rfl, rfl, IX.now (L' := gK q) hI1 hGk hN1.look ((show RX s1 o 12 (gK q) from hI1.nw.2).uI (by omega)) (FrX.uI FrX.rf (Or.inl ⟨by omega, by omega⟩)) hX hI1.W.m⟩
        · skip
          exact absurd h29 he
theorem px_spare {x y : Int32} (hI : IX g M o P ta s q) (hG : GI q) (hGk : GI (keepU q)) : Ct g yX0_spare cX0_spare 3 (some Jvm.ClassFile.FieldType.boolean) 5 0 0 [.ref o, .int x, .int y] (putX M o s) (QI g M o P ta (spareQ q x y).2 (.int (spareQ q x y).1)) noX := by
  have W := hI.W
  have S := hI.So
  have hg := W.gx
  have hS := W.S
  have hX := W.X
  have hTB := W.B
  have hn8 := hTB.1
  have hH9 := hTB.2.1
  have hN := hI.nw.1
  have hR := hI.nw.2
  have hB : SB (tn (gT q)) (gS q) := hG.2.2.2.2.2.1.1
  refine Ct.of (by decide) (Nat.le_of_ble_eq_true rfl) rfl ?_
  unfold spareQ
  cases hp : pidx x (tn (gT q)) with
  | none =>
    have hp := pidx_none hp
    refine r_ald0 (pc := 0) dX0_spare_0 ?_
    refine r_ild1 (pc := 1) dX0_spare_1 ?_
    refine r_cV (pc := 2) dX0_spare_2 cv_X0_161 (hS.k (c := 0) ow_0 kd_0) (ct_X0_isPerson W S) rfl rfl (Nat.le_of_ble_eq_true rfl) (by first | decide | omega) ?_
    rintro _ _ ⟨rfl, rfl⟩
    first | refine r_if_eqZ (pc := 5) (tgt := 39) dX0_spare_5 (by decide) (fun h5 => ?_) (fun h5 => ?_) | refine r_if_eqN (pc := 5) (tgt := 39) dX0_spare_5 (by decide) (by omega) (fun h5 => ?_) (fun h5 => ?_) | refine r_if_eq (pc := 5) (tgt := 39) dX0_spare_5 (by decide) (fun h5 => ?_) (fun h5 => ?_)
    · skip
      refine r_ald0 (pc := 39) dX0_spare_39 ?_
      refine r_iconst (v := nI 2) (pc := 40) dX0_spare_40 (by decide) ?_
      refine r_cV (pc := 41) dX0_spare_41 cv_X0_107 (hS.k (c := 0) ow_0 kd_0) (ct_X0_refuses hS hX (by decide)) rfl rfl (Nat.le_of_ble_eq_true rfl) (by first | decide | omega) ?_
      rintro _ _ ⟨rfl, rfl⟩
      refine r_if_lt (pc := 44) (tgt := 51) dX0_spare_44 (by decide) (fun h44 => ?_) (fun h44 => ?_)
      · skip
        refine r_iconst (v := nI 0) (pc := 51) dX0_spare_51 (by decide) ?_
        refine r_zret (pc := 52) dX0_spare_52 (by first | rfl | exact zI_nar | assumption) ?_
        exact ⟨_, rfl, rfl, hI.ref hG (by decide)⟩
      · skip
        exact absurd (by decide) h44
    · skip
      exact absurd h5 hp
  | some p =>
    obtain ⟨hp1, rfl⟩ := pidx_some hp
    have hl := (hB.2 p hp1).2.2.1
    cases hk : pidx y 2 with
    | none =>
      have hk := pidx_none hk
      refine r_ald0 (pc := 0) dX0_spare_0 ?_
      refine r_ild1 (pc := 1) dX0_spare_1 ?_
      refine r_cV (pc := 2) dX0_spare_2 cv_X0_161 (hS.k (c := 0) ow_0 kd_0) (ct_X0_isPerson W S) rfl rfl (Nat.le_of_ble_eq_true rfl) (by first | decide | omega) ?_
      rintro _ _ ⟨rfl, rfl⟩
      first | refine r_if_eqZ (pc := 5) (tgt := 39) dX0_spare_5 (by decide) (fun h5 => ?_) (fun h5 => ?_) | refine r_if_eqN (pc := 5) (tgt := 39) dX0_spare_5 (by decide) (by omega) (fun h5 => ?_) (fun h5 => ?_) | refine r_if_eq (pc := 5) (tgt := 39) dX0_spare_5 (by decide) (fun h5 => ?_) (fun h5 => ?_)
      · skip
        exact absurd (by rw [nI_toInt (by omega)]; omega) h5
      · skip
        refine r_ild2 (pc := 8) dX0_spare_8 ?_
        refine r_iconst (v := nI 0) (pc := 9) dX0_spare_9 (by decide) ?_
        refine r_iconst (v := nI 1) (pc := 10) dX0_spare_10 (by decide) ?_
        refine r_cS (pc := 11) dX0_spare_11 cs_X0_190 (ct_X0_is (v := y) (a := nI 0) (b := nI 1)) rfl rfl (Nat.le_of_ble_eq_true rfl) (by first | decide | omega) ?_
        rintro _ _ ⟨rfl, rfl⟩
        rw [nI_toInt (n := 0) (by decide), nI_toInt (n := 1) (by decide)]
        first | refine r_if_eqZ (pc := 14) (tgt := 39) dX0_spare_14 (by decide) (fun h14 => ?_) (fun h14 => ?_) | refine r_if_eqN (pc := 14) (tgt := 39) dX0_spare_14 (by decide) (by omega) (fun h14 => ?_) (fun h14 => ?_) | refine r_if_eq (pc := 14) (tgt := 39) dX0_spare_14 (by decide) (fun h14 => ?_) (fun h14 => ?_)
        · skip
          refine r_ald0 (pc := 39) dX0_spare_39 ?_
          refine r_iconst (v := nI 2) (pc := 40) dX0_spare_40 (by decide) ?_
          refine r_cV (pc := 41) dX0_spare_41 cv_X0_107 (hS.k (c := 0) ow_0 kd_0) (ct_X0_refuses hS hX (by decide)) rfl rfl (Nat.le_of_ble_eq_true rfl) (by first | decide | omega) ?_
          rintro _ _ ⟨rfl, rfl⟩
          refine r_if_lt (pc := 44) (tgt := 51) dX0_spare_44 (by decide) (fun h44 => ?_) (fun h44 => ?_)
          · skip
            refine r_iconst (v := nI 0) (pc := 51) dX0_spare_51 (by decide) ?_
            refine r_zret (pc := 52) dX0_spare_52 (by first | rfl | exact zI_nar | assumption) ?_
            exact ⟨_, rfl, rfl, hI.ref hG (by decide)⟩
          · skip
            exact absurd (by decide) h44
        · skip
          exact absurd h14 (by omega)
    | some v =>
      obtain ⟨hv1, rfl⟩ := pidx_some hk
      by_cases he : sp (gS q) p = v
      · simp only [if_pos he]
        refine r_ald0 (pc := 0) dX0_spare_0 ?_
        refine r_ild1 (pc := 1) dX0_spare_1 ?_
        refine r_cV (pc := 2) dX0_spare_2 cv_X0_161 (hS.k (c := 0) ow_0 kd_0) (ct_X0_isPerson W S) rfl rfl (Nat.le_of_ble_eq_true rfl) (by first | decide | omega) ?_
        rintro _ _ ⟨rfl, rfl⟩
        first | refine r_if_eqZ (pc := 5) (tgt := 39) dX0_spare_5 (by decide) (fun h5 => ?_) (fun h5 => ?_) | refine r_if_eqN (pc := 5) (tgt := 39) dX0_spare_5 (by decide) (by omega) (fun h5 => ?_) (fun h5 => ?_) | refine r_if_eq (pc := 5) (tgt := 39) dX0_spare_5 (by decide) (fun h5 => ?_) (fun h5 => ?_)
        · skip
          exact absurd (by rw [nI_toInt (by omega)]; omega) h5
        · skip
          refine r_ild2 (pc := 8) dX0_spare_8 ?_
          refine r_iconst (v := nI 0) (pc := 9) dX0_spare_9 (by decide) ?_
          refine r_iconst (v := nI 1) (pc := 10) dX0_spare_10 (by decide) ?_
          refine r_cS (pc := 11) dX0_spare_11 cs_X0_190 (ct_X0_is (v := nI v) (a := nI 0) (b := nI 1)) rfl rfl (Nat.le_of_ble_eq_true rfl) (by first | decide | omega) ?_
          rintro _ _ ⟨rfl, rfl⟩
          rw [nI_toInt (n := 0) (by decide), nI_toInt (n := 1) (by decide), nI_toInt (n := v) (by omega)]
          first | refine r_if_eqZ (pc := 14) (tgt := 39) dX0_spare_14 (by decide) (fun h14 => ?_) (fun h14 => ?_) | refine r_if_eqN (pc := 14) (tgt := 39) dX0_spare_14 (by decide) (by omega) (fun h14 => ?_) (fun h14 => ?_) | refine r_if_eq (pc := 14) (tgt := 39) dX0_spare_14 (by decide) (fun h14 => ?_) (fun h14 => ?_)
          · skip
            exact absurd (by omega) h14
          · skip
            refine r_ald0 (pc := 17) dX0_spare_17 ?_
            refine x_getR (c := 0) hS ow_0 kd_0 (pc := 18) dX0_spare_18 fl_X0_69 (fx_0_9 hX) ?_
            refine x_getRN (c := 12) hS (st_ow isS_12) (st_kd isS_12) (pc := 21) dX0_spare_21 (fn_X0_177 hg) (fs_7 hX isS_12) ?_
            refine r_ild1 (pc := 24) dX0_spare_24 ?_
            refine x_zald (c := (12 + 5)) hS (st_ow5 isS_12) (st_kd5 isS_12) (st_ln5 isS_12) (pc := 25) dX0_spare_25 (by omega) (by omega) ?_
            refine Bd.eqI (hN.2.2.2.2.2.2.1 p hp1) ?_
            refine r_ild2 (pc := 26) dX0_spare_26 ?_
            refine r_iconst (v := nI 1) (pc := 27) dX0_spare_27 (by decide) ?_
            first | refine r_icmp_neN (pc := 28) (tgt := 35) dX0_spare_28 (by decide) (by omega) (by omega) (fun h28 => ?_) (fun h28 => ?_) | refine r_icmp_ne (pc := 28) (tgt := 35) dX0_spare_28 (by decide) (fun h28 => ?_) (fun h28 => ?_)
            · skip
              refine r_iconst (v := nI 0) (pc := 35) dX0_spare_35 (by decide) ?_
              refine r_icmp_ne (pc := 36) (tgt := 53) dX0_spare_36 (by decide) (fun h36 => ?_) (fun h36 => ?_)
              · skip
                first | exact absurd (by rw [zI_t (by omega)]; rfl) h36 | exact absurd (by rw [zI_f (by omega)]; rfl) h36
              · skip
                refine r_ald0 (pc := 39) dX0_spare_39 ?_
                refine r_iconst (v := nI 2) (pc := 40) dX0_spare_40 (by decide) ?_
                refine r_cV (pc := 41) dX0_spare_41 cv_X0_107 (hS.k (c := 0) ow_0 kd_0) (ct_X0_refuses hS hX (by decide)) rfl rfl (Nat.le_of_ble_eq_true rfl) (by first | decide | omega) ?_
                rintro _ _ ⟨rfl, rfl⟩
                refine r_if_lt (pc := 44) (tgt := 51) dX0_spare_44 (by decide) (fun h44 => ?_) (fun h44 => ?_)
                · skip
                  refine r_iconst (v := nI 0) (pc := 51) dX0_spare_51 (by decide) ?_
                  refine r_zret (pc := 52) dX0_spare_52 (by first | rfl | exact zI_nar | assumption) ?_
                  exact ⟨_, rfl, rfl, hI.ref hG (by decide)⟩
                · skip
                  exact absurd (by decide) h44
            · skip
              refine r_iconst (v := nI 1) (pc := 31) dX0_spare_31 (by decide) ?_
              refine r_goto (pc := 32) (tgt := 36) dX0_spare_32 (by decide) ?_
              refine r_icmp_ne (pc := 36) (tgt := 53) dX0_spare_36 (by decide) (fun h36 => ?_) (fun h36 => ?_)
              · skip
                first | exact absurd (by rw [zI_t (by omega)]; rfl) h36 | exact absurd (by rw [zI_f (by omega)]; rfl) h36
              · skip
                refine r_ald0 (pc := 39) dX0_spare_39 ?_
                refine r_iconst (v := nI 2) (pc := 40) dX0_spare_40 (by decide) ?_
                refine r_cV (pc := 41) dX0_spare_41 cv_X0_107 (hS.k (c := 0) ow_0 kd_0) (ct_X0_refuses hS hX (by decide)) rfl rfl (Nat.le_of_ble_eq_true rfl) (by first | decide | omega) ?_
                rintro _ _ ⟨rfl, rfl⟩
                refine r_if_lt (pc := 44) (tgt := 51) dX0_spare_44 (by decide) (fun h44 => ?_) (fun h44 => ?_)
                · skip
                  refine r_iconst (v := nI 0) (pc := 51) dX0_spare_51 (by decide) ?_
                  refine r_zret (pc := 52) dX0_spare_52 (by first | rfl | exact zI_nar | assumption) ?_
                  exact ⟨_, rfl, rfl, hI.ref hG (by decide)⟩
                · skip
                  exact absurd (by decide) h44
      · simp only [if_neg he]
        refine r_ald0 (pc := 0) dX0_spare_0 ?_
        refine r_ild1 (pc := 1) dX0_spare_1 ?_
        refine r_cV (pc := 2) dX0_spare_2 cv_X0_161 (hS.k (c := 0) ow_0 kd_0) (ct_X0_isPerson W S) rfl rfl (Nat.le_of_ble_eq_true rfl) (by first | decide | omega) ?_
        rintro _ _ ⟨rfl, rfl⟩
        first | refine r_if_eqZ (pc := 5) (tgt := 39) dX0_spare_5 (by decide) (fun h5 => ?_) (fun h5 => ?_) | refine r_if_eqN (pc := 5) (tgt := 39) dX0_spare_5 (by decide) (by omega) (fun h5 => ?_) (fun h5 => ?_) | refine r_if_eq (pc := 5) (tgt := 39) dX0_spare_5 (by decide) (fun h5 => ?_) (fun h5 => ?_)
        · skip
          exact absurd (by rw [nI_toInt (by omega)]; omega) h5
        · skip
          refine r_ild2 (pc := 8) dX0_spare_8 ?_
          refine r_iconst (v := nI 0) (pc := 9) dX0_spare_9 (by decide) ?_
          refine r_iconst (v := nI 1) (pc := 10) dX0_spare_10 (by decide) ?_
          refine r_cS (pc := 11) dX0_spare_11 cs_X0_190 (ct_X0_is (v := nI v) (a := nI 0) (b := nI 1)) rfl rfl (Nat.le_of_ble_eq_true rfl) (by first | decide | omega) ?_
          rintro _ _ ⟨rfl, rfl⟩
          rw [nI_toInt (n := 0) (by decide), nI_toInt (n := 1) (by decide), nI_toInt (n := v) (by omega)]
          first | refine r_if_eqZ (pc := 14) (tgt := 39) dX0_spare_14 (by decide) (fun h14 => ?_) (fun h14 => ?_) | refine r_if_eqN (pc := 14) (tgt := 39) dX0_spare_14 (by decide) (by omega) (fun h14 => ?_) (fun h14 => ?_) | refine r_if_eq (pc := 14) (tgt := 39) dX0_spare_14 (by decide) (fun h14 => ?_) (fun h14 => ?_)
          · skip
            exact absurd (by omega) h14
          · skip
            refine r_ald0 (pc := 17) dX0_spare_17 ?_
            refine x_getR (c := 0) hS ow_0 kd_0 (pc := 18) dX0_spare_18 fl_X0_69 (fx_0_9 hX) ?_
            refine x_getRN (c := 12) hS (st_ow isS_12) (st_kd isS_12) (pc := 21) dX0_spare_21 (fn_X0_177 hg) (fs_7 hX isS_12) ?_
            refine r_ild1 (pc := 24) dX0_spare_24 ?_
            refine x_zald (c := (12 + 5)) hS (st_ow5 isS_12) (st_kd5 isS_12) (st_ln5 isS_12) (pc := 25) dX0_spare_25 (by omega) (by omega) ?_
            refine Bd.eqI (hN.2.2.2.2.2.2.1 p hp1) ?_
            refine r_ild2 (pc := 26) dX0_spare_26 ?_
            refine r_iconst (v := nI 1) (pc := 27) dX0_spare_27 (by decide) ?_
            first | refine r_icmp_neN (pc := 28) (tgt := 35) dX0_spare_28 (by decide) (by omega) (by omega) (fun h28 => ?_) (fun h28 => ?_) | refine r_icmp_ne (pc := 28) (tgt := 35) dX0_spare_28 (by decide) (fun h28 => ?_) (fun h28 => ?_)
            · skip
              refine r_iconst (v := nI 0) (pc := 35) dX0_spare_35 (by decide) ?_
              refine r_icmp_ne (pc := 36) (tgt := 53) dX0_spare_36 (by decide) (fun h36 => ?_) (fun h36 => ?_)
              · skip
                refine r_ald0 (pc := 53) dX0_spare_53 ?_
                refine r_cV (pc := 54) dX0_spare_54 cv_X0_287 (hS.k (c := 0) ow_0 kd_0) (ct_X0_keeps hI hG) rfl rfl (Nat.le_of_ble_eq_true rfl) (by first | decide | omega) ?_
                rintro _ _ ⟨s1, rfl, rfl, hI1⟩
                have hX := hI1.W.X
                have hN1 : SX s1 12 (tn (gT q)) (fa (gT q)) (ki (gT q)) (gS q) := hI1.nw.1
                refine r_ald0 (pc := 57) dX0_spare_57 ?_
                refine x_getR (c := 0) hS ow_0 kd_0 (pc := 58) dX0_spare_58 fl_X0_69 (fx_0_9 hX) ?_
                refine x_getRN (c := 12) hS (st_ow isS_12) (st_kd isS_12) (pc := 61) dX0_spare_61 (fn_X0_177 hg) (fs_7 hX isS_12) ?_
                refine r_ild1 (pc := 64) dX0_spare_64 ?_
                refine r_ild2 (pc := 65) dX0_spare_65 ?_
                refine r_iconst (v := nI 1) (pc := 66) dX0_spare_66 (by decide) ?_
                first | refine r_icmp_neN (pc := 67) (tgt := 74) dX0_spare_67 (by decide) (by omega) (by omega) (fun h67 => ?_) (fun h67 => ?_) | refine r_icmp_ne (pc := 67) (tgt := 74) dX0_spare_67 (by decide) (fun h67 => ?_) (fun h67 => ?_)
                · skip
                  refine r_iconst (v := nI 0) (pc := 74) dX0_spare_74 (by decide) ?_
                  refine x_zast (c := (12 + 5)) hS (st_ow5 isS_12) (st_kd5 isS_12) (st_ln5 isS_12) (pc := 75) dX0_spare_75 (by omega) (by omega) ?_
                  have hnb : ∀ v' : Nat, v' < 2 → vp_nar .boolean (nI v') = nI v' := by decide
                  rw [hnb _ (by decide)]
                  have hv2 : v = 0 ∨ v = 1 := by omega
                  refine r_iconst (v := nI 1) (pc := 76) dX0_spare_76 (by decide) ?_
                  refine r_zret (pc := 77) dX0_spare_77 (by first | rfl | exact zI_nar | assumption) ?_
                  refine ⟨_, rfl, rfl, IX.now (L' := gK q) hI1 hGk (by first | (rw [show v = 1 by omega]; exact hN1.spare (by decide)) | (rw [show v = 0 by omega]; exact hN1.spare (by decide))) ((show RX s1 o 12 (gK q) from hI1.nw.2).uI (by omega)) (FrX.uI FrX.rf (Or.inl ⟨by omega, by omega⟩)) hX hI1.W.m⟩
                · skip
                  refine r_iconst (v := nI 1) (pc := 70) dX0_spare_70 (by decide) ?_
                  refine r_goto (pc := 71) (tgt := 75) dX0_spare_71 (by decide) ?_
                  refine x_zast (c := (12 + 5)) hS (st_ow5 isS_12) (st_kd5 isS_12) (st_ln5 isS_12) (pc := 75) dX0_spare_75 (by omega) (by omega) ?_
                  have hnb : ∀ v' : Nat, v' < 2 → vp_nar .boolean (nI v') = nI v' := by decide
                  rw [hnb _ (by decide)]
                  have hv2 : v = 0 ∨ v = 1 := by omega
                  refine r_iconst (v := nI 1) (pc := 76) dX0_spare_76 (by decide) ?_
                  refine r_zret (pc := 77) dX0_spare_77 (by first | rfl | exact zI_nar | assumption) ?_
                  refine ⟨_, rfl, rfl, IX.now (L' := gK q) hI1 hGk (by first | (rw [show v = 1 by omega]; exact hN1.spare (by decide)) | (rw [show v = 0 by omega]; exact hN1.spare (by decide))) ((show RX s1 o 12 (gK q) from hI1.nw.2).uI (by omega)) (FrX.uI FrX.rf (Or.inl ⟨by omega, by omega⟩)) hX hI1.W.m⟩
              · skip
                first | exact absurd h36 (by rw [zI_t (by omega)]; decide) | exact absurd h36 (by rw [zI_f (by omega)]; decide)
            · skip
              refine r_iconst (v := nI 1) (pc := 31) dX0_spare_31 (by decide) ?_
              refine r_goto (pc := 32) (tgt := 36) dX0_spare_32 (by decide) ?_
              refine r_icmp_ne (pc := 36) (tgt := 53) dX0_spare_36 (by decide) (fun h36 => ?_) (fun h36 => ?_)
              · skip
                refine r_ald0 (pc := 53) dX0_spare_53 ?_
                refine r_cV (pc := 54) dX0_spare_54 cv_X0_287 (hS.k (c := 0) ow_0 kd_0) (ct_X0_keeps hI hG) rfl rfl (Nat.le_of_ble_eq_true rfl) (by first | decide | omega) ?_
                rintro _ _ ⟨s1, rfl, rfl, hI1⟩
                have hX := hI1.W.X
                have hN1 : SX s1 12 (tn (gT q)) (fa (gT q)) (ki (gT q)) (gS q) := hI1.nw.1
                refine r_ald0 (pc := 57) dX0_spare_57 ?_
                refine x_getR (c := 0) hS ow_0 kd_0 (pc := 58) dX0_spare_58 fl_X0_69 (fx_0_9 hX) ?_
                refine x_getRN (c := 12) hS (st_ow isS_12) (st_kd isS_12) (pc := 61) dX0_spare_61 (fn_X0_177 hg) (fs_7 hX isS_12) ?_
                refine r_ild1 (pc := 64) dX0_spare_64 ?_
                refine r_ild2 (pc := 65) dX0_spare_65 ?_
                refine r_iconst (v := nI 1) (pc := 66) dX0_spare_66 (by decide) ?_
                first | refine r_icmp_neN (pc := 67) (tgt := 74) dX0_spare_67 (by decide) (by omega) (by omega) (fun h67 => ?_) (fun h67 => ?_) | refine r_icmp_ne (pc := 67) (tgt := 74) dX0_spare_67 (by decide) (fun h67 => ?_) (fun h67 => ?_)
                · skip
                  refine r_iconst (v := nI 0) (pc := 74) dX0_spare_74 (by decide) ?_
                  refine x_zast (c := (12 + 5)) hS (st_ow5 isS_12) (st_kd5 isS_12) (st_ln5 isS_12) (pc := 75) dX0_spare_75 (by omega) (by omega) ?_
                  have hnb : ∀ v' : Nat, v' < 2 → vp_nar .boolean (nI v') = nI v' := by decide
                  rw [hnb _ (by decide)]
                  have hv2 : v = 0 ∨ v = 1 := by omega
                  refine r_iconst (v := nI 1) (pc := 76) dX0_spare_76 (by decide) ?_
                  refine r_zret (pc := 77) dX0_spare_77 (by first | rfl | exact zI_nar | assumption) ?_
                  refine ⟨_, rfl, rfl, IX.now (L' := gK q) hI1 hGk (by first | (rw [show v = 1 by omega]; exact hN1.spare (by decide)) | (rw [show v = 0 by omega]; exact hN1.spare (by decide))) ((show RX s1 o 12 (gK q) from hI1.nw.2).uI (by omega)) (FrX.uI FrX.rf (Or.inl ⟨by omega, by omega⟩)) hX hI1.W.m⟩
                · skip
                  refine r_iconst (v := nI 1) (pc := 70) dX0_spare_70 (by decide) ?_
                  refine r_goto (pc := 71) (tgt := 75) dX0_spare_71 (by decide) ?_
                  refine x_zast (c := (12 + 5)) hS (st_ow5 isS_12) (st_kd5 isS_12) (st_ln5 isS_12) (pc := 75) dX0_spare_75 (by omega) (by omega) ?_
                  have hnb : ∀ v' : Nat, v' < 2 → vp_nar .boolean (nI v') = nI v' := by decide
                  rw [hnb _ (by decide)]
                  have hv2 : v = 0 ∨ v = 1 := by omega
                  refine r_iconst (v := nI 1) (pc := 76) dX0_spare_76 (by decide) ?_
                  refine r_zret (pc := 77) dX0_spare_77 (by first | rfl | exact zI_nar | assumption) ?_
                  refine ⟨_, rfl, rfl, IX.now (L' := gK q) hI1 hGk (by first | (rw [show v = 1 by omega]; exact hN1.spare (by decide)) | (rw [show v = 0 by omega]; exact hN1.spare (by decide))) ((show RX s1 o 12 (gK q) from hI1.nw.2).uI (by omega)) (FrX.uI FrX.rf (Or.inl ⟨by omega, by omega⟩)) hX hI1.W.m⟩
              · skip
                first | exact absurd h36 (by rw [zI_t (by omega)]; decide) | exact absurd h36 (by rw [zI_f (by omega)]; decide)
theorem xyearsQLoop {n : Nat} (hG : GI q) (hGk : GI (keepU q)) {s0 : XS} (hI0 : IX g M o P ta s0 (keepU q)) : ∀ k i s1 c t1 L1, i + k = n → n ≤ 100 → yr t1 + k ≤ 2000 → SB (tn (gT q)) t1 → YrQ g M o P ta (gT q) 12 s0 t1 L1 s1 →
    Bd g yX0_years cX0_years 4 (some Jvm.ClassFile.FieldType.int) [] 433 0 0 (putX M o s1) 25 [some (.ref o), some (.int (nI n)), some (.int (nI c)), some (.int (nI i))] [] (QI g M o P ta (uNw (keepU q) ((yearsS (gT q) k t1).1, pushes L1 (yearsS (gT q) k t1).2)) (.int (nI (c + (yearsS (gT q) k t1).2.length)))) noX := by
  intro k
  induction k with
  | zero =>
    intro i s1 c t1 L1 hk hn hy hB hQ
    have hS := hQ.1.S
    refine r_ild3 (pc := 25) dX0_years_25 ?_
    refine r_ild1 (pc := 26) dX0_years_26 ?_
    first | refine r_icmp_geN (pc := 27) (tgt := 46) dX0_years_27 (by decide) (by omega) (by omega) (fun h27 => ?_) (fun h27 => ?_) | refine r_icmp_ge (pc := 27) (tgt := 46) dX0_years_27 (by decide) (fun h27 => ?_) (fun h27 => ?_)
    · skip
      refine r_ild2 (pc := 46) dX0_years_46 ?_
      refine r_iret (pc := 47) dX0_years_47 ?_
      exact ⟨s1, rfl, rfl, hQ.now rfl hI0 hGk⟩
    · skip
      exact absurd h27 (by omega)
  | succ k ih =>
    intro i s1 c t1 L1 hk hn hy hB hQ
    have hS := hQ.1.S
    have hX := hQ.1.X
    have e2 : yearsS (gT q) (k + 1) t1 = ((yearsS (gT q) k (yearS (gT q) t1).1).1, (yearS (gT q) t1).2 ++ (yearsS (gT q) k (yearS (gT q) t1).1).2) := rfl
    rw [e2]
    refine r_ild3 (pc := 25) dX0_years_25 ?_
    refine r_ild1 (pc := 26) dX0_years_26 ?_
    first | refine r_icmp_geN (pc := 27) (tgt := 46) dX0_years_27 (by decide) (by omega) (by omega) (fun h27 => ?_) (fun h27 => ?_) | refine r_icmp_ge (pc := 27) (tgt := 46) dX0_years_27 (by decide) (fun h27 => ?_) (fun h27 => ?_)
    · skip
      exact absurd h27 (by omega)
    · skip
      refine r_ild2 (pc := 30) dX0_years_30 ?_
      refine r_ald0 (pc := 31) dX0_years_31 ?_
      refine x_getR (c := 0) hS ow_0 kd_0 (pc := 32) dX0_years_32 fl_X0_69 (fx_0_9 hX) ?_
      refine r_cV (pc := 35) dX0_years_35 cv_X0_247 (hS.k (c := 12) (st_ow isS_12) (st_kd isS_12)) (ct_X5_passes hQ.1 isS_12 hQ.2.1 hQ.2.2.1 hB (by omega)) rfl rfl (Nat.le_of_ble_eq_true rfl) (by first | decide | omega) ?_
      rintro _ _ ⟨s2, rfl, rfl, hQ2⟩
      first | refine r_iaddN (pc := 38) dX0_years_38 ?_ | refine r_iaddJ (pc := 38) dX0_years_38 ?_ | refine r_iadd (pc := 38) dX0_years_38 ?_
      refine r_ist2 (pc := 39) dX0_years_39 ?_
      first | refine r_iinc3N (j := 1) (pc := 40) dX0_years_40 rfl ?_ | refine r_iinc3 (pc := 40) dX0_years_40 ?_
      refine r_goto (pc := 43) (tgt := 25) dX0_years_43 (by decide) ?_
      have := ih (i + 1) s2 (c + (yearS (gT q) t1).2.length) _ _ (by omega) hn (by rw [yearS_yr]; omega) (yearS_SB hB (by omega)) (hQ2.from hQ.2.2.2)
      rw [← pushes_app, Nat.add_assoc, ← List.length_append] at this
      exact this
theorem px_years {x : Int32} (hI : IX g M o P ta s q) (hG : GI q) (hGk : GI (keepU q)) : Ct g yX0_years cX0_years 4 (some Jvm.ClassFile.FieldType.int) 433 0 0 [.ref o, .int x] (putX M o s) (QI g M o P ta (yearsQ q x).2 (.int (yearsQ q x).1)) noX := by
  have W := hI.W
  have S := hI.So
  have hg := W.gx
  have hS := W.S
  have hX := W.X
  have hTB := W.B
  have hn8 := hTB.1
  have hH9 := hTB.2.1
  have hN := hI.nw.1
  have hR := hI.nw.2
  have hB : SB (tn (gT q)) (gS q) := hG.2.2.2.2.2.1.1
  have hy : yr (gS q) ≤ 999 := hG.2.2.2.2.2.1.2.1
  refine Ct.of (by decide) (Nat.le_of_ble_eq_true rfl) rfl ?_
  unfold yearsQ
  by_cases hit : gIt q = true
  · have hH : 0 < tH (gT q) := by have := hG.2.2.2.2.1 hit; omega
    simp only [if_pos hit]
    cases hr : ahd (gS q) x 1 100 with
    | none =>
      have hr := ahd_none hr
      refine r_ald0 (pc := 0) dX0_years_0 ?_
      refine r_ild1 (pc := 1) dX0_years_1 ?_
      refine r_iconst (v := nI 1) (pc := 2) dX0_years_2 (by decide) ?_
      refine r_bipush (v := nI 100) (pc := 3) dX0_years_3 (by decide) ?_
      refine r_cV (pc := 5) dX0_years_5 cv_X0_236 (hS.k (c := 0) ow_0 kd_0) (ct_X0_isAhead W hN.1 hB.1 (by decide) (by decide)) rfl rfl (Nat.le_of_ble_eq_true rfl) (by first | decide | omega) ?_
      rintro _ _ ⟨rfl, rfl⟩
      first | refine r_if_neZ (pc := 8) (tgt := 17) dX0_years_8 (by decide) (fun h8 => ?_) (fun h8 => ?_) | refine r_if_neN (pc := 8) (tgt := 17) dX0_years_8 (by decide) (by omega) (fun h8 => ?_) (fun h8 => ?_) | refine r_if_ne (pc := 8) (tgt := 17) dX0_years_8 (by decide) (fun h8 => ?_) (fun h8 => ?_)
      · skip
        exact absurd h8.2 hr
      · skip
        refine r_ald0 (pc := 11) dX0_years_11 ?_
        refine r_iconst (v := nI 3) (pc := 12) dX0_years_12 (by decide) ?_
        refine r_cV (pc := 13) dX0_years_13 cv_X0_107 (hS.k (c := 0) ow_0 kd_0) (ct_X0_refuses hS hX (by decide)) rfl rfl (Nat.le_of_ble_eq_true rfl) (by first | decide | omega) ?_
        rintro _ _ ⟨rfl, rfl⟩
        refine r_iret (pc := 16) dX0_years_16 ?_
        exact ⟨_, rfl, rfl, hI.ref hG (by decide)⟩
    | some n =>
      obtain ⟨n1, n2, n3, rfl⟩ := ahd_some hr
      refine r_ald0 (pc := 0) dX0_years_0 ?_
      refine r_ild1 (pc := 1) dX0_years_1 ?_
      refine r_iconst (v := nI 1) (pc := 2) dX0_years_2 (by decide) ?_
      refine r_bipush (v := nI 100) (pc := 3) dX0_years_3 (by decide) ?_
      refine r_cV (pc := 5) dX0_years_5 cv_X0_236 (hS.k (c := 0) ow_0 kd_0) (ct_X0_isAhead W hN.1 hB.1 (by decide) (by decide)) rfl rfl (Nat.le_of_ble_eq_true rfl) (by first | decide | omega) ?_
      rintro _ _ ⟨rfl, rfl⟩
      first | refine r_if_neZ (pc := 8) (tgt := 17) dX0_years_8 (by decide) (fun h8 => ?_) (fun h8 => ?_) | refine r_if_neN (pc := 8) (tgt := 17) dX0_years_8 (by decide) (by omega) (fun h8 => ?_) (fun h8 => ?_) | refine r_if_ne (pc := 8) (tgt := 17) dX0_years_8 (by decide) (fun h8 => ?_) (fun h8 => ?_)
      · skip
        refine r_ald0 (pc := 17) dX0_years_17 ?_
        refine r_cV (pc := 18) dX0_years_18 cv_X0_287 (hS.k (c := 0) ow_0 kd_0) (ct_X0_keeps hI hG) rfl rfl (Nat.le_of_ble_eq_true rfl) (by first | decide | omega) ?_
        rintro _ _ ⟨s1, rfl, rfl, hI1⟩
        refine r_iconst (v := nI 0) (pc := 21) dX0_years_21 (by decide) ?_
        refine r_ist2 (pc := 22) dX0_years_22 ?_
        refine r_iconst (v := nI 0) (pc := 23) dX0_years_23 (by decide) ?_
        refine r_ist3 (pc := 24) dX0_years_24 ?_
        have := xyearsQLoop hG hGk hI1 n 0 s1 0 (gS q) (gK q) (by omega) n2 (by omega) hB ⟨hI1.W, hI1.nw.1, hI1.nw.2, FrX.rf⟩
        rw [Nat.zero_add] at this
        exact this
      · skip
        exact absurd (by rw [nI_toInt (by omega)]; omega) h8
  · have hH : tH (gT q) = 0 := (hG.2.2.2.1 (by simpa using hit)).1
    simp only [if_neg hit]
    refine r_ald0 (pc := 0) dX0_years_0 ?_
    refine r_ild1 (pc := 1) dX0_years_1 ?_
    refine r_iconst (v := nI 1) (pc := 2) dX0_years_2 (by decide) ?_
    refine r_bipush (v := nI 100) (pc := 3) dX0_years_3 (by decide) ?_
    refine r_cV (pc := 5) dX0_years_5 cv_X0_236 (hS.k (c := 0) ow_0 kd_0) (ct_X0_isAhead W hN.1 hB.1 (by decide) (by decide)) rfl rfl (Nat.le_of_ble_eq_true rfl) (by first | decide | omega) ?_
    rintro _ _ ⟨rfl, rfl⟩
    first | refine r_if_neZ (pc := 8) (tgt := 17) dX0_years_8 (by decide) (fun h8 => ?_) (fun h8 => ?_) | refine r_if_neN (pc := 8) (tgt := 17) dX0_years_8 (by decide) (by omega) (fun h8 => ?_) (fun h8 => ?_) | refine r_if_ne (pc := 8) (tgt := 17) dX0_years_8 (by decide) (fun h8 => ?_) (fun h8 => ?_)
    · skip
      exact absurd h8.1 (by omega)
    · skip
      refine r_ald0 (pc := 11) dX0_years_11 ?_
      refine r_iconst (v := nI 3) (pc := 12) dX0_years_12 (by decide) ?_
      refine r_cV (pc := 13) dX0_years_13 cv_X0_107 (hS.k (c := 0) ow_0 kd_0) (ct_X0_refuses hS hX (by decide)) rfl rfl (Nat.le_of_ble_eq_true rfl) (by first | decide | omega) ?_
      rintro _ _ ⟨rfl, rfl⟩
      refine r_iret (pc := 16) dX0_years_16 ?_
      exact ⟨_, rfl, rfl, hI.ref hG (by decide)⟩
end X24
