set_option maxRecDepth 100000
/-! THE MODEL: undo, change, years, chance -/
section M13
variable {g : GC} {M : MM} {o : Nat} {s : MS} {M1 : MM} {q : Sg} {T : Te} {t : St} {K : List Ev}
theorem undoLoop {w : Nat} {Q : Option Value → MM → Prop} (hS : ShM g M o) (hw : w < 20)
    (kk : ∀ s', (∀ j, mA s' 55 j = if j < 210 then mA s 72 (210 * w + j) else mA s 55 j) → Fr [] [] [55] [] s s' → Bd g yX6_undo cX6_undo 2 (some Jvm.ClassFile.FieldType.boolean) [] 0 0 0 (putM M o s') 55 [some (.ref o), some (.int (nI 210))] [] Q noX) :
    ∀ (m i : Nat) (s1 : MS), i + m = 210 → (∀ j, mA s1 55 j = if j < i then mA s 72 (210 * w + j) else mA s 55 j) → Fr [] [] [55] [] s s1 → mF s1 74 = nI w → Bd g yX6_undo cX6_undo 2 (some Jvm.ClassFile.FieldType.boolean) [] 0 0 0 (putM M o s1) 21 [some (.ref o), some (.int (nI i))] [] Q noX := by
  intro m
  induction m with
  | zero =>
    intro i s1 hi hj hf h74
    have hi : i = 210 := hi
    subst hi
    refine r_ild1 (pc := 21) dX6_undo_21 ?_
    refine r_sipush (v := nI 210) (pc := 22) dX6_undo_22 (by decide) ?_
    first | refine r_icmp_geN (pc := 25) (tgt := 55) dX6_undo_25 (by decide) (by omega) (by omega) (fun h25 => ?_) (fun h25 => ?_) | refine r_icmp_ge (pc := 25) (tgt := 55) dX6_undo_25 (by decide) (fun h25 => ?_) (fun h25 => ?_)
    · skip
      exact kk s1 hj hf
    · skip
      exact absurd h25 (by omega)
  | succ m ih =>
    intro i s1 hi hj hf h74
    refine r_ild1 (pc := 21) dX6_undo_21 ?_
    refine r_sipush (v := nI 210) (pc := 22) dX6_undo_22 (by decide) ?_
    first | refine r_icmp_geN (pc := 25) (tgt := 55) dX6_undo_25 (by decide) (by omega) (by omega) (fun h25 => ?_) (fun h25 => ?_) | refine r_icmp_ge (pc := 25) (tgt := 55) dX6_undo_25 (by decide) (fun h25 => ?_) (fun h25 => ?_)
    · skip
      exact absurd h25 (by omega)
    · skip
      refine r_ald0 (pc := 28) dX6_undo_28 ?_
      refine m_getR hS (pc := 29) dX6_undo_29 fl_X6_121 ar55 ?_
      refine r_ild1 (pc := 32) dX6_undo_32 ?_
      refine r_ald0 (pc := 33) dX6_undo_33 ?_
      refine m_getR hS (pc := 34) dX6_undo_34 fl_X6_140 ar72 ?_
      refine r_sipush (v := nI 210) (pc := 37) dX6_undo_37 (by decide) ?_
      refine r_ald0 (pc := 40) dX6_undo_40 ?_
      refine m_getI hS (pc := 41) dX6_undo_41 fl_X6_579 ?_
      refine Bd.eqI h74 ?_
      first | refine r_imulN (pc := 44) dX6_undo_44 ?_ | refine r_imulJ (pc := 44) dX6_undo_44 ?_ | refine r_imul (pc := 44) dX6_undo_44 ?_
      refine r_ild1 (pc := 45) dX6_undo_45 ?_
      first | refine r_iaddN (pc := 46) dX6_undo_46 ?_ | refine r_iaddJ (pc := 46) dX6_undo_46 ?_ | refine r_iadd (pc := 46) dX6_undo_46 ?_
      refine m_iald hS (pc := 47) dX6_undo_47 ar72 (by omega) (by omega) ?_
      refine Bd.eqI (congrFun (hf.2.2.1 72 (by decide)) (210 * w + i)) ?_
      refine m_iast hS (pc := 48) dX6_undo_48 ar55 (by omega) (by omega) ?_
      first | refine r_iinc1N (j := 1) (pc := 49) dX6_undo_49 rfl ?_ | refine r_iinc1 (pc := 49) dX6_undo_49 ?_
      refine r_goto (pc := 52) (tgt := 21) dX6_undo_52 (by decide) ?_
      refine ih (i + 1) _ (by omega) (fun j => ?_) (Fr.tA hf (by decide)) h74
      by_cases e : j = i
      · subst e; rw [tA_eq, if_pos (by omega)]
      · rw [tA_ne e, hj j]; by_cases e2 : j < i
        · rw [if_pos e2, if_pos (by omega)]
        · rw [if_neg e2, if_neg (by omega)]
theorem pm_undo (hS : ShM g M o) (hI : IM s q) (hG : GI q) : Ct g yX6_undo cX6_undo 2 (some Jvm.ClassFile.FieldType.boolean) 0 0 0 [.ref o] (putM M o s) (PM M o (undoS q).2 (.int (undoS q).1)) noX := by
  have hn8 := hG.2.2.1.1
  have hL : (gUn q).length ≤ 20 := hG.2.2.2.2.2.2.2.1
  have hI0 := hI
  obtain ⟨a1, a2, a3, a4, a5, ⟨u1, w, hw, u2, u3⟩, a7, a8, a9, a10⟩ := hI
  refine Ct.of (by decide) (Nat.le_of_ble_eq_true rfl) rfl ?_
  unfold undoS
  cases hu : gUn q with
  | nil =>
    rw [hu] at u1
    refine r_ald0 (pc := 0) dX6_undo_0 ?_
    refine m_getI hS (pc := 1) dX6_undo_1 fl_X6_388 ?_
    refine Bd.eqI u1 ?_
    first | refine r_if_neZ (pc := 4) (tgt := 19) dX6_undo_4 (by decide) (fun h4 => ?_) (fun h4 => ?_) | refine r_if_neN (pc := 4) (tgt := 19) dX6_undo_4 (by decide) (by omega) (fun h4 => ?_) (fun h4 => ?_) | refine r_if_ne (pc := 4) (tgt := 19) dX6_undo_4 (by decide) (fun h4 => ?_) (fun h4 => ?_)
    · skip
      exact absurd rfl h4
    · skip
      refine r_ald0 (pc := 7) dX6_undo_7 ?_
      refine m_getR hS (pc := 8) dX6_undo_8 fl_X6_17 ar9 ?_
      refine r_iconst (v := nI 4) (pc := 11) dX6_undo_11 (by decide) ?_
      refine r_dup2 (pc := 12) dX6_undo_12 rfl rfl ?_
      refine m_iald hS (pc := 13) dX6_undo_13 ar9 (by omega) (by omega) ?_
      refine Bd.eqI (a3 4 (by decide)) ?_
      refine r_iconst (v := nI 1) (pc := 14) dX6_undo_14 (by decide) ?_
      first | refine r_iaddN (pc := 15) dX6_undo_15 ?_ | refine r_iaddJ (pc := 15) dX6_undo_15 ?_ | refine r_iadd (pc := 15) dX6_undo_15 ?_
      refine m_iast hS (pc := 16) dX6_undo_16 ar9 (by omega) (by omega) ?_
      refine r_iconst (v := nI 0) (pc := 17) dX6_undo_17 (by decide) ?_
      refine r_zret (pc := 18) dX6_undo_18 (by first | rfl | exact zI_nar | assumption) ?_
      exact ⟨_, rfl, rfl, hI0.ref (by decide) rfl⟩
  | cons x xs =>
    rw [hu] at u1 hL u3
    have hL : xs.length + 1 ≤ 20 := hL
    have u1 : mF s 73 = nI (xs.length + 1) := u1
    have hx0 := u3 0 x rfl
    refine r_ald0 (pc := 0) dX6_undo_0 ?_
    refine m_getI hS (pc := 1) dX6_undo_1 fl_X6_388 ?_
    refine Bd.eqI u1 ?_
    first | refine r_if_neZ (pc := 4) (tgt := 19) dX6_undo_4 (by decide) (fun h4 => ?_) (fun h4 => ?_) | refine r_if_neN (pc := 4) (tgt := 19) dX6_undo_4 (by decide) (by omega) (fun h4 => ?_) (fun h4 => ?_) | refine r_if_ne (pc := 4) (tgt := 19) dX6_undo_4 (by decide) (fun h4 => ?_) (fun h4 => ?_)
    · skip
      refine r_iconst (v := nI 0) (pc := 19) dX6_undo_19 (by decide) ?_
      refine r_ist1 (pc := 20) dX6_undo_20 ?_
      refine undoLoop (s := s) hS hw (fun s' hj hf => ?_) 210 0 s (by omega) (fun j => by rw [if_neg (by omega)]) Fr.rf u2
      have h73 : mF s' 73 = nI (xs.length + 1) := (hf.1 73 (by decide)).trans u1
      have h74 : mF s' 74 = nI w := (hf.1 74 (by decide)).trans u2
      have hfin : IM (tF (tF s' 74 (nI ((w + 20 - 1) % 20))) 73 (nI (xs.length + 1 - 1))) (uUn (uNw q x) xs) := by
        have hf9 : Fr [73, 74] [] [55] [] s (tF (tF s' 74 (nI ((w + 20 - 1) % 20))) 73 (nI (xs.length + 1 - 1))) := Fr.tF (Fr.tF (hf.mono (by decide) (by decide) (by decide) (by decide)) (by decide)) (by decide)
        have hjj : ∀ j, j < 210 → mA s' 55 j = mA s 72 (210 * ((w + 20 - 0) % 20) + j) := fun j hj' => by rw [hj, if_pos hj', show (w + 20 - 0) % 20 = w by omega]
        refine ⟨a1.fr hf9 (by decide), a2.fr hf9 (by decide), a3.fr hf9 (by decide), a4.fr hf9 (by decide) (by decide) (by decide), ⟨RNf.congr hn8 hx0.1 hjj, RKf.congr hx0.2 hjj, (hf9.1 64 (by decide)).trans a5.2.2⟩, ⟨rfl, (w + 20 - 1) % 20, by omega, rfl, fun i z hz => ?_⟩, a7.fr hf9 (by decide), a8.fr hf9 (by decide), a9.fr hf9 (by decide), a10.fr hf9 (by decide)⟩
        have hz : xs[i]? = some z := hz
        have hi : i < xs.length := (List.getElem?_eq_some_iff.mp hz).1
        have hsl : ((w + 20 - 1) % 20 + 20 - i) % 20 = (w + 20 - (i + 1)) % 20 := by omega
        have hj2 : ∀ j, mA (tF (tF s' 74 (nI ((w + 20 - 1) % 20))) 73 (nI (xs.length + 1 - 1))) 72 (210 * (((w + 20 - 1) % 20 + 20 - i) % 20) + j) = mA s 72 (210 * ((w + 20 - (i + 1)) % 20) + j) := fun j => by rw [hsl, hf9.2.2.1 72 (by decide)]
        exact ⟨RNf.congr hn8 (u3 (i + 1) z hz).1 (fun j _ => hj2 j), RKf.congr (u3 (i + 1) z hz).2 (fun j _ => hj2 j)⟩
      refine r_ald0 (pc := 55) dX6_undo_55 ?_
      refine r_ald0 (pc := 56) dX6_undo_56 ?_
      refine m_getI hS (pc := 57) dX6_undo_57 fl_X6_579 ?_
      refine Bd.eqI h74 ?_
      refine r_bipush (v := nI 20) (pc := 60) dX6_undo_60 (by decide) ?_
      refine r_iaddN (pc := 62) dX6_undo_62 ?_
      refine r_iconst (v := nI 1) (pc := 63) dX6_undo_63 (by decide) ?_
      refine r_isubN (pc := 64) dX6_undo_64 (by omega) ?_
      refine r_bipush (v := nI 20) (pc := 65) dX6_undo_65 (by decide) ?_
      refine r_iremN (pc := 67) dX6_undo_67 (by omega) (by omega) (by omega) ?_
      refine m_putI hS (pc := 68) dX6_undo_68 fl_X6_579 fw_X6_74 rfl rfl ?_
      refine r_ald0 (pc := 71) dX6_undo_71 ?_
      refine r_dup (pc := 72) dX6_undo_72 rfl ?_
      refine m_getI hS (pc := 73) dX6_undo_73 fl_X6_388 ?_
      refine Bd.eqI h73 ?_
      refine r_iconst (v := nI 1) (pc := 76) dX6_undo_76 (by decide) ?_
      refine r_isubN (pc := 77) dX6_undo_77 (by omega) ?_
      refine m_putI hS (pc := 78) dX6_undo_78 fl_X6_388 fw_X6_73 rfl rfl ?_
      refine r_iconst (v := nI 1) (pc := 81) dX6_undo_81 (by decide) ?_
      exact r_zret (pc := 82) dX6_undo_82 rfl ⟨_, rfl, rfl, hfin⟩
    · skip
      exact absurd h4 (by omega)
theorem pm_change {x y : Int32} (hS : ShM g M o) (hI : IM s q) (hG : GI q) : Ct g yX6_change cX6_change 3 (some Jvm.ClassFile.FieldType.boolean) 3 0 0 [.ref o, .int x, .int y] (putM M o s) (PM M o (changeQ q x y).2 (.int (changeQ q x y).1)) noX := by
  have hT := hI.2.2.2.1.1
  have hTB := hG.2.2.1
  have hN := hI.2.2.2.2.1.1
  have hB : SB (tn (gT q)) (gS q) := hG.2.2.2.2.2.1.1
  have hn8 := hTB.1
  have hH9 := hTB.2.1
  refine Ct.of (by decide) (Nat.le_of_ble_eq_true rfl) rfl ?_
  unfold changeQ
  cases hp : pidx x (tH (gT q)) with
  | none =>
    have hp := pidx_none hp
    refine r_ald0 (pc := 0) dX6_change_0 ?_
    refine r_ild1 (pc := 1) dX6_change_1 ?_
    refine r_cV (pc := 2) dX6_change_2 cv_X6_516 hS.k (ct_X6_isHouse hS hT.1 hH9 hI.2.2.2.1.2.1 (fun e => (hG.2.2.2.1 e).1)) rfl rfl (Nat.le_of_ble_eq_true rfl) (by decide) ?_
    rintro _ _ ⟨rfl, rfl⟩
    first | refine r_if_eqZ (pc := 5) (tgt := 39) dX6_change_5 (by decide) (fun h5 => ?_) (fun h5 => ?_) | refine r_if_eqN (pc := 5) (tgt := 39) dX6_change_5 (by decide) (by omega) (fun h5 => ?_) (fun h5 => ?_) | refine r_if_eq (pc := 5) (tgt := 39) dX6_change_5 (by decide) (fun h5 => ?_) (fun h5 => ?_)
    · skip
      refine r_ald0 (pc := 39) dX6_change_39 ?_
      refine r_cV (pc := 40) dX6_change_40 cv_X6_582 hS.k (ct_X6_isRefused hS hI) rfl rfl (Nat.le_of_ble_eq_true rfl) (by decide) ?_
      rintro _ _ ⟨s1, rfl, rfl, hI1⟩
      refine r_zret (pc := 43) dX6_change_43 (by first | rfl | exact zI_nar | assumption) ?_
      exact ⟨s1, rfl, rfl, hI1⟩
    · skip
      exact absurd h5 hp
  | some a =>
    obtain ⟨h1, rfl⟩ := pidx_some hp
    have h1' : 0 ≤ (nI a).toInt ∧ (nI a).toInt < (tH (gT q) : Int) := by rw [nI_toInt (by omega)]; omega
    cases hr : pidx y (tH (gT q)) with
    | none =>
      have hr := pidx_none hr
      refine r_ald0 (pc := 0) dX6_change_0 ?_
      refine r_ild1 (pc := 1) dX6_change_1 ?_
      refine r_cV (pc := 2) dX6_change_2 cv_X6_516 hS.k (ct_X6_isHouse hS hT.1 hH9 hI.2.2.2.1.2.1 (fun e => (hG.2.2.2.1 e).1)) rfl rfl (Nat.le_of_ble_eq_true rfl) (by decide) ?_
      rintro _ _ ⟨rfl, rfl⟩
      first | refine r_if_eqZ (pc := 5) (tgt := 39) dX6_change_5 (by decide) (fun h5 => ?_) (fun h5 => ?_) | refine r_if_eqN (pc := 5) (tgt := 39) dX6_change_5 (by decide) (by omega) (fun h5 => ?_) (fun h5 => ?_) | refine r_if_eq (pc := 5) (tgt := 39) dX6_change_5 (by decide) (fun h5 => ?_) (fun h5 => ?_)
      · skip
        exact absurd h1' h5
      · skip
        refine r_ald0 (pc := 8) dX6_change_8 ?_
        refine r_ild2 (pc := 9) dX6_change_9 ?_
        refine r_cV (pc := 10) dX6_change_10 cv_X6_516 hS.k (ct_X6_isHouse hS hT.1 hH9 hI.2.2.2.1.2.1 (fun e => (hG.2.2.2.1 e).1)) rfl rfl (Nat.le_of_ble_eq_true rfl) (by decide) ?_
        rintro _ _ ⟨rfl, rfl⟩
        first | refine r_if_eqZ (pc := 13) (tgt := 39) dX6_change_13 (by decide) (fun h13 => ?_) (fun h13 => ?_) | refine r_if_eqN (pc := 13) (tgt := 39) dX6_change_13 (by decide) (by omega) (fun h13 => ?_) (fun h13 => ?_) | refine r_if_eq (pc := 13) (tgt := 39) dX6_change_13 (by decide) (fun h13 => ?_) (fun h13 => ?_)
        · skip
          refine r_ald0 (pc := 39) dX6_change_39 ?_
          refine r_cV (pc := 40) dX6_change_40 cv_X6_582 hS.k (ct_X6_isRefused hS hI) rfl rfl (Nat.le_of_ble_eq_true rfl) (by decide) ?_
          rintro _ _ ⟨s1, rfl, rfl, hI1⟩
          refine r_zret (pc := 43) dX6_change_43 (by first | rfl | exact zI_nar | assumption) ?_
          exact ⟨s1, rfl, rfl, hI1⟩
        · skip
          exact absurd h13 hr
    | some b =>
      obtain ⟨h2, rfl⟩ := pidx_some hr
      have h2' : 0 ≤ (nI b).toInt ∧ (nI b).toInt < (tH (gT q) : Int) := by rw [nI_toInt (by omega)]; omega
      have hwa : ∀ z, oI (who (gS q) (tn (gT q)) z) = -1 ↔ who (gS q) (tn (gT q)) z = none := fun z => oI_m1 (fun n e => by have := who_lt e; omega)
      have hres : ∀ z : Int32 × Sg, z = (if a = b ∨ (who (gS q) (tn (gT q)) a = none ∧ who (gS q) (tn (gT q)) b = none) then ((0 : Int32), uRf q 2) else (1, uNw (keepU q) (changesS (tn (gT q)) (gS q) a b, gK q))) → Bd g yX6_change cX6_change 3 (some Jvm.ClassFile.FieldType.boolean) [] 3 0 0 (putM M o s) 0 (lvo 3 [.ref o, .int (nI a), .int (nI b)]) [] (PM M o z.2 (.int z.1)) noX := by
        intro z hz
        refine r_ald0 (pc := 0) dX6_change_0 ?_
        refine r_ild1 (pc := 1) dX6_change_1 ?_
        refine r_cV (pc := 2) dX6_change_2 cv_X6_516 hS.k (ct_X6_isHouse hS hT.1 hH9 hI.2.2.2.1.2.1 (fun e => (hG.2.2.2.1 e).1)) rfl rfl (Nat.le_of_ble_eq_true rfl) (by decide) ?_
        rintro _ _ ⟨rfl, rfl⟩
        first | refine r_if_eqZ (pc := 5) (tgt := 39) dX6_change_5 (by decide) (fun h5 => ?_) (fun h5 => ?_) | refine r_if_eqN (pc := 5) (tgt := 39) dX6_change_5 (by decide) (by omega) (fun h5 => ?_) (fun h5 => ?_) | refine r_if_eq (pc := 5) (tgt := 39) dX6_change_5 (by decide) (fun h5 => ?_) (fun h5 => ?_)
        · skip
          exact absurd h1' h5
        · skip
          refine r_ald0 (pc := 8) dX6_change_8 ?_
          refine r_ild2 (pc := 9) dX6_change_9 ?_
          refine r_cV (pc := 10) dX6_change_10 cv_X6_516 hS.k (ct_X6_isHouse hS hT.1 hH9 hI.2.2.2.1.2.1 (fun e => (hG.2.2.2.1 e).1)) rfl rfl (Nat.le_of_ble_eq_true rfl) (by decide) ?_
          rintro _ _ ⟨rfl, rfl⟩
          first | refine r_if_eqZ (pc := 13) (tgt := 39) dX6_change_13 (by decide) (fun h13 => ?_) (fun h13 => ?_) | refine r_if_eqN (pc := 13) (tgt := 39) dX6_change_13 (by decide) (by omega) (fun h13 => ?_) (fun h13 => ?_) | refine r_if_eq (pc := 13) (tgt := 39) dX6_change_13 (by decide) (fun h13 => ?_) (fun h13 => ?_)
          · skip
            exact absurd h2' h13
          · skip
            refine r_ild1 (pc := 16) dX6_change_16 ?_
            refine r_ild2 (pc := 17) dX6_change_17 ?_
            first | refine r_icmp_eqN (pc := 18) (tgt := 39) dX6_change_18 (by decide) (by omega) (by omega) (fun h18 => ?_) (fun h18 => ?_) | refine r_icmp_eq (pc := 18) (tgt := 39) dX6_change_18 (by decide) (fun h18 => ?_) (fun h18 => ?_)
            · skip
              rw [if_pos (Or.inl h18)] at hz; subst hz
              refine r_ald0 (pc := 39) dX6_change_39 ?_
              refine r_cV (pc := 40) dX6_change_40 cv_X6_582 hS.k (ct_X6_isRefused hS hI) rfl rfl (Nat.le_of_ble_eq_true rfl) (by decide) ?_
              rintro _ _ ⟨s1, rfl, rfl, hI1⟩
              refine r_zret (pc := 43) dX6_change_43 (by first | rfl | exact zI_nar | assumption) ?_
              exact ⟨s1, rfl, rfl, hI1⟩
            · skip
              refine r_ald0 (pc := 21) dX6_change_21 ?_
              refine r_ild1 (pc := 22) dX6_change_22 ?_
              refine r_cV (pc := 23) dX6_change_23 cv_X6_406 hS.k (ct_X6_whoIn hS hT.2.1 hn8 hN hB (by omega)) rfl rfl (Nat.le_of_ble_eq_true rfl) (by decide) ?_
              rintro _ _ ⟨rfl, rfl⟩
              refine r_iconst (v := -1) (pc := 26) dX6_change_26 (by decide) ?_
              first | refine r_icmp_neN (pc := 27) (tgt := 44) dX6_change_27 (by decide) (by omega) (by omega) (fun h27 => ?_) (fun h27 => ?_) | refine r_icmp_ne (pc := 27) (tgt := 44) dX6_change_27 (by decide) (fun h27 => ?_) (fun h27 => ?_)
              · skip
                rw [if_neg (fun h => h.elim h18 (fun h => h27 ((hwa a).mpr h.1)))] at hz; subst hz
                refine r_ald0 (pc := 44) dX6_change_44 ?_
                refine r_cV (pc := 45) dX6_change_45 cv_X6_585 hS.k (ct_X6_keeps hS hI hG) rfl rfl (Nat.le_of_ble_eq_true rfl) (by decide) ?_
                rintro _ _ ⟨s1, rfl, rfl, hI1, hf1⟩
                refine r_ald0 (pc := 48) dX6_change_48 ?_
                refine r_ild1 (pc := 49) dX6_change_49 ?_
                refine r_ild2 (pc := 50) dX6_change_50 ?_
                refine r_cV (pc := 51) dX6_change_51 cv_X6_537 hS.k (ct_X6_changes hS hI1.2.2.2.1.1.2.1 hn8 hI1.2.2.2.2.1.1 hB (by omega) (by omega)) rfl rfl (Nat.le_of_ble_eq_true rfl) (by decide) ?_
                rintro _ _ ⟨s2, rfl, rfl, hN2, hj2, hf2⟩
                refine r_iconst (v := nI 1) (pc := 54) dX6_change_54 (by decide) ?_
                refine r_zret (pc := 55) dX6_change_55 (by first | rfl | exact zI_nar | assumption) ?_
                exact ⟨s2, rfl, rfl, hI1.now (hf2.mono (by decide) (by decide) (by decide) (by decide)) hN2 (hI1.2.2.2.2.1.2.1.of hj2)⟩
              · skip
                refine r_ald0 (pc := 30) dX6_change_30 ?_
                refine r_ild2 (pc := 31) dX6_change_31 ?_
                refine r_cV (pc := 32) dX6_change_32 cv_X6_406 hS.k (ct_X6_whoIn hS hT.2.1 hn8 hN hB (by omega)) rfl rfl (Nat.le_of_ble_eq_true rfl) (by decide) ?_
                rintro _ _ ⟨rfl, rfl⟩
                refine r_iconst (v := -1) (pc := 35) dX6_change_35 (by decide) ?_
                first | refine r_icmp_neN (pc := 36) (tgt := 44) dX6_change_36 (by decide) (by omega) (by omega) (fun h36 => ?_) (fun h36 => ?_) | refine r_icmp_ne (pc := 36) (tgt := 44) dX6_change_36 (by decide) (fun h36 => ?_) (fun h36 => ?_)
                · skip
                  rw [if_neg (fun h => h.elim h18 (fun h => h36 ((hwa b).mpr h.2)))] at hz; subst hz
                  refine r_ald0 (pc := 44) dX6_change_44 ?_
                  refine r_cV (pc := 45) dX6_change_45 cv_X6_585 hS.k (ct_X6_keeps hS hI hG) rfl rfl (Nat.le_of_ble_eq_true rfl) (by decide) ?_
                  rintro _ _ ⟨s1, rfl, rfl, hI1, hf1⟩
                  refine r_ald0 (pc := 48) dX6_change_48 ?_
                  refine r_ild1 (pc := 49) dX6_change_49 ?_
                  refine r_ild2 (pc := 50) dX6_change_50 ?_
                  refine r_cV (pc := 51) dX6_change_51 cv_X6_537 hS.k (ct_X6_changes hS hI1.2.2.2.1.1.2.1 hn8 hI1.2.2.2.2.1.1 hB (by omega) (by omega)) rfl rfl (Nat.le_of_ble_eq_true rfl) (by decide) ?_
                  rintro _ _ ⟨s2, rfl, rfl, hN2, hj2, hf2⟩
                  refine r_iconst (v := nI 1) (pc := 54) dX6_change_54 (by decide) ?_
                  refine r_zret (pc := 55) dX6_change_55 (by first | rfl | exact zI_nar | assumption) ?_
                  exact ⟨s2, rfl, rfl, hI1.now (hf2.mono (by decide) (by decide) (by decide) (by decide)) hN2 (hI1.2.2.2.2.1.2.1.of hj2)⟩
                · skip
                  rw [if_pos (Or.inr ⟨(hwa a).mp h27, (hwa b).mp h36⟩)] at hz; subst hz
                  refine r_ald0 (pc := 39) dX6_change_39 ?_
                  refine r_cV (pc := 40) dX6_change_40 cv_X6_582 hS.k (ct_X6_isRefused hS hI) rfl rfl (Nat.le_of_ble_eq_true rfl) (by decide) ?_
                  rintro _ _ ⟨s1, rfl, rfl, hI1⟩
                  refine r_zret (pc := 43) dX6_change_43 (by first | rfl | exact zI_nar | assumption) ?_
                  exact ⟨s1, rfl, rfl, hI1⟩
      exact hres _ rfl
theorem pm_years {x : Int32} (hS : ShM g M o) (hI : IM s q) (hG : GI q) : Ct g yX6_years cX6_years 2 (some Jvm.ClassFile.FieldType.int) 7 0 0 [.ref o, .int x] (putM M o s) (PM M o (yearsQ q x).2 (.int (yearsQ q x).1)) noX := by
  have hT := hI.2.2.2.1.1
  have hTB := hG.2.2.1
  have hN := hI.2.2.2.2.1.1
  have hB : SB (tn (gT q)) (gS q) := hG.2.2.2.2.2.1.1
  have hy : yr (gS q) ≤ 999 := hG.2.2.2.2.2.1.2.1
  have hi := hI.2.2.2.1.2.1
  refine Ct.of (by decide) (Nat.le_of_ble_eq_true rfl) rfl ?_
  unfold yearsQ
  cases hit : gIt q with
  | false =>
    rw [hit] at hi
    rw [if_neg (by decide)]
    refine r_ald0 (pc := 0) dX6_years_0 ?_
    refine m_getI hS (pc := 1) dX6_years_1 fl_X6_375 ?_
    refine Bd.eqI hi ?_
    first | refine r_if_eqZ (pc := 4) (tgt := 18) dX6_years_4 (by decide) (fun h4 => ?_) (fun h4 => ?_) | refine r_if_eqN (pc := 4) (tgt := 18) dX6_years_4 (by decide) (by omega) (fun h4 => ?_) (fun h4 => ?_) | refine r_if_eq (pc := 4) (tgt := 18) dX6_years_4 (by decide) (fun h4 => ?_) (fun h4 => ?_)
    · skip
      refine r_ald0 (pc := 18) dX6_years_18 ?_
      refine r_iconst (v := nI 3) (pc := 19) dX6_years_19 (by decide) ?_
      refine r_cV (pc := 20) dX6_years_20 cv_X6_558 hS.k (ct_X6_refuses hS hI (by decide)) rfl rfl (Nat.le_of_ble_eq_true rfl) (by decide) ?_
      rintro _ _ ⟨s1, rfl, rfl, hI1⟩
      refine r_iret (pc := 23) dX6_years_23 ?_
      exact ⟨s1, rfl, rfl, hI1⟩
    · skip
      exact absurd h4 (by decide)
  | true =>
    rw [hit] at hi
    rw [if_pos rfl]
    cases hr : ahd (gS q) x 1 100 with
    | none =>
      have hr := ahd_none hr
      refine r_ald0 (pc := 0) dX6_years_0 ?_
      refine m_getI hS (pc := 1) dX6_years_1 fl_X6_375 ?_
      refine Bd.eqI hi ?_
      first | refine r_if_eqZ (pc := 4) (tgt := 18) dX6_years_4 (by decide) (fun h4 => ?_) (fun h4 => ?_) | refine r_if_eqN (pc := 4) (tgt := 18) dX6_years_4 (by decide) (by omega) (fun h4 => ?_) (fun h4 => ?_) | refine r_if_eq (pc := 4) (tgt := 18) dX6_years_4 (by decide) (fun h4 => ?_) (fun h4 => ?_)
      · skip
        exact absurd rfl h4
      · skip
        refine r_ald0 (pc := 7) dX6_years_7 ?_
        refine r_ild1 (pc := 8) dX6_years_8 ?_
        refine r_iconst (v := nI 1) (pc := 9) dX6_years_9 (by decide) ?_
        refine r_bipush (v := nI 100) (pc := 10) dX6_years_10 (by decide) ?_
        refine r_cV (pc := 12) dX6_years_12 cv_X6_524 hS.k (ct_X6_isAhead hS hN.1 (by omega) (by decide) (by decide)) rfl rfl (Nat.le_of_ble_eq_true rfl) (by decide) ?_
        rintro _ _ ⟨rfl, rfl⟩
        first | refine r_if_neZ (pc := 15) (tgt := 24) dX6_years_15 (by decide) (fun h15 => ?_) (fun h15 => ?_) | refine r_if_neN (pc := 15) (tgt := 24) dX6_years_15 (by decide) (by omega) (fun h15 => ?_) (fun h15 => ?_) | refine r_if_ne (pc := 15) (tgt := 24) dX6_years_15 (by decide) (fun h15 => ?_) (fun h15 => ?_)
        · skip
          exact absurd h15 hr
        · skip
          refine r_ald0 (pc := 18) dX6_years_18 ?_
          refine r_iconst (v := nI 3) (pc := 19) dX6_years_19 (by decide) ?_
          refine r_cV (pc := 20) dX6_years_20 cv_X6_558 hS.k (ct_X6_refuses hS hI (by decide)) rfl rfl (Nat.le_of_ble_eq_true rfl) (by decide) ?_
          rintro _ _ ⟨s1, rfl, rfl, hI1⟩
          refine r_iret (pc := 23) dX6_years_23 ?_
          exact ⟨s1, rfl, rfl, hI1⟩
    | some n =>
      obtain ⟨n1, n2, n3, rfl⟩ := ahd_some hr
      refine r_ald0 (pc := 0) dX6_years_0 ?_
      refine m_getI hS (pc := 1) dX6_years_1 fl_X6_375 ?_
      refine Bd.eqI hi ?_
      first | refine r_if_eqZ (pc := 4) (tgt := 18) dX6_years_4 (by decide) (fun h4 => ?_) (fun h4 => ?_) | refine r_if_eqN (pc := 4) (tgt := 18) dX6_years_4 (by decide) (by omega) (fun h4 => ?_) (fun h4 => ?_) | refine r_if_eq (pc := 4) (tgt := 18) dX6_years_4 (by decide) (fun h4 => ?_) (fun h4 => ?_)
      · skip
        exact absurd rfl h4
      · skip
        refine r_ald0 (pc := 7) dX6_years_7 ?_
        refine r_ild1 (pc := 8) dX6_years_8 ?_
        refine r_iconst (v := nI 1) (pc := 9) dX6_years_9 (by decide) ?_
        refine r_bipush (v := nI 100) (pc := 10) dX6_years_10 (by decide) ?_
        refine r_cV (pc := 12) dX6_years_12 cv_X6_524 hS.k (ct_X6_isAhead hS hN.1 (by omega) (by decide) (by decide)) rfl rfl (Nat.le_of_ble_eq_true rfl) (by decide) ?_
        rintro _ _ ⟨rfl, rfl⟩
        first | refine r_if_neZ (pc := 15) (tgt := 24) dX6_years_15 (by decide) (fun h15 => ?_) (fun h15 => ?_) | refine r_if_neN (pc := 15) (tgt := 24) dX6_years_15 (by decide) (by omega) (fun h15 => ?_) (fun h15 => ?_) | refine r_if_ne (pc := 15) (tgt := 24) dX6_years_15 (by decide) (fun h15 => ?_) (fun h15 => ?_)
        · skip
          refine r_ald0 (pc := 24) dX6_years_24 ?_
          refine r_cV (pc := 25) dX6_years_25 cv_X6_585 hS.k (ct_X6_keeps hS hI hG) rfl rfl (Nat.le_of_ble_eq_true rfl) (by decide) ?_
          rintro _ _ ⟨s1, rfl, rfl, hI1, hf1⟩
          have hI2 : IM (tF s1 65 (nI 0)) (keepU q) := hI1.fr (fs := [65]) (gs := []) (as := []) (bs := []) (Fr.tF Fr.rf (by decide)) (by decide) (by decide) (by decide) (by decide)
          refine r_ald0 (pc := 28) dX6_years_28 ?_
          refine r_iconst (v := nI 0) (pc := 29) dX6_years_29 (by decide) ?_
          refine m_putI hS (pc := 30) dX6_years_30 fl_X6_477 fw_X6_65 rfl rfl ?_
          refine r_ald0 (pc := 33) dX6_years_33 ?_
          refine r_ild1 (pc := 34) dX6_years_34 ?_
          refine r_cV (pc := 35) dX6_years_35 cv_X6_531 hS.k (ct_X6_yearsGo (T := gT q) (t := gS q) (K := gK q) (tb := false) hS hI2.2.2.2.1.1 hTB hI2.2.2.2.2.1.1 hB hI2.2.2.2.2.1.2.1 hI2.2.2.2.2.1.2.2 (by omega) (by omega)) rfl rfl (Nat.le_of_ble_eq_true rfl) (by decide) ?_
          rintro _ _ ⟨s2, rfl, rfl, hY⟩
          refine r_ald0 (pc := 38) dX6_years_38 ?_
          refine m_getI hS (pc := 39) dX6_years_39 fl_X6_477 ?_
          refine Bd.eqI (x' := nI (yearsS (gT q) n (gS q)).2.length) (by rw [hY.2.2.1]; show nI 0 + _ = _; rw [nI_add, Nat.zero_add]) ?_
          refine r_iret (pc := 42) dX6_years_42 ?_
          exact ⟨s2, rfl, rfl, hI2.now hY.2.2.2 hY.1 hY.2.1⟩
        · skip
          exact absurd (by rw [nI_toInt (by omega)]; omega) h15
theorem ct_X6_drawOf {d m : Nat} (hS : ShM g M o) (hd : mG s 75 = lI d) (hd2 : d < 2147483648) (hm : 0 < m ∧ m ≤ 100) : Ct g yX6_drawOf cX6_drawOf 2 (some Jvm.ClassFile.FieldType.int) 0 0 0 [.ref o, .int (nI m)] (putM M o s) (PQ (putM M o (tG s 75 (lI (lcg d)))) (.int (nI (lcg d / 64 % m)))) noX := by
  have h1 : ((1103515245 : Int) * (d : Int) + 12345).tmod 2147483648 = ((lcg d : Nat) : Int) := by
    rw [show (1103515245 : Int) * (d : Int) + 12345 = ((1103515245 * d + 12345 : Nat) : Int) by omega]
    exact (Int.ofNat_tmod _ _).symm
  have h2 : (((lcg d : Nat) : Int).tdiv 64).tmod (m : Int) = ((lcg d / 64 % m : Nat) : Int) := by
    rw [show (64 : Int) = ((64 : Nat) : Int) from rfl, ← Int.ofNat_tdiv, ← Int.ofNat_tmod]
  have hl : lcg d < 2147483648 := Nat.mod_lt _ (by decide)
  have hb : b62 (((lcg d : Nat) : Int).tdiv 64) := tdiv_b ⟨by omega, by omega⟩
  refine Ct.of (by decide) (Nat.le_of_ble_eq_true rfl) rfl ?_
  refine r_ald0 (pc := 0) dX6_drawOf_0 ?_
  refine r_ldc2 (v := lI (1103515245)) (pc := 1) dX6_drawOf_1 q2431 ?_
  refine r_ald0 (pc := 4) dX6_drawOf_4 ?_
  refine m_getL hS (pc := 5) dX6_drawOf_5 fl_X6_143 ?_
  refine Bd.eqL hd ?_
  first | refine r_lmulI (pc := 8) dX6_drawOf_8 ?_ | refine r_lmul (pc := 8) dX6_drawOf_8 ?_
  refine r_ldc2 (v := lI (12345)) (pc := 9) dX6_drawOf_9 q2432 ?_
  first | refine r_laddI (pc := 12) dX6_drawOf_12 ?_ | refine r_ladd (pc := 12) dX6_drawOf_12 ?_
  refine r_ldc2 (v := lI (2147483648)) (pc := 13) dX6_drawOf_13 q2433 ?_
  first | refine r_lremI (pc := 16) dX6_drawOf_16 (by omega) (by constructor <;> omega) (by constructor <;> omega) ?_ | refine r_lrem (pc := 16) dX6_drawOf_16 (by first | assumption | decide) ?_
  refine Bd.eqL (x' := lI (lcg d : Int)) (by rw [h1]) ?_
  refine m_putL hS (pc := 17) dX6_drawOf_17 fl_X6_143 fw_X6_75 ?_
  refine r_ald0 (pc := 20) dX6_drawOf_20 ?_
  refine m_getL hS (pc := 21) dX6_drawOf_21 fl_X6_143 ?_
  refine Bd.eqL (x' := lI (lcg d : Int)) rfl ?_
  refine r_ldc2 (v := lI (64)) (pc := 24) dX6_drawOf_24 q2434 ?_
  first | refine r_ldivI (pc := 27) dX6_drawOf_27 (by omega) (by constructor <;> omega) (by constructor <;> omega) ?_ | refine r_ldiv (pc := 27) dX6_drawOf_27 (by first | assumption | decide) ?_
  refine r_ild1 (pc := 28) dX6_drawOf_28 ?_
  first | refine r_i2lM (pc := 29) dX6_drawOf_29 (by omega) ?_ | refine r_i2lI (pc := 29) dX6_drawOf_29 (by constructor <;> omega) ?_ | refine r_i2lT (pc := 29) dX6_drawOf_29 ?_
  refine r_lremI (pc := 30) dX6_drawOf_30 (by omega) hb (by constructor <;> omega) ?_
  refine Bd.eqL (x' := lI ((lcg d / 64 % m : Nat) : Int)) (by rw [h2]) ?_
  first | refine r_l2iN (pc := 31) dX6_drawOf_31 ?_ | refine r_l2iI (pc := 31) dX6_drawOf_31 ?_ | refine r_l2i (pc := 31) dX6_drawOf_31 ?_
  refine r_iret (pc := 32) dX6_drawOf_32 ?_
  exact ⟨rfl, rfl⟩
end M13
