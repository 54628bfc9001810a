set_option maxRecDepth 100000
/-! THE MODEL: feuds counted, has, feud, curtain -/
theorem who_out {t : St} {n h : Nat} (hh : ∀ p, p < n → hs t p < h) : who t n h = none := ff_none n 0 (fun j _ hj => by have := hh j (by omega); exact beq_eq_false_iff_ne.mpr (by omega))
theorem feudAt_out {T : Te} {t : St} {h : Nat} (hh : ∀ p, p < tn T → hs t p < h + 1) : feudAtS T t h = none := by
  unfold feudAtS
  rw [who_out hh]
  cases who t (tn T) h <;> rfl
theorem cnt_t {f : Nat → Bool} {n : Nat} (h : f n = true) : cnt f (n + 1) = cnt f n + 1 := by show _ + _ = _; rw [if_pos h]
theorem cnt_f {f : Nat → Bool} {n : Nat} (h : f n = false) : cnt f (n + 1) = cnt f n := by show _ + _ = _; rw [if_neg (by rw [h]; decide), Nat.add_zero]
theorem fI_1 {o : Option Bool} : fI o = nI 1 ↔ o = some true := by
  cases o with
  | none => exact ⟨fun h => absurd h (by decide), fun h => by cases h⟩
  | some b => cases b with
    | false => exact ⟨fun h => absurd h (by decide), fun h => by cases h⟩
    | true => exact ⟨fun _ => rfl, fun _ => rfl⟩
section M15
variable {g : GC} {M : MM} {o : Nat} {s : MS} {M1 : MM} {q : Sg} {T : Te} {t : St} {K : List Ev}
theorem feudLoop (hS : ShM g M o) (hT : RT s T) (hTB : TB T) (hN : RN s (tn T) t) (hB : SB (tn T) t) (hhs : ∀ p, p < tn T → hs t p < tH T) :
    ∀ (k i : Nat) (s1 : MS), i + k = tH T - 1 → Fr cdF [] [] [107] s s1 → Bd g yX6_feudMany cX6_feudMany 3 (some Jvm.ClassFile.FieldType.int) [] 5 0 0 (putM M o s1) 4 [some (.ref o), some (.int (nI (cnt (fun h => feudAtS T t h == some true) i))), some (.int (nI i))] [] (QM M o (fun r s' => r = some (.int (nI (cnt (fun h => feudAtS T t h == some true) (tH T)))) ∧ Fr cdF [] [] [107] s s')) noX := by
  have hH9 := hTB.2.1
  intro k
  induction k with
  | zero =>
    intro i s1 hi hf
    have hi : i = tH T - 1 := hi
    have hT1 : RT s1 T := hT.fr hf (by decide) (by decide)
    have hc : cnt (fun h => feudAtS T t h == some true) (tH T) = cnt (fun h => feudAtS T t h == some true) i := by
      cases hH : tH T with
      | zero => rw [hi, hH]
      | succ m =>
        have hm : i = m := by omega
        subst hm
        exact cnt_f (beq_eq_false_iff_ne.mpr (by rw [feudAt_out (T := T) (t := t) (h := i) (fun p hp => by have := hhs p hp; omega)]; intro h; cases h))
    rw [hc]
    refine r_ild2 (pc := 4) dX6_feudMany_4 ?_
    refine r_iconst (v := nI 1) (pc := 5) dX6_feudMany_5 (by decide) ?_
    first | refine r_iaddN (pc := 6) dX6_feudMany_6 ?_ | refine r_iaddJ (pc := 6) dX6_feudMany_6 ?_ | refine r_iadd (pc := 6) dX6_feudMany_6 ?_
    refine r_ald0 (pc := 7) dX6_feudMany_7 ?_
    refine m_getI hS (pc := 8) dX6_feudMany_8 fl_X6_379 ?_
    refine Bd.eqI hT1.1 ?_
    first | refine r_icmp_geN (pc := 11) (tgt := 32) dX6_feudMany_11 (by decide) (by omega) (by omega) (fun h11 => ?_) (fun h11 => ?_) | refine r_icmp_ge (pc := 11) (tgt := 32) dX6_feudMany_11 (by decide) (fun h11 => ?_) (fun h11 => ?_)
    · skip
      refine r_ild1 (pc := 32) dX6_feudMany_32 ?_
      refine r_iret (pc := 33) dX6_feudMany_33 ?_
      exact ⟨s1, rfl, rfl, hf⟩
    · skip
      exact absurd h11 (by omega)
  | succ k ih =>
    intro i s1 hi hf
    have hT1 : RT s1 T := hT.fr hf (by decide) (by decide)
    have hN1 := hN.fr hf (by decide)
    refine r_ild2 (pc := 4) dX6_feudMany_4 ?_
    refine r_iconst (v := nI 1) (pc := 5) dX6_feudMany_5 (by decide) ?_
    first | refine r_iaddN (pc := 6) dX6_feudMany_6 ?_ | refine r_iaddJ (pc := 6) dX6_feudMany_6 ?_ | refine r_iadd (pc := 6) dX6_feudMany_6 ?_
    refine r_ald0 (pc := 7) dX6_feudMany_7 ?_
    refine m_getI hS (pc := 8) dX6_feudMany_8 fl_X6_379 ?_
    refine Bd.eqI hT1.1 ?_
    first | refine r_icmp_geN (pc := 11) (tgt := 32) dX6_feudMany_11 (by decide) (by omega) (by omega) (fun h11 => ?_) (fun h11 => ?_) | refine r_icmp_ge (pc := 11) (tgt := 32) dX6_feudMany_11 (by decide) (fun h11 => ?_) (fun h11 => ?_)
    · skip
      exact absurd h11 (by omega)
    · skip
      refine r_ald0 (pc := 14) dX6_feudMany_14 ?_
      refine r_ild2 (pc := 15) dX6_feudMany_15 ?_
      refine r_cV (pc := 16) dX6_feudMany_16 cv_X6_499 hS.k (ct_X6_feudAt hS hT1 hTB hN1 hB (by omega)) rfl rfl (Nat.le_of_ble_eq_true rfl) (by decide) ?_
      rintro _ _ ⟨s2, rfl, rfl, hf2⟩
      have hih := ih (i + 1) s2 (by omega) (hf.trans hf2)
      refine r_iconst (v := nI 1) (pc := 19) dX6_feudMany_19 (by decide) ?_
      refine r_icmp_ne (pc := 20) (tgt := 26) dX6_feudMany_20 (by decide) (fun h20 => ?_) (fun h20 => ?_)
      · skip
        have hc := cnt_f (f := fun h => feudAtS T t h == some true) (n := i) (beq_eq_false_iff_ne.mpr (fun e => h20 (fI_1.mpr e)))
        rw [hc] at hih
        first | refine r_iinc2N (j := 1) (pc := 26) dX6_feudMany_26 rfl ?_ | refine r_iinc2 (pc := 26) dX6_feudMany_26 ?_
        refine r_goto (pc := 29) (tgt := 4) dX6_feudMany_29 (by decide) ?_
        exact hih
      · skip
        have hc := cnt_t (f := fun h => feudAtS T t h == some true) (n := i) (beq_iff_eq.mpr (fI_1.mp h20))
        rw [hc] at hih
        first | refine r_iinc1N (j := 1) (pc := 23) dX6_feudMany_23 rfl ?_ | refine r_iinc1 (pc := 23) dX6_feudMany_23 ?_
        first | refine r_iinc2N (j := 1) (pc := 26) dX6_feudMany_26 rfl ?_ | refine r_iinc2 (pc := 26) dX6_feudMany_26 ?_
        refine r_goto (pc := 29) (tgt := 4) dX6_feudMany_29 (by decide) ?_
        exact hih
theorem ct_X6_feudMany (hS : ShM g M o) (hT : RT s T) (hTB : TB T) (hN : RN s (tn T) t) (hB : SB (tn T) t) (hhs : ∀ p, p < tn T → hs t p < tH T) : Ct g yX6_feudMany cX6_feudMany 3 (some Jvm.ClassFile.FieldType.int) 5 0 0 [.ref o] (putM M o s) (QM M o (fun r s' => r = some (.int (nI (cnt (fun h => feudAtS T t h == some true) (tH T)))) ∧ Fr cdF [] [] [107] s s')) noX := by
  refine Ct.of (by decide) (Nat.le_of_ble_eq_true rfl) rfl ?_
  refine r_iconst (v := nI 0) (pc := 0) dX6_feudMany_0 (by decide) ?_
  refine r_ist1 (pc := 1) dX6_feudMany_1 ?_
  refine r_iconst (v := nI 0) (pc := 2) dX6_feudMany_2 (by decide) ?_
  refine r_ist2 (pc := 3) dX6_feudMany_3 ?_
  exact feudLoop hS hT hTB hN hB hhs (tH T - 1) 0 s (by omega) Fr.rf
theorem pm_feud {x : Int32} (hS : ShM g M o) (hI : IM s q) (hG : GI q) : Ct g yX6_feud cX6_feud 2 (some Jvm.ClassFile.FieldType.int) 5 0 0 [.ref o, .int x] (putM M o s) (PM M o q (.int (feudQ q x))) noX := by
  have hT := hI.2.2.2.1.1
  have hTB := hG.2.2.1
  have hN := hI.2.2.2.2.1.1
  have hB : SB (tn (gT q)) (gS q) := hG.2.2.2.2.2.1.1
  have hhs : ∀ p, p < tn (gT q) → hs (gS q) p < tH (gT q) := hG.2.2.2.2.2.1.2.2.1
  have hn8 := hTB.1
  have hH9 := hTB.2.1
  refine Ct.of (by decide) (Nat.le_of_ble_eq_true rfl) rfl ?_
  unfold feudQ
  cases hp : pidx x (tH (gT q)) with
  | none =>
    have hp := pidx_none hp
    refine r_ald0 (pc := 0) dX6_feud_0 ?_
    refine r_ild1 (pc := 1) dX6_feud_1 ?_
    refine r_cV (pc := 2) dX6_feud_2 cv_X6_516 hS.k (ct_X6_isHouse hS hT.1 hH9 hI.2.2.2.1.2.1 (fun e => (hG.2.2.2.1 e).1)) rfl rfl (Nat.le_of_ble_eq_true rfl) (by decide) ?_
    rintro _ _ ⟨rfl, rfl⟩
    first | refine r_if_eqZ (pc := 5) (tgt := 26) dX6_feud_5 (by decide) (fun h5 => ?_) (fun h5 => ?_) | refine r_if_eqN (pc := 5) (tgt := 26) dX6_feud_5 (by decide) (by omega) (fun h5 => ?_) (fun h5 => ?_) | refine r_if_eq (pc := 5) (tgt := 26) dX6_feud_5 (by decide) (fun h5 => ?_) (fun h5 => ?_)
    · skip
      refine r_iconst (v := -1) (pc := 26) dX6_feud_26 (by decide) ?_
      refine r_iret (pc := 27) dX6_feud_27 ?_
      exact ⟨s, rfl, rfl, hI⟩
    · skip
      exact absurd h5 hp
  | some i =>
    obtain ⟨hi, rfl⟩ := pidx_some hp
    show Bd g yX6_feud cX6_feud 2 (some Jvm.ClassFile.FieldType.int) [] 5 0 0 _ _ _ _ (PM M o q (.int (fI (feudAtS (gT q) (gS q) i)))) noX
    refine r_ald0 (pc := 0) dX6_feud_0 ?_
    refine r_ild1 (pc := 1) dX6_feud_1 ?_
    refine r_cV (pc := 2) dX6_feud_2 cv_X6_516 hS.k (ct_X6_isHouse hS hT.1 hH9 hI.2.2.2.1.2.1 (fun e => (hG.2.2.2.1 e).1)) rfl rfl (Nat.le_of_ble_eq_true rfl) (by decide) ?_
    rintro _ _ ⟨rfl, rfl⟩
    first | refine r_if_eqZ (pc := 5) (tgt := 26) dX6_feud_5 (by decide) (fun h5 => ?_) (fun h5 => ?_) | refine r_if_eqN (pc := 5) (tgt := 26) dX6_feud_5 (by decide) (by omega) (fun h5 => ?_) (fun h5 => ?_) | refine r_if_eq (pc := 5) (tgt := 26) dX6_feud_5 (by decide) (fun h5 => ?_) (fun h5 => ?_)
    · skip
      exact absurd h5 (by rw [nI_toInt (by omega)]; omega)
    · skip
      refine r_ild1 (pc := 8) dX6_feud_8 ?_
      refine r_ald0 (pc := 9) dX6_feud_9 ?_
      refine m_getI hS (pc := 10) dX6_feud_10 fl_X6_379 ?_
      refine Bd.eqI hT.1 ?_
      refine r_iconst (v := nI 1) (pc := 13) dX6_feud_13 (by decide) ?_
      first | refine r_isubN (pc := 14) dX6_feud_14 (by omega) ?_ | refine r_isubM (pc := 14) dX6_feud_14 ?_ | refine r_isubJ (pc := 14) dX6_feud_14 ?_ | refine r_isub (pc := 14) dX6_feud_14 ?_
      first | refine r_icmp_geN (pc := 15) (tgt := 26) dX6_feud_15 (by decide) (by omega) (by omega) (fun h15 => ?_) (fun h15 => ?_) | refine r_icmp_ge (pc := 15) (tgt := 26) dX6_feud_15 (by decide) (fun h15 => ?_) (fun h15 => ?_)
      · skip
        rw [feudAt_out (fun p hp => by have := hhs p hp; omega)]
        refine r_iconst (v := -1) (pc := 26) dX6_feud_26 (by decide) ?_
        refine r_iret (pc := 27) dX6_feud_27 ?_
        exact ⟨s, rfl, rfl, hI⟩
      · skip
        refine r_ald0 (pc := 18) dX6_feud_18 ?_
        refine r_ild1 (pc := 19) dX6_feud_19 ?_
        refine r_cV (pc := 20) dX6_feud_20 cv_X6_499 hS.k (ct_X6_feudAt hS hT hTB hN hB (by omega)) rfl rfl (Nat.le_of_ble_eq_true rfl) (by decide) ?_
        rintro _ _ ⟨s1, rfl, rfl, hf1⟩
        refine r_goto (pc := 23) (tgt := 27) dX6_feud_23 (by decide) ?_
        exact r_iret (pc := 27) dX6_feud_27 ⟨s1, rfl, rfl, hI.fr hf1 (by decide) (by decide) (by decide) (by decide)⟩
theorem pm_has {x : Int32} (hS : ShM g M o) (hI : IM s q) (hG : GI q) : Ct g yX6_has cX6_has 2 (some Jvm.ClassFile.FieldType.int) 6 0 0 [.ref o, .int x] (putM M o s) (PM M o q (.int (hasS q x))) noX := by
  have hT := hI.2.2.2.1.1
  have hTB := hG.2.2.1
  have hN := hI.2.2.2.2.1.1
  have hB : SB (tn (gT q)) (gS q) := hG.2.2.2.2.2.1.1
  have hhs : ∀ p, p < tn (gT q) → hs (gS q) p < tH (gT q) := hG.2.2.2.2.2.1.2.2.1
  have hn8 := hTB.1
  refine Ct.of (by decide) (Nat.le_of_ble_eq_true rfl) rfl ?_
  unfold hasS
  cases hp : pidx x 10 with
  | none =>
    have hp := pidx_none hp
    have ho : x.toInt < 0 ∨ (9 : Int) < x.toInt := by omega
    refine r_ild1 (pc := 0) dX6_has_0 ?_
    refine r_tableOut (pc := 1) (tgt := 111) dX6_has_1 (by first | decide | assumption) (by decide) ?_
    refine r_iconst (v := -1) (pc := 111) dX6_has_111 (by decide) ?_
    refine r_iret (pc := 112) dX6_has_112 ?_
    exact ⟨s, rfl, rfl, hI⟩
  | some k =>
    obtain ⟨hk, rfl⟩ := pidx_some hp
    have hc : k = 0 ∨ k = 1 ∨ k = 2 ∨ k = 3 ∨ k = 4 ∨ k = 5 ∨ k = 6 ∨ k = 7 ∨ k = 8 ∨ k = 9 := by omega
    rcases hc with h | h | h | h | h | h | h | h | h | h <;> subst h
    · skip
      refine r_ild1 (pc := 0) dX6_has_0 ?_
      refine r_tableIn (pc := 1) (tgt := 56) (off := 55) dX6_has_1 (by decide) (by decide) rfl (by decide) ?_
      refine r_ald0 (pc := 56) dX6_has_56 ?_
      refine m_getI hS (pc := 57) dX6_has_57 fl_X6_379 ?_
      refine Bd.eqI hT.1 ?_
      refine r_iret (pc := 60) dX6_has_60 ?_
      exact ⟨s, rfl, rfl, hI⟩
    · skip
      refine r_ild1 (pc := 0) dX6_has_0 ?_
      refine r_tableIn (pc := 1) (tgt := 61) (off := 60) dX6_has_1 (by decide) (by decide) rfl (by decide) ?_
      refine r_ald0 (pc := 61) dX6_has_61 ?_
      refine m_getI hS (pc := 62) dX6_has_62 fl_X6_382 ?_
      refine Bd.eqI hT.2.1 ?_
      refine r_iret (pc := 65) dX6_has_65 ?_
      exact ⟨s, rfl, rfl, hI⟩
    · skip
      refine r_ild1 (pc := 0) dX6_has_0 ?_
      refine r_tableIn (pc := 1) (tgt := 66) (off := 65) dX6_has_1 (by decide) (by decide) rfl (by decide) ?_
      refine r_ald0 (pc := 66) dX6_has_66 ?_
      refine m_getR hS (pc := 67) dX6_has_67 fl_X6_121 ar55 ?_
      refine r_iconst (v := nI 0) (pc := 70) dX6_has_70 (by decide) ?_
      refine m_iald hS (pc := 71) dX6_has_71 ar55 (by omega) (by omega) ?_
      refine Bd.eqI hN.1 ?_
      refine r_iret (pc := 72) dX6_has_72 ?_
      exact ⟨s, rfl, rfl, hI⟩
    · skip
      refine r_ild1 (pc := 0) dX6_has_0 ?_
      refine r_tableIn (pc := 1) (tgt := 73) (off := 72) dX6_has_1 (by decide) (by decide) rfl (by decide) ?_
      refine r_ald0 (pc := 73) dX6_has_73 ?_
      refine r_cV (pc := 74) dX6_has_74 cv_X6_502 hS.k (ct_X6_curtainsNow hS hT.2.1 hn8 hN hB) rfl rfl (Nat.le_of_ble_eq_true rfl) (by decide) ?_
      rintro _ _ ⟨rfl, rfl⟩
      refine r_iret (pc := 77) dX6_has_77 ?_
      exact ⟨s, rfl, rfl, hI⟩
    · skip
      refine r_ild1 (pc := 0) dX6_has_0 ?_
      refine r_tableIn (pc := 1) (tgt := 78) (off := 77) dX6_has_1 (by decide) (by decide) rfl (by decide) ?_
      refine r_ald0 (pc := 78) dX6_has_78 ?_
      refine r_cV (pc := 79) dX6_has_79 cv_X6_505 hS.k (ct_X6_spareMany hS hT.2.1 hn8 hN hB) rfl rfl (Nat.le_of_ble_eq_true rfl) (by decide) ?_
      rintro _ _ ⟨rfl, rfl⟩
      refine r_iret (pc := 82) dX6_has_82 ?_
      exact ⟨s, rfl, rfl, hI⟩
    · skip
      refine r_ild1 (pc := 0) dX6_has_0 ?_
      refine r_tableIn (pc := 1) (tgt := 83) (off := 82) dX6_has_1 (by decide) (by decide) rfl (by decide) ?_
      refine r_ald0 (pc := 83) dX6_has_83 ?_
      refine r_cV (pc := 84) dX6_has_84 cv_X6_508 hS.k (ct_X6_feudMany hS hT hTB hN hB hhs) rfl rfl (Nat.le_of_ble_eq_true rfl) (by decide) ?_
      rintro _ _ ⟨s1, rfl, rfl, hf1⟩
      refine r_iret (pc := 87) dX6_has_87 ?_
      exact ⟨s1, rfl, rfl, hI.fr hf1 (by decide) (by decide) (by decide) (by decide)⟩
    · skip
      refine r_ild1 (pc := 0) dX6_has_0 ?_
      refine r_tableIn (pc := 1) (tgt := 88) (off := 87) dX6_has_1 (by decide) (by decide) rfl (by decide) ?_
      refine r_ald0 (pc := 88) dX6_has_88 ?_
      refine r_cV (pc := 89) dX6_has_89 cv_X6_511 hS.k (ct_X6_lookAll hS hT.2.1 hn8 hN) rfl rfl (Nat.le_of_ble_eq_true rfl) (by decide) ?_
      rintro _ _ ⟨rfl, rfl⟩
      refine r_iret (pc := 92) dX6_has_92 ?_
      exact ⟨s, rfl, rfl, hI⟩
    · skip
      refine r_ild1 (pc := 0) dX6_has_0 ?_
      refine r_tableIn (pc := 1) (tgt := 93) (off := 92) dX6_has_1 (by decide) (by decide) rfl (by decide) ?_
      refine r_ald0 (pc := 93) dX6_has_93 ?_
      refine m_getR hS (pc := 94) dX6_has_94 fl_X6_121 ar55 ?_
      refine r_bipush (v := nI 89) (pc := 97) dX6_has_97 (by decide) ?_
      refine m_iald hS (pc := 99) dX6_has_99 ar55 (by omega) (by omega) ?_
      refine Bd.eqI hI.2.2.2.2.1.2.1.1 ?_
      refine r_iret (pc := 100) dX6_has_100 ?_
      exact ⟨s, rfl, rfl, hI⟩
    · skip
      refine r_ild1 (pc := 0) dX6_has_0 ?_
      refine r_tableIn (pc := 1) (tgt := 101) (off := 100) dX6_has_1 (by decide) (by decide) rfl (by decide) ?_
      refine r_ald0 (pc := 101) dX6_has_101 ?_
      refine m_getI hS (pc := 102) dX6_has_102 fl_X6_391 ?_
      refine Bd.eqI hI.2.2.2.2.2.2.1.1 ?_
      refine r_iret (pc := 105) dX6_has_105 ?_
      exact ⟨s, rfl, rfl, hI⟩
    · skip
      refine r_ild1 (pc := 0) dX6_has_0 ?_
      refine r_tableIn (pc := 1) (tgt := 106) (off := 105) dX6_has_1 (by decide) (by decide) rfl (by decide) ?_
      refine r_ald0 (pc := 106) dX6_has_106 ?_
      refine m_getI hS (pc := 107) dX6_has_107 fl_X6_388 ?_
      refine Bd.eqI hI.2.2.2.2.2.1.1 ?_
      refine r_iret (pc := 110) dX6_has_110 ?_
      exact ⟨s, rfl, rfl, hI⟩
/-- the first year from k on, m years far, behind which a portrait is gone -/
def gone (T : Te) (t : St) (p : Nat) : Nat → Nat → Option Nat := ff (fun k => lk (yearsS T k t).1 p == 0)
theorem yearsS_succ : ∀ (k : Nat) (T : Te) (t : St), (yearsS T (k + 1) t).1 = (yearS T (yearsS T k t).1).1
  | 0, _, _ => rfl
  | k + 1, T, t => yearsS_succ k T (yearS T t).1
theorem yearsS_yr : ∀ (k : Nat) (T : Te) (t : St), yr (yearsS T k t).1 = yr t + k
  | 0, _, _ => rfl
  | k + 1, T, t => by rw [yearsS_succ, yearS_yr, yearsS_yr k T t]; omega
theorem yearsS_SB : ∀ (k : Nat) (T : Te) (t : St), SB (tn T) t → yr t + k ≤ 2000 → SB (tn T) (yearsS T k t).1
  | 0, _, _, h, _ => h
  | k + 1, T, t, h, hy => by
    rw [yearsS_succ]
    exact yearS_SB (yearsS_SB k T t h (by omega)) (by rw [yearsS_yr]; omega)
def curtS (q : Sg) (x : Int32) : Int32 := match pidx x (tn (gT q)) with
  | none => -1
  | some p => oI (gone (gT q) (gS q) p (min 61 (1000 - yr (gS q))) 0)
theorem curtainLoop {p : Nat} (hS : ShM g M o) (hI : IM s q) (hG : GI q) (hp : p < tn (gT q)) :
    ∀ (m k : Nat) (s1 : MS), k + m = min 60 (999 - yr (gS q)) → TR s q s1 → RN s1 (tn (gT q)) (yearsS (gT q) k (gS q)).1 → Bd g yX6_curtain cX6_curtain 4 (some Jvm.ClassFile.FieldType.int) [] 6 0 0 (putM M o s1) 17 [some (.ref o), some (.int (nI p)), some (.int (nI k)), none] [] (PM M o q (.int (oI (gone (gT q) (gS q) p (m + 1) k)))) noX := by
  have hTB := hG.2.2.1
  have hB : SB (tn (gT q)) (gS q) := hG.2.2.2.2.2.1.1
  have hy : yr (gS q) ≤ 999 := hG.2.2.2.2.2.1.2.1
  have hn8 := hTB.1
  intro m
  induction m with
  | zero =>
    intro k s1 hk hR hN
    have hBk := yearsS_SB k (gT q) (gS q) hB (by omega)
    have hlk := (hBk.2 p hp).2.1
    have hyk := yearsS_yr k (gT q) (gS q)
    refine r_ald0 (pc := 17) dX6_curtain_17 ?_
    refine r_ild1 (pc := 18) dX6_curtain_18 ?_
    refine r_cV (pc := 19) dX6_curtain_19 cv_X6_423 hS.k (ct_X6_lookOf hS (by omega)) rfl rfl (Nat.le_of_ble_eq_true rfl) (by decide) ?_
    rintro _ _ ⟨rfl, rfl⟩
    refine Bd.eqI (hN.2.2.1 p hp) ?_
    first | refine r_if_leN (pc := 22) (tgt := 53) dX6_curtain_22 (by decide) (by omega) (fun h22 => ?_) (fun h22 => ?_) | refine r_if_le (pc := 22) (tgt := 53) dX6_curtain_22 (by decide) (fun h22 => ?_) (fun h22 => ?_)
    · skip
      refine r_ald0 (pc := 53) dX6_curtain_53 ?_
      refine r_ild1 (pc := 54) dX6_curtain_54 ?_
      refine r_cV (pc := 55) dX6_curtain_55 cv_X6_423 hS.k (ct_X6_lookOf hS (by omega)) rfl rfl (Nat.le_of_ble_eq_true rfl) (by decide) ?_
      rintro _ _ ⟨rfl, rfl⟩
      refine Bd.eqI (hN.2.2.1 p hp) ?_
      first | refine r_if_neZ (pc := 58) (tgt := 65) dX6_curtain_58 (by decide) (fun h58 => ?_) (fun h58 => ?_) | refine r_if_neN (pc := 58) (tgt := 65) dX6_curtain_58 (by decide) (by omega) (fun h58 => ?_) (fun h58 => ?_) | refine r_if_ne (pc := 58) (tgt := 65) dX6_curtain_58 (by decide) (fun h58 => ?_) (fun h58 => ?_)
      · skip
        have hres : gone (gT q) (gS q) p 1 k = none := by show (if _ then _ else _) = _; rw [if_neg (by simpa using h58)]; rfl
        refine r_iconst (v := nI 0) (pc := 65) dX6_curtain_65 (by decide) ?_
        refine r_ist3 (pc := 66) dX6_curtain_66 ?_
        refine r_ald0 (pc := 67) dX6_curtain_67 ?_
        refine r_cV (pc := 68) dX6_curtain_68 cv_X6_534 hS.k (ct_X6_takesBack hS) rfl rfl (Nat.le_of_ble_eq_true rfl) (by decide) ?_
        rintro _ _ ⟨s3, rfl, rfl, hj3, h643, hf3⟩
        refine r_ild3 (pc := 71) dX6_curtain_71 ?_
        first | exact r_if_eqN (pc := 72) (tgt := 79) dX6_curtain_72 (by decide) (by omega) (fun h => absurd h (by decide)) (fun _ => r_ild2 (pc := 75) dX6_curtain_75 (r_goto (pc := 76) (tgt := 80) dX6_curtain_76 (by decide) (r_iret (pc := 80) dX6_curtain_80 ⟨s3, rfl, by rw [hres]; rfl, TR.back hI hG hR hj3 h643 hf3⟩))) | exact r_if_eqN (pc := 72) (tgt := 79) dX6_curtain_72 (by decide) (by omega) (fun _ => r_iconst (v := -1) (pc := 79) dX6_curtain_79 (by decide) (r_iret (pc := 80) dX6_curtain_80 ⟨s3, rfl, by rw [hres]; rfl, TR.back hI hG hR hj3 h643 hf3⟩)) (fun h => absurd rfl h)
      · skip
        have hres : gone (gT q) (gS q) p 1 k = some k := by show (if _ then _ else _) = _; rw [if_pos (by simpa using h58)]
        refine r_iconst (v := nI 1) (pc := 61) dX6_curtain_61 (by decide) ?_
        refine r_goto (pc := 62) (tgt := 66) dX6_curtain_62 (by decide) ?_
        refine r_ist3 (pc := 66) dX6_curtain_66 ?_
        refine r_ald0 (pc := 67) dX6_curtain_67 ?_
        refine r_cV (pc := 68) dX6_curtain_68 cv_X6_534 hS.k (ct_X6_takesBack hS) rfl rfl (Nat.le_of_ble_eq_true rfl) (by decide) ?_
        rintro _ _ ⟨s3, rfl, rfl, hj3, h643, hf3⟩
        refine r_ild3 (pc := 71) dX6_curtain_71 ?_
        first | exact r_if_eqN (pc := 72) (tgt := 79) dX6_curtain_72 (by decide) (by omega) (fun h => absurd h (by decide)) (fun _ => r_ild2 (pc := 75) dX6_curtain_75 (r_goto (pc := 76) (tgt := 80) dX6_curtain_76 (by decide) (r_iret (pc := 80) dX6_curtain_80 ⟨s3, rfl, by rw [hres]; rfl, TR.back hI hG hR hj3 h643 hf3⟩))) | exact r_if_eqN (pc := 72) (tgt := 79) dX6_curtain_72 (by decide) (by omega) (fun _ => r_iconst (v := -1) (pc := 79) dX6_curtain_79 (by decide) (r_iret (pc := 80) dX6_curtain_80 ⟨s3, rfl, by rw [hres]; rfl, TR.back hI hG hR hj3 h643 hf3⟩)) (fun h => absurd rfl h)
    · skip
      refine r_ild2 (pc := 25) dX6_curtain_25 ?_
      refine r_bipush (v := nI 60) (pc := 26) dX6_curtain_26 (by decide) ?_
      first | refine r_icmp_geN (pc := 28) (tgt := 53) dX6_curtain_28 (by decide) (by omega) (by omega) (fun h28 => ?_) (fun h28 => ?_) | refine r_icmp_ge (pc := 28) (tgt := 53) dX6_curtain_28 (by decide) (fun h28 => ?_) (fun h28 => ?_)
      · skip
        refine r_ald0 (pc := 53) dX6_curtain_53 ?_
        refine r_ild1 (pc := 54) dX6_curtain_54 ?_
        refine r_cV (pc := 55) dX6_curtain_55 cv_X6_423 hS.k (ct_X6_lookOf hS (by omega)) rfl rfl (Nat.le_of_ble_eq_true rfl) (by decide) ?_
        rintro _ _ ⟨rfl, rfl⟩
        refine Bd.eqI (hN.2.2.1 p hp) ?_
        first | refine r_if_neZ (pc := 58) (tgt := 65) dX6_curtain_58 (by decide) (fun h58 => ?_) (fun h58 => ?_) | refine r_if_neN (pc := 58) (tgt := 65) dX6_curtain_58 (by decide) (by omega) (fun h58 => ?_) (fun h58 => ?_) | refine r_if_ne (pc := 58) (tgt := 65) dX6_curtain_58 (by decide) (fun h58 => ?_) (fun h58 => ?_)
        · skip
          have hres : gone (gT q) (gS q) p 1 k = none := by show (if _ then _ else _) = _; rw [if_neg (by simpa using h58)]; rfl
          refine r_iconst (v := nI 0) (pc := 65) dX6_curtain_65 (by decide) ?_
          refine r_ist3 (pc := 66) dX6_curtain_66 ?_
          refine r_ald0 (pc := 67) dX6_curtain_67 ?_
          refine r_cV (pc := 68) dX6_curtain_68 cv_X6_534 hS.k (ct_X6_takesBack hS) rfl rfl (Nat.le_of_ble_eq_true rfl) (by decide) ?_
          rintro _ _ ⟨s3, rfl, rfl, hj3, h643, hf3⟩
          refine r_ild3 (pc := 71) dX6_curtain_71 ?_
          first | exact r_if_eqN (pc := 72) (tgt := 79) dX6_curtain_72 (by decide) (by omega) (fun h => absurd h (by decide)) (fun _ => r_ild2 (pc := 75) dX6_curtain_75 (r_goto (pc := 76) (tgt := 80) dX6_curtain_76 (by decide) (r_iret (pc := 80) dX6_curtain_80 ⟨s3, rfl, by rw [hres]; rfl, TR.back hI hG hR hj3 h643 hf3⟩))) | exact r_if_eqN (pc := 72) (tgt := 79) dX6_curtain_72 (by decide) (by omega) (fun _ => r_iconst (v := -1) (pc := 79) dX6_curtain_79 (by decide) (r_iret (pc := 80) dX6_curtain_80 ⟨s3, rfl, by rw [hres]; rfl, TR.back hI hG hR hj3 h643 hf3⟩)) (fun h => absurd rfl h)
        · skip
          have hres : gone (gT q) (gS q) p 1 k = some k := by show (if _ then _ else _) = _; rw [if_pos (by simpa using h58)]
          refine r_iconst (v := nI 1) (pc := 61) dX6_curtain_61 (by decide) ?_
          refine r_goto (pc := 62) (tgt := 66) dX6_curtain_62 (by decide) ?_
          refine r_ist3 (pc := 66) dX6_curtain_66 ?_
          refine r_ald0 (pc := 67) dX6_curtain_67 ?_
          refine r_cV (pc := 68) dX6_curtain_68 cv_X6_534 hS.k (ct_X6_takesBack hS) rfl rfl (Nat.le_of_ble_eq_true rfl) (by decide) ?_
          rintro _ _ ⟨s3, rfl, rfl, hj3, h643, hf3⟩
          refine r_ild3 (pc := 71) dX6_curtain_71 ?_
          first | exact r_if_eqN (pc := 72) (tgt := 79) dX6_curtain_72 (by decide) (by omega) (fun h => absurd h (by decide)) (fun _ => r_ild2 (pc := 75) dX6_curtain_75 (r_goto (pc := 76) (tgt := 80) dX6_curtain_76 (by decide) (r_iret (pc := 80) dX6_curtain_80 ⟨s3, rfl, by rw [hres]; rfl, TR.back hI hG hR hj3 h643 hf3⟩))) | exact r_if_eqN (pc := 72) (tgt := 79) dX6_curtain_72 (by decide) (by omega) (fun _ => r_iconst (v := -1) (pc := 79) dX6_curtain_79 (by decide) (r_iret (pc := 80) dX6_curtain_80 ⟨s3, rfl, by rw [hres]; rfl, TR.back hI hG hR hj3 h643 hf3⟩)) (fun h => absurd rfl h)
      · skip
        refine r_ald0 (pc := 31) dX6_curtain_31 ?_
        refine m_getR hS (pc := 32) dX6_curtain_32 fl_X6_121 ar55 ?_
        refine r_iconst (v := nI 0) (pc := 35) dX6_curtain_35 (by decide) ?_
        refine m_iald hS (pc := 36) dX6_curtain_36 ar55 (by omega) (by omega) ?_
        refine Bd.eqI (hN.1.trans (congrArg nI hyk)) ?_
        refine r_sipush (v := nI 999) (pc := 37) dX6_curtain_37 (by decide) ?_
        first | refine r_icmp_geN (pc := 40) (tgt := 53) dX6_curtain_40 (by decide) (by omega) (by omega) (fun h40 => ?_) (fun h40 => ?_) | refine r_icmp_ge (pc := 40) (tgt := 53) dX6_curtain_40 (by decide) (fun h40 => ?_) (fun h40 => ?_)
        · skip
          refine r_ald0 (pc := 53) dX6_curtain_53 ?_
          refine r_ild1 (pc := 54) dX6_curtain_54 ?_
          refine r_cV (pc := 55) dX6_curtain_55 cv_X6_423 hS.k (ct_X6_lookOf hS (by omega)) rfl rfl (Nat.le_of_ble_eq_true rfl) (by decide) ?_
          rintro _ _ ⟨rfl, rfl⟩
          refine Bd.eqI (hN.2.2.1 p hp) ?_
          first | refine r_if_neZ (pc := 58) (tgt := 65) dX6_curtain_58 (by decide) (fun h58 => ?_) (fun h58 => ?_) | refine r_if_neN (pc := 58) (tgt := 65) dX6_curtain_58 (by decide) (by omega) (fun h58 => ?_) (fun h58 => ?_) | refine r_if_ne (pc := 58) (tgt := 65) dX6_curtain_58 (by decide) (fun h58 => ?_) (fun h58 => ?_)
          · skip
            have hres : gone (gT q) (gS q) p 1 k = none := by show (if _ then _ else _) = _; rw [if_neg (by simpa using h58)]; rfl
            refine r_iconst (v := nI 0) (pc := 65) dX6_curtain_65 (by decide) ?_
            refine r_ist3 (pc := 66) dX6_curtain_66 ?_
            refine r_ald0 (pc := 67) dX6_curtain_67 ?_
            refine r_cV (pc := 68) dX6_curtain_68 cv_X6_534 hS.k (ct_X6_takesBack hS) rfl rfl (Nat.le_of_ble_eq_true rfl) (by decide) ?_
            rintro _ _ ⟨s3, rfl, rfl, hj3, h643, hf3⟩
            refine r_ild3 (pc := 71) dX6_curtain_71 ?_
            first | exact r_if_eqN (pc := 72) (tgt := 79) dX6_curtain_72 (by decide) (by omega) (fun h => absurd h (by decide)) (fun _ => r_ild2 (pc := 75) dX6_curtain_75 (r_goto (pc := 76) (tgt := 80) dX6_curtain_76 (by decide) (r_iret (pc := 80) dX6_curtain_80 ⟨s3, rfl, by rw [hres]; rfl, TR.back hI hG hR hj3 h643 hf3⟩))) | exact r_if_eqN (pc := 72) (tgt := 79) dX6_curtain_72 (by decide) (by omega) (fun _ => r_iconst (v := -1) (pc := 79) dX6_curtain_79 (by decide) (r_iret (pc := 80) dX6_curtain_80 ⟨s3, rfl, by rw [hres]; rfl, TR.back hI hG hR hj3 h643 hf3⟩)) (fun h => absurd rfl h)
          · skip
            have hres : gone (gT q) (gS q) p 1 k = some k := by show (if _ then _ else _) = _; rw [if_pos (by simpa using h58)]
            refine r_iconst (v := nI 1) (pc := 61) dX6_curtain_61 (by decide) ?_
            refine r_goto (pc := 62) (tgt := 66) dX6_curtain_62 (by decide) ?_
            refine r_ist3 (pc := 66) dX6_curtain_66 ?_
            refine r_ald0 (pc := 67) dX6_curtain_67 ?_
            refine r_cV (pc := 68) dX6_curtain_68 cv_X6_534 hS.k (ct_X6_takesBack hS) rfl rfl (Nat.le_of_ble_eq_true rfl) (by decide) ?_
            rintro _ _ ⟨s3, rfl, rfl, hj3, h643, hf3⟩
            refine r_ild3 (pc := 71) dX6_curtain_71 ?_
            first | exact r_if_eqN (pc := 72) (tgt := 79) dX6_curtain_72 (by decide) (by omega) (fun h => absurd h (by decide)) (fun _ => r_ild2 (pc := 75) dX6_curtain_75 (r_goto (pc := 76) (tgt := 80) dX6_curtain_76 (by decide) (r_iret (pc := 80) dX6_curtain_80 ⟨s3, rfl, by rw [hres]; rfl, TR.back hI hG hR hj3 h643 hf3⟩))) | exact r_if_eqN (pc := 72) (tgt := 79) dX6_curtain_72 (by decide) (by omega) (fun _ => r_iconst (v := -1) (pc := 79) dX6_curtain_79 (by decide) (r_iret (pc := 80) dX6_curtain_80 ⟨s3, rfl, by rw [hres]; rfl, TR.back hI hG hR hj3 h643 hf3⟩)) (fun h => absurd rfl h)
        · skip
          exact absurd h40 (by omega)
  | succ m ih =>
    intro k s1 hk hR hN
    have hBk := yearsS_SB k (gT q) (gS q) hB (by omega)
    have hlk := (hBk.2 p hp).2.1
    have hyk := yearsS_yr k (gT q) (gS q)
    refine r_ald0 (pc := 17) dX6_curtain_17 ?_
    refine r_ild1 (pc := 18) dX6_curtain_18 ?_
    refine r_cV (pc := 19) dX6_curtain_19 cv_X6_423 hS.k (ct_X6_lookOf hS (by omega)) rfl rfl (Nat.le_of_ble_eq_true rfl) (by decide) ?_
    rintro _ _ ⟨rfl, rfl⟩
    refine Bd.eqI (hN.2.2.1 p hp) ?_
    first | refine r_if_leN (pc := 22) (tgt := 53) dX6_curtain_22 (by decide) (by omega) (fun h22 => ?_) (fun h22 => ?_) | refine r_if_le (pc := 22) (tgt := 53) dX6_curtain_22 (by decide) (fun h22 => ?_) (fun h22 => ?_)
    · skip
      have hres : gone (gT q) (gS q) p (m + 1 + 1) k = some k := by show (if _ then _ else _) = _; rw [if_pos (by simp; omega)]
      refine r_ald0 (pc := 53) dX6_curtain_53 ?_
      refine r_ild1 (pc := 54) dX6_curtain_54 ?_
      refine r_cV (pc := 55) dX6_curtain_55 cv_X6_423 hS.k (ct_X6_lookOf hS (by omega)) rfl rfl (Nat.le_of_ble_eq_true rfl) (by decide) ?_
      rintro _ _ ⟨rfl, rfl⟩
      refine Bd.eqI (hN.2.2.1 p hp) ?_
      first | refine r_if_neZ (pc := 58) (tgt := 65) dX6_curtain_58 (by decide) (fun h58 => ?_) (fun h58 => ?_) | refine r_if_neN (pc := 58) (tgt := 65) dX6_curtain_58 (by decide) (by omega) (fun h58 => ?_) (fun h58 => ?_) | refine r_if_ne (pc := 58) (tgt := 65) dX6_curtain_58 (by decide) (fun h58 => ?_) (fun h58 => ?_)
      · skip
        exact absurd h22 h58
      · skip
        refine r_iconst (v := nI 1) (pc := 61) dX6_curtain_61 (by decide) ?_
        refine r_goto (pc := 62) (tgt := 66) dX6_curtain_62 (by decide) ?_
        refine r_ist3 (pc := 66) dX6_curtain_66 ?_
        refine r_ald0 (pc := 67) dX6_curtain_67 ?_
        refine r_cV (pc := 68) dX6_curtain_68 cv_X6_534 hS.k (ct_X6_takesBack hS) rfl rfl (Nat.le_of_ble_eq_true rfl) (by decide) ?_
        rintro _ _ ⟨s3, rfl, rfl, hj3, h643, hf3⟩
        refine r_ild3 (pc := 71) dX6_curtain_71 ?_
        refine r_if_eqN (pc := 72) (tgt := 79) dX6_curtain_72 (by decide) (by omega) (fun h72 => ?_) (fun h72 => ?_)
        · skip
          exact absurd h72 (by decide)
        · skip
          refine r_ild2 (pc := 75) dX6_curtain_75 ?_
          refine r_goto (pc := 76) (tgt := 80) dX6_curtain_76 (by decide) ?_
          refine r_iret (pc := 80) dX6_curtain_80 ?_
          exact ⟨s3, rfl, by rw [hres]; rfl, TR.back hI hG hR hj3 h643 hf3⟩
    · skip
      have hres : gone (gT q) (gS q) p (m + 1 + 1) k = gone (gT q) (gS q) p (m + 1) (k + 1) := by show (if _ then _ else _) = _; rw [if_neg (by simp; omega)]; rfl
      rw [hres]
      refine r_ild2 (pc := 25) dX6_curtain_25 ?_
      refine r_bipush (v := nI 60) (pc := 26) dX6_curtain_26 (by decide) ?_
      first | refine r_icmp_geN (pc := 28) (tgt := 53) dX6_curtain_28 (by decide) (by omega) (by omega) (fun h28 => ?_) (fun h28 => ?_) | refine r_icmp_ge (pc := 28) (tgt := 53) dX6_curtain_28 (by decide) (fun h28 => ?_) (fun h28 => ?_)
      · skip
        exact absurd h28 (by omega)
      · skip
        refine r_ald0 (pc := 31) dX6_curtain_31 ?_
        refine m_getR hS (pc := 32) dX6_curtain_32 fl_X6_121 ar55 ?_
        refine r_iconst (v := nI 0) (pc := 35) dX6_curtain_35 (by decide) ?_
        refine m_iald hS (pc := 36) dX6_curtain_36 ar55 (by omega) (by omega) ?_
        refine Bd.eqI (hN.1.trans (congrArg nI hyk)) ?_
        refine r_sipush (v := nI 999) (pc := 37) dX6_curtain_37 (by decide) ?_
        first | refine r_icmp_geN (pc := 40) (tgt := 53) dX6_curtain_40 (by decide) (by omega) (by omega) (fun h40 => ?_) (fun h40 => ?_) | refine r_icmp_ge (pc := 40) (tgt := 53) dX6_curtain_40 (by decide) (fun h40 => ?_) (fun h40 => ?_)
        · skip
          exact absurd h40 (by omega)
        · skip
          refine r_ald0 (pc := 43) dX6_curtain_43 ?_
          refine r_cV (pc := 44) dX6_curtain_44 cv_X6_489 hS.k (ct_X6_yearGoes (T := gT q) (t := (yearsS (gT q) k (gS q)).1) (K := gK q) (tb := true) hS (hR.rt hI) hTB hN hBk hR.2.2.1 hR.2.1) rfl rfl (Nat.le_of_ble_eq_true rfl) (by decide) ?_
          rintro _ _ ⟨s2, rfl, rfl, hY⟩
          first | refine r_iinc2N (j := 1) (pc := 47) dX6_curtain_47 rfl ?_ | refine r_iinc2 (pc := 47) dX6_curtain_47 ?_
          refine r_goto (pc := 50) (tgt := 17) dX6_curtain_50 (by decide) ?_
          exact ih (k + 1) s2 (by omega) (hR.years hY) (by rw [yearsS_succ]; exact hY.1)
theorem pm_curtain {x : Int32} (hS : ShM g M o) (hI : IM s q) (hG : GI q) : Ct g yX6_curtain cX6_curtain 4 (some Jvm.ClassFile.FieldType.int) 6 0 0 [.ref o, .int x] (putM M o s) (PM M o q (.int (curtS q x))) noX := by
  have hT := hI.2.2.2.1.1
  have hTB := hG.2.2.1
  have hN := hI.2.2.2.2.1.1
  have hn8 := hTB.1
  have hy : yr (gS q) ≤ 999 := hG.2.2.2.2.2.1.2.1
  obtain ⟨ha1, ha2⟩ := b31_of x
  refine Ct.of (by decide) (Nat.le_of_ble_eq_true rfl) rfl ?_
  unfold curtS
  cases hp : pidx x (tn (gT q)) with
  | none =>
    have hp := pidx_none hp
    refine r_ald0 (pc := 0) dX6_curtain_0 ?_
    refine r_ild1 (pc := 1) dX6_curtain_1 ?_
    refine r_i2lT (pc := 2) dX6_curtain_2 ?_
    refine r_cV (pc := 3) dX6_curtain_3 cv_X6_394 hS.k (ct_X6_isPerson hS hT.2.1 hn8 (by constructor <;> omega)) rfl rfl (Nat.le_of_ble_eq_true rfl) (by decide) ?_
    rintro _ _ ⟨rfl, rfl⟩
    first | refine r_if_neZ (pc := 6) (tgt := 11) dX6_curtain_6 (by decide) (fun h6 => ?_) (fun h6 => ?_) | refine r_if_neN (pc := 6) (tgt := 11) dX6_curtain_6 (by decide) (by omega) (fun h6 => ?_) (fun h6 => ?_) | refine r_if_ne (pc := 6) (tgt := 11) dX6_curtain_6 (by decide) (fun h6 => ?_) (fun h6 => ?_)
    · skip
      exact absurd h6 hp
    · skip
      refine r_iconst (v := -1) (pc := 9) dX6_curtain_9 (by decide) ?_
      refine r_iret (pc := 10) dX6_curtain_10 ?_
      exact ⟨s, rfl, rfl, hI⟩
  | some p =>
    obtain ⟨h1, rfl⟩ := pidx_some hp
    show Bd g yX6_curtain cX6_curtain 4 (some Jvm.ClassFile.FieldType.int) [] 6 0 0 _ _ _ _ (PM M o q (.int (oI (gone (gT q) (gS q) p (min 61 (1000 - yr (gS q))) 0)))) noX
    rw [show min 61 (1000 - yr (gS q)) = min 60 (999 - yr (gS q)) + 1 by omega]
    refine r_ald0 (pc := 0) dX6_curtain_0 ?_
    refine r_ild1 (pc := 1) dX6_curtain_1 ?_
    first | refine r_i2lM (pc := 2) dX6_curtain_2 (by omega) ?_ | refine r_i2lI (pc := 2) dX6_curtain_2 (by constructor <;> omega) ?_ | refine r_i2lT (pc := 2) dX6_curtain_2 ?_
    refine r_cV (pc := 3) dX6_curtain_3 cv_X6_394 hS.k (ct_X6_isPerson hS hT.2.1 hn8 (by constructor <;> omega)) rfl rfl (Nat.le_of_ble_eq_true rfl) (by decide) ?_
    rintro _ _ ⟨rfl, rfl⟩
    first | refine r_if_neZ (pc := 6) (tgt := 11) dX6_curtain_6 (by decide) (fun h6 => ?_) (fun h6 => ?_) | refine r_if_neN (pc := 6) (tgt := 11) dX6_curtain_6 (by decide) (by omega) (fun h6 => ?_) (fun h6 => ?_) | refine r_if_ne (pc := 6) (tgt := 11) dX6_curtain_6 (by decide) (fun h6 => ?_) (fun h6 => ?_)
    · skip
      refine r_iconst (v := nI 0) (pc := 11) dX6_curtain_11 (by decide) ?_
      refine r_ist2 (pc := 12) dX6_curtain_12 ?_
      refine r_ald0 (pc := 13) dX6_curtain_13 ?_
      refine r_cV (pc := 14) dX6_curtain_14 cv_X6_528 hS.k (ct_X6_putsAside hS) rfl rfl (Nat.le_of_ble_eq_true rfl) (by decide) ?_
      rintro _ _ ⟨s1, rfl, rfl, hj1, h64, hf1⟩
      exact curtainLoop hS hI hG h1 _ 0 s1 (by omega) (TR.start hI hj1 h64 hf1) (hN.fr hf1 (by decide))
    · skip
      exact absurd h6 (by omega)
end M15
