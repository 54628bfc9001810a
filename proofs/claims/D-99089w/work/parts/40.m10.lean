set_option maxRecDepth 100000
/-! THE MODEL: tries: put aside, gone through, taken back -/
section M10
variable {g : GC} {M : MM} {o : Nat} {s : MS} {M1 : MM} {q : Sg} {T : Te} {t : St} {K : List Ev}
theorem asideLoop (hS : ShM g M o) : ∀ (m i : Nat) (s1 : MS), i + m = 89 → (∀ j, mA s1 56 j = if j < i then mA s 55 j else mA s 56 j) → Fr [64] [] [56] [] s s1 → mF s1 64 = nI 1 → Bd g yX6_putsAside cX6_putsAside 2 none [] 0 0 0 (putM M o s1) 7 [some (.ref o), some (.int (nI i))] [] (QM M o (fun r s' => r = none ∧ (∀ j, j < 89 → mA s' 56 j = mA s 55 j) ∧ mF s' 64 = nI 1 ∧ Fr [64] [] [56] [] s s')) noX := by
  intro m
  induction m with
  | zero =>
    intro i s1 hi hj hf h64
    refine r_ild1 (pc := 7) dX6_putsAside_7 ?_
    refine r_bipush (v := nI 89) (pc := 8) dX6_putsAside_8 (by decide) ?_
    first | refine r_icmp_geN (pc := 10) (tgt := 31) dX6_putsAside_10 (by decide) (by omega) (by omega) (fun h10 => ?_) (fun h10 => ?_) | refine r_icmp_ge (pc := 10) (tgt := 31) dX6_putsAside_10 (by decide) (fun h10 => ?_) (fun h10 => ?_)
    · skip
      refine r_vret (pc := 31) dX6_putsAside_31 ?_
      exact ⟨s1, rfl, rfl, fun j hj' => by rw [hj, if_pos (by omega)], h64, hf⟩
    · skip
      exact absurd h10 (by omega)
  | succ m ih =>
    intro i s1 hi hj hf h64
    refine r_ild1 (pc := 7) dX6_putsAside_7 ?_
    refine r_bipush (v := nI 89) (pc := 8) dX6_putsAside_8 (by decide) ?_
    first | refine r_icmp_geN (pc := 10) (tgt := 31) dX6_putsAside_10 (by decide) (by omega) (by omega) (fun h10 => ?_) (fun h10 => ?_) | refine r_icmp_ge (pc := 10) (tgt := 31) dX6_putsAside_10 (by decide) (fun h10 => ?_) (fun h10 => ?_)
    · skip
      exact absurd h10 (by omega)
    · skip
      refine r_ald0 (pc := 13) dX6_putsAside_13 ?_
      refine m_getR hS (pc := 14) dX6_putsAside_14 fl_X6_124 ar56 ?_
      refine r_ild1 (pc := 17) dX6_putsAside_17 ?_
      refine r_ald0 (pc := 18) dX6_putsAside_18 ?_
      refine m_getR hS (pc := 19) dX6_putsAside_19 fl_X6_121 ar55 ?_
      refine r_ild1 (pc := 22) dX6_putsAside_22 ?_
      refine m_iald hS (pc := 23) dX6_putsAside_23 ar55 (by omega) (by omega) ?_
      refine Bd.eqI (congrFun (hf.2.2.1 55 (by decide)) i) ?_
      refine m_iast hS (pc := 24) dX6_putsAside_24 ar56 (by omega) (by omega) ?_
      first | refine r_iinc1N (j := 1) (pc := 25) dX6_putsAside_25 rfl ?_ | refine r_iinc1 (pc := 25) dX6_putsAside_25 ?_
      refine r_goto (pc := 28) (tgt := 7) dX6_putsAside_28 (by decide) ?_
      refine ih (i + 1) _ (by omega) (fun j => ?_) (Fr.tA hf (by decide)) h64
      by_cases e : j = i
      · subst e; rw [tA_eq, if_pos (by omega)]
      · rw [tA_ne e, hj j]; by_cases e2 : j < i
        · rw [if_pos e2, if_pos (by omega)]
        · rw [if_neg e2, if_neg (by omega)]
theorem ct_X6_putsAside (hS : ShM g M o) : Ct g yX6_putsAside cX6_putsAside 2 none 0 0 0 [.ref o] (putM M o s) (QM M o (fun r s' => r = none ∧ (∀ j, j < 89 → mA s' 56 j = mA s 55 j) ∧ mF s' 64 = nI 1 ∧ Fr [64] [] [56] [] s s')) noX := by
  refine Ct.of (by decide) (Nat.le_of_ble_eq_true rfl) rfl ?_
  refine r_ald0 (pc := 0) dX6_putsAside_0 ?_
  refine r_iconst (v := nI 1) (pc := 1) dX6_putsAside_1 (by decide) ?_
  refine m_putI hS (pc := 2) dX6_putsAside_2 fl_X6_464 fw_X6_64 (by first | rfl | exact zI_nar | assumption) (by first | rfl | exact zI_fit | assumption) ?_
  refine r_iconst (v := nI 0) (pc := 5) dX6_putsAside_5 (by decide) ?_
  refine r_ist1 (pc := 6) dX6_putsAside_6 ?_
  exact asideLoop hS 89 0 _ (by omega) (fun j => by rw [if_neg (by omega)]; rfl) (Fr.tF Fr.rf (by decide)) rfl
theorem anewLoop (hS : ShM g M o) : ∀ (m i : Nat) (s1 : MS), i + m = 89 → (∀ j, mA s1 55 j = if j < i then mA s 56 j else mA s 55 j) → Fr [] [] [55] [] s s1 → Bd g yX6_triesAnew cX6_triesAnew 2 none [] 0 0 0 (putM M o s1) 2 [some (.ref o), some (.int (nI i))] [] (QM M o (fun r s' => r = none ∧ (∀ j, mA s' 55 j = if j < 89 then mA s 56 j else mA s 55 j) ∧ Fr [] [] [55] [] s s')) noX := by
  intro m
  induction m with
  | zero =>
    intro i s1 hi hj hf
    have hi : i = 89 := hi
    subst hi
    refine r_ild1 (pc := 2) dX6_triesAnew_2 ?_
    refine r_bipush (v := nI 89) (pc := 3) dX6_triesAnew_3 (by decide) ?_
    first | refine r_icmp_geN (pc := 5) (tgt := 26) dX6_triesAnew_5 (by decide) (by omega) (by omega) (fun h5 => ?_) (fun h5 => ?_) | refine r_icmp_ge (pc := 5) (tgt := 26) dX6_triesAnew_5 (by decide) (fun h5 => ?_) (fun h5 => ?_)
    · skip
      refine r_vret (pc := 26) dX6_triesAnew_26 ?_
      exact ⟨s1, rfl, rfl, hj, hf⟩
    · skip
      exact absurd h5 (by omega)
  | succ m ih =>
    intro i s1 hi hj hf
    refine r_ild1 (pc := 2) dX6_triesAnew_2 ?_
    refine r_bipush (v := nI 89) (pc := 3) dX6_triesAnew_3 (by decide) ?_
    first | refine r_icmp_geN (pc := 5) (tgt := 26) dX6_triesAnew_5 (by decide) (by omega) (by omega) (fun h5 => ?_) (fun h5 => ?_) | refine r_icmp_ge (pc := 5) (tgt := 26) dX6_triesAnew_5 (by decide) (fun h5 => ?_) (fun h5 => ?_)
    · skip
      exact absurd h5 (by omega)
    · skip
      refine r_ald0 (pc := 8) dX6_triesAnew_8 ?_
      refine m_getR hS (pc := 9) dX6_triesAnew_9 fl_X6_121 ar55 ?_
      refine r_ild1 (pc := 12) dX6_triesAnew_12 ?_
      refine r_ald0 (pc := 13) dX6_triesAnew_13 ?_
      refine m_getR hS (pc := 14) dX6_triesAnew_14 fl_X6_124 ar56 ?_
      refine r_ild1 (pc := 17) dX6_triesAnew_17 ?_
      refine m_iald hS (pc := 18) dX6_triesAnew_18 ar56 (by omega) (by omega) ?_
      refine Bd.eqI (congrFun (hf.2.2.1 56 (by decide)) i) ?_
      refine m_iast hS (pc := 19) dX6_triesAnew_19 ar55 (by omega) (by omega) ?_
      first | refine r_iinc1N (j := 1) (pc := 20) dX6_triesAnew_20 rfl ?_ | refine r_iinc1 (pc := 20) dX6_triesAnew_20 ?_
      refine r_goto (pc := 23) (tgt := 2) dX6_triesAnew_23 (by decide) ?_
      refine ih (i + 1) _ (by omega) (fun j => ?_) (Fr.tA hf (by decide))
      by_cases e : j = i
      · subst e; rw [tA_eq, if_pos (by omega)]
      · rw [tA_ne e, hj j]; by_cases e2 : j < i
        · rw [if_pos e2, if_pos (by omega)]
        · rw [if_neg e2, if_neg (by omega)]
theorem ct_X6_triesAnew (hS : ShM g M o) : Ct g yX6_triesAnew cX6_triesAnew 2 none 0 0 0 [.ref o] (putM M o s) (QM M o (fun r s' => r = none ∧ (∀ j, mA s' 55 j = if j < 89 then mA s 56 j else mA s 55 j) ∧ Fr [] [] [55] [] s s')) noX := by
  refine Ct.of (by decide) (Nat.le_of_ble_eq_true rfl) rfl ?_
  refine r_iconst (v := nI 0) (pc := 0) dX6_triesAnew_0 (by decide) ?_
  refine r_ist1 (pc := 1) dX6_triesAnew_1 ?_
  exact anewLoop hS 89 0 s (by omega) (fun j => by rw [if_neg (by omega)]) Fr.rf
theorem ct_X6_takesBack (hS : ShM g M o) : Ct g yX6_takesBack cX6_takesBack 1 none 1 0 0 [.ref o] (putM M o s) (QM M o (fun r s' => r = none ∧ (∀ j, mA s' 55 j = if j < 89 then mA s 56 j else mA s 55 j) ∧ mF s' 64 = nI 0 ∧ Fr [64] [] [55] [] s s')) noX := by
  refine Ct.of (by decide) (Nat.le_of_ble_eq_true rfl) rfl ?_
  refine r_ald0 (pc := 0) dX6_takesBack_0 ?_
  refine r_cV (pc := 1) dX6_takesBack_1 cv_X6_492 hS.k (ct_X6_triesAnew hS) rfl rfl (Nat.le_of_ble_eq_true rfl) (by decide) ?_
  rintro _ _ ⟨s1, rfl, rfl, hj, hf⟩
  refine r_ald0 (pc := 4) dX6_takesBack_4 ?_
  refine r_iconst (v := nI 0) (pc := 5) dX6_takesBack_5 (by decide) ?_
  refine m_putI hS (pc := 6) dX6_takesBack_6 fl_X6_464 fw_X6_64 (by first | rfl | exact zI_nar | assumption) (by first | rfl | exact zI_fit | assumption) ?_
  refine r_vret (pc := 9) dX6_takesBack_9 ?_
  exact ⟨_, rfl, rfl, hj, rfl, Fr.tF (hf.mono (by decide) (by decide) (by decide) (by decide)) (by decide)⟩
/-- what tries may change -/
abbrev trF : List Nat := [54, 57, 58, 59, 60, 61, 62, 63, 64, 65, 71, 108]
abbrev trA : List Nat := [55, 56, 66, 69, 70]
theorem IM.back {s' : MS} (h : IM s q) (hG : GI q) (hf : Fr trF [] trA [107] s s') (hj : ∀ j, j < 89 → mA s' 55 j = mA s 55 j) (hK : RK s' (gK q)) (h64 : mF s' 64 = nI 0) : IM s' q := by
  obtain ⟨a1, a2, a3, a4, a5, a6, a7, a8, a9, a10⟩ := h
  exact ⟨a1.fr hf (by decide), a2.fr hf (by decide), a3.fr hf (by decide), a4.fr hf (by decide) (by decide) (by decide), ⟨RN.low hG.2.2.1.1 a5.1 hj, hK, h64⟩, a6.fr hf (by decide), a7.fr hf (by decide), a8.fr hf (by decide), a9.fr hf (by decide), a10.fr hf (by decide)⟩
/-- a state in the middle of tries: what is aside, the flag, the rest -/
def TR (s : MS) (q : Sg) (s1 : MS) : Prop := (∀ j, j < 89 → mA s1 56 j = mA s 55 j) ∧ mF s1 64 = zI (true = true) ∧ RK s1 (gK q) ∧ Fr trF [] trA [107] s s1
theorem TR.start {s1 : MS} (h : IM s q) (h1 : ∀ j, j < 89 → mA s1 56 j = mA s 55 j) (h2 : mF s1 64 = nI 1) (hf : Fr [64] [] [56] [] s s1) : TR s q s1 := ⟨h1, h2, h.2.2.2.2.1.2.1.fr hf (by decide), hf.mono (by decide) (by decide) (by decide) (by decide)⟩
theorem TR.years {s1 s2 : MS} {x : St × List Ev} (h : TR s q s1) (hY : YP T true (gK q) s1 x s2) : TR s q s2 := by
  refine ⟨fun j hj => ?_, (hY.2.2.2.1 64 (by decide)).trans h.2.1, hY.2.1, h.2.2.2.trans (hY.2.2.2.mono (by decide) (by decide) (by decide) (by decide))⟩
  rw [hY.2.2.2.2.2.1 56 (by decide)]; exact h.1 j hj
theorem TR.fr {s1 s2 : MS} {fs gs as bs : List Nat} (h : TR s q s1) (hf : Fr fs gs as bs s1 s2) (hd : (∀ i ∈ fs, i ∈ trF ∧ i ≠ 64) ∧ (∀ i ∈ gs, False) ∧ (∀ i ∈ as, i ∈ trA ∧ i ≠ 55 ∧ i ≠ 56) ∧ ∀ i ∈ bs, i ∈ ([107] : List Nat)) : TR s q s2 := by
  refine ⟨fun j hj => ?_, ?_, ?_, h.2.2.2.trans (hf.mono (fun i hi => (hd.1 i hi).1) (fun i hi => (hd.2.1 i hi).elim) (fun i hi => (hd.2.2.1 i hi).1) (fun i hi => hd.2.2.2 i hi))⟩
  · rw [hf.2.2.1 56 (fun h9 => (hd.2.2.1 56 h9).2.2 rfl)]; exact h.1 j hj
  · rw [hf.1 64 (fun h9 => (hd.1 64 h9).2 rfl)]; exact h.2.1
  · exact h.2.2.1.fr hf (fun h9 => (hd.2.2.1 55 h9).2.1 rfl)
theorem TR.back {s2 s3 : MS} (hI : IM s q) (hG : GI q) (h : TR s q s2) (hj : ∀ j, mA s3 55 j = if j < 89 then mA s2 56 j else mA s2 55 j) (h64 : mF s3 64 = nI 0) (hf : Fr [64] [] [55] [] s2 s3) : IM s3 q := by
  refine hI.back hG (h.2.2.2.trans (hf.mono (by decide) (by decide) (by decide) (by decide))) (fun j hj' => by rw [hj, if_pos hj']; exact h.1 j hj') (h.2.2.1.of (fun j hj' => by rw [hj, if_neg (by omega)])) h64
theorem TR.anew {s2 s3 : MS} (h : TR s q s2) (hj : ∀ j, mA s3 55 j = if j < 89 then mA s2 56 j else mA s2 55 j) (hf : Fr [] [] [55] [] s2 s3) : TR s q s3 ∧ ∀ j, j < 89 → mA s3 55 j = mA s 55 j := by
  refine ⟨⟨fun j hj' => ?_, (hf.1 64 (by decide)).trans h.2.1, h.2.2.1.of (fun j hj' => by rw [hj, if_neg (by omega)]), h.2.2.2.trans (hf.mono (by decide) (by decide) (by decide) (by decide))⟩, fun j hj' => by rw [hj, if_pos hj']; exact h.1 j hj'⟩
  rw [hf.2.2.1 56 (by decide)]; exact h.1 j hj'
theorem TR.rt {s1 : MS} (hI : IM s q) (h : TR s q s1) : RT s1 (gT q) := hI.2.2.2.1.1.fr h.2.2.2 (by decide) (by decide)
theorem pm_later {a b : Int32} (hS : ShM g M o) (hI : IM s q) (hG : GI q) : Ct g yX6_later cX6_later 4 (some Jvm.ClassFile.FieldType.int) 7 0 0 [.ref o, .int a, .int b] (putM M o s) (PM M o q (.int (laterS q a b))) noX := by
  have hT := hI.2.2.2.1.1
  have hTB := hG.2.2.1
  have hN := hI.2.2.2.2.1.1
  have hB : SB (tn (gT q)) (gS q) := hG.2.2.2.2.2.1.1
  have hy : yr (gS q) ≤ 999 := hG.2.2.2.2.2.1.2.1
  have hn8 := hTB.1
  obtain ⟨ha1, ha2⟩ := b31_of a
  refine Ct.of (by decide) (Nat.le_of_ble_eq_true rfl) rfl ?_
  unfold laterS
  cases hp : pidx a (tn (gT q)) with
  | none =>
    have hp := pidx_none hp
    refine r_ald0 (pc := 0) dX6_later_0 ?_
    refine r_ild1 (pc := 1) dX6_later_1 ?_
    refine r_i2lT (pc := 2) dX6_later_2 ?_
    refine r_cV (pc := 3) dX6_later_3 cv_X6_394 hS.k (ct_X6_isPerson hS hT.2.1 hn8 (by constructor <;> omega)) rfl rfl (Nat.le_of_ble_eq_true rfl) (by decide) ?_
    rintro _ _ ⟨rfl, rfl⟩
    first | refine r_if_eqZ (pc := 6) (tgt := 20) dX6_later_6 (by decide) (fun h6 => ?_) (fun h6 => ?_) | refine r_if_eqN (pc := 6) (tgt := 20) dX6_later_6 (by decide) (by omega) (fun h6 => ?_) (fun h6 => ?_) | refine r_if_eq (pc := 6) (tgt := 20) dX6_later_6 (by decide) (fun h6 => ?_) (fun h6 => ?_)
    · skip
      refine r_iconst (v := -1) (pc := 20) dX6_later_20 (by decide) ?_
      refine r_iret (pc := 21) dX6_later_21 ?_
      exact ⟨s, rfl, rfl, hI⟩
    · skip
      exact absurd h6 hp
  | some p =>
    obtain ⟨h1, rfl⟩ := pidx_some hp
    cases hr : ahd (gS q) b 0 60 with
    | none =>
      have hr := ahd_none hr
      refine r_ald0 (pc := 0) dX6_later_0 ?_
      refine r_ild1 (pc := 1) dX6_later_1 ?_
      first | refine r_i2lM (pc := 2) dX6_later_2 (by omega) ?_ | refine r_i2lI (pc := 2) dX6_later_2 (by constructor <;> omega) ?_ | refine r_i2lT (pc := 2) dX6_later_2 ?_
      refine r_cV (pc := 3) dX6_later_3 cv_X6_394 hS.k (ct_X6_isPerson hS hT.2.1 hn8 (by constructor <;> omega)) rfl rfl (Nat.le_of_ble_eq_true rfl) (by decide) ?_
      rintro _ _ ⟨rfl, rfl⟩
      first | refine r_if_eqZ (pc := 6) (tgt := 20) dX6_later_6 (by decide) (fun h6 => ?_) (fun h6 => ?_) | refine r_if_eqN (pc := 6) (tgt := 20) dX6_later_6 (by decide) (by omega) (fun h6 => ?_) (fun h6 => ?_) | refine r_if_eq (pc := 6) (tgt := 20) dX6_later_6 (by decide) (fun h6 => ?_) (fun h6 => ?_)
      · skip
        exact absurd h6 (by omega)
      · skip
        refine r_ald0 (pc := 9) dX6_later_9 ?_
        refine r_ild2 (pc := 10) dX6_later_10 ?_
        refine r_iconst (v := nI 0) (pc := 11) dX6_later_11 (by decide) ?_
        refine r_bipush (v := nI 60) (pc := 12) dX6_later_12 (by decide) ?_
        refine r_cV (pc := 14) dX6_later_14 cv_X6_524 hS.k (ct_X6_isAhead hS hN.1 (by omega) (by decide) (by decide)) rfl rfl (Nat.le_of_ble_eq_true rfl) (by decide) ?_
        rintro _ _ ⟨rfl, rfl⟩
        first | refine r_if_neZ (pc := 17) (tgt := 22) dX6_later_17 (by decide) (fun h17 => ?_) (fun h17 => ?_) | refine r_if_neN (pc := 17) (tgt := 22) dX6_later_17 (by decide) (by omega) (fun h17 => ?_) (fun h17 => ?_) | refine r_if_ne (pc := 17) (tgt := 22) dX6_later_17 (by decide) (fun h17 => ?_) (fun h17 => ?_)
        · skip
          exact absurd h17 hr
        · skip
          refine r_iconst (v := -1) (pc := 20) dX6_later_20 (by decide) ?_
          refine r_iret (pc := 21) dX6_later_21 ?_
          exact ⟨s, rfl, rfl, hI⟩
    | some n =>
      obtain ⟨n1, n2, n3, rfl⟩ := ahd_some hr
      refine r_ald0 (pc := 0) dX6_later_0 ?_
      refine r_ild1 (pc := 1) dX6_later_1 ?_
      first | refine r_i2lM (pc := 2) dX6_later_2 (by omega) ?_ | refine r_i2lI (pc := 2) dX6_later_2 (by constructor <;> omega) ?_ | refine r_i2lT (pc := 2) dX6_later_2 ?_
      refine r_cV (pc := 3) dX6_later_3 cv_X6_394 hS.k (ct_X6_isPerson hS hT.2.1 hn8 (by constructor <;> omega)) rfl rfl (Nat.le_of_ble_eq_true rfl) (by decide) ?_
      rintro _ _ ⟨rfl, rfl⟩
      first | refine r_if_eqZ (pc := 6) (tgt := 20) dX6_later_6 (by decide) (fun h6 => ?_) (fun h6 => ?_) | refine r_if_eqN (pc := 6) (tgt := 20) dX6_later_6 (by decide) (by omega) (fun h6 => ?_) (fun h6 => ?_) | refine r_if_eq (pc := 6) (tgt := 20) dX6_later_6 (by decide) (fun h6 => ?_) (fun h6 => ?_)
      · skip
        exact absurd h6 (by omega)
      · skip
        refine r_ald0 (pc := 9) dX6_later_9 ?_
        refine r_ild2 (pc := 10) dX6_later_10 ?_
        refine r_iconst (v := nI 0) (pc := 11) dX6_later_11 (by decide) ?_
        refine r_bipush (v := nI 60) (pc := 12) dX6_later_12 (by decide) ?_
        refine r_cV (pc := 14) dX6_later_14 cv_X6_524 hS.k (ct_X6_isAhead hS hN.1 (by omega) (by decide) (by decide)) rfl rfl (Nat.le_of_ble_eq_true rfl) (by decide) ?_
        rintro _ _ ⟨rfl, rfl⟩
        first | refine r_if_neZ (pc := 17) (tgt := 22) dX6_later_17 (by decide) (fun h17 => ?_) (fun h17 => ?_) | refine r_if_neN (pc := 17) (tgt := 22) dX6_later_17 (by decide) (by omega) (fun h17 => ?_) (fun h17 => ?_) | refine r_if_ne (pc := 17) (tgt := 22) dX6_later_17 (by decide) (fun h17 => ?_) (fun h17 => ?_)
        · skip
          refine r_ald0 (pc := 22) dX6_later_22 ?_
          refine r_cV (pc := 23) dX6_later_23 cv_X6_528 hS.k (ct_X6_putsAside hS) rfl rfl (Nat.le_of_ble_eq_true rfl) (by decide) ?_
          rintro _ _ ⟨s1, rfl, rfl, hj1, h64, hf1⟩
          have hR1 := TR.start hI hj1 h64 hf1
          have hN1 := hN.fr hf1 (by decide)
          refine r_ald0 (pc := 26) dX6_later_26 ?_
          refine r_ild2 (pc := 27) dX6_later_27 ?_
          refine r_cV (pc := 28) dX6_later_28 cv_X6_531 hS.k (ct_X6_yearsGo (T := gT q) (t := gS q) (K := gK q) (tb := true) hS (hR1.rt hI) hTB hN1 hB hR1.2.2.1 hR1.2.1 (by omega) (by omega)) rfl rfl (Nat.le_of_ble_eq_true rfl) (by decide) ?_
          rintro _ _ ⟨s2, rfl, rfl, hY⟩
          have hR2 := hR1.years hY
          refine r_ald0 (pc := 31) dX6_later_31 ?_
          refine r_ild1 (pc := 32) dX6_later_32 ?_
          refine r_cV (pc := 33) dX6_later_33 cv_X6_423 hS.k (ct_X6_lookOf hS (by omega)) rfl rfl (Nat.le_of_ble_eq_true rfl) (by decide) ?_
          rintro _ _ ⟨rfl, rfl⟩
          refine Bd.eqI (hY.1.2.2.1 p h1) ?_
          refine r_ist3 (pc := 36) dX6_later_36 ?_
          refine r_ald0 (pc := 37) dX6_later_37 ?_
          refine r_cV (pc := 38) dX6_later_38 cv_X6_534 hS.k (ct_X6_takesBack hS) rfl rfl (Nat.le_of_ble_eq_true rfl) (by decide) ?_
          rintro _ _ ⟨s3, rfl, rfl, hj3, h643, hf3⟩
          refine r_ild3 (pc := 41) dX6_later_41 ?_
          refine r_iret (pc := 42) dX6_later_42 ?_
          exact ⟨s3, rfl, rfl, TR.back hI hG hR2 hj3 h643 hf3⟩
        · skip
          exact absurd (by rw [nI_toInt (by omega)]; omega) h17
theorem pm_mind {a b c : Int32} (hS : ShM g M o) (hI : IM s q) (hG : GI q) : Ct g yX6_mind cX6_mind 5 (some Jvm.ClassFile.FieldType.int) 7 0 0 [.ref o, .int a, .int b, .int c] (putM M o s) (PM M o q (.int (mindQ q a b c))) noX := by
  have hT := hI.2.2.2.1.1
  have hTB := hG.2.2.1
  have hN := hI.2.2.2.2.1.1
  have hB : SB (tn (gT q)) (gS q) := hG.2.2.2.2.2.1.1
  have hy : yr (gS q) ≤ 999 := hG.2.2.2.2.2.1.2.1
  have hn8 := hTB.1
  refine Ct.of (by decide) (Nat.le_of_ble_eq_true rfl) rfl ?_
  unfold mindQ
  cases hp : twoS (tn (gT q)) a b with
  | none =>
    have hp : ¬ ∃ x, twoS (tn (gT q)) a b = some x := by rw [hp]; rintro ⟨x, h⟩; cases h
    rw [twoS_iff (by omega)] at hp
    refine r_ald0 (pc := 0) dX6_mind_0 ?_
    refine r_ild1 (pc := 1) dX6_mind_1 ?_
    refine r_ild2 (pc := 2) dX6_mind_2 ?_
    refine r_cV (pc := 3) dX6_mind_3 cv_X6_519 hS.k (ct_X6_areTwo hS hT.2.1 hn8) rfl rfl (Nat.le_of_ble_eq_true rfl) (by decide) ?_
    rintro _ _ ⟨rfl, rfl⟩
    first | refine r_if_eqZ (pc := 6) (tgt := 20) dX6_mind_6 (by decide) (fun h6 => ?_) (fun h6 => ?_) | refine r_if_eqN (pc := 6) (tgt := 20) dX6_mind_6 (by decide) (by omega) (fun h6 => ?_) (fun h6 => ?_) | refine r_if_eq (pc := 6) (tgt := 20) dX6_mind_6 (by decide) (fun h6 => ?_) (fun h6 => ?_)
    · skip
      refine r_iconst (v := -1) (pc := 20) dX6_mind_20 (by decide) ?_
      refine r_iret (pc := 21) dX6_mind_21 ?_
      exact ⟨s, rfl, rfl, hI⟩
    · skip
      exact absurd h6 hp
  | some x =>
    obtain ⟨h1, h2, h3, h4, h5⟩ := twoS_some hp
    have hp : ∃ x, twoS (tn (gT q)) a b = some x := ⟨x, hp⟩
    rw [twoS_iff (by omega)] at hp
    cases hr : ahd (gS q) c 0 60 with
    | none =>
      have hr := ahd_none hr
      refine r_ald0 (pc := 0) dX6_mind_0 ?_
      refine r_ild1 (pc := 1) dX6_mind_1 ?_
      refine r_ild2 (pc := 2) dX6_mind_2 ?_
      refine r_cV (pc := 3) dX6_mind_3 cv_X6_519 hS.k (ct_X6_areTwo hS hT.2.1 hn8) rfl rfl (Nat.le_of_ble_eq_true rfl) (by decide) ?_
      rintro _ _ ⟨rfl, rfl⟩
      first | refine r_if_eqZ (pc := 6) (tgt := 20) dX6_mind_6 (by decide) (fun h6 => ?_) (fun h6 => ?_) | refine r_if_eqN (pc := 6) (tgt := 20) dX6_mind_6 (by decide) (by omega) (fun h6 => ?_) (fun h6 => ?_) | refine r_if_eq (pc := 6) (tgt := 20) dX6_mind_6 (by decide) (fun h6 => ?_) (fun h6 => ?_)
      · skip
        exact absurd hp h6
      · skip
        refine r_ald0 (pc := 9) dX6_mind_9 ?_
        refine r_ild3 (pc := 10) dX6_mind_10 ?_
        refine r_iconst (v := nI 0) (pc := 11) dX6_mind_11 (by decide) ?_
        refine r_bipush (v := nI 60) (pc := 12) dX6_mind_12 (by decide) ?_
        refine r_cV (pc := 14) dX6_mind_14 cv_X6_524 hS.k (ct_X6_isAhead hS hN.1 (by omega) (by decide) (by decide)) rfl rfl (Nat.le_of_ble_eq_true rfl) (by decide) ?_
        rintro _ _ ⟨rfl, rfl⟩
        first | refine r_if_neZ (pc := 17) (tgt := 22) dX6_mind_17 (by decide) (fun h17 => ?_) (fun h17 => ?_) | refine r_if_neN (pc := 17) (tgt := 22) dX6_mind_17 (by decide) (by omega) (fun h17 => ?_) (fun h17 => ?_) | refine r_if_ne (pc := 17) (tgt := 22) dX6_mind_17 (by decide) (fun h17 => ?_) (fun h17 => ?_)
        · skip
          exact absurd h17 hr
        · skip
          refine r_iconst (v := -1) (pc := 20) dX6_mind_20 (by decide) ?_
          refine r_iret (pc := 21) dX6_mind_21 ?_
          exact ⟨s, rfl, rfl, hI⟩
    | some n =>
      obtain ⟨n1, n2, n3, rfl⟩ := ahd_some hr
      subst h4
      subst h5
      refine r_ald0 (pc := 0) dX6_mind_0 ?_
      refine r_ild1 (pc := 1) dX6_mind_1 ?_
      refine r_ild2 (pc := 2) dX6_mind_2 ?_
      refine r_cV (pc := 3) dX6_mind_3 cv_X6_519 hS.k (ct_X6_areTwo hS hT.2.1 hn8) rfl rfl (Nat.le_of_ble_eq_true rfl) (by decide) ?_
      rintro _ _ ⟨rfl, rfl⟩
      first | refine r_if_eqZ (pc := 6) (tgt := 20) dX6_mind_6 (by decide) (fun h6 => ?_) (fun h6 => ?_) | refine r_if_eqN (pc := 6) (tgt := 20) dX6_mind_6 (by decide) (by omega) (fun h6 => ?_) (fun h6 => ?_) | refine r_if_eq (pc := 6) (tgt := 20) dX6_mind_6 (by decide) (fun h6 => ?_) (fun h6 => ?_)
      · skip
        exact absurd hp h6
      · skip
        refine r_ald0 (pc := 9) dX6_mind_9 ?_
        refine r_ild3 (pc := 10) dX6_mind_10 ?_
        refine r_iconst (v := nI 0) (pc := 11) dX6_mind_11 (by decide) ?_
        refine r_bipush (v := nI 60) (pc := 12) dX6_mind_12 (by decide) ?_
        refine r_cV (pc := 14) dX6_mind_14 cv_X6_524 hS.k (ct_X6_isAhead hS hN.1 (by omega) (by decide) (by decide)) rfl rfl (Nat.le_of_ble_eq_true rfl) (by decide) ?_
        rintro _ _ ⟨rfl, rfl⟩
        first | refine r_if_neZ (pc := 17) (tgt := 22) dX6_mind_17 (by decide) (fun h17 => ?_) (fun h17 => ?_) | refine r_if_neN (pc := 17) (tgt := 22) dX6_mind_17 (by decide) (by omega) (fun h17 => ?_) (fun h17 => ?_) | refine r_if_ne (pc := 17) (tgt := 22) dX6_mind_17 (by decide) (fun h17 => ?_) (fun h17 => ?_)
        · skip
          refine r_ald0 (pc := 22) dX6_mind_22 ?_
          refine r_cV (pc := 23) dX6_mind_23 cv_X6_528 hS.k (ct_X6_putsAside hS) rfl rfl (Nat.le_of_ble_eq_true rfl) (by decide) ?_
          rintro _ _ ⟨s1, rfl, rfl, hj1, h64, hf1⟩
          have hR1 := TR.start hI hj1 h64 hf1
          have hN1 := hN.fr hf1 (by decide)
          refine r_ald0 (pc := 26) dX6_mind_26 ?_
          refine r_ild3 (pc := 27) dX6_mind_27 ?_
          refine r_cV (pc := 28) dX6_mind_28 cv_X6_531 hS.k (ct_X6_yearsGo (T := gT q) (t := gS q) (K := gK q) (tb := true) hS (hR1.rt hI) hTB hN1 hB hR1.2.2.1 hR1.2.1 (by omega) (by omega)) rfl rfl (Nat.le_of_ble_eq_true rfl) (by decide) ?_
          rintro _ _ ⟨s2, rfl, rfl, hY⟩
          have hR2 := hR1.years hY
          refine r_ald0 (pc := 31) dX6_mind_31 ?_
          refine r_ild1 (pc := 32) dX6_mind_32 ?_
          refine r_ild2 (pc := 33) dX6_mind_33 ?_
          refine r_cV (pc := 34) dX6_mind_34 cv_X6_438 hS.k (ct_X6_thoughtOf hS (by omega) (by omega)) rfl rfl (Nat.le_of_ble_eq_true rfl) (by decide) ?_
          rintro _ _ ⟨rfl, rfl⟩
          refine Bd.eqI (hY.1.2.2.2.2 x.1 h1 x.2 h2) ?_
          refine r_ist4 (pc := 37) dX6_mind_37 ?_
          refine r_ald0 (pc := 39) dX6_mind_39 ?_
          refine r_cV (pc := 40) dX6_mind_40 cv_X6_534 hS.k (ct_X6_takesBack hS) rfl rfl (Nat.le_of_ble_eq_true rfl) (by decide) ?_
          rintro _ _ ⟨s3, rfl, rfl, hj3, h643, hf3⟩
          refine r_ild4 (pc := 43) dX6_mind_43 ?_
          refine r_iret (pc := 45) dX6_mind_45 ?_
          exact ⟨s3, rfl, rfl, TR.back hI hG hR2 hj3 h643 hf3⟩
        · skip
          exact absurd (by rw [nI_toInt (by omega)]; omega) h17
end M10
