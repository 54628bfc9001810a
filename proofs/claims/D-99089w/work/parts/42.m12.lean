set_option maxRecDepth 100000
/-! THE MODEL: acts, refusals -/
section M12
variable {g : GC} {M : MM} {o : Nat} {s : MS} {M1 : MM} {q : Sg} {T : Te} {t : St} {K : List Ev}
theorem IM.ref {i : Nat} {v : Int32} (h : IM s q) (hi : i < 6) (hv : v = nI (gRf q i + 1)) : IM (tA s 9 i v) (uRf q i) := by
  have hf : Fr [] [] [9] [] s (tA s 9 i v) := Fr.tA Fr.rf (by decide)
  obtain ⟨a1, a2, a3, a4, a5, a6, a7, a8, a9, a10⟩ := h
  refine ⟨a1.fr hf (by decide), a2.fr hf (by decide), fun j hj => ?_, a4.fr hf (by decide) (by decide) (by decide), a5.fr hf (by decide), a6.fr hf (by decide), a7.fr hf (by decide), a8.fr hf (by decide), a9.fr hf (by decide), a10.fr hf (by decide)⟩
  show _ = nI (va_up (gRf q) i (gRf q i + 1) j)
  unfold va_up
  by_cases e : j = i
  · subst e; rw [tA_eq, if_pos rfl]; exact hv
  · rw [tA_ne e, if_neg e]; exact a3 j hj
theorem ct_X6_refuses {i : Nat} (hS : ShM g M o) (hI : IM s q) (hi : i < 6) : Ct g yX6_refuses cX6_refuses 2 (some Jvm.ClassFile.FieldType.int) 0 0 0 [.ref o, .int (nI i)] (putM M o s) (PM M o (uRf q i) (.int (-1))) noX := by
  refine Ct.of (by decide) (Nat.le_of_ble_eq_true rfl) rfl ?_
  refine r_ald0 (pc := 0) dX6_refuses_0 ?_
  refine m_getR hS (pc := 1) dX6_refuses_1 fl_X6_17 ar9 ?_
  refine r_ild1 (pc := 4) dX6_refuses_4 ?_
  refine r_dup2 (pc := 5) dX6_refuses_5 rfl rfl ?_
  refine m_iald hS (pc := 6) dX6_refuses_6 ar9 (by omega) (by omega) ?_
  refine Bd.eqI (hI.2.2.1 i hi) ?_
  refine r_iconst (v := nI 1) (pc := 7) dX6_refuses_7 (by decide) ?_
  first | refine r_iaddN (pc := 8) dX6_refuses_8 ?_ | refine r_iaddJ (pc := 8) dX6_refuses_8 ?_ | refine r_iadd (pc := 8) dX6_refuses_8 ?_
  refine m_iast hS (pc := 9) dX6_refuses_9 ar9 (by omega) (by omega) ?_
  refine r_iconst (v := -1) (pc := 10) dX6_refuses_10 (by decide) ?_
  refine r_iret (pc := 11) dX6_refuses_11 ?_
  exact ⟨_, rfl, rfl, hI.ref hi rfl⟩
theorem ct_X6_isRefused (hS : ShM g M o) (hI : IM s q) : Ct g yX6_isRefused cX6_isRefused 1 (some Jvm.ClassFile.FieldType.boolean) 0 0 0 [.ref o] (putM M o s) (PM M o (uRf q 2) (.int 0)) noX := by
  refine Ct.of (by decide) (Nat.le_of_ble_eq_true rfl) rfl ?_
  refine r_ald0 (pc := 0) dX6_isRefused_0 ?_
  refine m_getR hS (pc := 1) dX6_isRefused_1 fl_X6_17 ar9 ?_
  refine r_iconst (v := nI 2) (pc := 4) dX6_isRefused_4 (by decide) ?_
  refine r_dup2 (pc := 5) dX6_isRefused_5 rfl rfl ?_
  refine m_iald hS (pc := 6) dX6_isRefused_6 ar9 (by omega) (by omega) ?_
  refine Bd.eqI (hI.2.2.1 2 (by decide)) ?_
  refine r_iconst (v := nI 1) (pc := 7) dX6_isRefused_7 (by decide) ?_
  first | refine r_iaddN (pc := 8) dX6_isRefused_8 ?_ | refine r_iaddJ (pc := 8) dX6_isRefused_8 ?_ | refine r_iadd (pc := 8) dX6_isRefused_8 ?_
  refine m_iast hS (pc := 9) dX6_isRefused_9 ar9 (by omega) (by omega) ?_
  refine r_iconst (v := nI 0) (pc := 10) dX6_isRefused_10 (by decide) ?_
  refine r_zret (pc := 11) dX6_isRefused_11 (by first | rfl | exact zI_nar | assumption) ?_
  exact ⟨_, rfl, rfl, hI.ref (by decide) rfl⟩
theorem pm_seed {x : Int32} (hS : ShM g M o) (hI : IM s q) : Ct g yX6_seed cX6_seed 2 (some Jvm.ClassFile.FieldType.boolean) 0 0 0 [.ref o, .int x] (putM M o s) (PM M o (seedS q x).2 (.int (seedS q x).1)) noX := by
  refine Ct.of (by decide) (Nat.le_of_ble_eq_true rfl) rfl ?_
  unfold seedS
  refine r_ild1 (pc := 0) dX6_seed_0 ?_
  refine r_if_ge (pc := 1) (tgt := 16) dX6_seed_1 (by decide) (fun h1 => ?_) (fun h1 => ?_)
  · skip
    rw [Int32.le_iff_toInt_le, Int32.toInt_zero] at h1
    rw [if_neg (by omega)]
    refine r_ald0 (pc := 16) dX6_seed_16 ?_
    refine r_ild1 (pc := 17) dX6_seed_17 ?_
    refine r_i2lT (pc := 18) dX6_seed_18 ?_
    refine m_putL hS (pc := 19) dX6_seed_19 fl_X6_143 fw_X6_75 ?_
    refine r_iconst (v := nI 1) (pc := 22) dX6_seed_22 (by decide) ?_
    refine r_zret (pc := 23) dX6_seed_23 (by first | rfl | exact zI_nar | assumption) ?_
    have hf : Fr [] [75] [] [] s (tG s 75 (lI x.toInt)) := Fr.tG Fr.rf (by decide)
    obtain ⟨a1, a2, a3, a4, a5, a6, a7, a8, a9, a10⟩ := hI
    exact ⟨_, rfl, rfl, a1.fr hf (by decide), a2.fr hf (by decide), a3.fr hf (by decide), a4.fr hf (by decide) (by decide) (by decide), a5.fr hf (by decide), a6.fr hf (by decide), a7.fr hf (by decide), (by show lI x.toInt = lI (x.toInt.toNat : Int); rw [Int.toNat_of_nonneg (by omega)]), a9.fr hf (by decide), a10.fr hf (by decide)⟩
  · skip
    rw [Int32.le_iff_toInt_le, Int32.toInt_zero] at h1
    rw [if_pos (by omega)]
    refine r_ald0 (pc := 4) dX6_seed_4 ?_
    refine m_getR hS (pc := 5) dX6_seed_5 fl_X6_17 ar9 ?_
    refine r_iconst (v := nI 5) (pc := 8) dX6_seed_8 (by decide) ?_
    refine r_dup2 (pc := 9) dX6_seed_9 rfl rfl ?_
    refine m_iald hS (pc := 10) dX6_seed_10 ar9 (by omega) (by omega) ?_
    refine Bd.eqI (hI.2.2.1 5 (by decide)) ?_
    refine r_iconst (v := nI 1) (pc := 11) dX6_seed_11 (by decide) ?_
    first | refine r_iaddN (pc := 12) dX6_seed_12 ?_ | refine r_iaddJ (pc := 12) dX6_seed_12 ?_ | refine r_iadd (pc := 12) dX6_seed_12 ?_
    refine m_iast hS (pc := 13) dX6_seed_13 ar9 (by omega) (by omega) ?_
    refine r_iconst (v := nI 0) (pc := 14) dX6_seed_14 (by decide) ?_
    refine r_zret (pc := 15) dX6_seed_15 (by first | rfl | exact zI_nar | assumption) ?_
    exact ⟨_, rfl, rfl, hI.ref (by decide) rfl⟩
theorem pm_end {x : Int32} (hS : ShM g M o) (hI : IM s q) (hG : GI q) : Ct g yX6_end cX6_end 2 (some Jvm.ClassFile.FieldType.boolean) 0 0 0 [.ref o, .int x] (putM M o s) (PM M o (endS q x).2 (.int (endS q x).1)) noX := by
  have hd : gTd q ≤ 1600 := hG.1
  have h10 : (10 : Nat) ∈ ([10] : List Nat) := by decide
  refine Ct.of (by decide) (Nat.le_of_ble_eq_true rfl) rfl ?_
  unfold endS
  refine r_ild1 (pc := 0) dX6_end_0 ?_
  refine r_if_lt (pc := 1) (tgt := 12) dX6_end_1 (by decide) (fun h1 => ?_) (fun h1 => ?_)
  · skip
    rw [Int32.lt_iff_toInt_lt, Int32.toInt_zero] at h1
    rw [if_pos (by omega)]
    refine r_ald0 (pc := 12) dX6_end_12 ?_
    refine m_getR hS (pc := 13) dX6_end_13 fl_X6_17 ar9 ?_
    refine r_iconst (v := nI 0) (pc := 16) dX6_end_16 (by decide) ?_
    refine r_dup2 (pc := 17) dX6_end_17 rfl rfl ?_
    refine m_iald hS (pc := 18) dX6_end_18 ar9 (by omega) (by omega) ?_
    refine Bd.eqI (hI.2.2.1 0 (by decide)) ?_
    refine r_iconst (v := nI 1) (pc := 19) dX6_end_19 (by decide) ?_
    first | refine r_iaddN (pc := 20) dX6_end_20 ?_ | refine r_iaddJ (pc := 20) dX6_end_20 ?_ | refine r_iadd (pc := 20) dX6_end_20 ?_
    refine m_iast hS (pc := 21) dX6_end_21 ar9 (by omega) (by omega) ?_
    refine r_iconst (v := nI 0) (pc := 22) dX6_end_22 (by decide) ?_
    refine r_zret (pc := 23) dX6_end_23 (by first | rfl | exact zI_nar | assumption) ?_
    exact ⟨_, rfl, rfl, hI.ref (by decide) rfl⟩
  · skip
    rw [Int32.lt_iff_toInt_lt, Int32.toInt_zero] at h1
    refine r_ild1 (pc := 4) dX6_end_4 ?_
    refine r_ald0 (pc := 5) dX6_end_5 ?_
    refine m_getI hS (pc := 6) dX6_end_6 fl_X6_234 ?_
    refine Bd.eqI hI.1.1 ?_
    refine r_icmp_le (pc := 9) (tgt := 24) dX6_end_9 (by decide) (fun h9 => ?_) (fun h9 => ?_)
    · skip
      rw [Int32.le_iff_toInt_le, nI_toInt (by omega)] at h9
      rw [if_neg (by omega)]
      refine r_ald0 (pc := 24) dX6_end_24 ?_
      refine r_ild1 (pc := 25) dX6_end_25 ?_
      refine m_putI hS (pc := 26) dX6_end_26 fl_X6_234 fw_X6_1 rfl rfl ?_
      refine r_iconst (v := nI 1) (pc := 29) dX6_end_29 (by decide) ?_
      refine r_zret (pc := 30) dX6_end_30 (by first | rfl | exact zI_nar | assumption) ?_
      have hf : Fr [1] [] [] [] s (tF s 1 x) := Fr.tF Fr.rf (by decide)
      obtain ⟨a1, a2, a3, a4, a5, a6, a7, a8, a9, a10⟩ := hI
      exact ⟨_, rfl, rfl, ⟨(by show x = nI x.toInt.toNat; rw [nI_iI, Int.toNat_of_nonneg (by omega)]; exact iI_of x), a1.2⟩, a2.fr hf (by decide), a3.fr hf (by decide), a4.fr hf (by decide) (by decide) (by decide), a5.fr hf (by decide), a6.fr hf (by decide), a7.fr hf (by decide), a8.fr hf (by decide), a9.fr hf (by decide), a10.fr hf (by decide)⟩
    · skip
      rw [Int32.le_iff_toInt_le, nI_toInt (by omega)] at h9
      rw [if_pos (by omega)]
      refine r_ald0 (pc := 12) dX6_end_12 ?_
      refine m_getR hS (pc := 13) dX6_end_13 fl_X6_17 ar9 ?_
      refine r_iconst (v := nI 0) (pc := 16) dX6_end_16 (by decide) ?_
      refine r_dup2 (pc := 17) dX6_end_17 rfl rfl ?_
      refine m_iald hS (pc := 18) dX6_end_18 ar9 (by omega) (by omega) ?_
      refine Bd.eqI (hI.2.2.1 0 (by decide)) ?_
      refine r_iconst (v := nI 1) (pc := 19) dX6_end_19 (by decide) ?_
      first | refine r_iaddN (pc := 20) dX6_end_20 ?_ | refine r_iaddJ (pc := 20) dX6_end_20 ?_ | refine r_iadd (pc := 20) dX6_end_20 ?_
      refine m_iast hS (pc := 21) dX6_end_21 ar9 (by omega) (by omega) ?_
      refine r_iconst (v := nI 0) (pc := 22) dX6_end_22 (by decide) ?_
      refine r_zret (pc := 23) dX6_end_23 (by first | rfl | exact zI_nar | assumption) ?_
      exact ⟨_, rfl, rfl, hI.ref (by decide) rfl⟩
theorem RN.setHs {n p v : Nat} (hn : n ≤ 8) (hp : p < n) (h : RN s n t) : RN (tA s 55 (1 + 3 * p) (nI v)) n (sHs t p v) := by
  obtain ⟨h1, h2, h3, h4, h5⟩ := h
  refine ⟨by rw [tA_ne (by omega)]; exact h1, fun q hq => ?_, fun q hq => ?_, fun q hq => ?_, fun q hq r hr => ?_⟩
  · show _ = nI (va_up (hs t) p v q)
    unfold va_up
    by_cases e : q = p
    · subst e; rw [tA_eq, if_pos rfl]
    · rw [tA_ne (by omega), if_neg e]; exact h2 q hq
  · rw [tA_ne (by omega)]; exact h3 q hq
  · rw [tA_ne (by omega)]; exact h4 q hq
  · rw [tA_ne (by omega)]; exact h5 q hq r hr
theorem RN.setSp {n p v : Nat} (hn : n ≤ 8) (hp : p < n) (h : RN s n t) : RN (tA s 55 (3 + 3 * p) (nI v)) n (sSp t p v) := by
  obtain ⟨h1, h2, h3, h4, h5⟩ := h
  refine ⟨by rw [tA_ne (by omega)]; exact h1, fun q hq => ?_, fun q hq => ?_, fun q hq => ?_, fun q hq r hr => ?_⟩
  · rw [tA_ne (by omega)]; exact h2 q hq
  · rw [tA_ne (by omega)]; exact h3 q hq
  · show _ = nI (va_up (sp t) p v q)
    unfold va_up
    by_cases e : q = p
    · subst e; rw [tA_eq, if_pos rfl]
    · rw [tA_ne (by omega), if_neg e]; exact h4 q hq
  · rw [tA_ne (by omega)]; exact h5 q hq r hr
/-- the state is another -/
theorem IM.now {s' : MS} {x : St × List Ev} (h : IM s q) (hf : Fr yF [] [55] [107] s s') (hN : RN s' (tn (gT q)) x.1) (hK : RK s' x.2) : IM s' (uNw q x) := by
  obtain ⟨a1, a2, a3, a4, a5, a6, a7, a8, a9, a10⟩ := h
  exact ⟨a1.fr hf (by decide), a2.fr hf (by decide), a3.fr hf (by decide), a4.fr hf (by decide) (by decide) (by decide), ⟨hN, hK, (hf.1 64 (by decide)).trans a5.2.2⟩, a6.fr hf (by decide), a7.fr hf (by decide), a8.fr hf (by decide), a9.fr hf (by decide), a10.fr hf (by decide)⟩
theorem ct_X6_changes {n a b : Nat} (hS : ShM g M o) (hn : mF s 40 = nI n) (hn8 : n ≤ 8) (hN : RN s n t) (hB : SB n t) (ha : a < 100) (hb : b < 100) : Ct g yX6_changes cX6_changes 5 none 2 0 0 [.ref o, .int (nI a), .int (nI b)] (putM M o s) (QM M o (fun r s' => r = none ∧ RN s' n (changesS n t a b) ∧ (∀ j, 89 ≤ j → mA s' 55 j = mA s 55 j) ∧ Fr [] [] [55] [] s s')) noX := by
  refine Ct.of (by decide) (Nat.le_of_ble_eq_true rfl) rfl ?_
  cases h1 : who t n a with
  | none =>
    cases h2 : who t n b with
    | none =>
      have hc : changesS n t a b = t := by unfold changesS; rw [h1, h2]
      rw [hc]
      refine r_ald0 (pc := 0) dX6_changes_0 ?_
      refine r_ild1 (pc := 1) dX6_changes_1 ?_
      refine r_cV (pc := 2) dX6_changes_2 cv_X6_406 hS.k (ct_X6_whoIn hS hn hn8 hN hB (by omega)) rfl rfl (Nat.le_of_ble_eq_true rfl) (by decide) ?_
      rintro _ _ ⟨rfl, rfl⟩
      refine Bd.eqI (x' := -1) (by rw [h1]; rfl) ?_
      refine r_ist3 (pc := 5) dX6_changes_5 ?_
      refine r_ald0 (pc := 6) dX6_changes_6 ?_
      refine r_ild2 (pc := 7) dX6_changes_7 ?_
      refine r_cV (pc := 8) dX6_changes_8 cv_X6_406 hS.k (ct_X6_whoIn hS hn hn8 hN hB (by omega)) rfl rfl (Nat.le_of_ble_eq_true rfl) (by decide) ?_
      rintro _ _ ⟨rfl, rfl⟩
      refine Bd.eqI (x' := -1) (by rw [h2]; rfl) ?_
      refine r_ist4 (pc := 11) dX6_changes_11 ?_
      refine r_ild3 (pc := 13) dX6_changes_13 ?_
      refine r_iconst (v := -1) (pc := 14) dX6_changes_14 (by decide) ?_
      first | refine r_icmp_eqN (pc := 15) (tgt := 29) dX6_changes_15 (by decide) (by omega) (by omega) (fun h15 => ?_) (fun h15 => ?_) | refine r_icmp_eq (pc := 15) (tgt := 29) dX6_changes_15 (by decide) (fun h15 => ?_) (fun h15 => ?_)
      · skip
        refine r_ild4 (pc := 29) dX6_changes_29 ?_
        refine r_iconst (v := -1) (pc := 31) dX6_changes_31 (by decide) ?_
        first | refine r_icmp_eqN (pc := 32) (tgt := 47) dX6_changes_32 (by decide) (by omega) (by omega) (fun h32 => ?_) (fun h32 => ?_) | refine r_icmp_eq (pc := 32) (tgt := 47) dX6_changes_32 (by decide) (fun h32 => ?_) (fun h32 => ?_)
        · skip
          refine r_vret (pc := 47) dX6_changes_47 ?_
          exact ⟨s, rfl, rfl, hN, fun _ _ => rfl, Fr.rf⟩
        · skip
          exact absurd rfl h32
      · skip
        exact absurd rfl h15
    | some r =>
      have hr := who_lt h2
      have hc : changesS n t a b = sHs t r a := by unfold changesS; rw [h1, h2]
      rw [hc]
      refine r_ald0 (pc := 0) dX6_changes_0 ?_
      refine r_ild1 (pc := 1) dX6_changes_1 ?_
      refine r_cV (pc := 2) dX6_changes_2 cv_X6_406 hS.k (ct_X6_whoIn hS hn hn8 hN hB (by omega)) rfl rfl (Nat.le_of_ble_eq_true rfl) (by decide) ?_
      rintro _ _ ⟨rfl, rfl⟩
      refine Bd.eqI (x' := -1) (by rw [h1]; rfl) ?_
      refine r_ist3 (pc := 5) dX6_changes_5 ?_
      refine r_ald0 (pc := 6) dX6_changes_6 ?_
      refine r_ild2 (pc := 7) dX6_changes_7 ?_
      refine r_cV (pc := 8) dX6_changes_8 cv_X6_406 hS.k (ct_X6_whoIn hS hn hn8 hN hB (by omega)) rfl rfl (Nat.le_of_ble_eq_true rfl) (by decide) ?_
      rintro _ _ ⟨rfl, rfl⟩
      refine Bd.eqI (x' := nI r) (by rw [h2]; rfl) ?_
      refine r_ist4 (pc := 11) dX6_changes_11 ?_
      refine r_ild3 (pc := 13) dX6_changes_13 ?_
      refine r_iconst (v := -1) (pc := 14) dX6_changes_14 (by decide) ?_
      first | refine r_icmp_eqN (pc := 15) (tgt := 29) dX6_changes_15 (by decide) (by omega) (by omega) (fun h15 => ?_) (fun h15 => ?_) | refine r_icmp_eq (pc := 15) (tgt := 29) dX6_changes_15 (by decide) (fun h15 => ?_) (fun h15 => ?_)
      · skip
        refine r_ild4 (pc := 29) dX6_changes_29 ?_
        refine r_iconst (v := -1) (pc := 31) dX6_changes_31 (by decide) ?_
        first | refine r_icmp_eqN (pc := 32) (tgt := 47) dX6_changes_32 (by decide) (by omega) (by omega) (fun h32 => ?_) (fun h32 => ?_) | refine r_icmp_eq (pc := 32) (tgt := 47) dX6_changes_32 (by decide) (fun h32 => ?_) (fun h32 => ?_)
        · skip
          exact absurd h32 (nI_m1 (by omega))
        · skip
          refine r_ald0 (pc := 35) dX6_changes_35 ?_
          refine m_getR hS (pc := 36) dX6_changes_36 fl_X6_121 ar55 ?_
          refine r_iconst (v := nI 1) (pc := 39) dX6_changes_39 (by decide) ?_
          refine r_iconst (v := nI 3) (pc := 40) dX6_changes_40 (by decide) ?_
          refine r_ild4 (pc := 41) dX6_changes_41 ?_
          first | refine r_imulN (pc := 43) dX6_changes_43 ?_ | refine r_imulJ (pc := 43) dX6_changes_43 ?_ | refine r_imul (pc := 43) dX6_changes_43 ?_
          first | refine r_iaddN (pc := 44) dX6_changes_44 ?_ | refine r_iaddJ (pc := 44) dX6_changes_44 ?_ | refine r_iadd (pc := 44) dX6_changes_44 ?_
          refine r_ild1 (pc := 45) dX6_changes_45 ?_
          refine m_iast hS (pc := 46) dX6_changes_46 ar55 (by omega) (by omega) ?_
          refine r_vret (pc := 47) dX6_changes_47 ?_
          exact ⟨_, rfl, rfl, RN.setHs hn8 hr hN, fun j hj => tA_ne (by omega), Fr.tA Fr.rf (by decide)⟩
      · skip
        exact absurd rfl h15
  | some p =>
    have hp := who_lt h1
    cases h2 : who t n b with
    | none =>
      have hc : changesS n t a b = sHs t p b := by unfold changesS; rw [h1, h2]
      rw [hc]
      refine r_ald0 (pc := 0) dX6_changes_0 ?_
      refine r_ild1 (pc := 1) dX6_changes_1 ?_
      refine r_cV (pc := 2) dX6_changes_2 cv_X6_406 hS.k (ct_X6_whoIn hS hn hn8 hN hB (by omega)) rfl rfl (Nat.le_of_ble_eq_true rfl) (by decide) ?_
      rintro _ _ ⟨rfl, rfl⟩
      refine Bd.eqI (x' := nI p) (by rw [h1]; rfl) ?_
      refine r_ist3 (pc := 5) dX6_changes_5 ?_
      refine r_ald0 (pc := 6) dX6_changes_6 ?_
      refine r_ild2 (pc := 7) dX6_changes_7 ?_
      refine r_cV (pc := 8) dX6_changes_8 cv_X6_406 hS.k (ct_X6_whoIn hS hn hn8 hN hB (by omega)) rfl rfl (Nat.le_of_ble_eq_true rfl) (by decide) ?_
      rintro _ _ ⟨rfl, rfl⟩
      refine Bd.eqI (x' := -1) (by rw [h2]; rfl) ?_
      refine r_ist4 (pc := 11) dX6_changes_11 ?_
      refine r_ild3 (pc := 13) dX6_changes_13 ?_
      refine r_iconst (v := -1) (pc := 14) dX6_changes_14 (by decide) ?_
      first | refine r_icmp_eqN (pc := 15) (tgt := 29) dX6_changes_15 (by decide) (by omega) (by omega) (fun h15 => ?_) (fun h15 => ?_) | refine r_icmp_eq (pc := 15) (tgt := 29) dX6_changes_15 (by decide) (fun h15 => ?_) (fun h15 => ?_)
      · skip
        exact absurd h15 (nI_m1 (by omega))
      · skip
        refine r_ald0 (pc := 18) dX6_changes_18 ?_
        refine m_getR hS (pc := 19) dX6_changes_19 fl_X6_121 ar55 ?_
        refine r_iconst (v := nI 1) (pc := 22) dX6_changes_22 (by decide) ?_
        refine r_iconst (v := nI 3) (pc := 23) dX6_changes_23 (by decide) ?_
        refine r_ild3 (pc := 24) dX6_changes_24 ?_
        first | refine r_imulN (pc := 25) dX6_changes_25 ?_ | refine r_imulJ (pc := 25) dX6_changes_25 ?_ | refine r_imul (pc := 25) dX6_changes_25 ?_
        first | refine r_iaddN (pc := 26) dX6_changes_26 ?_ | refine r_iaddJ (pc := 26) dX6_changes_26 ?_ | refine r_iadd (pc := 26) dX6_changes_26 ?_
        refine r_ild2 (pc := 27) dX6_changes_27 ?_
        refine m_iast hS (pc := 28) dX6_changes_28 ar55 (by omega) (by omega) ?_
        refine r_ild4 (pc := 29) dX6_changes_29 ?_
        refine r_iconst (v := -1) (pc := 31) dX6_changes_31 (by decide) ?_
        first | refine r_icmp_eqN (pc := 32) (tgt := 47) dX6_changes_32 (by decide) (by omega) (by omega) (fun h32 => ?_) (fun h32 => ?_) | refine r_icmp_eq (pc := 32) (tgt := 47) dX6_changes_32 (by decide) (fun h32 => ?_) (fun h32 => ?_)
        · skip
          refine r_vret (pc := 47) dX6_changes_47 ?_
          exact ⟨_, rfl, rfl, RN.setHs hn8 hp hN, fun j hj => tA_ne (by omega), Fr.tA Fr.rf (by decide)⟩
        · skip
          exact absurd rfl h32
    | some r =>
      have hr := who_lt h2
      have hc : changesS n t a b = sHs (sHs t p b) r a := by unfold changesS; rw [h1, h2]
      rw [hc]
      refine r_ald0 (pc := 0) dX6_changes_0 ?_
      refine r_ild1 (pc := 1) dX6_changes_1 ?_
      refine r_cV (pc := 2) dX6_changes_2 cv_X6_406 hS.k (ct_X6_whoIn hS hn hn8 hN hB (by omega)) rfl rfl (Nat.le_of_ble_eq_true rfl) (by decide) ?_
      rintro _ _ ⟨rfl, rfl⟩
      refine Bd.eqI (x' := nI p) (by rw [h1]; rfl) ?_
      refine r_ist3 (pc := 5) dX6_changes_5 ?_
      refine r_ald0 (pc := 6) dX6_changes_6 ?_
      refine r_ild2 (pc := 7) dX6_changes_7 ?_
      refine r_cV (pc := 8) dX6_changes_8 cv_X6_406 hS.k (ct_X6_whoIn hS hn hn8 hN hB (by omega)) rfl rfl (Nat.le_of_ble_eq_true rfl) (by decide) ?_
      rintro _ _ ⟨rfl, rfl⟩
      refine Bd.eqI (x' := nI r) (by rw [h2]; rfl) ?_
      refine r_ist4 (pc := 11) dX6_changes_11 ?_
      refine r_ild3 (pc := 13) dX6_changes_13 ?_
      refine r_iconst (v := -1) (pc := 14) dX6_changes_14 (by decide) ?_
      first | refine r_icmp_eqN (pc := 15) (tgt := 29) dX6_changes_15 (by decide) (by omega) (by omega) (fun h15 => ?_) (fun h15 => ?_) | refine r_icmp_eq (pc := 15) (tgt := 29) dX6_changes_15 (by decide) (fun h15 => ?_) (fun h15 => ?_)
      · skip
        exact absurd h15 (nI_m1 (by omega))
      · skip
        refine r_ald0 (pc := 18) dX6_changes_18 ?_
        refine m_getR hS (pc := 19) dX6_changes_19 fl_X6_121 ar55 ?_
        refine r_iconst (v := nI 1) (pc := 22) dX6_changes_22 (by decide) ?_
        refine r_iconst (v := nI 3) (pc := 23) dX6_changes_23 (by decide) ?_
        refine r_ild3 (pc := 24) dX6_changes_24 ?_
        first | refine r_imulN (pc := 25) dX6_changes_25 ?_ | refine r_imulJ (pc := 25) dX6_changes_25 ?_ | refine r_imul (pc := 25) dX6_changes_25 ?_
        first | refine r_iaddN (pc := 26) dX6_changes_26 ?_ | refine r_iaddJ (pc := 26) dX6_changes_26 ?_ | refine r_iadd (pc := 26) dX6_changes_26 ?_
        refine r_ild2 (pc := 27) dX6_changes_27 ?_
        refine m_iast hS (pc := 28) dX6_changes_28 ar55 (by omega) (by omega) ?_
        refine r_ild4 (pc := 29) dX6_changes_29 ?_
        refine r_iconst (v := -1) (pc := 31) dX6_changes_31 (by decide) ?_
        first | refine r_icmp_eqN (pc := 32) (tgt := 47) dX6_changes_32 (by decide) (by omega) (by omega) (fun h32 => ?_) (fun h32 => ?_) | refine r_icmp_eq (pc := 32) (tgt := 47) dX6_changes_32 (by decide) (fun h32 => ?_) (fun h32 => ?_)
        · skip
          exact absurd h32 (nI_m1 (by omega))
        · skip
          refine r_ald0 (pc := 35) dX6_changes_35 ?_
          refine m_getR hS (pc := 36) dX6_changes_36 fl_X6_121 ar55 ?_
          refine r_iconst (v := nI 1) (pc := 39) dX6_changes_39 (by decide) ?_
          refine r_iconst (v := nI 3) (pc := 40) dX6_changes_40 (by decide) ?_
          refine r_ild4 (pc := 41) dX6_changes_41 ?_
          first | refine r_imulN (pc := 43) dX6_changes_43 ?_ | refine r_imulJ (pc := 43) dX6_changes_43 ?_ | refine r_imul (pc := 43) dX6_changes_43 ?_
          first | refine r_iaddN (pc := 44) dX6_changes_44 ?_ | refine r_iaddJ (pc := 44) dX6_changes_44 ?_ | refine r_iadd (pc := 44) dX6_changes_44 ?_
          refine r_ild1 (pc := 45) dX6_changes_45 ?_
          refine m_iast hS (pc := 46) dX6_changes_46 ar55 (by omega) (by omega) ?_
          refine r_vret (pc := 47) dX6_changes_47 ?_
          exact ⟨_, rfl, rfl, RN.setHs hn8 hr (RN.setHs hn8 hp hN), fun j hj => (tA_ne (by omega)).trans (tA_ne (by omega)), Fr.tA (Fr.tA Fr.rf (by decide)) (by decide)⟩
theorem pm_right {x : Int32} (hS : ShM g M o) (hI : IM s q) (hG : GI q) : Ct g yX6_right cX6_right 2 (some Jvm.ClassFile.FieldType.boolean) 2 0 0 [.ref o, .int x] (putM M o s) (PM M o (rightQ q x).2 (.int (rightQ q x).1)) noX := by
  have hT := hI.2.2.2.1.1
  have hTB := hG.2.2.1
  have hN := hI.2.2.2.2.1.1
  have hB : SB (tn (gT q)) (gS q) := hG.2.2.2.2.2.1.1
  have hn8 := hTB.1
  obtain ⟨ha1, ha2⟩ := b31_of x
  refine Ct.of (by decide) (Nat.le_of_ble_eq_true rfl) rfl ?_
  unfold rightQ
  cases hp : pidx x (tn (gT q)) with
  | none =>
    have hp := pidx_none hp
    refine r_ald0 (pc := 0) dX6_right_0 ?_
    refine r_ild1 (pc := 1) dX6_right_1 ?_
    refine r_i2lT (pc := 2) dX6_right_2 ?_
    refine r_cV (pc := 3) dX6_right_3 cv_X6_394 hS.k (ct_X6_isPerson hS hT.2.1 hn8 (by constructor <;> omega)) rfl rfl (Nat.le_of_ble_eq_true rfl) (by decide) ?_
    rintro _ _ ⟨rfl, rfl⟩
    first | refine r_if_eqZ (pc := 6) (tgt := 25) dX6_right_6 (by decide) (fun h6 => ?_) (fun h6 => ?_) | refine r_if_eqN (pc := 6) (tgt := 25) dX6_right_6 (by decide) (by omega) (fun h6 => ?_) (fun h6 => ?_) | refine r_if_eq (pc := 6) (tgt := 25) dX6_right_6 (by decide) (fun h6 => ?_) (fun h6 => ?_)
    · skip
      refine r_ald0 (pc := 25) dX6_right_25 ?_
      refine r_cV (pc := 26) dX6_right_26 cv_X6_582 hS.k (ct_X6_isRefused hS hI) rfl rfl (Nat.le_of_ble_eq_true rfl) (by decide) ?_
      rintro _ _ ⟨s1, rfl, rfl, hI1⟩
      refine r_zret (pc := 29) dX6_right_29 (by first | rfl | exact zI_nar | assumption) ?_
      exact ⟨s1, rfl, rfl, hI1⟩
    · skip
      exact absurd h6 hp
  | some p =>
    obtain ⟨h1, rfl⟩ := pidx_some hp
    have hlk := (hB.2 p h1).2.1
    have hfa := (hTB.2.2.1 p h1).1
    show Bd g yX6_right cX6_right 2 (some Jvm.ClassFile.FieldType.boolean) [] 2 0 0 _ _ _ _ (PM M o (if lk (gS q) p = 10 * fa (gT q) p then ((0 : Int32), uRf q 2) else (1, uNw (keepU q) (sLk (gS q) p (10 * fa (gT q) p), gK q))).2 (.int (if lk (gS q) p = 10 * fa (gT q) p then ((0 : Int32), uRf q 2) else (1, uNw (keepU q) (sLk (gS q) p (10 * fa (gT q) p), gK q))).1)) noX
    refine r_ald0 (pc := 0) dX6_right_0 ?_
    refine r_ild1 (pc := 1) dX6_right_1 ?_
    first | refine r_i2lM (pc := 2) dX6_right_2 (by omega) ?_ | refine r_i2lI (pc := 2) dX6_right_2 (by constructor <;> omega) ?_ | refine r_i2lT (pc := 2) dX6_right_2 ?_
    refine r_cV (pc := 3) dX6_right_3 cv_X6_394 hS.k (ct_X6_isPerson hS hT.2.1 hn8 (by constructor <;> omega)) rfl rfl (Nat.le_of_ble_eq_true rfl) (by decide) ?_
    rintro _ _ ⟨rfl, rfl⟩
    first | refine r_if_eqZ (pc := 6) (tgt := 25) dX6_right_6 (by decide) (fun h6 => ?_) (fun h6 => ?_) | refine r_if_eqN (pc := 6) (tgt := 25) dX6_right_6 (by decide) (by omega) (fun h6 => ?_) (fun h6 => ?_) | refine r_if_eq (pc := 6) (tgt := 25) dX6_right_6 (by decide) (fun h6 => ?_) (fun h6 => ?_)
    · skip
      exact absurd h6 (by omega)
    · skip
      refine r_ald0 (pc := 9) dX6_right_9 ?_
      refine r_ild1 (pc := 10) dX6_right_10 ?_
      refine r_cV (pc := 11) dX6_right_11 cv_X6_423 hS.k (ct_X6_lookOf hS (by omega)) rfl rfl (Nat.le_of_ble_eq_true rfl) (by decide) ?_
      rintro _ _ ⟨rfl, rfl⟩
      refine Bd.eqI (hN.2.2.1 p h1) ?_
      refine r_bipush (v := nI 10) (pc := 14) dX6_right_14 (by decide) ?_
      refine r_ald0 (pc := 16) dX6_right_16 ?_
      refine r_ild1 (pc := 17) dX6_right_17 ?_
      refine r_cV (pc := 18) dX6_right_18 cv_X6_426 hS.k (ct_X6_faceOf hS (by omega)) rfl rfl (Nat.le_of_ble_eq_true rfl) (by decide) ?_
      rintro _ _ ⟨rfl, rfl⟩
      refine Bd.eqI (hT.2.2.1 p h1) ?_
      first | refine r_imulN (pc := 21) dX6_right_21 ?_ | refine r_imulJ (pc := 21) dX6_right_21 ?_ | refine r_imul (pc := 21) dX6_right_21 ?_
      first | refine r_icmp_neN (pc := 22) (tgt := 30) dX6_right_22 (by decide) (by omega) (by omega) (fun h22 => ?_) (fun h22 => ?_) | refine r_icmp_ne (pc := 22) (tgt := 30) dX6_right_22 (by decide) (fun h22 => ?_) (fun h22 => ?_)
      · skip
        rw [if_neg h22]
        refine r_ald0 (pc := 30) dX6_right_30 ?_
        refine r_cV (pc := 31) dX6_right_31 cv_X6_585 hS.k (ct_X6_keeps hS hI hG) rfl rfl (Nat.le_of_ble_eq_true rfl) (by decide) ?_
        rintro _ _ ⟨s1, rfl, rfl, hI1, hf1⟩
        refine r_ald0 (pc := 34) dX6_right_34 ?_
        refine m_getR hS (pc := 35) dX6_right_35 fl_X6_121 ar55 ?_
        refine r_iconst (v := nI 2) (pc := 38) dX6_right_38 (by decide) ?_
        refine r_iconst (v := nI 3) (pc := 39) dX6_right_39 (by decide) ?_
        refine r_ild1 (pc := 40) dX6_right_40 ?_
        first | refine r_imulN (pc := 41) dX6_right_41 ?_ | refine r_imulJ (pc := 41) dX6_right_41 ?_ | refine r_imul (pc := 41) dX6_right_41 ?_
        first | refine r_iaddN (pc := 42) dX6_right_42 ?_ | refine r_iaddJ (pc := 42) dX6_right_42 ?_ | refine r_iadd (pc := 42) dX6_right_42 ?_
        refine r_bipush (v := nI 10) (pc := 43) dX6_right_43 (by decide) ?_
        refine r_ald0 (pc := 45) dX6_right_45 ?_
        refine r_ild1 (pc := 46) dX6_right_46 ?_
        refine r_cV (pc := 47) dX6_right_47 cv_X6_426 hS.k (ct_X6_faceOf hS (by omega)) rfl rfl (Nat.le_of_ble_eq_true rfl) (by decide) ?_
        rintro _ _ ⟨rfl, rfl⟩
        refine Bd.eqI (hI1.2.2.2.1.1.2.2.1 p h1) ?_
        first | refine r_imulN (pc := 50) dX6_right_50 ?_ | refine r_imulJ (pc := 50) dX6_right_50 ?_ | refine r_imul (pc := 50) dX6_right_50 ?_
        refine m_iast hS (pc := 51) dX6_right_51 ar55 (by omega) (by omega) ?_
        refine r_iconst (v := nI 1) (pc := 52) dX6_right_52 (by decide) ?_
        refine r_zret (pc := 53) dX6_right_53 (by first | rfl | exact zI_nar | assumption) ?_
        exact ⟨_, rfl, rfl, hI1.now (Fr.tA Fr.rf (by decide)) (RN.setLk hn8 h1 hI1.2.2.2.2.1.1) (hI1.2.2.2.2.1.2.1.of (fun j hj => tA_ne (by omega)))⟩
      · skip
        rw [if_pos h22]
        refine r_ald0 (pc := 25) dX6_right_25 ?_
        refine r_cV (pc := 26) dX6_right_26 cv_X6_582 hS.k (ct_X6_isRefused hS hI) rfl rfl (Nat.le_of_ble_eq_true rfl) (by decide) ?_
        rintro _ _ ⟨s1, rfl, rfl, hI1⟩
        refine r_zret (pc := 29) dX6_right_29 (by first | rfl | exact zI_nar | assumption) ?_
        exact ⟨s1, rfl, rfl, hI1⟩
theorem pm_spare {x y : Int32} (hS : ShM g M o) (hI : IM s q) (hG : GI q) : Ct g yX6_spare cX6_spare 3 (some Jvm.ClassFile.FieldType.boolean) 2 0 0 [.ref o, .int x, .int y] (putM M o s) (PM M o (spareQ q x y).2 (.int (spareQ q x y).1)) noX := by
  have hT := hI.2.2.2.1.1
  have hTB := hG.2.2.1
  have hN := hI.2.2.2.2.1.1
  have hB : SB (tn (gT q)) (gS q) := hG.2.2.2.2.2.1.1
  have hn8 := hTB.1
  obtain ⟨ha1, ha2⟩ := b31_of x
  obtain ⟨hb1, hb2⟩ := b31_of y
  refine Ct.of (by decide) (Nat.le_of_ble_eq_true rfl) rfl ?_
  unfold spareQ
  cases hp : pidx x (tn (gT q)) with
  | none =>
    have hp := pidx_none hp
    refine r_ald0 (pc := 0) dX6_spare_0 ?_
    refine r_ild1 (pc := 1) dX6_spare_1 ?_
    refine r_i2lT (pc := 2) dX6_spare_2 ?_
    refine r_cV (pc := 3) dX6_spare_3 cv_X6_394 hS.k (ct_X6_isPerson hS hT.2.1 hn8 (by constructor <;> omega)) rfl rfl (Nat.le_of_ble_eq_true rfl) (by decide) ?_
    rintro _ _ ⟨rfl, rfl⟩
    first | refine r_if_eqZ (pc := 6) (tgt := 33) dX6_spare_6 (by decide) (fun h6 => ?_) (fun h6 => ?_) | refine r_if_eqN (pc := 6) (tgt := 33) dX6_spare_6 (by decide) (by omega) (fun h6 => ?_) (fun h6 => ?_) | refine r_if_eq (pc := 6) (tgt := 33) dX6_spare_6 (by decide) (fun h6 => ?_) (fun h6 => ?_)
    · skip
      refine r_ald0 (pc := 33) dX6_spare_33 ?_
      refine r_cV (pc := 34) dX6_spare_34 cv_X6_582 hS.k (ct_X6_isRefused hS hI) rfl rfl (Nat.le_of_ble_eq_true rfl) (by decide) ?_
      rintro _ _ ⟨s1, rfl, rfl, hI1⟩
      refine r_zret (pc := 37) dX6_spare_37 (by first | rfl | exact zI_nar | assumption) ?_
      exact ⟨s1, rfl, rfl, hI1⟩
    · skip
      exact absurd h6 hp
  | some p =>
    obtain ⟨h1, rfl⟩ := pidx_some hp
    have hsp := (hB.2 p h1).2.2.1
    cases hr : pidx y 2 with
    | none =>
      have hr := pidx_none hr
      refine r_ald0 (pc := 0) dX6_spare_0 ?_
      refine r_ild1 (pc := 1) dX6_spare_1 ?_
      first | refine r_i2lM (pc := 2) dX6_spare_2 (by omega) ?_ | refine r_i2lI (pc := 2) dX6_spare_2 (by constructor <;> omega) ?_ | refine r_i2lT (pc := 2) dX6_spare_2 ?_
      refine r_cV (pc := 3) dX6_spare_3 cv_X6_394 hS.k (ct_X6_isPerson hS hT.2.1 hn8 (by constructor <;> omega)) rfl rfl (Nat.le_of_ble_eq_true rfl) (by decide) ?_
      rintro _ _ ⟨rfl, rfl⟩
      first | refine r_if_eqZ (pc := 6) (tgt := 33) dX6_spare_6 (by decide) (fun h6 => ?_) (fun h6 => ?_) | refine r_if_eqN (pc := 6) (tgt := 33) dX6_spare_6 (by decide) (by omega) (fun h6 => ?_) (fun h6 => ?_) | refine r_if_eq (pc := 6) (tgt := 33) dX6_spare_6 (by decide) (fun h6 => ?_) (fun h6 => ?_)
      · skip
        exact absurd h6 (by omega)
      · skip
        refine r_ild2 (pc := 9) dX6_spare_9 ?_
        refine r_i2lT (pc := 10) dX6_spare_10 ?_
        refine r_lconst (v := lI 0) (pc := 11) dX6_spare_11 rfl ?_
        refine r_lconst (v := lI 1) (pc := 12) dX6_spare_12 rfl ?_
        refine r_cS (pc := 13) dX6_spare_13 cs_X6_280 (ct_X6_isInI (by constructor <;> omega) (by constructor <;> omega) (by constructor <;> omega)) rfl rfl (Nat.le_of_ble_eq_true rfl) (by decide) ?_
        rintro _ _ ⟨rfl, rfl⟩
        first | refine r_if_eqZ (pc := 16) (tgt := 33) dX6_spare_16 (by decide) (fun h16 => ?_) (fun h16 => ?_) | refine r_if_eqN (pc := 16) (tgt := 33) dX6_spare_16 (by decide) (by omega) (fun h16 => ?_) (fun h16 => ?_) | refine r_if_eq (pc := 16) (tgt := 33) dX6_spare_16 (by decide) (fun h16 => ?_) (fun h16 => ?_)
        · skip
          refine r_ald0 (pc := 33) dX6_spare_33 ?_
          refine r_cV (pc := 34) dX6_spare_34 cv_X6_582 hS.k (ct_X6_isRefused hS hI) rfl rfl (Nat.le_of_ble_eq_true rfl) (by decide) ?_
          rintro _ _ ⟨s1, rfl, rfl, hI1⟩
          refine r_zret (pc := 37) dX6_spare_37 (by first | rfl | exact zI_nar | assumption) ?_
          exact ⟨s1, rfl, rfl, hI1⟩
        · skip
          exact absurd h16 (by omega)
    | some v =>
      obtain ⟨h2, rfl⟩ := pidx_some hr
      show Bd g yX6_spare cX6_spare 3 (some Jvm.ClassFile.FieldType.boolean) [] 2 0 0 _ _ _ _ (PM M o (if sp (gS q) p = v then ((0 : Int32), uRf q 2) else (1, uNw (keepU q) (sSp (gS q) p v, gK q))).2 (.int (if sp (gS q) p = v then ((0 : Int32), uRf q 2) else (1, uNw (keepU q) (sSp (gS q) p v, gK q))).1)) noX
      refine r_ald0 (pc := 0) dX6_spare_0 ?_
      refine r_ild1 (pc := 1) dX6_spare_1 ?_
      first | refine r_i2lM (pc := 2) dX6_spare_2 (by omega) ?_ | refine r_i2lI (pc := 2) dX6_spare_2 (by constructor <;> omega) ?_ | refine r_i2lT (pc := 2) dX6_spare_2 ?_
      refine r_cV (pc := 3) dX6_spare_3 cv_X6_394 hS.k (ct_X6_isPerson hS hT.2.1 hn8 (by constructor <;> omega)) rfl rfl (Nat.le_of_ble_eq_true rfl) (by decide) ?_
      rintro _ _ ⟨rfl, rfl⟩
      first | refine r_if_eqZ (pc := 6) (tgt := 33) dX6_spare_6 (by decide) (fun h6 => ?_) (fun h6 => ?_) | refine r_if_eqN (pc := 6) (tgt := 33) dX6_spare_6 (by decide) (by omega) (fun h6 => ?_) (fun h6 => ?_) | refine r_if_eq (pc := 6) (tgt := 33) dX6_spare_6 (by decide) (fun h6 => ?_) (fun h6 => ?_)
      · skip
        exact absurd h6 (by omega)
      · skip
        refine r_ild2 (pc := 9) dX6_spare_9 ?_
        first | refine r_i2lM (pc := 10) dX6_spare_10 (by omega) ?_ | refine r_i2lI (pc := 10) dX6_spare_10 (by constructor <;> omega) ?_ | refine r_i2lT (pc := 10) dX6_spare_10 ?_
        refine r_lconst (v := lI 0) (pc := 11) dX6_spare_11 rfl ?_
        refine r_lconst (v := lI 1) (pc := 12) dX6_spare_12 rfl ?_
        refine r_cS (pc := 13) dX6_spare_13 cs_X6_280 (ct_X6_isInI (by constructor <;> omega) (by constructor <;> omega) (by constructor <;> omega)) rfl rfl (Nat.le_of_ble_eq_true rfl) (by decide) ?_
        rintro _ _ ⟨rfl, rfl⟩
        first | refine r_if_eqZ (pc := 16) (tgt := 33) dX6_spare_16 (by decide) (fun h16 => ?_) (fun h16 => ?_) | refine r_if_eqN (pc := 16) (tgt := 33) dX6_spare_16 (by decide) (by omega) (fun h16 => ?_) (fun h16 => ?_) | refine r_if_eq (pc := 16) (tgt := 33) dX6_spare_16 (by decide) (fun h16 => ?_) (fun h16 => ?_)
        · skip
          exact absurd h16 (by omega)
        · skip
          refine r_ald0 (pc := 19) dX6_spare_19 ?_
          refine m_getR hS (pc := 20) dX6_spare_20 fl_X6_121 ar55 ?_
          refine r_iconst (v := nI 3) (pc := 23) dX6_spare_23 (by decide) ?_
          refine r_iconst (v := nI 3) (pc := 24) dX6_spare_24 (by decide) ?_
          refine r_ild1 (pc := 25) dX6_spare_25 ?_
          first | refine r_imulN (pc := 26) dX6_spare_26 ?_ | refine r_imulJ (pc := 26) dX6_spare_26 ?_ | refine r_imul (pc := 26) dX6_spare_26 ?_
          first | refine r_iaddN (pc := 27) dX6_spare_27 ?_ | refine r_iaddJ (pc := 27) dX6_spare_27 ?_ | refine r_iadd (pc := 27) dX6_spare_27 ?_
          refine m_iald hS (pc := 28) dX6_spare_28 ar55 (by omega) (by omega) ?_
          refine Bd.eqI (hN.2.2.2.1 p h1) ?_
          refine r_ild2 (pc := 29) dX6_spare_29 ?_
          first | refine r_icmp_neN (pc := 30) (tgt := 38) dX6_spare_30 (by decide) (by omega) (by omega) (fun h30 => ?_) (fun h30 => ?_) | refine r_icmp_ne (pc := 30) (tgt := 38) dX6_spare_30 (by decide) (fun h30 => ?_) (fun h30 => ?_)
          · skip
            rw [if_neg h30]
            refine r_ald0 (pc := 38) dX6_spare_38 ?_
            refine r_cV (pc := 39) dX6_spare_39 cv_X6_585 hS.k (ct_X6_keeps hS hI hG) rfl rfl (Nat.le_of_ble_eq_true rfl) (by decide) ?_
            rintro _ _ ⟨s1, rfl, rfl, hI1, hf1⟩
            refine r_ald0 (pc := 42) dX6_spare_42 ?_
            refine m_getR hS (pc := 43) dX6_spare_43 fl_X6_121 ar55 ?_
            refine r_iconst (v := nI 3) (pc := 46) dX6_spare_46 (by decide) ?_
            refine r_iconst (v := nI 3) (pc := 47) dX6_spare_47 (by decide) ?_
            refine r_ild1 (pc := 48) dX6_spare_48 ?_
            first | refine r_imulN (pc := 49) dX6_spare_49 ?_ | refine r_imulJ (pc := 49) dX6_spare_49 ?_ | refine r_imul (pc := 49) dX6_spare_49 ?_
            first | refine r_iaddN (pc := 50) dX6_spare_50 ?_ | refine r_iaddJ (pc := 50) dX6_spare_50 ?_ | refine r_iadd (pc := 50) dX6_spare_50 ?_
            refine r_ild2 (pc := 51) dX6_spare_51 ?_
            refine m_iast hS (pc := 52) dX6_spare_52 ar55 (by omega) (by omega) ?_
            refine r_iconst (v := nI 1) (pc := 53) dX6_spare_53 (by decide) ?_
            refine r_zret (pc := 54) dX6_spare_54 (by first | rfl | exact zI_nar | assumption) ?_
            exact ⟨_, rfl, rfl, hI1.now (Fr.tA Fr.rf (by decide)) (RN.setSp hn8 h1 hI1.2.2.2.2.1.1) (hI1.2.2.2.2.1.2.1.of (fun j hj => tA_ne (by omega)))⟩
          · skip
            rw [if_pos h30]
            refine r_ald0 (pc := 33) dX6_spare_33 ?_
            refine r_cV (pc := 34) dX6_spare_34 cv_X6_582 hS.k (ct_X6_isRefused hS hI) rfl rfl (Nat.le_of_ble_eq_true rfl) (by decide) ?_
            rintro _ _ ⟨s1, rfl, rfl, hI1⟩
            refine r_zret (pc := 37) dX6_spare_37 (by first | rfl | exact zI_nar | assumption) ?_
            exact ⟨s1, rfl, rfl, hI1⟩
end M12
