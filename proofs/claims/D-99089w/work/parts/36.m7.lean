set_option maxRecDepth 100000
/-! THE MODEL: years -/
section M7
variable {g : GC} {M : MM} {o : Nat} {s : MS} {M1 : MM} {T : Te} {t : St} {K : List (Nat × Nat × Nat)} {tb : Bool}
theorem RN.setYr {n v : Nat} (hn : n ≤ 8) (h : RN s n t) : RN (tA s 55 0 (nI v)) n (sYr t v) := by
  obtain ⟨h1, h2, h3, h4, h5⟩ := h
  refine ⟨tA_eq, fun q hq => ?_, fun q hq => ?_, fun q hq => ?_, fun q hq r hr => ?_⟩
  · rw [tA_ne (by omega)]; exact h2 q hq
  · rw [tA_ne (by omega)]; exact h3 q hq
  · rw [tA_ne (by omega)]; exact h4 q hq
  · rw [tA_ne (by omega)]; exact h5 q hq r hr
theorem yearLoop {res : St × List (Nat × Nat × Nat)} {Q : Option Value → MM → Prop} (hS : ShM g M o) (hT : RT s T) (hTB : TB T) (htb : mF s 64 = zI (tb = true))
    (kk : ∀ s' x, YP T tb K s res s' → Bd g yX6_yearGoes cX6_yearGoes 3 none [] 5 0 0 (putM M o s') 42 [some (.ref o), some (.int (nI (tH T))), x] [] Q noX) :
    ∀ (k h : Nat) (s1 : MS) (t1 : St) (e1 : List (Nat × Nat × Nat)) (x2 : Option Value), h + k = tH T → YP T tb K s (t1, e1) s1 → SB (tn T) t1 → ((housesS T k t1 h).1, e1 ++ (housesS T k t1 h).2) = res → Bd g yX6_yearGoes cX6_yearGoes 3 none [] 5 0 0 (putM M o s1) 2 [some (.ref o), some (.int (nI h)), x2] [] Q noX := by
  have hn8 := hTB.1
  have hH9 := hTB.2.1
  intro k
  induction k with
  | zero =>
    intro h s1 t1 e1 x2 hh hY hB hr
    have hh : h = tH T := hh
    subst hh
    have hr : (t1, e1 ++ []) = res := hr
    rw [List.append_nil] at hr
    subst hr
    have hT1 : RT s1 T := hT.fr hY.2.2.2 (by decide) (by decide)
    refine r_ild1 (pc := 2) dX6_yearGoes_2 ?_
    refine r_ald0 (pc := 3) dX6_yearGoes_3 ?_
    refine m_getI hS (pc := 4) dX6_yearGoes_4 fl_X6_379 ?_
    refine Bd.eqI hT1.1 ?_
    first | refine r_icmp_geN (pc := 7) (tgt := 42) dX6_yearGoes_7 (by decide) (by omega) (by omega) (fun h7 => ?_) (fun h7 => ?_) | refine r_icmp_ge (pc := 7) (tgt := 42) dX6_yearGoes_7 (by decide) (fun h7 => ?_) (fun h7 => ?_)
    · skip
      exact kk s1 x2 hY
    · skip
      exact absurd h7 (by omega)
  | succ k ih =>
    intro h s1 t1 e1 x2 hh hY hB hr
    have hT1 : RT s1 T := hT.fr hY.2.2.2 (by decide) (by decide)
    have htb1 : mF s1 64 = zI (tb = true) := (hY.2.2.2.1 64 (by decide)).trans htb
    have hr : ((housesS T k (houseS T t1 h).1 (h + 1)).1, e1 ++ ((houseS T t1 h).2 ++ (housesS T k (houseS T t1 h).1 (h + 1)).2)) = res := hr
    rw [← List.append_assoc] at hr
    cases hw : who t1 (tn T) h with
    | none =>
      have hho : houseS T t1 h = (t1, []) := by unfold houseS; rw [hw]
      rw [hho, List.append_nil] at hr
      refine r_ild1 (pc := 2) dX6_yearGoes_2 ?_
      refine r_ald0 (pc := 3) dX6_yearGoes_3 ?_
      refine m_getI hS (pc := 4) dX6_yearGoes_4 fl_X6_379 ?_
      refine Bd.eqI hT1.1 ?_
      first | refine r_icmp_geN (pc := 7) (tgt := 42) dX6_yearGoes_7 (by decide) (by omega) (by omega) (fun h7 => ?_) (fun h7 => ?_) | refine r_icmp_ge (pc := 7) (tgt := 42) dX6_yearGoes_7 (by decide) (fun h7 => ?_) (fun h7 => ?_)
      · skip
        exact absurd h7 (by omega)
      · skip
        refine r_ald0 (pc := 10) dX6_yearGoes_10 ?_
        refine r_ild1 (pc := 11) dX6_yearGoes_11 ?_
        refine r_cV (pc := 12) dX6_yearGoes_12 cv_X6_406 hS.k (ct_X6_whoIn hS hT1.2.1 hn8 hY.1 hB (by omega)) rfl rfl (Nat.le_of_ble_eq_true rfl) (by decide) ?_
        rintro _ _ ⟨rfl, rfl⟩
        refine Bd.eqI (x' := -1) (by rw [hw]; rfl) ?_
        refine r_ist2 (pc := 15) dX6_yearGoes_15 ?_
        refine r_ild2 (pc := 16) dX6_yearGoes_16 ?_
        refine r_iconst (v := -1) (pc := 17) dX6_yearGoes_17 (by decide) ?_
        first | refine r_icmp_neN (pc := 18) (tgt := 24) dX6_yearGoes_18 (by decide) (by omega) (by omega) (fun h18 => ?_) (fun h18 => ?_) | refine r_icmp_ne (pc := 18) (tgt := 24) dX6_yearGoes_18 (by decide) (fun h18 => ?_) (fun h18 => ?_)
        · skip
          exact absurd rfl h18
        · skip
          refine r_goto (pc := 21) (tgt := 36) dX6_yearGoes_21 (by decide) ?_
          first | refine r_iinc1N (j := 1) (pc := 36) dX6_yearGoes_36 rfl ?_ | refine r_iinc1 (pc := 36) dX6_yearGoes_36 ?_
          refine r_goto (pc := 39) (tgt := 2) dX6_yearGoes_39 (by decide) ?_
          exact ih (h + 1) s1 t1 e1 _ (by omega) hY hB hr
    | some p =>
      have hpn := who_lt hw
      have hho : houseS T t1 h = ((strokeS T (strokeS T t1 p 0).1 p 1).1, (strokeS T t1 p 0).2 ++ (strokeS T (strokeS T t1 p 0).1 p 1).2) := by unfold houseS; rw [hw]
      rw [hho] at hr
      refine r_ild1 (pc := 2) dX6_yearGoes_2 ?_
      refine r_ald0 (pc := 3) dX6_yearGoes_3 ?_
      refine m_getI hS (pc := 4) dX6_yearGoes_4 fl_X6_379 ?_
      refine Bd.eqI hT1.1 ?_
      first | refine r_icmp_geN (pc := 7) (tgt := 42) dX6_yearGoes_7 (by decide) (by omega) (by omega) (fun h7 => ?_) (fun h7 => ?_) | refine r_icmp_ge (pc := 7) (tgt := 42) dX6_yearGoes_7 (by decide) (fun h7 => ?_) (fun h7 => ?_)
      · skip
        exact absurd h7 (by omega)
      · skip
        refine r_ald0 (pc := 10) dX6_yearGoes_10 ?_
        refine r_ild1 (pc := 11) dX6_yearGoes_11 ?_
        refine r_cV (pc := 12) dX6_yearGoes_12 cv_X6_406 hS.k (ct_X6_whoIn hS hT1.2.1 hn8 hY.1 hB (by omega)) rfl rfl (Nat.le_of_ble_eq_true rfl) (by decide) ?_
        rintro _ _ ⟨rfl, rfl⟩
        refine Bd.eqI (x' := nI p) (by rw [hw]; rfl) ?_
        refine r_ist2 (pc := 15) dX6_yearGoes_15 ?_
        refine r_ild2 (pc := 16) dX6_yearGoes_16 ?_
        refine r_iconst (v := -1) (pc := 17) dX6_yearGoes_17 (by decide) ?_
        first | refine r_icmp_neN (pc := 18) (tgt := 24) dX6_yearGoes_18 (by decide) (by omega) (by omega) (fun h18 => ?_) (fun h18 => ?_) | refine r_icmp_ne (pc := 18) (tgt := 24) dX6_yearGoes_18 (by decide) (fun h18 => ?_) (fun h18 => ?_)
        · skip
          refine r_ald0 (pc := 24) dX6_yearGoes_24 ?_
          refine r_ild2 (pc := 25) dX6_yearGoes_25 ?_
          refine r_iconst (v := nI 0) (pc := 26) dX6_yearGoes_26 (by decide) ?_
          refine r_cV (pc := 27) dX6_yearGoes_27 cv_X6_486 hS.k (ct_X6_stroke (T := T) (t := t1) (tb := tb) (K := if tb then K else pushes K e1) hS hT1 hTB hY.1 hB hY.2.1 htb1 hpn (by decide)) rfl rfl (Nat.le_of_ble_eq_true rfl) (by decide) ?_
          rintro _ _ ⟨s2, rfl, rfl, hY2⟩
          have hY3 := hY.trans hY2
          have hT2 : RT s2 T := hT.fr hY3.2.2.2 (by decide) (by decide)
          have htb2 : mF s2 64 = zI (tb = true) := (hY3.2.2.2.1 64 (by decide)).trans htb
          have hB2 := strokeS_SB (side := 0) hB hpn
          refine r_ald0 (pc := 30) dX6_yearGoes_30 ?_
          refine r_ild2 (pc := 31) dX6_yearGoes_31 ?_
          refine r_iconst (v := nI 1) (pc := 32) dX6_yearGoes_32 (by decide) ?_
          refine r_cV (pc := 33) dX6_yearGoes_33 cv_X6_486 hS.k (ct_X6_stroke (T := T) (t := (strokeS T t1 p 0).1) (tb := tb) (K := if tb then K else pushes K (e1 ++ (strokeS T t1 p 0).2)) hS hT2 hTB hY3.1 hB2 hY3.2.1 htb2 hpn (by decide)) rfl rfl (Nat.le_of_ble_eq_true rfl) (by decide) ?_
          rintro _ _ ⟨s3, rfl, rfl, hY4⟩
          have hY5 := hY3.trans hY4
          rw [List.append_assoc] at hY5
          first | refine r_iinc1N (j := 1) (pc := 36) dX6_yearGoes_36 rfl ?_ | refine r_iinc1 (pc := 36) dX6_yearGoes_36 ?_
          refine r_goto (pc := 39) (tgt := 2) dX6_yearGoes_39 (by decide) ?_
          exact ih (h + 1) s3 _ _ _ (by omega) hY5 (strokeS_SB hB2 hpn) hr
        · skip
          exact absurd h18 (nI_m1 (by omega))
theorem ct_X6_yearGoes (hS : ShM g M o) (hT : RT s T) (hTB : TB T) (hN : RN s (tn T) t) (hB : SB (tn T) t) (hK : RK s K) (htb : mF s 64 = zI (tb = true)) : Ct g yX6_yearGoes cX6_yearGoes 3 none 5 0 0 [.ref o] (putM M o s) (QM M o (fun r s' => r = none ∧ YP T tb K s (yearS T t) s')) noX := by
  have hn8 := hTB.1
  refine Ct.of (by decide) (Nat.le_of_ble_eq_true rfl) rfl ?_
  refine r_iconst (v := nI 0) (pc := 0) dX6_yearGoes_0 (by decide) ?_
  refine r_ist1 (pc := 1) dX6_yearGoes_1 ?_
  refine yearLoop (T := T) (K := K) (res := housesS T (tH T) t 0) hS hT hTB htb (fun s1 x hY => ?_) (tH T) 0 s t [] none (by omega) (YP.rf hN hK) hB rfl
  refine r_ald0 (pc := 42) dX6_yearGoes_42 ?_
  refine m_getR hS (pc := 43) dX6_yearGoes_43 fl_X6_121 ar55 ?_
  refine r_iconst (v := nI 0) (pc := 46) dX6_yearGoes_46 (by decide) ?_
  refine r_dup2 (pc := 47) dX6_yearGoes_47 rfl rfl ?_
  refine m_iald hS (pc := 48) dX6_yearGoes_48 ar55 (by omega) (by omega) ?_
  refine Bd.eqI hY.1.1 ?_
  refine r_iconst (v := nI 1) (pc := 49) dX6_yearGoes_49 (by decide) ?_
  refine r_iaddN (pc := 50) dX6_yearGoes_50 ?_
  refine m_iast hS (pc := 51) dX6_yearGoes_51 ar55 (by omega) (by omega) ?_
  refine r_vret (pc := 52) dX6_yearGoes_52 ?_
  exact ⟨_, rfl, rfl, RN.setYr hn8 hY.1, hY.2.1.of (fun j hj => tA_ne (by omega)), hY.2.2.1, Fr.tA hY.2.2.2 (by decide)⟩
theorem yearsLoop {res : St × List (Nat × Nat × Nat)} {m : Nat} (hS : ShM g M o) (hT : RT s T) (hTB : TB T) (htb : mF s 64 = zI (tb = true)) (hm : m ≤ 1000) :
    ∀ (k i : Nat) (s1 : MS) (t1 : St) (e1 : List (Nat × Nat × Nat)), i + k = m → YP T tb K s (t1, e1) s1 → SB (tn T) t1 → yr t1 + k ≤ 2000 → ((yearsS T k t1).1, e1 ++ (yearsS T k t1).2) = res → Bd g yX6_yearsGo cX6_yearsGo 3 none [] 6 0 0 (putM M o s1) 2 [some (.ref o), some (.int (nI m)), some (.int (nI i))] [] (QM M o (fun r s' => r = none ∧ YP T tb K s res s')) noX := by
  intro k
  induction k with
  | zero =>
    intro i s1 t1 e1 hi hY hB hy hr
    have hr : (t1, e1 ++ []) = res := hr
    rw [List.append_nil] at hr
    subst hr
    refine r_ild2 (pc := 2) dX6_yearsGo_2 ?_
    refine r_ild1 (pc := 3) dX6_yearsGo_3 ?_
    first | refine r_icmp_geN (pc := 4) (tgt := 17) dX6_yearsGo_4 (by decide) (by omega) (by omega) (fun h4 => ?_) (fun h4 => ?_) | refine r_icmp_ge (pc := 4) (tgt := 17) dX6_yearsGo_4 (by decide) (fun h4 => ?_) (fun h4 => ?_)
    · skip
      refine r_vret (pc := 17) dX6_yearsGo_17 ?_
      exact ⟨s1, rfl, rfl, hY⟩
    · skip
      exact absurd h4 (by omega)
  | succ k ih =>
    intro i s1 t1 e1 hi hY hB hy hr
    have hr : ((yearsS T k (yearS T t1).1).1, e1 ++ ((yearS T t1).2 ++ (yearsS T k (yearS T t1).1).2)) = res := hr
    rw [← List.append_assoc] at hr
    have hT1 : RT s1 T := hT.fr hY.2.2.2 (by decide) (by decide)
    have htb1 : mF s1 64 = zI (tb = true) := (hY.2.2.2.1 64 (by decide)).trans htb
    refine r_ild2 (pc := 2) dX6_yearsGo_2 ?_
    refine r_ild1 (pc := 3) dX6_yearsGo_3 ?_
    first | refine r_icmp_geN (pc := 4) (tgt := 17) dX6_yearsGo_4 (by decide) (by omega) (by omega) (fun h4 => ?_) (fun h4 => ?_) | refine r_icmp_ge (pc := 4) (tgt := 17) dX6_yearsGo_4 (by decide) (fun h4 => ?_) (fun h4 => ?_)
    · skip
      exact absurd h4 (by omega)
    · skip
      refine r_ald0 (pc := 7) dX6_yearsGo_7 ?_
      refine r_cV (pc := 8) dX6_yearsGo_8 cv_X6_489 hS.k (ct_X6_yearGoes (T := T) (t := t1) (tb := tb) (K := if tb then K else pushes K e1) hS hT1 hTB hY.1 hB hY.2.1 htb1) rfl rfl (Nat.le_of_ble_eq_true rfl) (by decide) ?_
      rintro _ _ ⟨s2, rfl, rfl, hY2⟩
      first | refine r_iinc2N (j := 1) (pc := 11) dX6_yearsGo_11 rfl ?_ | refine r_iinc2 (pc := 11) dX6_yearsGo_11 ?_
      refine r_goto (pc := 14) (tgt := 2) dX6_yearsGo_14 (by decide) ?_
      exact ih (i + 1) s2 _ _ (by omega) (hY.trans hY2) (yearS_SB hB (by omega)) (by rw [yearS_yr]; omega) hr
theorem ct_X6_yearsGo {m : Nat} (hS : ShM g M o) (hT : RT s T) (hTB : TB T) (hN : RN s (tn T) t) (hB : SB (tn T) t) (hK : RK s K) (htb : mF s 64 = zI (tb = true)) (hm : m ≤ 1000) (hy : yr t + m ≤ 2000) : Ct g yX6_yearsGo cX6_yearsGo 3 none 6 0 0 [.ref o, .int (nI m)] (putM M o s) (QM M o (fun r s' => r = none ∧ YP T tb K s (yearsS T m t) s')) noX := by
  refine Ct.of (by decide) (Nat.le_of_ble_eq_true rfl) rfl ?_
  refine r_iconst (v := nI 0) (pc := 0) dX6_yearsGo_0 (by decide) ?_
  refine r_ist2 (pc := 1) dX6_yearsGo_1 ?_
  exact yearsLoop (T := T) hS hT hTB htb hm m 0 s t [] (by omega) (YP.rf hN hK) hB hy rfl
end M7
