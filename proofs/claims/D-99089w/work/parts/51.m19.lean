set_option maxRecDepth 100000
/-! THE MODEL: at rest -/
section M19
variable {g : GC} {M : MM} {o : Nat} {s : MS} {M1 : MM} {q : Sg} {T : Te} {t : St} {K : List Ev}
def mixS (t : St) (x p : Nat) : St := (yr t, hs t, lk t, fun r => if r < p then hb x r else sp t r, th t)
theorem mixS_succ (t : St) (x p : Nat) : sSp (mixS t x p) p (hb x p) = mixS t x (p + 1) := by
  unfold sSp mixS
  refine congrArg (fun f => (yr t, hs t, lk t, f, th t)) (funext fun r => ?_)
  show va_up (fun r => if r < p then hb x r else sp t r) p (hb x p) r = if r < p + 1 then hb x r else sp t r
  unfold va_up
  by_cases e : r = p
  · subst e; rw [if_pos rfl, if_pos (by omega)]
  · rw [if_neg e]
    show (if r < p then hb x r else sp t r) = _
    by_cases e2 : r < p
    · rw [if_pos e2, if_pos (by omega)]
    · rw [if_neg e2, if_neg (by omega)]
theorem RN.mix {n x : Nat} (h : RN s n (mixS t x n)) : RN s n (spsS t x) :=
  ⟨h.1, h.2.1, h.2.2.1, fun p hp => (h.2.2.2.1 p hp).trans (congrArg nI (if_pos hp)), h.2.2.2.2⟩
theorem spsS_SB {n x : Nat} (h : SB n t) : SB n (spsS t x) :=
  ⟨h.1, fun p hp => ⟨(h.2 p hp).1, (h.2 p hp).2.1, by have : hb x p < 2 := Nat.mod_lt _ (by decide); show hb x p ≤ 1; omega, (h.2 p hp).2.2.2⟩⟩
theorem thenA {n x : Nat} {y : Int32} {Q : Option Value → MM → Prop} (hS : ShM g M o) (hn : mF s 40 = nI n) (hn8 : n ≤ 8) (hx : x < 256)
    (hk : ∀ s1 w3, RN s1 n (spsS t x) → (∀ j, 89 ≤ j → mA s1 55 j = mA s 55 j) → Fr [] [] [55] [] s s1 → Bd g yX6_laysThen cX6_laysThen 4 none [] 7 0 0 (putM M o s1) 47 [some (.ref o), some (.int y), some (.int (nI x)), w3] [] Q noX) :
    ∀ (k p : Nat) (s1 : MS), p + k = n → RN s1 n (mixS t x p) → (∀ j, 89 ≤ j → mA s1 55 j = mA s 55 j) → Fr [] [] [55] [] s s1 → Bd g yX6_laysThen cX6_laysThen 4 none [] 7 0 0 (putM M o s1) 18 [some (.ref o), some (.int y), some (.int (nI x)), some (.int (nI p))] [] Q noX := by
  intro k
  induction k with
  | zero =>
    intro p s1 hp hN hh hf
    obtain rfl : p = n := by omega
    refine r_ild3 (pc := 18) dX6_laysThen_18 ?_
    refine r_ald0 (pc := 19) dX6_laysThen_19 ?_
    refine m_getI hS (pc := 20) dX6_laysThen_20 fl_X6_382 ?_
    refine Bd.eqI ((hf.1 40 (by decide)).trans hn) ?_
    first | refine r_icmp_geN (pc := 23) (tgt := 47) dX6_laysThen_23 (by decide) (by omega) (by omega) (fun h23 => ?_) (fun h23 => ?_) | refine r_icmp_ge (pc := 23) (tgt := 47) dX6_laysThen_23 (by decide) (fun h23 => ?_) (fun h23 => ?_)
    · skip
      exact hk s1 _ hN.mix hh hf
    · skip
      exact absurd h23 (by omega)
  | succ k ih =>
    intro p s1 hp hN hh hf
    refine r_ild3 (pc := 18) dX6_laysThen_18 ?_
    refine r_ald0 (pc := 19) dX6_laysThen_19 ?_
    refine m_getI hS (pc := 20) dX6_laysThen_20 fl_X6_382 ?_
    refine Bd.eqI ((hf.1 40 (by decide)).trans hn) ?_
    first | refine r_icmp_geN (pc := 23) (tgt := 47) dX6_laysThen_23 (by decide) (by omega) (by omega) (fun h23 => ?_) (fun h23 => ?_) | refine r_icmp_ge (pc := 23) (tgt := 47) dX6_laysThen_23 (by decide) (fun h23 => ?_) (fun h23 => ?_)
    · skip
      exact absurd h23 (by omega)
    · skip
      refine r_ald0 (pc := 26) dX6_laysThen_26 ?_
      refine m_getR hS (pc := 27) dX6_laysThen_27 fl_X6_121 ar55 ?_
      refine r_iconst (v := nI 3) (pc := 30) dX6_laysThen_30 (by decide) ?_
      refine r_iconst (v := nI 3) (pc := 31) dX6_laysThen_31 (by decide) ?_
      refine r_ild3 (pc := 32) dX6_laysThen_32 ?_
      first | refine r_imulN (pc := 33) dX6_laysThen_33 ?_ | refine r_imulJ (pc := 33) dX6_laysThen_33 ?_ | refine r_imul (pc := 33) dX6_laysThen_33 ?_
      first | refine r_iaddN (pc := 34) dX6_laysThen_34 ?_ | refine r_iaddJ (pc := 34) dX6_laysThen_34 ?_ | refine r_iadd (pc := 34) dX6_laysThen_34 ?_
      refine r_ild2 (pc := 35) dX6_laysThen_35 ?_
      refine r_ild3 (pc := 36) dX6_laysThen_36 ?_
      refine r_ishr (pc := 37) dX6_laysThen_37 ?_
      refine r_iconst (v := nI 1) (pc := 38) dX6_laysThen_38 (by decide) ?_
      refine r_iand (pc := 39) dX6_laysThen_39 ?_
      refine Bd.eqI (shr_all x hx p (by omega)) ?_
      refine m_iast hS (pc := 40) dX6_laysThen_40 ar55 (by omega) (by omega) ?_
      first | refine r_iinc3N (j := 1) (pc := 41) dX6_laysThen_41 rfl ?_ | refine r_iinc3 (pc := 41) dX6_laysThen_41 ?_
      refine r_goto (pc := 44) (tgt := 18) dX6_laysThen_44 (by decide) ?_
      exact ih (p + 1) _ (by omega) (by rw [← mixS_succ]; exact RN.setSp hn8 (by omega) hN) (fun j hj => (tA_ne (by omega)).trans (hh j hj)) (Fr.tA hf (by decide))
theorem thenB {n x : Nat} {y : Int32} {Q : Option Value → MM → Prop} (hS : ShM g M o) (hn : mF s 40 = nI n) (hn8 : n ≤ 8) (hx : x < 256) (hN : RN s n t)
    (hk : ∀ s1 w3, (∀ r, r < n → mA s1 66 (8 * x + r) = nI (lk t r)) → (∀ j, j < 8 * x → mA s1 66 j = mA s 66 j) → Fr [] [] [66] [] s s1 → Bd g yX6_laysThen cX6_laysThen 4 none [] 7 0 0 (putM M o s1) 84 [some (.ref o), some (.int y), some (.int (nI x)), w3] [] Q noX) :
    ∀ (k p : Nat) (s1 : MS), p + k = n → (∀ r, r < p → mA s1 66 (8 * x + r) = nI (lk t r)) → (∀ j, j < 8 * x → mA s1 66 j = mA s 66 j) → Fr [] [] [66] [] s s1 → Bd g yX6_laysThen cX6_laysThen 4 none [] 7 0 0 (putM M o s1) 54 [some (.ref o), some (.int y), some (.int (nI x)), some (.int (nI p))] [] Q noX := by
  intro k
  induction k with
  | zero =>
    intro p s1 hp h1 h2 hf
    obtain rfl : p = n := by omega
    refine r_ild3 (pc := 54) dX6_laysThen_54 ?_
    refine r_ald0 (pc := 55) dX6_laysThen_55 ?_
    refine m_getI hS (pc := 56) dX6_laysThen_56 fl_X6_382 ?_
    refine Bd.eqI ((hf.1 40 (by decide)).trans hn) ?_
    first | refine r_icmp_geN (pc := 59) (tgt := 84) dX6_laysThen_59 (by decide) (by omega) (by omega) (fun h59 => ?_) (fun h59 => ?_) | refine r_icmp_ge (pc := 59) (tgt := 84) dX6_laysThen_59 (by decide) (fun h59 => ?_) (fun h59 => ?_)
    · skip
      exact hk s1 _ h1 h2 hf
    · skip
      exact absurd h59 (by omega)
  | succ k ih =>
    intro p s1 hp h1 h2 hf
    refine r_ild3 (pc := 54) dX6_laysThen_54 ?_
    refine r_ald0 (pc := 55) dX6_laysThen_55 ?_
    refine m_getI hS (pc := 56) dX6_laysThen_56 fl_X6_382 ?_
    refine Bd.eqI ((hf.1 40 (by decide)).trans hn) ?_
    first | refine r_icmp_geN (pc := 59) (tgt := 84) dX6_laysThen_59 (by decide) (by omega) (by omega) (fun h59 => ?_) (fun h59 => ?_) | refine r_icmp_ge (pc := 59) (tgt := 84) dX6_laysThen_59 (by decide) (fun h59 => ?_) (fun h59 => ?_)
    · skip
      exact absurd h59 (by omega)
    · skip
      refine r_ald0 (pc := 62) dX6_laysThen_62 ?_
      refine m_getR hS (pc := 63) dX6_laysThen_63 fl_X6_127 ar66 ?_
      refine r_bipush (v := nI 8) (pc := 66) dX6_laysThen_66 (by decide) ?_
      refine r_ild2 (pc := 68) dX6_laysThen_68 ?_
      first | refine r_imulN (pc := 69) dX6_laysThen_69 ?_ | refine r_imulJ (pc := 69) dX6_laysThen_69 ?_ | refine r_imul (pc := 69) dX6_laysThen_69 ?_
      refine r_ild3 (pc := 70) dX6_laysThen_70 ?_
      first | refine r_iaddN (pc := 71) dX6_laysThen_71 ?_ | refine r_iaddJ (pc := 71) dX6_laysThen_71 ?_ | refine r_iadd (pc := 71) dX6_laysThen_71 ?_
      refine r_ald0 (pc := 72) dX6_laysThen_72 ?_
      refine r_ild3 (pc := 73) dX6_laysThen_73 ?_
      refine r_cV (pc := 74) dX6_laysThen_74 cv_X6_423 hS.k (ct_X6_lookOf hS (by omega)) rfl rfl (Nat.le_of_ble_eq_true rfl) (by decide) ?_
      rintro _ _ ⟨rfl, rfl⟩
      refine Bd.eqI ((hN.fr hf (by decide)).2.2.1 p (by omega)) ?_
      refine m_iast hS (pc := 77) dX6_laysThen_77 ar66 (by omega) (by omega) ?_
      first | refine r_iinc3N (j := 1) (pc := 78) dX6_laysThen_78 rfl ?_ | refine r_iinc3 (pc := 78) dX6_laysThen_78 ?_
      refine r_goto (pc := 81) (tgt := 54) dX6_laysThen_81 (by decide) ?_
      refine ih (p + 1) _ (by omega) (fun r hr => ?_) (fun j hj => (tA_ne (by omega)).trans (h2 j hj)) (Fr.tA hf (by decide))
      by_cases e : r = p
      · subst e; exact tA_eq
      · rw [tA_ne (by omega)]; exact h1 r (by omega)
theorem laysLoop {m : Nat} (hS : ShM g M o) (hI : IM s q) (hG : GI q) (hm : m ≤ 20) (hy : yr (gS q) + m ≤ 999) :
    ∀ (k x : Nat) (s1 : MS) (w3 : Option Value), x + k = 2 ^ tn (gT q) → TR s q s1 → (∀ j, j < 89 → mA s1 55 j = mA s 55 j) → (∀ y, y < x → ∀ p, p < tn (gT q) → mA s1 66 (8 * y + p) = nI (thenS (gT q) (gS q) m y p)) →
    Bd g yX6_laysThen cX6_laysThen 4 none [] 7 0 0 (putM M o s1) 6 [some (.ref o), some (.int (nI m)), some (.int (nI x)), w3] [] (QM M o (fun r s' => r = none ∧ IM s' q ∧ ∀ y, y < 2 ^ tn (gT q) → ∀ p, p < tn (gT q) → mA s' 66 (8 * y + p) = nI (thenS (gT q) (gS q) m y p))) noX := by
  have hTB := hG.2.2.1
  have hn8 := hTB.1
  have hB : SB (tn (gT q)) (gS q) := hG.2.2.2.2.2.1.1
  have hN := hI.2.2.2.2.1.1
  have hp2 := pow_le (tn (gT q)) (by omega)
  intro k
  induction k with
  | zero =>
    intro x s1 w3 hx hR hj ht
    have hx : x = 2 ^ tn (gT q) := hx
    subst hx
    refine r_ild2 (pc := 6) dX6_laysThen_6 ?_
    refine r_iconst (v := nI 1) (pc := 7) dX6_laysThen_7 (by decide) ?_
    refine r_ald0 (pc := 8) dX6_laysThen_8 ?_
    refine m_getI hS (pc := 9) dX6_laysThen_9 fl_X6_382 ?_
    refine Bd.eqI (hR.rt hI).2.1 ?_
    refine r_ishl (pc := 12) dX6_laysThen_12 ?_
    refine Bd.eqI (shl_all (tn (gT q)) (by omega)) ?_
    first | refine r_icmp_geN (pc := 13) (tgt := 94) dX6_laysThen_13 (by decide) (by omega) (by omega) (fun h13 => ?_) (fun h13 => ?_) | refine r_icmp_ge (pc := 13) (tgt := 94) dX6_laysThen_13 (by decide) (fun h13 => ?_) (fun h13 => ?_)
    · skip
      refine r_ald0 (pc := 94) dX6_laysThen_94 ?_
      refine r_cV (pc := 95) dX6_laysThen_95 cv_X6_534 hS.k (ct_X6_takesBack hS) rfl rfl (Nat.le_of_ble_eq_true rfl) (by decide) ?_
      rintro _ _ ⟨s3, rfl, rfl, hj3, h643, hf3⟩
      refine r_vret (pc := 98) dX6_laysThen_98 ?_
      exact ⟨s3, rfl, rfl, TR.back hI hG hR hj3 h643 hf3, fun y hy p hp => by rw [hf3.2.2.1 66 (by decide)]; exact ht y hy p hp⟩
    · skip
      exact absurd h13 (by omega)
  | succ k ih =>
    intro x s1 w3 hx hR hj ht
    have hN1 := RN.low hn8 hN hj
    have hBx := spsS_SB (x := x) hB
    have hc : ∀ s2 w3, RN s2 (tn (gT q)) (spsS (gS q) x) → (∀ j, 89 ≤ j → mA s2 55 j = mA s1 55 j) → Fr [] [] [55] [] s1 s2 → Bd g yX6_laysThen cX6_laysThen 4 none [] 7 0 0 (putM M o s2) 47 [some (.ref o), some (.int (nI m)), some (.int (nI x)), w3] [] (QM M o (fun r s' => r = none ∧ IM s' q ∧ ∀ y, y < 2 ^ tn (gT q) → ∀ p, p < tn (gT q) → mA s' 66 (8 * y + p) = nI (thenS (gT q) (gS q) m y p))) noX := by
      intro s2 w3 hN2 hh2 hf2
      have hR2 : TR s q s2 := hR.high hf2 hh2 (by decide)
      refine r_ald0 (pc := 47) dX6_laysThen_47 ?_
      refine r_ild1 (pc := 48) dX6_laysThen_48 ?_
      refine r_cV (pc := 49) dX6_laysThen_49 cv_X6_531 hS.k (ct_X6_yearsGo (T := gT q) (t := spsS (gS q) x) (K := gK q) (tb := true) hS (hR2.rt hI) hTB hN2 hBx hR2.2.2.1 hR2.2.1 (by omega) (by show yr (gS q) + m ≤ 2000; omega)) rfl rfl (Nat.le_of_ble_eq_true rfl) (by decide) ?_
      rintro _ _ ⟨s4, rfl, rfl, hY⟩
      have hR4 := hR2.years hY
      have e66 : mA s4 66 = mA s1 66 := (hY.2.2.2.2.2.1 66 (by decide)).trans (hf2.2.2.1 66 (by decide))
      refine r_iconst (v := nI 0) (pc := 52) dX6_laysThen_52 (by decide) ?_
      refine r_ist3 (pc := 53) dX6_laysThen_53 ?_
      refine thenB (t := (yearsS (gT q) m (spsS (gS q) x)).1) hS (hR4.rt hI).2.1 hn8 (by omega) hY.1 (fun s5 w5 h51 h52 hf5 => ?_) (tn (gT q)) 0 s4 (by omega) (fun r hr => absurd hr (by omega)) (fun _ _ => rfl) Fr.rf
      have hR5 : TR s q s5 := hR4.fr hf5 (by decide)
      refine r_ald0 (pc := 84) dX6_laysThen_84 ?_
      refine r_cV (pc := 85) dX6_laysThen_85 cv_X6_492 hS.k (ct_X6_triesAnew hS) rfl rfl (Nat.le_of_ble_eq_true rfl) (by decide) ?_
      rintro _ _ ⟨s6, rfl, rfl, hj6, hf6⟩
      obtain ⟨hR6, hj7⟩ := hR5.anew hj6 hf6
      first | refine r_iinc2N (j := 1) (pc := 88) dX6_laysThen_88 rfl ?_ | refine r_iinc2 (pc := 88) dX6_laysThen_88 ?_
      refine r_goto (pc := 91) (tgt := 6) dX6_laysThen_91 (by decide) ?_
      refine ih (x + 1) s6 _ (by omega) hR6 hj7 (fun y hy p hp => ?_)
      rw [hf6.2.2.1 66 (by decide)]
      by_cases e : y = x
      · subst e; exact h51 p hp
      · rw [h52 _ (by omega), e66]; exact ht y (by omega) p hp
    refine r_ild2 (pc := 6) dX6_laysThen_6 ?_
    refine r_iconst (v := nI 1) (pc := 7) dX6_laysThen_7 (by decide) ?_
    refine r_ald0 (pc := 8) dX6_laysThen_8 ?_
    refine m_getI hS (pc := 9) dX6_laysThen_9 fl_X6_382 ?_
    refine Bd.eqI (hR.rt hI).2.1 ?_
    refine r_ishl (pc := 12) dX6_laysThen_12 ?_
    refine Bd.eqI (shl_all (tn (gT q)) (by omega)) ?_
    first | refine r_icmp_geN (pc := 13) (tgt := 94) dX6_laysThen_13 (by decide) (by omega) (by omega) (fun h13 => ?_) (fun h13 => ?_) | refine r_icmp_ge (pc := 13) (tgt := 94) dX6_laysThen_13 (by decide) (fun h13 => ?_) (fun h13 => ?_)
    · skip
      exact absurd h13 (by omega)
    · skip
      refine r_iconst (v := nI 0) (pc := 16) dX6_laysThen_16 (by decide) ?_
      refine r_ist3 (pc := 17) dX6_laysThen_17 ?_
      exact thenA (t := gS q) hS (hR.rt hI).2.1 hn8 (by omega) hc (tn (gT q)) 0 s1 (by omega) ⟨hN1.1, hN1.2.1, hN1.2.2.1, hN1.2.2.2.1, hN1.2.2.2.2⟩ (fun _ _ => rfl) Fr.rf
theorem ct_X6_laysThen {m : Nat} (hS : ShM g M o) (hI : IM s q) (hG : GI q) (hm : m ≤ 20) (hy : yr (gS q) + m ≤ 999) :
    Ct g yX6_laysThen cX6_laysThen 4 none 7 0 0 [.ref o, .int (nI m)] (putM M o s) (QM M o (fun r s' => r = none ∧ IM s' q ∧ ∀ y, y < 2 ^ tn (gT q) → ∀ p, p < tn (gT q) → mA s' 66 (8 * y + p) = nI (thenS (gT q) (gS q) m y p))) noX := by
  refine Ct.of (by decide) (Nat.le_of_ble_eq_true rfl) rfl ?_
  refine r_ald0 (pc := 0) dX6_laysThen_0 ?_
  refine r_cV (pc := 1) dX6_laysThen_1 cv_X6_528 hS.k (ct_X6_putsAside hS) rfl rfl (Nat.le_of_ble_eq_true rfl) (by decide) ?_
  rintro _ _ ⟨s1, rfl, rfl, hj1, h64, hf1⟩
  refine r_iconst (v := nI 0) (pc := 4) dX6_laysThen_4 (by decide) ?_
  refine r_ist2 (pc := 5) dX6_laysThen_5 ?_
  exact laysLoop hS hI hG hm hy (2 ^ tn (gT q)) 0 s1 _ (by omega) (TR.start hI hj1 h64 hf1) (fun j _ => congrFun (hf1.2.2.1 55 (by decide)) j) (fun y hy => absurd hy (by omega))
theorem restS_step {f : Nat → Nat → Nat} {x : Nat} : ∀ (n p : Nat), p ≤ n → (∀ r, r < p → f (flp x r) r ≤ f x r) → (restS f n x = true ↔ ∀ r, p ≤ r → r < n → f (flp x r) r ≤ f x r) := by
  intro n p hp h
  unfold restS
  rw [List.all_eq_true]
  constructor
  · intro h2 r _ hr; exact of_decide_eq_true (h2 r (List.mem_range.mpr hr))
  · intro h2 r hr
    have hr := List.mem_range.mp hr
    refine decide_eq_true ?_
    by_cases e : r < p
    · exact h r e
    · exact h2 r (by omega) hr
theorem isRestLoop {n x : Nat} {f : Nat → Nat → Nat} (hS : ShM g M o) (hn : mF s 40 = nI n) (hn8 : n ≤ 8) (hx : x < 2 ^ n) (hf : ∀ y, y < 2 ^ n → ∀ p, p < n → mA s 66 (8 * y + p) = nI (f y p) ∧ f y p ≤ 99) :
    ∀ (k p : Nat), p + k = n → (∀ r, r < p → f (flp x r) r ≤ f x r) → Bd g yX6_isRest cX6_isRest 3 (some Jvm.ClassFile.FieldType.boolean) [] 0 0 0 (putM M o s) 2 [some (.ref o), some (.int (nI x)), some (.int (nI p))] [] (PQ (putM M o s) (.int (zI (restS f n x = true)))) noX := by
  have hp2 := pow_le n (by omega)
  intro k
  induction k with
  | zero =>
    intro p hp h
    obtain rfl : p = n := by omega
    have hr : restS f p x = true := (restS_step p p (Nat.le_refl _) h).mpr (fun r h1 h2 => absurd h1 (by omega))
    rw [hr]
    refine r_ild2 (pc := 2) dX6_isRest_2 ?_
    refine r_ald0 (pc := 3) dX6_isRest_3 ?_
    refine m_getI hS (pc := 4) dX6_isRest_4 fl_X6_382 ?_
    refine Bd.eqI hn ?_
    first | refine r_icmp_geN (pc := 7) (tgt := 47) dX6_isRest_7 (by decide) (by omega) (by omega) (fun h7 => ?_) (fun h7 => ?_) | refine r_icmp_ge (pc := 7) (tgt := 47) dX6_isRest_7 (by decide) (fun h7 => ?_) (fun h7 => ?_)
    · skip
      refine r_iconst (v := nI 1) (pc := 47) dX6_isRest_47 (by decide) ?_
      refine r_zret (pc := 48) dX6_isRest_48 (by first | rfl | exact zI_nar | assumption) ?_
      exact ⟨rfl, rfl⟩
    · skip
      exact absurd h7 (by omega)
  | succ k ih =>
    intro p hp h
    have hfl := flp_lt n (by omega) x hx p (by omega)
    obtain ⟨e1, b1⟩ := hf (flp x p) hfl p (by omega)
    obtain ⟨e2, b2⟩ := hf x hx p (by omega)
    refine r_ild2 (pc := 2) dX6_isRest_2 ?_
    refine r_ald0 (pc := 3) dX6_isRest_3 ?_
    refine m_getI hS (pc := 4) dX6_isRest_4 fl_X6_382 ?_
    refine Bd.eqI hn ?_
    first | refine r_icmp_geN (pc := 7) (tgt := 47) dX6_isRest_7 (by decide) (by omega) (by omega) (fun h7 => ?_) (fun h7 => ?_) | refine r_icmp_ge (pc := 7) (tgt := 47) dX6_isRest_7 (by decide) (fun h7 => ?_) (fun h7 => ?_)
    · skip
      exact absurd h7 (by omega)
    · skip
      refine r_ald0 (pc := 10) dX6_isRest_10 ?_
      refine m_getR hS (pc := 11) dX6_isRest_11 fl_X6_127 ar66 ?_
      refine r_bipush (v := nI 8) (pc := 14) dX6_isRest_14 (by decide) ?_
      refine r_ild1 (pc := 16) dX6_isRest_16 ?_
      refine r_iconst (v := nI 1) (pc := 17) dX6_isRest_17 (by decide) ?_
      refine r_ild2 (pc := 18) dX6_isRest_18 ?_
      refine r_ishl (pc := 19) dX6_isRest_19 ?_
      refine Bd.eqI (shl_all p (by omega)) ?_
      refine r_ixor (pc := 20) dX6_isRest_20 ?_
      refine Bd.eqI (xor_all x (by omega) p (by omega)) ?_
      first | refine r_imulN (pc := 21) dX6_isRest_21 ?_ | refine r_imulJ (pc := 21) dX6_isRest_21 ?_ | refine r_imul (pc := 21) dX6_isRest_21 ?_
      refine r_ild2 (pc := 22) dX6_isRest_22 ?_
      first | refine r_iaddN (pc := 23) dX6_isRest_23 ?_ | refine r_iaddJ (pc := 23) dX6_isRest_23 ?_ | refine r_iadd (pc := 23) dX6_isRest_23 ?_
      refine m_iald hS (pc := 24) dX6_isRest_24 ar66 (by omega) (by omega) ?_
      refine Bd.eqI e1 ?_
      refine r_ald0 (pc := 25) dX6_isRest_25 ?_
      refine m_getR hS (pc := 26) dX6_isRest_26 fl_X6_127 ar66 ?_
      refine r_bipush (v := nI 8) (pc := 29) dX6_isRest_29 (by decide) ?_
      refine r_ild1 (pc := 31) dX6_isRest_31 ?_
      first | refine r_imulN (pc := 32) dX6_isRest_32 ?_ | refine r_imulJ (pc := 32) dX6_isRest_32 ?_ | refine r_imul (pc := 32) dX6_isRest_32 ?_
      refine r_ild2 (pc := 33) dX6_isRest_33 ?_
      first | refine r_iaddN (pc := 34) dX6_isRest_34 ?_ | refine r_iaddJ (pc := 34) dX6_isRest_34 ?_ | refine r_iadd (pc := 34) dX6_isRest_34 ?_
      refine m_iald hS (pc := 35) dX6_isRest_35 ar66 (by omega) (by omega) ?_
      refine Bd.eqI e2 ?_
      first | refine r_icmp_leN (pc := 36) (tgt := 41) dX6_isRest_36 (by decide) (by omega) (by omega) (fun h36 => ?_) (fun h36 => ?_) | refine r_icmp_le (pc := 36) (tgt := 41) dX6_isRest_36 (by decide) (fun h36 => ?_) (fun h36 => ?_)
      · skip
        first | refine r_iinc2N (j := 1) (pc := 41) dX6_isRest_41 rfl ?_ | refine r_iinc2 (pc := 41) dX6_isRest_41 ?_
        refine r_goto (pc := 44) (tgt := 2) dX6_isRest_44 (by decide) ?_
        refine ih (p + 1) (by omega) (fun r hr => ?_)
        by_cases e : r = p
        · subst e; omega
        · exact h r (by omega)
      · skip
        rw [show restS f n x = false by cases hh : restS f n x with | false => rfl | true => exact absurd ((restS_step n p (by omega) h).mp hh p (Nat.le_refl _) (by omega)) (by omega)]
        refine r_iconst (v := nI 0) (pc := 39) dX6_isRest_39 (by decide) ?_
        refine r_zret (pc := 40) dX6_isRest_40 (by first | rfl | exact zI_nar | assumption) ?_
        exact ⟨rfl, rfl⟩
theorem ct_X6_isRest {n x : Nat} {f : Nat → Nat → Nat} (hS : ShM g M o) (hn : mF s 40 = nI n) (hn8 : n ≤ 8) (hx : x < 2 ^ n) (hf : ∀ y, y < 2 ^ n → ∀ p, p < n → mA s 66 (8 * y + p) = nI (f y p) ∧ f y p ≤ 99) :
    Ct g yX6_isRest cX6_isRest 3 (some Jvm.ClassFile.FieldType.boolean) 0 0 0 [.ref o, .int (nI x)] (putM M o s) (PQ (putM M o s) (.int (zI (restS f n x = true)))) noX := by
  refine Ct.of (by decide) (Nat.le_of_ble_eq_true rfl) rfl ?_
  refine r_iconst (v := nI 0) (pc := 0) dX6_isRest_0 (by decide) ?_
  refine r_ist2 (pc := 1) dX6_isRest_1 ?_
  exact isRestLoop hS hn hn8 hx hf n 0 (by omega) (fun r hr => absurd hr (by omega))
theorem restLoop {m : Nat} {y : Int32} (hS : ShM g M o) (hI : IM s q) (hG : GI q) (hf : ∀ y, y < 2 ^ tn (gT q) → ∀ p, p < tn (gT q) → mA s 66 (8 * y + p) = nI (thenS (gT q) (gS q) m y p) ∧ thenS (gT q) (gS q) m y p ≤ 99) :
    ∀ (k x : Nat) (b : Option Nat), x + k = 2 ^ tn (gT q) → (∀ y, b = some y → y < 256) → Bd g yX6_rest cX6_rest 4 (some Jvm.ClassFile.FieldType.int) [] 8 0 0 (putM M o s) 29 [some (.ref o), some (.int y), some (.int (oI b)), some (.int (nI x))] [] (PM M o q (.int (oI (fewS (restS (thenS (gT q) (gS q) m) (tn (gT q))) k x b)))) noX := by
  have hTB := hG.2.2.1
  have hT1 := hI.2.2.2.1.1
  have hn8 := hTB.1
  have hp2 := pow_le (tn (gT q)) (by omega)
  intro k
  induction k with
  | zero =>
    intro x b hx hb
    refine r_ild3 (pc := 29) dX6_rest_29 ?_
    refine r_iconst (v := nI 1) (pc := 30) dX6_rest_30 (by decide) ?_
    refine r_ald0 (pc := 31) dX6_rest_31 ?_
    refine m_getI hS (pc := 32) dX6_rest_32 fl_X6_382 ?_
    refine Bd.eqI hT1.2.1 ?_
    refine r_ishl (pc := 35) dX6_rest_35 ?_
    refine Bd.eqI (shl_all (tn (gT q)) (by omega)) ?_
    first | refine r_icmp_geN (pc := 36) (tgt := 71) dX6_rest_36 (by decide) (by omega) (by omega) (fun h36 => ?_) (fun h36 => ?_) | refine r_icmp_ge (pc := 36) (tgt := 71) dX6_rest_36 (by decide) (fun h36 => ?_) (fun h36 => ?_)
    · skip
      refine r_ild2 (pc := 71) dX6_rest_71 ?_
      refine r_iret (pc := 72) dX6_rest_72 ?_
      exact ⟨s, rfl, rfl, hI⟩
    · skip
      exact absurd h36 (by omega)
  | succ k ih =>
    intro x b hx hb
    have hbx := bc_le x (by omega)
    cases b with
    | none =>
      rw [show fewS (restS (thenS (gT q) (gS q) m) (tn (gT q))) (k + 1) x none = fewS (restS (thenS (gT q) (gS q) m) (tn (gT q))) k (x + 1) (if (restS (thenS (gT q) (gS q) m) (tn (gT q))) x then some x else none) from rfl]
      refine r_ild3 (pc := 29) dX6_rest_29 ?_
      refine r_iconst (v := nI 1) (pc := 30) dX6_rest_30 (by decide) ?_
      refine r_ald0 (pc := 31) dX6_rest_31 ?_
      refine m_getI hS (pc := 32) dX6_rest_32 fl_X6_382 ?_
      refine Bd.eqI hT1.2.1 ?_
      refine r_ishl (pc := 35) dX6_rest_35 ?_
      refine Bd.eqI (shl_all (tn (gT q)) (by omega)) ?_
      first | refine r_icmp_geN (pc := 36) (tgt := 71) dX6_rest_36 (by decide) (by omega) (by omega) (fun h36 => ?_) (fun h36 => ?_) | refine r_icmp_ge (pc := 36) (tgt := 71) dX6_rest_36 (by decide) (fun h36 => ?_) (fun h36 => ?_)
      · skip
        exact absurd h36 (by omega)
      · skip
        refine r_ild2 (pc := 39) dX6_rest_39 ?_
        refine r_iconst (v := -1) (pc := 40) dX6_rest_40 (by decide) ?_
        refine r_icmp_eq (pc := 41) (tgt := 55) dX6_rest_41 (by decide) (fun h41 => ?_) (fun h41 => ?_)
        · skip
          refine r_ald0 (pc := 55) dX6_rest_55 ?_
          refine r_ild3 (pc := 56) dX6_rest_56 ?_
          refine r_cV (pc := 57) dX6_rest_57 cv_X6_555 hS.k (ct_X6_isRest hS hT1.2.1 hn8 (by omega) hf) rfl rfl (Nat.le_of_ble_eq_true rfl) (by decide) ?_
          rintro _ _ ⟨rfl, rfl⟩
          first | refine r_if_eqZ (pc := 60) (tgt := 65) dX6_rest_60 (by decide) (fun h60 => ?_) (fun h60 => ?_) | refine r_if_eqN (pc := 60) (tgt := 65) dX6_rest_60 (by decide) (by omega) (fun h60 => ?_) (fun h60 => ?_) | refine r_if_eq (pc := 60) (tgt := 65) dX6_rest_60 (by decide) (fun h60 => ?_) (fun h60 => ?_)
          · skip
            rw [if_neg h60]
            first | refine r_iinc3N (j := 1) (pc := 65) dX6_rest_65 rfl ?_ | refine r_iinc3 (pc := 65) dX6_rest_65 ?_
            refine r_goto (pc := 68) (tgt := 29) dX6_rest_68 (by decide) ?_
            first | exact ih (x + 1) (some x) (by omega) (by rintro y ⟨⟩; omega) | exact ih (x + 1) none (by omega) hb
          · skip
            rw [if_pos h60]
            refine r_ild3 (pc := 63) dX6_rest_63 ?_
            refine r_ist2 (pc := 64) dX6_rest_64 ?_
            first | refine r_iinc3N (j := 1) (pc := 65) dX6_rest_65 rfl ?_ | refine r_iinc3 (pc := 65) dX6_rest_65 ?_
            refine r_goto (pc := 68) (tgt := 29) dX6_rest_68 (by decide) ?_
            first | exact ih (x + 1) (some x) (by omega) (by rintro y ⟨⟩; omega) | exact ih (x + 1) none (by omega) hb
        · skip
          exact absurd rfl h41
    | some y =>
      have hy := hb y rfl
      have hby := bc_le y hy
      rw [show fewS (restS (thenS (gT q) (gS q) m) (tn (gT q))) (k + 1) x (some y) = fewS (restS (thenS (gT q) (gS q) m) (tn (gT q))) k (x + 1) (if bc x < bc y ∧ (restS (thenS (gT q) (gS q) m) (tn (gT q))) x then some x else some y) from rfl]
      refine r_ild3 (pc := 29) dX6_rest_29 ?_
      refine r_iconst (v := nI 1) (pc := 30) dX6_rest_30 (by decide) ?_
      refine r_ald0 (pc := 31) dX6_rest_31 ?_
      refine m_getI hS (pc := 32) dX6_rest_32 fl_X6_382 ?_
      refine Bd.eqI hT1.2.1 ?_
      refine r_ishl (pc := 35) dX6_rest_35 ?_
      refine Bd.eqI (shl_all (tn (gT q)) (by omega)) ?_
      first | refine r_icmp_geN (pc := 36) (tgt := 71) dX6_rest_36 (by decide) (by omega) (by omega) (fun h36 => ?_) (fun h36 => ?_) | refine r_icmp_ge (pc := 36) (tgt := 71) dX6_rest_36 (by decide) (fun h36 => ?_) (fun h36 => ?_)
      · skip
        exact absurd h36 (by omega)
      · skip
        refine r_ild2 (pc := 39) dX6_rest_39 ?_
        refine r_iconst (v := -1) (pc := 40) dX6_rest_40 (by decide) ?_
        refine r_icmp_eq (pc := 41) (tgt := 55) dX6_rest_41 (by decide) (fun h41 => ?_) (fun h41 => ?_)
        · skip
          exact absurd h41 (oI_ne hy)
        · skip
          refine r_ild3 (pc := 44) dX6_rest_44 ?_
          refine r_cS (pc := 45) dX6_rest_45 cs_X6_546 (ct_X6_bits (by omega)) rfl rfl (Nat.le_of_ble_eq_true rfl) (by decide) ?_
          rintro _ _ ⟨rfl, rfl⟩
          refine r_ild2 (pc := 48) dX6_rest_48 ?_
          refine r_cS (pc := 49) dX6_rest_49 cs_X6_546 (ct_X6_bits (x := y) hy) rfl rfl (Nat.le_of_ble_eq_true rfl) (by decide) ?_
          rintro _ _ ⟨rfl, rfl⟩
          first | refine r_icmp_geN (pc := 52) (tgt := 65) dX6_rest_52 (by decide) (by omega) (by omega) (fun h52 => ?_) (fun h52 => ?_) | refine r_icmp_ge (pc := 52) (tgt := 65) dX6_rest_52 (by decide) (fun h52 => ?_) (fun h52 => ?_)
          · skip
            rw [if_neg (by omega)]
            first | refine r_iinc3N (j := 1) (pc := 65) dX6_rest_65 rfl ?_ | refine r_iinc3 (pc := 65) dX6_rest_65 ?_
            refine r_goto (pc := 68) (tgt := 29) dX6_rest_68 (by decide) ?_
            first | exact ih (x + 1) (some x) (by omega) (by rintro y ⟨⟩; omega) | exact ih (x + 1) (some y) (by omega) hb
          · skip
            refine r_ald0 (pc := 55) dX6_rest_55 ?_
            refine r_ild3 (pc := 56) dX6_rest_56 ?_
            refine r_cV (pc := 57) dX6_rest_57 cv_X6_555 hS.k (ct_X6_isRest hS hT1.2.1 hn8 (by omega) hf) rfl rfl (Nat.le_of_ble_eq_true rfl) (by decide) ?_
            rintro _ _ ⟨rfl, rfl⟩
            first | refine r_if_eqZ (pc := 60) (tgt := 65) dX6_rest_60 (by decide) (fun h60 => ?_) (fun h60 => ?_) | refine r_if_eqN (pc := 60) (tgt := 65) dX6_rest_60 (by decide) (by omega) (fun h60 => ?_) (fun h60 => ?_) | refine r_if_eq (pc := 60) (tgt := 65) dX6_rest_60 (by decide) (fun h60 => ?_) (fun h60 => ?_)
            · skip
              rw [if_neg (fun h => h60 h.2)]
              first | refine r_iinc3N (j := 1) (pc := 65) dX6_rest_65 rfl ?_ | refine r_iinc3 (pc := 65) dX6_rest_65 ?_
              refine r_goto (pc := 68) (tgt := 29) dX6_rest_68 (by decide) ?_
              first | exact ih (x + 1) (some x) (by omega) (by rintro y ⟨⟩; omega) | exact ih (x + 1) (some y) (by omega) hb
            · skip
              rw [if_pos ⟨by omega, h60⟩]
              refine r_ild3 (pc := 63) dX6_rest_63 ?_
              refine r_ist2 (pc := 64) dX6_rest_64 ?_
              first | refine r_iinc3N (j := 1) (pc := 65) dX6_rest_65 rfl ?_ | refine r_iinc3 (pc := 65) dX6_rest_65 ?_
              refine r_goto (pc := 68) (tgt := 29) dX6_rest_68 (by decide) ?_
              first | exact ih (x + 1) (some x) (by omega) (by rintro y ⟨⟩; omega) | exact ih (x + 1) (some y) (by omega) hb
theorem pm_rest {y : Int32} (hS : ShM g M o) (hI : IM s q) (hG : GI q) : Ct g yX6_rest cX6_rest 4 (some Jvm.ClassFile.FieldType.int) 8 0 0 [.ref o, .int y] (putM M o s) (PM M o q (.int (restQ q y))) noX := by
  have hTB := hG.2.2.1
  have hN := hI.2.2.2.2.1.1
  have hB : SB (tn (gT q)) (gS q) := hG.2.2.2.2.2.1.1
  have hy : yr (gS q) ≤ 999 := hG.2.2.2.2.2.1.2.1
  have hi := hI.2.2.2.1.2.1
  refine Ct.of (by decide) (Nat.le_of_ble_eq_true rfl) rfl ?_
  unfold restQ
  cases hit : gIt q with
  | false =>
    rw [hit] at hi
    rw [if_neg (by decide)]
    refine r_ald0 (pc := 0) dX6_rest_0 ?_
    refine m_getI hS (pc := 1) dX6_rest_1 fl_X6_375 ?_
    refine Bd.eqI hi ?_
    first | refine r_if_eqZ (pc := 4) (tgt := 18) dX6_rest_4 (by decide) (fun h4 => ?_) (fun h4 => ?_) | refine r_if_eqN (pc := 4) (tgt := 18) dX6_rest_4 (by decide) (by omega) (fun h4 => ?_) (fun h4 => ?_) | refine r_if_eq (pc := 4) (tgt := 18) dX6_rest_4 (by decide) (fun h4 => ?_) (fun h4 => ?_)
    · skip
      refine r_iconst (v := -1) (pc := 18) dX6_rest_18 (by decide) ?_
      refine r_iret (pc := 19) dX6_rest_19 ?_
      exact ⟨s, rfl, rfl, hI⟩
    · skip
      exact absurd h4 (by decide)
  | true =>
    rw [hit] at hi
    rw [if_pos rfl]
    cases hr : ahd (gS q) y 1 20 with
    | none =>
      have hr := ahd_none hr
      refine r_ald0 (pc := 0) dX6_rest_0 ?_
      refine m_getI hS (pc := 1) dX6_rest_1 fl_X6_375 ?_
      refine Bd.eqI hi ?_
      first | refine r_if_eqZ (pc := 4) (tgt := 18) dX6_rest_4 (by decide) (fun h4 => ?_) (fun h4 => ?_) | refine r_if_eqN (pc := 4) (tgt := 18) dX6_rest_4 (by decide) (by omega) (fun h4 => ?_) (fun h4 => ?_) | refine r_if_eq (pc := 4) (tgt := 18) dX6_rest_4 (by decide) (fun h4 => ?_) (fun h4 => ?_)
      · skip
        exact absurd rfl h4
      · skip
        refine r_ald0 (pc := 7) dX6_rest_7 ?_
        refine r_ild1 (pc := 8) dX6_rest_8 ?_
        refine r_iconst (v := nI 1) (pc := 9) dX6_rest_9 (by decide) ?_
        refine r_bipush (v := nI 20) (pc := 10) dX6_rest_10 (by decide) ?_
        refine r_cV (pc := 12) dX6_rest_12 cv_X6_524 hS.k (ct_X6_isAhead hS hN.1 (by omega) (by decide) (by decide)) rfl rfl (Nat.le_of_ble_eq_true rfl) (by decide) ?_
        rintro _ _ ⟨rfl, rfl⟩
        first | refine r_if_neZ (pc := 15) (tgt := 20) dX6_rest_15 (by decide) (fun h15 => ?_) (fun h15 => ?_) | refine r_if_neN (pc := 15) (tgt := 20) dX6_rest_15 (by decide) (by omega) (fun h15 => ?_) (fun h15 => ?_) | refine r_if_ne (pc := 15) (tgt := 20) dX6_rest_15 (by decide) (fun h15 => ?_) (fun h15 => ?_)
        · skip
          exact absurd h15 hr
        · skip
          refine r_iconst (v := -1) (pc := 18) dX6_rest_18 (by decide) ?_
          refine r_iret (pc := 19) dX6_rest_19 ?_
          exact ⟨s, rfl, rfl, hI⟩
    | some m =>
      obtain ⟨n1, n2, n3, rfl⟩ := ahd_some hr
      show Bd g yX6_rest cX6_rest 4 (some Jvm.ClassFile.FieldType.int) [] 8 0 0 _ _ _ _ (PM M o q (.int (oI (fewS (restS (thenS (gT q) (gS q) m) (tn (gT q))) (2 ^ tn (gT q)) 0 none)))) noX
      refine r_ald0 (pc := 0) dX6_rest_0 ?_
      refine m_getI hS (pc := 1) dX6_rest_1 fl_X6_375 ?_
      refine Bd.eqI hi ?_
      first | refine r_if_eqZ (pc := 4) (tgt := 18) dX6_rest_4 (by decide) (fun h4 => ?_) (fun h4 => ?_) | refine r_if_eqN (pc := 4) (tgt := 18) dX6_rest_4 (by decide) (by omega) (fun h4 => ?_) (fun h4 => ?_) | refine r_if_eq (pc := 4) (tgt := 18) dX6_rest_4 (by decide) (fun h4 => ?_) (fun h4 => ?_)
      · skip
        exact absurd rfl h4
      · skip
        refine r_ald0 (pc := 7) dX6_rest_7 ?_
        refine r_ild1 (pc := 8) dX6_rest_8 ?_
        refine r_iconst (v := nI 1) (pc := 9) dX6_rest_9 (by decide) ?_
        refine r_bipush (v := nI 20) (pc := 10) dX6_rest_10 (by decide) ?_
        refine r_cV (pc := 12) dX6_rest_12 cv_X6_524 hS.k (ct_X6_isAhead hS hN.1 (by omega) (by decide) (by decide)) rfl rfl (Nat.le_of_ble_eq_true rfl) (by decide) ?_
        rintro _ _ ⟨rfl, rfl⟩
        first | refine r_if_neZ (pc := 15) (tgt := 20) dX6_rest_15 (by decide) (fun h15 => ?_) (fun h15 => ?_) | refine r_if_neN (pc := 15) (tgt := 20) dX6_rest_15 (by decide) (by omega) (fun h15 => ?_) (fun h15 => ?_) | refine r_if_ne (pc := 15) (tgt := 20) dX6_rest_15 (by decide) (fun h15 => ?_) (fun h15 => ?_)
        · skip
          refine r_ald0 (pc := 20) dX6_rest_20 ?_
          refine r_ild1 (pc := 21) dX6_rest_21 ?_
          refine r_cV (pc := 22) dX6_rest_22 cv_X6_552 hS.k (ct_X6_laysThen hS hI hG n2 n3) rfl rfl (Nat.le_of_ble_eq_true rfl) (by decide) ?_
          rintro _ _ ⟨s1, rfl, rfl, hI1, hf1⟩
          refine r_iconst (v := -1) (pc := 25) dX6_rest_25 (by decide) ?_
          refine r_ist2 (pc := 26) dX6_rest_26 ?_
          refine r_iconst (v := nI 0) (pc := 27) dX6_rest_27 (by decide) ?_
          refine r_ist3 (pc := 28) dX6_rest_28 ?_
          exact restLoop hS hI1 hG (fun y hy p hp => ⟨hf1 y hy p hp, ((yearsS_SB m (gT q) _ (spsS_SB (x := y) hB) (by show yr (gS q) + m ≤ 2000; omega)).2 p hp).2.1⟩) (2 ^ tn (gT q)) 0 none (by omega) (fun _ h => by cases h)
        · skip
          exact absurd (by rw [nI_toInt (by omega)]; omega) h15
end M19
