set_option maxRecDepth 100000
/-! THE MODEL: one who comes -/
section M17
variable {g : GC} {M : MM} {o : Nat} {s : MS} {M1 : MM} {q : Sg} {T : Te} {t : St} {K : List Ev}
theorem comesLoop {n h f c : Nat} {Q : Option Value → MM → Prop} (hS : ShM g M o) (hn : n < 8)
    (hQ : ∀ s1, (∀ i, i < 8 → mA s1 55 (25 + 8 * n + i) = nI 5 ∧ mA s1 55 (25 + 8 * i + n) = nI 5) → (∀ j, (∀ i, i < 8 → j ≠ 25 + 8 * n + i ∧ j ≠ 25 + 8 * i + n) → mA s1 55 j = mA s 55 j) → Fr [] [] [55] [] s s1 → Q none (putM M o s1)) :
    ∀ (k i : Nat) (s1 : MS), i + k = 8 → (∀ r, r < i → mA s1 55 (25 + 8 * n + r) = nI 5 ∧ mA s1 55 (25 + 8 * r + n) = nI 5) → (∀ j, (∀ r, r < 8 → j ≠ 25 + 8 * n + r ∧ j ≠ 25 + 8 * r + n) → mA s1 55 j = mA s 55 j) → Fr [] [] [55] [] s s1 → Bd g yX6_comes cX6_comes 6 none [] 0 0 0 (putM M o s1) 60 [some (.ref o), some (.int (nI n)), some (.int (nI h)), some (.int (nI f)), some (.int (nI c)), some (.int (nI i))] [] Q noX := by
  intro k
  induction k with
  | zero =>
    intro i s1 hi h1 h2 hf
    obtain rfl : i = 8 := by omega
    refine r_ild5 (pc := 60) dX6_comes_60 ?_
    refine r_bipush (v := nI 8) (pc := 62) dX6_comes_62 (by decide) ?_
    first | refine r_icmp_geN (pc := 64) (tgt := 105) dX6_comes_64 (by decide) (by omega) (by omega) (fun h64 => ?_) (fun h64 => ?_) | refine r_icmp_ge (pc := 64) (tgt := 105) dX6_comes_64 (by decide) (fun h64 => ?_) (fun h64 => ?_)
    · skip
      refine r_vret (pc := 105) dX6_comes_105 ?_
      exact hQ s1 h1 h2 hf
    · skip
      exact absurd h64 (by omega)
  | succ k ih =>
    intro i s1 hi h1 h2 hf
    refine r_ild5 (pc := 60) dX6_comes_60 ?_
    refine r_bipush (v := nI 8) (pc := 62) dX6_comes_62 (by decide) ?_
    first | refine r_icmp_geN (pc := 64) (tgt := 105) dX6_comes_64 (by decide) (by omega) (by omega) (fun h64 => ?_) (fun h64 => ?_) | refine r_icmp_ge (pc := 64) (tgt := 105) dX6_comes_64 (by decide) (fun h64 => ?_) (fun h64 => ?_)
    · skip
      exact absurd h64 (by omega)
    · skip
      refine r_ald0 (pc := 67) dX6_comes_67 ?_
      refine m_getR hS (pc := 68) dX6_comes_68 fl_X6_121 ar55 ?_
      refine r_bipush (v := nI 25) (pc := 71) dX6_comes_71 (by decide) ?_
      refine r_bipush (v := nI 8) (pc := 73) dX6_comes_73 (by decide) ?_
      refine r_ild1 (pc := 75) dX6_comes_75 ?_
      first | refine r_imulN (pc := 76) dX6_comes_76 ?_ | refine r_imulJ (pc := 76) dX6_comes_76 ?_ | refine r_imul (pc := 76) dX6_comes_76 ?_
      first | refine r_iaddN (pc := 77) dX6_comes_77 ?_ | refine r_iaddJ (pc := 77) dX6_comes_77 ?_ | refine r_iadd (pc := 77) dX6_comes_77 ?_
      refine r_ild5 (pc := 78) dX6_comes_78 ?_
      first | refine r_iaddN (pc := 80) dX6_comes_80 ?_ | refine r_iaddJ (pc := 80) dX6_comes_80 ?_ | refine r_iadd (pc := 80) dX6_comes_80 ?_
      refine r_iconst (v := nI 5) (pc := 81) dX6_comes_81 (by decide) ?_
      refine m_iast hS (pc := 82) dX6_comes_82 ar55 (by omega) (by omega) ?_
      refine r_ald0 (pc := 83) dX6_comes_83 ?_
      refine m_getR hS (pc := 84) dX6_comes_84 fl_X6_121 ar55 ?_
      refine r_bipush (v := nI 25) (pc := 87) dX6_comes_87 (by decide) ?_
      refine r_bipush (v := nI 8) (pc := 89) dX6_comes_89 (by decide) ?_
      refine r_ild5 (pc := 91) dX6_comes_91 ?_
      first | refine r_imulN (pc := 93) dX6_comes_93 ?_ | refine r_imulJ (pc := 93) dX6_comes_93 ?_ | refine r_imul (pc := 93) dX6_comes_93 ?_
      first | refine r_iaddN (pc := 94) dX6_comes_94 ?_ | refine r_iaddJ (pc := 94) dX6_comes_94 ?_ | refine r_iadd (pc := 94) dX6_comes_94 ?_
      refine r_ild1 (pc := 95) dX6_comes_95 ?_
      first | refine r_iaddN (pc := 96) dX6_comes_96 ?_ | refine r_iaddJ (pc := 96) dX6_comes_96 ?_ | refine r_iadd (pc := 96) dX6_comes_96 ?_
      refine r_iconst (v := nI 5) (pc := 97) dX6_comes_97 (by decide) ?_
      refine m_iast hS (pc := 98) dX6_comes_98 ar55 (by omega) (by omega) ?_
      first | refine r_iinc5N (j := 1) (pc := 99) dX6_comes_99 rfl ?_ | refine r_iinc5 (pc := 99) dX6_comes_99 ?_
      refine r_goto (pc := 102) (tgt := 60) dX6_comes_102 (by decide) ?_
      refine ih (i + 1) _ (by omega) ?_ ?_ (Fr.tA (Fr.tA hf (by decide)) (by decide))
      · intro r hr
        constructor
        · by_cases e1 : 25 + 8 * n + r = 25 + 8 * i + n
          · rw [e1]; exact tA_eq
          · rw [tA_ne e1]; by_cases e2 : r = i
            · subst e2; exact tA_eq
            · rw [tA_ne (by omega)]; exact (h1 r (by omega)).1
        · by_cases e1 : r = i
          · subst e1; exact tA_eq
          · rw [tA_ne (by omega)]; by_cases e2 : 25 + 8 * r + n = 25 + 8 * n + i
            · rw [e2]; exact tA_eq
            · rw [tA_ne e2]; exact (h1 r (by omega)).2
      · intro j hj
        have := hj i (by omega)
        rw [tA_ne this.2, tA_ne this.1]; exact h2 j hj
theorem ct_X6_comes {n h f c : Nat} (hS : ShM g M o) (hn : n < 8) (hN : RN s n t) (hf : f ≤ 9) :
    Ct g yX6_comes cX6_comes 6 none 0 0 0 [.ref o, .int (nI n), .int (nI h), .int (nI f), .int (nI c)] (putM M o s) (QM M o (fun r s' => r = none ∧ RN s' (n + 1) (comesS n t h f) ∧ (∀ j, 89 ≤ j → mA s' 55 j = mA s 55 j) ∧ (∀ j, mA s' 43 j = if j = 8 + n then nI f else mA s 43 j) ∧ (∀ j, mA s' 44 j = if j = 8 + n then nI c else mA s 44 j) ∧ Fr [] [] [43, 44, 55] [] s s')) noX := by
  refine Ct.of (by decide) (Nat.le_of_ble_eq_true rfl) rfl ?_
  refine r_ald0 (pc := 0) dX6_comes_0 ?_
  refine m_getR hS (pc := 1) dX6_comes_1 fl_X6_103 ar43 ?_
  refine r_bipush (v := nI 8) (pc := 4) dX6_comes_4 (by decide) ?_
  refine r_ild1 (pc := 6) dX6_comes_6 ?_
  first | refine r_iaddN (pc := 7) dX6_comes_7 ?_ | refine r_iaddJ (pc := 7) dX6_comes_7 ?_ | refine r_iadd (pc := 7) dX6_comes_7 ?_
  refine r_ild3 (pc := 8) dX6_comes_8 ?_
  refine m_iast hS (pc := 9) dX6_comes_9 ar43 (by omega) (by omega) ?_
  refine r_ald0 (pc := 10) dX6_comes_10 ?_
  refine m_getR hS (pc := 11) dX6_comes_11 fl_X6_106 ar44 ?_
  refine r_bipush (v := nI 8) (pc := 14) dX6_comes_14 (by decide) ?_
  refine r_ild1 (pc := 16) dX6_comes_16 ?_
  first | refine r_iaddN (pc := 17) dX6_comes_17 ?_ | refine r_iaddJ (pc := 17) dX6_comes_17 ?_ | refine r_iadd (pc := 17) dX6_comes_17 ?_
  refine r_ild4 (pc := 18) dX6_comes_18 ?_
  refine m_iast hS (pc := 20) dX6_comes_20 ar44 (by omega) (by omega) ?_
  refine r_ald0 (pc := 21) dX6_comes_21 ?_
  refine m_getR hS (pc := 22) dX6_comes_22 fl_X6_121 ar55 ?_
  refine r_iconst (v := nI 1) (pc := 25) dX6_comes_25 (by decide) ?_
  refine r_iconst (v := nI 3) (pc := 26) dX6_comes_26 (by decide) ?_
  refine r_ild1 (pc := 27) dX6_comes_27 ?_
  first | refine r_imulN (pc := 28) dX6_comes_28 ?_ | refine r_imulJ (pc := 28) dX6_comes_28 ?_ | refine r_imul (pc := 28) dX6_comes_28 ?_
  first | refine r_iaddN (pc := 29) dX6_comes_29 ?_ | refine r_iaddJ (pc := 29) dX6_comes_29 ?_ | refine r_iadd (pc := 29) dX6_comes_29 ?_
  refine r_ild2 (pc := 30) dX6_comes_30 ?_
  refine m_iast hS (pc := 31) dX6_comes_31 ar55 (by omega) (by omega) ?_
  refine r_ald0 (pc := 32) dX6_comes_32 ?_
  refine m_getR hS (pc := 33) dX6_comes_33 fl_X6_121 ar55 ?_
  refine r_iconst (v := nI 2) (pc := 36) dX6_comes_36 (by decide) ?_
  refine r_iconst (v := nI 3) (pc := 37) dX6_comes_37 (by decide) ?_
  refine r_ild1 (pc := 38) dX6_comes_38 ?_
  first | refine r_imulN (pc := 39) dX6_comes_39 ?_ | refine r_imulJ (pc := 39) dX6_comes_39 ?_ | refine r_imul (pc := 39) dX6_comes_39 ?_
  first | refine r_iaddN (pc := 40) dX6_comes_40 ?_ | refine r_iaddJ (pc := 40) dX6_comes_40 ?_ | refine r_iadd (pc := 40) dX6_comes_40 ?_
  refine r_bipush (v := nI 10) (pc := 41) dX6_comes_41 (by decide) ?_
  refine r_ild3 (pc := 43) dX6_comes_43 ?_
  first | refine r_imulN (pc := 44) dX6_comes_44 ?_ | refine r_imulJ (pc := 44) dX6_comes_44 ?_ | refine r_imul (pc := 44) dX6_comes_44 ?_
  refine m_iast hS (pc := 45) dX6_comes_45 ar55 (by omega) (by omega) ?_
  refine r_ald0 (pc := 46) dX6_comes_46 ?_
  refine m_getR hS (pc := 47) dX6_comes_47 fl_X6_121 ar55 ?_
  refine r_iconst (v := nI 3) (pc := 50) dX6_comes_50 (by decide) ?_
  refine r_iconst (v := nI 3) (pc := 51) dX6_comes_51 (by decide) ?_
  refine r_ild1 (pc := 52) dX6_comes_52 ?_
  first | refine r_imulN (pc := 53) dX6_comes_53 ?_ | refine r_imulJ (pc := 53) dX6_comes_53 ?_ | refine r_imul (pc := 53) dX6_comes_53 ?_
  first | refine r_iaddN (pc := 54) dX6_comes_54 ?_ | refine r_iaddJ (pc := 54) dX6_comes_54 ?_ | refine r_iadd (pc := 54) dX6_comes_54 ?_
  refine r_iconst (v := nI 0) (pc := 55) dX6_comes_55 (by decide) ?_
  refine m_iast hS (pc := 56) dX6_comes_56 ar55 (by omega) (by omega) ?_
  refine r_iconst (v := nI 0) (pc := 57) dX6_comes_57 (by decide) ?_
  refine r_ist5 (pc := 58) dX6_comes_58 ?_
  refine comesLoop hS hn (fun s1 h1 h2 hf1 => ?_) 8 0 _ (by omega) (fun r hr => absurd hr (by omega)) (fun _ _ => rfl) Fr.rf
  refine ⟨s1, rfl, rfl, ?_, ?_, ?_, ?_, Fr.trans (Fr.tA (Fr.tA (Fr.tA (Fr.tA (Fr.tA Fr.rf (by decide)) (by decide)) (by decide)) (by decide)) (by decide)) (hf1.mono (by decide) (by decide) (by decide) (by decide))⟩
  · refine ⟨?_, fun p hp => ?_, fun p hp => ?_, fun p hp => ?_, fun p hp r hr => ?_⟩
    · rw [h2 0 (by omega), tA_ne (by omega), tA_ne (by omega), tA_ne (by omega)]; exact hN.1
    · show _ = nI (va_up (hs t) n h p)
      unfold va_up
      rw [h2 _ (by omega), tA_ne (by omega), tA_ne (by omega)]
      by_cases e : p = n
      · subst e; rw [tA_eq, if_pos rfl]
      · rw [tA_ne (by omega), if_neg e]; exact hN.2.1 p (by omega)
    · show _ = nI (va_up (lk t) n (10 * f) p)
      unfold va_up
      rw [h2 _ (by omega), tA_ne (by omega)]
      by_cases e : p = n
      · subst e; rw [tA_eq, if_pos rfl]
      · rw [tA_ne (by omega), tA_ne (by omega), if_neg e]; exact hN.2.2.1 p (by omega)
    · show _ = nI (va_up (sp t) n 0 p)
      unfold va_up
      rw [h2 _ (by omega)]
      by_cases e : p = n
      · subst e; rw [tA_eq, if_pos rfl]
      · rw [tA_ne (by omega), tA_ne (by omega), tA_ne (by omega), if_neg e]; exact hN.2.2.2.1 p (by omega)
    · show _ = nI (if p = n ∨ r = n then 5 else th t p r)
      by_cases e1 : p = n
      · subst e1; rw [if_pos (Or.inl rfl)]; exact (h1 r (by omega)).1
      · by_cases e2 : r = n
        · subst e2; rw [if_pos (Or.inr rfl)]; exact (h1 p (by omega)).2
        · rw [if_neg (by omega), h2 _ (by omega), tA_ne (by omega), tA_ne (by omega), tA_ne (by omega)]; exact hN.2.2.2.2 p (by omega) r (by omega)
  · intro j hj
    rw [h2 _ (by omega), tA_ne (by omega), tA_ne (by omega), tA_ne (by omega)]; rfl
  · intro j
    rw [hf1.2.2.1 43 (by decide)]
    by_cases e : j = 8 + n
    · subst e; rw [if_pos rfl]; exact tA_eq
    · rw [if_neg e]; exact tA_ne (i := 43) e
  · intro j
    rw [hf1.2.2.1 44 (by decide)]
    by_cases e : j = 8 + n
    · subst e; rw [if_pos rfl]; exact tA_eq
    · rw [if_neg e]; exact tA_ne (i := 44) e
theorem comesT_TB {f k : Nat} (h : TB T) (hn : tn T < 8) (hf : f ≤ 9) (hk : k ≤ 9) : TB (comesT T f k) := by
  refine ⟨by show tn T + 1 ≤ 8; omega, h.2.1, fun p hp => ?_, h.2.2.2.1, h.2.2.2.2⟩
  have hp : p < tn T + 1 := hp
  show va_up (fa T) (tn T) f p ≤ 9 ∧ va_up (ki T) (tn T) k p ≤ 9
  unfold va_up
  by_cases e : p = tn T
  · rw [if_pos e, if_pos e]; exact ⟨hf, hk⟩
  · rw [if_neg e, if_neg e]; exact h.2.2.1 p (by omega)
theorem comesS_SB {n h f : Nat} (hB : SB n t) (hh : h < 9) (hf : f ≤ 9) : SB (n + 1) (comesS n t h f) := by
  refine ⟨hB.1, fun p hp => ⟨?_, ?_, ?_, fun r hr => ?_⟩⟩
  · show va_up (hs t) n h p < 9
    unfold va_up; split
    · exact hh
    · exact (hB.2 p (by omega)).1
  · show va_up (lk t) n (10 * f) p ≤ 99
    unfold va_up; split
    · omega
    · exact (hB.2 p (by omega)).2.1
  · show va_up (sp t) n 0 p ≤ 1
    unfold va_up; split
    · omega
    · exact (hB.2 p (by omega)).2.2.1
  · show (if p = n ∨ r = n then 5 else th t p r) ≤ 9
    split
    · omega
    · exact (hB.2 p (by omega)).2.2.2 r (by omega)
theorem IM.base {f k : Nat} (h : IM s q) : IM (tA (tA s 43 (8 + tn (gT q)) (nI f)) 44 (8 + tn (gT q)) (nI k)) q := by
  have hf : Fr [] [] [43, 44] [] s (tA (tA s 43 (8 + tn (gT q)) (nI f)) 44 (8 + tn (gT q)) (nI k)) := Fr.tA (Fr.tA Fr.rf (by decide)) (by decide)
  obtain ⟨a1, a2, a3, a4, a5, a6, a7, a8, a9, a10⟩ := h
  refine ⟨a1.fr hf (by decide), a2.fr hf (by decide), a3.fr hf (by decide), ⟨⟨a4.1.1, a4.1.2.1, fun p hp => ?_, fun p hp => ?_, ?_, ?_, ?_, a4.1.2.2.2.2.2.2.2⟩, a4.2⟩, a5.fr hf (by decide), a6.fr hf (by decide), a7.fr hf (by decide), a8.fr hf (by decide), a9.fr hf (by decide), a10.fr hf (by decide)⟩
  · exact (tA_ne (s := s) (i := 43) (by omega)).trans (a4.1.2.2.1 p hp)
  · exact (tA_ne (i := 44) (by omega)).trans (a4.1.2.2.2.1 p hp)
  · have := a4.1.2.2.2.2.1; unfold RC at this ⊢; rw [hf.2.2.1 48 (by decide), hf.2.2.1 49 (by decide), hf.2.2.1 50 (by decide)]; exact this
  · have := a4.1.2.2.2.2.2.1; unfold RC at this ⊢; rw [hf.2.2.1 48 (by decide), hf.2.2.1 49 (by decide), hf.2.2.1 50 (by decide)]; exact this
  · have := a4.1.2.2.2.2.2.2.1; unfold RC at this ⊢; rw [hf.2.2.1 48 (by decide), hf.2.2.1 49 (by decide), hf.2.2.1 50 (by decide)]; exact this
theorem RT.come {s1 s2 : MS} {f k : Nat} (h : RT s1 T) (h43 : ∀ j, mA s2 43 j = if j = 8 + tn T then nI f else mA s1 43 j) (h44 : ∀ j, mA s2 44 j = if j = 8 + tn T then nI k else mA s1 44 j) (hf : Fr [] [] [43, 44, 55] [] s1 s2) : RT (tF s2 40 (nI (tn T + 1))) (comesT T f k) := by
  refine ⟨(hf.1 38 (by decide)).trans h.1, rfl, fun p hp => ?_, fun p hp => ?_, ?_, ?_, ?_, (hf.1 47 (by decide)).trans h.2.2.2.2.2.2.2⟩
  · have hp : p < tn T + 1 := hp
    show mA s2 43 (8 + p) = nI (va_up (fa T) (tn T) f p)
    unfold va_up; rw [h43]
    by_cases e : p = tn T
    · rw [if_pos (by omega), if_pos e]
    · rw [if_neg (by omega), if_neg e]; exact h.2.2.1 p (by omega)
  · have hp : p < tn T + 1 := hp
    show mA s2 44 (8 + p) = nI (va_up (ki T) (tn T) k p)
    unfold va_up; rw [h44]
    by_cases e : p = tn T
    · rw [if_pos (by omega), if_pos e]
    · rw [if_neg (by omega), if_neg e]; exact h.2.2.2.1 p (by omega)
  · have := h.2.2.2.2.1; unfold RC at this ⊢; show (match cd T 0 with | none => mA s2 48 _ = _ | some cs => ∃ f e : Nat, mA s2 48 _ = _ ∧ mA s2 49 _ = _ ∧ _ ∧ _ ∧ hol (mA s2 50) _ _); rw [hf.2.2.1 48 (by decide), hf.2.2.1 49 (by decide), hf.2.2.1 50 (by decide)]; exact this
  · have := h.2.2.2.2.2.1; unfold RC at this ⊢; show (match cd T 1 with | none => mA s2 48 _ = _ | some cs => ∃ f e : Nat, mA s2 48 _ = _ ∧ mA s2 49 _ = _ ∧ _ ∧ _ ∧ hol (mA s2 50) _ _); rw [hf.2.2.1 48 (by decide), hf.2.2.1 49 (by decide), hf.2.2.1 50 (by decide)]; exact this
  · have := h.2.2.2.2.2.2.1; unfold RC at this ⊢; show (match cd T 2 with | none => mA s2 48 _ = _ | some cs => ∃ f e : Nat, mA s2 48 _ = _ ∧ mA s2 49 _ = _ ∧ _ ∧ _ ∧ hol (mA s2 50) _ _); rw [hf.2.2.1 48 (by decide), hf.2.2.1 49 (by decide), hf.2.2.1 50 (by decide)]; exact this
theorem TR.come {s1 s2 s4 : MS} {f k : Nat} {x : St × List Ev} {T' : Te} (hI : IM s q) (h : TR s q s1) (h43 : ∀ j, mA s2 43 j = if j = 8 + tn (gT q) then nI f else mA s1 43 j) (h44 : ∀ j, mA s2 44 j = if j = 8 + tn (gT q) then nI k else mA s1 44 j) (hf : Fr [] [] [43, 44, 55] [] s1 s2) (hY : YP T' true (gK q) (tF s2 40 (nI (tn (gT q) + 1))) x s4) :
    TR (tA (tA s 43 (8 + tn (gT q)) (nI f)) 44 (8 + tn (gT q)) (nI k)) q (tF s4 40 (nI (tn (gT q)))) := by
  have hFY := hY.2.2.2
  have hR := h.2.2.2
  refine ⟨fun j hj => ?_, ?_, ?_, fun i hi => ?_, fun i hi => ?_, fun i hi => ?_, fun i hi => ?_⟩
  · show mA s4 56 j = mA s 55 j
    rw [hFY.2.2.1 56 (by decide)]
    show mA s2 56 j = mA s 55 j
    rw [hf.2.2.1 56 (by decide)]; exact h.1 j hj
  · show mF s4 64 = _
    rw [hFY.1 64 (by decide)]
    exact (hf.1 64 (by decide)).trans h.2.1
  · exact hY.2.1.fr (Fr.tF (fs := [40]) (gs := []) (as := []) (bs := []) Fr.rf (by decide)) (by decide)
  · rw [mF_tF]
    by_cases e : i = 40
    · subst e; rw [if_pos rfl]; exact hI.2.2.2.1.1.2.1.symm
    · rw [if_neg e, hFY.1 i (fun h9 => hi ((by decide : ∀ i ∈ yF, i ∈ trF) i h9)), mF_tF, if_neg e, hf.1 i (by simp)]
      exact hR.1 i hi
  · exact ((hFY.2.1 i hi).trans (hf.2.1 i hi)).trans (hR.2.1 i hi)
  · have h55 : i ≠ 55 := fun e => hi (by rw [e]; decide)
    show mA s4 i = _
    rw [hFY.2.2.1 i (fun h9 => hi ((by decide : ∀ i ∈ ([55] : List Nat), i ∈ trA) i h9))]
    show mA s2 i = _
    by_cases e : i = 43
    · subst e; funext j
      rw [h43, hR.2.2.1 43 (by decide)]
      show _ = mA (tA s 43 (8 + tn (gT q)) (nI f)) 43 j
      by_cases e2 : j = 8 + tn (gT q)
      · subst e2; rw [if_pos rfl, tA_eq]
      · rw [if_neg e2, tA_ne e2]
    · by_cases e3 : i = 44
      · subst e3; funext j
        rw [h44, hR.2.2.1 44 (by decide)]
        by_cases e2 : j = 8 + tn (gT q)
        · subst e2; rw [if_pos rfl, tA_eq]
        · rw [if_neg e2, tA_ne e2]; rfl
      · rw [hf.2.2.1 i (by simp; exact ⟨e, e3, h55⟩), hR.2.2.1 i hi]
        funext j
        rw [mA_tA, if_neg (fun q => e3 q.1), mA_tA, if_neg (fun q => e q.1)]
  · show mB s4 i = mB s i
    rw [hFY.2.2.2 i hi]
    exact (hf.2.2.2 i (by simp)).trans (hR.2.2.2 i hi)
theorem strangerNone {y h : Nat} {w0 w1 w2 w3 w4 : Option Value} {w5 : Int32} {Q : Option Value → MM → Prop} (hS : ShM g M o) (hy : y ≤ 99)
    (hk : Bd g yX6_stranger cX6_stranger 10 (some Jvm.ClassFile.FieldType.int) [] 7 0 0 (putM M o s) 83 [w0, w1, w2, w3, w4, some (.int w5), some (.int (nI h)), some (.int (nI y)), some (.int (nI (h + 1))), some (.int (nI y))] [] Q noX) :
    Bd g yX6_stranger cX6_stranger 10 (some Jvm.ClassFile.FieldType.int) [] 7 0 0 (putM M o s) 152 [w0, w1, w2, w3, w4, some (.int w5), some (.int (-1)), some (.int (nI 0)), some (.int (nI h)), some (.int (nI y))] [] Q noX := by
  refine r_ild6 (pc := 152) dX6_stranger_152 ?_
  refine r_iconst (v := -1) (pc := 154) dX6_stranger_154 (by decide) ?_
  refine r_icmp_eq (pc := 155) (tgt := 168) dX6_stranger_155 (by decide) (fun h155 => ?_) (fun h155 => ?_)
  · skip
    refine r_ild8 (pc := 168) dX6_stranger_168 ?_
    refine r_ist6 (pc := 170) dX6_stranger_170 ?_
    refine r_ild9 (pc := 172) dX6_stranger_172 ?_
    refine r_ist7 (pc := 174) dX6_stranger_174 ?_
    first | refine r_iinc8N (j := 1) (pc := 176) dX6_stranger_176 rfl ?_ | refine r_iinc8 (pc := 176) dX6_stranger_176 ?_
    refine r_goto (pc := 179) (tgt := 83) dX6_stranger_179 (by decide) ?_
    exact hk
  · skip
    exact absurd rfl h155
theorem strangerSome {y h : Nat} {z : Nat × Nat} {w0 w1 w2 w3 w4 : Option Value} {w5 : Int32} {Q : Option Value → MM → Prop} (hS : ShM g M o) (hy : y ≤ 99) (hz1 : z.1 ≤ 9) (hz2 : z.2 ≤ 99)
    (hk : z.2 < y → Bd g yX6_stranger cX6_stranger 10 (some Jvm.ClassFile.FieldType.int) [] 7 0 0 (putM M o s) 83 [w0, w1, w2, w3, w4, some (.int w5), some (.int (nI h)), some (.int (nI y)), some (.int (nI (h + 1))), some (.int (nI y))] [] Q noX)
    (hk2 : ¬ z.2 < y → Bd g yX6_stranger cX6_stranger 10 (some Jvm.ClassFile.FieldType.int) [] 7 0 0 (putM M o s) 83 [w0, w1, w2, w3, w4, some (.int w5), some (.int (nI z.1)), some (.int (nI z.2)), some (.int (nI (h + 1))), some (.int (nI y))] [] Q noX) :
    Bd g yX6_stranger cX6_stranger 10 (some Jvm.ClassFile.FieldType.int) [] 7 0 0 (putM M o s) 152 [w0, w1, w2, w3, w4, some (.int w5), some (.int (nI z.1)), some (.int (nI z.2)), some (.int (nI h)), some (.int (nI y))] [] Q noX := by
  refine r_ild6 (pc := 152) dX6_stranger_152 ?_
  refine r_iconst (v := -1) (pc := 154) dX6_stranger_154 (by decide) ?_
  first | refine r_icmp_eqN (pc := 155) (tgt := 168) dX6_stranger_155 (by decide) (by omega) (by omega) (fun h155 => ?_) (fun h155 => ?_) | refine r_icmp_eq (pc := 155) (tgt := 168) dX6_stranger_155 (by decide) (fun h155 => ?_) (fun h155 => ?_)
  · skip
    exact absurd h155 (nI_m1 (by omega))
  · skip
    refine r_ild9 (pc := 158) dX6_stranger_158 ?_
    refine r_ild7 (pc := 160) dX6_stranger_160 ?_
    first | refine r_icmp_gtN (pc := 162) (tgt := 168) dX6_stranger_162 (by decide) (by omega) (by omega) (fun h162 => ?_) (fun h162 => ?_) | refine r_icmp_gt (pc := 162) (tgt := 168) dX6_stranger_162 (by decide) (fun h162 => ?_) (fun h162 => ?_)
    · skip
      have h162 : z.2 < y := by omega
      refine r_ild8 (pc := 168) dX6_stranger_168 ?_
      refine r_ist6 (pc := 170) dX6_stranger_170 ?_
      refine r_ild9 (pc := 172) dX6_stranger_172 ?_
      refine r_ist7 (pc := 174) dX6_stranger_174 ?_
      first | refine r_iinc8N (j := 1) (pc := 176) dX6_stranger_176 rfl ?_ | refine r_iinc8 (pc := 176) dX6_stranger_176 ?_
      refine r_goto (pc := 179) (tgt := 83) dX6_stranger_179 (by decide) ?_
      first | exact hk h162 | exact hk2 h162
    · skip
      have h162 : ¬ z.2 < y := by omega
      refine r_goto (pc := 165) (tgt := 176) dX6_stranger_165 (by decide) ?_
      first | refine r_iinc8N (j := 1) (pc := 176) dX6_stranger_176 rfl ?_ | refine r_iinc8 (pc := 176) dX6_stranger_176 ?_
      refine r_goto (pc := 179) (tgt := 83) dX6_stranger_179 (by decide) ?_
      first | exact hk h162 | exact hk2 h162
theorem strangerLoop {f c m v : Nat} {Q : Option Value → MM → Prop} {x1 : Option (Nat × Nat)} (hS : ShM g M o) (hG : GI q) (hm : m ≤ 20) (hy : yr (gS q) + m ≤ 999) (hf : f ≤ 9) (hc : c ≤ 9) (hn : tn (gT q) < 8)
    (hk : ∀ s s1 w8 w9, IM s q → TR s q s1 → (∀ z, x1 = some z → z.1 ≤ 9 ∧ z.2 ≤ 99) → Bd g yX6_stranger cX6_stranger 10 (some Jvm.ClassFile.FieldType.int) [] 7 0 0 (putM M o s1) 182 [some (.ref o), some (.int (nI f)), some (.int (nI c)), some (.int (nI m)), some (.int (nI v)), some (.int (nI (tn (gT q)))), some (.int (oI (x1.map Prod.fst))), some (.int (nI ((x1.map Prod.snd).getD 0))), w8, w9] [] Q noX) :
    ∀ (k h : Nat) (s s1 : MS) (w9 : Option Value) (x : Option (Nat × Nat)), h + k = tH (gT q) → IM s q → TR s q s1 → (∀ j, j < 89 → mA s1 55 j = mA s 55 j) → (∀ z, x = some z → z.1 ≤ 9 ∧ z.2 ≤ 99) → strsS (gT q) (gS q) f c m k h x = x1 → Bd g yX6_stranger cX6_stranger 10 (some Jvm.ClassFile.FieldType.int) [] 7 0 0 (putM M o s1) 83 [some (.ref o), some (.int (nI f)), some (.int (nI c)), some (.int (nI m)), some (.int (nI v)), some (.int (nI (tn (gT q)))), some (.int (oI (x.map Prod.fst))), some (.int (nI ((x.map Prod.snd).getD 0))), some (.int (nI h)), w9] [] Q noX := by
  have hTB := hG.2.2.1
  have hB : SB (tn (gT q)) (gS q) := hG.2.2.2.2.2.1.1
  have hn8 := hTB.1
  have hH9 := hTB.2.1
  intro k
  induction k with
  | zero =>
    intro h s s1 w9 x hh hI hR hj hx e
    have e : x = x1 := e
    subst e
    obtain rfl : h = tH (gT q) := by omega
    have hT := hR.rt hI
    refine r_ild8 (pc := 83) dX6_stranger_83 ?_
    refine r_ald0 (pc := 85) dX6_stranger_85 ?_
    refine m_getI hS (pc := 86) dX6_stranger_86 fl_X6_379 ?_
    refine Bd.eqI hT.1 ?_
    first | refine r_icmp_geN (pc := 89) (tgt := 182) dX6_stranger_89 (by decide) (by omega) (by omega) (fun h89 => ?_) (fun h89 => ?_) | refine r_icmp_ge (pc := 89) (tgt := 182) dX6_stranger_89 (by decide) (fun h89 => ?_) (fun h89 => ?_)
    · skip
      exact hk s s1 _ w9 hI hR hx
    · skip
      exact absurd h89 (by omega)
  | succ k ih =>
    intro h s s1 w9 x hh hI hR hj hx e
    have hT := hR.rt hI
    have hN1 := RN.low hn8 hI.2.2.2.2.1.1 hj
    have e : strsS (gT q) (gS q) f c m k (h + 1) (strS (gT q) (gS q) f c m h x) = x1 := e
    unfold strS at e
    cases hw : who (gS q) (tn (gT q)) h with
    | some p =>
      have hp := who_lt hw
      rw [hw] at e
      refine r_ild8 (pc := 83) dX6_stranger_83 ?_
      refine r_ald0 (pc := 85) dX6_stranger_85 ?_
      skip
      refine m_getI hS (pc := 86) dX6_stranger_86 fl_X6_379 ?_
      refine Bd.eqI hT.1 ?_
      first | refine r_icmp_geN (pc := 89) (tgt := 182) dX6_stranger_89 (by decide) (by omega) (by omega) (fun h89 => ?_) (fun h89 => ?_) | refine r_icmp_ge (pc := 89) (tgt := 182) dX6_stranger_89 (by decide) (fun h89 => ?_) (fun h89 => ?_)
      · skip
        exact absurd h89 (by omega)
      · skip
        refine r_ald0 (pc := 92) dX6_stranger_92 ?_
        refine r_ild8 (pc := 93) dX6_stranger_93 ?_
        refine r_cV (pc := 95) dX6_stranger_95 cv_X6_406 hS.k (ct_X6_whoIn hS hT.2.1 hn8 hN1 hB (by omega)) rfl rfl (Nat.le_of_ble_eq_true rfl) (by decide) ?_
        rintro _ _ ⟨rfl, rfl⟩
        refine Bd.eqI (x' := nI p) (by rw [hw]; rfl) ?_
        refine r_iconst (v := -1) (pc := 98) dX6_stranger_98 (by decide) ?_
        first | refine r_icmp_eqN (pc := 99) (tgt := 105) dX6_stranger_99 (by decide) (by omega) (by omega) (fun h99 => ?_) (fun h99 => ?_) | refine r_icmp_eq (pc := 99) (tgt := 105) dX6_stranger_99 (by decide) (fun h99 => ?_) (fun h99 => ?_)
        · skip
          exact absurd h99 (nI_m1 (by omega))
        · skip
          refine r_goto (pc := 102) (tgt := 176) dX6_stranger_102 (by decide) ?_
          first | refine r_iinc8N (j := 1) (pc := 176) dX6_stranger_176 rfl ?_ | refine r_iinc8 (pc := 176) dX6_stranger_176 ?_
          refine r_goto (pc := 179) (tgt := 83) dX6_stranger_179 (by decide) ?_
          exact ih (h + 1) s s1 w9 x (by omega) hI hR hj hx e
    | none =>
      rw [hw] at e
      have hT' := comesT_TB (k := c) hTB hn hf hc
      have hB' := comesS_SB (h := h) hB (by omega) hf
      have hY9 := ((yearsS_SB m (comesT (gT q) f c) _ hB' (by show yr (gS q) + m ≤ 2000; omega)).2 (tn (gT q)) (Nat.lt_succ_self _)).2.1
      have hv9 : strN (gT q) (gS q) f c m h ≤ 99 := hY9
      refine r_ild8 (pc := 83) dX6_stranger_83 ?_
      refine r_ald0 (pc := 85) dX6_stranger_85 ?_
      refine m_getI hS (pc := 86) dX6_stranger_86 fl_X6_379 ?_
      refine Bd.eqI hT.1 ?_
      first | refine r_icmp_geN (pc := 89) (tgt := 182) dX6_stranger_89 (by decide) (by omega) (by omega) (fun h89 => ?_) (fun h89 => ?_) | refine r_icmp_ge (pc := 89) (tgt := 182) dX6_stranger_89 (by decide) (fun h89 => ?_) (fun h89 => ?_)
      · skip
        exact absurd h89 (by omega)
      · skip
        refine r_ald0 (pc := 92) dX6_stranger_92 ?_
        refine r_ild8 (pc := 93) dX6_stranger_93 ?_
        refine r_cV (pc := 95) dX6_stranger_95 cv_X6_406 hS.k (ct_X6_whoIn hS hT.2.1 hn8 hN1 hB (by omega)) rfl rfl (Nat.le_of_ble_eq_true rfl) (by decide) ?_
        rintro _ _ ⟨rfl, rfl⟩
        refine Bd.eqI (x' := -1) (by rw [hw]; rfl) ?_
        refine r_iconst (v := -1) (pc := 98) dX6_stranger_98 (by decide) ?_
        first | refine r_icmp_eqN (pc := 99) (tgt := 105) dX6_stranger_99 (by decide) (by omega) (by omega) (fun h99 => ?_) (fun h99 => ?_) | refine r_icmp_eq (pc := 99) (tgt := 105) dX6_stranger_99 (by decide) (fun h99 => ?_) (fun h99 => ?_)
        · skip
          refine r_ald0 (pc := 105) dX6_stranger_105 ?_
          refine r_ild5 (pc := 106) dX6_stranger_106 ?_
          refine r_ild8 (pc := 108) dX6_stranger_108 ?_
          refine r_ild1 (pc := 110) dX6_stranger_110 ?_
          refine r_ild2 (pc := 111) dX6_stranger_111 ?_
          refine r_cV (pc := 112) dX6_stranger_112 cv_X6_542 hS.k (ct_X6_comes (t := gS q) hS hn hN1 hf) rfl rfl (Nat.le_of_ble_eq_true rfl) (by decide) ?_
          rintro _ _ ⟨s2, rfl, rfl, hN2, hk2, h43, h44, hf2⟩
          have hT2 := RT.come hT h43 h44 hf2
          refine r_ald0 (pc := 115) dX6_stranger_115 ?_
          refine r_dup (pc := 116) dX6_stranger_116 rfl ?_
          refine m_getI hS (pc := 117) dX6_stranger_117 fl_X6_382 ?_
          refine Bd.eqI ((hf2.1 40 (by decide)).trans hT.2.1) ?_
          refine r_iconst (v := nI 1) (pc := 120) dX6_stranger_120 (by decide) ?_
          first | refine r_iaddN (pc := 121) dX6_stranger_121 ?_ | refine r_iaddJ (pc := 121) dX6_stranger_121 ?_ | refine r_iadd (pc := 121) dX6_stranger_121 ?_
          refine m_putI hS (pc := 122) dX6_stranger_122 fl_X6_382 fw_X6_40 rfl rfl ?_
          refine r_ald0 (pc := 125) dX6_stranger_125 ?_
          refine r_ild3 (pc := 126) dX6_stranger_126 ?_
          refine r_cV (pc := 127) dX6_stranger_127 cv_X6_531 hS.k (ct_X6_yearsGo (T := comesT (gT q) f c) (t := comesS (tn (gT q)) (gS q) h f) (K := gK q) (tb := true) hS hT2 hT' (hN2.fr (Fr.tF (fs := [40]) (gs := []) (as := []) (bs := []) Fr.rf (by decide)) (by decide)) hB' ((hR.2.2.1.of hk2).fr (Fr.tF (fs := [40]) (gs := []) (as := []) (bs := []) Fr.rf (by decide)) (by decide)) ((hf2.1 64 (by decide)).trans hR.2.1) (by omega) (by show yr (gS q) + m ≤ 2000; omega)) rfl rfl (Nat.le_of_ble_eq_true rfl) (by decide) ?_
          rintro _ _ ⟨s4, rfl, rfl, hY⟩
          have hR4 := hR.come hI h43 h44 hf2 hY
          refine r_ald0 (pc := 130) dX6_stranger_130 ?_
          refine r_dup (pc := 131) dX6_stranger_131 rfl ?_
          refine m_getI hS (pc := 132) dX6_stranger_132 fl_X6_382 ?_
          refine Bd.eqI (x' := nI (tn (gT q) + 1)) (hY.2.2.2.1 40 (by decide)) ?_
          refine r_iconst (v := nI 1) (pc := 135) dX6_stranger_135 (by decide) ?_
          first | refine r_isubN (pc := 136) dX6_stranger_136 (by omega) ?_ | refine r_isubM (pc := 136) dX6_stranger_136 ?_ | refine r_isubJ (pc := 136) dX6_stranger_136 ?_ | refine r_isub (pc := 136) dX6_stranger_136 ?_
          refine m_putI hS (pc := 137) dX6_stranger_137 fl_X6_382 fw_X6_40 rfl rfl ?_
          refine r_ald0 (pc := 140) dX6_stranger_140 ?_
          refine r_ild5 (pc := 141) dX6_stranger_141 ?_
          refine r_cV (pc := 143) dX6_stranger_143 cv_X6_423 hS.k (ct_X6_lookOf hS (by omega)) rfl rfl (Nat.le_of_ble_eq_true rfl) (by decide) ?_
          rintro _ _ ⟨rfl, rfl⟩
          refine Bd.eqI (x' := nI (strN (gT q) (gS q) f c m h)) (hY.1.2.2.1 (tn (gT q)) (Nat.lt_succ_self _)) ?_
          refine r_ist9 (pc := 146) dX6_stranger_146 ?_
          refine r_ald0 (pc := 148) dX6_stranger_148 ?_
          refine r_cV (pc := 149) dX6_stranger_149 cv_X6_492 hS.k (ct_X6_triesAnew hS) rfl rfl (Nat.le_of_ble_eq_true rfl) (by decide) ?_
          rintro _ _ ⟨s6, rfl, rfl, hj6, hf6⟩
          obtain ⟨hR6, hj7⟩ := hR4.anew hj6 hf6
          have hI6 := hI.base (f := f) (k := c)
          cases x with
          | none =>
            refine strangerNone hS hv9 ?_
            exact ih (h + 1) _ s6 _ (some (h, strN (gT q) (gS q) f c m h)) (by omega) hI6 hR6 hj7 (by rintro z ⟨⟩; exact ⟨by show h ≤ 9; omega, hv9⟩) e
          | some z =>
            refine strangerSome hS hv9 (hx z rfl).1 (hx z rfl).2 (fun hlt => ?_) (fun hlt => ?_)
            · exact ih (h + 1) _ s6 _ (some (h, strN (gT q) (gS q) f c m h)) (by omega) hI6 hR6 hj7 (by rintro z ⟨⟩; exact ⟨by show h ≤ 9; omega, hv9⟩) (by rw [← e]; exact congrArg _ (if_pos hlt).symm)
            · exact ih (h + 1) _ s6 _ (some z) (by omega) hI6 hR6 hj7 hx (by rw [← e]; exact congrArg _ (if_neg hlt).symm)
        · skip
          exact absurd rfl h99
theorem strangerEnd {f c m v : Nat} {x1 : Option (Nat × Nat)} {w8 w9 : Option Value} {s5 : MS} (hS : ShM g M o) (hI : IM s q) (hG : GI q) (hv : v < 2) (hR5 : TR s q s5) (hz : ∀ z, x1 = some z → z.1 ≤ 9 ∧ z.2 ≤ 99) :
    Bd g yX6_stranger cX6_stranger 10 (some Jvm.ClassFile.FieldType.int) [] 7 0 0 (putM M o s5) 182 [some (.ref o), some (.int (nI f)), some (.int (nI c)), some (.int (nI m)), some (.int (nI v)), some (.int (nI (tn (gT q)))), some (.int (oI (x1.map Prod.fst))), some (.int (nI ((x1.map Prod.snd).getD 0))), w8, w9] [] (PM M o q (.int (strR v x1))) noX := by
  cases x1 with
  | none =>
    refine r_ald0 (pc := 182) dX6_stranger_182 ?_
    refine r_cV (pc := 183) dX6_stranger_183 cv_X6_534 hS.k (ct_X6_takesBack hS) rfl rfl (Nat.le_of_ble_eq_true rfl) (by decide) ?_
    rintro _ _ ⟨s3, rfl, rfl, hj3, h643, hf3⟩
    refine r_ild6 (pc := 186) dX6_stranger_186 ?_
    refine r_iconst (v := -1) (pc := 188) dX6_stranger_188 (by decide) ?_
    refine r_icmp_ne (pc := 189) (tgt := 196) dX6_stranger_189 (by decide) (fun h189 => ?_) (fun h189 => ?_)
    · skip
      exact absurd rfl h189
    · skip
      refine r_iconst (v := -1) (pc := 192) dX6_stranger_192 (by decide) ?_
      refine r_goto (pc := 193) (tgt := 208) dX6_stranger_193 (by decide) ?_
      refine r_iret (pc := 208) dX6_stranger_208 ?_
      exact ⟨s3, rfl, rfl, TR.back hI hG hR5 hj3 h643 hf3⟩
  | some z =>
    obtain ⟨hz1, hz2⟩ := hz z rfl
    refine r_ald0 (pc := 182) dX6_stranger_182 ?_
    refine r_cV (pc := 183) dX6_stranger_183 cv_X6_534 hS.k (ct_X6_takesBack hS) rfl rfl (Nat.le_of_ble_eq_true rfl) (by decide) ?_
    rintro _ _ ⟨s3, rfl, rfl, hj3, h643, hf3⟩
    refine r_ild6 (pc := 186) dX6_stranger_186 ?_
    refine r_iconst (v := -1) (pc := 188) dX6_stranger_188 (by decide) ?_
    refine r_icmp_ne (pc := 189) (tgt := 196) dX6_stranger_189 (by decide) (fun h189 => ?_) (fun h189 => ?_)
    · skip
      refine r_ild4 (pc := 196) dX6_stranger_196 ?_
      first | refine r_if_neZ (pc := 198) (tgt := 206) dX6_stranger_198 (by decide) (fun h198 => ?_) (fun h198 => ?_) | refine r_if_neN (pc := 198) (tgt := 206) dX6_stranger_198 (by decide) (by omega) (fun h198 => ?_) (fun h198 => ?_) | refine r_if_ne (pc := 198) (tgt := 206) dX6_stranger_198 (by decide) (fun h198 => ?_) (fun h198 => ?_)
      · skip
        rw [show strR v (some z) = nI z.2 from if_neg h198]
        refine r_ild7 (pc := 206) dX6_stranger_206 ?_
        refine r_iret (pc := 208) dX6_stranger_208 ?_
        exact ⟨s3, rfl, rfl, TR.back hI hG hR5 hj3 h643 hf3⟩
      · skip
        rw [show strR v (some z) = nI z.1 from if_pos h198]
        refine r_ild6 (pc := 201) dX6_stranger_201 ?_
        refine r_goto (pc := 203) (tgt := 208) dX6_stranger_203 (by decide) ?_
        refine r_iret (pc := 208) dX6_stranger_208 ?_
        exact ⟨s3, rfl, rfl, TR.back hI hG hR5 hj3 h643 hf3⟩
    · skip
      exact absurd h189 (nI_m1 (by omega))
theorem pm_stranger {a b c d : Int32} (hS : ShM g M o) (hI : IM s q) (hG : GI q) : Ct g yX6_stranger cX6_stranger 10 (some Jvm.ClassFile.FieldType.int) 7 0 0 [.ref o, .int a, .int b, .int c, .int d] (putM M o s) (PM M o q (.int (strangerQ q a b c d))) noX := by
  have hT := hI.2.2.2.1.1
  have hTB := hG.2.2.1
  have hN := hI.2.2.2.2.1.1
  have hB : SB (tn (gT q)) (gS q) := hG.2.2.2.2.2.1.1
  have hy : yr (gS q) ≤ 999 := hG.2.2.2.2.2.1.2.1
  have hi := hI.2.2.2.1.2.1
  have hn8 := hTB.1
  obtain ⟨ha1, ha2⟩ := b31_of a
  obtain ⟨hb1, hb2⟩ := b31_of b
  obtain ⟨hd1, hd2⟩ := b31_of d
  refine Ct.of (by decide) (Nat.le_of_ble_eq_true rfl) rfl ?_
  cases hit : gIt q with
  | false =>
    have hH := (hG.2.2.2.1 hit).1
    rw [hit] at hi
    have e : strangerQ q a b c d = -1 := by
      unfold strangerQ; split
      · rfl
      · split
        · rw [hH]; rfl
        · rfl
    rw [e]
    refine r_ald0 (pc := 0) dX6_stranger_0 ?_
    refine m_getI hS (pc := 1) dX6_stranger_1 fl_X6_375 ?_
    refine Bd.eqI hi ?_
    first | refine r_if_eqZ (pc := 4) (tgt := 62) dX6_stranger_4 (by decide) (fun h4 => ?_) (fun h4 => ?_) | refine r_if_eqN (pc := 4) (tgt := 62) dX6_stranger_4 (by decide) (by omega) (fun h4 => ?_) (fun h4 => ?_) | refine r_if_eq (pc := 4) (tgt := 62) dX6_stranger_4 (by decide) (fun h4 => ?_) (fun h4 => ?_)
    · skip
      refine r_iconst (v := -1) (pc := 62) dX6_stranger_62 (by decide) ?_
      refine r_iret (pc := 63) dX6_stranger_63 ?_
      exact ⟨s, rfl, rfl, hI⟩
    · skip
      exact absurd h4 (by decide)
  | true =>
    rw [hit] at hi
    unfold strangerQ
    cases h1 : pidx a 10 with
    | none =>
      have hr1 := pidx_none h1
      rw [show (if tn (gT q) = 8 then (-1 : Int32) else -1) = -1 by split <;> rfl]
      refine r_ald0 (pc := 0) dX6_stranger_0 ?_
      refine m_getI hS (pc := 1) dX6_stranger_1 fl_X6_375 ?_
      refine Bd.eqI hi ?_
      first | refine r_if_eqZ (pc := 4) (tgt := 62) dX6_stranger_4 (by decide) (fun h4 => ?_) (fun h4 => ?_) | refine r_if_eqN (pc := 4) (tgt := 62) dX6_stranger_4 (by decide) (by omega) (fun h4 => ?_) (fun h4 => ?_) | refine r_if_eq (pc := 4) (tgt := 62) dX6_stranger_4 (by decide) (fun h4 => ?_) (fun h4 => ?_)
      · skip
        exact absurd rfl h4
      · skip
        refine r_ild1 (pc := 7) dX6_stranger_7 ?_
        refine r_i2lT (pc := 8) dX6_stranger_8 ?_
        refine r_lconst (v := lI 0) (pc := 9) dX6_stranger_9 rfl ?_
        refine r_ldc2 (v := lI (9)) (pc := 10) dX6_stranger_10 q2323 ?_
        refine r_cS (pc := 13) dX6_stranger_13 cs_X6_280 (ct_X6_isInI (by constructor <;> omega) (by constructor <;> omega) (by constructor <;> omega)) rfl rfl (Nat.le_of_ble_eq_true rfl) (by decide) ?_
        rintro _ _ ⟨rfl, rfl⟩
        first | refine r_if_eqZ (pc := 16) (tgt := 62) dX6_stranger_16 (by decide) (fun h16 => ?_) (fun h16 => ?_) | refine r_if_eqN (pc := 16) (tgt := 62) dX6_stranger_16 (by decide) (by omega) (fun h16 => ?_) (fun h16 => ?_) | refine r_if_eq (pc := 16) (tgt := 62) dX6_stranger_16 (by decide) (fun h16 => ?_) (fun h16 => ?_)
        · skip
          refine r_iconst (v := -1) (pc := 62) dX6_stranger_62 (by decide) ?_
          refine r_iret (pc := 63) dX6_stranger_63 ?_
          exact ⟨s, rfl, rfl, hI⟩
        · skip
          exact absurd h16 (by omega)
    | some f =>
      obtain ⟨hf, rfl⟩ := pidx_some h1
      cases h2 : pidx b 10 with
      | none =>
        have hr2 := pidx_none h2
        rw [show (if tn (gT q) = 8 then (-1 : Int32) else -1) = -1 by split <;> rfl]
        refine r_ald0 (pc := 0) dX6_stranger_0 ?_
        refine m_getI hS (pc := 1) dX6_stranger_1 fl_X6_375 ?_
        refine Bd.eqI hi ?_
        first | refine r_if_eqZ (pc := 4) (tgt := 62) dX6_stranger_4 (by decide) (fun h4 => ?_) (fun h4 => ?_) | refine r_if_eqN (pc := 4) (tgt := 62) dX6_stranger_4 (by decide) (by omega) (fun h4 => ?_) (fun h4 => ?_) | refine r_if_eq (pc := 4) (tgt := 62) dX6_stranger_4 (by decide) (fun h4 => ?_) (fun h4 => ?_)
        · skip
          exact absurd rfl h4
        · skip
          refine r_ild1 (pc := 7) dX6_stranger_7 ?_
          first | refine r_i2lM (pc := 8) dX6_stranger_8 (by omega) ?_ | refine r_i2lI (pc := 8) dX6_stranger_8 (by constructor <;> omega) ?_ | refine r_i2lT (pc := 8) dX6_stranger_8 ?_
          refine r_lconst (v := lI 0) (pc := 9) dX6_stranger_9 rfl ?_
          refine r_ldc2 (v := lI (9)) (pc := 10) dX6_stranger_10 q2323 ?_
          refine r_cS (pc := 13) dX6_stranger_13 cs_X6_280 (ct_X6_isInI (by constructor <;> omega) (by constructor <;> omega) (by constructor <;> omega)) rfl rfl (Nat.le_of_ble_eq_true rfl) (by decide) ?_
          rintro _ _ ⟨rfl, rfl⟩
          first | refine r_if_eqZ (pc := 16) (tgt := 62) dX6_stranger_16 (by decide) (fun h16 => ?_) (fun h16 => ?_) | refine r_if_eqN (pc := 16) (tgt := 62) dX6_stranger_16 (by decide) (by omega) (fun h16 => ?_) (fun h16 => ?_) | refine r_if_eq (pc := 16) (tgt := 62) dX6_stranger_16 (by decide) (fun h16 => ?_) (fun h16 => ?_)
          · skip
            exact absurd h16 (by omega)
          · skip
            refine r_ild2 (pc := 19) dX6_stranger_19 ?_
            refine r_i2lT (pc := 20) dX6_stranger_20 ?_
            refine r_lconst (v := lI 0) (pc := 21) dX6_stranger_21 rfl ?_
            refine r_ldc2 (v := lI (9)) (pc := 22) dX6_stranger_22 q2323 ?_
            refine r_cS (pc := 25) dX6_stranger_25 cs_X6_280 (ct_X6_isInI (by constructor <;> omega) (by constructor <;> omega) (by constructor <;> omega)) rfl rfl (Nat.le_of_ble_eq_true rfl) (by decide) ?_
            rintro _ _ ⟨rfl, rfl⟩
            first | refine r_if_eqZ (pc := 28) (tgt := 62) dX6_stranger_28 (by decide) (fun h28 => ?_) (fun h28 => ?_) | refine r_if_eqN (pc := 28) (tgt := 62) dX6_stranger_28 (by decide) (by omega) (fun h28 => ?_) (fun h28 => ?_) | refine r_if_eq (pc := 28) (tgt := 62) dX6_stranger_28 (by decide) (fun h28 => ?_) (fun h28 => ?_)
            · skip
              refine r_iconst (v := -1) (pc := 62) dX6_stranger_62 (by decide) ?_
              refine r_iret (pc := 63) dX6_stranger_63 ?_
              exact ⟨s, rfl, rfl, hI⟩
            · skip
              exact absurd h28 (by omega)
      | some k =>
        obtain ⟨hk, rfl⟩ := pidx_some h2
        cases h3 : ahd (gS q) c 1 20 with
        | none =>
          have hr3 := ahd_none h3
          rw [show (if tn (gT q) = 8 then (-1 : Int32) else -1) = -1 by split <;> rfl]
          refine r_ald0 (pc := 0) dX6_stranger_0 ?_
          refine m_getI hS (pc := 1) dX6_stranger_1 fl_X6_375 ?_
          refine Bd.eqI hi ?_
          first | refine r_if_eqZ (pc := 4) (tgt := 62) dX6_stranger_4 (by decide) (fun h4 => ?_) (fun h4 => ?_) | refine r_if_eqN (pc := 4) (tgt := 62) dX6_stranger_4 (by decide) (by omega) (fun h4 => ?_) (fun h4 => ?_) | refine r_if_eq (pc := 4) (tgt := 62) dX6_stranger_4 (by decide) (fun h4 => ?_) (fun h4 => ?_)
          · skip
            exact absurd rfl h4
          · skip
            refine r_ild1 (pc := 7) dX6_stranger_7 ?_
            first | refine r_i2lM (pc := 8) dX6_stranger_8 (by omega) ?_ | refine r_i2lI (pc := 8) dX6_stranger_8 (by constructor <;> omega) ?_ | refine r_i2lT (pc := 8) dX6_stranger_8 ?_
            refine r_lconst (v := lI 0) (pc := 9) dX6_stranger_9 rfl ?_
            refine r_ldc2 (v := lI (9)) (pc := 10) dX6_stranger_10 q2323 ?_
            refine r_cS (pc := 13) dX6_stranger_13 cs_X6_280 (ct_X6_isInI (by constructor <;> omega) (by constructor <;> omega) (by constructor <;> omega)) rfl rfl (Nat.le_of_ble_eq_true rfl) (by decide) ?_
            rintro _ _ ⟨rfl, rfl⟩
            first | refine r_if_eqZ (pc := 16) (tgt := 62) dX6_stranger_16 (by decide) (fun h16 => ?_) (fun h16 => ?_) | refine r_if_eqN (pc := 16) (tgt := 62) dX6_stranger_16 (by decide) (by omega) (fun h16 => ?_) (fun h16 => ?_) | refine r_if_eq (pc := 16) (tgt := 62) dX6_stranger_16 (by decide) (fun h16 => ?_) (fun h16 => ?_)
            · skip
              exact absurd h16 (by omega)
            · skip
              refine r_ild2 (pc := 19) dX6_stranger_19 ?_
              first | refine r_i2lM (pc := 20) dX6_stranger_20 (by omega) ?_ | refine r_i2lI (pc := 20) dX6_stranger_20 (by constructor <;> omega) ?_ | refine r_i2lT (pc := 20) dX6_stranger_20 ?_
              refine r_lconst (v := lI 0) (pc := 21) dX6_stranger_21 rfl ?_
              refine r_ldc2 (v := lI (9)) (pc := 22) dX6_stranger_22 q2323 ?_
              refine r_cS (pc := 25) dX6_stranger_25 cs_X6_280 (ct_X6_isInI (by constructor <;> omega) (by constructor <;> omega) (by constructor <;> omega)) rfl rfl (Nat.le_of_ble_eq_true rfl) (by decide) ?_
              rintro _ _ ⟨rfl, rfl⟩
              first | refine r_if_eqZ (pc := 28) (tgt := 62) dX6_stranger_28 (by decide) (fun h28 => ?_) (fun h28 => ?_) | refine r_if_eqN (pc := 28) (tgt := 62) dX6_stranger_28 (by decide) (by omega) (fun h28 => ?_) (fun h28 => ?_) | refine r_if_eq (pc := 28) (tgt := 62) dX6_stranger_28 (by decide) (fun h28 => ?_) (fun h28 => ?_)
              · skip
                exact absurd h28 (by omega)
              · skip
                refine r_ald0 (pc := 31) dX6_stranger_31 ?_
                refine r_ild3 (pc := 32) dX6_stranger_32 ?_
                refine r_iconst (v := nI 1) (pc := 33) dX6_stranger_33 (by decide) ?_
                refine r_bipush (v := nI 20) (pc := 34) dX6_stranger_34 (by decide) ?_
                refine r_cV (pc := 36) dX6_stranger_36 cv_X6_524 hS.k (ct_X6_isAhead hS hN.1 (by omega) (by decide) (by decide)) rfl rfl (Nat.le_of_ble_eq_true rfl) (by decide) ?_
                rintro _ _ ⟨rfl, rfl⟩
                first | refine r_if_eqZ (pc := 39) (tgt := 62) dX6_stranger_39 (by decide) (fun h39 => ?_) (fun h39 => ?_) | refine r_if_eqN (pc := 39) (tgt := 62) dX6_stranger_39 (by decide) (by omega) (fun h39 => ?_) (fun h39 => ?_) | refine r_if_eq (pc := 39) (tgt := 62) dX6_stranger_39 (by decide) (fun h39 => ?_) (fun h39 => ?_)
                · skip
                  refine r_iconst (v := -1) (pc := 62) dX6_stranger_62 (by decide) ?_
                  refine r_iret (pc := 63) dX6_stranger_63 ?_
                  exact ⟨s, rfl, rfl, hI⟩
                · skip
                  exact absurd h39 hr3
        | some m =>
          obtain ⟨n1, n2, n3, rfl⟩ := ahd_some h3
          cases h4v : pidx d 2 with
          | none =>
            have hr4 := pidx_none h4v
            rw [show (if tn (gT q) = 8 then (-1 : Int32) else -1) = -1 by split <;> rfl]
            refine r_ald0 (pc := 0) dX6_stranger_0 ?_
            refine m_getI hS (pc := 1) dX6_stranger_1 fl_X6_375 ?_
            refine Bd.eqI hi ?_
            first | refine r_if_eqZ (pc := 4) (tgt := 62) dX6_stranger_4 (by decide) (fun h4 => ?_) (fun h4 => ?_) | refine r_if_eqN (pc := 4) (tgt := 62) dX6_stranger_4 (by decide) (by omega) (fun h4 => ?_) (fun h4 => ?_) | refine r_if_eq (pc := 4) (tgt := 62) dX6_stranger_4 (by decide) (fun h4 => ?_) (fun h4 => ?_)
            · skip
              exact absurd rfl h4
            · skip
              refine r_ild1 (pc := 7) dX6_stranger_7 ?_
              first | refine r_i2lM (pc := 8) dX6_stranger_8 (by omega) ?_ | refine r_i2lI (pc := 8) dX6_stranger_8 (by constructor <;> omega) ?_ | refine r_i2lT (pc := 8) dX6_stranger_8 ?_
              refine r_lconst (v := lI 0) (pc := 9) dX6_stranger_9 rfl ?_
              refine r_ldc2 (v := lI (9)) (pc := 10) dX6_stranger_10 q2323 ?_
              refine r_cS (pc := 13) dX6_stranger_13 cs_X6_280 (ct_X6_isInI (by constructor <;> omega) (by constructor <;> omega) (by constructor <;> omega)) rfl rfl (Nat.le_of_ble_eq_true rfl) (by decide) ?_
              rintro _ _ ⟨rfl, rfl⟩
              first | refine r_if_eqZ (pc := 16) (tgt := 62) dX6_stranger_16 (by decide) (fun h16 => ?_) (fun h16 => ?_) | refine r_if_eqN (pc := 16) (tgt := 62) dX6_stranger_16 (by decide) (by omega) (fun h16 => ?_) (fun h16 => ?_) | refine r_if_eq (pc := 16) (tgt := 62) dX6_stranger_16 (by decide) (fun h16 => ?_) (fun h16 => ?_)
              · skip
                exact absurd h16 (by omega)
              · skip
                refine r_ild2 (pc := 19) dX6_stranger_19 ?_
                first | refine r_i2lM (pc := 20) dX6_stranger_20 (by omega) ?_ | refine r_i2lI (pc := 20) dX6_stranger_20 (by constructor <;> omega) ?_ | refine r_i2lT (pc := 20) dX6_stranger_20 ?_
                refine r_lconst (v := lI 0) (pc := 21) dX6_stranger_21 rfl ?_
                refine r_ldc2 (v := lI (9)) (pc := 22) dX6_stranger_22 q2323 ?_
                refine r_cS (pc := 25) dX6_stranger_25 cs_X6_280 (ct_X6_isInI (by constructor <;> omega) (by constructor <;> omega) (by constructor <;> omega)) rfl rfl (Nat.le_of_ble_eq_true rfl) (by decide) ?_
                rintro _ _ ⟨rfl, rfl⟩
                first | refine r_if_eqZ (pc := 28) (tgt := 62) dX6_stranger_28 (by decide) (fun h28 => ?_) (fun h28 => ?_) | refine r_if_eqN (pc := 28) (tgt := 62) dX6_stranger_28 (by decide) (by omega) (fun h28 => ?_) (fun h28 => ?_) | refine r_if_eq (pc := 28) (tgt := 62) dX6_stranger_28 (by decide) (fun h28 => ?_) (fun h28 => ?_)
                · skip
                  exact absurd h28 (by omega)
                · skip
                  refine r_ald0 (pc := 31) dX6_stranger_31 ?_
                  refine r_ild3 (pc := 32) dX6_stranger_32 ?_
                  refine r_iconst (v := nI 1) (pc := 33) dX6_stranger_33 (by decide) ?_
                  refine r_bipush (v := nI 20) (pc := 34) dX6_stranger_34 (by decide) ?_
                  refine r_cV (pc := 36) dX6_stranger_36 cv_X6_524 hS.k (ct_X6_isAhead hS hN.1 (by omega) (by decide) (by decide)) rfl rfl (Nat.le_of_ble_eq_true rfl) (by decide) ?_
                  rintro _ _ ⟨rfl, rfl⟩
                  first | refine r_if_eqZ (pc := 39) (tgt := 62) dX6_stranger_39 (by decide) (fun h39 => ?_) (fun h39 => ?_) | refine r_if_eqN (pc := 39) (tgt := 62) dX6_stranger_39 (by decide) (by omega) (fun h39 => ?_) (fun h39 => ?_) | refine r_if_eq (pc := 39) (tgt := 62) dX6_stranger_39 (by decide) (fun h39 => ?_) (fun h39 => ?_)
                  · skip
                    exact absurd (by rw [nI_toInt (by omega)]; omega) h39
                  · skip
                    refine r_ild4 (pc := 42) dX6_stranger_42 ?_
                    refine r_i2lT (pc := 44) dX6_stranger_44 ?_
                    refine r_lconst (v := lI 0) (pc := 45) dX6_stranger_45 rfl ?_
                    refine r_lconst (v := lI 1) (pc := 46) dX6_stranger_46 rfl ?_
                    refine r_cS (pc := 47) dX6_stranger_47 cs_X6_280 (ct_X6_isInI (by constructor <;> omega) (by constructor <;> omega) (by constructor <;> omega)) rfl rfl (Nat.le_of_ble_eq_true rfl) (by decide) ?_
                    rintro _ _ ⟨rfl, rfl⟩
                    first | refine r_if_eqZ (pc := 50) (tgt := 62) dX6_stranger_50 (by decide) (fun h50 => ?_) (fun h50 => ?_) | refine r_if_eqN (pc := 50) (tgt := 62) dX6_stranger_50 (by decide) (by omega) (fun h50 => ?_) (fun h50 => ?_) | refine r_if_eq (pc := 50) (tgt := 62) dX6_stranger_50 (by decide) (fun h50 => ?_) (fun h50 => ?_)
                    · skip
                      refine r_iconst (v := -1) (pc := 62) dX6_stranger_62 (by decide) ?_
                      refine r_iret (pc := 63) dX6_stranger_63 ?_
                      exact ⟨s, rfl, rfl, hI⟩
                    · skip
                      exact absurd h50 (by omega)
          | some v =>
            obtain ⟨hv, rfl⟩ := pidx_some h4v
            show Bd g yX6_stranger cX6_stranger 10 (some Jvm.ClassFile.FieldType.int) [] 7 0 0 _ _ _ _ (PM M o q (.int (if tn (gT q) = 8 then -1 else strR v (strsS (gT q) (gS q) f k m (tH (gT q)) 0 none)))) noX
            refine r_ald0 (pc := 0) dX6_stranger_0 ?_
            refine m_getI hS (pc := 1) dX6_stranger_1 fl_X6_375 ?_
            refine Bd.eqI hi ?_
            first | refine r_if_eqZ (pc := 4) (tgt := 62) dX6_stranger_4 (by decide) (fun h4 => ?_) (fun h4 => ?_) | refine r_if_eqN (pc := 4) (tgt := 62) dX6_stranger_4 (by decide) (by omega) (fun h4 => ?_) (fun h4 => ?_) | refine r_if_eq (pc := 4) (tgt := 62) dX6_stranger_4 (by decide) (fun h4 => ?_) (fun h4 => ?_)
            · skip
              exact absurd rfl h4
            · skip
              refine r_ild1 (pc := 7) dX6_stranger_7 ?_
              first | refine r_i2lM (pc := 8) dX6_stranger_8 (by omega) ?_ | refine r_i2lI (pc := 8) dX6_stranger_8 (by constructor <;> omega) ?_ | refine r_i2lT (pc := 8) dX6_stranger_8 ?_
              refine r_lconst (v := lI 0) (pc := 9) dX6_stranger_9 rfl ?_
              refine r_ldc2 (v := lI (9)) (pc := 10) dX6_stranger_10 q2323 ?_
              refine r_cS (pc := 13) dX6_stranger_13 cs_X6_280 (ct_X6_isInI (by constructor <;> omega) (by constructor <;> omega) (by constructor <;> omega)) rfl rfl (Nat.le_of_ble_eq_true rfl) (by decide) ?_
              rintro _ _ ⟨rfl, rfl⟩
              first | refine r_if_eqZ (pc := 16) (tgt := 62) dX6_stranger_16 (by decide) (fun h16 => ?_) (fun h16 => ?_) | refine r_if_eqN (pc := 16) (tgt := 62) dX6_stranger_16 (by decide) (by omega) (fun h16 => ?_) (fun h16 => ?_) | refine r_if_eq (pc := 16) (tgt := 62) dX6_stranger_16 (by decide) (fun h16 => ?_) (fun h16 => ?_)
              · skip
                exact absurd h16 (by omega)
              · skip
                refine r_ild2 (pc := 19) dX6_stranger_19 ?_
                first | refine r_i2lM (pc := 20) dX6_stranger_20 (by omega) ?_ | refine r_i2lI (pc := 20) dX6_stranger_20 (by constructor <;> omega) ?_ | refine r_i2lT (pc := 20) dX6_stranger_20 ?_
                refine r_lconst (v := lI 0) (pc := 21) dX6_stranger_21 rfl ?_
                refine r_ldc2 (v := lI (9)) (pc := 22) dX6_stranger_22 q2323 ?_
                refine r_cS (pc := 25) dX6_stranger_25 cs_X6_280 (ct_X6_isInI (by constructor <;> omega) (by constructor <;> omega) (by constructor <;> omega)) rfl rfl (Nat.le_of_ble_eq_true rfl) (by decide) ?_
                rintro _ _ ⟨rfl, rfl⟩
                first | refine r_if_eqZ (pc := 28) (tgt := 62) dX6_stranger_28 (by decide) (fun h28 => ?_) (fun h28 => ?_) | refine r_if_eqN (pc := 28) (tgt := 62) dX6_stranger_28 (by decide) (by omega) (fun h28 => ?_) (fun h28 => ?_) | refine r_if_eq (pc := 28) (tgt := 62) dX6_stranger_28 (by decide) (fun h28 => ?_) (fun h28 => ?_)
                · skip
                  exact absurd h28 (by omega)
                · skip
                  refine r_ald0 (pc := 31) dX6_stranger_31 ?_
                  refine r_ild3 (pc := 32) dX6_stranger_32 ?_
                  refine r_iconst (v := nI 1) (pc := 33) dX6_stranger_33 (by decide) ?_
                  refine r_bipush (v := nI 20) (pc := 34) dX6_stranger_34 (by decide) ?_
                  refine r_cV (pc := 36) dX6_stranger_36 cv_X6_524 hS.k (ct_X6_isAhead hS hN.1 (by omega) (by decide) (by decide)) rfl rfl (Nat.le_of_ble_eq_true rfl) (by decide) ?_
                  rintro _ _ ⟨rfl, rfl⟩
                  first | refine r_if_eqZ (pc := 39) (tgt := 62) dX6_stranger_39 (by decide) (fun h39 => ?_) (fun h39 => ?_) | refine r_if_eqN (pc := 39) (tgt := 62) dX6_stranger_39 (by decide) (by omega) (fun h39 => ?_) (fun h39 => ?_) | refine r_if_eq (pc := 39) (tgt := 62) dX6_stranger_39 (by decide) (fun h39 => ?_) (fun h39 => ?_)
                  · skip
                    exact absurd (by rw [nI_toInt (by omega)]; omega) h39
                  · skip
                    refine r_ild4 (pc := 42) dX6_stranger_42 ?_
                    first | refine r_i2lM (pc := 44) dX6_stranger_44 (by omega) ?_ | refine r_i2lI (pc := 44) dX6_stranger_44 (by constructor <;> omega) ?_ | refine r_i2lT (pc := 44) dX6_stranger_44 ?_
                    refine r_lconst (v := lI 0) (pc := 45) dX6_stranger_45 rfl ?_
                    refine r_lconst (v := lI 1) (pc := 46) dX6_stranger_46 rfl ?_
                    refine r_cS (pc := 47) dX6_stranger_47 cs_X6_280 (ct_X6_isInI (by constructor <;> omega) (by constructor <;> omega) (by constructor <;> omega)) rfl rfl (Nat.le_of_ble_eq_true rfl) (by decide) ?_
                    rintro _ _ ⟨rfl, rfl⟩
                    first | refine r_if_eqZ (pc := 50) (tgt := 62) dX6_stranger_50 (by decide) (fun h50 => ?_) (fun h50 => ?_) | refine r_if_eqN (pc := 50) (tgt := 62) dX6_stranger_50 (by decide) (by omega) (fun h50 => ?_) (fun h50 => ?_) | refine r_if_eq (pc := 50) (tgt := 62) dX6_stranger_50 (by decide) (fun h50 => ?_) (fun h50 => ?_)
                    · skip
                      exact absurd h50 (by omega)
                    · skip
                      refine r_ald0 (pc := 53) dX6_stranger_53 ?_
                      refine m_getI hS (pc := 54) dX6_stranger_54 fl_X6_382 ?_
                      refine Bd.eqI hT.2.1 ?_
                      refine r_bipush (v := nI 8) (pc := 57) dX6_stranger_57 (by decide) ?_
                      first | refine r_icmp_neN (pc := 59) (tgt := 64) dX6_stranger_59 (by decide) (by omega) (by omega) (fun h59 => ?_) (fun h59 => ?_) | refine r_icmp_ne (pc := 59) (tgt := 64) dX6_stranger_59 (by decide) (fun h59 => ?_) (fun h59 => ?_)
                      · skip
                        rw [if_neg h59]
                        refine r_ald0 (pc := 64) dX6_stranger_64 ?_
                        refine m_getI hS (pc := 65) dX6_stranger_65 fl_X6_382 ?_
                        refine Bd.eqI hT.2.1 ?_
                        refine r_ist5 (pc := 68) dX6_stranger_68 ?_
                        refine r_iconst (v := -1) (pc := 70) dX6_stranger_70 (by decide) ?_
                        refine r_ist6 (pc := 71) dX6_stranger_71 ?_
                        refine r_iconst (v := nI 0) (pc := 73) dX6_stranger_73 (by decide) ?_
                        refine r_ist7 (pc := 74) dX6_stranger_74 ?_
                        refine r_ald0 (pc := 76) dX6_stranger_76 ?_
                        refine r_cV (pc := 77) dX6_stranger_77 cv_X6_528 hS.k (ct_X6_putsAside hS) rfl rfl (Nat.le_of_ble_eq_true rfl) (by decide) ?_
                        rintro _ _ ⟨s1, rfl, rfl, hj1, h64, hf1⟩
                        have hR1 := TR.start hI hj1 h64 hf1
                        refine r_iconst (v := nI 0) (pc := 80) dX6_stranger_80 (by decide) ?_
                        refine r_ist8 (pc := 81) dX6_stranger_81 ?_
                        exact strangerLoop (x1 := strsS (gT q) (gS q) f k m (tH (gT q)) 0 none) hS hG (by omega) (by omega) (by omega) (by omega) (by omega) (fun s2 s5 w8 w9 hI5 hR5 hx5 => strangerEnd hS hI5 hG hv hR5 hx5) (tH (gT q)) 0 s s1 _ none (by omega) hI hR1 (fun j _ => congrFun (hf1.2.2.1 55 (by decide)) j) (fun _ h => by cases h) rfl
                      · skip
                        rw [if_pos h59]
                        refine r_iconst (v := -1) (pc := 62) dX6_stranger_62 (by decide) ?_
                        refine r_iret (pc := 63) dX6_stranger_63 ?_
                        exact ⟨s, rfl, rfl, hI⟩
end M17
