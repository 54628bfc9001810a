set_option maxRecDepth 100000
/-! THE MODEL: a year -/
/-- what is kept of curtains -/
def RK (s : MS) (K : List (Nat × Nat × Nat)) : Prop := mA s 55 89 = nI K.length ∧ K.length ≤ 40 ∧ ∀ i a b c, K[i]? = some (a, b, c) → mA s 55 (90 + 3 * i) = nI a ∧ mA s 55 (91 + 3 * i) = nI b ∧ mA s 55 (92 + 3 * i) = nI c
theorem RK.of {s s' : MS} {K : List (Nat × Nat × Nat)} (h : RK s K) (hj : ∀ j, 89 ≤ j → mA s' 55 j = mA s 55 j) : RK s' K := by
  refine ⟨by rw [hj 89 (by omega)]; exact h.1, h.2.1, fun i a b c e => ?_⟩
  rw [hj _ (by omega), hj _ (by omega), hj _ (by omega)]
  exact h.2.2 i a b c e
theorem RK.fr {fs gs as bs : List Nat} {s s' : MS} {K : List (Nat × Nat × Nat)} (h : RK s K) (hf : Fr fs gs as bs s s') (h2 : 55 ∉ as) : RK s' K := h.of (fun j _ => by rw [hf.2.2.1 55 h2])
theorem RN.low {s s' : MS} {n : Nat} {t : St} (hn : n ≤ 8) (h : RN s n t) (hj : ∀ j, j < 89 → mA s' 55 j = mA s 55 j) : RN s' n t := by
  obtain ⟨h1, h2, h3, h4, h5⟩ := h
  refine ⟨by rw [hj 0 (by omega)]; exact h1, fun p hp => ?_, fun p hp => ?_, fun p hp => ?_, fun p hp q hq => ?_⟩
  · rw [hj _ (by omega)]; exact h2 p hp
  · rw [hj _ (by omega)]; exact h3 p hp
  · rw [hj _ (by omega)]; exact h4 p hp
  · rw [hj _ (by omega)]; exact h5 p hp q hq
theorem tA_ne {s : MS} {i j k : Nat} {v : Int32} (h : k ≠ j) : mA (tA s i j v) i k = mA s i k := by rw [mA_tA, if_neg (fun q => h q.2)]
theorem tA_eq {s : MS} {i j : Nat} {v : Int32} : mA (tA s i j v) i j = v := by rw [mA_tA, if_pos ⟨rfl, rfl⟩]
theorem RN.setLk {s : MS} {n : Nat} {t : St} {p v : Nat} (hn : n ≤ 8) (hp : p < n) (h : RN s n t) : RN (tA s 55 (2 + 3 * p) (nI v)) n (sLk t p v) := by
  obtain ⟨h1, h2, h3, h4, h5⟩ := h
  refine ⟨by rw [tA_ne (by omega)]; exact h1, fun q hq => ?_, fun q hq => ?_, fun q hq => ?_, fun q hq r hr => ?_⟩
  · rw [tA_ne (by omega)]; exact h2 q hq
  · show _ = nI (va_up (lk t) p v q)
    unfold va_up
    by_cases e : q = p
    · subst e; rw [tA_eq, if_pos rfl]
    · rw [tA_ne (by omega), if_neg e]; exact h3 q hq
  · rw [tA_ne (by omega)]; exact h4 q hq
  · rw [tA_ne (by omega)]; exact h5 q hq r hr
theorem RN.setTh {s : MS} {n : Nat} {t : St} {p q v : Nat} (hn : n ≤ 8) (hp : p < n) (hq : q < n) (h : RN s n t) : RN (tA s 55 (25 + 8 * p + q) (nI v)) n (sTh t p q v) := by
  obtain ⟨h1, h2, h3, h4, h5⟩ := h
  refine ⟨by rw [tA_ne (by omega)]; exact h1, fun q hq => ?_, fun q hq => ?_, fun q hq => ?_, fun a ha b hb => ?_⟩
  · rw [tA_ne (by omega)]; exact h2 q hq
  · rw [tA_ne (by omega)]; exact h3 q hq
  · rw [tA_ne (by omega)]; exact h4 q hq
  · show _ = nI (va_up (th t) p (va_up (th t p) q v) a b)
    unfold va_up
    by_cases e : a = p
    · subst e
      rw [if_pos rfl]
      show _ = nI (if b = q then v else th t a b)
      by_cases e2 : b = q
      · subst e2; rw [tA_eq, if_pos rfl]
      · rw [tA_ne (by omega), if_neg e2]; exact h5 a ha b hb
    · rw [tA_ne (by omega), if_neg e]; exact h5 a ha b hb
abbrev yF : List Nat := [54, 57, 58, 59, 60, 61, 62, 63, 65, 108]
section M5
variable {g : GC} {M : MM} {o : Nat} {s : MS} {M1 : MM} {T : Te} {t : St} {K : List (Nat × Nat × Nat)}
theorem ct_X6_whoIn0 {n : Nat} {h : Int32} (hS : ShM g M o) (hn : mF s 40 = nI n) (hn8 : n ≤ 8) : Ct g yX6_whoIn cX6_whoIn 3 (some Jvm.ClassFile.FieldType.int) 1 0 0 [.ref o, .int h] (putM M o s) (PQ (putM M o s) (.int (oI (ff (fun p => mA s 55 (1 + 3 * p) == h) n 0)))) noX := by
  refine Ct.of (by decide) (Nat.le_of_ble_eq_true rfl) rfl ?_
  refine r_iconst (v := nI 0) (pc := 0) dX6_whoIn_0 (by decide) ?_
  refine r_ist2 (pc := 1) dX6_whoIn_1 ?_
  exact whoLoop hS hn hn8 n 0 (by omega)
theorem ct_X6_whoIn {n h : Nat} (hS : ShM g M o) (hn : mF s 40 = nI n) (hn8 : n ≤ 8) (hN : RN s n t) (hB : SB n t) (hh : h < 100) : Ct g yX6_whoIn cX6_whoIn 3 (some Jvm.ClassFile.FieldType.int) 1 0 0 [.ref o, .int (nI h)] (putM M o s) (PQ (putM M o s) (.int (oI (who t n h)))) noX := by
  have := ct_X6_whoIn0 (s := s) (h := nI h) hS hn hn8
  rw [ff_congr (f' := fun p => hs t p == h) n 0 (fun j _ hj => ?_)] at this
  · exact this
  · rw [hN.2.1 j (by omega)]
    have hb := (hB.2 j (by omega)).1
    by_cases e : hs t j = h
    · simp [e]
    · rw [beq_eq_false_iff_ne.mpr (fun q => e ((nI_eq (by omega) (by omega)).mp q)), beq_eq_false_iff_ne.mpr e]
theorem ct_X6_neighbour {n p side : Nat} (hS : ShM g M o) (hn : mF s 40 = nI n) (hn8 : n ≤ 8) (hN : RN s n t) (hB : SB n t) (hp : p < n) (hs2 : side < 2) : Ct g yX6_neighbour cX6_neighbour 3 (some Jvm.ClassFile.FieldType.int) 2 0 0 [.ref o, .int (nI p), .int (nI side)] (putM M o s) (PQ (putM M o s) (.int (oI (nb t n p side)))) noX := by
  have hb := (hB.2 p hp).1
  refine Ct.of (by decide) (Nat.le_of_ble_eq_true rfl) rfl ?_
  refine r_ald0 (pc := 0) dX6_neighbour_0 ?_
  refine r_ald0 (pc := 1) dX6_neighbour_1 ?_
  refine r_ild1 (pc := 2) dX6_neighbour_2 ?_
  refine r_cV (pc := 3) dX6_neighbour_3 cv_X6_402 hS.k (ct_X6_houseOf hS (by omega)) rfl rfl (Nat.le_of_ble_eq_true rfl) (by decide) ?_
  rintro _ _ ⟨rfl, rfl⟩
  refine Bd.eqI (hN.2.1 p hp) ?_
  refine r_ild2 (pc := 6) dX6_neighbour_6 ?_
  first | refine r_if_neZ (pc := 7) (tgt := 14) dX6_neighbour_7 (by decide) (fun h7 => ?_) (fun h7 => ?_) | refine r_if_neN (pc := 7) (tgt := 14) dX6_neighbour_7 (by decide) (by omega) (fun h7 => ?_) (fun h7 => ?_) | refine r_if_ne (pc := 7) (tgt := 14) dX6_neighbour_7 (by decide) (fun h7 => ?_) (fun h7 => ?_)
  · skip
    rw [show nb t n p side = who t n (hs t p + 1) from if_neg h7]
    refine r_iconst (v := nI 1) (pc := 14) dX6_neighbour_14 (by decide) ?_
    first | refine r_iaddN (pc := 15) dX6_neighbour_15 ?_ | refine r_iaddJ (pc := 15) dX6_neighbour_15 ?_ | refine r_iadd (pc := 15) dX6_neighbour_15 ?_
    refine r_cV (pc := 16) dX6_neighbour_16 cv_X6_406 hS.k (ct_X6_whoIn hS hn hn8 hN hB (by omega)) rfl rfl (Nat.le_of_ble_eq_true rfl) (by decide) ?_
    rintro _ _ ⟨rfl, rfl⟩
    refine r_iret (pc := 19) dX6_neighbour_19 ?_
    exact ⟨rfl, rfl⟩
  · skip
    have h7' : nb t n p side = if hs t p = 0 then none else who t n (hs t p - 1) := if_pos h7
    refine r_iconst (v := -1) (pc := 10) dX6_neighbour_10 (by decide) ?_
    refine r_goto (pc := 11) (tgt := 15) dX6_neighbour_11 (by decide) ?_
    refine r_iadd (pc := 15) dX6_neighbour_15 ?_
    rw [h7']
    by_cases h0 : hs t p = 0
    · rw [if_pos h0, h0]
      refine Bd.eqI (x' := -1) (by decide) ?_
      refine r_cV (pc := 16) dX6_neighbour_16 cv_X6_406 hS.k (ct_X6_whoIn0 hS hn hn8) rfl rfl (Nat.le_of_ble_eq_true rfl) (by decide) ?_
      rw [ff_none n 0 (fun j _ hj => ?_)]
      · rintro _ _ ⟨rfl, rfl⟩
        exact r_iret (pc := 19) dX6_neighbour_19 ⟨rfl, rfl⟩
      · rw [hN.2.1 j (by omega)]
        have hb := (hB.2 j (by omega)).1
        exact beq_eq_false_iff_ne.mpr (nI_m1 (by omega))
    · rw [if_neg h0]
      refine Bd.eqI (x' := nI (hs t p - 1)) (sb_m1 (by omega)) ?_
      refine r_cV (pc := 16) dX6_neighbour_16 cv_X6_406 hS.k (ct_X6_whoIn hS hn hn8 hN hB (by omega)) rfl rfl (Nat.le_of_ble_eq_true rfl) (by decide) ?_
      rintro _ _ ⟨rfl, rfl⟩
      exact r_iret (pc := 19) dX6_neighbour_19 ⟨rfl, rfl⟩
def RR (s : MS) (K : List (Nat × Nat × Nat)) : Prop := ∀ i a b c, K[i]? = some (a, b, c) → mA s 55 (90 + 3 * i) = nI a ∧ mA s 55 (91 + 3 * i) = nI b ∧ mA s 55 (92 + 3 * i) = nI c
theorem RR.add {s : MS} {K : List (Nat × Nat × Nat)} {x y z : Nat} (h : RR s K) : RR (tA (tA (tA s 55 (90 + 3 * K.length) (nI x)) 55 (90 + 3 * K.length + 1) (nI y)) 55 (90 + 3 * K.length + 2) (nI z)) (K ++ [(x, y, z)]) := by
  intro i a b c e
  by_cases hi : i < K.length
  · rw [List.getElem?_append_left hi] at e
    rw [tA_ne (by omega), tA_ne (by omega), tA_ne (by omega), tA_ne (by omega), tA_ne (by omega), tA_ne (by omega), tA_ne (by omega), tA_ne (by omega), tA_ne (by omega)]
    exact h i a b c e
  · rw [List.getElem?_append_right (by omega)] at e
    have hz : i - K.length < 1 := (List.getElem?_eq_some_iff.mp e).1
    have hi2 : i = K.length := by omega
    subst hi2
    simp at e
    obtain ⟨rfl, rfl, rfl⟩ := e
    refine ⟨?_, ?_, ?_⟩
    · rw [tA_ne (by omega), tA_ne (by omega), tA_eq]
    · rw [tA_ne (by omega), show 91 + 3 * K.length = 90 + 3 * K.length + 1 by omega, tA_eq]
    · rw [show 92 + 3 * K.length = 90 + 3 * K.length + 2 by omega, tA_eq]
theorem keptTail {a b y : Nat} {x3 : Option Value} {Q : Option Value → MM → Prop} (hS : ShM g M o) (hL : K.length ≤ 39) (h89 : mA s 55 89 = nI (K.length + 1)) (hy : mA s 55 0 = nI y) (hx : c2 [some (.ref o), some (.int (nI a)), some (.int (nI b)), x3] 3 = true)
    (hQ : Q none (putM M o (tA (tA (tA s 55 (90 + 3 * K.length) (nI y)) 55 (90 + 3 * K.length + 1) (nI a)) 55 (90 + 3 * K.length + 2) (nI b)))) :
    Bd g yX6_isKept cX6_isKept 4 none [] 0 0 0 (putM M o s) 64 [some (.ref o), some (.int (nI a)), some (.int (nI b)), x3] [] Q noX := by
  refine r_bipush (v := nI 90) (pc := 64) dX6_isKept_64 (by decide) ?_
  refine r_iconst (v := nI 3) (pc := 66) dX6_isKept_66 (by decide) ?_
  refine r_ald0 (pc := 67) dX6_isKept_67 ?_
  refine m_getR hS (pc := 68) dX6_isKept_68 fl_X6_121 ar55 ?_
  refine r_bipush (v := nI 89) (pc := 71) dX6_isKept_71 (by decide) ?_
  refine m_iald hS (pc := 73) dX6_isKept_73 ar55 (by omega) (by omega) ?_
  refine Bd.eqI h89 ?_
  first | refine r_imulN (pc := 74) dX6_isKept_74 ?_ | refine r_imulJ (pc := 74) dX6_isKept_74 ?_ | refine r_imul (pc := 74) dX6_isKept_74 ?_
  first | refine r_iaddN (pc := 75) dX6_isKept_75 ?_ | refine r_iaddJ (pc := 75) dX6_isKept_75 ?_ | refine r_iadd (pc := 75) dX6_isKept_75 ?_
  refine r_iconst (v := nI 3) (pc := 76) dX6_isKept_76 (by decide) ?_
  first | refine r_isubN (pc := 77) dX6_isKept_77 (by omega) ?_ | refine r_isubM (pc := 77) dX6_isKept_77 ?_ | refine r_isubJ (pc := 77) dX6_isKept_77 ?_ | refine r_isub (pc := 77) dX6_isKept_77 ?_
  refine Bd.eqI (x' := nI (90 + 3 * K.length)) (by first | rfl | (congr 1; omega)) ?_
  refine r_ist3 (pc := 78) dX6_isKept_78 ?_
  refine r_ald0 (pc := 79) dX6_isKept_79 ?_
  refine m_getR hS (pc := 80) dX6_isKept_80 fl_X6_121 ar55 ?_
  refine r_ild3 (pc := 83) dX6_isKept_83 ?_
  refine r_ald0 (pc := 84) dX6_isKept_84 ?_
  refine m_getR hS (pc := 85) dX6_isKept_85 fl_X6_121 ar55 ?_
  refine r_iconst (v := nI 0) (pc := 88) dX6_isKept_88 (by decide) ?_
  refine m_iald hS (pc := 89) dX6_isKept_89 ar55 (by omega) (by omega) ?_
  refine Bd.eqI hy ?_
  refine m_iast hS (pc := 90) dX6_isKept_90 ar55 (by omega) (by omega) ?_
  refine r_ald0 (pc := 91) dX6_isKept_91 ?_
  refine m_getR hS (pc := 92) dX6_isKept_92 fl_X6_121 ar55 ?_
  refine r_ild3 (pc := 95) dX6_isKept_95 ?_
  refine r_iconst (v := nI 1) (pc := 96) dX6_isKept_96 (by decide) ?_
  first | refine r_iaddN (pc := 97) dX6_isKept_97 ?_ | refine r_iaddJ (pc := 97) dX6_isKept_97 ?_ | refine r_iadd (pc := 97) dX6_isKept_97 ?_
  refine r_ild1 (pc := 98) dX6_isKept_98 ?_
  refine m_iast hS (pc := 99) dX6_isKept_99 ar55 (by omega) (by omega) ?_
  refine r_ald0 (pc := 100) dX6_isKept_100 ?_
  refine m_getR hS (pc := 101) dX6_isKept_101 fl_X6_121 ar55 ?_
  refine r_ild3 (pc := 104) dX6_isKept_104 ?_
  refine r_iconst (v := nI 2) (pc := 105) dX6_isKept_105 (by decide) ?_
  first | refine r_iaddN (pc := 106) dX6_isKept_106 ?_ | refine r_iaddJ (pc := 106) dX6_isKept_106 ?_ | refine r_iadd (pc := 106) dX6_isKept_106 ?_
  refine r_ild2 (pc := 107) dX6_isKept_107 ?_
  refine m_iast hS (pc := 108) dX6_isKept_108 ar55 (by omega) (by omega) ?_
  refine r_vret (pc := 109) dX6_isKept_109 ?_
  exact hQ
theorem keptLoop {a b : Nat} {Q : Option Value → MM → Prop} (hS : ShM g M o)
    (kk : ∀ s' : MS, (∀ j, mA s' 55 j = if 90 ≤ j ∧ j < 207 then mA s 55 (j + 3) else mA s 55 j) → Fr [] [] [55] [] s s' → Bd g yX6_isKept cX6_isKept 4 none [] 0 0 0 (putM M o s') 50 [some (.ref o), some (.int (nI a)), some (.int (nI b)), some (.int (nI 207))] [] Q noX) :
    ∀ (m i : Nat) (s1 : MS), i + m = 207 → 90 ≤ i → (∀ j, mA s1 55 j = if 90 ≤ j ∧ j < i then mA s 55 (j + 3) else mA s 55 j) → Fr [] [] [55] [] s s1 → Bd g yX6_isKept cX6_isKept 4 none [] 0 0 0 (putM M o s1) 23 [some (.ref o), some (.int (nI a)), some (.int (nI b)), some (.int (nI i))] [] Q noX := by
  intro m
  induction m with
  | zero =>
    intro i s1 hi hi9 hj hf
    have hi : i = 207 := hi
    subst hi
    refine r_ild3 (pc := 23) dX6_isKept_23 ?_
    refine r_sipush (v := nI 207) (pc := 24) dX6_isKept_24 (by decide) ?_
    first | refine r_icmp_geN (pc := 27) (tgt := 50) dX6_isKept_27 (by decide) (by omega) (by omega) (fun h27 => ?_) (fun h27 => ?_) | refine r_icmp_ge (pc := 27) (tgt := 50) dX6_isKept_27 (by decide) (fun h27 => ?_) (fun h27 => ?_)
    · skip
      exact kk s1 hj hf
    · skip
      exact absurd h27 (by omega)
  | succ m ih =>
    intro i s1 hi hi9 hj hf
    refine r_ild3 (pc := 23) dX6_isKept_23 ?_
    refine r_sipush (v := nI 207) (pc := 24) dX6_isKept_24 (by decide) ?_
    first | refine r_icmp_geN (pc := 27) (tgt := 50) dX6_isKept_27 (by decide) (by omega) (by omega) (fun h27 => ?_) (fun h27 => ?_) | refine r_icmp_ge (pc := 27) (tgt := 50) dX6_isKept_27 (by decide) (fun h27 => ?_) (fun h27 => ?_)
    · skip
      exact absurd h27 (by omega)
    · skip
      refine r_ald0 (pc := 30) dX6_isKept_30 ?_
      refine m_getR hS (pc := 31) dX6_isKept_31 fl_X6_121 ar55 ?_
      refine r_ild3 (pc := 34) dX6_isKept_34 ?_
      refine r_ald0 (pc := 35) dX6_isKept_35 ?_
      refine m_getR hS (pc := 36) dX6_isKept_36 fl_X6_121 ar55 ?_
      refine r_ild3 (pc := 39) dX6_isKept_39 ?_
      refine r_iconst (v := nI 3) (pc := 40) dX6_isKept_40 (by decide) ?_
      first | refine r_iaddN (pc := 41) dX6_isKept_41 ?_ | refine r_iaddJ (pc := 41) dX6_isKept_41 ?_ | refine r_iadd (pc := 41) dX6_isKept_41 ?_
      refine m_iald hS (pc := 42) dX6_isKept_42 ar55 (by omega) (by omega) ?_
      refine m_iast hS (pc := 43) dX6_isKept_43 ar55 (by omega) (by omega) ?_
      first | refine r_iinc3N (j := 1) (pc := 44) dX6_isKept_44 rfl ?_ | refine r_iinc3 (pc := 44) dX6_isKept_44 ?_
      refine r_goto (pc := 47) (tgt := 23) dX6_isKept_47 (by decide) ?_
      refine ih (i + 1) _ (by omega) (by omega) (fun j => ?_) (Fr.tA hf (by decide))
      by_cases e : j = i
      · subst e; rw [tA_eq, if_pos (by omega), hj, if_neg (by omega)]
      · rw [tA_ne e, hj j]; by_cases e2 : 90 ≤ j ∧ j < i
        · rw [if_pos e2, if_pos (by omega)]
        · rw [if_neg e2, if_neg (by omega)]
theorem ct_X6_isKept {tb : Bool} {a b y : Nat} (hS : ShM g M o) (ht : mF s 64 = zI (tb = true)) (hy : mA s 55 0 = nI y) (hK : RK s K) : Ct g yX6_isKept cX6_isKept 4 none 0 0 0 [.ref o, .int (nI a), .int (nI b)] (putM M o s) (QM M o (fun r s' => r = none ∧ (∀ j, j < 89 → mA s' 55 j = mA s 55 j) ∧ RK s' (if tb then K else pushK K (y, a, b)) ∧ Fr [] [] [55] [] s s')) noX := by
  refine Ct.of (by decide) (Nat.le_of_ble_eq_true rfl) rfl ?_
  cases tb with
  | true =>
    refine r_ald0 (pc := 0) dX6_isKept_0 ?_
    refine m_getI hS (pc := 1) dX6_isKept_1 fl_X6_464 ?_
    refine Bd.eqI ht ?_
    first | refine r_if_eqZ (pc := 4) (tgt := 8) dX6_isKept_4 (by decide) (fun h4 => ?_) (fun h4 => ?_) | refine r_if_eqN (pc := 4) (tgt := 8) dX6_isKept_4 (by decide) (by omega) (fun h4 => ?_) (fun h4 => ?_) | refine r_if_eq (pc := 4) (tgt := 8) dX6_isKept_4 (by decide) (fun h4 => ?_) (fun h4 => ?_)
    · skip
      exact absurd rfl h4
    · skip
      refine r_vret (pc := 7) dX6_isKept_7 ?_
      exact ⟨s, rfl, rfl, fun _ _ => rfl, hK, Fr.rf⟩
  | false =>
    have hp : (if (false = true) then K else pushK K (y, a, b)) = pushK K (y, a, b) := rfl
    rw [if_neg (by decide)]
    obtain ⟨h1, h2, h3⟩ := hK
    refine r_ald0 (pc := 0) dX6_isKept_0 ?_
    refine m_getI hS (pc := 1) dX6_isKept_1 fl_X6_464 ?_
    refine Bd.eqI ht ?_
    first | refine r_if_eqZ (pc := 4) (tgt := 8) dX6_isKept_4 (by decide) (fun h4 => ?_) (fun h4 => ?_) | refine r_if_eqN (pc := 4) (tgt := 8) dX6_isKept_4 (by decide) (by omega) (fun h4 => ?_) (fun h4 => ?_) | refine r_if_eq (pc := 4) (tgt := 8) dX6_isKept_4 (by decide) (fun h4 => ?_) (fun h4 => ?_)
    · skip
      refine r_ald0 (pc := 8) dX6_isKept_8 ?_
      refine m_getR hS (pc := 9) dX6_isKept_9 fl_X6_121 ar55 ?_
      refine r_bipush (v := nI 89) (pc := 12) dX6_isKept_12 (by decide) ?_
      refine m_iald hS (pc := 14) dX6_isKept_14 ar55 (by omega) (by omega) ?_
      refine Bd.eqI h1 ?_
      refine r_bipush (v := nI 40) (pc := 15) dX6_isKept_15 (by decide) ?_
      first | refine r_icmp_neN (pc := 17) (tgt := 53) dX6_isKept_17 (by decide) (by omega) (by omega) (fun h17 => ?_) (fun h17 => ?_) | refine r_icmp_ne (pc := 17) (tgt := 53) dX6_isKept_17 (by decide) (fun h17 => ?_) (fun h17 => ?_)
      · skip
        have hpk : pushK K (y, a, b) = K ++ [(y, a, b)] := if_neg h17
        rw [hpk]
        refine r_ald0 (pc := 53) dX6_isKept_53 ?_
        refine m_getR hS (pc := 54) dX6_isKept_54 fl_X6_121 ar55 ?_
        refine r_bipush (v := nI 89) (pc := 57) dX6_isKept_57 (by decide) ?_
        refine r_dup2 (pc := 59) dX6_isKept_59 rfl rfl ?_
        refine m_iald hS (pc := 60) dX6_isKept_60 ar55 (by omega) (by omega) ?_
        refine Bd.eqI h1 ?_
        refine r_iconst (v := nI 1) (pc := 61) dX6_isKept_61 (by decide) ?_
        first | refine r_iaddN (pc := 62) dX6_isKept_62 ?_ | refine r_iaddJ (pc := 62) dX6_isKept_62 ?_ | refine r_iadd (pc := 62) dX6_isKept_62 ?_
        refine m_iast hS (pc := 63) dX6_isKept_63 ar55 (by omega) (by omega) ?_
        refine keptTail (K := K) hS (by omega) tA_eq ((tA_ne (by omega)).trans hy) rfl ?_
        refine ⟨_, rfl, rfl, fun j hj => ?_, ⟨?_, by simp; omega, ?_⟩, Fr.tA (Fr.tA (Fr.tA (Fr.tA Fr.rf (by decide)) (by decide)) (by decide)) (by decide)⟩
        · rw [tA_ne (by omega), tA_ne (by omega), tA_ne (by omega), tA_ne (by omega)]
        · rw [tA_ne (by omega), tA_ne (by omega), tA_ne (by omega), tA_eq]; simp
        · refine RR.add ?_
          intro i x y z e
          rw [tA_ne (by omega), tA_ne (by omega), tA_ne (by omega)]
          exact h3 i x y z e
      · skip
        have hpk : pushK K (y, a, b) = K.tail ++ [(y, a, b)] := if_pos h17
        rw [hpk]
        have hlt : K.tail.length = 39 := by simp; omega
        refine r_bipush (v := nI 90) (pc := 20) dX6_isKept_20 (by decide) ?_
        refine r_ist3 (pc := 22) dX6_isKept_22 ?_
        refine keptLoop hS (fun s' hj hf => ?_) 117 90 s (by omega) (by omega) (fun j => by rw [if_neg (by omega)]) Fr.rf
        refine r_goto (pc := 50) (tgt := 64) dX6_isKept_50 (by decide) ?_
        refine keptTail (K := K.tail) hS (by omega) (by rw [hj, if_neg (by omega), h1, hlt, h17]) (by rw [hj, if_neg (by omega)]; exact hy) rfl ?_
        refine ⟨_, rfl, rfl, fun j hj' => ?_, ⟨?_, by simp; omega, ?_⟩, Fr.tA (Fr.tA (Fr.tA hf (by decide)) (by decide)) (by decide)⟩
        · rw [tA_ne (by omega), tA_ne (by omega), tA_ne (by omega), hj, if_neg (by omega)]
        · rw [tA_ne (by omega), tA_ne (by omega), tA_ne (by omega), hj, if_neg (by omega), h1]; rw [List.length_append, hlt, h17]; rfl
        · refine RR.add ?_
          intro i x y z e
          have hi : i < 39 := by have := (List.getElem?_eq_some_iff.mp e).1; omega
          rw [hj, hj, hj, if_pos (by omega), if_pos (by omega), if_pos (by omega)]
          have e' : K[i + 1]? = some (x, y, z) := by rw [← List.getElem?_tail]; exact e
          exact h3 (i + 1) x y z e'
    · skip
      exact absurd h4 (by decide)
end M5
