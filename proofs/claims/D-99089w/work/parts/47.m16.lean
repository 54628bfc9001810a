set_option maxRecDepth 100000
/-! THE MODEL: the best change -/
section M16
variable {g : GC} {M : MM} {o : Nat} {s : MS} {M1 : MM} {q : Sg} {T : Te} {t : St} {K : List Ev}
theorem TR.high {s1 s2 : MS} {fs gs as bs : List Nat} (h : TR s q s1) (hf : Fr fs gs as bs s1 s2) (hk : ∀ j, 89 ≤ j → mA s2 55 j = mA s1 55 j) (hd : (∀ i ∈ fs, i ∈ trF ∧ i ≠ 64) ∧ (∀ i ∈ gs, False) ∧ (∀ i ∈ as, i ∈ trA ∧ i ≠ 56) ∧ ∀ i ∈ bs, i ∈ ([107] : List Nat)) : TR s q s2 := by
  refine ⟨fun j hj => ?_, ?_, ?_, h.2.2.2.trans (hf.mono (fun i hi => (hd.1 i hi).1) (fun i hi => (hd.2.1 i hi).elim) (fun i hi => (hd.2.2.1 i hi).1) (fun i hi => hd.2.2.2 i hi))⟩
  · rw [hf.2.2.1 56 (fun h9 => (hd.2.2.1 56 h9).2 rfl)]; exact h.1 j hj
  · rw [hf.1 64 (fun h9 => (hd.1 64 h9).2 rfl)]; exact h.2.1
  · exact h.2.2.1.of hk
theorem changedInner {m a : Nat} {y : Int32} {Q : Option Value → MM → Prop} {x1 : Nat × Option (Nat × Nat)} (hS : ShM g M o) (hI : IM s q) (hG : GI q) (hm : m ≤ 20) (hy : yr (gS q) + m ≤ 999) (ha : a < tH (gT q))
    (hk : ∀ s1 w8, TR s q s1 → (∀ j, j < 89 → mA s1 55 j = mA s 55 j) → Bd g yX6_changed cX6_changed 9 (some Jvm.ClassFile.FieldType.int) [] 7 0 0 (putM M o s1) 132 [some (.ref o), some (.int (nI m)), some (.int y), some (.int (nI x1.1)), some (.int (oI (x1.2.map Prod.fst))), some (.int (oI (x1.2.map Prod.snd))), some (.int (nI a)), some (.int (nI (tH (gT q)))), w8] [] Q noX) :
    ∀ (k b : Nat) (s1 : MS) (w8 : Option Value) (x : Nat × Option (Nat × Nat)), b + k = tH (gT q) → TR s q s1 → (∀ j, j < 89 → mA s1 55 j = mA s 55 j) → x.1 ≤ 800 → chgsB (gT q) (gS q) m a k b x = x1 → Bd g yX6_changed cX6_changed 9 (some Jvm.ClassFile.FieldType.int) [] 7 0 0 (putM M o s1) 74 [some (.ref o), some (.int (nI m)), some (.int y), some (.int (nI x.1)), some (.int (oI (x.2.map Prod.fst))), some (.int (oI (x.2.map Prod.snd))), some (.int (nI a)), some (.int (nI b)), w8] [] Q noX := by
  have hTB := hG.2.2.1
  have hB : SB (tn (gT q)) (gS q) := hG.2.2.2.2.2.1.1
  have hn8 := hTB.1
  have hH9 := hTB.2.1
  have hN := hI.2.2.2.2.1.1
  intro k
  induction k with
  | zero =>
    intro b s1 w8 x hb hR hj hx e
    have e : x = x1 := e
    subst e
    obtain rfl : b = tH (gT q) := by omega
    have hT := hR.rt hI
    refine r_ild7 (pc := 74) dX6_changed_74 ?_
    refine r_ald0 (pc := 76) dX6_changed_76 ?_
    refine m_getI hS (pc := 77) dX6_changed_77 fl_X6_379 ?_
    refine Bd.eqI hT.1 ?_
    first | refine r_icmp_geN (pc := 80) (tgt := 132) dX6_changed_80 (by decide) (by omega) (by omega) (fun h80 => ?_) (fun h80 => ?_) | refine r_icmp_ge (pc := 80) (tgt := 132) dX6_changed_80 (by decide) (fun h80 => ?_) (fun h80 => ?_)
    · skip
      exact hk s1 w8 hR hj
    · skip
      exact absurd h80 (by omega)
  | succ k ih =>
    intro b s1 w8 x hb hR hj hx e
    have hT := hR.rt hI
    have hN1 := RN.low hn8 hN hj
    have hBc := changesS_SB (a := a) (b := b) hB (by omega) (by omega)
    have hyc := changesS_yr (tn (gT q)) (gS q) a b
    have hle := lksS_le (m := m) hBc hn8 (by omega)
    have e : chgsB (gT q) (gS q) m a k (b + 1) (chgS (gT q) (gS q) m a b x) = x1 := e
    refine r_ild7 (pc := 74) dX6_changed_74 ?_
    refine r_ald0 (pc := 76) dX6_changed_76 ?_
    refine m_getI hS (pc := 77) dX6_changed_77 fl_X6_379 ?_
    refine Bd.eqI hT.1 ?_
    first | refine r_icmp_geN (pc := 80) (tgt := 132) dX6_changed_80 (by decide) (by omega) (by omega) (fun h80 => ?_) (fun h80 => ?_) | refine r_icmp_ge (pc := 80) (tgt := 132) dX6_changed_80 (by decide) (fun h80 => ?_) (fun h80 => ?_)
    · skip
      exact absurd h80 (by omega)
    · skip
      refine r_ald0 (pc := 83) dX6_changed_83 ?_
      refine r_ild6 (pc := 84) dX6_changed_84 ?_
      refine r_ild7 (pc := 86) dX6_changed_86 ?_
      refine r_cV (pc := 88) dX6_changed_88 cv_X6_537 hS.k (ct_X6_changes (n := tn (gT q)) (t := gS q) hS hT.2.1 hn8 hN1 hB (by omega) (by omega)) rfl rfl (Nat.le_of_ble_eq_true rfl) (by decide) ?_
      rintro _ _ ⟨s2, rfl, rfl, hN2, hk2, hf2⟩
      have hR2 : TR s q s2 := hR.high hf2 hk2 (by decide)
      refine r_ald0 (pc := 91) dX6_changed_91 ?_
      refine r_ild1 (pc := 92) dX6_changed_92 ?_
      refine r_cV (pc := 93) dX6_changed_93 cv_X6_531 hS.k (ct_X6_yearsGo (T := gT q) (t := changesS (tn (gT q)) (gS q) a b) (K := gK q) (tb := true) hS (hR2.rt hI) hTB hN2 hBc hR2.2.2.1 hR2.2.1 (by omega) (by omega)) rfl rfl (Nat.le_of_ble_eq_true rfl) (by decide) ?_
      rintro _ _ ⟨s3, rfl, rfl, hY⟩
      have hR3 := hR2.years hY
      refine r_ald0 (pc := 96) dX6_changed_96 ?_
      refine r_cV (pc := 97) dX6_changed_97 cv_X6_511 hS.k (ct_X6_lookAll hS (hR3.rt hI).2.1 hn8 hY.1) rfl rfl (Nat.le_of_ble_eq_true rfl) (by decide) ?_
      rintro _ _ ⟨rfl, rfl⟩
      refine r_ist8 (pc := 100) dX6_changed_100 ?_
      refine r_ald0 (pc := 102) dX6_changed_102 ?_
      refine r_cV (pc := 103) dX6_changed_103 cv_X6_492 hS.k (ct_X6_triesAnew hS) rfl rfl (Nat.le_of_ble_eq_true rfl) (by decide) ?_
      rintro _ _ ⟨s4, rfl, rfl, hj4, hf4⟩
      obtain ⟨hR4, hj5⟩ := hR3.anew hj4 hf4
      change _ ≤ 792 at hle
      unfold lksS at hle
      refine r_ild8 (pc := 106) dX6_changed_106 ?_
      refine r_ild3 (pc := 108) dX6_changed_108 ?_
      first | refine r_icmp_gtN (pc := 109) (tgt := 115) dX6_changed_109 (by decide) (by omega) (by omega) (fun h109 => ?_) (fun h109 => ?_) | refine r_icmp_gt (pc := 109) (tgt := 115) dX6_changed_109 (by decide) (fun h109 => ?_) (fun h109 => ?_)
      · skip
        have e2 : chgS (gT q) (gS q) m a b x = (lksS (gT q) m (changesS (tn (gT q)) (gS q) a b), some (a, b)) := by unfold chgS; rw [if_pos (by unfold lksS; omega)]
        rw [e2] at e
        refine r_ild8 (pc := 115) dX6_changed_115 ?_
        refine r_ist3 (pc := 117) dX6_changed_117 ?_
        refine r_ild6 (pc := 118) dX6_changed_118 ?_
        refine r_ist4 (pc := 120) dX6_changed_120 ?_
        refine r_ild7 (pc := 122) dX6_changed_122 ?_
        refine r_ist5 (pc := 124) dX6_changed_124 ?_
        first | refine r_iinc7N (j := 1) (pc := 126) dX6_changed_126 rfl ?_ | refine r_iinc7 (pc := 126) dX6_changed_126 ?_
        refine r_goto (pc := 129) (tgt := 74) dX6_changed_129 (by decide) ?_
        first | exact ih (b + 1) s4 _ x (by omega) hR4 hj5 hx e | exact ih (b + 1) s4 _ (lksS (gT q) m (changesS (tn (gT q)) (gS q) a b), some (a, b)) (by omega) hR4 hj5 (by unfold lksS; omega) e
      · skip
        have e2 : chgS (gT q) (gS q) m a b x = x := by unfold chgS; rw [if_neg (by unfold lksS; omega)]
        rw [e2] at e
        refine r_goto (pc := 112) (tgt := 126) dX6_changed_112 (by decide) ?_
        first | refine r_iinc7N (j := 1) (pc := 126) dX6_changed_126 rfl ?_ | refine r_iinc7 (pc := 126) dX6_changed_126 ?_
        refine r_goto (pc := 129) (tgt := 74) dX6_changed_129 (by decide) ?_
        first | exact ih (b + 1) s4 _ x (by omega) hR4 hj5 hx e | exact ih (b + 1) s4 _ (lksS (gT q) m (changesS (tn (gT q)) (gS q) a b), some (a, b)) (by omega) hR4 hj5 (by unfold lksS; omega) e
theorem chgS_le {T : Te} {t : St} {m a b : Nat} {x : Nat × Option (Nat × Nat)} (hB : SB (tn T) t) (hn : tn T ≤ 8) (hy : yr t + m ≤ 2000) (ha : a < 9) (hb : b < 9) (hx : x.1 ≤ 800) : (chgS T t m a b x).1 ≤ 800 := by
  have := lksS_le (m := m) (changesS_SB (a := a) (b := b) hB ha hb) hn (by rw [changesS_yr]; exact hy)
  unfold chgS; split
  · show lksS _ _ _ ≤ 800; omega
  · exact hx
theorem chgsB_le {T : Te} {t : St} {m a : Nat} (hB : SB (tn T) t) (hn : tn T ≤ 8) (hy : yr t + m ≤ 2000) (ha : a < 9) : ∀ (k b : Nat) (x : Nat × Option (Nat × Nat)), b + k ≤ 9 → x.1 ≤ 800 → (chgsB T t m a k b x).1 ≤ 800
  | 0, _, _, _, hx => hx
  | k + 1, b, x, hb, hx => chgsB_le hB hn hy ha k (b + 1) _ (by omega) (chgS_le hB hn hy ha (by omega) hx)
theorem changedOuter {m : Nat} {y : Int32} {Q : Option Value → MM → Prop} {x1 : Nat × Option (Nat × Nat)} (hS : ShM g M o) (hI : IM s q) (hG : GI q) (hm : m ≤ 20) (hy : yr (gS q) + m ≤ 999)
    (hk : ∀ s1 w6 w7 w8, TR s q s1 → x1.1 ≤ 800 → Bd g yX6_changed cX6_changed 9 (some Jvm.ClassFile.FieldType.int) [] 7 0 0 (putM M o s1) 138 [some (.ref o), some (.int (nI m)), some (.int y), some (.int (nI x1.1)), some (.int (oI (x1.2.map Prod.fst))), some (.int (oI (x1.2.map Prod.snd))), w6, w7, w8] [] Q noX) :
    ∀ (k a : Nat) (s1 : MS) (w7 w8 : Option Value) (x : Nat × Option (Nat × Nat)), a + k = tH (gT q) → TR s q s1 → (∀ j, j < 89 → mA s1 55 j = mA s 55 j) → x.1 ≤ 800 → chgsA (gT q) (gS q) m k a x = x1 → Bd g yX6_changed cX6_changed 9 (some Jvm.ClassFile.FieldType.int) [] 7 0 0 (putM M o s1) 59 [some (.ref o), some (.int (nI m)), some (.int y), some (.int (nI x.1)), some (.int (oI (x.2.map Prod.fst))), some (.int (oI (x.2.map Prod.snd))), some (.int (nI a)), w7, w8] [] Q noX := by
  have hTB := hG.2.2.1
  have hB : SB (tn (gT q)) (gS q) := hG.2.2.2.2.2.1.1
  have hn8 := hTB.1
  have hH9 := hTB.2.1
  intro k
  induction k with
  | zero =>
    intro a s1 w7 w8 x ha hR hj hx e
    have e : x = x1 := e
    subst e
    obtain rfl : a = tH (gT q) := by omega
    have hT := hR.rt hI
    refine r_ild6 (pc := 59) dX6_changed_59 ?_
    refine r_ald0 (pc := 61) dX6_changed_61 ?_
    refine m_getI hS (pc := 62) dX6_changed_62 fl_X6_379 ?_
    refine Bd.eqI hT.1 ?_
    first | refine r_icmp_geN (pc := 65) (tgt := 138) dX6_changed_65 (by decide) (by omega) (by omega) (fun h65 => ?_) (fun h65 => ?_) | refine r_icmp_ge (pc := 65) (tgt := 138) dX6_changed_65 (by decide) (fun h65 => ?_) (fun h65 => ?_)
    · skip
      exact hk s1 _ w7 w8 hR hx
    · skip
      exact absurd h65 (by omega)
  | succ k ih =>
    intro a s1 w7 w8 x ha hR hj hx e
    have hT := hR.rt hI
    have e : chgsA (gT q) (gS q) m k (a + 1) (chgsB (gT q) (gS q) m a (tH (gT q) - (a + 1)) (a + 1) x) = x1 := e
    have hc : ∀ s2 w82, TR s q s2 → (∀ j, j < 89 → mA s2 55 j = mA s 55 j) → Bd g yX6_changed cX6_changed 9 (some Jvm.ClassFile.FieldType.int) [] 7 0 0 (putM M o s2) 132 [some (.ref o), some (.int (nI m)), some (.int y), some (.int (nI (chgsB (gT q) (gS q) m a (tH (gT q) - (a + 1)) (a + 1) x).1)), some (.int (oI ((chgsB (gT q) (gS q) m a (tH (gT q) - (a + 1)) (a + 1) x).2.map Prod.fst))), some (.int (oI ((chgsB (gT q) (gS q) m a (tH (gT q) - (a + 1)) (a + 1) x).2.map Prod.snd))), some (.int (nI a)), some (.int (nI (tH (gT q)))), w82] [] Q noX := by
      intro s2 w82 hR2 hj2
      first | refine r_iinc6N (j := 1) (pc := 132) dX6_changed_132 rfl ?_ | refine r_iinc6 (pc := 132) dX6_changed_132 ?_
      refine r_goto (pc := 135) (tgt := 59) dX6_changed_135 (by decide) ?_
      exact ih (a + 1) s2 _ w82 _ (by omega) hR2 hj2 (chgsB_le hB hn8 (by omega) (by omega) _ _ _ (by omega) hx) e
    refine r_ild6 (pc := 59) dX6_changed_59 ?_
    refine r_ald0 (pc := 61) dX6_changed_61 ?_
    refine m_getI hS (pc := 62) dX6_changed_62 fl_X6_379 ?_
    refine Bd.eqI hT.1 ?_
    first | refine r_icmp_geN (pc := 65) (tgt := 138) dX6_changed_65 (by decide) (by omega) (by omega) (fun h65 => ?_) (fun h65 => ?_) | refine r_icmp_ge (pc := 65) (tgt := 138) dX6_changed_65 (by decide) (fun h65 => ?_) (fun h65 => ?_)
    · skip
      exact absurd h65 (by omega)
    · skip
      refine r_ild6 (pc := 68) dX6_changed_68 ?_
      refine r_iconst (v := nI 1) (pc := 70) dX6_changed_70 (by decide) ?_
      first | refine r_iaddN (pc := 71) dX6_changed_71 ?_ | refine r_iaddJ (pc := 71) dX6_changed_71 ?_ | refine r_iadd (pc := 71) dX6_changed_71 ?_
      refine r_ist7 (pc := 72) dX6_changed_72 ?_
      exact changedInner hS hI hG hm hy (by omega) hc (tH (gT q) - (a + 1)) (a + 1) s1 w8 x (by omega) hR hj hx rfl
theorem chgsB_lt {T : Te} {t : St} {m a : Nat} (ha : a < 9) : ∀ (k b : Nat) (x : Nat × Option (Nat × Nat)), b + k ≤ 9 → (∀ z, x.2 = some z → z.1 < 9 ∧ z.2 < 9) → ∀ z, (chgsB T t m a k b x).2 = some z → z.1 < 9 ∧ z.2 < 9
  | 0, _, _, _, hx => hx
  | k + 1, b, x, hb, hx => chgsB_lt ha k (b + 1) _ (by omega) (by
    intro z hz; unfold chgS at hz; split at hz
    · cases hz; exact ⟨ha, by show b < 9; omega⟩
    · exact hx z hz)
theorem chgsA_lt {T : Te} {t : St} {m : Nat} (hH : tH T ≤ 9) : ∀ (k a : Nat) (x : Nat × Option (Nat × Nat)), a + k ≤ tH T → (∀ z, x.2 = some z → z.1 < 9 ∧ z.2 < 9) → ∀ z, (chgsA T t m k a x).2 = some z → z.1 < 9 ∧ z.2 < 9
  | 0, _, _, _, hx => hx
  | k + 1, a, x, ha, hx => chgsA_lt hH k (a + 1) _ (by omega) (chgsB_lt (by omega) _ _ _ (by omega) hx)
theorem changedEnd {m w : Nat} {x1 : Nat × Option (Nat × Nat)} {w6 w7 w8 : Option Value} {s5 : MS} (hS : ShM g M o) (hI : IM s q) (hG : GI q) (hw : w < 3) (hR5 : TR s q s5) (hx5 : x1.1 ≤ 800) (hz : ∀ z, x1.2 = some z → z.1 < 9 ∧ z.2 < 9) :
    Bd g yX6_changed cX6_changed 9 (some Jvm.ClassFile.FieldType.int) [] 7 0 0 (putM M o s5) 138 [some (.ref o), some (.int (nI m)), some (.int (nI w)), some (.int (nI x1.1)), some (.int (oI (x1.2.map Prod.fst))), some (.int (oI (x1.2.map Prod.snd))), w6, w7, w8] [] (PM M o q (.int (match x1.2 with | none => -1 | some z => if w = 0 then nI z.1 else if w = 1 then nI z.2 else nI x1.1))) noX := by
  obtain ⟨v, z⟩ := x1
  cases z with
  | none =>
    refine r_ald0 (pc := 138) dX6_changed_138 ?_
    refine r_cV (pc := 139) dX6_changed_139 cv_X6_534 hS.k (ct_X6_takesBack hS) rfl rfl (Nat.le_of_ble_eq_true rfl) (by decide) ?_
    rintro _ _ ⟨s3, rfl, rfl, hj3, h643, hf3⟩
    refine r_ild4 (pc := 142) dX6_changed_142 ?_
    refine r_iconst (v := -1) (pc := 144) dX6_changed_144 (by decide) ?_
    refine r_icmp_ne (pc := 145) (tgt := 152) dX6_changed_145 (by decide) (fun h145 => ?_) (fun h145 => ?_)
    · skip
      exact absurd rfl h145
    · skip
      refine r_iconst (v := -1) (pc := 148) dX6_changed_148 (by decide) ?_
      refine r_goto (pc := 149) (tgt := 172) dX6_changed_149 (by decide) ?_
      refine r_iret (pc := 172) dX6_changed_172 ?_
      exact ⟨s3, rfl, rfl, TR.back hI hG hR5 hj3 h643 hf3⟩
  | some z =>
    obtain ⟨hz1, hz2⟩ := hz z rfl
    have hx5 : v ≤ 800 := hx5
    refine r_ald0 (pc := 138) dX6_changed_138 ?_
    refine r_cV (pc := 139) dX6_changed_139 cv_X6_534 hS.k (ct_X6_takesBack hS) rfl rfl (Nat.le_of_ble_eq_true rfl) (by decide) ?_
    rintro _ _ ⟨s3, rfl, rfl, hj3, h643, hf3⟩
    refine r_ild4 (pc := 142) dX6_changed_142 ?_
    refine r_iconst (v := -1) (pc := 144) dX6_changed_144 (by decide) ?_
    refine r_icmp_ne (pc := 145) (tgt := 152) dX6_changed_145 (by decide) (fun h145 => ?_) (fun h145 => ?_)
    · skip
      refine r_ild2 (pc := 152) dX6_changed_152 ?_
      first | refine r_if_neZ (pc := 153) (tgt := 161) dX6_changed_153 (by decide) (fun h153 => ?_) (fun h153 => ?_) | refine r_if_neN (pc := 153) (tgt := 161) dX6_changed_153 (by decide) (by omega) (fun h153 => ?_) (fun h153 => ?_) | refine r_if_ne (pc := 153) (tgt := 161) dX6_changed_153 (by decide) (fun h153 => ?_) (fun h153 => ?_)
      · skip
        refine r_ild2 (pc := 161) dX6_changed_161 ?_
        refine r_iconst (v := nI 1) (pc := 162) dX6_changed_162 (by decide) ?_
        first | refine r_icmp_neN (pc := 163) (tgt := 171) dX6_changed_163 (by decide) (by omega) (by omega) (fun h163 => ?_) (fun h163 => ?_) | refine r_icmp_ne (pc := 163) (tgt := 171) dX6_changed_163 (by decide) (fun h163 => ?_) (fun h163 => ?_)
        · skip
          rw [show (match (v, some z).2 with | none => (-1 : Int32) | some z => if w = 0 then nI z.1 else if w = 1 then nI z.2 else nI (v, some z).1) = nI v from (if_neg h153).trans (if_neg h163)]
          refine r_ild3 (pc := 171) dX6_changed_171 ?_
          refine r_iret (pc := 172) dX6_changed_172 ?_
          exact ⟨s3, rfl, rfl, TR.back hI hG hR5 hj3 h643 hf3⟩
        · skip
          rw [show (match (v, some z).2 with | none => (-1 : Int32) | some z => if w = 0 then nI z.1 else if w = 1 then nI z.2 else nI (v, some z).1) = nI z.2 from (if_neg h153).trans (if_pos h163)]
          refine r_ild5 (pc := 166) dX6_changed_166 ?_
          refine r_goto (pc := 168) (tgt := 172) dX6_changed_168 (by decide) ?_
          refine r_iret (pc := 172) dX6_changed_172 ?_
          exact ⟨s3, rfl, rfl, TR.back hI hG hR5 hj3 h643 hf3⟩
      · skip
        rw [show (match (v, some z).2 with | none => (-1 : Int32) | some z => if w = 0 then nI z.1 else if w = 1 then nI z.2 else nI (v, some z).1) = nI z.1 from if_pos h153]
        refine r_ild4 (pc := 156) dX6_changed_156 ?_
        refine r_goto (pc := 158) (tgt := 172) dX6_changed_158 (by decide) ?_
        refine r_iret (pc := 172) dX6_changed_172 ?_
        exact ⟨s3, rfl, rfl, TR.back hI hG hR5 hj3 h643 hf3⟩
    · skip
      exact absurd h145 (nI_m1 (by omega))
theorem pm_changed {a b : Int32} (hS : ShM g M o) (hI : IM s q) (hG : GI q) : Ct g yX6_changed cX6_changed 9 (some Jvm.ClassFile.FieldType.int) 7 0 0 [.ref o, .int a, .int b] (putM M o s) (PM M o q (.int (changedQ q a b))) noX := by
  have hT := hI.2.2.2.1.1
  have hTB := hG.2.2.1
  have hN := hI.2.2.2.2.1.1
  have hB : SB (tn (gT q)) (gS q) := hG.2.2.2.2.2.1.1
  have hy : yr (gS q) ≤ 999 := hG.2.2.2.2.2.1.2.1
  have hi := hI.2.2.2.1.2.1
  have hn8 := hTB.1
  obtain ⟨ha1, ha2⟩ := b31_of b
  refine Ct.of (by decide) (Nat.le_of_ble_eq_true rfl) rfl ?_
  cases hit : gIt q with
  | false =>
    have hH := (hG.2.2.2.1 hit).1
    rw [hit] at hi
    have e : changedQ q a b = -1 := by
      unfold changedQ; split
      · unfold changedN; rw [hH]; rfl
      · rfl
    rw [e]
    refine r_ald0 (pc := 0) dX6_changed_0 ?_
    refine m_getI hS (pc := 1) dX6_changed_1 fl_X6_375 ?_
    refine Bd.eqI hi ?_
    first | refine r_if_eqZ (pc := 4) (tgt := 30) dX6_changed_4 (by decide) (fun h4 => ?_) (fun h4 => ?_) | refine r_if_eqN (pc := 4) (tgt := 30) dX6_changed_4 (by decide) (by omega) (fun h4 => ?_) (fun h4 => ?_) | refine r_if_eq (pc := 4) (tgt := 30) dX6_changed_4 (by decide) (fun h4 => ?_) (fun h4 => ?_)
    · skip
      refine r_iconst (v := -1) (pc := 30) dX6_changed_30 (by decide) ?_
      refine r_iret (pc := 31) dX6_changed_31 ?_
      exact ⟨s, rfl, rfl, hI⟩
    · skip
      exact absurd h4 (by decide)
  | true =>
    rw [hit] at hi
    unfold changedQ
    cases hr : ahd (gS q) a 1 20 with
    | none =>
      have hr := ahd_none hr
      refine r_ald0 (pc := 0) dX6_changed_0 ?_
      refine m_getI hS (pc := 1) dX6_changed_1 fl_X6_375 ?_
      refine Bd.eqI hi ?_
      first | refine r_if_eqZ (pc := 4) (tgt := 30) dX6_changed_4 (by decide) (fun h4 => ?_) (fun h4 => ?_) | refine r_if_eqN (pc := 4) (tgt := 30) dX6_changed_4 (by decide) (by omega) (fun h4 => ?_) (fun h4 => ?_) | refine r_if_eq (pc := 4) (tgt := 30) dX6_changed_4 (by decide) (fun h4 => ?_) (fun h4 => ?_)
      · skip
        exact absurd rfl h4
      · skip
        refine r_ald0 (pc := 7) dX6_changed_7 ?_
        refine r_ild1 (pc := 8) dX6_changed_8 ?_
        refine r_iconst (v := nI 1) (pc := 9) dX6_changed_9 (by decide) ?_
        refine r_bipush (v := nI 20) (pc := 10) dX6_changed_10 (by decide) ?_
        refine r_cV (pc := 12) dX6_changed_12 cv_X6_524 hS.k (ct_X6_isAhead hS hN.1 (by omega) (by decide) (by decide)) rfl rfl (Nat.le_of_ble_eq_true rfl) (by decide) ?_
        rintro _ _ ⟨rfl, rfl⟩
        first | refine r_if_eqZ (pc := 15) (tgt := 30) dX6_changed_15 (by decide) (fun h15 => ?_) (fun h15 => ?_) | refine r_if_eqN (pc := 15) (tgt := 30) dX6_changed_15 (by decide) (by omega) (fun h15 => ?_) (fun h15 => ?_) | refine r_if_eq (pc := 15) (tgt := 30) dX6_changed_15 (by decide) (fun h15 => ?_) (fun h15 => ?_)
        · skip
          refine r_iconst (v := -1) (pc := 30) dX6_changed_30 (by decide) ?_
          refine r_iret (pc := 31) dX6_changed_31 ?_
          exact ⟨s, rfl, rfl, hI⟩
        · skip
          exact absurd h15 hr
    | some m =>
      obtain ⟨n1, n2, n3, rfl⟩ := ahd_some hr
      cases hp : pidx b 3 with
      | none =>
        have hp := pidx_none hp
        refine r_ald0 (pc := 0) dX6_changed_0 ?_
        refine m_getI hS (pc := 1) dX6_changed_1 fl_X6_375 ?_
        refine Bd.eqI hi ?_
        first | refine r_if_eqZ (pc := 4) (tgt := 30) dX6_changed_4 (by decide) (fun h4 => ?_) (fun h4 => ?_) | refine r_if_eqN (pc := 4) (tgt := 30) dX6_changed_4 (by decide) (by omega) (fun h4 => ?_) (fun h4 => ?_) | refine r_if_eq (pc := 4) (tgt := 30) dX6_changed_4 (by decide) (fun h4 => ?_) (fun h4 => ?_)
        · skip
          exact absurd rfl h4
        · skip
          refine r_ald0 (pc := 7) dX6_changed_7 ?_
          refine r_ild1 (pc := 8) dX6_changed_8 ?_
          refine r_iconst (v := nI 1) (pc := 9) dX6_changed_9 (by decide) ?_
          refine r_bipush (v := nI 20) (pc := 10) dX6_changed_10 (by decide) ?_
          refine r_cV (pc := 12) dX6_changed_12 cv_X6_524 hS.k (ct_X6_isAhead hS hN.1 (by omega) (by decide) (by decide)) rfl rfl (Nat.le_of_ble_eq_true rfl) (by decide) ?_
          rintro _ _ ⟨rfl, rfl⟩
          first | refine r_if_eqZ (pc := 15) (tgt := 30) dX6_changed_15 (by decide) (fun h15 => ?_) (fun h15 => ?_) | refine r_if_eqN (pc := 15) (tgt := 30) dX6_changed_15 (by decide) (by omega) (fun h15 => ?_) (fun h15 => ?_) | refine r_if_eq (pc := 15) (tgt := 30) dX6_changed_15 (by decide) (fun h15 => ?_) (fun h15 => ?_)
          · skip
            exact absurd (by rw [nI_toInt (by omega)]; omega) h15
          · skip
            refine r_ild2 (pc := 18) dX6_changed_18 ?_
            refine r_i2lT (pc := 19) dX6_changed_19 ?_
            refine r_lconst (v := lI 0) (pc := 20) dX6_changed_20 rfl ?_
            refine r_ldc2 (v := lI (2)) (pc := 21) dX6_changed_21 q2262 ?_
            refine r_cS (pc := 24) dX6_changed_24 cs_X6_280 (ct_X6_isInI (by constructor <;> omega) (by constructor <;> omega) (by constructor <;> omega)) rfl rfl (Nat.le_of_ble_eq_true rfl) (by decide) ?_
            rintro _ _ ⟨rfl, rfl⟩
            first | refine r_if_neZ (pc := 27) (tgt := 32) dX6_changed_27 (by decide) (fun h27 => ?_) (fun h27 => ?_) | refine r_if_neN (pc := 27) (tgt := 32) dX6_changed_27 (by decide) (by omega) (fun h27 => ?_) (fun h27 => ?_) | refine r_if_ne (pc := 27) (tgt := 32) dX6_changed_27 (by decide) (fun h27 => ?_) (fun h27 => ?_)
            · skip
              exact absurd h27 (by omega)
            · skip
              refine r_iconst (v := -1) (pc := 30) dX6_changed_30 (by decide) ?_
              refine r_iret (pc := 31) dX6_changed_31 ?_
              exact ⟨s, rfl, rfl, hI⟩
      | some w =>
        obtain ⟨hw, rfl⟩ := pidx_some hp
        show Bd g yX6_changed cX6_changed 9 (some Jvm.ClassFile.FieldType.int) [] 7 0 0 _ _ _ _ (PM M o q (.int (changedN q m w))) noX
        have hle := lksS_le (m := m) hB hn8 (by omega)
        refine r_ald0 (pc := 0) dX6_changed_0 ?_
        refine m_getI hS (pc := 1) dX6_changed_1 fl_X6_375 ?_
        refine Bd.eqI hi ?_
        first | refine r_if_eqZ (pc := 4) (tgt := 30) dX6_changed_4 (by decide) (fun h4 => ?_) (fun h4 => ?_) | refine r_if_eqN (pc := 4) (tgt := 30) dX6_changed_4 (by decide) (by omega) (fun h4 => ?_) (fun h4 => ?_) | refine r_if_eq (pc := 4) (tgt := 30) dX6_changed_4 (by decide) (fun h4 => ?_) (fun h4 => ?_)
        · skip
          exact absurd rfl h4
        · skip
          refine r_ald0 (pc := 7) dX6_changed_7 ?_
          refine r_ild1 (pc := 8) dX6_changed_8 ?_
          refine r_iconst (v := nI 1) (pc := 9) dX6_changed_9 (by decide) ?_
          refine r_bipush (v := nI 20) (pc := 10) dX6_changed_10 (by decide) ?_
          refine r_cV (pc := 12) dX6_changed_12 cv_X6_524 hS.k (ct_X6_isAhead hS hN.1 (by omega) (by decide) (by decide)) rfl rfl (Nat.le_of_ble_eq_true rfl) (by decide) ?_
          rintro _ _ ⟨rfl, rfl⟩
          first | refine r_if_eqZ (pc := 15) (tgt := 30) dX6_changed_15 (by decide) (fun h15 => ?_) (fun h15 => ?_) | refine r_if_eqN (pc := 15) (tgt := 30) dX6_changed_15 (by decide) (by omega) (fun h15 => ?_) (fun h15 => ?_) | refine r_if_eq (pc := 15) (tgt := 30) dX6_changed_15 (by decide) (fun h15 => ?_) (fun h15 => ?_)
          · skip
            exact absurd (by rw [nI_toInt (by omega)]; omega) h15
          · skip
            refine r_ild2 (pc := 18) dX6_changed_18 ?_
            first | refine r_i2lM (pc := 19) dX6_changed_19 (by omega) ?_ | refine r_i2lI (pc := 19) dX6_changed_19 (by constructor <;> omega) ?_ | refine r_i2lT (pc := 19) dX6_changed_19 ?_
            refine r_lconst (v := lI 0) (pc := 20) dX6_changed_20 rfl ?_
            refine r_ldc2 (v := lI (2)) (pc := 21) dX6_changed_21 q2262 ?_
            refine r_cS (pc := 24) dX6_changed_24 cs_X6_280 (ct_X6_isInI (by constructor <;> omega) (by constructor <;> omega) (by constructor <;> omega)) rfl rfl (Nat.le_of_ble_eq_true rfl) (by decide) ?_
            rintro _ _ ⟨rfl, rfl⟩
            first | refine r_if_neZ (pc := 27) (tgt := 32) dX6_changed_27 (by decide) (fun h27 => ?_) (fun h27 => ?_) | refine r_if_neN (pc := 27) (tgt := 32) dX6_changed_27 (by decide) (by omega) (fun h27 => ?_) (fun h27 => ?_) | refine r_if_ne (pc := 27) (tgt := 32) dX6_changed_27 (by decide) (fun h27 => ?_) (fun h27 => ?_)
            · skip
              refine r_ald0 (pc := 32) dX6_changed_32 ?_
              refine r_cV (pc := 33) dX6_changed_33 cv_X6_528 hS.k (ct_X6_putsAside hS) rfl rfl (Nat.le_of_ble_eq_true rfl) (by decide) ?_
              rintro _ _ ⟨s1, rfl, rfl, hj1, h64, hf1⟩
              have hR1 := TR.start hI hj1 h64 hf1
              have hN1 := hN.fr hf1 (by decide)
              refine r_ald0 (pc := 36) dX6_changed_36 ?_
              refine r_ild1 (pc := 37) dX6_changed_37 ?_
              refine r_cV (pc := 38) dX6_changed_38 cv_X6_531 hS.k (ct_X6_yearsGo (T := gT q) (t := gS q) (K := gK q) (tb := true) hS (hR1.rt hI) hTB hN1 hB hR1.2.2.1 hR1.2.1 (by omega) (by omega)) rfl rfl (Nat.le_of_ble_eq_true rfl) (by decide) ?_
              rintro _ _ ⟨s2, rfl, rfl, hY⟩
              have hR2 := hR1.years hY
              refine r_ald0 (pc := 41) dX6_changed_41 ?_
              refine r_cV (pc := 42) dX6_changed_42 cv_X6_511 hS.k (ct_X6_lookAll hS (hR2.rt hI).2.1 hn8 hY.1) rfl rfl (Nat.le_of_ble_eq_true rfl) (by decide) ?_
              rintro _ _ ⟨rfl, rfl⟩
              refine r_ist3 (pc := 45) dX6_changed_45 ?_
              refine r_ald0 (pc := 46) dX6_changed_46 ?_
              refine r_cV (pc := 47) dX6_changed_47 cv_X6_492 hS.k (ct_X6_triesAnew hS) rfl rfl (Nat.le_of_ble_eq_true rfl) (by decide) ?_
              rintro _ _ ⟨s4, rfl, rfl, hj4, hf4⟩
              obtain ⟨hR4, hj5⟩ := hR2.anew hj4 hf4
              refine r_iconst (v := -1) (pc := 50) dX6_changed_50 (by decide) ?_
              refine r_ist4 (pc := 51) dX6_changed_51 ?_
              refine r_iconst (v := -1) (pc := 53) dX6_changed_53 (by decide) ?_
              refine r_ist5 (pc := 54) dX6_changed_54 ?_
              refine r_iconst (v := nI 0) (pc := 56) dX6_changed_56 (by decide) ?_
              refine r_ist6 (pc := 57) dX6_changed_57 ?_
              exact changedOuter (x1 := chgsA (gT q) (gS q) m (tH (gT q)) 0 (lksS (gT q) m (gS q), none)) hS hI hG (by omega) (by omega) (fun s5 w6 w7 w8 hR5 hx5 => changedEnd hS hI hG hw hR5 hx5 (chgsA_lt hTB.2.1 _ _ _ (by omega) (fun _ h => by cases h))) (tH (gT q)) 0 s4 _ _ (lksS (gT q) m (gS q), none) (by omega) hR4 hj5 (by show lksS _ _ _ ≤ 800; omega) rfl
            · skip
              exact absurd h27 (by omega)
end M16
