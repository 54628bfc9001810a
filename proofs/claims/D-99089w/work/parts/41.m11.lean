set_option maxRecDepth 100000
/-! THE MODEL: acts -/
theorem RNf.congr {f f' : Nat → Int32} {n : Nat} {t : St} (hn : n ≤ 8) (h : RNf f n t) (hj : ∀ j, j < 210 → f' j = f j) : RNf f' n t := by
  obtain ⟨h1, h2, h3, h4, h5⟩ := h
  refine ⟨by rw [hj 0 (by omega)]; exact h1, fun p hp => ?_, fun p hp => ?_, fun p hp => ?_, fun p hp q hq => ?_⟩
  · rw [hj _ (by omega)]; exact h2 p hp
  · rw [hj _ (by omega)]; exact h3 p hp
  · rw [hj _ (by omega)]; exact h4 p hp
  · rw [hj _ (by omega)]; exact h5 p hp q hq
theorem RKf.congr {f f' : Nat → Int32} {K : List Ev} (h : RKf f K) (hj : ∀ j, j < 210 → f' j = f j) : RKf f' K := by
  refine ⟨by rw [hj 89 (by omega)]; exact h.1, h.2.1, fun i a b c e => ?_⟩
  have hi : i < K.length := (List.getElem?_eq_some_iff.mp e).1
  have := h.2.1
  rw [hj _ (by omega), hj _ (by omega), hj _ (by omega)]
  exact h.2.2 i a b c e
section M11
variable {g : GC} {M : MM} {o : Nat} {s : MS} {M1 : MM} {q : Sg} {T : Te} {t : St} {K : List Ev}
theorem keepLoop {w : Nat} {Q : Option Value → MM → Prop} (hS : ShM g M o) (hw : w < 20)
    (kk : ∀ s', (∀ j, mA s' 72 j = if 210 * w ≤ j ∧ j < 210 * w + 210 then mA s 55 (j - 210 * w) else mA s 72 j) → Fr [74] [] [72] [] s s' → mF s' 74 = nI w → Bd g yX6_keeps cX6_keeps 2 none [] 0 0 0 (putM M o s') 49 [some (.ref o), some (.int (nI 210))] [] Q noX) :
    ∀ (m i : Nat) (s1 : MS), i + m = 210 → (∀ j, mA s1 72 j = if 210 * w ≤ j ∧ j < 210 * w + i then mA s 55 (j - 210 * w) else mA s 72 j) → Fr [74] [] [72] [] s s1 → mF s1 74 = nI w → Bd g yX6_keeps cX6_keeps 2 none [] 0 0 0 (putM M o s1) 15 [some (.ref o), some (.int (nI i))] [] Q noX := by
  intro m
  induction m with
  | zero =>
    intro i s1 hi hj hf h74
    have hi : i = 210 := hi
    subst hi
    refine r_ild1 (pc := 15) dX6_keeps_15 ?_
    refine r_sipush (v := nI 210) (pc := 16) dX6_keeps_16 (by decide) ?_
    first | refine r_icmp_geN (pc := 19) (tgt := 49) dX6_keeps_19 (by decide) (by omega) (by omega) (fun h19 => ?_) (fun h19 => ?_) | refine r_icmp_ge (pc := 19) (tgt := 49) dX6_keeps_19 (by decide) (fun h19 => ?_) (fun h19 => ?_)
    · skip
      exact kk s1 hj hf h74
    · skip
      exact absurd h19 (by omega)
  | succ m ih =>
    intro i s1 hi hj hf h74
    refine r_ild1 (pc := 15) dX6_keeps_15 ?_
    refine r_sipush (v := nI 210) (pc := 16) dX6_keeps_16 (by decide) ?_
    first | refine r_icmp_geN (pc := 19) (tgt := 49) dX6_keeps_19 (by decide) (by omega) (by omega) (fun h19 => ?_) (fun h19 => ?_) | refine r_icmp_ge (pc := 19) (tgt := 49) dX6_keeps_19 (by decide) (fun h19 => ?_) (fun h19 => ?_)
    · skip
      exact absurd h19 (by omega)
    · skip
      refine r_ald0 (pc := 22) dX6_keeps_22 ?_
      refine m_getR hS (pc := 23) dX6_keeps_23 fl_X6_140 ar72 ?_
      refine r_sipush (v := nI 210) (pc := 26) dX6_keeps_26 (by decide) ?_
      refine r_ald0 (pc := 29) dX6_keeps_29 ?_
      refine m_getI hS (pc := 30) dX6_keeps_30 fl_X6_579 ?_
      refine Bd.eqI h74 ?_
      first | refine r_imulN (pc := 33) dX6_keeps_33 ?_ | refine r_imulJ (pc := 33) dX6_keeps_33 ?_ | refine r_imul (pc := 33) dX6_keeps_33 ?_
      refine r_ild1 (pc := 34) dX6_keeps_34 ?_
      first | refine r_iaddN (pc := 35) dX6_keeps_35 ?_ | refine r_iaddJ (pc := 35) dX6_keeps_35 ?_ | refine r_iadd (pc := 35) dX6_keeps_35 ?_
      refine r_ald0 (pc := 36) dX6_keeps_36 ?_
      refine m_getR hS (pc := 37) dX6_keeps_37 fl_X6_121 ar55 ?_
      refine r_ild1 (pc := 40) dX6_keeps_40 ?_
      refine m_iald hS (pc := 41) dX6_keeps_41 ar55 (by omega) (by omega) ?_
      refine Bd.eqI (congrFun (hf.2.2.1 55 (by decide)) i) ?_
      refine m_iast hS (pc := 42) dX6_keeps_42 ar72 (by omega) (by omega) ?_
      first | refine r_iinc1N (j := 1) (pc := 43) dX6_keeps_43 rfl ?_ | refine r_iinc1 (pc := 43) dX6_keeps_43 ?_
      refine r_goto (pc := 46) (tgt := 15) dX6_keeps_46 (by decide) ?_
      refine ih (i + 1) _ (by omega) (fun j => ?_) (Fr.tA hf (by decide)) h74
      by_cases e : j = 210 * w + i
      · subst e; rw [tA_eq, if_pos (by omega), show 210 * w + i - 210 * w = i by omega]
      · rw [tA_ne e, hj j]; by_cases e2 : 210 * w ≤ j ∧ j < 210 * w + i
        · rw [if_pos e2, if_pos (by omega)]
        · rw [if_neg e2, if_neg (by omega)]
theorem ct_X6_keeps (hS : ShM g M o) (hI : IM s q) (hG : GI q) : Ct g yX6_keeps cX6_keeps 2 none 0 0 0 [.ref o] (putM M o s) (QM M o (fun r s' => r = none ∧ IM s' (keepU q) ∧ Fr [73, 74] [] [72] [] s s')) noX := by
  have hn8 := hG.2.2.1.1
  obtain ⟨a1, a2, a3, a4, a5, ⟨u1, w, hw, u2, u3⟩, a7, a8, a9, a10⟩ := hI
  have hL : (gUn q).length ≤ 20 := hG.2.2.2.2.2.2.2.1
  have hfin : ∀ s' : MS, (∀ j, mA s' 72 j = if 210 * ((w + 1) % 20) ≤ j ∧ j < 210 * ((w + 1) % 20) + 210 then mA s 55 (j - 210 * ((w + 1) % 20)) else mA s 72 j) → Fr [73, 74] [] [72] [] s s' → mF s' 74 = nI ((w + 1) % 20) → mF s' 73 = nI (((gS q, gK q) :: gUn q).take 20).length → IM s' (keepU q) := by
    intro s' hj hf h74 h73
    refine ⟨a1.fr hf (by decide), a2.fr hf (by decide), a3.fr hf (by decide), a4.fr hf (by decide) (by decide) (by decide), a5.fr hf (by decide), ⟨h73, (w + 1) % 20, by omega, h74, fun i x hx => ?_⟩, a7.fr hf (by decide), a8.fr hf (by decide), a9.fr hf (by decide), a10.fr hf (by decide)⟩
    have hx : (((gS q, gK q) :: gUn q).take 20)[i]? = some x := hx
    have hi : i < 20 := by have := (List.getElem?_eq_some_iff.mp hx).1; simp at this; omega
    rw [List.getElem?_take, if_pos hi] at hx
    match i, hx with
    | 0, hx =>
      cases hx
      have hjj : ∀ j, j < 210 → mA s' 72 (210 * (((w + 1) % 20 + 20 - 0) % 20) + j) = mA s 55 j := fun j hj' => by
        rw [hj, if_pos (by omega), show 210 * (((w + 1) % 20 + 20 - 0) % 20) + j - 210 * ((w + 1) % 20) = j by omega]
      exact ⟨RNf.congr hn8 a5.1 hjj, RKf.congr a5.2.1 hjj⟩
    | i + 1, hx =>
      have hx' : (gUn q)[i]? = some x := hx
      have hsl : ((w + 1) % 20 + 20 - (i + 1)) % 20 = (w + 20 - i) % 20 := by omega
      have hne : (w + 20 - i) % 20 ≠ (w + 1) % 20 := by omega
      have hjj : ∀ j, j < 210 → mA s' 72 (210 * (((w + 1) % 20 + 20 - (i + 1)) % 20) + j) = mA s 72 (210 * ((w + 20 - i) % 20) + j) := fun j hj' => by
        rw [hsl, hj, if_neg (by omega)]
      exact ⟨RNf.congr hn8 (u3 i x hx').1 hjj, RKf.congr (u3 i x hx').2 hjj⟩
  refine Ct.of (by decide) (Nat.le_of_ble_eq_true rfl) rfl ?_
  refine r_ald0 (pc := 0) dX6_keeps_0 ?_
  refine r_ald0 (pc := 1) dX6_keeps_1 ?_
  refine m_getI hS (pc := 2) dX6_keeps_2 fl_X6_579 ?_
  refine Bd.eqI u2 ?_
  refine r_iconst (v := nI 1) (pc := 5) dX6_keeps_5 (by decide) ?_
  first | refine r_iaddN (pc := 6) dX6_keeps_6 ?_ | refine r_iaddJ (pc := 6) dX6_keeps_6 ?_ | refine r_iadd (pc := 6) dX6_keeps_6 ?_
  refine r_bipush (v := nI 20) (pc := 7) dX6_keeps_7 (by decide) ?_
  first | refine r_iremN (pc := 9) dX6_keeps_9 (by omega) (by omega) (by omega) ?_ | refine r_irem (pc := 9) dX6_keeps_9 (by decide) ?_
  refine m_putI hS (pc := 10) dX6_keeps_10 fl_X6_579 fw_X6_74 rfl rfl ?_
  refine r_iconst (v := nI 0) (pc := 13) dX6_keeps_13 (by decide) ?_
  refine r_ist1 (pc := 14) dX6_keeps_14 ?_
  refine keepLoop (s := s) hS (w := (w + 1) % 20) (by omega) (fun s' hj hf h74 => ?_) 210 0 _ (by omega) (fun j => by rw [if_neg (by omega)]; rfl) (Fr.tF Fr.rf (by decide)) rfl
  have h73 : mF s' 73 = nI (gUn q).length := (hf.1 73 (by decide)).trans u1
  have hf1 : Fr [73, 74] [] [72] [] s s' := hf.mono (by decide) (by decide) (by decide) (by decide)
  have hf2 : Fr [73, 74] [] [72] [] s (tF s' 73 (nI ((gUn q).length + 1))) := Fr.tF hf1 (by decide)
  refine r_ald0 (pc := 49) dX6_keeps_49 ?_
  refine m_getI hS (pc := 50) dX6_keeps_50 fl_X6_388 ?_
  refine Bd.eqI h73 ?_
  refine r_bipush (v := nI 20) (pc := 53) dX6_keeps_53 (by decide) ?_
  first | refine r_icmp_geN (pc := 55) (tgt := 68) dX6_keeps_55 (by decide) (by omega) (by omega) (fun h55 => ?_) (fun h55 => ?_) | refine r_icmp_ge (pc := 55) (tgt := 68) dX6_keeps_55 (by decide) (fun h55 => ?_) (fun h55 => ?_)
  · skip
    refine r_vret (pc := 68) dX6_keeps_68 ?_
    first | exact ⟨s', rfl, rfl, hfin s' hj hf1 h74 (by rw [h73]; congr 1; simp; omega), hf1⟩ | exact ⟨_, rfl, rfl, hfin _ hj hf2 h74 (by show nI ((gUn q).length + 1) = _; congr 1; simp; omega), hf2⟩
  · skip
    refine r_ald0 (pc := 58) dX6_keeps_58 ?_
    refine r_dup (pc := 59) dX6_keeps_59 rfl ?_
    refine m_getI hS (pc := 60) dX6_keeps_60 fl_X6_388 ?_
    refine Bd.eqI h73 ?_
    refine r_iconst (v := nI 1) (pc := 63) dX6_keeps_63 (by decide) ?_
    first | refine r_iaddN (pc := 64) dX6_keeps_64 ?_ | refine r_iaddJ (pc := 64) dX6_keeps_64 ?_ | refine r_iadd (pc := 64) dX6_keeps_64 ?_
    refine m_putI hS (pc := 65) dX6_keeps_65 fl_X6_388 fw_X6_73 rfl rfl ?_
    refine r_vret (pc := 68) dX6_keeps_68 ?_
    first | exact ⟨s', rfl, rfl, hfin s' hj hf1 h74 (by rw [h73]; congr 1; simp; omega), hf1⟩ | exact ⟨_, rfl, rfl, hfin _ hj hf2 h74 (by show nI ((gUn q).length + 1) = _; congr 1; simp; omega), hf2⟩
end M11
