set_option maxRecDepth 100000
/-! THE MODEL: a terrace is read -/
section M43
variable {g : GC} {M : MM} {o : Nat} {s s0 s' s1 s2 sB : MS} {M1 : MM} {q : Sg} {f : Nat → Nat} {n a x c pl w : Nat} {T : To} {Q : Option Value → MM → Prop}
def FX (s s' : MS) : Prop := Fr [1, 2, 3, 4, 5, 6, 10, 36, 37, 39, 46, 51, 52, 54, 102, 104, 105, 106] [] [42, 43, 44, 45, 48, 49, 50, 101, 103] [41] s s' ∧ (∀ j, 8 ≤ j → mA s' 43 j = mA s 43 j ∧ mA s' 44 j = mA s 44 j ∧ mB s' 41 j = mB s 41 j) ∧ (∀ j, 3 ≤ j → mA s' 48 j = mA s 48 j ∧ mA s' 49 j = mA s 49 j) ∧ ∀ j, 1600 ≤ j → mA s' 50 j = mA s 50 j
theorem FS.toX (h : FS s s') : FX s s' := ⟨h.1.mono (by decide) (by decide) (by decide) (by decide), h.2⟩
theorem FX.trans (h : FX s s') (h' : FX s' s2) : FX s s2 := ⟨h.1.trans h'.1, fun j hj => ⟨((h'.2.1 j hj).1).trans (h.2.1 j hj).1, ((h'.2.1 j hj).2.1).trans (h.2.1 j hj).2.1, ((h'.2.1 j hj).2.2).trans (h.2.1 j hj).2.2⟩, fun j hj => ⟨((h'.2.2.1 j hj).1).trans (h.2.2.1 j hj).1, ((h'.2.2.1 j hj).2).trans (h.2.2.1 j hj).2⟩, fun j hj => (h'.2.2.2 j hj).trans (h.2.2.2 j hj)⟩
theorem FX.of {fs gs as bs : List Nat} (hf : Fr fs gs as bs s s') (h1 : ∀ i ∈ fs, i ∈ ([1, 2, 3, 4, 5, 6, 10, 36, 37, 39, 46, 51, 52, 54, 102, 104, 105, 106] : List Nat)) (h2 : ∀ i ∈ gs, i ∈ ([] : List Nat)) (h3 : ∀ i ∈ as, i ∈ ([42, 45, 101, 103] : List Nat)) (h4 : ∀ i ∈ bs, i ∈ ([] : List Nat)) : FX s s' := by
  have A : ∀ i, i ∉ ([42, 45, 101, 103] : List Nat) → mA s' i = mA s i := fun i hi => hf.2.2.1 i (fun q => hi (h3 i q))
  have B : mB s' 41 = mB s 41 := hf.2.2.2 41 (fun q => nomatch (h4 41 q))
  refine ⟨hf.mono h1 h2 (fun i hi => ?_) (fun i hi => nomatch (h4 i hi)), fun j _ => ⟨congrFun (A 43 (by decide)) j, congrFun (A 44 (by decide)) j, congrFun B j⟩, fun j _ => ⟨congrFun (A 48 (by decide)) j, congrFun (A 49 (by decide)) j⟩, fun j _ => congrFun (A 50 (by decide)) j⟩
  have := h3 i hi
  simp only [List.mem_cons, List.not_mem_nil, or_false] at this ⊢
  omega
theorem RT.up {T : Te} (h : RT s T) (hf : FX s s') : RT s' T := by
  obtain ⟨t1, t2, t3, t4, t5, t6, t7, t8⟩ := h
  have hRC : ∀ w, RC s T w → RC s' T w := by
    intro w hr
    unfold RC at hr ⊢
    cases hc : cd T w with
    | none => rw [hc] at hr; exact ((hf.2.2.1 (3 + w) (by omega)).1).trans hr
    | some cs =>
      rw [hc] at hr
      obtain ⟨b, e, h1, h2, h3, h4, h5⟩ := hr
      exact ⟨b, e, ((hf.2.2.1 (3 + w) (by omega)).1).trans h1, ((hf.2.2.1 (3 + w) (by omega)).2).trans h2, h3, h4, hol_congr (fun i hi1 hi2 => hf.2.2.2 i (by omega)) h5⟩
  exact ⟨(hf.1.1 38 (by decide)).trans t1, (hf.1.1 40 (by decide)).trans t2, fun p hp => ((hf.2.1 (8 + p) (by omega)).1).trans (t3 p hp), fun p hp => ((hf.2.1 (8 + p) (by omega)).2.1).trans (t4 p hp), hRC 0 t5, hRC 1 t6, hRC 2 t7, (hf.1.1 47 (by decide)).trans t8⟩
theorem IM.fx (h : IM s q) (hf : FX s s') (h1 : mF s' 1 = nI 0) : IM s' (uTp q (gTp q) 0) := by
  obtain ⟨a1, a2, a3, a4, a5, a6, a7, a8, a9, a10⟩ := h
  exact ⟨⟨h1, fun j hj => by rw [hf.1.2.2.1 0 (by decide)]; exact a1.2 j hj⟩, IFt.fr a2 hf.1 (by decide), IRf.fr a3 hf.1 (by decide), ⟨a4.1.up hf, (hf.1.1 53 (by decide)).trans a4.2.1, fun p hp => ((hf.2.1 (8 + p) (by omega)).2.2).trans (a4.2.2 p hp)⟩, INw.fr a5 hf.1 (by decide), IUn.fr a6 hf.1 (by decide), IRw.fr a7 hf.1 (by decide), ISd.fr a8 hf.1 (by decide), IOu.fr a9 hf.1 (by decide), IWd.fr a10 hf.1 (by decide)⟩
theorem IM.flt {k : Nat} {p : Option Nat} (h : IM s q) : IM (tF (tF s 7 (nI k)) 8 (oI p)) (uFt q (k, p)) := by
  have hF : Fr [7, 8] [] [] [] s (tF (tF s 7 (nI k)) 8 (oI p)) := Fr.tF (Fr.tF Fr.rf (by decide)) (by decide)
  obtain ⟨a1, a2, a3, a4, a5, a6, a7, a8, a9, a10⟩ := h
  exact ⟨ITp.fr a1 hF (by decide), ⟨rfl, rfl⟩, IRf.fr a3 hF (by decide), ITe.fr a4 hF (by decide) (by decide) (by decide), INw.fr a5 hF (by decide), IUn.fr a6 hF (by decide), IRw.fr a7 hF (by decide), ISd.fr a8 hF (by decide), IOu.fr a9 hF (by decide), IWd.fr a10 hF (by decide)⟩
/-- a new terrace stands -/
theorem IM.sd (h : IM s q) (hSD : SD s' T) (hf : Fr [38, 40, 47, 53, 67, 73] [] [43, 44, 48, 49, 50, 55] [41] s s') : IM s' (uRw (uUn (uNw (uTe q (teO T, true)) (stO T, [])) []) []) := by
  obtain ⟨a1, a2, a3, a4, a5, a6, a7, a8, a9, a10⟩ := h
  obtain ⟨d1, d2, d3, d4, d5, d6, d7⟩ := hSD
  obtain ⟨u1, w, u2, u3, u4⟩ := a6
  exact ⟨ITp.fr a1 hf (by decide), IFt.fr a2 hf (by decide), IRf.fr a3 hf (by decide), ⟨d1, d2, d3⟩, ⟨d4, d5, (hf.1 64 (by decide)).trans a5.2.2⟩, ⟨d6, w, u2, (hf.1 74 (by decide)).trans u3, fun i x hx => (by cases i <;> cases hx)⟩, ⟨d7, fun i a b c hx => (by cases i <;> cases hx)⟩, ISd.fr a8 hf (by decide), IOu.fr a9 hf (by decide), IWd.fr a10 hf (by decide)⟩
theorem tr120B {e : Nat × Nat} {w1 : Option Value} (hS : ShM g M o) (hI : IM s q) (hf : FX s s1) (h1 : mF s1 1 = nI 0) (hB : BD s1 e) :
    Bd g yX6_terrace cX6_terrace 2 (some Jvm.ClassFile.FieldType.int) [] 11 0 0 (putM M o s1) 120 [some (.ref o), w1] [] (PM M o (uFt (uRf (uTp q (gTp q) 0) 1) (e.1, some e.2)) (.int (-1))) noX := by
  have hI1 := hI.fx hf h1
  have hr : mA s1 9 1 = nI (gRf q 1) := hI1.2.2.1 1 (by decide)
  have hI2 : IM (tF (tF (tA s1 9 1 (nI (gRf q 1 + 1))) 7 (nI e.1)) 8 (oI (some e.2))) (uFt (uRf (uTp q (gTp q) 0) 1) (e.1, some e.2)) := (hI1.ref (i := 1) (by decide) rfl).flt
  refine r_ald0 (pc := 120) dX6_terrace_120 ?_
  refine r_ald0 (pc := 121) dX6_terrace_121 ?_
  refine m_getI hS (pc := 122) dX6_terrace_122 fl_X6_237 ?_
  refine Bd.eqI (x' := nI e.1) hB.1 ?_
  refine m_putI hS (pc := 125) dX6_terrace_125 fl_X6_369 fw_X6_7 rfl rfl ?_
  refine r_ald0 (pc := 128) dX6_terrace_128 ?_
  refine r_ald0 (pc := 129) dX6_terrace_129 ?_
  refine m_getI hS (pc := 130) dX6_terrace_130 fl_X6_240 ?_
  refine Bd.eqI (x' := nI e.2) hB.2.1 ?_
  refine m_putI hS (pc := 133) dX6_terrace_133 fl_X6_13 fw_X6_8 rfl rfl ?_
  refine r_ald0 (pc := 136) dX6_terrace_136 ?_
  refine m_getI hS (pc := 137) dX6_terrace_137 fl_X6_237 ?_
  refine Bd.eqI (x' := nI e.1) hB.1 ?_
  refine r_if_eqN (pc := 140) (tgt := 155) dX6_terrace_140 (by decide) (by have := hB.2.2.2.1; omega) (fun h140 => ?_) (fun h140 => ?_)
  · skip
    exact absurd h140 (by have := hB.2.2.1; omega)
  · skip
    refine r_ald0 (pc := 143) dX6_terrace_143 ?_
    refine m_getR hS (pc := 144) dX6_terrace_144 fl_X6_17 ar9 ?_
    refine r_iconst (v := nI 1) (pc := 147) dX6_terrace_147 (by decide) ?_
    refine r_dup2 (pc := 148) dX6_terrace_148 rfl rfl ?_
    refine m_iald hS (pc := 149) dX6_terrace_149 ar9 (by omega) (by omega) ?_
    refine Bd.eqI (x' := nI (gRf q 1)) hr ?_
    refine r_iconst (v := nI 1) (pc := 150) dX6_terrace_150 (by decide) ?_
    first | refine r_iaddN (pc := 151) dX6_terrace_151 ?_ | refine r_iaddJ (pc := 151) dX6_terrace_151 ?_ | refine r_iadd (pc := 151) dX6_terrace_151 ?_
    refine m_iast hS (pc := 152) dX6_terrace_152 ar9 (by omega) (by omega) ?_
    refine r_iconst (v := -1) (pc := 153) dX6_terrace_153 (by decide) ?_
    refine r_iret (pc := 154) dX6_terrace_154 ?_
    exact ⟨_, rfl, rfl, hI2⟩
theorem tr120 {m b : Nat} {w1 : Option Value} (hS : ShM g M o) (hI : IM s q) (hf : FX s s1) (h1 : mF s1 1 = nI 0) (hR : RP s1 f n b) (hT : TM s1 T c) (hV : VT T) (hc : c ≤ 1600) (h52 : mF s1 52 = nI m) :
    Bd g yX6_terrace cX6_terrace 2 (some Jvm.ClassFile.FieldType.int) [] 11 0 0 (putM M o s1) 120 [some (.ref o), w1] [] (PM M o (uRw (uUn (uNw (uTe (uFt (uTp q (gTp q) 0) (0, none)) (teO T, true)) (stO T, [])) []) []) (.int (nI m))) noX := by
  have hI2 : IM (tF (tF s1 7 (nI 0)) 8 (oI none)) (uFt (uTp q (gTp q) 0) (0, none)) := (hI.fx hf h1).flt
  have hF : Fr [7, 8] [] [] [] s1 (tF (tF s1 7 (nI 0)) 8 (oI none)) := Fr.tF (Fr.tF Fr.rf (by decide)) (by decide)
  refine r_ald0 (pc := 120) dX6_terrace_120 ?_
  refine r_ald0 (pc := 121) dX6_terrace_121 ?_
  refine m_getI hS (pc := 122) dX6_terrace_122 fl_X6_237 ?_
  refine Bd.eqI (x' := nI 0) hR.2.1 ?_
  refine m_putI hS (pc := 125) dX6_terrace_125 fl_X6_369 fw_X6_7 rfl rfl ?_
  refine r_ald0 (pc := 128) dX6_terrace_128 ?_
  refine r_ald0 (pc := 129) dX6_terrace_129 ?_
  refine m_getI hS (pc := 130) dX6_terrace_130 fl_X6_240 ?_
  refine Bd.eqI (x' := oI none) hR.2.2.2.2 ?_
  refine m_putI hS (pc := 133) dX6_terrace_133 fl_X6_13 fw_X6_8 rfl rfl ?_
  refine r_ald0 (pc := 136) dX6_terrace_136 ?_
  refine m_getI hS (pc := 137) dX6_terrace_137 fl_X6_237 ?_
  refine Bd.eqI (x' := nI 0) hR.2.1 ?_
  first | refine r_if_eqZ (pc := 140) (tgt := 155) dX6_terrace_140 (by decide) (fun h140 => ?_) (fun h140 => ?_) | refine r_if_eqN (pc := 140) (tgt := 155) dX6_terrace_140 (by decide) (by omega) (fun h140 => ?_) (fun h140 => ?_) | refine r_if_eq (pc := 140) (tgt := 155) dX6_terrace_140 (by decide) (fun h140 => ?_) (fun h140 => ?_)
  · skip
    refine r_ald0 (pc := 155) dX6_terrace_155 ?_
    refine r_cV (pc := 156) dX6_terrace_156 cv_X6_372 hS.k (ct_X6_stands hS (hT.fr hF (by decide) (by decide) (by decide)) hV hc) rfl rfl (Nat.le_of_ble_eq_true rfl) (by decide) ?_
    rintro _ _ ⟨s9, rfl, rfl, hSD, hf9⟩
    refine r_ald0 (pc := 159) dX6_terrace_159 ?_
    refine m_getI hS (pc := 160) dX6_terrace_160 fl_X6_348 ?_
    refine Bd.eqI (x' := nI m) ((hf9.1 52 (by decide)).trans h52) ?_
    refine r_iret (pc := 163) dX6_terrace_163 ?_
    exact ⟨_, rfl, rfl, hI2.sd hSD hf9⟩
  · skip
    exact absurd rfl h140
/-- the loop over statements -/
theorem trLoop {w1 : Option Value} (hS : ShM g M o) (hI : IM s q) :
    ∀ (k m a c : Nat) (T : To) (s1 : MS), n < a + k → RP s1 f n a → TM s1 T c → c ≤ a → VT T → mF s1 52 = nI m → m ≤ 80 → mF s1 1 = nI 0 → FX s s1 →
    ∀ z, z = stmtsP f n k T m a → Bd g yX6_terrace cX6_terrace 2 (some Jvm.ClassFile.FieldType.int) [] 11 0 0 (putM M o s1) 98 [some (.ref o), w1] [] (match z with
      | .error e => PM M o (uFt (uRf (uTp q (gTp q) 0) 1) (e.1, some e.2)) (.int (-1))
      | .ok y => PM M o (uRw (uUn (uNw (uTe (uFt (uTp q (gTp q) 0) (0, none)) (teO y.1, true)) (stO y.1, [])) []) []) (.int (nI y.2))) noX := by
  intro k
  induction k with
  | zero => intro m a c T s1 hk hR; exact absurd hR.1.2.2.1 (by omega)
  | succ k ih =>
    intro m a c T s1 hk hR hT hc hV h52 hm h1 hf z hz
    have hn := hR.1.2.2.2.1
    have hlk := ct_X6_lookP hS hR
    have hp := skip_idem f n a
    have hsg := skip_ge f n a
    have hsl := skip_le (f := f) hR.1.2.2.1
    have hz : z = if lookO f n a = none then .ok (T, m) else bnd (stmtP f n T m (skip f n a)) (fun y => stmtsP f n k y.1 (m + 1) y.2) := hz
    cases hl : lookO f n a with
    | none =>
      rw [if_pos hl] at hz
      subst hz
      rw [hl] at hlk
      refine r_ald0 (pc := 98) dX6_terrace_98 ?_
      refine m_getI hS (pc := 99) dX6_terrace_99 fl_X6_237 ?_
      refine Bd.eqI hR.2.1 ?_
      first | refine r_if_neZ (pc := 102) (tgt := 120) dX6_terrace_102 (by decide) (fun h102 => ?_) (fun h102 => ?_) | refine r_if_neN (pc := 102) (tgt := 120) dX6_terrace_102 (by decide) (by omega) (fun h102 => ?_) (fun h102 => ?_) | refine r_if_ne (pc := 102) (tgt := 120) dX6_terrace_102 (by decide) (fun h102 => ?_) (fun h102 => ?_)
      · skip
        exact absurd rfl h102
      · skip
        refine r_ald0 (pc := 105) dX6_terrace_105 ?_
        refine r_cV (pc := 106) dX6_terrace_106 cv_X6_249 hS.k hlk rfl rfl (Nat.le_of_ble_eq_true rfl) (by decide) ?_
        rintro _ _ ⟨s2, rfl, rfl, hR2, hf2⟩
        refine r_iconst (v := -1) (pc := 109) dX6_terrace_109 (by decide) ?_
        refine r_icmp_eq (pc := 110) (tgt := 120) dX6_terrace_110 (by decide) (fun h110 => ?_) (fun h110 => ?_)
        · skip
          exact tr120 hS hI (hf.trans (FX.of hf2 (by decide) (by decide) (by decide) (by decide))) ((hf2.1 1 (by decide)).trans h1) hR2 (hT.fr hf2 (by decide) (by decide) (by decide)) hV (by omega) ((hf2.1 52 (by decide)).trans h52)
        · skip
          exact absurd rfl h110
    | some b =>
      have hb := (lookO_lt hR hl).1
      rw [if_neg (by rw [hl]; intro q; cases q)] at hz
      rw [hl] at hlk
      rw [show oI (some b) = nI b from rfl] at hlk
      have hst : ∀ {s2 : MS}, RP s2 f n (skip f n a) → Fr [2] [] [] [] s1 s2 → _ := fun {s2} hR2 hf2 => ct_X6_statementTold (m := m) hS hp hR2 (hT.fr hf2 (by decide) (by decide) (by decide)) hV (by omega) ((hf2.1 52 (by decide)).trans h52) hm
      cases hs : stmtP f n T m (skip f n a) with
      | error e =>
        rw [hs, bnd_er] at hz
        rw [hs] at hst
        subst hz
        refine r_ald0 (pc := 98) dX6_terrace_98 ?_
        refine m_getI hS (pc := 99) dX6_terrace_99 fl_X6_237 ?_
        refine Bd.eqI hR.2.1 ?_
        first | refine r_if_neZ (pc := 102) (tgt := 120) dX6_terrace_102 (by decide) (fun h102 => ?_) (fun h102 => ?_) | refine r_if_neN (pc := 102) (tgt := 120) dX6_terrace_102 (by decide) (by omega) (fun h102 => ?_) (fun h102 => ?_) | refine r_if_ne (pc := 102) (tgt := 120) dX6_terrace_102 (by decide) (fun h102 => ?_) (fun h102 => ?_)
        · skip
          exact absurd rfl h102
        · skip
          refine r_ald0 (pc := 105) dX6_terrace_105 ?_
          refine r_cV (pc := 106) dX6_terrace_106 cv_X6_249 hS.k hlk rfl rfl (Nat.le_of_ble_eq_true rfl) (by decide) ?_
          rintro _ _ ⟨s2, rfl, rfl, hR2, hf2⟩
          refine r_iconst (v := -1) (pc := 109) dX6_terrace_109 (by decide) ?_
          refine r_icmp_eq (pc := 110) (tgt := 120) dX6_terrace_110 (by decide) (fun h110 => ?_) (fun h110 => ?_)
          · skip
            exact absurd h110 (nI_m1 (by omega))
          · skip
            refine r_ald0 (pc := 113) dX6_terrace_113 ?_
            refine r_cV (pc := 114) dX6_terrace_114 cv_X6_366 hS.k (hst hR2 hf2) rfl rfl (Nat.le_of_ble_eq_true rfl) (by decide) ?_
            rintro _ _ ⟨s3, rfl, rfl, hf3, hB⟩
            have hB : BD s3 e := hB
            refine r_goto (pc := 117) (tgt := 98) dX6_terrace_117 (by decide) ?_
            refine r_ald0 (pc := 98) dX6_terrace_98 ?_
            refine m_getI hS (pc := 99) dX6_terrace_99 fl_X6_237 ?_
            refine r_if_ne (pc := 102) (tgt := 120) dX6_terrace_102 (by decide) (fun h102 => ?_) (fun h102 => absurd h102 hB.ne)
            exact tr120B hS hI (hf.trans ((FX.of hf2 (by decide) (by decide) (by decide) (by decide)).trans hf3.toX)) ((hf3.1.1 1 (by decide)).trans ((hf2.1 1 (by decide)).trans h1)) hB
      | ok y =>
        rw [hs, bnd_ok] at hz
        rw [hs] at hst
        obtain ⟨y1, y2, y3, y4⟩ := stmtP_ok hn hV hs
        refine r_ald0 (pc := 98) dX6_terrace_98 ?_
        refine m_getI hS (pc := 99) dX6_terrace_99 fl_X6_237 ?_
        refine Bd.eqI hR.2.1 ?_
        first | refine r_if_neZ (pc := 102) (tgt := 120) dX6_terrace_102 (by decide) (fun h102 => ?_) (fun h102 => ?_) | refine r_if_neN (pc := 102) (tgt := 120) dX6_terrace_102 (by decide) (by omega) (fun h102 => ?_) (fun h102 => ?_) | refine r_if_ne (pc := 102) (tgt := 120) dX6_terrace_102 (by decide) (fun h102 => ?_) (fun h102 => ?_)
        · skip
          exact absurd rfl h102
        · skip
          refine r_ald0 (pc := 105) dX6_terrace_105 ?_
          refine r_cV (pc := 106) dX6_terrace_106 cv_X6_249 hS.k hlk rfl rfl (Nat.le_of_ble_eq_true rfl) (by decide) ?_
          rintro _ _ ⟨s2, rfl, rfl, hR2, hf2⟩
          refine r_iconst (v := -1) (pc := 109) dX6_terrace_109 (by decide) ?_
          refine r_icmp_eq (pc := 110) (tgt := 120) dX6_terrace_110 (by decide) (fun h110 => ?_) (fun h110 => ?_)
          · skip
            exact absurd h110 (nI_m1 (by omega))
          · skip
            refine r_ald0 (pc := 113) dX6_terrace_113 ?_
            refine r_cV (pc := 114) dX6_terrace_114 cv_X6_366 hS.k (hst hR2 hf2) rfl rfl (Nat.le_of_ble_eq_true rfl) (by decide) ?_
            rintro _ _ ⟨s3, rfl, rfl, hf3, hR3, ⟨c3, hT3, hc3⟩, h523⟩
            refine r_goto (pc := 117) (tgt := 98) dX6_terrace_117 (by decide) ?_
            exact ih (m + 1) y.2 c3 y.1 s3 (by omega) hR3 hT3 hc3 y1 h523 (by omega) ((hf3.1.1 1 (by decide)).trans ((hf2.1 1 (by decide)).trans h1)) (hf.trans ((FX.of hf2 (by decide) (by decide) (by decide) (by decide)).trans hf3.toX)) z hz
theorem trTh (hS : ShM g M o) (hk : ∀ s2 w1, (∀ j, j < 64 → mA s2 45 j = nI 5) → Fr [] [] [45] [] s s2 → Bd g yX6_terrace cX6_terrace 2 (some Jvm.ClassFile.FieldType.int) [] 11 0 0 (putM M o s2) 64 [some (.ref o), w1] [] Q noX) :
    ∀ (m i : Nat) (s1 : MS), i + m = 64 → (∀ j, j < i → mA s1 45 j = nI 5) → Fr [] [] [45] [] s s1 → Bd g yX6_terrace cX6_terrace 2 (some Jvm.ClassFile.FieldType.int) [] 11 0 0 (putM M o s1) 45 [some (.ref o), some (.int (nI i))] [] Q noX := by
  intro m
  induction m with
  | zero =>
    intro i s1 hi h1 h3
    have hi : i = 64 := hi
    subst hi
    refine r_ild1 (pc := 45) dX6_terrace_45 ?_
    refine r_bipush (v := nI 64) (pc := 46) dX6_terrace_46 (by decide) ?_
    first | refine r_icmp_geN (pc := 48) (tgt := 64) dX6_terrace_48 (by decide) (by omega) (by omega) (fun h48 => ?_) (fun h48 => ?_) | refine r_icmp_ge (pc := 48) (tgt := 64) dX6_terrace_48 (by decide) (fun h48 => ?_) (fun h48 => ?_)
    · skip
      exact hk s1 _ h1 h3
    · skip
      exact absurd h48 (by omega)
  | succ m ih =>
    intro i s1 hi h1 h3
    have hih := ih (i + 1) (tA s1 45 i (nI 5)) (by omega) (fun j hj => by
      rw [mA_tA]
      by_cases e : j = i
      · rw [if_pos ⟨rfl, e⟩]
      · rw [if_neg (fun q => e q.2)]; exact h1 j (by omega)) (Fr.tA h3 (by decide))
    refine r_ild1 (pc := 45) dX6_terrace_45 ?_
    refine r_bipush (v := nI 64) (pc := 46) dX6_terrace_46 (by decide) ?_
    first | refine r_icmp_geN (pc := 48) (tgt := 64) dX6_terrace_48 (by decide) (by omega) (by omega) (fun h48 => ?_) (fun h48 => ?_) | refine r_icmp_ge (pc := 48) (tgt := 64) dX6_terrace_48 (by decide) (fun h48 => ?_) (fun h48 => ?_)
    · skip
      exact absurd h48 (by omega)
    · skip
      refine r_ald0 (pc := 51) dX6_terrace_51 ?_
      refine m_getR hS (pc := 52) dX6_terrace_52 fl_X6_109 ar45 ?_
      refine r_ild1 (pc := 55) dX6_terrace_55 ?_
      refine r_iconst (v := nI 5) (pc := 56) dX6_terrace_56 (by decide) ?_
      refine m_iast hS (pc := 57) dX6_terrace_57 ar45 (by omega) (by omega) ?_
      first | refine r_iinc1N (j := 1) (pc := 58) dX6_terrace_58 rfl ?_ | refine r_iinc1 (pc := 58) dX6_terrace_58 ?_
      refine r_goto (pc := 61) (tgt := 45) dX6_terrace_61 (by decide) ?_
      exact hih
theorem trCf (hS : ShM g M o) (hk : ∀ s2 w1, (∀ j, j < 3 → mA s2 48 j = -1) → (∀ j, 3 ≤ j → mA s2 48 j = mA s 48 j) → Fr [] [] [48] [] s s2 → Bd g yX6_terrace cX6_terrace 2 (some Jvm.ClassFile.FieldType.int) [] 11 0 0 (putM M o s2) 84 [some (.ref o), w1] [] Q noX) :
    ∀ (m i : Nat) (s1 : MS), i + m = 3 → (∀ j, j < i → mA s1 48 j = -1) → (∀ j, 3 ≤ j → mA s1 48 j = mA s 48 j) → Fr [] [] [48] [] s s1 → Bd g yX6_terrace cX6_terrace 2 (some Jvm.ClassFile.FieldType.int) [] 11 0 0 (putM M o s1) 66 [some (.ref o), some (.int (nI i))] [] Q noX := by
  intro m
  induction m with
  | zero =>
    intro i s1 hi h1 h2 h3
    have hi : i = 3 := hi
    subst hi
    refine r_ild1 (pc := 66) dX6_terrace_66 ?_
    refine r_iconst (v := nI 3) (pc := 67) dX6_terrace_67 (by decide) ?_
    first | refine r_icmp_geN (pc := 68) (tgt := 84) dX6_terrace_68 (by decide) (by omega) (by omega) (fun h68 => ?_) (fun h68 => ?_) | refine r_icmp_ge (pc := 68) (tgt := 84) dX6_terrace_68 (by decide) (fun h68 => ?_) (fun h68 => ?_)
    · skip
      exact hk s1 _ h1 h2 h3
    · skip
      exact absurd h68 (by omega)
  | succ m ih =>
    intro i s1 hi h1 h2 h3
    have hih := ih (i + 1) (tA s1 48 i (-1)) (by omega) (fun j hj => by
      rw [mA_tA]
      by_cases e : j = i
      · rw [if_pos ⟨rfl, e⟩]
      · rw [if_neg (fun q => e q.2)]; exact h1 j (by omega)) (fun j hj => by rw [mA_tA, if_neg (by omega)]; exact h2 j hj) (Fr.tA h3 (by decide))
    refine r_ild1 (pc := 66) dX6_terrace_66 ?_
    refine r_iconst (v := nI 3) (pc := 67) dX6_terrace_67 (by decide) ?_
    first | refine r_icmp_geN (pc := 68) (tgt := 84) dX6_terrace_68 (by decide) (by omega) (by omega) (fun h68 => ?_) (fun h68 => ?_) | refine r_icmp_ge (pc := 68) (tgt := 84) dX6_terrace_68 (by decide) (fun h68 => ?_) (fun h68 => ?_)
    · skip
      exact absurd h68 (by omega)
    · skip
      refine r_ald0 (pc := 71) dX6_terrace_71 ?_
      refine m_getR hS (pc := 72) dX6_terrace_72 fl_X6_112 ar48 ?_
      refine r_ild1 (pc := 75) dX6_terrace_75 ?_
      refine r_iconst (v := -1) (pc := 76) dX6_terrace_76 (by decide) ?_
      refine m_iast hS (pc := 77) dX6_terrace_77 ar48 (by omega) (by omega) ?_
      first | refine r_iinc1N (j := 1) (pc := 78) dX6_terrace_78 rfl ?_ | refine r_iinc1 (pc := 78) dX6_terrace_78 ?_
      refine r_goto (pc := 81) (tgt := 66) dX6_terrace_81 (by decide) ?_
      exact hih
theorem VT0 {H : Nat} (h : 2 ≤ H ∧ H ≤ 9) : VT (To0 H) := ⟨h.1, h.2, (show 0 ≤ 8 by decide), fun e he => (nomatch he), fun _ _ => (show 5 ≤ 9 by decide), (show 0 ≤ 100 by decide), fun w _ cs hc => by cases hc⟩
theorem pm_terrace (hS : ShM g M o) (hI : IM s q) (hG : GI q) : Ct g yX6_terrace cX6_terrace 2 (some Jvm.ClassFile.FieldType.int) 11 0 0 [.ref o] (putM M o s) (PM M o (terraceQ q).2 (.int (terraceQ q).1)) noX := by
  have hn := hG.1
  have hf256 := hG.2.1
  have hTp := hI.1
  have hW := hI.2.2.2.2.2.2.2.2.2
  refine Ct.of (by decide) (Nat.le_of_ble_eq_true rfl) rfl ?_
  refine Bd.post (Q' := match allP (gTp q) (gTd q) with
      | .error e => PM M o (uFt (uRf (uTp q (gTp q) 0) 1) (e.1, some e.2)) (.int (-1))
      | .ok y => PM M o (uRw (uUn (uNw (uTe (uFt (uTp q (gTp q) 0) (0, none)) (teO y.1, true)) (stO y.1, [])) []) []) (.int (nI y.2))) ?_ (fun _ _ h => h) ?_
  · intro v M' h
    unfold terraceQ
    cases hz : allP (gTp q) (gTd q) with
    | error e => rw [hz] at h; exact h
    | ok y => rw [hz] at h; exact h
  · have key : ∀ s0 : MS, mF s0 1 = nI 0 → mF s0 3 = nI (gTd q) → mF s0 2 = nI 0 → mF s0 4 = -1 → mF s0 5 = nI 0 → mF s0 6 = -1 → mF s0 51 = nI 0 → mF s0 39 = nI 0 → Fr [1, 2, 3, 4, 5, 6, 39, 51] [] [] [] s s0 → Bd g yX6_terrace cX6_terrace 2 (some Jvm.ClassFile.FieldType.int) [] 11 0 0 (putM M o s0) 45 [some (.ref o), some (.int (nI 0))] [] (match allP (gTp q) (gTd q) with
      | .error e => PM M o (uFt (uRf (uTp q (gTp q) 0) 1) (e.1, some e.2)) (.int (-1))
      | .ok y => PM M o (uRw (uUn (uNw (uTe (uFt (uTp q (gTp q) 0) (0, none)) (teO y.1, true)) (stO y.1, [])) []) []) (.int (nI y.2))) noX := by
      intro s0 k1 k3 k2 k4 k5 k6 k51 k39 hF0
      refine trTh (s := s0) hS (fun sa wa ha1 ha3 => ?_) 64 0 s0 (by omega) (fun j hj => absurd hj (Nat.not_lt_zero j)) Fr.rf
      refine r_iconst (v := nI 0) (pc := 64) dX6_terrace_64 (by decide) ?_
      refine r_ist1 (pc := 65) dX6_terrace_65 ?_
      refine trCf (s := sa) hS (fun sb wb hb1 hb2 hb3 => ?_) 3 0 sa (by omega) (fun j hj => absurd hj (Nat.not_lt_zero j)) (fun j _ => rfl) Fr.rf
      refine r_ald0 (pc := 84) dX6_terrace_84 ?_
      refine r_iconst (v := nI 0) (pc := 85) dX6_terrace_85 (by decide) ?_
      refine m_putI hS (pc := 86) dX6_terrace_86 fl_X6_360 fw_X6_46 rfl rfl ?_
      have hFb : Fr [46] [] [45, 48] [] s0 (tF sb 46 (nI 0)) := Fr.tF ((ha3.mono (by decide) (by decide) (by decide) (by decide)).trans (hb3.mono (by decide) (by decide) (by decide) (by decide))) (by decide)
      have hRP : RP (tF sb 46 (nI 0)) (gTp q) (gTd q) 0 := by
        refine ⟨⟨(hFb.1 3 (by decide)).trans k3, (hFb.1 2 (by decide)).trans k2, Nat.zero_le _, hn, fun j hj => ?_, hf256⟩, (hFb.1 5 (by decide)).trans k5, ⟨none, (hFb.1 4 (by decide)).trans k4, fun x hx => (by cases hx), ⟨fun q => (by cases q), fun q => (by cases q)⟩⟩, ?_, (hFb.1 6 (by decide)).trans k6⟩
        · rw [hFb.2.2.1 0 (by decide), hF0.2.2.1 0 (by decide)]; exact hTp.2 j hj
        · exact (hW.fr hF0 (by decide)).fr hFb (by decide)
      have hX : FX s (tF sb 46 (nI 0)) := by
        refine ⟨(hF0.mono (by decide) (by decide) (by decide) (by decide)).trans (hFb.mono (by decide) (by decide) (by decide) (by decide)), fun j hj => ⟨?_, ?_, ?_⟩, fun j hj => ⟨?_, ?_⟩, fun j hj => ?_⟩
        · rw [hFb.2.2.1 43 (by decide), hF0.2.2.1 43 (by decide)]
        · rw [hFb.2.2.1 44 (by decide), hF0.2.2.1 44 (by decide)]
        · rw [hFb.2.2.2 41 (by decide), hF0.2.2.2 41 (by decide)]
        · show mA sb 48 j = _
          rw [hb2 j hj, ha3.2.2.1 48 (by decide), hF0.2.2.1 48 (by decide)]
        · rw [hFb.2.2.1 49 (by decide), hF0.2.2.1 49 (by decide)]
        · rw [hFb.2.2.1 50 (by decide), hF0.2.2.1 50 (by decide)]
      have hb45 : ∀ j, j < 64 → mA (tF sb 46 (nI 0)) 45 j = nI 5 := fun j hj => by
        show mA sb 45 j = _
        rw [hb3.2.2.1 45 (by decide)]; exact ha1 j hj
      have hb48 : ∀ j, j < 3 → mA (tF sb 46 (nI 0)) 48 j = -1 := fun j hj => hb1 j hj
      have g1 : mF (tF sb 46 (nI 0)) 1 = nI 0 := (hFb.1 1 (by decide)).trans k1
      have g39 : mF (tF sb 46 (nI 0)) 39 = nI 0 := (hFb.1 39 (by decide)).trans k39
      have g51 : mF (tF sb 46 (nI 0)) 51 = nI 0 := (hFb.1 51 (by decide)).trans k51
      have g46 : mF (tF sb 46 (nI 0)) 46 = nI 0 := rfl
      generalize tF sb 46 (nI 0) = sc at hRP hX hb45 hb48 g1 g39 g51 g46
      have htt := ct_X6_terraceTold hS hRP
      unfold allP
      cases hh : headP (gTp q) (gTd q) with
      | error e =>
        rw [hh] at htt
        rw [bnd_er]
        refine r_ald0 (pc := 89) dX6_terrace_89 ?_
        refine r_cV (pc := 90) dX6_terrace_90 cv_X6_363 hS.k htt rfl rfl (Nat.le_of_ble_eq_true rfl) (by decide) ?_
        rintro _ _ ⟨sd, rfl, rfl, hB, hfd⟩
        have hB : BD sd e := hB
        refine r_ald0 (pc := 93) dX6_terrace_93 ?_
        refine r_iconst (v := nI 1) (pc := 94) dX6_terrace_94 (by decide) ?_
        refine m_putI hS (pc := 95) dX6_terrace_95 fl_X6_348 fw_X6_52 rfl rfl ?_
        refine r_ald0 (pc := 98) dX6_terrace_98 ?_
        refine m_getI hS (pc := 99) dX6_terrace_99 fl_X6_237 ?_
        refine r_if_ne (pc := 102) (tgt := 120) dX6_terrace_102 (by decide) (fun h102 => ?_) (fun h102 => ?_)
        · skip
          exact tr120B hS hI (hX.trans ((FX.of hfd (by decide) (by decide) (by decide) (by decide)).trans (FX.of (fs := [52]) (gs := []) (as := []) (bs := []) (Fr.tF Fr.rf (by decide)) (by decide) (by decide) (by decide) (by decide)))) ((hfd.1 1 (by decide)).trans g1) hB
        · skip
          exact absurd h102 hB.ne
      | ok y =>
        rw [hh] at htt
        rw [bnd_ok]
        have hH : 2 ≤ y.1 ∧ y.1 ≤ 9 := by
          unfold headP at hh
          obtain ⟨u, hu, hh⟩ := bnd_some hh
          obtain ⟨v, hv, hh⟩ := bnd_some hh
          obtain ⟨d, hd, hh⟩ := bnd_some hh
          have := numP_ok hv
          cases hh
          exact this.2.2.2
        refine r_ald0 (pc := 89) dX6_terrace_89 ?_
        refine r_cV (pc := 90) dX6_terrace_90 cv_X6_363 hS.k htt rfl rfl (Nat.le_of_ble_eq_true rfl) (by decide) ?_
        rintro _ _ ⟨sd, rfl, rfl, ⟨hRd, h37⟩, hfd⟩
        refine r_ald0 (pc := 93) dX6_terrace_93 ?_
        refine r_iconst (v := nI 1) (pc := 94) dX6_terrace_94 (by decide) ?_
        refine m_putI hS (pc := 95) dX6_terrace_95 fl_X6_348 fw_X6_52 rfl rfl ?_
        have hTd : TM (tF sd 52 (nI 1)) (To0 y.1) 0 := ⟨h37, (hfd.1 39 (by decide)).trans g39, fun k hk => absurd hk (Nat.not_lt_zero k), fun p hp r hr => by show mA sd 45 _ = nI 5; rw [hfd.2.2.1 45 (by decide)]; exact hb45 _ (by omega), (hfd.1 46 (by decide)).trans g46, (hfd.1 51 (by decide)).trans g51, fun w hw => by show mA sd 48 w = -1; rw [hfd.2.2.1 48 (by decide)]; exact hb48 w hw⟩
        exact trLoop hS hI _ 1 y.2 0 (To0 y.1) (tF sd 52 (nI 1)) (by omega) (hRd.fr (fs := [52]) (gs := []) (as := []) (bs := []) (Fr.tF Fr.rf (by decide)) (by decide) (by decide)) hTd (Nat.zero_le _) (VT0 hH) rfl (by decide) ((hfd.1 1 (by decide)).trans g1) (hX.trans ((FX.of hfd (by decide) (by decide) (by decide) (by decide)).trans (FX.of (fs := [52]) (gs := []) (as := []) (bs := []) (Fr.tF Fr.rf (by decide)) (by decide) (by decide) (by decide) (by decide)))) _ rfl
    refine r_ald0 (pc := 0) dX6_terrace_0 ?_
    refine r_ald0 (pc := 1) dX6_terrace_1 ?_
    refine m_getI hS (pc := 2) dX6_terrace_2 fl_X6_234 ?_
    refine Bd.eqI hTp.1 ?_
    refine m_putI hS (pc := 5) dX6_terrace_5 fl_X6_246 fw_X6_3 rfl rfl ?_
    refine r_ald0 (pc := 8) dX6_terrace_8 ?_
    refine r_iconst (v := nI 0) (pc := 9) dX6_terrace_9 (by decide) ?_
    refine m_putI hS (pc := 10) dX6_terrace_10 fl_X6_234 fw_X6_1 rfl rfl ?_
    refine r_ald0 (pc := 13) dX6_terrace_13 ?_
    refine r_iconst (v := nI 0) (pc := 14) dX6_terrace_14 (by decide) ?_
    refine m_putI hS (pc := 15) dX6_terrace_15 fl_X6_243 fw_X6_2 rfl rfl ?_
    refine r_ald0 (pc := 18) dX6_terrace_18 ?_
    refine r_iconst (v := -1) (pc := 19) dX6_terrace_19 (by decide) ?_
    refine m_putI hS (pc := 20) dX6_terrace_20 fl_X6_257 fw_X6_4 rfl rfl ?_
    refine r_ald0 (pc := 23) dX6_terrace_23 ?_
    refine r_iconst (v := nI 0) (pc := 24) dX6_terrace_24 (by decide) ?_
    refine m_putI hS (pc := 25) dX6_terrace_25 fl_X6_237 fw_X6_5 rfl rfl ?_
    refine r_ald0 (pc := 28) dX6_terrace_28 ?_
    refine r_iconst (v := -1) (pc := 29) dX6_terrace_29 (by decide) ?_
    refine m_putI hS (pc := 30) dX6_terrace_30 fl_X6_240 fw_X6_6 rfl rfl ?_
    refine r_ald0 (pc := 33) dX6_terrace_33 ?_
    refine r_iconst (v := nI 0) (pc := 34) dX6_terrace_34 (by decide) ?_
    refine m_putI hS (pc := 35) dX6_terrace_35 fl_X6_345 fw_X6_51 rfl rfl ?_
    refine r_ald0 (pc := 38) dX6_terrace_38 ?_
    refine r_iconst (v := nI 0) (pc := 39) dX6_terrace_39 (by decide) ?_
    refine m_putI hS (pc := 40) dX6_terrace_40 fl_X6_298 fw_X6_39 rfl rfl ?_
    refine r_iconst (v := nI 0) (pc := 43) dX6_terrace_43 (by decide) ?_
    refine r_ist1 (pc := 44) dX6_terrace_44 ?_
    exact key _ rfl rfl rfl rfl rfl rfl rfl rfl (Fr.tF (Fr.tF (Fr.tF (Fr.tF (Fr.tF (Fr.tF (Fr.tF (Fr.tF Fr.rf (by decide)) (by decide)) (by decide)) (by decide)) (by decide)) (by decide)) (by decide)) (by decide))
end M43
