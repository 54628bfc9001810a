set_option maxRecDepth 100000
/-! THE MODEL: sums -/
section M35
variable {g : GC} {M : MM} {o : Nat} {s s' sB : MS} {M1 : MM} {q : Sg} {f : Nat → Nat} {n a x : Nat}
def SuQ (f : Nat → Nat) (n : Nat) (B : List Nat) (s' : MS) : Ou → Prop
  | .error e => bQ s' e
  | .ok z => RP s' f n z.1 ∧ RQ s' z.2.1 B z.2.2
abbrev FR (s s' : MS) : Prop := Fr [2, 4, 5, 6, 10, 102, 104, 105, 106] [] [101, 103] [] s s'
theorem fr106 {e : Nat} (h : FR s s') (h0 : mF s 106 = nI e) : FQ s (tF s' 106 (nI e)) := by
  refine ⟨fun i hi => ?_, h.2.1, h.2.2.1, h.2.2.2⟩
  rw [mF_tF]
  by_cases e1 : i = 106
  · rw [if_pos e1, e1, h0]
  · rw [if_neg e1]
    exact h.1 i (fun q => by
      simp only [List.mem_cons, List.not_mem_nil, or_false] at q hi
      omega)
theorem RP.t106 {v : Int32} (h : RP s f n a) : RP (tF s 106 v) f n a := h.fr (fs := [106]) (gs := []) (as := []) (bs := []) (Fr.tF Fr.rf (by decide)) (by decide) (by decide)
theorem RQ.t106 {cs W : List Nat} {op : Nat} {v : Int32} (h : RQ s cs W op) : RQ (tF s 106 v) cs W op := h.fr (fs := [106]) (gs := []) (as := []) (bs := []) (Fr.tF Fr.rf (by decide)) (by decide) (by decide)
theorem bQ.t106 {e : Nat × Nat} {v : Int32} (h : bQ s e) : bQ (tF s 106 v) e := ⟨h.1, h.2⟩
theorem sums78 {B : List Nat} {r : Ou} {e0 : Nat} {s1 : MS} {w2 : Option Value} (hS : ShM g M o) (h0 : mF s 106 = nI e0) (hQ : SuQ f n B s1 r) (hf : FR s s1) :
    Bd g yX6_qSums cX6_qSums 3 none [] 6 0 0 (putM M o s1) 78 [some (.ref o), some (.int (nI e0)), w2] [] (QM M o (fun v s' => v = none ∧ FQ s s' ∧ SuQ f n B s' r)) noX := by
  refine r_ald0 (pc := 78) dX6_qSums_78 ?_
  refine r_ild1 (pc := 79) dX6_qSums_79 ?_
  refine m_putI hS (pc := 80) dX6_qSums_80 fl_X6_336 fw_X6_106 rfl rfl ?_
  refine r_vret (pc := 83) dX6_qSums_83 ?_
  refine ⟨_, rfl, rfl, fr106 hf h0, ?_⟩
  cases r with
  | error e => exact bQ.t106 hQ
  | ok z => exact ⟨hQ.1.t106, hQ.2.t106⟩
theorem sumsBad {B : List Nat} {r : Ou} {e0 : Nat} {e : Nat × Nat} {s1 : MS} {w2 : Option Value} (hS : ShM g M o) (h0 : mF s 106 = nI e0) (hr : r = .error e) (hB : bQ s1 e) (hf : FR s s1) :
    Bd g yX6_qSums cX6_qSums 3 none [] 6 0 0 (putM M o s1) 53 [some (.ref o), some (.int (nI e0)), w2] [] (QM M o (fun v s' => v = none ∧ FQ s s' ∧ SuQ f n B s' r)) noX := by
  subst hr
  refine r_ald0 (pc := 53) dX6_qSums_53 ?_
  refine m_getI hS (pc := 54) dX6_qSums_54 fl_X6_237 ?_
  refine r_if_ne (pc := 57) (tgt := 78) dX6_qSums_57 (by decide) (fun h57 => ?_) (fun h57 => ?_)
  · skip
    exact sums78 hS h0 hB hf
  · skip
    exact absurd h57 hB.1.ne
theorem sumsDrop {B : List Nat} {op p e0 : Nat} {w2 : Option Value} (hS : ShM g M o) (h0 : mF s 106 = nI e0) :
    ∀ (V cs : List Nat) (s1 : MS), RP s1 f n p → RQ s1 cs (V ++ B) op → mF s1 106 = nI B.length → FR s s1 → Bd g yX6_qSums cX6_qSums 3 none [] 6 0 0 (putM M o s1) 53 [some (.ref o), some (.int (nI e0)), w2] [] (QM M o (fun v s' => v = none ∧ FQ s s' ∧ SuQ f n B s' (.ok (p, cs ++ V, op)))) noX := by
  intro V
  induction V with
  | nil =>
    intro cs s1 hR hQ h106 hf
    rw [List.append_nil]
    have h3 : mF s1 104 = nI B.length := hQ.2.2.1
    have h7 : cs.length + B.length ≤ 1601 := hQ.2.2.2.2.2.2
    refine r_ald0 (pc := 53) dX6_qSums_53 ?_
    refine m_getI hS (pc := 54) dX6_qSums_54 fl_X6_237 ?_
    refine Bd.eqI hR.2.1 ?_
    first | refine r_if_neZ (pc := 57) (tgt := 78) dX6_qSums_57 (by decide) (fun h57 => ?_) (fun h57 => ?_) | refine r_if_neN (pc := 57) (tgt := 78) dX6_qSums_57 (by decide) (by omega) (fun h57 => ?_) (fun h57 => ?_) | refine r_if_ne (pc := 57) (tgt := 78) dX6_qSums_57 (by decide) (fun h57 => ?_) (fun h57 => ?_)
    · skip
      exact absurd rfl h57
    · skip
      refine r_ald0 (pc := 60) dX6_qSums_60 ?_
      refine m_getI hS (pc := 61) dX6_qSums_61 fl_X6_330 ?_
      refine Bd.eqI h3 ?_
      refine r_ald0 (pc := 64) dX6_qSums_64 ?_
      refine m_getI hS (pc := 65) dX6_qSums_65 fl_X6_336 ?_
      refine Bd.eqI h106 ?_
      first | refine r_icmp_leN (pc := 68) (tgt := 78) dX6_qSums_68 (by decide) (by omega) (by omega) (fun h68 => ?_) (fun h68 => ?_) | refine r_icmp_le (pc := 68) (tgt := 78) dX6_qSums_68 (by decide) (fun h68 => ?_) (fun h68 => ?_)
      · skip
        exact sums78 hS h0 (show SuQ f n B s1 (.ok (p, cs, op)) from ⟨hR, hQ⟩) hf
      · skip
        exact absurd h68 (by omega)
  | cons v V ih =>
    intro cs s1 hR hQ h106 hf
    have h3 : mF s1 104 = nI ((V ++ B).length + 1) := hQ.2.2.1
    have h7 : cs.length + ((V ++ B).length + 1) ≤ 1601 := hQ.2.2.2.2.2.2
    rw [List.length_append] at h3 h7
    refine r_ald0 (pc := 53) dX6_qSums_53 ?_
    refine m_getI hS (pc := 54) dX6_qSums_54 fl_X6_237 ?_
    refine Bd.eqI hR.2.1 ?_
    first | refine r_if_neZ (pc := 57) (tgt := 78) dX6_qSums_57 (by decide) (fun h57 => ?_) (fun h57 => ?_) | refine r_if_neN (pc := 57) (tgt := 78) dX6_qSums_57 (by decide) (by omega) (fun h57 => ?_) (fun h57 => ?_) | refine r_if_ne (pc := 57) (tgt := 78) dX6_qSums_57 (by decide) (fun h57 => ?_) (fun h57 => ?_)
    · skip
      exact absurd rfl h57
    · skip
      refine r_ald0 (pc := 60) dX6_qSums_60 ?_
      refine m_getI hS (pc := 61) dX6_qSums_61 fl_X6_330 ?_
      refine Bd.eqI h3 ?_
      refine r_ald0 (pc := 64) dX6_qSums_64 ?_
      refine m_getI hS (pc := 65) dX6_qSums_65 fl_X6_336 ?_
      refine Bd.eqI h106 ?_
      first | refine r_icmp_leN (pc := 68) (tgt := 78) dX6_qSums_68 (by decide) (by omega) (by omega) (fun h68 => ?_) (fun h68 => ?_) | refine r_icmp_le (pc := 68) (tgt := 78) dX6_qSums_68 (by decide) (fun h68 => ?_) (fun h68 => ?_)
      · skip
        exact absurd h68 (by omega)
      · skip
        refine r_ald0 (pc := 71) dX6_qSums_71 ?_
        refine r_cV (pc := 72) dX6_qSums_72 cv_X6_605 hS.k (ct_X6_qDrops hS hQ) rfl rfl (Nat.le_of_ble_eq_true rfl) (by decide) ?_
        rintro _ _ ⟨s2, rfl, rfl, hQ2, hf2⟩
        refine r_goto (pc := 75) (tgt := 53) dX6_qSums_75 (by decide) ?_
        have hih := ih (cs ++ [v]) s2 (hR.fr hf2 (by decide) (by decide)) hQ2 ((hf2.1 106 (by decide)).trans h106) (hf.trans (hf2.mono (by decide) (by decide) (by decide) (by decide)))
        rw [List.append_assoc] at hih
        exact hih
theorem fq_fr (h : FQ s s') : FR s s' := h.mono (by decide) (by decide) (by decide) (by decide)
theorem sumsLoop {B : List Nat} {r : Ou} {e0 : Nat} (hS : ShM g M o) (h0 : mF s 106 = nI e0) :
    ∀ (k : Nat) (c : Cf) (s1 : MS), c.1 = true → CFG s1 f n x B c → runC f n x k c = some r → FR s s1 → Bd g yX6_qSums cX6_qSums 3 none [] 6 0 0 (putM M o s1) 15 [some (.ref o), some (.int (nI e0)), some (.int (nI 1))] [] (QM M o (fun v s' => v = none ∧ FQ s s' ∧ SuQ f n B s' r)) noX := by
  intro k
  induction k using Nat.strongRecOn with
  | _ k ih =>
    rintro ⟨m, a, cs, V, op⟩ s1 hm hC hrun hf
    cases hm
    have hR : RP s1 f n a := hC.1
    refine r_ild2 (pc := 15) dX6_qSums_15 ?_
    refine r_if_eqN (pc := 16) (tgt := 53) dX6_qSums_16 (by decide) (by omega) (fun h16 => ?_) (fun h16 => ?_)
    · skip
      exact absurd h16 (by decide)
    · skip
      refine r_ald0 (pc := 19) dX6_qSums_19 ?_
      refine m_getI hS (pc := 20) dX6_qSums_20 fl_X6_237 ?_
      refine Bd.eqI hR.2.1 ?_
      first | refine r_if_neZ (pc := 23) (tgt := 53) dX6_qSums_23 (by decide) (fun h23 => ?_) (fun h23 => ?_) | refine r_if_neN (pc := 23) (tgt := 53) dX6_qSums_23 (by decide) (by omega) (fun h23 => ?_) (fun h23 => ?_) | refine r_if_ne (pc := 23) (tgt := 53) dX6_qSums_23 (by decide) (fun h23 => ?_) (fun h23 => ?_)
      · skip
        exact absurd rfl h23
      · skip
        refine r_ald0 (pc := 26) dX6_qSums_26 ?_
        refine r_cV (pc := 27) dX6_qSums_27 cv_X6_635 hS.k (ct_X6_qPartTold hS hC hrun) rfl rfl (Nat.le_of_ble_eq_true rfl) (by decide) ?_
        rintro _ _ ⟨s2, rfl, rfl, hf2, hP⟩
        rcases hP with ⟨e, hr, hbq⟩ | ⟨k2, c2, hk2, hm2, hrun2, hC2⟩
        · refine r_ald0 (pc := 30) dX6_qSums_30 ?_
          refine m_getI hS (pc := 31) dX6_qSums_31 fl_X6_237 ?_
          refine r_if_ne (pc := 34) (tgt := 48) dX6_qSums_34 (by decide) (fun h34 => ?_) (fun h34 => absurd h34 hbq.1.ne)
          refine r_iconst (v := nI 0) (pc := 48) dX6_qSums_48 (by decide) ?_
          refine r_ist2 (pc := 49) dX6_qSums_49 ?_
          refine r_goto (pc := 50) (tgt := 15) dX6_qSums_50 (by decide) ?_
          refine r_ild2 (pc := 15) dX6_qSums_15 ?_
          refine r_if_eqN (pc := 16) (tgt := 53) dX6_qSums_16 (by decide) (by omega) (fun h16 => ?_) (fun h16 => absurd rfl h16)
          exact sumsBad hS h0 hr hbq (hf.trans (fq_fr hf2))
        obtain ⟨m2, a2, cs2, V2, op2⟩ := c2
        cases hm2
        have hR2 : RP s2 f n a2 := hC2.1
        refine r_ald0 (pc := 30) dX6_qSums_30 ?_
        refine m_getI hS (pc := 31) dX6_qSums_31 fl_X6_237 ?_
        refine Bd.eqI hR2.2.1 ?_
        first | refine r_if_neZ (pc := 34) (tgt := 48) dX6_qSums_34 (by decide) (fun h34 => ?_) (fun h34 => ?_) | refine r_if_neN (pc := 34) (tgt := 48) dX6_qSums_34 (by decide) (by omega) (fun h34 => ?_) (fun h34 => ?_) | refine r_if_ne (pc := 34) (tgt := 48) dX6_qSums_34 (by decide) (fun h34 => ?_) (fun h34 => ?_)
        · skip
          exact absurd rfl h34
        · skip
          refine r_ald0 (pc := 37) dX6_qSums_37 ?_
          refine r_cV (pc := 38) dX6_qSums_38 cv_X6_638 hS.k (ct_X6_qGoesOn hS hC2 hrun2) rfl rfl (Nat.le_of_ble_eq_true rfl) (by decide) ?_
          rintro _ _ ⟨s3, rfl, hf3, hG⟩
          rcases hG with ⟨rfl, k3, c3, hk3, hm3, hrun3, hC3⟩ | ⟨rfl, hG⟩
          · refine r_if_eqN (pc := 41) (tgt := 48) dX6_qSums_41 (by decide) (by omega) (fun h41 => absurd h41 (by decide)) (fun h41 => ?_)
            refine r_iconst (v := nI 1) (pc := 44) dX6_qSums_44 (by decide) ?_
            refine r_goto (pc := 45) (tgt := 49) dX6_qSums_45 (by decide) ?_
            refine r_ist2 (pc := 49) dX6_qSums_49 ?_
            refine r_goto (pc := 50) (tgt := 15) dX6_qSums_50 (by decide) ?_
            exact ih k3 (by omega) c3 s3 hm3 hC3 hrun3 (hf.trans ((fq_fr hf2).trans (fq_fr hf3)))
          refine r_if_eqN (pc := 41) (tgt := 48) dX6_qSums_41 (by decide) (by omega) (fun h41 => ?_) (fun h41 => ?_)
          · skip
            refine r_iconst (v := nI 0) (pc := 48) dX6_qSums_48 (by decide) ?_
            refine r_ist2 (pc := 49) dX6_qSums_49 ?_
            refine r_goto (pc := 50) (tgt := 15) dX6_qSums_50 (by decide) ?_
            refine r_ild2 (pc := 15) dX6_qSums_15 ?_
            refine r_if_eqN (pc := 16) (tgt := 53) dX6_qSums_16 (by decide) (by omega) (fun h16 => ?_) (fun h16 => absurd rfl h16)
            rcases hG with ⟨e, hr, hbq⟩ | ⟨p, cs3, V3, op3, hr, hC3⟩
            · exact sumsBad hS h0 hr hbq (hf.trans ((fq_fr hf2).trans (fq_fr hf3)))
            · subst hr
              exact sumsDrop hS h0 V3 cs3 s3 hC3.1 hC3.2.1 hC3.2.2.1 (hf.trans ((fq_fr hf2).trans (fq_fr hf3)))
          · skip
            exact absurd rfl h41
/-- what is told of a sum -/
def SmZ (f : Nat → Nat) (n : Nat) (cs B : List Nat) (op : Nat) (s' : MS) : Rz → Prop
  | .error e => bQ s' e
  | .ok y => RP s' f n y.2 ∧ RQ s' (cs ++ y.1) B op
theorem ct_X6_qSums {B cs : List Nat} {op e0 : Nat} (hS : ShM g M o) (hR : RP s f n a) (hQ : RQ s cs B op) (h106 : mF s 106 = nI e0) (h54 : mF s 54 = nI x) (hx : x ≤ 3) (hB : ∀ v ∈ B, v = 10 ∨ v = 11 ∨ v = 12 ∨ v = 25) (hl : cs.length + B.length ≤ a) (hop : op ≤ 6) :
    Ct g yX6_qSums cX6_qSums 3 none 6 0 0 [.ref o] (putM M o s) (QM M o (fun v s' => v = none ∧ FQ s s' ∧ SmZ f n cs B op s' (sumP f n (atomP f n x (6 - op)) a))) noX := by
  obtain ⟨k, hk⟩ := sumsLaw (f := f) (n := n) (x := x) (o := 6 - op) (a := a) (op := op) cs (by omega)
  have hC : CFG (tF s 106 (nI B.length)) f n x B (true, a, cs, [], op) := CFG.mk hR.t106 (hQ.t106 (W := [] ++ B)) rfl h54 ⟨(by show cs.length + 0 + B.length ≤ a; omega), hR.1.2.2.1, Nat.zero_le _, hop⟩ hB hx
  have hlp := sumsLoop (s := s) hS h106 k _ _ rfl hC hk (Fr.tF Fr.rf (by decide))
  refine Ct.of (by decide) (Nat.le_of_ble_eq_true rfl) rfl ?_
  refine Bd.post (Q' := QM M o (fun v s' => v = none ∧ FQ s s' ∧ SuQ f n B s' (outP cs op (sumP f n (atomP f n x (6 - op)) a)))) ?_ (fun _ _ h => h) ?_
  · rintro v M' ⟨s9, rfl, h1, h2, h3⟩
    refine ⟨s9, rfl, h1, h2, ?_⟩
    cases hs : sumP f n (atomP f n x (6 - op)) a with
    | error e => rw [hs] at h3; exact h3
    | ok y => rw [hs] at h3; exact h3
  · skip
    refine r_ald0 (pc := 0) dX6_qSums_0 ?_
    refine m_getI hS (pc := 1) dX6_qSums_1 fl_X6_336 ?_
    refine Bd.eqI h106 ?_
    refine r_ist1 (pc := 4) dX6_qSums_4 ?_
    refine r_ald0 (pc := 5) dX6_qSums_5 ?_
    refine r_ald0 (pc := 6) dX6_qSums_6 ?_
    refine m_getI hS (pc := 7) dX6_qSums_7 fl_X6_330 ?_
    refine Bd.eqI hQ.2.2.1 ?_
    refine m_putI hS (pc := 10) dX6_qSums_10 fl_X6_336 fw_X6_106 rfl rfl ?_
    refine r_iconst (v := nI 1) (pc := 13) dX6_qSums_13 (by decide) ?_
    refine r_ist2 (pc := 14) dX6_qSums_14 ?_
    exact hlp
theorem fin_len {o a : Nat} {y : List Nat × Nat} (h : sumP f n (atomP f n x o) a = .ok y) : a < y.2 ∧ y.2 ≤ n ∧ a + y.1.length ≤ y.2 := sumP_prg (atomP_prg o) a y h
end M35
