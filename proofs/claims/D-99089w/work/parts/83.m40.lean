set_option maxRecDepth 100000
/-! THE MODEL: codes are told, statements are told -/
section M40
variable {g : GC} {M : MM} {o : Nat} {s s' s1 s2 sB : MS} {M1 : MM} {q : Sg} {f : Nat → Nat} {n a x c pl w : Nat} {T : To}
theorem hol_of {b : Nat → Int32} : ∀ {cs : List Nat} {i : Nat}, (∀ j, j < cs.length → b (i + j) = nI (cs.getD j 0)) → hol b i cs
  | [], _, _ => trivial
  | d :: cs, i, h => ⟨h 0 (by simp), hol_of (cs := cs) (i := i + 1) (fun j hj => by rw [show i + 1 + j = i + (j + 1) by omega]; exact h (j + 1) (by simpa using hj))⟩
theorem hol_at {b : Nat → Int32} : ∀ {cs : List Nat} {i j : Nat}, hol b i cs → j < cs.length → b (i + j) = nI (cs.getD j 0)
  | [], _, j, _, hj => absurd hj (Nat.not_lt_zero j)
  | d :: cs, i, 0, h, _ => h.1
  | d :: cs, i, j + 1, h, hj => by
    rw [show i + (j + 1) = i + 1 + j by omega]
    exact hol_at (cs := cs) h.2 (by simpa using hj)
theorem cpLoop {cs : List Nat} {k1 k2 : Int32} {Q : Option Value → MM → Prop} (hS : ShM g M o) (hq : mF s 102 = nI cs.length) (hh : hol (mA s 101) 0 cs) (hc : c + cs.length ≤ 1600)
    (hk : ∀ s2 w3, mF s2 51 = nI (c + cs.length) → hol (mA s2 50) c cs → (∀ j, j < c ∨ 1600 ≤ j → mA s2 50 j = mA s 50 j) → Fr [51] [] [50] [] s s2 → Bd g yX6_codesTold cX6_codesTold 4 none [] 9 0 0 (putM M o s2) 131 [some (.ref o), some (.int k1), some (.int k2), w3] [] Q noX) :
    ∀ (m i : Nat) (s1 : MS), i + m = cs.length → mF s1 51 = nI (c + i) → (∀ j, j < i → mA s1 50 (c + j) = nI (cs.getD j 0)) → (∀ j, j < c ∨ 1600 ≤ j → mA s1 50 j = mA s 50 j) → Fr [51] [] [50] [] s s1 → Bd g yX6_codesTold cX6_codesTold 4 none [] 9 0 0 (putM M o s1) 92 [some (.ref o), some (.int k1), some (.int k2), some (.int (nI i))] [] Q noX := by
  intro m
  induction m with
  | zero =>
    intro i s1 hi h51 h50 hlo hf
    have hi : i = cs.length := hi
    subst hi
    have hk := hk s1 (some (.int (nI cs.length))) h51 (hol_of h50) hlo hf
    refine r_ild3 (pc := 92) dX6_codesTold_92 ?_
    refine r_ald0 (pc := 93) dX6_codesTold_93 ?_
    refine m_getI hS (pc := 94) dX6_codesTold_94 fl_X6_327 ?_
    refine Bd.eqI ((hf.1 102 (by decide)).trans hq) ?_
    first | refine r_icmp_geN (pc := 97) (tgt := 131) dX6_codesTold_97 (by decide) (by omega) (by omega) (fun h97 => ?_) (fun h97 => ?_) | refine r_icmp_ge (pc := 97) (tgt := 131) dX6_codesTold_97 (by decide) (fun h97 => ?_) (fun h97 => ?_)
    · skip
      exact hk
    · skip
      exact absurd h97 (by omega)
  | succ m ih =>
    intro i s1 hi h51 h50 hlo hf
    have hv := hol_at hh (show i < cs.length by omega)
    rw [Nat.zero_add] at hv
    have hih := ih (i + 1) (tF (tA s1 50 (c + i) (nI (cs.getD i 0))) 51 (nI (c + i + 1))) (by omega) rfl (fun j hj => by
      rw [mA_tF, mA_tA]
      by_cases e : j = i
      · rw [if_pos ⟨rfl, by omega⟩, e]
      · rw [if_neg (by omega)]; exact h50 j (by omega)) (fun j hj => by rw [mA_tF, mA_tA, if_neg (by omega)]; exact hlo j hj) (Fr.tF (Fr.tA hf (by decide)) (by decide))
    refine r_ild3 (pc := 92) dX6_codesTold_92 ?_
    refine r_ald0 (pc := 93) dX6_codesTold_93 ?_
    refine m_getI hS (pc := 94) dX6_codesTold_94 fl_X6_327 ?_
    refine Bd.eqI ((hf.1 102 (by decide)).trans hq) ?_
    first | refine r_icmp_geN (pc := 97) (tgt := 131) dX6_codesTold_97 (by decide) (by omega) (by omega) (fun h97 => ?_) (fun h97 => ?_) | refine r_icmp_ge (pc := 97) (tgt := 131) dX6_codesTold_97 (by decide) (fun h97 => ?_) (fun h97 => ?_)
    · skip
      exact absurd h97 (by omega)
    · skip
      refine r_ald0 (pc := 100) dX6_codesTold_100 ?_
      refine m_getR hS (pc := 101) dX6_codesTold_101 fl_X6_118 ar50 ?_
      refine r_ald0 (pc := 104) dX6_codesTold_104 ?_
      refine m_getI hS (pc := 105) dX6_codesTold_105 fl_X6_345 ?_
      refine Bd.eqI h51 ?_
      refine r_ald0 (pc := 108) dX6_codesTold_108 ?_
      refine m_getR hS (pc := 109) dX6_codesTold_109 fl_X6_222 ar101 ?_
      refine r_ild3 (pc := 112) dX6_codesTold_112 ?_
      refine m_iald hS (pc := 113) dX6_codesTold_113 ar101 (by omega) (by omega) ?_
      refine Bd.eqI ((congrFun (hf.2.2.1 101 (by decide)) i).trans hv) ?_
      refine m_iast hS (pc := 114) dX6_codesTold_114 ar50 (by omega) (by omega) ?_
      refine r_ald0 (pc := 115) dX6_codesTold_115 ?_
      refine r_dup (pc := 116) dX6_codesTold_116 rfl ?_
      refine m_getI hS (pc := 117) dX6_codesTold_117 fl_X6_345 ?_
      refine Bd.eqI (x' := nI (c + i)) h51 ?_
      refine r_iconst (v := nI 1) (pc := 120) dX6_codesTold_120 (by decide) ?_
      first | refine r_iaddN (pc := 121) dX6_codesTold_121 ?_ | refine r_iaddJ (pc := 121) dX6_codesTold_121 ?_ | refine r_iadd (pc := 121) dX6_codesTold_121 ?_
      refine m_putI hS (pc := 122) dX6_codesTold_122 fl_X6_345 fw_X6_51 rfl rfl ?_
      first | refine r_iinc3N (j := 1) (pc := 125) dX6_codesTold_125 rfl ?_ | refine r_iinc3 (pc := 125) dX6_codesTold_125 ?_
      refine r_goto (pc := 128) (tgt := 92) dX6_codesTold_128 (by decide) ?_
      exact hih
/-- from 80 on: the codes are laid by -/
theorem cod80 {cs : List Nat} {op b : Nat} {k2 : Int32} {w3 : Option Value} (hS : ShM g M o) (hw : w < 3) (hR : RP s1 f n b) (hQ : RQ s1 cs [] op) (hT : TM s1 T c) (hl : c + cs.length ≤ b) (hf : FT s s1) :
    Bd g yX6_codesTold cX6_codesTold 4 none [] 9 0 0 (putM M o s1) 80 [some (.ref o), some (.int (nI w)), some (.int k2), w3] [] (QM M o (fun r s' => r = none ∧ FT s s' ∧ RP s' f n b ∧ TM s' (pC T w cs) (c + cs.length))) noX := by
  have hn := hR.1.2.2.2.1
  have hbn := hR.1.2.2.1
  obtain ⟨t1, t2, t3, t4, t5, t6, t7⟩ := hT
  have hF2 : Fr [] [] [48] [] s1 (tA s1 48 w (nI c)) := Fr.tA Fr.rf (by decide)
  have hcp := cpLoop (g := g) (M := M) (o := o) (s := tA s1 48 w (nI c)) (cs := cs) (c := c) (k1 := nI w) (k2 := k2) (Q := QM M o (fun r s' => r = none ∧ FT s s' ∧ RP s' f n b ∧ TM s' (pC T w cs) (c + cs.length))) hS hQ.1 hQ.2.1 (by omega) ?_ cs.length 0 (tA s1 48 w (nI c)) (by omega) t6 (fun j hj => absurd hj (Nat.not_lt_zero j)) (fun j _ => rfl) Fr.rf
  · skip
    refine r_ald0 (pc := 80) dX6_codesTold_80 ?_
    refine m_getR hS (pc := 81) dX6_codesTold_81 fl_X6_112 ar48 ?_
    refine r_ild1 (pc := 84) dX6_codesTold_84 ?_
    refine r_ald0 (pc := 85) dX6_codesTold_85 ?_
    refine m_getI hS (pc := 86) dX6_codesTold_86 fl_X6_345 ?_
    refine Bd.eqI t6 ?_
    refine m_iast hS (pc := 89) dX6_codesTold_89 ar48 (by omega) (by omega) ?_
    refine r_iconst (v := nI 0) (pc := 90) dX6_codesTold_90 (by decide) ?_
    refine r_ist3 (pc := 91) dX6_codesTold_91 ?_
    exact hcp
  · intro s3 w4 h51 hho hlo hf3
    have hF4 : Fr [] [] [49] [] s3 (tA s3 49 w (nI (c + cs.length))) := Fr.tA Fr.rf (by decide)
    have hall : Fr [51] [] [48, 49, 50] [] s1 (tA s3 49 w (nI (c + cs.length))) := (hF2.mono (by decide) (by decide) (by decide) (by decide)).trans ((hf3.mono (by decide) (by decide) (by decide) (by decide)).trans (hF4.mono (by decide) (by decide) (by decide) (by decide)))
    have e48 : ∀ j, mA (tA s3 49 w (nI (c + cs.length))) 48 j = if j = w then nI c else mA s1 48 j := fun j => by
      rw [mA_tA, if_neg (by omega), hf3.2.2.1 48 (by decide), mA_tA]
      by_cases e : j = w
      · rw [if_pos ⟨rfl, e⟩, if_pos e]
      · rw [if_neg (fun q => e q.2), if_neg e]
    have e49 : ∀ j, mA (tA s3 49 w (nI (c + cs.length))) 49 j = if j = w then nI (c + cs.length) else mA s1 49 j := fun j => by
      have e9 : mA s3 49 j = mA s1 49 j := by rw [hf3.2.2.1 49 (by decide), mA_tA, if_neg (fun q => absurd q.1 (by decide))]
      rw [mA_tA, e9]
      by_cases e : j = w
      · rw [if_pos ⟨rfl, e⟩, if_pos e]
      · rw [if_neg (fun q => e q.2), if_neg e]
    have e50 : mA (tA s3 49 w (nI (c + cs.length))) 50 = mA s3 50 := by funext j; rw [mA_tA, if_neg (fun q => absurd q.1 (by decide))]
    have hFT : FT s (tA s3 49 w (nI (c + cs.length))) := by
      refine hf.trans ⟨hall.mono (by decide) (by decide) (by decide) (by decide), fun j hj => ⟨congrFun (hall.2.2.1 43 (by decide)) j, congrFun (hall.2.2.1 44 (by decide)) j, congrFun (hall.2.2.2 41 (by decide)) j⟩, fun j hj => ⟨?_, ?_⟩, fun j hj => ?_⟩
      · rw [e48, if_neg (by omega)]
      · rw [e49, if_neg (by omega)]
      · rw [e50]; exact hlo j (Or.inr hj)
    have hTM : TM (tA s3 49 w (nI (c + cs.length))) (pC T w cs) (c + cs.length) := by
      refine ⟨(hall.1 37 (by decide)).trans t1, (hall.1 39 (by decide)).trans t2, fun k hk => ?_, fun p hp r hr => ?_, (hall.1 46 (by decide)).trans t5, h51, fun v hv => ?_⟩
      · rw [hall.2.2.2 41 (by decide), hall.2.2.1 42 (by decide), hall.2.2.1 43 (by decide), hall.2.2.1 44 (by decide)]; exact t3 k hk
      · rw [hall.2.2.1 45 (by decide)]; exact t4 p hp r hr
      · unfold TC
        show match va_up (oC T) w (some cs) v with | none => _ | some cs => _
        unfold va_up
        by_cases e : v = w
        · rw [if_pos e]
          exact ⟨c, by rw [e48, if_pos e], by rw [e49, if_pos e], Nat.le_refl _, by rw [e50]; exact hho⟩
        · rw [if_neg e]
          have h7 := t7 v hv
          unfold TC at h7
          cases hc : oC T v with
          | none => rw [hc] at h7; show mA _ 48 v = -1; rw [e48, if_neg e]; exact h7
          | some ds =>
            rw [hc] at h7
            obtain ⟨b', h1, h2, h3, h4⟩ := h7
            refine ⟨b', by rw [e48, if_neg e]; exact h1, by rw [e49, if_neg e]; exact h2, by omega, ?_⟩
            rw [e50]
            exact hol_congr (fun i h5 h6 => by rw [hlo i (Or.inl (by omega)), mA_tA, if_neg (fun q => absurd q.1 (by decide))]) h4
    have hRP : RP (tA s3 49 w (nI (c + cs.length))) f n b := hR.fr hall (by decide) (by decide)
    refine r_ald0 (pc := 131) dX6_codesTold_131 ?_
    refine m_getR hS (pc := 132) dX6_codesTold_132 fl_X6_115 ar49 ?_
    refine r_ild1 (pc := 135) dX6_codesTold_135 ?_
    refine r_ald0 (pc := 136) dX6_codesTold_136 ?_
    refine m_getI hS (pc := 137) dX6_codesTold_137 fl_X6_345 ?_
    refine Bd.eqI h51 ?_
    refine m_iast hS (pc := 140) dX6_codesTold_140 ar49 (by omega) (by omega) ?_
    refine r_vret (pc := 141) dX6_codesTold_141 ?_
    exact ⟨_, rfl, rfl, hFT, hRP, hTM⟩
def CdZ (f : Nat → Nat) (n : Nat) (s' : MS) : Pz (To × Nat) → Prop
  | .error e => BD s' e ∨ (RP s' f n e.2 ∧ e.1 = 1 ∧ e.2 < n ∧ ltr (f e.2) = true)
  | .ok y => RP s' f n (skip f n y.2) ∧ ∃ c', TM s' y.1 c' ∧ c' ≤ skip f n y.2
theorem ct_X6_codesTold (hS : ShM g M o) (hR : RP s f n a) (hT : TM s T c) (hca : c ≤ a) (hw : w < 3) (hpl : pl ≤ 1600) :
    Ct g yX6_codesTold cX6_codesTold 4 none 9 0 0 [.ref o, .int (nI w), .int (nI pl)] (putM M o s) (QM M o (fun r s' => r = none ∧ FT s s' ∧ CdZ f n s' (codesP f n T w pl a))) noX := by
  have hn := hR.1.2.2.2.1
  have han := hR.1.2.2.1
  have h7 := hT.2.2.2.2.2.2 w hw
  unfold TC at h7
  refine Ct.of (by decide) (Nat.le_of_ble_eq_true rfl) rfl ?_
  unfold codesP
  cases hc : oC T w with
  | some ds =>
    rw [hc] at h7
    obtain ⟨b', h1, h2, h3, h4⟩ := h7
    rw [if_neg (by intro q; cases q)]
    refine r_ald0 (pc := 0) dX6_codesTold_0 ?_
    refine m_getI hS (pc := 1) dX6_codesTold_1 fl_X6_237 ?_
    refine Bd.eqI hR.2.1 ?_
    first | refine r_if_neZ (pc := 4) (tgt := 23) dX6_codesTold_4 (by decide) (fun h4 => ?_) (fun h4 => ?_) | refine r_if_neN (pc := 4) (tgt := 23) dX6_codesTold_4 (by decide) (by omega) (fun h4 => ?_) (fun h4 => ?_) | refine r_if_ne (pc := 4) (tgt := 23) dX6_codesTold_4 (by decide) (fun h4 => ?_) (fun h4 => ?_)
    · skip
      exact absurd rfl h4
    · skip
      refine r_ald0 (pc := 7) dX6_codesTold_7 ?_
      refine m_getR hS (pc := 8) dX6_codesTold_8 fl_X6_112 ar48 ?_
      refine r_ild1 (pc := 11) dX6_codesTold_11 ?_
      refine m_iald hS (pc := 12) dX6_codesTold_12 ar48 (by omega) (by omega) ?_
      refine Bd.eqI h1 ?_
      refine r_iconst (v := -1) (pc := 13) dX6_codesTold_13 (by decide) ?_
      refine r_icmp_eq (pc := 14) (tgt := 23) dX6_codesTold_14 (by decide) (fun h14 => ?_) (fun h14 => ?_)
      · skip
        exact absurd h14 (nI_m1 (by omega))
      · skip
        refine r_ald0 (pc := 17) dX6_codesTold_17 ?_
        refine r_iconst (v := nI 5) (pc := 18) dX6_codesTold_18 (by decide) ?_
        refine r_ild2 (pc := 19) dX6_codesTold_19 ?_
        refine r_cV (pc := 20) dX6_codesTold_20 cv_X6_267 hS.k (ct_X6_failP hS hR.2.1 (by decide) hpl) rfl rfl (Nat.le_of_ble_eq_true rfl) (by decide) ?_
        rintro _ _ ⟨s2, rfl, rfl, hB, hf2⟩
        refine r_ald0 (pc := 23) dX6_codesTold_23 ?_
        refine m_getI hS (pc := 24) dX6_codesTold_24 fl_X6_237 ?_
        refine r_if_eq (pc := 27) (tgt := 31) dX6_codesTold_27 (by decide) (fun h27 => ?_) (fun h27 => ?_)
        · skip
          exact absurd h27 hB.ne
        · skip
          refine r_vret (pc := 30) dX6_codesTold_30 ?_
          exact ⟨_, rfl, rfl, FT.of hf2 (by decide) (by decide) (by decide) (by decide), Or.inl hB⟩
  | none =>
    rw [hc] at h7
    rw [if_pos rfl]
    have hF : Fr [54, 102, 104, 105, 106] [] [] [] s (tF (tF (tF (tF (tF s 54 (nI w)) 102 (nI 0)) 104 (nI 0)) 105 (nI 0)) 106 (nI 0)) := Fr.tF (Fr.tF (Fr.tF (Fr.tF (Fr.tF Fr.rf (by decide)) (by decide)) (by decide)) (by decide)) (by decide)
    have hR1 := hR.fr hF (by decide) (by decide)
    have hT1 := hT.fr hF (by decide) (by decide) (by decide)
    have hQ1 : RQ (tF (tF (tF (tF (tF s 54 (nI w)) 102 (nI 0)) 104 (nI 0)) 105 (nI 0)) 106 (nI 0)) [] [] 0 := ⟨rfl, trivial, rfl, trivial, rfl, (fun v h => nomatch h), by decide⟩
    have hff : FT s _ := FT.of hF (by decide) (by decide) (by decide) (by decide)
    have tail : ∀ (z : Rz) (s2 : MS) (w3 : Option Value), (match z with | .error e => BD s2 e ∨ (∃ cs op, RP s2 f n e.2 ∧ e.1 = 1 ∧ e.2 < n ∧ ltr (f e.2) = true ∧ RQ s2 cs [] op ∧ cs.length + a ≤ e.2) | .ok y => RP s2 f n (skip f n y.2) ∧ ∃ op, RQ s2 y.1 [] op ∧ y.1.length + a ≤ skip f n y.2) → TM s2 T c → FT s s2 → Bd g yX6_codesTold cX6_codesTold 4 none [] 9 0 0 (putM M o s2) 72 [some (.ref o), some (.int (nI w)), some (.int (nI pl)), w3] [] (QM M o (fun r s' => r = none ∧ FT s s' ∧ CdZ f n s' (bnd z (fun y => .ok (pC T w y.1, y.2))))) noX := by
      intro z s2 w3 hz hT2 hf2
      cases z with
      | error e =>
        rw [bnd_er]
        rcases hz with hB | ⟨cs, op, hR2, e1, e2, e3, hQ2, hl⟩
        · skip
          refine r_ald0 (pc := 72) dX6_codesTold_72 ?_
          refine m_getI hS (pc := 73) dX6_codesTold_73 fl_X6_237 ?_
          refine r_if_eq (pc := 76) (tgt := 80) dX6_codesTold_76 (by decide) (fun h76 => ?_) (fun h76 => ?_)
          · skip
            exact absurd h76 hB.ne
          · skip
            refine r_vret (pc := 79) dX6_codesTold_79 ?_
            exact ⟨_, rfl, rfl, hf2, Or.inl hB⟩
        · skip
          refine r_ald0 (pc := 72) dX6_codesTold_72 ?_
          refine m_getI hS (pc := 73) dX6_codesTold_73 fl_X6_237 ?_
          refine Bd.eqI hR2.2.1 ?_
          first | refine r_if_eqZ (pc := 76) (tgt := 80) dX6_codesTold_76 (by decide) (fun h76 => ?_) (fun h76 => ?_) | refine r_if_eqN (pc := 76) (tgt := 80) dX6_codesTold_76 (by decide) (by omega) (fun h76 => ?_) (fun h76 => ?_) | refine r_if_eq (pc := 76) (tgt := 80) dX6_codesTold_76 (by decide) (fun h76 => ?_) (fun h76 => ?_)
          · skip
            refine Bd.post ?_ (fun _ _ h => h) (cod80 hS hw hR2 hQ2 hT2 (by omega) hf2)
            rintro _ _ ⟨s9, rfl, h1, h2, h3, h4⟩; exact ⟨s9, rfl, h1, h2, Or.inr ⟨h3, e1, e2, e3⟩⟩
          · skip
            exact absurd rfl h76
      | ok y =>
        rw [bnd_ok]
        obtain ⟨hR2, op, hQ2, hl⟩ := hz
        refine r_ald0 (pc := 72) dX6_codesTold_72 ?_
        refine m_getI hS (pc := 73) dX6_codesTold_73 fl_X6_237 ?_
        refine Bd.eqI hR2.2.1 ?_
        first | refine r_if_eqZ (pc := 76) (tgt := 80) dX6_codesTold_76 (by decide) (fun h76 => ?_) (fun h76 => ?_) | refine r_if_eqN (pc := 76) (tgt := 80) dX6_codesTold_76 (by decide) (by omega) (fun h76 => ?_) (fun h76 => ?_) | refine r_if_eq (pc := 76) (tgt := 80) dX6_codesTold_76 (by decide) (fun h76 => ?_) (fun h76 => ?_)
        · skip
          refine Bd.post ?_ (fun _ _ h => h) (cod80 hS hw hR2 hQ2 hT2 (by omega) hf2)
          rintro _ _ ⟨s9, rfl, h1, h2, h3, h4⟩; exact ⟨s9, rfl, h1, h2, h3, _, h4, (by show c + y.1.length ≤ skip f n y.2; omega)⟩
        · skip
          exact absurd rfl h76
    by_cases e2 : w = 2
    · subst e2
      have hC : CFT _ f n 2 a 0 (true, a, [], [], 0) := CFT.mk hR1 hQ1 rfl rfl ⟨(by show 0 + 0 + a ≤ a; omega), han, Nat.zero_le _, (show 0 ≤ 6 by decide), fun v h => nomatch h⟩ (by decide)
      have hlaw := testLaw (f := f) (n := n) (x := 2) (o := 6) (a := a) (op := 0) [] rfl
      have hcod : codP f n 2 a = testP f n (factP f n 2 6) a := if_pos rfl
      rw [hcod]
      have fin : ∀ r, EndT f n 2 (true, a, [], [], 0) r → ∀ z : Rz, (∀ s2, TuQ f n a s2 r → (match z with | .error e => BD s2 e ∨ (∃ cs op, RP s2 f n e.2 ∧ e.1 = 1 ∧ e.2 < n ∧ ltr (f e.2) = true ∧ RQ s2 cs [] op ∧ cs.length + a ≤ e.2) | .ok y => RP s2 f n (skip f n y.2) ∧ ∃ op, RQ s2 y.1 [] op ∧ y.1.length + a ≤ skip f n y.2)) → Bd g yX6_codesTold cX6_codesTold 4 none [] 9 0 0 (putM M o s) 0 (lvo 4 [.ref o, .int (nI 2), .int (nI pl)]) [] (QM M o (fun r s' => r = none ∧ FT s s' ∧ CdZ f n s' (bnd z (fun y => .ok (pC T 2 y.1, y.2))))) noX := by
        rintro r ⟨k, hk⟩ z hz
        refine r_ald0 (pc := 0) dX6_codesTold_0 ?_
        refine m_getI hS (pc := 1) dX6_codesTold_1 fl_X6_237 ?_
        refine Bd.eqI hR.2.1 ?_
        first | refine r_if_neZ (pc := 4) (tgt := 23) dX6_codesTold_4 (by decide) (fun h4 => ?_) (fun h4 => ?_) | refine r_if_neN (pc := 4) (tgt := 23) dX6_codesTold_4 (by decide) (by omega) (fun h4 => ?_) (fun h4 => ?_) | refine r_if_ne (pc := 4) (tgt := 23) dX6_codesTold_4 (by decide) (fun h4 => ?_) (fun h4 => ?_)
        · skip
          exact absurd rfl h4
        · skip
          refine r_ald0 (pc := 7) dX6_codesTold_7 ?_
          refine m_getR hS (pc := 8) dX6_codesTold_8 fl_X6_112 ar48 ?_
          refine r_ild1 (pc := 11) dX6_codesTold_11 ?_
          refine m_iald hS (pc := 12) dX6_codesTold_12 ar48 (by omega) (by omega) ?_
          refine Bd.eqI h7 ?_
          refine r_iconst (v := -1) (pc := 13) dX6_codesTold_13 (by decide) ?_
          refine r_icmp_eq (pc := 14) (tgt := 23) dX6_codesTold_14 (by decide) (fun h14 => ?_) (fun h14 => ?_)
          · skip
            refine r_ald0 (pc := 23) dX6_codesTold_23 ?_
            refine m_getI hS (pc := 24) dX6_codesTold_24 fl_X6_237 ?_
            refine Bd.eqI hR.2.1 ?_
            first | refine r_if_eqZ (pc := 27) (tgt := 31) dX6_codesTold_27 (by decide) (fun h27 => ?_) (fun h27 => ?_) | refine r_if_eqN (pc := 27) (tgt := 31) dX6_codesTold_27 (by decide) (by omega) (fun h27 => ?_) (fun h27 => ?_) | refine r_if_eq (pc := 27) (tgt := 31) dX6_codesTold_27 (by decide) (fun h27 => ?_) (fun h27 => ?_)
            · skip
              refine r_ald0 (pc := 31) dX6_codesTold_31 ?_
              refine r_ild1 (pc := 32) dX6_codesTold_32 ?_
              refine m_putI hS (pc := 33) dX6_codesTold_33 fl_X6_295 fw_X6_54 rfl rfl ?_
              refine r_ald0 (pc := 36) dX6_codesTold_36 ?_
              refine r_iconst (v := nI 0) (pc := 37) dX6_codesTold_37 (by decide) ?_
              refine m_putI hS (pc := 38) dX6_codesTold_38 fl_X6_327 fw_X6_102 rfl rfl ?_
              refine r_ald0 (pc := 41) dX6_codesTold_41 ?_
              refine r_iconst (v := nI 0) (pc := 42) dX6_codesTold_42 (by decide) ?_
              refine m_putI hS (pc := 43) dX6_codesTold_43 fl_X6_330 fw_X6_104 rfl rfl ?_
              refine r_ald0 (pc := 46) dX6_codesTold_46 ?_
              refine r_iconst (v := nI 0) (pc := 47) dX6_codesTold_47 (by decide) ?_
              refine m_putI hS (pc := 48) dX6_codesTold_48 fl_X6_333 fw_X6_105 rfl rfl ?_
              refine r_ald0 (pc := 51) dX6_codesTold_51 ?_
              refine r_iconst (v := nI 0) (pc := 52) dX6_codesTold_52 (by decide) ?_
              refine m_putI hS (pc := 53) dX6_codesTold_53 fl_X6_336 fw_X6_106 rfl rfl ?_
              refine r_ild1 (pc := 56) dX6_codesTold_56 ?_
              refine r_iconst (v := nI 2) (pc := 57) dX6_codesTold_57 (by decide) ?_
              first | refine r_icmp_neN (pc := 58) (tgt := 68) dX6_codesTold_58 (by decide) (by omega) (by omega) (fun h58 => ?_) (fun h58 => ?_) | refine r_icmp_ne (pc := 58) (tgt := 68) dX6_codesTold_58 (by decide) (fun h58 => ?_) (fun h58 => ?_)
              · skip
                exact absurd rfl h58
              · skip
                refine r_ald0 (pc := 61) dX6_codesTold_61 ?_
                refine r_cV (pc := 62) dX6_codesTold_62 cv_X6_339 hS.k (ct_X6_qTest hS hC hk) rfl rfl (Nat.le_of_ble_eq_true rfl) (by decide) ?_
                rintro _ _ ⟨s3, rfl, rfl, hf3, hU⟩
                refine r_goto (pc := 65) (tgt := 72) dX6_codesTold_65 (by decide) ?_
                exact tail z s3 _ (hz s3 hU) (hT1.fr hf3 (by decide) (by decide) (by decide)) (hff.trans (FT.of hf3 (by decide) (by decide) (by decide) (by decide)))
            · skip
              exact absurd rfl h27
          · skip
            exact absurd rfl h14
      cases ht : testP f n (factP f n 2 6) a with
      | ok y =>
        rw [ht] at hlaw
        refine fin _ hlaw (.ok y) (fun s2 hU => ?_)
        exact ⟨hU.1, 0, hU.2.1, hU.2.2⟩
      | error e =>
        rw [ht] at hlaw
        rcases hlaw with hl | ⟨cs, op, hl, e1, e2, e3⟩
        · exact fin _ hl (.error e) (fun s2 hU => Or.inl hU.1)
        · exact fin _ hl (.error e) (fun s2 hU => Or.inr ⟨cs, op, hU.1, e1, e2, e3, hU.2.1, hU.2.2⟩)
    · have hcod : codP f n w a = sumP f n (atomP f n w 6) a := if_neg e2
      rw [hcod]
      have hsm := ct_X6_qSums (x := w) (e0 := 0) (B := []) (cs := []) (op := 0) hS hR1 hQ1 rfl rfl (by omega) (fun v h => nomatch h) (by simp) (by decide)
      refine r_ald0 (pc := 0) dX6_codesTold_0 ?_
      refine m_getI hS (pc := 1) dX6_codesTold_1 fl_X6_237 ?_
      refine Bd.eqI hR.2.1 ?_
      first | refine r_if_neZ (pc := 4) (tgt := 23) dX6_codesTold_4 (by decide) (fun h4 => ?_) (fun h4 => ?_) | refine r_if_neN (pc := 4) (tgt := 23) dX6_codesTold_4 (by decide) (by omega) (fun h4 => ?_) (fun h4 => ?_) | refine r_if_ne (pc := 4) (tgt := 23) dX6_codesTold_4 (by decide) (fun h4 => ?_) (fun h4 => ?_)
      · skip
        exact absurd rfl h4
      · skip
        refine r_ald0 (pc := 7) dX6_codesTold_7 ?_
        refine m_getR hS (pc := 8) dX6_codesTold_8 fl_X6_112 ar48 ?_
        refine r_ild1 (pc := 11) dX6_codesTold_11 ?_
        refine m_iald hS (pc := 12) dX6_codesTold_12 ar48 (by omega) (by omega) ?_
        refine Bd.eqI h7 ?_
        refine r_iconst (v := -1) (pc := 13) dX6_codesTold_13 (by decide) ?_
        refine r_icmp_eq (pc := 14) (tgt := 23) dX6_codesTold_14 (by decide) (fun h14 => ?_) (fun h14 => ?_)
        · skip
          refine r_ald0 (pc := 23) dX6_codesTold_23 ?_
          refine m_getI hS (pc := 24) dX6_codesTold_24 fl_X6_237 ?_
          refine Bd.eqI hR.2.1 ?_
          first | refine r_if_eqZ (pc := 27) (tgt := 31) dX6_codesTold_27 (by decide) (fun h27 => ?_) (fun h27 => ?_) | refine r_if_eqN (pc := 27) (tgt := 31) dX6_codesTold_27 (by decide) (by omega) (fun h27 => ?_) (fun h27 => ?_) | refine r_if_eq (pc := 27) (tgt := 31) dX6_codesTold_27 (by decide) (fun h27 => ?_) (fun h27 => ?_)
          · skip
            refine r_ald0 (pc := 31) dX6_codesTold_31 ?_
            refine r_ild1 (pc := 32) dX6_codesTold_32 ?_
            refine m_putI hS (pc := 33) dX6_codesTold_33 fl_X6_295 fw_X6_54 rfl rfl ?_
            refine r_ald0 (pc := 36) dX6_codesTold_36 ?_
            refine r_iconst (v := nI 0) (pc := 37) dX6_codesTold_37 (by decide) ?_
            refine m_putI hS (pc := 38) dX6_codesTold_38 fl_X6_327 fw_X6_102 rfl rfl ?_
            refine r_ald0 (pc := 41) dX6_codesTold_41 ?_
            refine r_iconst (v := nI 0) (pc := 42) dX6_codesTold_42 (by decide) ?_
            refine m_putI hS (pc := 43) dX6_codesTold_43 fl_X6_330 fw_X6_104 rfl rfl ?_
            refine r_ald0 (pc := 46) dX6_codesTold_46 ?_
            refine r_iconst (v := nI 0) (pc := 47) dX6_codesTold_47 (by decide) ?_
            refine m_putI hS (pc := 48) dX6_codesTold_48 fl_X6_333 fw_X6_105 rfl rfl ?_
            refine r_ald0 (pc := 51) dX6_codesTold_51 ?_
            refine r_iconst (v := nI 0) (pc := 52) dX6_codesTold_52 (by decide) ?_
            refine m_putI hS (pc := 53) dX6_codesTold_53 fl_X6_336 fw_X6_106 rfl rfl ?_
            refine r_ild1 (pc := 56) dX6_codesTold_56 ?_
            refine r_iconst (v := nI 2) (pc := 57) dX6_codesTold_57 (by decide) ?_
            first | refine r_icmp_neN (pc := 58) (tgt := 68) dX6_codesTold_58 (by decide) (by omega) (by omega) (fun h58 => ?_) (fun h58 => ?_) | refine r_icmp_ne (pc := 58) (tgt := 68) dX6_codesTold_58 (by decide) (fun h58 => ?_) (fun h58 => ?_)
            · skip
              refine r_ald0 (pc := 68) dX6_codesTold_68 ?_
              refine r_cV (pc := 69) dX6_codesTold_69 cv_X6_342 hS.k hsm rfl rfl (Nat.le_of_ble_eq_true rfl) (by decide) ?_
              rintro _ _ ⟨s3, rfl, rfl, hf3, hU⟩
              refine tail (sumP f n (atomP f n w 6) a) s3 _ ?_ (hT1.fr hf3 (by decide) (by decide) (by decide)) (hff.trans (FT.of hf3 (by decide) (by decide) (by decide) (by decide)))
              cases hz : sumP f n (atomP f n w 6) a with
              | error e => rw [hz] at hU; exact Or.inl hU.1
              | ok y => rw [hz] at hU; have hl := fin_len hz; exact ⟨by rw [sumP_skip hz]; exact hU.1, 0, hU.2, by rw [sumP_skip hz]; omega⟩
            · skip
              exact absurd h58 e2
          · skip
            exact absurd rfl h27
        · skip
          exact absurd rfl h14
def SnZ (f : Nat → Nat) (n m : Nat) (s' : MS) : Pz (To × Nat) → Prop
  | .error e => BD s' e
  | .ok y => RP s' f n y.2 ∧ (∃ c', TM s' y.1 c' ∧ c' ≤ y.2) ∧ mF s' 52 = nI (m + 1)
theorem takesW {p i d : Nat} {wd : List Nat} (hS : ShM g M o) (hp : skip f n p = p) (hR : RP s1 f n p) (h2 : AR i d 5 wd.length) (h3 : (i, wd) ∈ wdT) (h4 : Fr [2, 4] [] [] [] s s1) :
    Ct g yX6_takes cX6_takes 2 (some Jvm.ClassFile.FieldType.boolean) 2 0 0 [.ref o, .ref (o + d)] (putM M o s1) (QM M o (fun r s' => r = some (.int (zI (word f n p = some wd))) ∧ RP s' f n (if word f n p = some wd then p + wd.length else p) ∧ Fr [2, 4] [] [] [] s s')) noX := by
  have := ct_X6_takes hS hR h2 h3
  rw [hp] at this
  refine Ct.post ?_ (fun _ _ h => h) this
  rintro _ _ ⟨s2, rfl, h5, h6, h7⟩
  exact ⟨s2, rfl, h5, h6, h4.trans h7⟩
/-- what statements change -/
def FS (s s' : MS) : Prop := Fr [2, 4, 5, 6, 10, 36, 37, 39, 46, 51, 52, 54, 102, 104, 105, 106] [] [42, 43, 44, 45, 48, 49, 50, 101, 103] [41] s s' ∧ (∀ j, 8 ≤ j → mA s' 43 j = mA s 43 j ∧ mA s' 44 j = mA s 44 j ∧ mB s' 41 j = mB s 41 j) ∧ (∀ j, 3 ≤ j → mA s' 48 j = mA s 48 j ∧ mA s' 49 j = mA s 49 j) ∧ ∀ j, 1600 ≤ j → mA s' 50 j = mA s 50 j
theorem FT.toS (h : FT s s') : FS s s' := ⟨h.1.mono (by decide) (by decide) (by decide) (by decide), h.2⟩
theorem FS.trans (h : FS s s') (h' : FS s' s2) : FS s s2 := ⟨h.1.trans h'.1, fun j hj => ⟨((h'.2.1 j hj).1).trans (h.2.1 j hj).1, ((h'.2.1 j hj).2.1).trans (h.2.1 j hj).2.1, ((h'.2.1 j hj).2.2).trans (h.2.1 j hj).2.2⟩, fun j hj => ⟨((h'.2.2.1 j hj).1).trans (h.2.2.1 j hj).1, ((h'.2.2.1 j hj).2).trans (h.2.2.1 j hj).2⟩, fun j hj => (h'.2.2.2 j hj).trans (h.2.2.2 j hj)⟩
theorem FS.t52 {v : Int32} (h : FS s s1) : FS s (tF s1 52 v) := ⟨Fr.tF h.1 (by decide), h.2⟩
theorem st52 {m : Nat} (hf : FT s1 s2) (h : mF s1 52 = nI m) : mF s2 52 = nI m := (hf.1.1 52 (by decide)).trans h
abbrev StQ (M : MM) (o : Nat) (f : Nat → Nat) (n m : Nat) (s : MS) (z : Pz (To × Nat)) : Option Value → MM → Prop := QM M o (fun r s' => r = none ∧ FS s s' ∧ SnZ f n m s' z)
theorem st137B {e : Nat × Nat} {m : Nat} {w1 : Option Value} (hS : ShM g M o) (hB : BD s1 e) (h52 : mF s1 52 = nI m) (hf : FT s s1) : Bd g yX6_statementTold cX6_statementTold 2 none [] 10 0 0 (putM M o s1) 137 [some (.ref o), w1] [] (StQ M o f n m s (.error e)) noX := by
  refine r_ald0 (pc := 137) dX6_statementTold_137 ?_
  refine r_bipush (v := nI 59) (pc := 138) dX6_statementTold_138 (by decide) ?_
  refine r_cV (pc := 140) dX6_statementTold_140 cv_X6_320 hS.k (ct_X6_asksSignB hS hB.ne) rfl rfl (Nat.le_of_ble_eq_true rfl) (by decide) ?_
  rintro _ _ ⟨rfl, rfl⟩
  refine r_ald0 (pc := 143) dX6_statementTold_143 ?_
  refine r_dup (pc := 144) dX6_statementTold_144 rfl ?_
  refine m_getI hS (pc := 145) dX6_statementTold_145 fl_X6_348 ?_
  refine Bd.eqI h52 ?_
  refine r_iconst (v := nI 1) (pc := 148) dX6_statementTold_148 (by decide) ?_
  first | refine r_iaddN (pc := 149) dX6_statementTold_149 ?_ | refine r_iaddJ (pc := 149) dX6_statementTold_149 ?_ | refine r_iadd (pc := 149) dX6_statementTold_149 ?_
  refine m_putI hS (pc := 150) dX6_statementTold_150 fl_X6_348 fw_X6_52 rfl rfl ?_
  refine r_vret (pc := 153) dX6_statementTold_153 ?_
  exact ⟨_, rfl, rfl, hf.toS.t52, hB⟩
theorem st137 {m b c' : Nat} {y : To × Nat} {w1 : Option Value} (hS : ShM g M o) (hR : RP s1 f n b) (hb : skip f n b = skip f n y.2) (hT : TM s1 y.1 c') (hc : c' ≤ b) (h52 : mF s1 52 = nI m) (hf : FT s s1) : Bd g yX6_statementTold cX6_statementTold 2 none [] 10 0 0 (putM M o s1) 137 [some (.ref o), w1] [] (StQ M o f n m s (endP f n (.ok y))) noX := by
  have hsg := ct_X6_asksSign (c := 59) hS hR (sgOk_all 59 (by decide))
  have hse : sgP f n 59 b = sgP f n 59 y.2 := by
    have : lookO f n b = lookO f n y.2 := by unfold lookO; rw [hb]
    unfold sgP; rw [hb, this]
  rw [hse] at hsg
  unfold endP
  rw [bnd_ok]
  cases h1 : sgP f n 59 y.2 with
  | error e =>
    rw [h1] at hsg
    rw [bnd_er]
    refine r_ald0 (pc := 137) dX6_statementTold_137 ?_
    refine r_bipush (v := nI 59) (pc := 138) dX6_statementTold_138 (by decide) ?_
    refine r_cV (pc := 140) dX6_statementTold_140 cv_X6_320 hS.k hsg rfl rfl (Nat.le_of_ble_eq_true rfl) (by decide) ?_
    rintro _ _ ⟨s2, rfl, rfl, hB, hf2⟩
    refine r_ald0 (pc := 143) dX6_statementTold_143 ?_
    refine r_dup (pc := 144) dX6_statementTold_144 rfl ?_
    refine m_getI hS (pc := 145) dX6_statementTold_145 fl_X6_348 ?_
    refine Bd.eqI ((hf2.1 52 (by decide)).trans h52) ?_
    refine r_iconst (v := nI 1) (pc := 148) dX6_statementTold_148 (by decide) ?_
    first | refine r_iaddN (pc := 149) dX6_statementTold_149 ?_ | refine r_iaddJ (pc := 149) dX6_statementTold_149 ?_ | refine r_iadd (pc := 149) dX6_statementTold_149 ?_
    refine m_putI hS (pc := 150) dX6_statementTold_150 fl_X6_348 fw_X6_52 rfl rfl ?_
    refine r_vret (pc := 153) dX6_statementTold_153 ?_
    exact ⟨_, rfl, rfl, (hf.trans (FT.of hf2 (by decide) (by decide) (by decide) (by decide))).toS.t52, hB⟩
  | ok d =>
    rw [h1] at hsg
    rw [bnd_ok]
    have hd : b ≤ d := by
      rw [← hse] at h1
      exact Nat.le_of_lt (sgP_ok h1).1
    refine r_ald0 (pc := 137) dX6_statementTold_137 ?_
    refine r_bipush (v := nI 59) (pc := 138) dX6_statementTold_138 (by decide) ?_
    refine r_cV (pc := 140) dX6_statementTold_140 cv_X6_320 hS.k hsg rfl rfl (Nat.le_of_ble_eq_true rfl) (by decide) ?_
    rintro _ _ ⟨s2, rfl, rfl, hR2, hf2⟩
    refine r_ald0 (pc := 143) dX6_statementTold_143 ?_
    refine r_dup (pc := 144) dX6_statementTold_144 rfl ?_
    refine m_getI hS (pc := 145) dX6_statementTold_145 fl_X6_348 ?_
    refine Bd.eqI ((hf2.1 52 (by decide)).trans h52) ?_
    refine r_iconst (v := nI 1) (pc := 148) dX6_statementTold_148 (by decide) ?_
    first | refine r_iaddN (pc := 149) dX6_statementTold_149 ?_ | refine r_iaddJ (pc := 149) dX6_statementTold_149 ?_ | refine r_iadd (pc := 149) dX6_statementTold_149 ?_
    refine m_putI hS (pc := 150) dX6_statementTold_150 fl_X6_348 fw_X6_52 rfl rfl ?_
    refine r_vret (pc := 153) dX6_statementTold_153 ?_
    refine ⟨_, rfl, rfl, (hf.trans (FT.of hf2 (by decide) (by decide) (by decide) (by decide))).toS.t52, ?_, ⟨c', ?_, (by show c' ≤ d; omega)⟩, rfl⟩
    · exact RP.fr (fs := [52]) (gs := []) (as := []) (bs := []) hR2 (Fr.tF Fr.rf (by decide)) (by decide) (by decide)
    · exact TM.fr (fs := [52]) (gs := []) (as := []) (bs := []) (hT.fr hf2 (by decide) (by decide) (by decide)) (Fr.tF Fr.rf (by decide)) (by decide) (by decide) (by decide)
theorem ltr_skip {p : Nat} (hp : p < n) (h : ltr (f p) = true) : skip f n p = p ∧ lookO f n p = some (f p) := by
  have hb : blk (f p) = false := by
    cases hc : blk (f p) with
    | false => rfl
    | true => rw [(blk_ptd hc).1] at h; cases h
  have h1 : skip f n p = p := skp_same hb
  refine ⟨h1, ?_⟩
  unfold lookO; rw [h1, if_pos hp]
theorem st137C {m : Nat} {w1 : Option Value} {z : Pz (To × Nat)} (hS : ShM g M o) (hz : CdZ f n s1 z) (h52 : mF s1 52 = nI m) (hf : FT s s1) : Bd g yX6_statementTold cX6_statementTold 2 none [] 10 0 0 (putM M o s1) 137 [some (.ref o), w1] [] (StQ M o f n m s (endP f n z)) noX := by
  cases z with
  | ok y =>
    obtain ⟨hR, c', hT, hc⟩ := hz
    exact st137 hS hR (skip_idem f n y.2) hT hc h52 hf
  | error e =>
    rcases hz with hB | ⟨hR, e1, e2, e3⟩
    · exact st137B hS hB h52 hf
    · have hsg := ct_X6_asksSign (c := 59) hS hR (sgOk_all 59 (by decide))
      obtain ⟨l1, l2⟩ := ltr_skip e2 e3
      have he : sgP f n 59 e.2 = .error e := by
        unfold sgP
        rw [l2, l1, if_neg (by intro q; rw [Option.some.inj q] at e3; cases e3), ← e1]
      rw [he] at hsg
      show Bd g yX6_statementTold cX6_statementTold 2 none [] 10 0 0 _ _ _ _ (StQ M o f n m s (.error e)) noX
      refine r_ald0 (pc := 137) dX6_statementTold_137 ?_
      refine r_bipush (v := nI 59) (pc := 138) dX6_statementTold_138 (by decide) ?_
      refine r_cV (pc := 140) dX6_statementTold_140 cv_X6_320 hS.k hsg rfl rfl (Nat.le_of_ble_eq_true rfl) (by decide) ?_
      rintro _ _ ⟨s2, rfl, rfl, hB, hf2⟩
      refine r_ald0 (pc := 143) dX6_statementTold_143 ?_
      refine r_dup (pc := 144) dX6_statementTold_144 rfl ?_
      refine m_getI hS (pc := 145) dX6_statementTold_145 fl_X6_348 ?_
      refine Bd.eqI ((hf2.1 52 (by decide)).trans h52) ?_
      refine r_iconst (v := nI 1) (pc := 148) dX6_statementTold_148 (by decide) ?_
      first | refine r_iaddN (pc := 149) dX6_statementTold_149 ?_ | refine r_iaddJ (pc := 149) dX6_statementTold_149 ?_ | refine r_iadd (pc := 149) dX6_statementTold_149 ?_
      refine m_putI hS (pc := 150) dX6_statementTold_150 fl_X6_348 fw_X6_52 rfl rfl ?_
      refine r_vret (pc := 153) dX6_statementTold_153 ?_
      exact ⟨_, rfl, rfl, (hf.trans (FT.of hf2 (by decide) (by decide) (by decide) (by decide))).toS.t52, hB⟩
end M40
