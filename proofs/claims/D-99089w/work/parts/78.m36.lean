set_option maxRecDepth 100000
/-! THE MODEL: facts; what waits of tests -/
section M36
variable {g : GC} {M : MM} {o : Nat} {s s' sB : MS} {M1 : MM} {q : Sg} {f : Nat → Nat} {n a x : Nat}
def bQ2 (s : MS) (e : Nat × Nat) : Prop := BD s e ∧ ∃ c, c ≤ 1650 ∧ mF s 102 = nI c
def FaZ (f : Nat → Nat) (n : Nat) (cs W : List Nat) (op : Nat) (s' : MS) : Rz → Prop
  | .error e => bQ2 s' e
  | .ok y => RP s' f n y.2 ∧ RQ s' (cs ++ y.1) W op
theorem bQ.to2 {e : Nat × Nat} (h : bQ s e) : bQ2 s e := ⟨h.1, h.2.elim (fun c hc => ⟨c, by omega, hc.2⟩)⟩
/-- behind the sign of a fact -/
theorem fact63 {W cs : List Nat} {op e0 c v b : Nat} {it : Rz} {s1 : MS} (hS : ShM g M o) (hc : (c = 60 ∧ v = 7) ∨ (c = 62 ∧ v = 8) ∨ (c = 61 ∧ v = 9)) (hR : RP s1 f n b) (hb : b < n) (hfb : f b = c) (hQ : RQ s1 cs W op) (h106 : mF s1 106 = nI e0) (h54 : mF s1 54 = nI x) (hx : x ≤ 3) (hW : okT W) (hl : cs.length + W.length ≤ b) (hop : op ≤ 6) (hf : FQ s s1) :
    Bd g yX6_qFact cX6_qFact 2 none [] 7 0 0 (putM M o s1) 63 [some (.ref o), some (.int (nI c))] [] (QM M o (fun r s' => r = none ∧ FQ s s' ∧ FaZ f n cs W op s' (thn (sumP f n (atomP f n x (6 - op)) (b + 1)) (fun ds d => .ok (ds ++ [v], d))))) noX := by
  have hn := hR.1.2.2.2.1
  have hsg : sgOk c := by rcases hc with ⟨e, -⟩ | ⟨e, -⟩ | ⟨e, -⟩ <;> subst e <;> exact sgOk_all _ (by decide)
  have hR2 : RP (tF s1 2 (nI (b + 1))) f n (b + 1) := hR.step hb hfb hsg rfl (by rintro i (rfl | rfl | rfl) <;> rfl) rfl rfl
  have hQ2 := hQ.fr (fr_at2 (s := s1) (v := nI (b + 1))) (by decide) (by decide)
  have hsm := ct_X6_qSums (x := x) (e0 := e0) hS hR2 hQ2 h106 h54 hx hW (by omega) hop
  have hf2 : FQ s (tF s1 2 (nI (b + 1))) := Fr.tF hf (by decide)
  cases hz : sumP f n (atomP f n x (6 - op)) (b + 1) with
  | error e =>
    rw [hz] at hsm
    show Bd g yX6_qFact cX6_qFact 2 none [] 7 0 0 _ _ _ _ (QM M o (fun r s' => r = none ∧ FQ s s' ∧ bQ2 s' e)) noX
    have fin : ∀ (v : Int32) (s3 : MS), bQ s3 e → FQ s s3 → Bd g yX6_qFact cX6_qFact 2 none [] 7 0 0 (putM M o s3) 102 [some (.ref o), some (.int (nI c))] [.int v, .ref o] (QM M o (fun r s' => r = none ∧ FQ s s' ∧ bQ2 s' e)) noX := by
      intro v s3 hbq hf3
      obtain ⟨h1, c1, hc1, hc2⟩ := hbq
      refine r_cV (pc := 102) dX6_qFact_102 cv_X6_599 hS.k (ct_X6_qCodeR hS hc2 (by omega)) rfl rfl (Nat.le_of_ble_eq_true rfl) (by decide) ?_
      rintro _ _ ⟨rfl, rfl⟩
      refine r_vret (pc := 105) dX6_qFact_105 ?_
      exact ⟨_, rfl, rfl, hf3.trans ((RQ.codeF (s := s3)).mono (by decide) (by decide) (by decide) (by decide)), h1.fr (RQ.codeF (s := s3)) (by decide), c1 + 1, by omega, rfl⟩
    have hc2 : c < 100 := by omega
    refine r_ald0 (pc := 63) dX6_qFact_63 ?_
    refine r_dup (pc := 64) dX6_qFact_64 rfl ?_
    refine m_getI hS (pc := 65) dX6_qFact_65 fl_X6_243 ?_
    refine Bd.eqI hR.1.2.1 ?_
    refine r_iconst (v := nI 1) (pc := 68) dX6_qFact_68 (by decide) ?_
    first | refine r_iaddN (pc := 69) dX6_qFact_69 ?_ | refine r_iaddJ (pc := 69) dX6_qFact_69 ?_ | refine r_iadd (pc := 69) dX6_qFact_69 ?_
    refine m_putI hS (pc := 70) dX6_qFact_70 fl_X6_243 fw_X6_2 rfl rfl ?_
    refine r_ald0 (pc := 73) dX6_qFact_73 ?_
    refine r_cV (pc := 74) dX6_qFact_74 cv_X6_342 hS.k hsm rfl rfl (Nat.le_of_ble_eq_true rfl) (by decide) ?_
    rintro _ _ ⟨s3, rfl, rfl, hf3, hbq⟩
    refine r_ald0 (pc := 77) dX6_qFact_77 ?_
    refine r_ild1 (pc := 78) dX6_qFact_78 ?_
    refine r_bipush (v := nI 60) (pc := 79) dX6_qFact_79 (by decide) ?_
    first | refine r_icmp_neN (pc := 81) (tgt := 89) dX6_qFact_81 (by decide) (by omega) (by omega) (fun h81 => ?_) (fun h81 => ?_) | refine r_icmp_ne (pc := 81) (tgt := 89) dX6_qFact_81 (by decide) (fun h81 => ?_) (fun h81 => ?_)
    · skip
      refine r_ild1 (pc := 89) dX6_qFact_89 ?_
      refine r_bipush (v := nI 62) (pc := 90) dX6_qFact_90 (by decide) ?_
      first | refine r_icmp_neN (pc := 92) (tgt := 100) dX6_qFact_92 (by decide) (by omega) (by omega) (fun h92 => ?_) (fun h92 => ?_) | refine r_icmp_ne (pc := 92) (tgt := 100) dX6_qFact_92 (by decide) (fun h92 => ?_) (fun h92 => ?_)
      · skip
        refine r_bipush (v := nI 9) (pc := 100) dX6_qFact_100 (by decide) ?_
        exact fin _ s3 hbq (hf2.trans hf3)
      · skip
        refine r_bipush (v := nI 8) (pc := 95) dX6_qFact_95 (by decide) ?_
        refine r_goto (pc := 97) (tgt := 102) dX6_qFact_97 (by decide) ?_
        exact fin _ s3 hbq (hf2.trans hf3)
    · skip
      refine r_bipush (v := nI 7) (pc := 84) dX6_qFact_84 (by decide) ?_
      refine r_goto (pc := 86) (tgt := 102) dX6_qFact_86 (by decide) ?_
      exact fin _ s3 hbq (hf2.trans hf3)
  | ok z =>
    rw [hz] at hsm
    have hzl := fin_len hz
    show Bd g yX6_qFact cX6_qFact 2 none [] 7 0 0 _ _ _ _ (QM M o (fun r s' => r = none ∧ FQ s s' ∧ (RP s' f n z.2 ∧ RQ s' (cs ++ (z.1 ++ [v])) W op))) noX
    have fin : ∀ (s3 : MS), RP s3 f n z.2 → RQ s3 (cs ++ z.1) W op → FQ s s3 → Bd g yX6_qFact cX6_qFact 2 none [] 7 0 0 (putM M o s3) 102 [some (.ref o), some (.int (nI c))] [.int (nI v), .ref o] (QM M o (fun r s' => r = none ∧ FQ s s' ∧ (RP s' f n z.2 ∧ RQ s' (cs ++ (z.1 ++ [v])) W op))) noX := by
      intro s3 hR3 hQ3 hf3
      refine r_cV (pc := 102) dX6_qFact_102 cv_X6_599 hS.k (ct_X6_qCode hS hQ3 (by rw [List.length_append]; omega)) rfl rfl (Nat.le_of_ble_eq_true rfl) (by decide) ?_
      rintro _ _ ⟨s4, rfl, rfl, hQ4, hf4⟩
      rw [List.append_assoc] at hQ4
      refine r_vret (pc := 105) dX6_qFact_105 ?_
      exact ⟨_, rfl, rfl, hf3.trans (hf4.mono (by decide) (by decide) (by decide) (by decide)), hR3.fr hf4 (by decide) (by decide), hQ4⟩
    rcases hc with ⟨rfl, rfl⟩ | ⟨rfl, rfl⟩ | ⟨rfl, rfl⟩
    · skip
      refine r_ald0 (pc := 63) dX6_qFact_63 ?_
      refine r_dup (pc := 64) dX6_qFact_64 rfl ?_
      refine m_getI hS (pc := 65) dX6_qFact_65 fl_X6_243 ?_
      refine Bd.eqI hR.1.2.1 ?_
      refine r_iconst (v := nI 1) (pc := 68) dX6_qFact_68 (by decide) ?_
      first | refine r_iaddN (pc := 69) dX6_qFact_69 ?_ | refine r_iaddJ (pc := 69) dX6_qFact_69 ?_ | refine r_iadd (pc := 69) dX6_qFact_69 ?_
      refine m_putI hS (pc := 70) dX6_qFact_70 fl_X6_243 fw_X6_2 rfl rfl ?_
      refine r_ald0 (pc := 73) dX6_qFact_73 ?_
      refine r_cV (pc := 74) dX6_qFact_74 cv_X6_342 hS.k hsm rfl rfl (Nat.le_of_ble_eq_true rfl) (by decide) ?_
      rintro _ _ ⟨s3, rfl, rfl, hf3, hR3, hQ3⟩
      refine r_ald0 (pc := 77) dX6_qFact_77 ?_
      refine r_ild1 (pc := 78) dX6_qFact_78 ?_
      refine r_bipush (v := nI 60) (pc := 79) dX6_qFact_79 (by decide) ?_
      first | refine r_icmp_neN (pc := 81) (tgt := 89) dX6_qFact_81 (by decide) (by omega) (by omega) (fun h81 => ?_) (fun h81 => ?_) | refine r_icmp_ne (pc := 81) (tgt := 89) dX6_qFact_81 (by decide) (fun h81 => ?_) (fun h81 => ?_)
      · skip
        exact absurd rfl h81
      · skip
        refine r_bipush (v := nI 7) (pc := 84) dX6_qFact_84 (by decide) ?_
        refine r_goto (pc := 86) (tgt := 102) dX6_qFact_86 (by decide) ?_
        exact fin s3 hR3 hQ3 (hf2.trans hf3)
    · skip
      refine r_ald0 (pc := 63) dX6_qFact_63 ?_
      refine r_dup (pc := 64) dX6_qFact_64 rfl ?_
      refine m_getI hS (pc := 65) dX6_qFact_65 fl_X6_243 ?_
      refine Bd.eqI hR.1.2.1 ?_
      refine r_iconst (v := nI 1) (pc := 68) dX6_qFact_68 (by decide) ?_
      first | refine r_iaddN (pc := 69) dX6_qFact_69 ?_ | refine r_iaddJ (pc := 69) dX6_qFact_69 ?_ | refine r_iadd (pc := 69) dX6_qFact_69 ?_
      refine m_putI hS (pc := 70) dX6_qFact_70 fl_X6_243 fw_X6_2 rfl rfl ?_
      refine r_ald0 (pc := 73) dX6_qFact_73 ?_
      refine r_cV (pc := 74) dX6_qFact_74 cv_X6_342 hS.k hsm rfl rfl (Nat.le_of_ble_eq_true rfl) (by decide) ?_
      rintro _ _ ⟨s3, rfl, rfl, hf3, hR3, hQ3⟩
      refine r_ald0 (pc := 77) dX6_qFact_77 ?_
      refine r_ild1 (pc := 78) dX6_qFact_78 ?_
      refine r_bipush (v := nI 60) (pc := 79) dX6_qFact_79 (by decide) ?_
      first | refine r_icmp_neN (pc := 81) (tgt := 89) dX6_qFact_81 (by decide) (by omega) (by omega) (fun h81 => ?_) (fun h81 => ?_) | refine r_icmp_ne (pc := 81) (tgt := 89) dX6_qFact_81 (by decide) (fun h81 => ?_) (fun h81 => ?_)
      · skip
        refine r_ild1 (pc := 89) dX6_qFact_89 ?_
        refine r_bipush (v := nI 62) (pc := 90) dX6_qFact_90 (by decide) ?_
        first | refine r_icmp_neN (pc := 92) (tgt := 100) dX6_qFact_92 (by decide) (by omega) (by omega) (fun h92 => ?_) (fun h92 => ?_) | refine r_icmp_ne (pc := 92) (tgt := 100) dX6_qFact_92 (by decide) (fun h92 => ?_) (fun h92 => ?_)
        · skip
          exact absurd rfl h92
        · skip
          refine r_bipush (v := nI 8) (pc := 95) dX6_qFact_95 (by decide) ?_
          refine r_goto (pc := 97) (tgt := 102) dX6_qFact_97 (by decide) ?_
          exact fin s3 hR3 hQ3 (hf2.trans hf3)
      · skip
        exact absurd h81 (by decide)
    · skip
      refine r_ald0 (pc := 63) dX6_qFact_63 ?_
      refine r_dup (pc := 64) dX6_qFact_64 rfl ?_
      refine m_getI hS (pc := 65) dX6_qFact_65 fl_X6_243 ?_
      refine Bd.eqI hR.1.2.1 ?_
      refine r_iconst (v := nI 1) (pc := 68) dX6_qFact_68 (by decide) ?_
      first | refine r_iaddN (pc := 69) dX6_qFact_69 ?_ | refine r_iaddJ (pc := 69) dX6_qFact_69 ?_ | refine r_iadd (pc := 69) dX6_qFact_69 ?_
      refine m_putI hS (pc := 70) dX6_qFact_70 fl_X6_243 fw_X6_2 rfl rfl ?_
      refine r_ald0 (pc := 73) dX6_qFact_73 ?_
      refine r_cV (pc := 74) dX6_qFact_74 cv_X6_342 hS.k hsm rfl rfl (Nat.le_of_ble_eq_true rfl) (by decide) ?_
      rintro _ _ ⟨s3, rfl, rfl, hf3, hR3, hQ3⟩
      refine r_ald0 (pc := 77) dX6_qFact_77 ?_
      refine r_ild1 (pc := 78) dX6_qFact_78 ?_
      refine r_bipush (v := nI 60) (pc := 79) dX6_qFact_79 (by decide) ?_
      first | refine r_icmp_neN (pc := 81) (tgt := 89) dX6_qFact_81 (by decide) (by omega) (by omega) (fun h81 => ?_) (fun h81 => ?_) | refine r_icmp_ne (pc := 81) (tgt := 89) dX6_qFact_81 (by decide) (fun h81 => ?_) (fun h81 => ?_)
      · skip
        refine r_ild1 (pc := 89) dX6_qFact_89 ?_
        refine r_bipush (v := nI 62) (pc := 90) dX6_qFact_90 (by decide) ?_
        first | refine r_icmp_neN (pc := 92) (tgt := 100) dX6_qFact_92 (by decide) (by omega) (by omega) (fun h92 => ?_) (fun h92 => ?_) | refine r_icmp_ne (pc := 92) (tgt := 100) dX6_qFact_92 (by decide) (fun h92 => ?_) (fun h92 => ?_)
        · skip
          refine r_bipush (v := nI 9) (pc := 100) dX6_qFact_100 (by decide) ?_
          exact fin s3 hR3 hQ3 (hf2.trans hf3)
        · skip
          exact absurd h92 (by decide)
      · skip
        exact absurd h81 (by decide)
theorem ct_X6_qFact {W cs : List Nat} {op e0 p : Nat} (hS : ShM g M o) (hp : skip f n p = p) (hR : RP s f n p) (hQ : RQ s cs W op) (h106 : mF s 106 = nI e0) (h54 : mF s 54 = nI x) (hx : x ≤ 3) (hW : okT W) (hl : cs.length + W.length ≤ p) (hop : op ≤ 6) :
    Ct g yX6_qFact cX6_qFact 2 none 7 0 0 [.ref o] (putM M o s) (QM M o (fun r s' => r = none ∧ FQ s s' ∧ FaZ f n cs W op s' (facM f n x op p))) noX := by
  have hn := hR.1.2.2.2.1
  refine Ct.of (by decide) (Nat.le_of_ble_eq_true rfl) rfl ?_
  unfold facM
  have htk := ct_X6_takes hS hR ar85 (w := wAll) (by decide)
  rw [hp] at htk
  by_cases hw : word f n p = some wAll
  · rw [if_pos hw]
    have hwe := (word_end hw).1
    have hwe : p + 3 ≤ n := by simpa using hwe
    refine r_ald0 (pc := 0) dX6_qFact_0 ?_
    refine r_ald0 (pc := 1) dX6_qFact_1 ?_
    refine m_getR hS (pc := 2) dX6_qFact_2 fl_X6_174 ar85 ?_
    refine r_cV (pc := 5) dX6_qFact_5 cv_X6_264 hS.k htk rfl rfl (Nat.le_of_ble_eq_true rfl) (by decide) ?_
    rintro _ _ ⟨s1, rfl, rfl, hR1, hf1⟩
    rw [if_pos hw] at hR1
    first | refine r_if_eqZ (pc := 8) (tgt := 18) dX6_qFact_8 (by decide) (fun h8 => ?_) (fun h8 => ?_) | refine r_if_eqN (pc := 8) (tgt := 18) dX6_qFact_8 (by decide) (by omega) (fun h8 => ?_) (fun h8 => ?_) | refine r_if_eq (pc := 8) (tgt := 18) dX6_qFact_8 (by decide) (fun h8 => ?_) (fun h8 => ?_)
    · skip
      exact absurd hw h8
    · skip
      refine r_ald0 (pc := 11) dX6_qFact_11 ?_
      refine r_bipush (v := nI 13) (pc := 12) dX6_qFact_12 (by decide) ?_
      refine r_cV (pc := 14) dX6_qFact_14 cv_X6_599 hS.k (ct_X6_qCode (v := 13) hS (hQ.fr hf1 (by decide) (by decide)) (by omega)) rfl rfl (Nat.le_of_ble_eq_true rfl) (by decide) ?_
      rintro _ _ ⟨s2, rfl, rfl, hQ2, hf2⟩
      refine r_vret (pc := 17) dX6_qFact_17 ?_
      exact ⟨_, rfl, rfl, (hf1.mono (by decide) (by decide) (by decide) (by decide)).trans (hf2.mono (by decide) (by decide) (by decide) (by decide)), hR1.fr hf2 (by decide) (by decide), hQ2⟩
  · rw [if_neg hw]
    unfold thanP
    have f18 : ∀ s1, RP s1 f n p → Fr [2, 4] [] [] [] s s1 → Bd g yX6_qFact cX6_qFact 2 none [] 7 0 0 (putM M o s1) 18 [some (.ref o), none] [] (QM M o (fun r s' => r = none ∧ FQ s s' ∧ FaZ f n cs W op s' (thn (sumP f n (atomP f n x (6 - op)) p) (fun cs b => match sgT f n b with
        | none => .error (1, skip f n b)
        | some v => thn (sumP f n (atomP f n x (6 - op)) (skip f n b + 1)) (fun ds c => .ok (cs ++ (ds ++ [v]), c)))))) noX := by
      intro s1 hR1 hf1
      have hQ1 := hQ.fr hf1 (by decide) (by decide)
      have hsm := ct_X6_qSums (x := x) (e0 := e0) hS hR1 hQ1 ((hf1.1 106 (by decide)).trans h106) ((hf1.1 54 (by decide)).trans h54) hx hW hl hop
      cases hz : sumP f n (atomP f n x (6 - op)) p with
      | error e =>
        rw [hz] at hsm
        refine r_ald0 (pc := 18) dX6_qFact_18 ?_
        refine r_cV (pc := 19) dX6_qFact_19 cv_X6_342 hS.k hsm rfl rfl (Nat.le_of_ble_eq_true rfl) (by decide) ?_
        rintro _ _ ⟨s2, rfl, rfl, hf2, hbq⟩
        refine r_ald0 (pc := 22) dX6_qFact_22 ?_
        refine m_getI hS (pc := 23) dX6_qFact_23 fl_X6_237 ?_
        refine r_if_eq (pc := 26) (tgt := 30) dX6_qFact_26 (by decide) (fun h26 => ?_) (fun h26 => ?_)
        · skip
          exact absurd h26 hbq.1.ne
        · skip
          refine r_vret (pc := 29) dX6_qFact_29 ?_
          exact ⟨_, rfl, rfl, (hf1.mono (by decide) (by decide) (by decide) (by decide)).trans hf2, hbq.to2⟩
      | ok z =>
        rw [hz] at hsm
        have hzl := fin_len hz
        have hsk := skip_ge f n z.2
        have hskl := skip_le (f := f) hzl.2.1
        show Bd g yX6_qFact cX6_qFact 2 none [] 7 0 0 _ _ _ _ (QM M o (fun r s' => r = none ∧ FQ s s' ∧ FaZ f n cs W op s' (match sgT f n z.2 with
          | none => .error (1, skip f n z.2)
          | some v => thn (sumP f n (atomP f n x (6 - op)) (skip f n z.2 + 1)) (fun ds c => .ok (z.1 ++ (ds ++ [v]), c))))) noX
        have hgo : ∀ (c v : Nat) (s3 : MS), (c = 60 ∧ v = 7) ∨ (c = 62 ∧ v = 8) ∨ (c = 61 ∧ v = 9) → lookO f n z.2 = some c → RP s3 f n (skip f n z.2) → RQ s3 (cs ++ z.1) W op → mF s3 106 = nI e0 → mF s3 54 = nI x → FQ s s3 → Bd g yX6_qFact cX6_qFact 2 none [] 7 0 0 (putM M o s3) 63 [some (.ref o), some (.int (nI c))] [] (QM M o (fun r s' => r = none ∧ FQ s s' ∧ FaZ f n cs W op s' (match sgT f n z.2 with
          | none => .error (1, skip f n z.2)
          | some v => thn (sumP f n (atomP f n x (6 - op)) (skip f n z.2 + 1)) (fun ds c => .ok (z.1 ++ (ds ++ [v]), c))))) noX := by
          intro c v s3 hc hlc hR3 hQ3 h1063 h543 hf3
          obtain ⟨l1, l2⟩ := lookO_some hlc
          have hsv : sgT f n z.2 = some v := by
            unfold sgT; rw [hlc]
            rcases hc with ⟨rfl, rfl⟩ | ⟨rfl, rfl⟩ | ⟨rfl, rfl⟩ <;> rfl
          rw [hsv]
          have h63 := fact63 (it := .error (0, 0)) (W := W) (cs := cs ++ z.1) (op := op) (v := v) hS hc hR3 l1 l2 hQ3 h1063 h543 hx hW (by rw [List.length_append]; omega) hop hf3
          refine Bd.post ?_ (fun _ _ h => h) h63
          rintro r M' ⟨s4, rfl, h1, h2, h3⟩
          refine ⟨s4, rfl, h1, h2, ?_⟩
          show FaZ f n cs W op s4 (thn (sumP f n (atomP f n x (6 - op)) (skip f n z.2 + 1)) (fun ds c => .ok (z.1 ++ (ds ++ [v]), c)))
          cases hy : sumP f n (atomP f n x (6 - op)) (skip f n z.2 + 1) with
          | error e => rw [hy] at h3; exact h3
          | ok y =>
            rw [hy] at h3
            have h3 : RP s4 f n y.2 ∧ RQ s4 (cs ++ z.1 ++ (y.1 ++ [v])) W op := h3
            rw [List.append_assoc] at h3
            exact h3
        have hlk : ∀ {s2 : MS}, RP s2 f n z.2 → _ := fun {s2} hR2 => ct_X6_lookP (a := z.2) hS hR2
        by_cases l60 : lookO f n z.2 = some 60
        · rw [l60] at hlk
          rw [show oI (some 60) = nI 60 from rfl] at hlk
          refine r_ald0 (pc := 18) dX6_qFact_18 ?_
          refine r_cV (pc := 19) dX6_qFact_19 cv_X6_342 hS.k hsm rfl rfl (Nat.le_of_ble_eq_true rfl) (by decide) ?_
          rintro _ _ ⟨s2, rfl, rfl, hf2, hR2, hQ2⟩
          refine r_ald0 (pc := 22) dX6_qFact_22 ?_
          refine m_getI hS (pc := 23) dX6_qFact_23 fl_X6_237 ?_
          refine Bd.eqI hR2.2.1 ?_
          first | refine r_if_eqZ (pc := 26) (tgt := 30) dX6_qFact_26 (by decide) (fun h26 => ?_) (fun h26 => ?_) | refine r_if_eqN (pc := 26) (tgt := 30) dX6_qFact_26 (by decide) (by omega) (fun h26 => ?_) (fun h26 => ?_) | refine r_if_eq (pc := 26) (tgt := 30) dX6_qFact_26 (by decide) (fun h26 => ?_) (fun h26 => ?_)
          · skip
            refine r_ald0 (pc := 30) dX6_qFact_30 ?_
            refine r_cV (pc := 31) dX6_qFact_31 cv_X6_249 hS.k (hlk hR2) rfl rfl (Nat.le_of_ble_eq_true rfl) (by decide) ?_
            rintro _ _ ⟨s3, rfl, rfl, hR3, hf3⟩
            refine r_ist1 (pc := 34) dX6_qFact_34 ?_
            refine r_ild1 (pc := 35) dX6_qFact_35 ?_
            refine r_bipush (v := nI 60) (pc := 36) dX6_qFact_36 (by decide) ?_
            first | refine r_icmp_eqN (pc := 38) (tgt := 63) dX6_qFact_38 (by decide) (by omega) (by omega) (fun h38 => ?_) (fun h38 => ?_) | refine r_icmp_eq (pc := 38) (tgt := 63) dX6_qFact_38 (by decide) (fun h38 => ?_) (fun h38 => ?_)
            · skip
              exact hgo 60 7 s3 (by decide) l60 hR3 (hQ2.fr hf3 (by decide) (by decide)) ((hf3.1 106 (by decide)).trans ((hf2.1 106 (by decide)).trans ((hf1.1 106 (by decide)).trans h106))) ((hf3.1 54 (by decide)).trans ((hf2.1 54 (by decide)).trans ((hf1.1 54 (by decide)).trans h54))) ((hf1.mono (by decide) (by decide) (by decide) (by decide)).trans (hf2.trans (hf3.mono (by decide) (by decide) (by decide) (by decide))))
            · skip
              exact absurd rfl h38
          · skip
            exact absurd rfl h26
        · by_cases l62 : lookO f n z.2 = some 62
          · rw [l62] at hlk
            rw [show oI (some 62) = nI 62 from rfl] at hlk
            refine r_ald0 (pc := 18) dX6_qFact_18 ?_
            refine r_cV (pc := 19) dX6_qFact_19 cv_X6_342 hS.k hsm rfl rfl (Nat.le_of_ble_eq_true rfl) (by decide) ?_
            rintro _ _ ⟨s2, rfl, rfl, hf2, hR2, hQ2⟩
            refine r_ald0 (pc := 22) dX6_qFact_22 ?_
            refine m_getI hS (pc := 23) dX6_qFact_23 fl_X6_237 ?_
            refine Bd.eqI hR2.2.1 ?_
            first | refine r_if_eqZ (pc := 26) (tgt := 30) dX6_qFact_26 (by decide) (fun h26 => ?_) (fun h26 => ?_) | refine r_if_eqN (pc := 26) (tgt := 30) dX6_qFact_26 (by decide) (by omega) (fun h26 => ?_) (fun h26 => ?_) | refine r_if_eq (pc := 26) (tgt := 30) dX6_qFact_26 (by decide) (fun h26 => ?_) (fun h26 => ?_)
            · skip
              refine r_ald0 (pc := 30) dX6_qFact_30 ?_
              refine r_cV (pc := 31) dX6_qFact_31 cv_X6_249 hS.k (hlk hR2) rfl rfl (Nat.le_of_ble_eq_true rfl) (by decide) ?_
              rintro _ _ ⟨s3, rfl, rfl, hR3, hf3⟩
              refine r_ist1 (pc := 34) dX6_qFact_34 ?_
              refine r_ild1 (pc := 35) dX6_qFact_35 ?_
              refine r_bipush (v := nI 60) (pc := 36) dX6_qFact_36 (by decide) ?_
              first | refine r_icmp_eqN (pc := 38) (tgt := 63) dX6_qFact_38 (by decide) (by omega) (by omega) (fun h38 => ?_) (fun h38 => ?_) | refine r_icmp_eq (pc := 38) (tgt := 63) dX6_qFact_38 (by decide) (fun h38 => ?_) (fun h38 => ?_)
              · skip
                exact absurd h38 (by decide)
              · skip
                refine r_ild1 (pc := 41) dX6_qFact_41 ?_
                refine r_bipush (v := nI 62) (pc := 42) dX6_qFact_42 (by decide) ?_
                first | refine r_icmp_eqN (pc := 44) (tgt := 63) dX6_qFact_44 (by decide) (by omega) (by omega) (fun h44 => ?_) (fun h44 => ?_) | refine r_icmp_eq (pc := 44) (tgt := 63) dX6_qFact_44 (by decide) (fun h44 => ?_) (fun h44 => ?_)
                · skip
                  exact hgo 62 8 s3 (by decide) l62 hR3 (hQ2.fr hf3 (by decide) (by decide)) ((hf3.1 106 (by decide)).trans ((hf2.1 106 (by decide)).trans ((hf1.1 106 (by decide)).trans h106))) ((hf3.1 54 (by decide)).trans ((hf2.1 54 (by decide)).trans ((hf1.1 54 (by decide)).trans h54))) ((hf1.mono (by decide) (by decide) (by decide) (by decide)).trans (hf2.trans (hf3.mono (by decide) (by decide) (by decide) (by decide))))
                · skip
                  exact absurd rfl h44
            · skip
              exact absurd rfl h26
          · by_cases l61 : lookO f n z.2 = some 61
            · rw [l61] at hlk
              rw [show oI (some 61) = nI 61 from rfl] at hlk
              refine r_ald0 (pc := 18) dX6_qFact_18 ?_
              refine r_cV (pc := 19) dX6_qFact_19 cv_X6_342 hS.k hsm rfl rfl (Nat.le_of_ble_eq_true rfl) (by decide) ?_
              rintro _ _ ⟨s2, rfl, rfl, hf2, hR2, hQ2⟩
              refine r_ald0 (pc := 22) dX6_qFact_22 ?_
              refine m_getI hS (pc := 23) dX6_qFact_23 fl_X6_237 ?_
              refine Bd.eqI hR2.2.1 ?_
              first | refine r_if_eqZ (pc := 26) (tgt := 30) dX6_qFact_26 (by decide) (fun h26 => ?_) (fun h26 => ?_) | refine r_if_eqN (pc := 26) (tgt := 30) dX6_qFact_26 (by decide) (by omega) (fun h26 => ?_) (fun h26 => ?_) | refine r_if_eq (pc := 26) (tgt := 30) dX6_qFact_26 (by decide) (fun h26 => ?_) (fun h26 => ?_)
              · skip
                refine r_ald0 (pc := 30) dX6_qFact_30 ?_
                refine r_cV (pc := 31) dX6_qFact_31 cv_X6_249 hS.k (hlk hR2) rfl rfl (Nat.le_of_ble_eq_true rfl) (by decide) ?_
                rintro _ _ ⟨s3, rfl, rfl, hR3, hf3⟩
                refine r_ist1 (pc := 34) dX6_qFact_34 ?_
                refine r_ild1 (pc := 35) dX6_qFact_35 ?_
                refine r_bipush (v := nI 60) (pc := 36) dX6_qFact_36 (by decide) ?_
                first | refine r_icmp_eqN (pc := 38) (tgt := 63) dX6_qFact_38 (by decide) (by omega) (by omega) (fun h38 => ?_) (fun h38 => ?_) | refine r_icmp_eq (pc := 38) (tgt := 63) dX6_qFact_38 (by decide) (fun h38 => ?_) (fun h38 => ?_)
                · skip
                  exact absurd h38 (by decide)
                · skip
                  refine r_ild1 (pc := 41) dX6_qFact_41 ?_
                  refine r_bipush (v := nI 62) (pc := 42) dX6_qFact_42 (by decide) ?_
                  first | refine r_icmp_eqN (pc := 44) (tgt := 63) dX6_qFact_44 (by decide) (by omega) (by omega) (fun h44 => ?_) (fun h44 => ?_) | refine r_icmp_eq (pc := 44) (tgt := 63) dX6_qFact_44 (by decide) (fun h44 => ?_) (fun h44 => ?_)
                  · skip
                    exact absurd h44 (by decide)
                  · skip
                    refine r_ild1 (pc := 47) dX6_qFact_47 ?_
                    refine r_bipush (v := nI 61) (pc := 48) dX6_qFact_48 (by decide) ?_
                    first | refine r_icmp_eqN (pc := 50) (tgt := 63) dX6_qFact_50 (by decide) (by omega) (by omega) (fun h50 => ?_) (fun h50 => ?_) | refine r_icmp_eq (pc := 50) (tgt := 63) dX6_qFact_50 (by decide) (fun h50 => ?_) (fun h50 => ?_)
                    · skip
                      exact hgo 61 9 s3 (by decide) l61 hR3 (hQ2.fr hf3 (by decide) (by decide)) ((hf3.1 106 (by decide)).trans ((hf2.1 106 (by decide)).trans ((hf1.1 106 (by decide)).trans h106))) ((hf3.1 54 (by decide)).trans ((hf2.1 54 (by decide)).trans ((hf1.1 54 (by decide)).trans h54))) ((hf1.mono (by decide) (by decide) (by decide) (by decide)).trans (hf2.trans (hf3.mono (by decide) (by decide) (by decide) (by decide))))
                    · skip
                      exact absurd rfl h50
              · skip
                exact absurd rfl h26
            · rw [show sgT f n z.2 = none by unfold sgT; rw [if_neg l60, if_neg l62, if_neg l61]]
              have hnl : ∀ {s2 : MS}, RP s2 f n z.2 → ∀ c, c < 256 → lookO f n z.2 ≠ some c → oI (lookO f n z.2) ≠ nI c := fun {s2} hR2 c hc h1 h2 => h1 (oI_inj (fun y hy => by have := (lookO_lt hR2 hy).1; omega) (by omega) h2)
              refine r_ald0 (pc := 18) dX6_qFact_18 ?_
              refine r_cV (pc := 19) dX6_qFact_19 cv_X6_342 hS.k hsm rfl rfl (Nat.le_of_ble_eq_true rfl) (by decide) ?_
              rintro _ _ ⟨s2, rfl, rfl, hf2, hR2, hQ2⟩
              refine r_ald0 (pc := 22) dX6_qFact_22 ?_
              refine m_getI hS (pc := 23) dX6_qFact_23 fl_X6_237 ?_
              refine Bd.eqI hR2.2.1 ?_
              first | refine r_if_eqZ (pc := 26) (tgt := 30) dX6_qFact_26 (by decide) (fun h26 => ?_) (fun h26 => ?_) | refine r_if_eqN (pc := 26) (tgt := 30) dX6_qFact_26 (by decide) (by omega) (fun h26 => ?_) (fun h26 => ?_) | refine r_if_eq (pc := 26) (tgt := 30) dX6_qFact_26 (by decide) (fun h26 => ?_) (fun h26 => ?_)
              · skip
                refine r_ald0 (pc := 30) dX6_qFact_30 ?_
                refine r_cV (pc := 31) dX6_qFact_31 cv_X6_249 hS.k (hlk hR2) rfl rfl (Nat.le_of_ble_eq_true rfl) (by decide) ?_
                rintro _ _ ⟨s3, rfl, rfl, hR3, hf3⟩
                refine r_ist1 (pc := 34) dX6_qFact_34 ?_
                refine r_ild1 (pc := 35) dX6_qFact_35 ?_
                refine r_bipush (v := nI 60) (pc := 36) dX6_qFact_36 (by decide) ?_
                refine r_icmp_eq (pc := 38) (tgt := 63) dX6_qFact_38 (by decide) (fun h38 => ?_) (fun h38 => ?_)
                · skip
                  exact absurd h38 (hnl hR2 60 (by decide) l60)
                · skip
                  refine r_ild1 (pc := 41) dX6_qFact_41 ?_
                  refine r_bipush (v := nI 62) (pc := 42) dX6_qFact_42 (by decide) ?_
                  refine r_icmp_eq (pc := 44) (tgt := 63) dX6_qFact_44 (by decide) (fun h44 => ?_) (fun h44 => ?_)
                  · skip
                    exact absurd h44 (hnl hR2 62 (by decide) l62)
                  · skip
                    refine r_ild1 (pc := 47) dX6_qFact_47 ?_
                    refine r_bipush (v := nI 61) (pc := 48) dX6_qFact_48 (by decide) ?_
                    refine r_icmp_eq (pc := 50) (tgt := 63) dX6_qFact_50 (by decide) (fun h50 => ?_) (fun h50 => ?_)
                    · skip
                      exact absurd h50 (hnl hR2 61 (by decide) l61)
                    · skip
                      refine r_ald0 (pc := 53) dX6_qFact_53 ?_
                      refine r_iconst (v := nI 1) (pc := 54) dX6_qFact_54 (by decide) ?_
                      refine r_ald0 (pc := 55) dX6_qFact_55 ?_
                      refine m_getI hS (pc := 56) dX6_qFact_56 fl_X6_243 ?_
                      refine Bd.eqI hR3.1.2.1 ?_
                      refine r_cV (pc := 59) dX6_qFact_59 cv_X6_267 hS.k (ct_X6_failP hS hR3.2.1 (by decide) (by omega)) rfl rfl (Nat.le_of_ble_eq_true rfl) (by decide) ?_
                      rintro _ _ ⟨s4, rfl, rfl, hB4, hf4⟩
                      refine r_vret (pc := 62) dX6_qFact_62 ?_
                      exact ⟨_, rfl, rfl, (hf1.mono (by decide) (by decide) (by decide) (by decide)).trans (hf2.trans ((hf3.mono (by decide) (by decide) (by decide) (by decide)).trans (hf4.mono (by decide) (by decide) (by decide) (by decide)))), hB4, (cs ++ z.1).length, by rw [List.length_append]; omega, (hf4.1 102 (by decide)).trans ((hf3.1 102 (by decide)).trans hQ2.1)⟩
              · skip
                exact absurd rfl h26
    refine r_ald0 (pc := 0) dX6_qFact_0 ?_
    refine r_ald0 (pc := 1) dX6_qFact_1 ?_
    refine m_getR hS (pc := 2) dX6_qFact_2 fl_X6_174 ar85 ?_
    refine r_cV (pc := 5) dX6_qFact_5 cv_X6_264 hS.k htk rfl rfl (Nat.le_of_ble_eq_true rfl) (by decide) ?_
    rintro _ _ ⟨s1, rfl, rfl, hR1, hf1⟩
    rw [if_neg hw] at hR1
    first | refine r_if_eqZ (pc := 8) (tgt := 18) dX6_qFact_8 (by decide) (fun h8 => ?_) (fun h8 => ?_) | refine r_if_eqN (pc := 8) (tgt := 18) dX6_qFact_8 (by decide) (by omega) (fun h8 => ?_) (fun h8 => ?_) | refine r_if_eq (pc := 8) (tgt := 18) dX6_qFact_8 (by decide) (fun h8 => ?_) (fun h8 => ?_)
    · skip
      exact f18 s1 hR1 hf1
    · skip
      exact absurd h8 hw
theorem snoc_cases : ∀ P : List Nat, P = [] ∨ ∃ Q v, P = Q ++ [v]
  | [] => Or.inl rfl
  | c :: P => by
    rcases snoc_cases P with h | ⟨Q, v, h⟩
    · exact Or.inr ⟨[], c, by rw [h]; rfl⟩
    · exact Or.inr ⟨c :: Q, v, by rw [h]; rfl⟩
theorem hasSqLoop {cs W : List Nat} {op : Nat} (hS : ShM g M o) (hQ : RQ s cs W op) :
    ∀ (k : Nat) (P T : List Nat), P.length = k → W = P ++ T → ¬ 25 ∈ T → Bd g yX6_qHasSquare cX6_qHasSquare 2 (some Jvm.ClassFile.FieldType.boolean) [] 0 0 0 (putM M o s) 2 [some (.ref o), some (.int (nI T.length))] [] (PQ (putM M o s) (.int (zI (25 ∈ W)))) noX := by
  obtain ⟨r1, r2, r3, r4, r5, r6, r7⟩ := hQ
  intro k
  induction k with
  | zero =>
    intro P T hP hW hT
    have hP : P = [] := List.eq_nil_of_length_eq_zero hP
    subst hP
    have hW : W = T := hW
    subst hW
    rw [zI_f hT]
    refine r_ild1 (pc := 2) dX6_qHasSquare_2 ?_
    refine r_ald0 (pc := 3) dX6_qHasSquare_3 ?_
    refine m_getI hS (pc := 4) dX6_qHasSquare_4 fl_X6_330 ?_
    refine Bd.eqI r3 ?_
    first | refine r_icmp_geN (pc := 7) (tgt := 29) dX6_qHasSquare_7 (by decide) (by omega) (by omega) (fun h7 => ?_) (fun h7 => ?_) | refine r_icmp_ge (pc := 7) (tgt := 29) dX6_qHasSquare_7 (by decide) (fun h7 => ?_) (fun h7 => ?_)
    · skip
      refine r_iconst (v := nI 0) (pc := 29) dX6_qHasSquare_29 (by decide) ?_
      refine r_zret (pc := 30) dX6_qHasSquare_30 (by first | rfl | exact zI_nar | assumption) ?_
      exact ⟨rfl, rfl⟩
    · skip
      exact absurd h7 (by omega)
  | succ k ih =>
    intro P T hP hW hT
    rcases snoc_cases P with h | ⟨Q, v, h⟩
    · rw [h] at hP; cases hP
    · subst h
      have hW2 : W = Q ++ v :: T := by rw [hW]; simp
      have hl : W.length = Q.length + (T.length + 1) := by rw [hW2, List.length_append]; rfl
      have hv : mA s 103 T.length = nI v := by rw [hW2] at r4; exact pilN_at r4
      have hv2 : v < 100 := r6 v (by rw [hW2]; simp)
      have hQl : Q.length = k := by rw [List.length_append] at hP; have : Q.length + 1 = k + 1 := hP; omega
      by_cases e : v = 25
      · subst e
        rw [zI_t (by rw [hW2]; simp : 25 ∈ W)]
        refine r_ild1 (pc := 2) dX6_qHasSquare_2 ?_
        refine r_ald0 (pc := 3) dX6_qHasSquare_3 ?_
        refine m_getI hS (pc := 4) dX6_qHasSquare_4 fl_X6_330 ?_
        refine Bd.eqI r3 ?_
        first | refine r_icmp_geN (pc := 7) (tgt := 29) dX6_qHasSquare_7 (by decide) (by omega) (by omega) (fun h7 => ?_) (fun h7 => ?_) | refine r_icmp_ge (pc := 7) (tgt := 29) dX6_qHasSquare_7 (by decide) (fun h7 => ?_) (fun h7 => ?_)
        · skip
          exact absurd h7 (by omega)
        · skip
          refine r_ald0 (pc := 10) dX6_qHasSquare_10 ?_
          refine m_getR hS (pc := 11) dX6_qHasSquare_11 fl_X6_225 ar103 ?_
          refine r_ild1 (pc := 14) dX6_qHasSquare_14 ?_
          refine m_iald hS (pc := 15) dX6_qHasSquare_15 ar103 (by omega) (by omega) ?_
          refine Bd.eqI hv ?_
          refine r_bipush (v := nI 25) (pc := 16) dX6_qHasSquare_16 (by decide) ?_
          first | refine r_icmp_neN (pc := 18) (tgt := 23) dX6_qHasSquare_18 (by decide) (by omega) (by omega) (fun h18 => ?_) (fun h18 => ?_) | refine r_icmp_ne (pc := 18) (tgt := 23) dX6_qHasSquare_18 (by decide) (fun h18 => ?_) (fun h18 => ?_)
          · skip
            exact absurd rfl h18
          · skip
            refine r_iconst (v := nI 1) (pc := 21) dX6_qHasSquare_21 (by decide) ?_
            refine r_zret (pc := 22) dX6_qHasSquare_22 (by first | rfl | exact zI_nar | assumption) ?_
            exact ⟨rfl, rfl⟩
      · have hih := ih Q (v :: T) hQl hW2 (by intro q; rcases List.mem_cons.mp q with q | q; exact e q.symm; exact hT q)
        refine r_ild1 (pc := 2) dX6_qHasSquare_2 ?_
        refine r_ald0 (pc := 3) dX6_qHasSquare_3 ?_
        refine m_getI hS (pc := 4) dX6_qHasSquare_4 fl_X6_330 ?_
        refine Bd.eqI r3 ?_
        first | refine r_icmp_geN (pc := 7) (tgt := 29) dX6_qHasSquare_7 (by decide) (by omega) (by omega) (fun h7 => ?_) (fun h7 => ?_) | refine r_icmp_ge (pc := 7) (tgt := 29) dX6_qHasSquare_7 (by decide) (fun h7 => ?_) (fun h7 => ?_)
        · skip
          exact absurd h7 (by omega)
        · skip
          refine r_ald0 (pc := 10) dX6_qHasSquare_10 ?_
          refine m_getR hS (pc := 11) dX6_qHasSquare_11 fl_X6_225 ar103 ?_
          refine r_ild1 (pc := 14) dX6_qHasSquare_14 ?_
          refine m_iald hS (pc := 15) dX6_qHasSquare_15 ar103 (by omega) (by omega) ?_
          refine Bd.eqI hv ?_
          refine r_bipush (v := nI 25) (pc := 16) dX6_qHasSquare_16 (by decide) ?_
          first | refine r_icmp_neN (pc := 18) (tgt := 23) dX6_qHasSquare_18 (by decide) (by omega) (by omega) (fun h18 => ?_) (fun h18 => ?_) | refine r_icmp_ne (pc := 18) (tgt := 23) dX6_qHasSquare_18 (by decide) (fun h18 => ?_) (fun h18 => ?_)
          · skip
            first | refine r_iinc1N (j := 1) (pc := 23) dX6_qHasSquare_23 rfl ?_ | refine r_iinc1 (pc := 23) dX6_qHasSquare_23 ?_
            refine r_goto (pc := 26) (tgt := 2) dX6_qHasSquare_26 (by decide) ?_
            exact hih
          · skip
            exact absurd h18 e
theorem ct_X6_qHasSquare {cs W : List Nat} {op : Nat} (hS : ShM g M o) (hQ : RQ s cs W op) : Ct g yX6_qHasSquare cX6_qHasSquare 2 (some Jvm.ClassFile.FieldType.boolean) 0 0 0 [.ref o] (putM M o s) (PQ (putM M o s) (.int (zI (25 ∈ W)))) noX := by
  refine Ct.of (by decide) (Nat.le_of_ble_eq_true rfl) rfl ?_
  refine r_iconst (v := nI 0) (pc := 0) dX6_qHasSquare_0 (by decide) ?_
  refine r_ist1 (pc := 1) dX6_qHasSquare_1 ?_
  exact hasSqLoop hS hQ W.length W [] rfl (List.append_nil W).symm (fun h => nomatch h)
theorem dropsNotsLoop (hS : ShM g M o) :
    ∀ (W cs : List Nat) (op : Nat) (s1 : MS), RQ s1 cs W op → mF s1 5 = nI 0 → (popW gN W).1.length ≤ op → op ≤ 6 → Fr [102, 104, 105] [] [101] [] s s1 → Bd g yX6_qDropsNots cX6_qDropsNots 1 none [] 2 0 0 (putM M o s1) 0 [some (.ref o)] [] (QM M o (fun r s' => r = none ∧ RQ s' (cs ++ (popW gN W).1) (popW gN W).2 (op - (popW gN W).1.length) ∧ Fr [102, 104, 105] [] [101] [] s s')) noX := by
  intro W
  induction W with
  | nil =>
    intro cs op s1 h h5 hop hop6 hf
    rw [show cs ++ (popW gN []).1 = cs from List.append_nil cs]
    refine r_ald0 (pc := 0) dX6_qDropsNots_0 ?_
    refine m_getI hS (pc := 1) dX6_qDropsNots_1 fl_X6_237 ?_
    refine Bd.eqI h5 ?_
    first | refine r_if_neZ (pc := 4) (tgt := 33) dX6_qDropsNots_4 (by decide) (fun h4 => ?_) (fun h4 => ?_) | refine r_if_neN (pc := 4) (tgt := 33) dX6_qDropsNots_4 (by decide) (by omega) (fun h4 => ?_) (fun h4 => ?_) | refine r_if_ne (pc := 4) (tgt := 33) dX6_qDropsNots_4 (by decide) (fun h4 => ?_) (fun h4 => ?_)
    · skip
      exact absurd rfl h4
    · skip
      refine r_ald0 (pc := 7) dX6_qDropsNots_7 ?_
      refine r_bipush (v := nI 12) (pc := 8) dX6_qDropsNots_8 (by decide) ?_
      refine r_cV (pc := 10) dX6_qDropsNots_10 cv_X6_632 hS.k (ct_X6_qIsOn (v := 12) hS h (by decide)) rfl rfl (Nat.le_of_ble_eq_true rfl) (by decide) ?_
      rintro _ _ ⟨rfl, rfl⟩
      first | refine r_if_eqZ (pc := 13) (tgt := 33) dX6_qDropsNots_13 (by decide) (fun h13 => ?_) (fun h13 => ?_) | refine r_if_eqN (pc := 13) (tgt := 33) dX6_qDropsNots_13 (by decide) (by omega) (fun h13 => ?_) (fun h13 => ?_) | refine r_if_eq (pc := 13) (tgt := 33) dX6_qDropsNots_13 (by decide) (fun h13 => ?_) (fun h13 => ?_)
      · skip
        refine r_vret (pc := 33) dX6_qDropsNots_33 ?_
        exact ⟨_, rfl, rfl, h, hf⟩
      · skip
        exact absurd h13 (by intro q; cases q)
  | cons v W ih =>
    intro cs op s1 h h5 hop hop6 hf
    by_cases hv : v = 12
    · subst hv
      rw [show popW gN (12 :: W) = (12 :: (popW gN W).1, (popW gN W).2) from rfl] at hop ⊢
      have hop : (popW gN W).1.length + 1 ≤ op := hop
      have hQ2 : RQ (tF s1 105 (nI (op - 1))) cs (12 :: W) (op - 1) := ⟨h.1, h.2.1, h.2.2.1, h.2.2.2.1, rfl, h.2.2.2.2.2.1, h.2.2.2.2.2.2⟩
      refine r_ald0 (pc := 0) dX6_qDropsNots_0 ?_
      refine m_getI hS (pc := 1) dX6_qDropsNots_1 fl_X6_237 ?_
      refine Bd.eqI h5 ?_
      first | refine r_if_neZ (pc := 4) (tgt := 33) dX6_qDropsNots_4 (by decide) (fun h4 => ?_) (fun h4 => ?_) | refine r_if_neN (pc := 4) (tgt := 33) dX6_qDropsNots_4 (by decide) (by omega) (fun h4 => ?_) (fun h4 => ?_) | refine r_if_ne (pc := 4) (tgt := 33) dX6_qDropsNots_4 (by decide) (fun h4 => ?_) (fun h4 => ?_)
      · skip
        exact absurd rfl h4
      · skip
        refine r_ald0 (pc := 7) dX6_qDropsNots_7 ?_
        refine r_bipush (v := nI 12) (pc := 8) dX6_qDropsNots_8 (by decide) ?_
        refine r_cV (pc := 10) dX6_qDropsNots_10 cv_X6_632 hS.k (ct_X6_qIsOn (v := 12) hS h (by decide)) rfl rfl (Nat.le_of_ble_eq_true rfl) (by decide) ?_
        rintro _ _ ⟨rfl, rfl⟩
        first | refine r_if_eqZ (pc := 13) (tgt := 33) dX6_qDropsNots_13 (by decide) (fun h13 => ?_) (fun h13 => ?_) | refine r_if_eqN (pc := 13) (tgt := 33) dX6_qDropsNots_13 (by decide) (by omega) (fun h13 => ?_) (fun h13 => ?_) | refine r_if_eq (pc := 13) (tgt := 33) dX6_qDropsNots_13 (by decide) (fun h13 => ?_) (fun h13 => ?_)
        · skip
          exact absurd rfl h13
        · skip
          refine r_ald0 (pc := 16) dX6_qDropsNots_16 ?_
          refine r_dup (pc := 17) dX6_qDropsNots_17 rfl ?_
          refine m_getI hS (pc := 18) dX6_qDropsNots_18 fl_X6_333 ?_
          refine Bd.eqI h.2.2.2.2.1 ?_
          refine r_iconst (v := nI 1) (pc := 21) dX6_qDropsNots_21 (by decide) ?_
          first | refine r_isubN (pc := 22) dX6_qDropsNots_22 (by omega) ?_ | refine r_isubM (pc := 22) dX6_qDropsNots_22 ?_ | refine r_isubJ (pc := 22) dX6_qDropsNots_22 ?_ | refine r_isub (pc := 22) dX6_qDropsNots_22 ?_
          refine m_putI hS (pc := 23) dX6_qDropsNots_23 fl_X6_333 fw_X6_105 rfl rfl ?_
          refine r_ald0 (pc := 26) dX6_qDropsNots_26 ?_
          refine r_cV (pc := 27) dX6_qDropsNots_27 cv_X6_605 hS.k (ct_X6_qDrops hS hQ2) rfl rfl (Nat.le_of_ble_eq_true rfl) (by decide) ?_
          rintro _ _ ⟨s2, rfl, rfl, h2, hf2⟩
          refine r_goto (pc := 30) (tgt := 0) dX6_qDropsNots_30 (by decide) ?_
          have hih := ih (cs ++ [12]) (op - 1) s2 h2 ((hf2.1 5 (by decide)).trans h5) (by omega) (by omega) ((Fr.tF hf (by decide)).trans (hf2.mono (by decide) (by decide) (by decide) (by decide)))
          rw [List.append_assoc, show op - 1 - (popW gN W).1.length = op - (12 :: (popW gN W).1).length by simp; omega] at hih
          exact hih
    · rw [show popW gN (v :: W) = ([], v :: W) from if_neg (by unfold gN; simp [hv]), List.append_nil]
      refine r_ald0 (pc := 0) dX6_qDropsNots_0 ?_
      refine m_getI hS (pc := 1) dX6_qDropsNots_1 fl_X6_237 ?_
      refine Bd.eqI h5 ?_
      first | refine r_if_neZ (pc := 4) (tgt := 33) dX6_qDropsNots_4 (by decide) (fun h4 => ?_) (fun h4 => ?_) | refine r_if_neN (pc := 4) (tgt := 33) dX6_qDropsNots_4 (by decide) (by omega) (fun h4 => ?_) (fun h4 => ?_) | refine r_if_ne (pc := 4) (tgt := 33) dX6_qDropsNots_4 (by decide) (fun h4 => ?_) (fun h4 => ?_)
      · skip
        exact absurd rfl h4
      · skip
        refine r_ald0 (pc := 7) dX6_qDropsNots_7 ?_
        refine r_bipush (v := nI 12) (pc := 8) dX6_qDropsNots_8 (by decide) ?_
        refine r_cV (pc := 10) dX6_qDropsNots_10 cv_X6_632 hS.k (ct_X6_qIsOn (v := 12) hS h (by decide)) rfl rfl (Nat.le_of_ble_eq_true rfl) (by decide) ?_
        rintro _ _ ⟨rfl, rfl⟩
        first | refine r_if_eqZ (pc := 13) (tgt := 33) dX6_qDropsNots_13 (by decide) (fun h13 => ?_) (fun h13 => ?_) | refine r_if_eqN (pc := 13) (tgt := 33) dX6_qDropsNots_13 (by decide) (by omega) (fun h13 => ?_) (fun h13 => ?_) | refine r_if_eq (pc := 13) (tgt := 33) dX6_qDropsNots_13 (by decide) (fun h13 => ?_) (fun h13 => ?_)
        · skip
          refine r_vret (pc := 33) dX6_qDropsNots_33 ?_
          exact ⟨_, rfl, rfl, h, hf⟩
        · skip
          exact absurd (Option.some.inj h13) hv
theorem ct_X6_qDropsNots {W cs : List Nat} {op : Nat} (hS : ShM g M o) (h : RQ s cs W op) (h5 : mF s 5 = nI 0) (hop : (popW gN W).1.length ≤ op) (hop6 : op ≤ 6) :
    Ct g yX6_qDropsNots cX6_qDropsNots 1 none 2 0 0 [.ref o] (putM M o s) (QM M o (fun r s' => r = none ∧ RQ s' (cs ++ (popW gN W).1) (popW gN W).2 (op - (popW gN W).1.length) ∧ Fr [102, 104, 105] [] [101] [] s s')) noX := by
  refine Ct.of (by decide) (Nat.le_of_ble_eq_true rfl) rfl ?_
  exact dropsNotsLoop hS W cs op s h h5 hop hop6 Fr.rf
theorem ct_X6_qDropsNotsB (hS : ShM g M o) (h5 : mF s 5 ≠ nI 0) : Ct g yX6_qDropsNots cX6_qDropsNots 1 none 2 0 0 [.ref o] (putM M o s) (VQ (putM M o s)) noX := by
  refine Ct.of (by decide) (Nat.le_of_ble_eq_true rfl) rfl ?_
  refine r_ald0 (pc := 0) dX6_qDropsNots_0 ?_
  refine m_getI hS (pc := 1) dX6_qDropsNots_1 fl_X6_237 ?_
  refine r_if_ne (pc := 4) (tgt := 33) dX6_qDropsNots_4 (by decide) (fun h4 => ?_) (fun h4 => ?_)
  · skip
    refine r_vret (pc := 33) dX6_qDropsNots_33 ?_
    exact ⟨rfl, rfl⟩
  · skip
    exact absurd h4 h5
end M36
