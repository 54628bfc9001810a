set_option maxRecDepth 100000
/-! THE MODEL: statements; what is told stands -/
section Told2
variable {f : Nat → Nat} {n : Nat} {T : To}
theorem soulP_ok {pl a : Nat} {y : To × Nat} (hV : VT T) (h : soulP f n T pl a = .ok y) : VT y.1 ∧ a < y.2 ∧ y.2 ≤ n := by
  unfold soulP at h
  split at h
  · cases h
  · next h8 =>
    obtain ⟨z, hz, h⟩ := bnd_some h
    obtain ⟨z1, z2, z3, z4, z5, z6⟩ := nmP_ok hz
    have hg := skip_ge f n a
    split at h
    · unfold soulH at h
      obtain ⟨b, hb, h⟩ := bnd_some h
      obtain ⟨u, hu, h⟩ := bnd_some h
      have u1 := numP_ok hu
      have b1 := kwP_ok hb
      have hg1 := skip_ge f n b
      split at h
      · unfold soulK at h
        obtain ⟨b2, hb2, h⟩ := bnd_some h
        obtain ⟨u2, hu2, h⟩ := bnd_some h
        obtain ⟨b3, hb3, h⟩ := bnd_some h
        obtain ⟨u3, hu3, h⟩ := bnd_some h
        have v2 := numP_ok hu2
        have v3 := numP_ok hu3
        have c2 := kwP_ok hb2
        have c3 := kwP_ok hb3
        have hg2 := skip_ge f n b2
        have hg3 := skip_ge f n b3
        cases h
        obtain ⟨t1, t2, t3, t4, t5, t6, t7⟩ := hV
        refine ⟨⟨t1, t2, ?_, fun e he => ?_, t5, t6, t7⟩, (by show a < u3.2; omega), v3.2.2.1⟩
        · show (oS T ++ [_]).length ≤ 8
          rw [List.length_append]; show (oS T).length + 1 ≤ 8; omega
        · rcases List.mem_append.mp he with q | q
          · exact t4 e q
          · rw [List.mem_singleton.mp q]
            exact ⟨z2, z3, z4, (by show u.1 < oH T; omega), v2.2.2.2.2, v3.2.2.2.2⟩
      · cases h
    · cases h
theorem oneP_ok {a : Nat} {y : Nat × Nat} (h : oneP f n T a = .ok y) : y.1 < (oS T).length ∧ a < y.2 ∧ y.2 ≤ n := by
  unfold oneP at h
  obtain ⟨z, hz, h⟩ := bnd_some h
  obtain ⟨z1, z2, z3, z4, z5, z6⟩ := nmP_ok hz
  have hg := skip_ge f n a
  cases hk : fndS T z.1 with
  | none => rw [hk] at h; cases h
  | some k => rw [hk] at h; cases h; exact ⟨fndS_lt hk, (by show a < z.2; omega), z6⟩
theorem thinksP_ok {a : Nat} {y : To × Nat} (hV : VT T) (h : thinksP f n T a = .ok y) : VT y.1 ∧ a < y.2 ∧ y.2 ≤ n := by
  unfold thinksP at h
  obtain ⟨u, hu, h⟩ := bnd_some h
  obtain ⟨b, hb, h⟩ := bnd_some h
  obtain ⟨v, hv, h⟩ := bnd_some h
  split at h
  · cases h
  · obtain ⟨w, hw, h⟩ := bnd_some h
    have u1 := oneP_ok hu
    have b1 := kwP_ok hb
    have v1 := oneP_ok hv
    have w1 := numP_ok hw
    have hg := skip_ge f n v.2
    cases h
    obtain ⟨t1, t2, t3, t4, t5, t6, t7⟩ := hV
    refine ⟨⟨t1, t2, t3, t4, fun p r => ?_, t6, t7⟩, (by show a < w.2; omega), w1.2.2.1⟩
    show (if p = u.1 ∧ r = v.1 then w.1 else oT T p r) ≤ 9
    split
    · omega
    · exact t5 p r
theorem codesP_ok {w pl a : Nat} {y : To × Nat} (hw : w < 3) (hn : n ≤ 1600) (hV : VT T) (h : codesP f n T w pl a = .ok y) : VT y.1 ∧ a < y.2 ∧ y.2 ≤ n := by
  unfold codesP at h
  split at h
  · obtain ⟨z, hz, h⟩ := bnd_some h
    obtain ⟨z1, z2, z3, z4⟩ := codP_ok hw hz
    cases h
    obtain ⟨t1, t2, t3, t4, t5, t6, t7⟩ := hV
    refine ⟨⟨t1, t2, t3, t4, t5, t6, fun v hv cs hc => ?_⟩, z2, z3⟩
    have hc : va_up (oC T) w (some z.1) v = some cs := hc
    unfold va_up at hc
    split at hc
    · next e => cases hc; rw [e]; exact ⟨z1.1, z1.2, by omega⟩
    · exact t7 v hv cs hc
  · cases h
theorem slipP_ok {a : Nat} {y : To × Nat} (hV : VT T) (h : slipP f n T a = .ok y) : VT y.1 ∧ a < y.2 ∧ y.2 ≤ n := by
  unfold slipP at h
  obtain ⟨z, hz, h⟩ := bnd_some h
  have z1 := numP_ok hz
  have hg := skip_ge f n a
  cases h
  obtain ⟨t1, t2, t3, t4, t5, t6, t7⟩ := hV
  exact ⟨⟨t1, t2, t3, t4, t5, z1.2.2.2.2, t7⟩, (by show a < z.2; omega), z1.2.2.1⟩
theorem bodyP_ok {w : List Nat} {p b : Nat} {y : To × Nat} (hn : n ≤ 1600) (hV : VT T) (h : bodyP f n T w p b = .ok y) : VT y.1 ∧ b < y.2 ∧ y.2 ≤ n := by
  unfold bodyP at h
  split at h
  · exact soulP_ok hV h
  · split at h
    · exact thinksP_ok hV h
    · split at h
      · exact codesP_ok (by decide) hn hV h
      · split at h
        · exact codesP_ok (by decide) hn hV h
        · split at h
          · exact codesP_ok (by decide) hn hV h
          · split at h
            · exact slipP_ok hV h
            · cases h
theorem stmtP_ok {m p : Nat} {y : To × Nat} (hn : n ≤ 1600) (hV : VT T) (h : stmtP f n T m p = .ok y) : VT y.1 ∧ p < y.2 ∧ y.2 ≤ n ∧ m ≠ 80 := by
  unfold stmtP at h
  split at h
  · cases h
  · next hm =>
    cases hw : word f n p with
    | none => rw [hw] at h; cases h
    | some w =>
      rw [hw] at h
      have h : endP f n (bodyP f n T w p (p + w.length)) = .ok y := h
      unfold endP at h
      obtain ⟨z, hz, h⟩ := bnd_some h
      obtain ⟨d, hd, h⟩ := bnd_some h
      have z1 := bodyP_ok hn hV hz
      have d1 := sgP_ok hd
      cases h
      exact ⟨z1.1, (by show p < d; omega), d1.2.1, hm⟩
end Told2
section M41
variable {g : GC} {M : MM} {o : Nat} {s s' s1 s2 sB : MS} {M1 : MM} {q : Sg} {f : Nat → Nat} {n a x c pl w : Nat} {T : To}
theorem ct_X6_statementTold {p m : Nat} (hS : ShM g M o) (hp : skip f n p = p) (hR : RP s f n p) (hT : TM s T c) (hV : VT T) (hcp : c ≤ p) (h52 : mF s 52 = nI m) (hm : m ≤ 80) :
    Ct g yX6_statementTold cX6_statementTold 2 none 10 0 0 [.ref o] (putM M o s) (StQ M o f n m s (stmtP f n T m p)) noX := by
  have hn := hR.1.2.2.2.1
  have hpn := hR.1.2.2.1
  refine Ct.of (by decide) (Nat.le_of_ble_eq_true rfl) rfl ?_
  unfold stmtP
  by_cases e80 : m = 80
  · rw [if_pos e80]
    refine r_ald0 (pc := 0) dX6_statementTold_0 ?_
    refine m_getI hS (pc := 1) dX6_statementTold_1 fl_X6_243 ?_
    refine Bd.eqI hR.1.2.1 ?_
    refine r_ist1 (pc := 4) dX6_statementTold_4 ?_
    refine r_ald0 (pc := 5) dX6_statementTold_5 ?_
    refine m_getI hS (pc := 6) dX6_statementTold_6 fl_X6_348 ?_
    refine Bd.eqI h52 ?_
    refine r_bipush (v := nI 80) (pc := 9) dX6_statementTold_9 (by decide) ?_
    first | refine r_icmp_neN (pc := 11) (tgt := 21) dX6_statementTold_11 (by decide) (by omega) (by omega) (fun h11 => ?_) (fun h11 => ?_) | refine r_icmp_ne (pc := 11) (tgt := 21) dX6_statementTold_11 (by decide) (fun h11 => ?_) (fun h11 => ?_)
    · skip
      exact absurd e80 h11
    · skip
      refine r_ald0 (pc := 14) dX6_statementTold_14 ?_
      refine r_iconst (v := nI 5) (pc := 15) dX6_statementTold_15 (by decide) ?_
      refine r_ild1 (pc := 16) dX6_statementTold_16 ?_
      refine r_cV (pc := 17) dX6_statementTold_17 cv_X6_267 hS.k (ct_X6_failP hS hR.2.1 (by decide) (by omega)) rfl rfl (Nat.le_of_ble_eq_true rfl) (by decide) ?_
      rintro _ _ ⟨s2, rfl, rfl, hB, hf2⟩
      refine r_vret (pc := 20) dX6_statementTold_20 ?_
      exact ⟨_, rfl, rfl, (FT.of hf2 (by decide) (by decide) (by decide) (by decide)).toS, hB⟩
  · rw [if_neg e80]
    have dT : ∀ {s2 : MS}, Fr [2, 4] [] [] [] s s2 → TM s2 T c := fun {s2} hf2 => hT.fr hf2 (by decide) (by decide) (by decide)
    have d52 : ∀ {s2 : MS}, Fr [2, 4] [] [] [] s s2 → mF s2 52 = nI m := fun {s2} hf2 => (hf2.1 52 (by decide)).trans h52
    have dF : ∀ {s2 : MS}, Fr [2, 4] [] [] [] s s2 → FT s s2 := fun {s2} hf2 => FT.of hf2 (by decide) (by decide) (by decide) (by decide)
    have tk : ∀ {i d : Nat} {wd : List Nat} {s2 : MS}, RP s2 f n p → AR i d 5 wd.length → (i, wd) ∈ wdT → Fr [2, 4] [] [] [] s s2 → _ := fun {i d wd s2} hR2 h2 h3 h4 => takesW (g := g) (M := M) (o := o) (s := s) (s1 := s2) (wd := wd) hS hp hR2 h2 h3 h4
    have fin : ∀ {z : Pz (To × Nat)} {s7 : MS} {w1 : Option Value}, StZ f n c s7 z → (∀ y, z = .ok y → c ≤ y.2) → mF s7 52 = nI m → FT s s7 → Bd g yX6_statementTold cX6_statementTold 2 none [] 10 0 0 (putM M o s7) 137 [some (.ref o), w1] [] (StQ M o f n m s (endP f n z)) noX := by
      intro z s7 w1 hz hc h527 hf7
      cases z with
      | error e => exact st137B hS hz h527 hf7
      | ok y => exact st137 hS hz.1 rfl hz.2 (hc y rfl) h527 hf7
    by_cases w1 : word f n p = some wSoul
    · rw [w1]
      show Bd g yX6_statementTold cX6_statementTold 2 none [] 10 0 0 _ _ _ _ (StQ M o f n m s (endP f n (soulP f n T p (p + 4)))) noX
      refine r_ald0 (pc := 0) dX6_statementTold_0 ?_
      refine m_getI hS (pc := 1) dX6_statementTold_1 fl_X6_243 ?_
      refine Bd.eqI hR.1.2.1 ?_
      refine r_ist1 (pc := 4) dX6_statementTold_4 ?_
      refine r_ald0 (pc := 5) dX6_statementTold_5 ?_
      refine m_getI hS (pc := 6) dX6_statementTold_6 fl_X6_348 ?_
      refine Bd.eqI h52 ?_
      refine r_bipush (v := nI 80) (pc := 9) dX6_statementTold_9 (by decide) ?_
      first | refine r_icmp_neN (pc := 11) (tgt := 21) dX6_statementTold_11 (by decide) (by omega) (by omega) (fun h11 => ?_) (fun h11 => ?_) | refine r_icmp_ne (pc := 11) (tgt := 21) dX6_statementTold_11 (by decide) (fun h11 => ?_) (fun h11 => ?_)
      · skip
        refine r_ald0 (pc := 21) dX6_statementTold_21 ?_
        refine r_ald0 (pc := 22) dX6_statementTold_22 ?_
        refine m_getR hS (pc := 23) dX6_statementTold_23 fl_X6_24 ar12 ?_
        refine r_cV (pc := 26) dX6_statementTold_26 cv_X6_264 hS.k (tk hR ar12 (wd := wSoul) (by decide) Fr.rf) rfl rfl (Nat.le_of_ble_eq_true rfl) (by decide) ?_
        rintro _ _ ⟨s1, rfl, rfl, hR1, hf1⟩
        rw [if_pos w1] at hR1
        first | refine r_if_eqZ (pc := 29) (tgt := 40) dX6_statementTold_29 (by decide) (fun h29 => ?_) (fun h29 => ?_) | refine r_if_eqN (pc := 29) (tgt := 40) dX6_statementTold_29 (by decide) (by omega) (fun h29 => ?_) (fun h29 => ?_) | refine r_if_eq (pc := 29) (tgt := 40) dX6_statementTold_29 (by decide) (fun h29 => ?_) (fun h29 => ?_)
        · skip
          exact absurd w1 h29
        · skip
          refine r_ald0 (pc := 32) dX6_statementTold_32 ?_
          refine r_ild1 (pc := 33) dX6_statementTold_33 ?_
          refine r_cV (pc := 34) dX6_statementTold_34 cv_X6_351 hS.k (ct_X6_soulTold hS hR1 (dT hf1) hV (by omega)) rfl rfl (Nat.le_of_ble_eq_true rfl) (by decide) ?_
          rintro _ _ ⟨s7, rfl, rfl, hf7, hz⟩
          refine r_goto (pc := 37) (tgt := 137) dX6_statementTold_37 (by decide) ?_
          exact fin hz (fun y hy => by have := (soulP_ok hV hy).2.1; omega) (st52 hf7 (d52 hf1)) ((dF hf1).trans hf7)
      · skip
        exact absurd h11 e80
    · by_cases w2 : word f n p = some wThinks
      · rw [w2]
        show Bd g yX6_statementTold cX6_statementTold 2 none [] 10 0 0 _ _ _ _ (StQ M o f n m s (endP f n (thinksP f n T (p + 6)))) noX
        refine r_ald0 (pc := 0) dX6_statementTold_0 ?_
        refine m_getI hS (pc := 1) dX6_statementTold_1 fl_X6_243 ?_
        refine Bd.eqI hR.1.2.1 ?_
        refine r_ist1 (pc := 4) dX6_statementTold_4 ?_
        refine r_ald0 (pc := 5) dX6_statementTold_5 ?_
        refine m_getI hS (pc := 6) dX6_statementTold_6 fl_X6_348 ?_
        refine Bd.eqI h52 ?_
        refine r_bipush (v := nI 80) (pc := 9) dX6_statementTold_9 (by decide) ?_
        first | refine r_icmp_neN (pc := 11) (tgt := 21) dX6_statementTold_11 (by decide) (by omega) (by omega) (fun h11 => ?_) (fun h11 => ?_) | refine r_icmp_ne (pc := 11) (tgt := 21) dX6_statementTold_11 (by decide) (fun h11 => ?_) (fun h11 => ?_)
        · skip
          refine r_ald0 (pc := 21) dX6_statementTold_21 ?_
          refine r_ald0 (pc := 22) dX6_statementTold_22 ?_
          refine m_getR hS (pc := 23) dX6_statementTold_23 fl_X6_24 ar12 ?_
          refine r_cV (pc := 26) dX6_statementTold_26 cv_X6_264 hS.k (tk hR ar12 (wd := wSoul) (by decide) Fr.rf) rfl rfl (Nat.le_of_ble_eq_true rfl) (by decide) ?_
          rintro _ _ ⟨s1, rfl, rfl, hR1, hf1⟩
          rw [if_neg w1] at hR1
          first | refine r_if_eqZ (pc := 29) (tgt := 40) dX6_statementTold_29 (by decide) (fun h29 => ?_) (fun h29 => ?_) | refine r_if_eqN (pc := 29) (tgt := 40) dX6_statementTold_29 (by decide) (by omega) (fun h29 => ?_) (fun h29 => ?_) | refine r_if_eq (pc := 29) (tgt := 40) dX6_statementTold_29 (by decide) (fun h29 => ?_) (fun h29 => ?_)
          · skip
            refine r_ald0 (pc := 40) dX6_statementTold_40 ?_
            refine r_ald0 (pc := 41) dX6_statementTold_41 ?_
            refine m_getR hS (pc := 42) dX6_statementTold_42 fl_X6_36 ar16 ?_
            refine r_cV (pc := 45) dX6_statementTold_45 cv_X6_264 hS.k (tk hR1 ar16 (wd := wThinks) (by decide) hf1) rfl rfl (Nat.le_of_ble_eq_true rfl) (by decide) ?_
            rintro _ _ ⟨s2, rfl, rfl, hR2, hf2⟩
            rw [if_pos w2] at hR2
            first | refine r_if_eqZ (pc := 48) (tgt := 58) dX6_statementTold_48 (by decide) (fun h48 => ?_) (fun h48 => ?_) | refine r_if_eqN (pc := 48) (tgt := 58) dX6_statementTold_48 (by decide) (by omega) (fun h48 => ?_) (fun h48 => ?_) | refine r_if_eq (pc := 48) (tgt := 58) dX6_statementTold_48 (by decide) (fun h48 => ?_) (fun h48 => ?_)
            · skip
              exact absurd w2 h48
            · skip
              refine r_ald0 (pc := 51) dX6_statementTold_51 ?_
              refine r_cV (pc := 52) dX6_statementTold_52 cv_X6_354 hS.k (ct_X6_thinksTold hS hR2 (dT hf2) hV) rfl rfl (Nat.le_of_ble_eq_true rfl) (by decide) ?_
              rintro _ _ ⟨s7, rfl, rfl, hf7, hz⟩
              refine r_goto (pc := 55) (tgt := 137) dX6_statementTold_55 (by decide) ?_
              exact fin hz (fun y hy => by have := (thinksP_ok hV hy).2.1; omega) (st52 hf7 (d52 hf2)) ((dF hf2).trans hf7)
          · skip
            exact absurd h29 w1
        · skip
          exact absurd h11 e80
      · by_cases w3 : word f n p = some wPaints
        · rw [w3]
          show Bd g yX6_statementTold cX6_statementTold 2 none [] 10 0 0 _ _ _ _ (StQ M o f n m s (endP f n (codesP f n T 0 p (p + 6)))) noX
          refine r_ald0 (pc := 0) dX6_statementTold_0 ?_
          refine m_getI hS (pc := 1) dX6_statementTold_1 fl_X6_243 ?_
          refine Bd.eqI hR.1.2.1 ?_
          refine r_ist1 (pc := 4) dX6_statementTold_4 ?_
          refine r_ald0 (pc := 5) dX6_statementTold_5 ?_
          refine m_getI hS (pc := 6) dX6_statementTold_6 fl_X6_348 ?_
          refine Bd.eqI h52 ?_
          refine r_bipush (v := nI 80) (pc := 9) dX6_statementTold_9 (by decide) ?_
          first | refine r_icmp_neN (pc := 11) (tgt := 21) dX6_statementTold_11 (by decide) (by omega) (by omega) (fun h11 => ?_) (fun h11 => ?_) | refine r_icmp_ne (pc := 11) (tgt := 21) dX6_statementTold_11 (by decide) (fun h11 => ?_) (fun h11 => ?_)
          · skip
            refine r_ald0 (pc := 21) dX6_statementTold_21 ?_
            refine r_ald0 (pc := 22) dX6_statementTold_22 ?_
            refine m_getR hS (pc := 23) dX6_statementTold_23 fl_X6_24 ar12 ?_
            refine r_cV (pc := 26) dX6_statementTold_26 cv_X6_264 hS.k (tk hR ar12 (wd := wSoul) (by decide) Fr.rf) rfl rfl (Nat.le_of_ble_eq_true rfl) (by decide) ?_
            rintro _ _ ⟨s1, rfl, rfl, hR1, hf1⟩
            rw [if_neg w1] at hR1
            first | refine r_if_eqZ (pc := 29) (tgt := 40) dX6_statementTold_29 (by decide) (fun h29 => ?_) (fun h29 => ?_) | refine r_if_eqN (pc := 29) (tgt := 40) dX6_statementTold_29 (by decide) (by omega) (fun h29 => ?_) (fun h29 => ?_) | refine r_if_eq (pc := 29) (tgt := 40) dX6_statementTold_29 (by decide) (fun h29 => ?_) (fun h29 => ?_)
            · skip
              refine r_ald0 (pc := 40) dX6_statementTold_40 ?_
              refine r_ald0 (pc := 41) dX6_statementTold_41 ?_
              refine m_getR hS (pc := 42) dX6_statementTold_42 fl_X6_36 ar16 ?_
              refine r_cV (pc := 45) dX6_statementTold_45 cv_X6_264 hS.k (tk hR1 ar16 (wd := wThinks) (by decide) hf1) rfl rfl (Nat.le_of_ble_eq_true rfl) (by decide) ?_
              rintro _ _ ⟨s2, rfl, rfl, hR2, hf2⟩
              rw [if_neg w2] at hR2
              first | refine r_if_eqZ (pc := 48) (tgt := 58) dX6_statementTold_48 (by decide) (fun h48 => ?_) (fun h48 => ?_) | refine r_if_eqN (pc := 48) (tgt := 58) dX6_statementTold_48 (by decide) (by omega) (fun h48 => ?_) (fun h48 => ?_) | refine r_if_eq (pc := 48) (tgt := 58) dX6_statementTold_48 (by decide) (fun h48 => ?_) (fun h48 => ?_)
              · skip
                refine r_ald0 (pc := 58) dX6_statementTold_58 ?_
                refine r_ald0 (pc := 59) dX6_statementTold_59 ?_
                refine m_getR hS (pc := 60) dX6_statementTold_60 fl_X6_42 ar18 ?_
                refine r_cV (pc := 63) dX6_statementTold_63 cv_X6_264 hS.k (tk hR2 ar18 (wd := wPaints) (by decide) hf2) rfl rfl (Nat.le_of_ble_eq_true rfl) (by decide) ?_
                rintro _ _ ⟨s3, rfl, rfl, hR3, hf3⟩
                rw [if_pos w3] at hR3
                first | refine r_if_eqZ (pc := 66) (tgt := 78) dX6_statementTold_66 (by decide) (fun h66 => ?_) (fun h66 => ?_) | refine r_if_eqN (pc := 66) (tgt := 78) dX6_statementTold_66 (by decide) (by omega) (fun h66 => ?_) (fun h66 => ?_) | refine r_if_eq (pc := 66) (tgt := 78) dX6_statementTold_66 (by decide) (fun h66 => ?_) (fun h66 => ?_)
                · skip
                  exact absurd w3 h66
                · skip
                  refine r_ald0 (pc := 69) dX6_statementTold_69 ?_
                  refine r_iconst (v := nI 0) (pc := 70) dX6_statementTold_70 (by decide) ?_
                  refine r_ild1 (pc := 71) dX6_statementTold_71 ?_
                  refine r_cV (pc := 72) dX6_statementTold_72 cv_X6_357 hS.k (ct_X6_codesTold (w := 0) (pl := p) hS hR3 (dT hf3) (by omega) (by decide) (by omega)) rfl rfl (Nat.le_of_ble_eq_true rfl) (by decide) ?_
                  rintro _ _ ⟨s7, rfl, rfl, hf7, hz⟩
                  refine r_goto (pc := 75) (tgt := 137) dX6_statementTold_75 (by decide) ?_
                  exact st137C hS hz (st52 hf7 (d52 hf3)) ((dF hf3).trans hf7)
              · skip
                exact absurd h48 w2
            · skip
              exact absurd h29 w1
          · skip
            exact absurd h11 e80
        · by_cases w4 : word f n p = some wMinds
          · rw [w4]
            show Bd g yX6_statementTold cX6_statementTold 2 none [] 10 0 0 _ _ _ _ (StQ M o f n m s (endP f n (codesP f n T 1 p (p + 5)))) noX
            refine r_ald0 (pc := 0) dX6_statementTold_0 ?_
            refine m_getI hS (pc := 1) dX6_statementTold_1 fl_X6_243 ?_
            refine Bd.eqI hR.1.2.1 ?_
            refine r_ist1 (pc := 4) dX6_statementTold_4 ?_
            refine r_ald0 (pc := 5) dX6_statementTold_5 ?_
            refine m_getI hS (pc := 6) dX6_statementTold_6 fl_X6_348 ?_
            refine Bd.eqI h52 ?_
            refine r_bipush (v := nI 80) (pc := 9) dX6_statementTold_9 (by decide) ?_
            first | refine r_icmp_neN (pc := 11) (tgt := 21) dX6_statementTold_11 (by decide) (by omega) (by omega) (fun h11 => ?_) (fun h11 => ?_) | refine r_icmp_ne (pc := 11) (tgt := 21) dX6_statementTold_11 (by decide) (fun h11 => ?_) (fun h11 => ?_)
            · skip
              refine r_ald0 (pc := 21) dX6_statementTold_21 ?_
              refine r_ald0 (pc := 22) dX6_statementTold_22 ?_
              refine m_getR hS (pc := 23) dX6_statementTold_23 fl_X6_24 ar12 ?_
              refine r_cV (pc := 26) dX6_statementTold_26 cv_X6_264 hS.k (tk hR ar12 (wd := wSoul) (by decide) Fr.rf) rfl rfl (Nat.le_of_ble_eq_true rfl) (by decide) ?_
              rintro _ _ ⟨s1, rfl, rfl, hR1, hf1⟩
              rw [if_neg w1] at hR1
              first | refine r_if_eqZ (pc := 29) (tgt := 40) dX6_statementTold_29 (by decide) (fun h29 => ?_) (fun h29 => ?_) | refine r_if_eqN (pc := 29) (tgt := 40) dX6_statementTold_29 (by decide) (by omega) (fun h29 => ?_) (fun h29 => ?_) | refine r_if_eq (pc := 29) (tgt := 40) dX6_statementTold_29 (by decide) (fun h29 => ?_) (fun h29 => ?_)
              · skip
                refine r_ald0 (pc := 40) dX6_statementTold_40 ?_
                refine r_ald0 (pc := 41) dX6_statementTold_41 ?_
                refine m_getR hS (pc := 42) dX6_statementTold_42 fl_X6_36 ar16 ?_
                refine r_cV (pc := 45) dX6_statementTold_45 cv_X6_264 hS.k (tk hR1 ar16 (wd := wThinks) (by decide) hf1) rfl rfl (Nat.le_of_ble_eq_true rfl) (by decide) ?_
                rintro _ _ ⟨s2, rfl, rfl, hR2, hf2⟩
                rw [if_neg w2] at hR2
                first | refine r_if_eqZ (pc := 48) (tgt := 58) dX6_statementTold_48 (by decide) (fun h48 => ?_) (fun h48 => ?_) | refine r_if_eqN (pc := 48) (tgt := 58) dX6_statementTold_48 (by decide) (by omega) (fun h48 => ?_) (fun h48 => ?_) | refine r_if_eq (pc := 48) (tgt := 58) dX6_statementTold_48 (by decide) (fun h48 => ?_) (fun h48 => ?_)
                · skip
                  refine r_ald0 (pc := 58) dX6_statementTold_58 ?_
                  refine r_ald0 (pc := 59) dX6_statementTold_59 ?_
                  refine m_getR hS (pc := 60) dX6_statementTold_60 fl_X6_42 ar18 ?_
                  refine r_cV (pc := 63) dX6_statementTold_63 cv_X6_264 hS.k (tk hR2 ar18 (wd := wPaints) (by decide) hf2) rfl rfl (Nat.le_of_ble_eq_true rfl) (by decide) ?_
                  rintro _ _ ⟨s3, rfl, rfl, hR3, hf3⟩
                  rw [if_neg w3] at hR3
                  first | refine r_if_eqZ (pc := 66) (tgt := 78) dX6_statementTold_66 (by decide) (fun h66 => ?_) (fun h66 => ?_) | refine r_if_eqN (pc := 66) (tgt := 78) dX6_statementTold_66 (by decide) (by omega) (fun h66 => ?_) (fun h66 => ?_) | refine r_if_eq (pc := 66) (tgt := 78) dX6_statementTold_66 (by decide) (fun h66 => ?_) (fun h66 => ?_)
                  · skip
                    refine r_ald0 (pc := 78) dX6_statementTold_78 ?_
                    refine r_ald0 (pc := 79) dX6_statementTold_79 ?_
                    refine m_getR hS (pc := 80) dX6_statementTold_80 fl_X6_45 ar19 ?_
                    refine r_cV (pc := 83) dX6_statementTold_83 cv_X6_264 hS.k (tk hR3 ar19 (wd := wMinds) (by decide) hf3) rfl rfl (Nat.le_of_ble_eq_true rfl) (by decide) ?_
                    rintro _ _ ⟨s4, rfl, rfl, hR4, hf4⟩
                    rw [if_pos w4] at hR4
                    first | refine r_if_eqZ (pc := 86) (tgt := 98) dX6_statementTold_86 (by decide) (fun h86 => ?_) (fun h86 => ?_) | refine r_if_eqN (pc := 86) (tgt := 98) dX6_statementTold_86 (by decide) (by omega) (fun h86 => ?_) (fun h86 => ?_) | refine r_if_eq (pc := 86) (tgt := 98) dX6_statementTold_86 (by decide) (fun h86 => ?_) (fun h86 => ?_)
                    · skip
                      exact absurd w4 h86
                    · skip
                      refine r_ald0 (pc := 89) dX6_statementTold_89 ?_
                      refine r_iconst (v := nI 1) (pc := 90) dX6_statementTold_90 (by decide) ?_
                      refine r_ild1 (pc := 91) dX6_statementTold_91 ?_
                      refine r_cV (pc := 92) dX6_statementTold_92 cv_X6_357 hS.k (ct_X6_codesTold (w := 1) (pl := p) hS hR4 (dT hf4) (by omega) (by decide) (by omega)) rfl rfl (Nat.le_of_ble_eq_true rfl) (by decide) ?_
                      rintro _ _ ⟨s7, rfl, rfl, hf7, hz⟩
                      refine r_goto (pc := 95) (tgt := 137) dX6_statementTold_95 (by decide) ?_
                      exact st137C hS hz (st52 hf7 (d52 hf4)) ((dF hf4).trans hf7)
                  · skip
                    exact absurd h66 w3
                · skip
                  exact absurd h48 w2
              · skip
                exact absurd h29 w1
            · skip
              exact absurd h11 e80
          · by_cases w5 : word f n p = some wFeud
            · rw [w5]
              show Bd g yX6_statementTold cX6_statementTold 2 none [] 10 0 0 _ _ _ _ (StQ M o f n m s (endP f n (codesP f n T 2 p (p + 4)))) noX
              refine r_ald0 (pc := 0) dX6_statementTold_0 ?_
              refine m_getI hS (pc := 1) dX6_statementTold_1 fl_X6_243 ?_
              refine Bd.eqI hR.1.2.1 ?_
              refine r_ist1 (pc := 4) dX6_statementTold_4 ?_
              refine r_ald0 (pc := 5) dX6_statementTold_5 ?_
              refine m_getI hS (pc := 6) dX6_statementTold_6 fl_X6_348 ?_
              refine Bd.eqI h52 ?_
              refine r_bipush (v := nI 80) (pc := 9) dX6_statementTold_9 (by decide) ?_
              first | refine r_icmp_neN (pc := 11) (tgt := 21) dX6_statementTold_11 (by decide) (by omega) (by omega) (fun h11 => ?_) (fun h11 => ?_) | refine r_icmp_ne (pc := 11) (tgt := 21) dX6_statementTold_11 (by decide) (fun h11 => ?_) (fun h11 => ?_)
              · skip
                refine r_ald0 (pc := 21) dX6_statementTold_21 ?_
                refine r_ald0 (pc := 22) dX6_statementTold_22 ?_
                refine m_getR hS (pc := 23) dX6_statementTold_23 fl_X6_24 ar12 ?_
                refine r_cV (pc := 26) dX6_statementTold_26 cv_X6_264 hS.k (tk hR ar12 (wd := wSoul) (by decide) Fr.rf) rfl rfl (Nat.le_of_ble_eq_true rfl) (by decide) ?_
                rintro _ _ ⟨s1, rfl, rfl, hR1, hf1⟩
                rw [if_neg w1] at hR1
                first | refine r_if_eqZ (pc := 29) (tgt := 40) dX6_statementTold_29 (by decide) (fun h29 => ?_) (fun h29 => ?_) | refine r_if_eqN (pc := 29) (tgt := 40) dX6_statementTold_29 (by decide) (by omega) (fun h29 => ?_) (fun h29 => ?_) | refine r_if_eq (pc := 29) (tgt := 40) dX6_statementTold_29 (by decide) (fun h29 => ?_) (fun h29 => ?_)
                · skip
                  refine r_ald0 (pc := 40) dX6_statementTold_40 ?_
                  refine r_ald0 (pc := 41) dX6_statementTold_41 ?_
                  refine m_getR hS (pc := 42) dX6_statementTold_42 fl_X6_36 ar16 ?_
                  refine r_cV (pc := 45) dX6_statementTold_45 cv_X6_264 hS.k (tk hR1 ar16 (wd := wThinks) (by decide) hf1) rfl rfl (Nat.le_of_ble_eq_true rfl) (by decide) ?_
                  rintro _ _ ⟨s2, rfl, rfl, hR2, hf2⟩
                  rw [if_neg w2] at hR2
                  first | refine r_if_eqZ (pc := 48) (tgt := 58) dX6_statementTold_48 (by decide) (fun h48 => ?_) (fun h48 => ?_) | refine r_if_eqN (pc := 48) (tgt := 58) dX6_statementTold_48 (by decide) (by omega) (fun h48 => ?_) (fun h48 => ?_) | refine r_if_eq (pc := 48) (tgt := 58) dX6_statementTold_48 (by decide) (fun h48 => ?_) (fun h48 => ?_)
                  · skip
                    refine r_ald0 (pc := 58) dX6_statementTold_58 ?_
                    refine r_ald0 (pc := 59) dX6_statementTold_59 ?_
                    refine m_getR hS (pc := 60) dX6_statementTold_60 fl_X6_42 ar18 ?_
                    refine r_cV (pc := 63) dX6_statementTold_63 cv_X6_264 hS.k (tk hR2 ar18 (wd := wPaints) (by decide) hf2) rfl rfl (Nat.le_of_ble_eq_true rfl) (by decide) ?_
                    rintro _ _ ⟨s3, rfl, rfl, hR3, hf3⟩
                    rw [if_neg w3] at hR3
                    first | refine r_if_eqZ (pc := 66) (tgt := 78) dX6_statementTold_66 (by decide) (fun h66 => ?_) (fun h66 => ?_) | refine r_if_eqN (pc := 66) (tgt := 78) dX6_statementTold_66 (by decide) (by omega) (fun h66 => ?_) (fun h66 => ?_) | refine r_if_eq (pc := 66) (tgt := 78) dX6_statementTold_66 (by decide) (fun h66 => ?_) (fun h66 => ?_)
                    · skip
                      refine r_ald0 (pc := 78) dX6_statementTold_78 ?_
                      refine r_ald0 (pc := 79) dX6_statementTold_79 ?_
                      refine m_getR hS (pc := 80) dX6_statementTold_80 fl_X6_45 ar19 ?_
                      refine r_cV (pc := 83) dX6_statementTold_83 cv_X6_264 hS.k (tk hR3 ar19 (wd := wMinds) (by decide) hf3) rfl rfl (Nat.le_of_ble_eq_true rfl) (by decide) ?_
                      rintro _ _ ⟨s4, rfl, rfl, hR4, hf4⟩
                      rw [if_neg w4] at hR4
                      first | refine r_if_eqZ (pc := 86) (tgt := 98) dX6_statementTold_86 (by decide) (fun h86 => ?_) (fun h86 => ?_) | refine r_if_eqN (pc := 86) (tgt := 98) dX6_statementTold_86 (by decide) (by omega) (fun h86 => ?_) (fun h86 => ?_) | refine r_if_eq (pc := 86) (tgt := 98) dX6_statementTold_86 (by decide) (fun h86 => ?_) (fun h86 => ?_)
                      · skip
                        refine r_ald0 (pc := 98) dX6_statementTold_98 ?_
                        refine r_ald0 (pc := 99) dX6_statementTold_99 ?_
                        refine m_getR hS (pc := 100) dX6_statementTold_100 fl_X6_48 ar20 ?_
                        refine r_cV (pc := 103) dX6_statementTold_103 cv_X6_264 hS.k (tk hR4 ar20 (wd := wFeud) (by decide) hf4) rfl rfl (Nat.le_of_ble_eq_true rfl) (by decide) ?_
                        rintro _ _ ⟨s5, rfl, rfl, hR5, hf5⟩
                        rw [if_pos w5] at hR5
                        first | refine r_if_eqZ (pc := 106) (tgt := 118) dX6_statementTold_106 (by decide) (fun h106 => ?_) (fun h106 => ?_) | refine r_if_eqN (pc := 106) (tgt := 118) dX6_statementTold_106 (by decide) (by omega) (fun h106 => ?_) (fun h106 => ?_) | refine r_if_eq (pc := 106) (tgt := 118) dX6_statementTold_106 (by decide) (fun h106 => ?_) (fun h106 => ?_)
                        · skip
                          exact absurd w5 h106
                        · skip
                          refine r_ald0 (pc := 109) dX6_statementTold_109 ?_
                          refine r_iconst (v := nI 2) (pc := 110) dX6_statementTold_110 (by decide) ?_
                          refine r_ild1 (pc := 111) dX6_statementTold_111 ?_
                          refine r_cV (pc := 112) dX6_statementTold_112 cv_X6_357 hS.k (ct_X6_codesTold (w := 2) (pl := p) hS hR5 (dT hf5) (by omega) (by decide) (by omega)) rfl rfl (Nat.le_of_ble_eq_true rfl) (by decide) ?_
                          rintro _ _ ⟨s7, rfl, rfl, hf7, hz⟩
                          refine r_goto (pc := 115) (tgt := 137) dX6_statementTold_115 (by decide) ?_
                          exact st137C hS hz (st52 hf7 (d52 hf5)) ((dF hf5).trans hf7)
                      · skip
                        exact absurd h86 w4
                    · skip
                      exact absurd h66 w3
                  · skip
                    exact absurd h48 w2
                · skip
                  exact absurd h29 w1
              · skip
                exact absurd h11 e80
            · have hks : ∀ {s2 : MS}, RP s2 f n p → _ := fun {s2} hR2 => ct_X6_asks (s := s2) hS hR2 ar21 (w := wSlip) (by decide)
              by_cases w6 : word f n p = some wSlip
              · rw [w6]
                show Bd g yX6_statementTold cX6_statementTold 2 none [] 10 0 0 _ _ _ _ (StQ M o f n m s (endP f n (slipP f n T (p + 4)))) noX
                rw [kw_at hp w6] at hks
                unfold slipP
                have hnu : ∀ {s2 : MS}, RP s2 f n (p + 4) → _ := fun {s2} hR2 => ct_X6_number (s := s2) (a := p + 4) (lo := 0) (hi := 100) hS hR2 (by decide) (by decide)
                cases hy : numP f n 0 100 (skip f n (p + 4)) with
                | error e =>
                  rw [hy] at hnu
                  rw [bnd_er]
                  refine r_ald0 (pc := 0) dX6_statementTold_0 ?_
                  refine m_getI hS (pc := 1) dX6_statementTold_1 fl_X6_243 ?_
                  refine Bd.eqI hR.1.2.1 ?_
                  refine r_ist1 (pc := 4) dX6_statementTold_4 ?_
                  refine r_ald0 (pc := 5) dX6_statementTold_5 ?_
                  refine m_getI hS (pc := 6) dX6_statementTold_6 fl_X6_348 ?_
                  refine Bd.eqI h52 ?_
                  refine r_bipush (v := nI 80) (pc := 9) dX6_statementTold_9 (by decide) ?_
                  first | refine r_icmp_neN (pc := 11) (tgt := 21) dX6_statementTold_11 (by decide) (by omega) (by omega) (fun h11 => ?_) (fun h11 => ?_) | refine r_icmp_ne (pc := 11) (tgt := 21) dX6_statementTold_11 (by decide) (fun h11 => ?_) (fun h11 => ?_)
                  · skip
                    refine r_ald0 (pc := 21) dX6_statementTold_21 ?_
                    refine r_ald0 (pc := 22) dX6_statementTold_22 ?_
                    refine m_getR hS (pc := 23) dX6_statementTold_23 fl_X6_24 ar12 ?_
                    refine r_cV (pc := 26) dX6_statementTold_26 cv_X6_264 hS.k (tk hR ar12 (wd := wSoul) (by decide) Fr.rf) rfl rfl (Nat.le_of_ble_eq_true rfl) (by decide) ?_
                    rintro _ _ ⟨s1, rfl, rfl, hR1, hf1⟩
                    rw [if_neg w1] at hR1
                    first | refine r_if_eqZ (pc := 29) (tgt := 40) dX6_statementTold_29 (by decide) (fun h29 => ?_) (fun h29 => ?_) | refine r_if_eqN (pc := 29) (tgt := 40) dX6_statementTold_29 (by decide) (by omega) (fun h29 => ?_) (fun h29 => ?_) | refine r_if_eq (pc := 29) (tgt := 40) dX6_statementTold_29 (by decide) (fun h29 => ?_) (fun h29 => ?_)
                    · skip
                      refine r_ald0 (pc := 40) dX6_statementTold_40 ?_
                      refine r_ald0 (pc := 41) dX6_statementTold_41 ?_
                      refine m_getR hS (pc := 42) dX6_statementTold_42 fl_X6_36 ar16 ?_
                      refine r_cV (pc := 45) dX6_statementTold_45 cv_X6_264 hS.k (tk hR1 ar16 (wd := wThinks) (by decide) hf1) rfl rfl (Nat.le_of_ble_eq_true rfl) (by decide) ?_
                      rintro _ _ ⟨s2, rfl, rfl, hR2, hf2⟩
                      rw [if_neg w2] at hR2
                      first | refine r_if_eqZ (pc := 48) (tgt := 58) dX6_statementTold_48 (by decide) (fun h48 => ?_) (fun h48 => ?_) | refine r_if_eqN (pc := 48) (tgt := 58) dX6_statementTold_48 (by decide) (by omega) (fun h48 => ?_) (fun h48 => ?_) | refine r_if_eq (pc := 48) (tgt := 58) dX6_statementTold_48 (by decide) (fun h48 => ?_) (fun h48 => ?_)
                      · skip
                        refine r_ald0 (pc := 58) dX6_statementTold_58 ?_
                        refine r_ald0 (pc := 59) dX6_statementTold_59 ?_
                        refine m_getR hS (pc := 60) dX6_statementTold_60 fl_X6_42 ar18 ?_
                        refine r_cV (pc := 63) dX6_statementTold_63 cv_X6_264 hS.k (tk hR2 ar18 (wd := wPaints) (by decide) hf2) rfl rfl (Nat.le_of_ble_eq_true rfl) (by decide) ?_
                        rintro _ _ ⟨s3, rfl, rfl, hR3, hf3⟩
                        rw [if_neg w3] at hR3
                        first | refine r_if_eqZ (pc := 66) (tgt := 78) dX6_statementTold_66 (by decide) (fun h66 => ?_) (fun h66 => ?_) | refine r_if_eqN (pc := 66) (tgt := 78) dX6_statementTold_66 (by decide) (by omega) (fun h66 => ?_) (fun h66 => ?_) | refine r_if_eq (pc := 66) (tgt := 78) dX6_statementTold_66 (by decide) (fun h66 => ?_) (fun h66 => ?_)
                        · skip
                          refine r_ald0 (pc := 78) dX6_statementTold_78 ?_
                          refine r_ald0 (pc := 79) dX6_statementTold_79 ?_
                          refine m_getR hS (pc := 80) dX6_statementTold_80 fl_X6_45 ar19 ?_
                          refine r_cV (pc := 83) dX6_statementTold_83 cv_X6_264 hS.k (tk hR3 ar19 (wd := wMinds) (by decide) hf3) rfl rfl (Nat.le_of_ble_eq_true rfl) (by decide) ?_
                          rintro _ _ ⟨s4, rfl, rfl, hR4, hf4⟩
                          rw [if_neg w4] at hR4
                          first | refine r_if_eqZ (pc := 86) (tgt := 98) dX6_statementTold_86 (by decide) (fun h86 => ?_) (fun h86 => ?_) | refine r_if_eqN (pc := 86) (tgt := 98) dX6_statementTold_86 (by decide) (by omega) (fun h86 => ?_) (fun h86 => ?_) | refine r_if_eq (pc := 86) (tgt := 98) dX6_statementTold_86 (by decide) (fun h86 => ?_) (fun h86 => ?_)
                          · skip
                            refine r_ald0 (pc := 98) dX6_statementTold_98 ?_
                            refine r_ald0 (pc := 99) dX6_statementTold_99 ?_
                            refine m_getR hS (pc := 100) dX6_statementTold_100 fl_X6_48 ar20 ?_
                            refine r_cV (pc := 103) dX6_statementTold_103 cv_X6_264 hS.k (tk hR4 ar20 (wd := wFeud) (by decide) hf4) rfl rfl (Nat.le_of_ble_eq_true rfl) (by decide) ?_
                            rintro _ _ ⟨s5, rfl, rfl, hR5, hf5⟩
                            rw [if_neg w5] at hR5
                            first | refine r_if_eqZ (pc := 106) (tgt := 118) dX6_statementTold_106 (by decide) (fun h106 => ?_) (fun h106 => ?_) | refine r_if_eqN (pc := 106) (tgt := 118) dX6_statementTold_106 (by decide) (by omega) (fun h106 => ?_) (fun h106 => ?_) | refine r_if_eq (pc := 106) (tgt := 118) dX6_statementTold_106 (by decide) (fun h106 => ?_) (fun h106 => ?_)
                            · skip
                              refine r_ald0 (pc := 118) dX6_statementTold_118 ?_
                              refine r_ald0 (pc := 119) dX6_statementTold_119 ?_
                              refine m_getR hS (pc := 120) dX6_statementTold_120 fl_X6_51 ar21 ?_
                              refine r_cV (pc := 123) dX6_statementTold_123 cv_X6_309 hS.k (hks hR5) rfl rfl (Nat.le_of_ble_eq_true rfl) (by decide) ?_
                              rintro _ _ ⟨s6, rfl, rfl, hR6, hf6⟩
                              refine r_ald0 (pc := 126) dX6_statementTold_126 ?_
                              refine r_ald0 (pc := 127) dX6_statementTold_127 ?_
                              refine r_iconst (v := nI 0) (pc := 128) dX6_statementTold_128 (by decide) ?_
                              refine r_bipush (v := nI 100) (pc := 129) dX6_statementTold_129 (by decide) ?_
                              refine r_cV (pc := 131) dX6_statementTold_131 cv_X6_313 hS.k (hnu hR6) rfl rfl (Nat.le_of_ble_eq_true rfl) (by decide) ?_
                              rintro _ _ ⟨s7, rfl, ⟨⟨v, rfl⟩, hB⟩, hf7⟩
                              refine m_putI hS (pc := 134) dX6_statementTold_134 fl_X6_360 fw_X6_46 rfl rfl ?_
                              exact st137B hS (hB.fr (fs := [46]) (gs := []) (as := []) (bs := []) (Fr.tF Fr.rf (by decide)) (by decide)) ((hf7.1 52 (by decide)).trans ((hf6.1 52 (by decide)).trans (d52 hf5))) ((dF hf5).trans ((FT.of hf6 (by decide) (by decide) (by decide) (by decide)).trans ((FT.of hf7 (by decide) (by decide) (by decide) (by decide)).trans (FT.of (fs := [46]) (gs := []) (as := []) (bs := []) (Fr.tF Fr.rf (by decide)) (by decide) (by decide) (by decide) (by decide)))))
                            · skip
                              exact absurd h106 w5
                          · skip
                            exact absurd h86 w4
                        · skip
                          exact absurd h66 w3
                      · skip
                        exact absurd h48 w2
                    · skip
                      exact absurd h29 w1
                  · skip
                    exact absurd h11 e80
                | ok y =>
                  rw [hy] at hnu
                  rw [bnd_ok]
                  have hy2 := numP_ok hy
                  have hsk := skip_ge f n (p + 4)
                  refine r_ald0 (pc := 0) dX6_statementTold_0 ?_
                  refine m_getI hS (pc := 1) dX6_statementTold_1 fl_X6_243 ?_
                  refine Bd.eqI hR.1.2.1 ?_
                  refine r_ist1 (pc := 4) dX6_statementTold_4 ?_
                  refine r_ald0 (pc := 5) dX6_statementTold_5 ?_
                  refine m_getI hS (pc := 6) dX6_statementTold_6 fl_X6_348 ?_
                  refine Bd.eqI h52 ?_
                  refine r_bipush (v := nI 80) (pc := 9) dX6_statementTold_9 (by decide) ?_
                  first | refine r_icmp_neN (pc := 11) (tgt := 21) dX6_statementTold_11 (by decide) (by omega) (by omega) (fun h11 => ?_) (fun h11 => ?_) | refine r_icmp_ne (pc := 11) (tgt := 21) dX6_statementTold_11 (by decide) (fun h11 => ?_) (fun h11 => ?_)
                  · skip
                    refine r_ald0 (pc := 21) dX6_statementTold_21 ?_
                    refine r_ald0 (pc := 22) dX6_statementTold_22 ?_
                    refine m_getR hS (pc := 23) dX6_statementTold_23 fl_X6_24 ar12 ?_
                    refine r_cV (pc := 26) dX6_statementTold_26 cv_X6_264 hS.k (tk hR ar12 (wd := wSoul) (by decide) Fr.rf) rfl rfl (Nat.le_of_ble_eq_true rfl) (by decide) ?_
                    rintro _ _ ⟨s1, rfl, rfl, hR1, hf1⟩
                    rw [if_neg w1] at hR1
                    first | refine r_if_eqZ (pc := 29) (tgt := 40) dX6_statementTold_29 (by decide) (fun h29 => ?_) (fun h29 => ?_) | refine r_if_eqN (pc := 29) (tgt := 40) dX6_statementTold_29 (by decide) (by omega) (fun h29 => ?_) (fun h29 => ?_) | refine r_if_eq (pc := 29) (tgt := 40) dX6_statementTold_29 (by decide) (fun h29 => ?_) (fun h29 => ?_)
                    · skip
                      refine r_ald0 (pc := 40) dX6_statementTold_40 ?_
                      refine r_ald0 (pc := 41) dX6_statementTold_41 ?_
                      refine m_getR hS (pc := 42) dX6_statementTold_42 fl_X6_36 ar16 ?_
                      refine r_cV (pc := 45) dX6_statementTold_45 cv_X6_264 hS.k (tk hR1 ar16 (wd := wThinks) (by decide) hf1) rfl rfl (Nat.le_of_ble_eq_true rfl) (by decide) ?_
                      rintro _ _ ⟨s2, rfl, rfl, hR2, hf2⟩
                      rw [if_neg w2] at hR2
                      first | refine r_if_eqZ (pc := 48) (tgt := 58) dX6_statementTold_48 (by decide) (fun h48 => ?_) (fun h48 => ?_) | refine r_if_eqN (pc := 48) (tgt := 58) dX6_statementTold_48 (by decide) (by omega) (fun h48 => ?_) (fun h48 => ?_) | refine r_if_eq (pc := 48) (tgt := 58) dX6_statementTold_48 (by decide) (fun h48 => ?_) (fun h48 => ?_)
                      · skip
                        refine r_ald0 (pc := 58) dX6_statementTold_58 ?_
                        refine r_ald0 (pc := 59) dX6_statementTold_59 ?_
                        refine m_getR hS (pc := 60) dX6_statementTold_60 fl_X6_42 ar18 ?_
                        refine r_cV (pc := 63) dX6_statementTold_63 cv_X6_264 hS.k (tk hR2 ar18 (wd := wPaints) (by decide) hf2) rfl rfl (Nat.le_of_ble_eq_true rfl) (by decide) ?_
                        rintro _ _ ⟨s3, rfl, rfl, hR3, hf3⟩
                        rw [if_neg w3] at hR3
                        first | refine r_if_eqZ (pc := 66) (tgt := 78) dX6_statementTold_66 (by decide) (fun h66 => ?_) (fun h66 => ?_) | refine r_if_eqN (pc := 66) (tgt := 78) dX6_statementTold_66 (by decide) (by omega) (fun h66 => ?_) (fun h66 => ?_) | refine r_if_eq (pc := 66) (tgt := 78) dX6_statementTold_66 (by decide) (fun h66 => ?_) (fun h66 => ?_)
                        · skip
                          refine r_ald0 (pc := 78) dX6_statementTold_78 ?_
                          refine r_ald0 (pc := 79) dX6_statementTold_79 ?_
                          refine m_getR hS (pc := 80) dX6_statementTold_80 fl_X6_45 ar19 ?_
                          refine r_cV (pc := 83) dX6_statementTold_83 cv_X6_264 hS.k (tk hR3 ar19 (wd := wMinds) (by decide) hf3) rfl rfl (Nat.le_of_ble_eq_true rfl) (by decide) ?_
                          rintro _ _ ⟨s4, rfl, rfl, hR4, hf4⟩
                          rw [if_neg w4] at hR4
                          first | refine r_if_eqZ (pc := 86) (tgt := 98) dX6_statementTold_86 (by decide) (fun h86 => ?_) (fun h86 => ?_) | refine r_if_eqN (pc := 86) (tgt := 98) dX6_statementTold_86 (by decide) (by omega) (fun h86 => ?_) (fun h86 => ?_) | refine r_if_eq (pc := 86) (tgt := 98) dX6_statementTold_86 (by decide) (fun h86 => ?_) (fun h86 => ?_)
                          · skip
                            refine r_ald0 (pc := 98) dX6_statementTold_98 ?_
                            refine r_ald0 (pc := 99) dX6_statementTold_99 ?_
                            refine m_getR hS (pc := 100) dX6_statementTold_100 fl_X6_48 ar20 ?_
                            refine r_cV (pc := 103) dX6_statementTold_103 cv_X6_264 hS.k (tk hR4 ar20 (wd := wFeud) (by decide) hf4) rfl rfl (Nat.le_of_ble_eq_true rfl) (by decide) ?_
                            rintro _ _ ⟨s5, rfl, rfl, hR5, hf5⟩
                            rw [if_neg w5] at hR5
                            first | refine r_if_eqZ (pc := 106) (tgt := 118) dX6_statementTold_106 (by decide) (fun h106 => ?_) (fun h106 => ?_) | refine r_if_eqN (pc := 106) (tgt := 118) dX6_statementTold_106 (by decide) (by omega) (fun h106 => ?_) (fun h106 => ?_) | refine r_if_eq (pc := 106) (tgt := 118) dX6_statementTold_106 (by decide) (fun h106 => ?_) (fun h106 => ?_)
                            · skip
                              refine r_ald0 (pc := 118) dX6_statementTold_118 ?_
                              refine r_ald0 (pc := 119) dX6_statementTold_119 ?_
                              refine m_getR hS (pc := 120) dX6_statementTold_120 fl_X6_51 ar21 ?_
                              refine r_cV (pc := 123) dX6_statementTold_123 cv_X6_309 hS.k (hks hR5) rfl rfl (Nat.le_of_ble_eq_true rfl) (by decide) ?_
                              rintro _ _ ⟨s6, rfl, rfl, hR6, hf6⟩
                              refine r_ald0 (pc := 126) dX6_statementTold_126 ?_
                              refine r_ald0 (pc := 127) dX6_statementTold_127 ?_
                              refine r_iconst (v := nI 0) (pc := 128) dX6_statementTold_128 (by decide) ?_
                              refine r_bipush (v := nI 100) (pc := 129) dX6_statementTold_129 (by decide) ?_
                              refine r_cV (pc := 131) dX6_statementTold_131 cv_X6_313 hS.k (hnu hR6) rfl rfl (Nat.le_of_ble_eq_true rfl) (by decide) ?_
                              rintro _ _ ⟨s7, rfl, ⟨rfl, hR7, -⟩, hf7⟩
                              refine m_putI hS (pc := 134) dX6_statementTold_134 fl_X6_360 fw_X6_46 rfl rfl ?_
                              have hT7 := ((dT hf5).fr hf6 (by decide) (by decide) (by decide)).fr hf7 (by decide) (by decide) (by decide)
                              refine st137 (y := (pL T y.1, y.2)) (b := y.2) hS (hR7.fr (fs := [46]) (gs := []) (as := []) (bs := []) (Fr.tF Fr.rf (by decide)) (by decide) (by decide)) rfl ⟨hT7.1, hT7.2.1, hT7.2.2.1, hT7.2.2.2.1, rfl, hT7.2.2.2.2.2⟩ (show c ≤ y.2 by omega) ((hf7.1 52 (by decide)).trans ((hf6.1 52 (by decide)).trans (d52 hf5))) ((dF hf5).trans ((FT.of hf6 (by decide) (by decide) (by decide) (by decide)).trans ((FT.of hf7 (by decide) (by decide) (by decide) (by decide)).trans (FT.of (fs := [46]) (gs := []) (as := []) (bs := []) (Fr.tF Fr.rf (by decide)) (by decide) (by decide) (by decide) (by decide)))))
                            · skip
                              exact absurd h106 w5
                          · skip
                            exact absurd h86 w4
                        · skip
                          exact absurd h66 w3
                      · skip
                        exact absurd h48 w2
                    · skip
                      exact absurd h29 w1
                  · skip
                    exact absurd h11 e80
              · have hz : (match word f n p with
                    | none => .error (1, p)
                    | some w => endP f n (bodyP f n T w p (p + w.length)) : Pz (To × Nat)) = .error (1, p) := by
                  cases hw : word f n p with
                  | none => rfl
                  | some w =>
                    rw [hw] at w1 w2 w3 w4 w5 w6
                    show endP f n (bodyP f n T w p (p + w.length)) = _
                    have hb : bodyP f n T w p (p + w.length) = .error (1, p) := by
                      unfold bodyP
                      rw [if_neg (fun q => w1 (congrArg some q)), if_neg (fun q => w2 (congrArg some q)), if_neg (fun q => w3 (congrArg some q)), if_neg (fun q => w4 (congrArg some q)), if_neg (fun q => w5 (congrArg some q)), if_neg (fun q => w6 (congrArg some q))]
                    rw [hb]; rfl
                refine Bd.post (Q' := StQ M o f n m s (.error (1, p))) (fun v M' h => (congrArg (fun z => StQ M o f n m s z v M') hz).mpr h) (fun _ _ h => h) ?_
                have hk6 : kwP f n wSlip p = .error (1, p) := by unfold kwP; rw [hp, if_neg w6]
                rw [hk6] at hks
                refine r_ald0 (pc := 0) dX6_statementTold_0 ?_
                refine m_getI hS (pc := 1) dX6_statementTold_1 fl_X6_243 ?_
                refine Bd.eqI hR.1.2.1 ?_
                refine r_ist1 (pc := 4) dX6_statementTold_4 ?_
                refine r_ald0 (pc := 5) dX6_statementTold_5 ?_
                refine m_getI hS (pc := 6) dX6_statementTold_6 fl_X6_348 ?_
                refine Bd.eqI h52 ?_
                refine r_bipush (v := nI 80) (pc := 9) dX6_statementTold_9 (by decide) ?_
                first | refine r_icmp_neN (pc := 11) (tgt := 21) dX6_statementTold_11 (by decide) (by omega) (by omega) (fun h11 => ?_) (fun h11 => ?_) | refine r_icmp_ne (pc := 11) (tgt := 21) dX6_statementTold_11 (by decide) (fun h11 => ?_) (fun h11 => ?_)
                · skip
                  refine r_ald0 (pc := 21) dX6_statementTold_21 ?_
                  refine r_ald0 (pc := 22) dX6_statementTold_22 ?_
                  refine m_getR hS (pc := 23) dX6_statementTold_23 fl_X6_24 ar12 ?_
                  refine r_cV (pc := 26) dX6_statementTold_26 cv_X6_264 hS.k (tk hR ar12 (wd := wSoul) (by decide) Fr.rf) rfl rfl (Nat.le_of_ble_eq_true rfl) (by decide) ?_
                  rintro _ _ ⟨s1, rfl, rfl, hR1, hf1⟩
                  rw [if_neg w1] at hR1
                  first | refine r_if_eqZ (pc := 29) (tgt := 40) dX6_statementTold_29 (by decide) (fun h29 => ?_) (fun h29 => ?_) | refine r_if_eqN (pc := 29) (tgt := 40) dX6_statementTold_29 (by decide) (by omega) (fun h29 => ?_) (fun h29 => ?_) | refine r_if_eq (pc := 29) (tgt := 40) dX6_statementTold_29 (by decide) (fun h29 => ?_) (fun h29 => ?_)
                  · skip
                    refine r_ald0 (pc := 40) dX6_statementTold_40 ?_
                    refine r_ald0 (pc := 41) dX6_statementTold_41 ?_
                    refine m_getR hS (pc := 42) dX6_statementTold_42 fl_X6_36 ar16 ?_
                    refine r_cV (pc := 45) dX6_statementTold_45 cv_X6_264 hS.k (tk hR1 ar16 (wd := wThinks) (by decide) hf1) rfl rfl (Nat.le_of_ble_eq_true rfl) (by decide) ?_
                    rintro _ _ ⟨s2, rfl, rfl, hR2, hf2⟩
                    rw [if_neg w2] at hR2
                    first | refine r_if_eqZ (pc := 48) (tgt := 58) dX6_statementTold_48 (by decide) (fun h48 => ?_) (fun h48 => ?_) | refine r_if_eqN (pc := 48) (tgt := 58) dX6_statementTold_48 (by decide) (by omega) (fun h48 => ?_) (fun h48 => ?_) | refine r_if_eq (pc := 48) (tgt := 58) dX6_statementTold_48 (by decide) (fun h48 => ?_) (fun h48 => ?_)
                    · skip
                      refine r_ald0 (pc := 58) dX6_statementTold_58 ?_
                      refine r_ald0 (pc := 59) dX6_statementTold_59 ?_
                      refine m_getR hS (pc := 60) dX6_statementTold_60 fl_X6_42 ar18 ?_
                      refine r_cV (pc := 63) dX6_statementTold_63 cv_X6_264 hS.k (tk hR2 ar18 (wd := wPaints) (by decide) hf2) rfl rfl (Nat.le_of_ble_eq_true rfl) (by decide) ?_
                      rintro _ _ ⟨s3, rfl, rfl, hR3, hf3⟩
                      rw [if_neg w3] at hR3
                      first | refine r_if_eqZ (pc := 66) (tgt := 78) dX6_statementTold_66 (by decide) (fun h66 => ?_) (fun h66 => ?_) | refine r_if_eqN (pc := 66) (tgt := 78) dX6_statementTold_66 (by decide) (by omega) (fun h66 => ?_) (fun h66 => ?_) | refine r_if_eq (pc := 66) (tgt := 78) dX6_statementTold_66 (by decide) (fun h66 => ?_) (fun h66 => ?_)
                      · skip
                        refine r_ald0 (pc := 78) dX6_statementTold_78 ?_
                        refine r_ald0 (pc := 79) dX6_statementTold_79 ?_
                        refine m_getR hS (pc := 80) dX6_statementTold_80 fl_X6_45 ar19 ?_
                        refine r_cV (pc := 83) dX6_statementTold_83 cv_X6_264 hS.k (tk hR3 ar19 (wd := wMinds) (by decide) hf3) rfl rfl (Nat.le_of_ble_eq_true rfl) (by decide) ?_
                        rintro _ _ ⟨s4, rfl, rfl, hR4, hf4⟩
                        rw [if_neg w4] at hR4
                        first | refine r_if_eqZ (pc := 86) (tgt := 98) dX6_statementTold_86 (by decide) (fun h86 => ?_) (fun h86 => ?_) | refine r_if_eqN (pc := 86) (tgt := 98) dX6_statementTold_86 (by decide) (by omega) (fun h86 => ?_) (fun h86 => ?_) | refine r_if_eq (pc := 86) (tgt := 98) dX6_statementTold_86 (by decide) (fun h86 => ?_) (fun h86 => ?_)
                        · skip
                          refine r_ald0 (pc := 98) dX6_statementTold_98 ?_
                          refine r_ald0 (pc := 99) dX6_statementTold_99 ?_
                          refine m_getR hS (pc := 100) dX6_statementTold_100 fl_X6_48 ar20 ?_
                          refine r_cV (pc := 103) dX6_statementTold_103 cv_X6_264 hS.k (tk hR4 ar20 (wd := wFeud) (by decide) hf4) rfl rfl (Nat.le_of_ble_eq_true rfl) (by decide) ?_
                          rintro _ _ ⟨s5, rfl, rfl, hR5, hf5⟩
                          rw [if_neg w5] at hR5
                          first | refine r_if_eqZ (pc := 106) (tgt := 118) dX6_statementTold_106 (by decide) (fun h106 => ?_) (fun h106 => ?_) | refine r_if_eqN (pc := 106) (tgt := 118) dX6_statementTold_106 (by decide) (by omega) (fun h106 => ?_) (fun h106 => ?_) | refine r_if_eq (pc := 106) (tgt := 118) dX6_statementTold_106 (by decide) (fun h106 => ?_) (fun h106 => ?_)
                          · skip
                            refine r_ald0 (pc := 118) dX6_statementTold_118 ?_
                            refine r_ald0 (pc := 119) dX6_statementTold_119 ?_
                            refine m_getR hS (pc := 120) dX6_statementTold_120 fl_X6_51 ar21 ?_
                            refine r_cV (pc := 123) dX6_statementTold_123 cv_X6_309 hS.k (hks hR5) rfl rfl (Nat.le_of_ble_eq_true rfl) (by decide) ?_
                            rintro _ _ ⟨s6, rfl, rfl, hB, hf6⟩
                            have hB : BD s6 (1, p) := hB
                            refine r_ald0 (pc := 126) dX6_statementTold_126 ?_
                            refine r_ald0 (pc := 127) dX6_statementTold_127 ?_
                            refine r_iconst (v := nI 0) (pc := 128) dX6_statementTold_128 (by decide) ?_
                            refine r_bipush (v := nI 100) (pc := 129) dX6_statementTold_129 (by decide) ?_
                            refine r_cV (pc := 131) dX6_statementTold_131 cv_X6_313 hS.k (ct_X6_numberB hS hB.ne) rfl rfl (Nat.le_of_ble_eq_true rfl) (by decide) ?_
                            rintro _ _ ⟨rfl, rfl⟩
                            refine m_putI hS (pc := 134) dX6_statementTold_134 fl_X6_360 fw_X6_46 rfl rfl ?_
                            exact st137B hS (hB.fr (fs := [46]) (gs := []) (as := []) (bs := []) (Fr.tF Fr.rf (by decide)) (by decide)) ((hf6.1 52 (by decide)).trans (d52 hf5)) ((dF hf5).trans ((FT.of hf6 (by decide) (by decide) (by decide) (by decide)).trans (FT.of (fs := [46]) (gs := []) (as := []) (bs := []) (Fr.tF Fr.rf (by decide)) (by decide) (by decide) (by decide) (by decide))))
                          · skip
                            exact absurd h106 w5
                        · skip
                          exact absurd h86 w4
                      · skip
                        exact absurd h66 w3
                    · skip
                      exact absurd h48 w2
                  · skip
                    exact absurd h29 w1
                · skip
                  exact absurd h11 e80
end M41
