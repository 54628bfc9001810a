set_option maxRecDepth 100000
/-! THE READER: all the facts and tests -/
section X78
variable {g : GC} {M : MM} {o n x oo a D d dd kc ks : Nat} {f : Nat → Nat} {r : Option (Nat → Rz)}
theorem ct_fact (h9 : F9 g dd o n f x oo (D + 1) r) (h60 : F60 g dd o n f x oo (D + 1) r) (hr : ∀ it, r = some it → prg n it) (hsum : CtV g yX2_sum cX2_sum d 30 30 400 400 o n f x oo D (sumP f n (atomP f n x oo))) (hd : 20 ≤ d) (hdd : d + 1 ≤ dd) : CtT g yX2_fact cX2_fact 3 dd 0 40 0 5700 o n f x oo (D + 1) (fctK f n x oo r) := by
  intro M a W
  have hrd := W.rd
  have ho := hrd.oz
  have hg := hrd.1
  have hgb := hrd.2.1
  have r7 := hrd.2.2.2.2.2.2.2.1.1
  have hf := hrd.2.2.2.2.2.2.1.1
  have h1280 := W.1.2.1
  have hcs0 := W.1.c
  have hsl := skip_le (f := f) W.le
  have hsg := skip_ge f n a
  have hlw := lts_le f (n - skip f n a) (skip f n a)
  have hct := ct_X2_here hrd W.le W.at
  by_cases e : lookO f n a = some 91
  · have er : fctK f n x oo r a = brR f n r a := by
      unfold fctK brR
      rw [if_pos e]
      cases r <;> rfl
    rw [er]
    rw [(bI_look (by decide) hf).2 e] at hct
    refine Ct.of (by decide) (Nat.le_of_ble_eq_true rfl) rfl ?_
    refine r_ald0 (pc := 0) dX2_fact_0 ?_
    refine r_cV (ci := 2) (pc := 1) dX2_fact_1 cv_X2_43 r7 hct rfl rfl (Nat.le_of_ble_eq_true rfl) (by omega) ?_
    rintro _ M1 ⟨rfl, k1⟩
    refine r_bipush (v := nI 91) (pc := 4) dX2_fact_4 (by decide) ?_
    first | refine r_icmp_neN (pc := 6) (tgt := 50) dX2_fact_6 (by decide) (by omega) (by omega) (fun h6 => ?_) (fun h6 => ?_) | refine r_icmp_ne (pc := 6) (tgt := 50) dX2_fact_6 (by decide) (fun h6 => ?_) (fun h6 => ?_)
    · skip
      exact absurd rfl h6
    · skip
      exact h9 M a M1 W e k1
  · have er0 : fctK f n x oo r a = match psW f n wNot a with
        | .error e => .error e
        | .ok (some b) => noR f n r a b
        | .ok none => (match psW f n wAll a with
          | .error e => .error e
          | .ok (some b) => .ok ([13], b)
          | .ok none => thanP f n (atomP f n x oo) a) := by
      unfold fctK noR
      rw [if_neg e]
      cases psW f n wNot a with
      | error e => rfl
      | ok z =>
        cases z with
        | some b => cases r <;> rfl
        | none => rfl
    have er1 : psW f n wNot a = .ok none → fctK f n x oo r a = (match psW f n wAll a with
        | .error e => .error e
        | .ok (some b) => .ok ([13], b)
        | .ok none => thanP f n (atomP f n x oo) a : Rz) := fun q => by rw [er0, q]
    have hne : ∀ v, bI f n (skip f n a) = v → v ≠ nI 91 := fun v hv q => e ((bI_look (by decide) hf).1 (hv.trans q))
    generalize hv0 : bI f n (skip f n a) = v0 at hct
    have hv1 := hne v0 hv0
    cases hq : psW f n wNot a with
    | error e1 =>
      have er : fctK f n x oo r a = .error e1 := by rw [er0, hq]
      rw [er, cst_er, cst_er]
      refine Ct.of (by decide) (Nat.le_of_ble_eq_true rfl) rfl ?_
      refine r_ald0 (pc := 0) dX2_fact_0 ?_
      refine r_cV (ci := 2) (pc := 1) dX2_fact_1 cv_X2_43 r7 hct rfl rfl (Nat.le_of_ble_eq_true rfl) (by omega) ?_
      rintro _ M1 ⟨rfl, k1⟩
      have W1 := W.to k1 hsl
      have r71 := W1.rd.2.2.2.2.2.2.2.1.1
      obtain ⟨zt, t1, t2⟩ := W1.1.tx (e := (291, "not", wNot)) (by decide)
      have hps := ct_X2_passes W1.rd hcs0 t2 hsl W1.at
      rw [skip_idem, psW_eq (skip_idem f n a)] at hps
      refine r_bipush (v := nI 91) (pc := 4) dX2_fact_4 (by decide) ?_
      refine r_icmp_ne (pc := 6) (tgt := 50) dX2_fact_6 (by decide) (fun h6 => ?_) (fun h6 => ?_)
      · skip
        refine r_ald0 (pc := 50) dX2_fact_50 ?_
        refine r_ldcwS (pc := 51) (tx := "not") dX2_fact_51 t1 ?_
        refine r_cVx (ci := 2) (pc := 54) (kc' := 0) (ks' := 0) dX2_fact_54 cv_X2_282 r71 hps rfl rfl (Nat.le_of_ble_eq_true rfl) (by omega) (by omega) (by omega) (fun q M' hx => ?_) ?_
        · have h8 := hx.1
          rw [hq] at h8
          cases h8
          exact ⟨1, skip f n a, rfl, XE.pre k1.1 hx.2⟩
        rintro _ M2 hT
        exfalso
        rcases hT with ⟨b1, h8, -⟩ | ⟨h8, -⟩ <;> (rw [hq] at h8; cases h8)
      · skip
        exact absurd h6 hv1
    | ok z =>
      cases z with
      | some b =>
        have er : fctK f n x oo r a = noR f n r a b := by rw [er0, hq]
        rw [er]
        have hw := psW_some hq
        have hwe := word_end hw.1
        rw [← hw.2] at hwe
        have hb3 : b = skip f n a + 3 := hw.2
        have hpg : ∀ y, noR f n r a b = .ok y → b < y.2 := by
          intro y hy
          unfold noR at hy
          cases r with
          | none => cases hy
          | some it =>
            obtain ⟨y1, h1, h2⟩ := thn_ok hy
            cases h2
            exact (hr it rfl b y1 h1).1
        have c1 : 3 ≤ cst 60 0 40 n a (noR f n r a b) ∧ 2564 ≤ cst 4000 0 5700 n a (noR f n r a b) := by
          cases h1 : noR f n r a b with
          | error e0 => rw [cst_er, cst_er]; omega
          | ok y => have := hpg y h1; rw [cst_ok, cst_ok]; omega
        refine Ct.of (by decide) (Nat.le_of_ble_eq_true rfl) rfl ?_
        refine r_ald0 (pc := 0) dX2_fact_0 ?_
        refine r_cV (ci := 2) (pc := 1) dX2_fact_1 cv_X2_43 r7 hct rfl rfl (Nat.le_of_ble_eq_true rfl) (by omega) ?_
        rintro _ M1 ⟨rfl, k1⟩
        have W1 := W.to k1 hsl
        have r71 := W1.rd.2.2.2.2.2.2.2.1.1
        obtain ⟨zt, t1, t2⟩ := W1.1.tx (e := (291, "not", wNot)) (by decide)
        have hps := ct_X2_passes W1.rd hcs0 t2 hsl W1.at
        rw [skip_idem, psW_eq (skip_idem f n a)] at hps
        refine r_bipush (v := nI 91) (pc := 4) dX2_fact_4 (by decide) ?_
        refine r_icmp_ne (pc := 6) (tgt := 50) dX2_fact_6 (by decide) (fun h6 => ?_) (fun h6 => ?_)
        · skip
          refine r_ald0 (pc := 50) dX2_fact_50 ?_
          refine r_ldcwS (pc := 51) (tx := "not") dX2_fact_51 t1 ?_
          refine r_cVx (ci := 2) (pc := 54) (kc' := cst 60 0 40 n a (noR f n r a b) - 3) (ks' := cst 4000 0 5700 n a (noR f n r a b) - 2564) dX2_fact_54 cv_X2_282 r71 hps rfl rfl (Nat.le_of_ble_eq_true rfl) (by omega) (by omega) (by omega) (fun q M' hx => ?_) ?_
          · have h8 := hx.1
            rw [hq] at h8; cases h8
          rintro v1 M2 hT
          obtain ⟨b1, h8, rfl, kT, k3⟩ := hT.resolve_right (fun z => by have h8 := z.1; rw [hq] at h8; cases h8)
          rw [hq] at h8
          cases h8
          first | refine r_if_eqZ (pc := 57) (tgt := 92) dX2_fact_57 (by decide) (fun h57 => ?_) (fun h57 => ?_) | refine r_if_eqN (pc := 57) (tgt := 92) dX2_fact_57 (by decide) (by omega) (fun h57 => ?_) (fun h57 => ?_) | refine r_if_eq (pc := 57) (tgt := 92) dX2_fact_57 (by decide) (fun h57 => ?_) (fun h57 => ?_)
          · skip
            exact absurd h57 (by omega)
          · skip
            exact h60 M a b M2 W hq (k1.trans kT) k3
        · skip
          exact absurd h6 hv1
      | none =>
        cases hq2 : psW f n wAll a with
        | error e1 =>
          have er : fctK f n x oo r a = .error e1 := by rw [er1 hq, hq2]
          rw [er, cst_er, cst_er]
          refine Ct.of (by decide) (Nat.le_of_ble_eq_true rfl) rfl ?_
          refine r_ald0 (pc := 0) dX2_fact_0 ?_
          refine r_cV (ci := 2) (pc := 1) dX2_fact_1 cv_X2_43 r7 hct rfl rfl (Nat.le_of_ble_eq_true rfl) (by omega) ?_
          rintro _ M1 ⟨rfl, k1⟩
          have W1 := W.to k1 hsl
          have r71 := W1.rd.2.2.2.2.2.2.2.1.1
          obtain ⟨zt, t1, t2⟩ := W1.1.tx (e := (291, "not", wNot)) (by decide)
          have hps := ct_X2_passes W1.rd hcs0 t2 hsl W1.at
          rw [skip_idem, psW_eq (skip_idem f n a)] at hps
          refine r_bipush (v := nI 91) (pc := 4) dX2_fact_4 (by decide) ?_
          refine r_icmp_ne (pc := 6) (tgt := 50) dX2_fact_6 (by decide) (fun h6 => ?_) (fun h6 => ?_)
          · skip
            refine r_ald0 (pc := 50) dX2_fact_50 ?_
            refine r_ldcwS (pc := 51) (tx := "not") dX2_fact_51 t1 ?_
            refine r_cVx (ci := 2) (pc := 54) (kc' := 60 * (n - a) + 37) (ks' := 4000 * (n - a) + 3136) dX2_fact_54 cv_X2_282 r71 hps rfl rfl (Nat.le_of_ble_eq_true rfl) (by omega) (by omega) (by omega) (fun q M' hx => ?_) ?_
            · have h8 := hx.1
              rw [hq] at h8; cases h8
            rintro v1 M2 hT
            obtain ⟨-, rfl, b2, kT, kb2, kz2, ka2⟩ := hT.resolve_left (fun z => by obtain ⟨b1, h8, -⟩ := z; rw [hq] at h8; cases h8)
            have W2 := W1.to kT kb2
            have r72 := W2.rd.2.2.2.2.2.2.2.1.1
            obtain ⟨zu, u1, u2⟩ := W2.1.tx (e := (298, "all", wAll)) (by decide)
            have hps2 := ct_X2_passes W2.rd hcs0 u2 kb2 W2.at
            have hlw2 := lts_le f (n - skip f n b2) (skip f n b2)
            have hsl2 := skip_le (f := f) kb2
            first | refine r_if_eqZ (pc := 57) (tgt := 92) dX2_fact_57 (by decide) (fun h57 => ?_) (fun h57 => ?_) | refine r_if_eqN (pc := 57) (tgt := 92) dX2_fact_57 (by decide) (by omega) (fun h57 => ?_) (fun h57 => ?_) | refine r_if_eq (pc := 57) (tgt := 92) dX2_fact_57 (by decide) (fun h57 => ?_) (fun h57 => ?_)
            · skip
              refine r_ald0 (pc := 92) dX2_fact_92 ?_
              refine r_ldcwS (pc := 93) (tx := "all") dX2_fact_93 u1 ?_
              refine r_cVx (ci := 2) (pc := 96) (kc' := 0) (ks' := 0) dX2_fact_96 cv_X2_282 r72 hps2 rfl rfl (Nat.le_of_ble_eq_true rfl) (by omega) (by omega) (by omega) (fun q M' hx => ?_) ?_
              · have h8 := hx.1
                rw [psW_eq kz2, hq2] at h8
                cases h8
                have h9 := (psW_err hq2).1
                rw [kz2] at hx
                exact ⟨1, skip f n a, by rw [kz2], XE.pre (k1.1.trans kT.1) hx.2⟩
              rintro _ M3 hT
              exfalso
              rcases hT with ⟨b1, h8, -⟩ | ⟨h8, -⟩ <;> (rw [psW_eq kz2, hq2] at h8; cases h8)
            · skip
              exact absurd rfl h57
          · skip
            exact absurd h6 hv1
        | ok z2 =>
          cases z2 with
          | some b =>
            have er : fctK f n x oo r a = .ok ([13], b) := by rw [er1 hq, hq2]
            rw [er, cst_ok, cst_ok]
            have hw := psW_some hq2
            have hwe := word_end hw.1
            rw [← hw.2] at hwe
            have hb3 : b = skip f n a + 3 := hw.2
            show Ct g yX2_fact cX2_fact 3 (some (.object "Retouched$Test")) dd (60 * (b - a - 1) + 0) (4000 * (b - a - 1) + 0) [.ref (o + 5)] M (RTQ M o n f (D + 1) (.ok ([13], b))) (RVX M o (.ok ([13], b)))
            refine Ct.of (by decide) (Nat.le_of_ble_eq_true rfl) rfl ?_
            refine r_ald0 (pc := 0) dX2_fact_0 ?_
            refine r_cV (ci := 2) (pc := 1) dX2_fact_1 cv_X2_43 r7 hct rfl rfl (Nat.le_of_ble_eq_true rfl) (by omega) ?_
            rintro _ M1 ⟨rfl, k1⟩
            have W1 := W.to k1 hsl
            have r71 := W1.rd.2.2.2.2.2.2.2.1.1
            obtain ⟨zt, t1, t2⟩ := W1.1.tx (e := (291, "not", wNot)) (by decide)
            have hps := ct_X2_passes W1.rd hcs0 t2 hsl W1.at
            rw [skip_idem, psW_eq (skip_idem f n a)] at hps
            refine r_bipush (v := nI 91) (pc := 4) dX2_fact_4 (by decide) ?_
            refine r_icmp_ne (pc := 6) (tgt := 50) dX2_fact_6 (by decide) (fun h6 => ?_) (fun h6 => ?_)
            · skip
              refine r_ald0 (pc := 50) dX2_fact_50 ?_
              refine r_ldcwS (pc := 51) (tx := "not") dX2_fact_51 t1 ?_
              refine r_cVx (ci := 2) (pc := 54) (kc' := 60 * (b - a - 1) - 3) (ks' := 4000 * (b - a - 1) - 2564) dX2_fact_54 cv_X2_282 r71 hps rfl rfl (Nat.le_of_ble_eq_true rfl) (by omega) (by omega) (by omega) (fun q M' hx => ?_) ?_
              · have h8 := hx.1
                rw [hq] at h8; cases h8
              rintro v1 M2 hT
              obtain ⟨-, rfl, b2, kT, kb2, kz2, ka2⟩ := hT.resolve_left (fun z => by obtain ⟨b1, h8, -⟩ := z; rw [hq] at h8; cases h8)
              have W2 := W1.to kT kb2
              have r72 := W2.rd.2.2.2.2.2.2.2.1.1
              obtain ⟨zu, u1, u2⟩ := W2.1.tx (e := (298, "all", wAll)) (by decide)
              have hps2 := ct_X2_passes W2.rd hcs0 u2 kb2 W2.at
              have hlw2 := lts_le f (n - skip f n b2) (skip f n b2)
              have hsl2 := skip_le (f := f) kb2
              first | refine r_if_eqZ (pc := 57) (tgt := 92) dX2_fact_57 (by decide) (fun h57 => ?_) (fun h57 => ?_) | refine r_if_eqN (pc := 57) (tgt := 92) dX2_fact_57 (by decide) (by omega) (fun h57 => ?_) (fun h57 => ?_) | refine r_if_eq (pc := 57) (tgt := 92) dX2_fact_57 (by decide) (fun h57 => ?_) (fun h57 => ?_)
              · skip
                refine r_ald0 (pc := 92) dX2_fact_92 ?_
                refine r_ldcwS (pc := 93) (tx := "all") dX2_fact_93 u1 ?_
                refine r_cVx (ci := 2) (pc := 96) (kc' := 1) (ks' := 0) dX2_fact_96 cv_X2_282 r72 hps2 rfl rfl (Nat.le_of_ble_eq_true rfl) (by omega) (by omega) (by omega) (fun q M' hx => ?_) ?_
                · have h8 := hx.1
                  rw [psW_eq kz2, hq2] at h8; cases h8
                rintro v1 M3 hT
                obtain ⟨b1, h8, rfl, kU, -⟩ := hT.resolve_right (fun z => by have h8 := z.1; rw [psW_eq kz2, hq2] at h8; cases h8)
                rw [psW_eq kz2, hq2] at h8
                cases h8
                first | refine r_if_eqZ (pc := 99) (tgt := 110) dX2_fact_99 (by decide) (fun h99 => ?_) (fun h99 => ?_) | refine r_if_eqN (pc := 99) (tgt := 110) dX2_fact_99 (by decide) (by omega) (fun h99 => ?_) (fun h99 => ?_) | refine r_if_eq (pc := 99) (tgt := 110) dX2_fact_99 (by decide) (fun h99 => ?_) (fun h99 => ?_)
                · skip
                  exact absurd h99 (by omega)
                · skip
                  refine r_new (pc := 102) (ci := 17) (kc' := 0) (ks' := 0) dX2_fact_102 q1149 q1150 q179 (by decide) (by omega) (by omega) ?_
                  generalize hM5 : nw M3 (20 + 17) 0 = M5
                  have m1 : mZ M5 = mZ M3 + 1 := by rw [← hM5]; rfl
                  have m3 : mK M5 (mZ M3) = 37 := by rw [← hM5]; exact if_pos rfl
                  have m4 : FM (fun c => mZ M ≤ c) M3 M5 := by rw [← hM5]; exact FM.nw
                  clear hM5
                  have hz1 := k1.1.1.1
                  have hzT := kT.1.1.1
                  have hzU := kU.1.1.1
                  refine r_dup (pc := 105) dX2_fact_105 rfl ?_
                  refine r_cIN (pc := 106) dX2_fact_106 (cin_X2_302 hg) (ct_X17_init (M := M5) (a := mZ M3) hg (by omega) m3) rfl rfl (Nat.le_of_ble_eq_true rfl) (by omega) ?_
                  rintro _ M6 ⟨rfl, e6⟩
                  rw [e6]
                  refine r_aretR (pc := 109) dX2_fact_109 ?_
                  exact ⟨([13], b), mZ M3, b, rfl, rfl, Or.inl ⟨⟨by omega, by omega⟩, m3, rfl⟩, ((k1.trans kT).trans kU).more m4 ho, hwe.1, rfl⟩
              · skip
                exact absurd rfl h57
            · skip
              exact absurd h6 hv1
          | none =>
            have er : fctK f n x oo r a = thanP f n (atomP f n x oo) a := by rw [er1 hq, hq2]
            rw [er]
            have hpg : ∀ y, thanP f n (atomP f n x oo) a = .ok y → a + 3 ≤ y.2 := by
              intro y hy
              obtain ⟨y1, h1, h2⟩ := thn_ok hy
              have q1 := (sumP_prg (atomP_prg oo) a y1 h1).1
              have h2 : (match sgT f n y1.2 with
                | none => .error (1, skip f n y1.2)
                | some v => thn (sumP f n (atomP f n x oo) (skip f n y1.2 + 1)) (fun ds c => .ok (y1.1 ++ (ds ++ [v]), c)) : Rz) = .ok y := h2
              cases hv : sgT f n y1.2 with
              | none => rw [hv] at h2; cases h2
              | some v =>
                rw [hv] at h2
                obtain ⟨y2, h3, h4⟩ := thn_ok h2
                cases h4
                have := (sumP_prg (atomP_prg oo) _ y2 h3).1
                have := skip_ge f n y1.2
                show a + 3 ≤ y2.2
                omega
            have c1 : 6 ≤ cst 60 0 40 n a (thanP f n (atomP f n x oo) a) ∧ 5128 ≤ cst 4000 0 5700 n a (thanP f n (atomP f n x oo) a) := by
              cases h1 : thanP f n (atomP f n x oo) a with
              | error e0 => rw [cst_er, cst_er]; omega
              | ok y => have := hpg y h1; rw [cst_ok, cst_ok]; omega
            generalize hkc : cst 60 0 40 n a (thanP f n (atomP f n x oo) a) = kc at *
            generalize hks : cst 4000 0 5700 n a (thanP f n (atomP f n x oo) a) = ks at *
            refine Ct.of (by decide) (Nat.le_of_ble_eq_true rfl) rfl ?_
            refine r_ald0 (pc := 0) dX2_fact_0 ?_
            refine r_cV (ci := 2) (pc := 1) dX2_fact_1 cv_X2_43 r7 hct rfl rfl (Nat.le_of_ble_eq_true rfl) (by omega) ?_
            rintro _ M1 ⟨rfl, k1⟩
            have W1 := W.to k1 hsl
            have r71 := W1.rd.2.2.2.2.2.2.2.1.1
            obtain ⟨zt, t1, t2⟩ := W1.1.tx (e := (291, "not", wNot)) (by decide)
            have hps := ct_X2_passes W1.rd hcs0 t2 hsl W1.at
            rw [skip_idem, psW_eq (skip_idem f n a)] at hps
            refine r_bipush (v := nI 91) (pc := 4) dX2_fact_4 (by decide) ?_
            refine r_icmp_ne (pc := 6) (tgt := 50) dX2_fact_6 (by decide) (fun h6 => ?_) (fun h6 => ?_)
            · skip
              refine r_ald0 (pc := 50) dX2_fact_50 ?_
              refine r_ldcwS (pc := 51) (tx := "not") dX2_fact_51 t1 ?_
              refine r_cVx (ci := 2) (pc := 54) (kc' := kc - 3) (ks' := ks - 2564) dX2_fact_54 cv_X2_282 r71 hps rfl rfl (Nat.le_of_ble_eq_true rfl) (by omega) (by omega) (by omega) (fun q M' hx => ?_) ?_
              · have h8 := hx.1
                rw [hq] at h8; cases h8
              rintro v1 M2 hT
              obtain ⟨-, rfl, b2, kT, kb2, kz2, ka2⟩ := hT.resolve_left (fun z => by obtain ⟨b1, h8, -⟩ := z; rw [hq] at h8; cases h8)
              have W2 := W1.to kT kb2
              have r72 := W2.rd.2.2.2.2.2.2.2.1.1
              obtain ⟨zu, u1, u2⟩ := W2.1.tx (e := (298, "all", wAll)) (by decide)
              have hps2 := ct_X2_passes W2.rd hcs0 u2 kb2 W2.at
              have hlw2 := lts_le f (n - skip f n b2) (skip f n b2)
              have hsl2 := skip_le (f := f) kb2
              first | refine r_if_eqZ (pc := 57) (tgt := 92) dX2_fact_57 (by decide) (fun h57 => ?_) (fun h57 => ?_) | refine r_if_eqN (pc := 57) (tgt := 92) dX2_fact_57 (by decide) (by omega) (fun h57 => ?_) (fun h57 => ?_) | refine r_if_eq (pc := 57) (tgt := 92) dX2_fact_57 (by decide) (fun h57 => ?_) (fun h57 => ?_)
              · skip
                refine r_ald0 (pc := 92) dX2_fact_92 ?_
                refine r_ldcwS (pc := 93) (tx := "all") dX2_fact_93 u1 ?_
                refine r_cVx (ci := 2) (pc := 96) (kc' := kc - 6) (ks' := ks - 5128) dX2_fact_96 cv_X2_282 r72 hps2 rfl rfl (Nat.le_of_ble_eq_true rfl) (by omega) (by omega) (by omega) (fun q M' hx => ?_) ?_
                · have h8 := hx.1
                  rw [psW_eq kz2, hq2] at h8; cases h8
                rintro v1 M3 hT
                obtain ⟨-, rfl, b3, kU, kb3, kz3, ka3⟩ := hT.resolve_left (fun z => by obtain ⟨b1, h8, -⟩ := z; rw [psW_eq kz2, hq2] at h8; cases h8)
                have W3 := W2.to kU kb3
                first | refine r_if_eqZ (pc := 99) (tgt := 110) dX2_fact_99 (by decide) (fun h99 => ?_) (fun h99 => ?_) | refine r_if_eqN (pc := 99) (tgt := 110) dX2_fact_99 (by decide) (by omega) (fun h99 => ?_) (fun h99 => ?_) | refine r_if_eq (pc := 99) (tgt := 110) dX2_fact_99 (by decide) (fun h99 => ?_) (fun h99 => ?_)
                · skip
                  exact fa_110 hsum W3 ((k1.trans kT).trans kU) ho (kz3.trans kz2) (by omega) hd hdd (by rw [hkc]) (by rw [hks])
                · skip
                  exact absurd rfl h99
              · skip
                exact absurd rfl h57
            · skip
              exact absurd h6 hv1
theorem ct_facts : ∀ oo, CtT g yX2_fact cX2_fact 3 (26 + 4 * oo) 0 40 0 5700 o n f x oo (3 * oo + 4) (factP f n x oo)
  | 0 => ct_fact (r := none) (f9_none (by decide)) (f60_none (by decide)) (fun it h => by cases h) (ct_sums (oo := 0)) (by decide) (by decide)
  | oo + 1 => by
    have h1 := ct_facts oo
    have p1 : prg n (factP f n x oo) := factP_prg oo
    have h2 := ct_X2_both p1 h1 (by omega)
    rw [← bothP_pt] at h2
    have h3 := ct_X2_test (bothP_prg p1) h2 (by omega)
    rw [← testP_pt] at h3
    have h4 := f9_some (dd := 26 + 4 * (oo + 1)) (testP_prg p1) h3 (by omega) (by omega)
    have h5 := f60_some (dd := 26 + 4 * (oo + 1)) p1 h1 (by omega) (by omega)
    have h6 : F9 g (26 + 4 * (oo + 1)) o n f x (oo + 1) (3 * (oo + 1) + 3 + 1) (some (factP f n x oo)) := fun M a M1 W e hR => (h4 M a M1 W e hR).post (fun v M' q => q.up (by omega)) (fun _ _ q => q)
    have h7 : F60 g (26 + 4 * (oo + 1)) o n f x (oo + 1) (3 * (oo + 1) + 3 + 1) (some (factP f n x oo)) := fun M a b M1 W e hR h3 => (h5 M a b M1 W e hR h3).post (fun v M' q => q.up (by omega)) (fun _ _ q => q)
    exact ct_fact (r := some (factP f n x oo)) (d := 23 + 4 * (oo + 1)) (D := 3 * (oo + 1) + 3) h6 h7 (fun it h => by cases h; exact p1) (ct_sums (oo := oo + 1)) (by omega) (by omega)
theorem ct_tests : CtT g yX2_test cX2_test 2 (28 + 4 * oo) 20 60 5200 5900 o n f x oo (3 * oo + 6) (testP f n (factP f n x oo)) := by
  have h1 := ct_facts (g := g) (o := o) (n := n) (f := f) (x := x) oo
  have p1 : prg n (factP f n x oo) := factP_prg oo
  have h2 := ct_X2_both p1 h1 (by omega)
  rw [← bothP_pt] at h2
  have h3 := ct_X2_test (bothP_prg p1) h2 (by omega)
  rw [← testP_pt] at h3
  have e1 : 26 + 4 * oo + 1 + 1 = 28 + 4 * oo := by omega
  rw [e1] at h3
  exact h3
end X78
