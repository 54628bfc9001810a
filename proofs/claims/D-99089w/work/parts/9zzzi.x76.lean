set_option maxRecDepth 100000
/-! THE READER: a fact: a sum, a sign, a sum -/
section X76
variable {g : GC} {M M4 : MM} {o n x oo a b p1 D d dd kc ks z1 : Nat} {f : Nat → Nat} {it : Nat → Rz} {cs1 : List Nat}
theorem than_mk {M6 M8 : MM} {pr z1 z2 lo lo2 op sg : Nat} {cs ds : List Nat} (hyA : VAL M6 o (fun c => lo ≤ c ∧ c < mZ M6 ∧ c ≠ pr) D z1 cs) (hV2 : VAL M6 o (fun c => lo2 ≤ c ∧ c < mZ M6) D z2 ds) (hK : mK M6 pr = 38) (hl : lo ≤ pr) (hp : pr < lo2) (hpz : pr < mZ M6) (hop : op = 7 ∨ op = 8 ∨ op = 9) (hsg : sg = sgT0 op) (e8 : M8 = sR (sI (sR M6 pr 0 (some z1)) pr 2 (nI sg)) pr 1 (some z2)) : TST M8 o (fun c => lo ≤ c ∧ c < mZ M8) (D + 1) pr (cs ++ (ds ++ [op])) ∧ FM (fun c => c = pr) M6 M8 := by
  have hS : ∀ c, c ≠ pr → Sm M6 M8 c := fun c hc => by rw [e8]; exact ((Sm.sR hc).trans (Sm.sI hc)).trans (Sm.sR hc)
  have hz : mZ M8 = mZ M6 := by rw [e8]; rfl
  refine ⟨Or.inr (Or.inr (Or.inl ⟨⟨hl, by omega⟩, by rw [e8]; exact hK, op, z1, z2, cs, ds, hop, ?_, ?_, ?_, ?_, ?_, rfl⟩)), by omega, fun c _ hc => hS c hc⟩
  · rw [e8, mR_sRj (by decide), mR_sI, mR_sRs]
  · rw [e8, mR_sRs]
  · rw [e8, mI_sR, mI_sIs, hsg]
  · exact VAL.fr (fun c hc => hS c hc.2.2) (fun c hc => ⟨hc.1, by omega⟩) D D z1 cs (Nat.le_refl _) hyA
  · exact VAL.fr (fun c hc => hS c (by omega)) (fun c hc => ⟨by omega, by omega⟩) D D z2 ds (Nat.le_refl _) hV2
/-- behind the sign -/
theorem fa_148 {op sg : Nat} (hpr : prg n (sumP f n it)) (hsum : CtV g yX2_sum cX2_sum d 30 30 400 400 o n f x oo D (sumP f n it)) (W4 : RWA g M4 o n f x oo p1) (hR4 : RO M o p1 M4) (hoz : o + 6 < mZ M) (hV : VAL M4 o (fun c => mZ M ≤ c ∧ c < mZ M4) D z1 cs1) (hp1 : p1 + 1 ≤ n) (hop : op = 7 ∨ op = 8 ∨ op = 9) (hsg : sg = sgT0 op) (hd : 20 ≤ d) (hdd : d + 1 ≤ dd) (hc : 1 + cst 60 30 30 n (p1 + 1) (sumP f n it (p1 + 1)) ≤ kc) (hs : 3 + cst 4000 400 400 n (p1 + 1) (sumP f n it (p1 + 1)) ≤ ks) :
    Bd g yX2_fact cX2_fact 3 (some (.object "Retouched$Test")) [] dd kc ks M4 148 [some (.ref (o + 5)), some (.ref z1), some (.int (nI sg))] [] (RTQ M o n f (D + 1) (thn (sumP f n it (p1 + 1)) (fun ds c => .ok (cs1 ++ (ds ++ [op]), c)))) (RVX M o (thn (sumP f n it (p1 + 1)) (fun ds c => .ok (cs1 ++ (ds ++ [op]), c)))) := by
  have hg := W4.rd.1
  have hgb := W4.rd.2.1
  have hz4 := hR4.1.1.1
  have r74 := W4.rd.2.2.2.2.2.2.2.1.1
  refine r_ald0 (pc := 148) dX2_fact_148 ?_
  refine r_dup (pc := 149) dX2_fact_149 rfl ?_
  refine r_getI' (pc := 150) dX2_fact_150 fl_X2_36 r74 W4.at ?_
  refine r_iconst (v := nI 1) (pc := 153) dX2_fact_153 (by decide) ?_
  first | refine r_iaddN (pc := 154) dX2_fact_154 ?_ | refine r_iaddJ (pc := 154) dX2_fact_154 ?_ | refine r_iadd (pc := 154) dX2_fact_154 ?_
  refine r_putI (pc := 155) (ty := .int) dX2_fact_155 fl_X2_36 ⟨rfl, rfl⟩ rfl rfl r74 (by omega) ?_
  have R5 : RO M4 o (p1 + 1) (sI M4 (o + 5) 2 (nI (p1 + 1))) := ⟨RFr.at (Nat.le_refl 2) (by decide), mI_sIs _ _ _ _, mI_sIj (by decide)⟩
  have z5 : mZ (sI M4 (o + 5) 2 (nI (p1 + 1))) = mZ M4 := rfl
  generalize sI M4 (o + 5) 2 (nI (p1 + 1)) = M5 at *
  refine r_new (pc := 158) (ci := 18) (kc' := kc - 1) (ks' := ks - 3) dX2_fact_158 q1156 q1157 q180 (by decide) (by omega) (by omega) ?_
  generalize hM6 : nw M5 (20 + 18) 0 = M6
  have m1 : mZ M6 = mZ M5 + 1 := by rw [← hM6]; rfl
  have m3 : mK M6 (mZ M5) = 38 := by rw [← hM6]; exact if_pos rfl
  have m4 : FM (fun _ => False) M5 M6 := by rw [← hM6]; exact FM.nw
  clear hM6
  have R6 : RO M4 o (p1 + 1) M6 := R5.more ⟨m4.1, fun c hc _ => m4.2 c hc (fun q => q)⟩ (by omega)
  have W6 := W4.to R6 hp1
  have r76 := W6.rd.2.2.2.2.2.2.2.1.1
  refine r_dup (pc := 161) dX2_fact_161 rfl ?_
  refine r_ald1 (pc := 162) dX2_fact_162 ?_
  refine r_ild2 (pc := 163) dX2_fact_163 ?_
  refine r_ald0 (pc := 164) dX2_fact_164 ?_
  refine r_cVx (ci := 2) (pc := 165) (kc' := 0) (ks' := 0) dX2_fact_165 cv_X2_165 r76 (hsum M6 _ W6) rfl rfl (Nat.le_of_ble_eq_true rfl) (by omega) (by omega) (by omega) (fun q M' hx => ?_) ?_
  · obtain ⟨kx, px, x1, x2⟩ := hx
    exact ⟨kx, px, by rw [x1]; rfl, XE.pre (hR4.1.trans R6.1) x2⟩
  rintro _ M7 ⟨y2, z2, hy2, rfl, hV2, hRO2⟩
  obtain ⟨u1, u2, -⟩ := hpr _ y2 hy2
  have hz7 := hRO2.1.1.1
  have s7 := hRO2.1.sm (c := mZ M5) (by omega) (by omega)
  have hV7 : VAL M7 o (fun c => mZ M ≤ c ∧ c < mZ M7 ∧ c ≠ mZ M5) D z1 cs1 := VAL.fr (fun c hc => (R6.1.trans hRO2.1).sm hc.2 (by omega)) (fun c hc => ⟨hc.1, by omega, by omega⟩) D D z1 cs1 (Nat.le_refl _) hV
  refine r_cI (pc := 168) dX2_fact_168 ci_X2_305 (ct_X18_init (M := M7) (a := mZ M5) hg (by omega) (s7.1.trans m3)) rfl rfl (Nat.le_of_ble_eq_true rfl) (by omega) ?_
  rintro _ M8 ⟨rfl, e8⟩
  obtain ⟨G1, G2⟩ := than_mk hV7 hV2 (s7.1.trans m3) (by omega) (by omega) (by omega) hop hsg e8
  have R8 : RO M o y2.2 M8 := ((hR4.trans R6).trans hRO2).more ⟨G2.1, fun c hc hn => G2.2 c hc (fun q => by omega)⟩ hoz
  refine r_aretR (pc := 171) dX2_fact_171 ?_
  exact ⟨(cs1 ++ (y2.1 ++ [op]), y2.2), mZ M5, y2.2, by rw [hy2]; rfl, rfl, G1, R8, u2, rfl⟩
/-- from the first sum on -/
theorem fa_110 (hsum : CtV g yX2_sum cX2_sum d 30 30 400 400 o n f x oo D (sumP f n (atomP f n x oo))) {M2 : MM} (W2 : RWA g M2 o n f x oo b) (hR2 : RO M o b M2) (hoz : o + 6 < mZ M) (hsk : skip f n b = skip f n a) (hab : a ≤ b) (hd : 20 ≤ d) (hdd : d + 1 ≤ dd) (hc : cst 60 0 40 n a (thanP f n (atomP f n x oo) a) - 6 = kc) (hs : cst 4000 0 5700 n a (thanP f n (atomP f n x oo) a) - 5128 = ks) :
    Bd g yX2_fact cX2_fact 3 (some (.object "Retouched$Test")) [] dd kc ks M2 110 [some (.ref (o + 5)), none, none] [] (RTQ M o n f (D + 1) (thanP f n (atomP f n x oo) a)) (RVX M o (thanP f n (atomP f n x oo) a)) := by
  have hbn := W2.le
  have hpr : prg n (sumP f n (atomP f n x oo)) := sumP_prg (atomP_prg oo)
  have r72 := W2.rd.2.2.2.2.2.2.2.1.1
  have hf := W2.rd.2.2.2.2.2.2.1.1
  have es : sumP f n (atomP f n x oo) b = sumP f n (atomP f n x oo) a := by rw [← sumP_sk b, hsk, sumP_sk]
  have hs1 := hsum M2 b W2
  rw [es] at hs1
  have hp1 : ∀ y, sumP f n (atomP f n x oo) a = .ok y → b < y.2 ∧ y.2 ≤ n := fun y hy => by
    have := hpr b y (es.trans hy)
    exact ⟨this.1, this.2.1⟩
  have eR : thanP f n (atomP f n x oo) a = thn (sumP f n (atomP f n x oo) a) (fun cs b => match sgT f n b with
      | none => .error (1, skip f n b)
      | some v => thn (sumP f n (atomP f n x oo) (skip f n b + 1)) (fun ds c => .ok (cs ++ (ds ++ [v]), c))) := rfl
  -- the costs
  have hR2p : ∀ y1 z, sumP f n (atomP f n x oo) a = .ok y1 → thanP f n (atomP f n x oo) a = .ok z → y1.2 + 2 ≤ z.2 := by
    intro y1 z h1 h2
    rw [eR, h1] at h2
    have h2 : (match sgT f n y1.2 with
      | none => .error (1, skip f n y1.2)
      | some v => thn (sumP f n (atomP f n x oo) (skip f n y1.2 + 1)) (fun ds c => .ok (y1.1 ++ (ds ++ [v]), c)) : Rz) = .ok z := h2
    cases hv : sgT f n y1.2 with
    | none => rw [hv] at h2; cases h2
    | some v =>
      rw [hv] at h2
      obtain ⟨y2, h3, h4⟩ := thn_ok h2
      cases h4
      have := (hpr _ y2 h3).1
      have := skip_ge f n y1.2
      show y1.2 + 2 ≤ y2.2
      omega
  have c1 : 6 + cst 60 30 30 n b (sumP f n (atomP f n x oo) a) ≤ cst 60 0 40 n a (thanP f n (atomP f n x oo) a) := by
    cases h1 : sumP f n (atomP f n x oo) a with
    | error e => rw [eR, h1]; show 6 + (60 * (n - b) + 30) ≤ 60 * (n - a) + 40; omega
    | ok y1 =>
      have q := hp1 y1 h1
      cases h2 : thanP f n (atomP f n x oo) a with
      | error e => rw [cst_ok, cst_er]; omega
      | ok z => have := hR2p y1 z h1 h2; rw [cst_ok, cst_ok]; omega
  have c2 : 5128 + cst 4000 400 400 n b (sumP f n (atomP f n x oo) a) ≤ cst 4000 0 5700 n a (thanP f n (atomP f n x oo) a) := by
    cases h1 : sumP f n (atomP f n x oo) a with
    | error e => rw [eR, h1]; show 5128 + (4000 * (n - b) + 400) ≤ 4000 * (n - a) + 5700; omega
    | ok y1 =>
      have q := hp1 y1 h1
      cases h2 : thanP f n (atomP f n x oo) a with
      | error e => rw [cst_ok, cst_er]; omega
      | ok z => have := hR2p y1 z h1 h2; rw [cst_ok, cst_ok]; omega
  have c3 : ∀ y1 v, sumP f n (atomP f n x oo) a = .ok y1 → sgT f n y1.2 = some v → skip f n y1.2 + 1 ≤ n → 6 + cst 60 30 30 n b (sumP f n (atomP f n x oo) a) + (1 + cst 60 30 30 n (skip f n y1.2 + 1) (sumP f n (atomP f n x oo) (skip f n y1.2 + 1))) ≤ cst 60 0 40 n a (thanP f n (atomP f n x oo) a) ∧ 5128 + cst 4000 400 400 n b (sumP f n (atomP f n x oo) a) + (3 + cst 4000 400 400 n (skip f n y1.2 + 1) (sumP f n (atomP f n x oo) (skip f n y1.2 + 1))) ≤ cst 4000 0 5700 n a (thanP f n (atomP f n x oo) a) := by
    intro y1 v h1 hv hsn
    have q := hp1 y1 h1
    have e2 : thanP f n (atomP f n x oo) a = thn (sumP f n (atomP f n x oo) (skip f n y1.2 + 1)) (fun ds c => .ok (y1.1 ++ (ds ++ [v]), c)) := by
      rw [eR, h1]
      show (match sgT f n y1.2 with
        | none => .error (1, skip f n y1.2)
        | some v => thn (sumP f n (atomP f n x oo) (skip f n y1.2 + 1)) (fun ds c => .ok (y1.1 ++ (ds ++ [v]), c)) : Rz) = _
      rw [hv]
    have hsg := skip_ge f n y1.2
    rw [e2, h1]
    cases h3 : sumP f n (atomP f n x oo) (skip f n y1.2 + 1) with
    | error e =>
      show 6 + (60 * (y1.2 - b - 1) + 30) + (1 + (60 * (n - (skip f n y1.2 + 1)) + 30)) ≤ 60 * (n - a) + 40 ∧ 5128 + (4000 * (y1.2 - b - 1) + 400) + (3 + (4000 * (n - (skip f n y1.2 + 1)) + 400)) ≤ 4000 * (n - a) + 5700
      omega
    | ok y2 =>
      have := (hpr _ y2 h3).1
      show 6 + (60 * (y1.2 - b - 1) + 30) + (1 + (60 * (y2.2 - (skip f n y1.2 + 1) - 1) + 30)) ≤ 60 * (y2.2 - a - 1) + 0 ∧ 5128 + (4000 * (y1.2 - b - 1) + 400) + (3 + (4000 * (y2.2 - (skip f n y1.2 + 1) - 1) + 400)) ≤ 4000 * (y2.2 - a - 1) + 0
      omega
  refine r_ald0 (pc := 110) dX2_fact_110 ?_
  refine r_cVx (ci := 2) (pc := 111) (kc' := kc - cst 60 30 30 n b (sumP f n (atomP f n x oo) a)) (ks' := ks - cst 4000 400 400 n b (sumP f n (atomP f n x oo) a)) dX2_fact_111 cv_X2_165 r72 hs1 rfl rfl (Nat.le_of_ble_eq_true rfl) (by omega) (by omega) (by omega) (fun q M' hx => ?_) ?_
  · obtain ⟨kx, px, x1, x2⟩ := hx
    exact ⟨kx, px, by rw [eR, x1]; rfl, XE.pre hR2.1 x2⟩
  rintro _ M3 ⟨y1, z1, hy, rfl, hV, hRO⟩
  obtain ⟨w1, w2⟩ := hp1 y1 hy
  have W3 := W2.to hRO w2
  have r73 := W3.rd.2.2.2.2.2.2.2.1.1
  have hs3 := skip_le (f := f) w2
  have hz2 := hR2.1.1.1
  have eR2 : thanP f n (atomP f n x oo) a = (match sgT f n y1.2 with | none => .error (1, skip f n y1.2) | some v => thn (sumP f n (atomP f n x oo) (skip f n y1.2 + 1)) (fun ds c => .ok (y1.1 ++ (ds ++ [v]), c)) : Rz) := by rw [eR, hy]; rfl
  refine r_ast1 (pc := 114) dX2_fact_114 ?_
  refine r_ald0 (pc := 115) dX2_fact_115 ?_
  refine r_cV (ci := 2) (pc := 116) dX2_fact_116 cv_X2_43 r73 (ct_X2_here W3.rd w2 W3.at) rfl rfl (Nat.le_of_ble_eq_true rfl) (by omega) ?_
  rintro _ M4 ⟨rfl, k4⟩
  have W4 := W3.to k4 hs3
  have r74 := W4.rd.2.2.2.2.2.2.2.1.1
  have hV4 : VAL M4 o (fun c => mZ M ≤ c ∧ c < mZ M4) D z1 y1.1 := hV.rd k4.1 (by omega) (by omega) (Nat.le_refl _)
  have hk4 : RO M o (skip f n y1.2) M4 := (hR2.trans hRO).trans k4
  have go : ∀ sg op, (op = 7 ∨ op = 8 ∨ op = 9) → sg = sgT0 op → sgT f n y1.2 = some op → skip f n y1.2 + 1 ≤ n → Bd g yX2_fact cX2_fact 3 (some (.object "Retouched$Test")) [] dd (kc - cst 60 30 30 n b (sumP f n (atomP f n x oo) a)) (ks - cst 4000 400 400 n b (sumP f n (atomP f n x oo) a)) M4 148 [some (.ref (o + 5)), some (.ref z1), some (.int (nI sg))] [] (RTQ M o n f (D + 1) (thanP f n (atomP f n x oo) a)) (RVX M o (thanP f n (atomP f n x oo) a)) := by
    intro sg op hop hsg hv hsn
    have c4 := c3 y1 op hy hv hsn
    rw [hv] at eR2
    rw [eR2]
    rw [eR2] at c4 hc hs
    exact fa_148 hpr hsum W4 hk4 hoz hV4 hsn hop hsg hd hdd (by omega) (by omega)
  have look : ∀ s, s < 256 → (bI f n (skip f n y1.2) = nI s ↔ lookO f n y1.2 = some s) := fun s hs => bI_look hs hf
  refine r_ist2 (pc := 119) dX2_fact_119 ?_
  refine r_ild2 (pc := 120) dX2_fact_120 ?_
  refine r_bipush (v := nI 60) (pc := 121) dX2_fact_121 (by decide) ?_
  refine r_icmp_eq (pc := 123) (tgt := 148) dX2_fact_123 (by decide) (fun h123 => ?_) (fun h123 => ?_)
  · skip
    rw [h123]
    have e9 := (look 60 (by decide)).1 h123
    first | exact go 60 7 (Or.inl rfl) rfl (if_pos e9) (by have := (lookO_some e9).1; omega) | exact go 62 8 (Or.inr (Or.inl rfl)) rfl (by unfold sgT; rw [e9]; rfl) (by have := (lookO_some e9).1; omega) | exact go 61 9 (Or.inr (Or.inr rfl)) rfl (by unfold sgT; rw [e9]; rfl) (by have := (lookO_some e9).1; omega)
  · skip
    refine r_ild2 (pc := 126) dX2_fact_126 ?_
    refine r_bipush (v := nI 62) (pc := 127) dX2_fact_127 (by decide) ?_
    refine r_icmp_eq (pc := 129) (tgt := 148) dX2_fact_129 (by decide) (fun h129 => ?_) (fun h129 => ?_)
    · skip
      rw [h129]
      have e9 := (look 62 (by decide)).1 h129
      first | exact go 60 7 (Or.inl rfl) rfl (if_pos e9) (by have := (lookO_some e9).1; omega) | exact go 62 8 (Or.inr (Or.inl rfl)) rfl (by unfold sgT; rw [e9]; rfl) (by have := (lookO_some e9).1; omega) | exact go 61 9 (Or.inr (Or.inr rfl)) rfl (by unfold sgT; rw [e9]; rfl) (by have := (lookO_some e9).1; omega)
    · skip
      refine r_ild2 (pc := 132) dX2_fact_132 ?_
      refine r_bipush (v := nI 61) (pc := 133) dX2_fact_133 (by decide) ?_
      refine r_icmp_eq (pc := 135) (tgt := 148) dX2_fact_135 (by decide) (fun h135 => ?_) (fun h135 => ?_)
      · skip
        rw [h135]
        have e9 := (look 61 (by decide)).1 h135
        first | exact go 60 7 (Or.inl rfl) rfl (if_pos e9) (by have := (lookO_some e9).1; omega) | exact go 62 8 (Or.inr (Or.inl rfl)) rfl (by unfold sgT; rw [e9]; rfl) (by have := (lookO_some e9).1; omega) | exact go 61 9 (Or.inr (Or.inr rfl)) rfl (by unfold sgT; rw [e9]; rfl) (by have := (lookO_some e9).1; omega)
      · skip
        refine r_ald0 (pc := 138) dX2_fact_138 ?_
        refine r_iconst (v := nI 1) (pc := 139) dX2_fact_139 (by decide) ?_
        refine r_ald0 (pc := 140) dX2_fact_140 ?_
        refine r_getI' (pc := 141) dX2_fact_141 fl_X2_36 r74 W4.at ?_
        refine r_cV (ci := 2) (pc := 144) dX2_fact_144 cv_X2_47 r74 (ct_X2_wrong (k := 1) W4.rd) rfl rfl (Nat.le_of_ble_eq_true rfl) (by omega) ?_
        rintro _ M9 ⟨rfl, e9⟩
        rw [e9]
        refine r_athrow (pc := 147) dX2_fact_147 W4.rd.2.2.2.2.2.2.2.2.1 ⟨1, skip f n y1.2, ?_, XE.fl hk4.1⟩
        rw [eR2]
        have e7 : sgT f n y1.2 = none := by
          unfold sgT
          rw [if_neg (fun q => h123 ((look 60 (by decide)).2 q)), if_neg (fun q => h129 ((look 62 (by decide)).2 q)), if_neg (fun q => h135 ((look 61 (by decide)).2 q))]
        rw [e7]
end X76
