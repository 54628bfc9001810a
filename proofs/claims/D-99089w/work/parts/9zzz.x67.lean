set_option maxRecDepth 100000
/-! THE READER: two sums within brackets -/
section X67
variable {g : GC} {M : MM} {o n x oo a D d : Nat} {f : Nat → Nat} {it : Nat → Rz}
/-- in brackets: two sums, the less or the greater of them -/
theorem ct_within_1 (hpr : prg n (sumP f n it)) (hsum : CtV g yX2_sum cX2_sum d 30 30 400 400 o n f x oo D (sumP f n it)) (W : RWA g M o n f x (oo + 1) a) (e : lookO f n a = some 40) (hd : 20 ≤ d) : Ct g yX2_within cX2_within 4 (some (.object "Retouched$Value")) (d + 1) (cst 60 0 0 n a (thn (sumP f n it (skip f n a + 1)) (fun cs c => secP f n it 0 cs (sgP f n 44 c)))) (cst 4000 0 0 n a (thn (sumP f n it (skip f n a + 1)) (fun cs c => secP f n it 0 cs (sgP f n 44 c)))) [.ref (o + 5), .int (nI 1)] M (RVQ M o (D + 1) (thn (sumP f n it (skip f n a + 1)) (fun cs c => secP f n it 0 cs (sgP f n 44 c)))) (RVX M o (thn (sumP f n it (skip f n a + 1)) (fun cs c => secP f n it 0 cs (sgP f n 44 c)))) := by
  have hrd := W.rd
  have ho := hrd.oz
  have hg := hrd.1
  have hgb := hrd.2.1
  have r7 := hrd.2.2.2.2.2.2.2.1.1
  have hf := hrd.2.2.2.2.2.2.1.1
  have ho6 := W.2.2.2.2.1
  have hct := ct_X2_here hrd W.le W.at
  rw [(bI_look (by decide) hf).2 e] at hct
  have hsp : a < skip f n a + 1 := by have := skip_ge f n a; omega
  have hsn : skip f n a + 1 ≤ n := by have := (lookO_some e).1; omega
  have hq := fun y hy => hpr (skip f n a + 1) y hy
  have hL2 : ∀ (d0 : Nat) (cs : List Nat) (y z : List Nat × Nat), sumP f n it d0 = .ok y → (fun ds b => fin (cs ++ (ds ++ [5 + 0])) (sgP f n 41 b)) y.1 y.2 = .ok z → y.2 ≤ z.2 := fun d0 cs y z hy hz => by
    obtain ⟨b, hb, rfl⟩ := fin_ok hz
    exact Nat.le_of_lt (sgP_ok hb).1
  have hL : ∀ (y z : List Nat × Nat), sumP f n it (skip f n a + 1) = .ok y → (fun cs c => secP f n it 0 cs (sgP f n 44 c)) y.1 y.2 = .ok z → y.2 ≤ z.2 := fun y z hy hz => by
    have hz : secP f n it 0 y.1 (sgP f n 44 y.2) = .ok z := hz
    cases hb : sgP f n 44 y.2 with
    | error e0 => rw [hb] at hz; cases hz
    | ok d0 =>
      rw [hb] at hz
      have hz : thn (sumP f n it d0) (fun ds b => fin (y.1 ++ (ds ++ [5 + 0])) (sgP f n 41 b)) = .ok z := hz
      obtain ⟨y', h1, h2⟩ := thn_ok hz
      have := hL2 d0 y.1 y' z h1 h2
      have := (hpr d0 y' h1).1
      have := (sgP_ok hb).1
      omega
  obtain ⟨c1, c2⟩ := wic (L := fun cs c => secP f n it 0 cs (sgP f n 44 c)) (K := 60) (t := 30) (F := 30) (s := 3) hsp hsn (fun y hy => ⟨(hq y hy).1, (hq y hy).2.1⟩) hL (by decide) (by decide)
  obtain ⟨c3, c4⟩ := wic (L := fun cs c => secP f n it 0 cs (sgP f n 44 c)) (K := 4000) (t := 400) (F := 400) (s := 3) hsp hsn (fun y hy => ⟨(hq y hy).1, (hq y hy).2.1⟩) hL (by decide) (by decide)
  generalize hkc : cst 60 0 0 n a (thn (sumP f n it (skip f n a + 1)) (fun cs c => secP f n it 0 cs (sgP f n 44 c))) = kc at *
  generalize hks : cst 4000 0 0 n a (thn (sumP f n it (skip f n a + 1)) (fun cs c => secP f n it 0 cs (sgP f n 44 c))) = ks at *
  refine Ct.of (by decide) (Nat.le_of_ble_eq_true rfl) rfl ?_
  refine r_ald0 (pc := 0) dX2_within_0 ?_
  refine r_cV (ci := 2) (pc := 1) dX2_within_1 cv_X2_43 r7 hct rfl rfl (Nat.le_of_ble_eq_true rfl) (by omega) ?_
  rintro _ M1 ⟨rfl, k1, k2, k3⟩
  have hR1 := hrd.fr k1
  have r71 := hR1.2.2.2.2.2.2.2.1.1
  refine r_bipush (v := nI 40) (pc := 4) dX2_within_4 (by decide) ?_
  first | refine r_icmp_eqN (pc := 6) (tgt := 19) dX2_within_6 (by decide) (by omega) (by omega) (fun h6 => ?_) (fun h6 => ?_) | refine r_icmp_eq (pc := 6) (tgt := 19) dX2_within_6 (by decide) (fun h6 => ?_) (fun h6 => ?_)
  · skip
    refine r_ald0 (pc := 19) dX2_within_19 ?_
    refine r_ald0 (pc := 20) dX2_within_20 ?_
    refine r_getI' (pc := 21) dX2_within_21 fl_X2_36 r71 k2 ?_
    refine r_cVx (ci := 2) (pc := 24) (kc' := kc) (ks' := ks) dX2_within_24 cv_X2_231 r71 (ct_X2_opens (k := 6 - (oo + 1)) hR1 (k3.trans W.2.2.2.1) (by omega)) rfl rfl (Nat.le_of_ble_eq_true rfl) (by omega) (by omega) (by omega) (fun q M' hx => absurd hx.1 (by omega)) ?_
    rintro _ M9 ⟨rfl, -, e9⟩
    rw [e9]
    have r79 : mK (sI M1 (o + 5) 4 (nI (6 - (oo + 1) + 1))) (o + 5) = 22 := r71
    have k29 : mI (sI M1 (o + 5) 4 (nI (6 - (oo + 1) + 1))) (o + 5) 2 = nI (skip f n a) := (mI_sIj (by decide)).trans k2
    refine r_ald0 (pc := 27) dX2_within_27 ?_
    refine r_dup (pc := 28) dX2_within_28 rfl ?_
    refine r_getI' (pc := 29) dX2_within_29 fl_X2_36 r79 k29 ?_
    refine r_iconst (v := nI 1) (pc := 32) dX2_within_32 (by decide) ?_
    first | refine r_iaddN (pc := 33) dX2_within_33 ?_ | refine r_iaddJ (pc := 33) dX2_within_33 ?_ | refine r_iadd (pc := 33) dX2_within_33 ?_
    refine r_putI (pc := 34) (ty := .int) dX2_within_34 fl_X2_36 ⟨rfl, rfl⟩ rfl rfl r79 (by omega) ?_
    generalize hM2 : sI (sI M1 (o + 5) 4 (nI (6 - (oo + 1) + 1))) (o + 5) 2 (nI (skip f n a + 1)) = M2
    obtain ⟨W2, f2, m2⟩ := W.opn ⟨k1, k2, k3⟩ (Or.inl e) hM2
    clear hM2 e9 r79 k29
    have r72 := W2.rd.2.2.2.2.2.2.2.1.1
    have hz2 := f2.1.1
    refine r_ald0 (pc := 37) dX2_within_37 ?_
    refine r_cVx (ci := 2) (pc := 38) (kc' := kc - cst 60 30 30 n (skip f n a + 1) (sumP f n it (skip f n a + 1))) (ks' := ks - cst 4000 400 400 n (skip f n a + 1) (sumP f n it (skip f n a + 1))) dX2_within_38 cv_X2_165 r72 (hsum M2 _ W2) rfl rfl (Nat.le_of_ble_eq_true rfl) (by omega) (by omega) (by omega) (fun q M' hx => ?_) ?_
    · obtain ⟨kx, px, x1, x2⟩ := hx
      exact ⟨kx, px, by rw [x1]; rfl, XE.pre f2 x2⟩
    rintro _ M3 ⟨y1, z1, hy, rfl, hV, hRO⟩
    obtain ⟨w1, w2, -⟩ := hq y1 hy
    have b1 := c2 y1 hy
    have b2 := c4 y1 hy
    have W3 := W2.to hRO w2
    have r73 := W3.rd.2.2.2.2.2.2.2.1.1
    refine r_ast2 (pc := 41) dX2_within_41 ?_
    refine r_ald2 (pc := 42) dX2_within_42 ?_
    refine r_ast3 (pc := 43) dX2_within_43 ?_
    refine r_ild1 (pc := 44) dX2_within_44 ?_
    first | refine r_if_leN (pc := 45) (tgt := 77) dX2_within_45 (by decide) (by omega) (fun h45 => ?_) (fun h45 => ?_) | refine r_if_le (pc := 45) (tgt := 77) dX2_within_45 (by decide) (fun h45 => ?_) (fun h45 => ?_)
    · skip
      exact absurd h45 (by omega)
    · skip
      refine r_ald0 (pc := 48) dX2_within_48 ?_
      refine r_bipush (v := nI 44) (pc := 49) dX2_within_49 (by decide) ?_
      refine r_cVx (ci := 2) (pc := 51) (kc' := kc - cst 60 30 30 n (skip f n a + 1) (sumP f n it (skip f n a + 1))) (ks' := ks - cst 4000 400 400 n (skip f n a + 1) (sumP f n it (skip f n a + 1))) dX2_within_51 cv_X2_121 r73 (ct_X2_must (c := 44) W3.rd w2 W3.at (by decide)) rfl rfl (Nat.le_of_ble_eq_true rfl) (by omega) (by omega) (by omega) (fun q M' hx => ?_) ?_
      · obtain ⟨kx, px, x1, x2⟩ := hx
        exact ⟨kx, px, by rw [hy]; show secP f n it 0 y1.1 (sgP f n 44 y1.2) = _; rw [x1]; rfl, XE.pre (f2.trans hRO.1) x2⟩
      rintro _ M4 ⟨rfl, d0, hd0, hR4⟩
      have s4 := sgP_ok hd0
      have W4 := W3.to hR4 s4.2.1
      have e5 : secP f n it 0 y1.1 (sgP f n 44 y1.2) = thn (sumP f n it d0) (fun ds b => fin (y1.1 ++ (ds ++ [5 + 0])) (sgP f n 41 b)) := by rw [hd0]; rfl
      have e6 : thn (sumP f n it (skip f n a + 1)) (fun cs c => secP f n it 0 cs (sgP f n 44 c)) = thn (sumP f n it d0) (fun ds b => fin (y1.1 ++ (ds ++ [5 + 0])) (sgP f n 41 b)) := by rw [hy]; exact e5
      rw [e6]
      rw [e5] at b1 b2
      have hq2 := fun y hy => hpr d0 y hy
      obtain ⟨i1, i2⟩ := itc (L := fun ds b => fin (y1.1 ++ (ds ++ [5 + 0])) (sgP f n 41 b)) (K := 60) (t := 30) (F := 30) (F' := 0) (s := 0) s4.1 s4.2.1 (fun y hy => ⟨(hq2 y hy).1, (hq2 y hy).2.1⟩) (hL2 d0 y1.1) (by decide) (by decide)
      obtain ⟨i3, i4⟩ := itc (L := fun ds b => fin (y1.1 ++ (ds ++ [5 + 0])) (sgP f n 41 b)) (K := 4000) (t := 400) (F := 400) (F' := 0) (s := 0) s4.1 s4.2.1 (fun y hy => ⟨(hq2 y hy).1, (hq2 y hy).2.1⟩) (hL2 d0 y1.1) (by decide) (by decide)
      clear i2 i4 c1 c2 c3 c4
      generalize hk1 : kc - cst 60 30 30 n (skip f n a + 1) (sumP f n it (skip f n a + 1)) = kc1
      generalize hk2 : ks - cst 4000 400 400 n (skip f n a + 1) (sumP f n it (skip f n a + 1)) = ks1
      have j1 : 3 + cst 60 30 30 n d0 (sumP f n it d0) ≤ kc1 := by omega
      have j2 : 3 + cst 4000 400 400 n d0 (sumP f n it d0) ≤ ks1 := by omega
      clear hk1 hk2 b1 b2 i1 i3
      refine r_new (pc := 54) (ci := 10) (kc' := kc1 - 1) (ks' := ks1 - 3) dX2_within_54 q972 q973 q172 (by decide) (by omega) (by omega) ?_
      generalize hM5 : nw M4 (20 + 10) 0 = M5
      have m1 : mZ M5 = mZ M4 + 1 := by rw [← hM5]; rfl
      have m3 : mK M5 (mZ M4) = 30 := by rw [← hM5]; exact if_pos rfl
      have m4 : FM (fun _ => False) M4 M5 := by rw [← hM5]; exact FM.nw
      clear hM5
      have hz3 := hRO.1.1.1
      have hz4 := hR4.1.1.1
      have R5 : RO M4 o d0 M5 := (RO.rf W4.at).more ⟨m4.1, fun c hc _ => m4.2 c hc (fun q => q)⟩ (by omega)
      have W5 := W4.to R5 s4.2.1
      have r75 := W5.rd.2.2.2.2.2.2.2.1.1
      refine r_dup (pc := 57) dX2_within_57 rfl ?_
      refine r_ild1 (pc := 58) dX2_within_58 ?_
      refine r_iconst (v := nI 2) (pc := 59) dX2_within_59 (by decide) ?_
      first | refine r_icmp_neN (pc := 60) (tgt := 67) dX2_within_60 (by decide) (by omega) (by omega) (fun hvv => ?_) (fun hvv => ?_) | refine r_icmp_ne (pc := 60) (tgt := 67) dX2_within_60 (by decide) (fun hvv => ?_) (fun hvv => ?_)
      · skip
        refine r_iconst (v := nI 0) (pc := 67) dX2_within_67 (by decide) ?_
        refine r_ald2 (pc := 68) dX2_within_68 ?_
        refine r_ald0 (pc := 69) dX2_within_69 ?_
        refine r_cVx (ci := 2) (pc := 70) (kc' := 0) (ks' := 0) dX2_within_70 cv_X2_165 r75 (hsum M5 _ W5) rfl rfl (Nat.le_of_ble_eq_true rfl) (by omega) (by omega) (by omega) (fun q M' hx => ?_) ?_
        · obtain ⟨kx, px, x1, x2⟩ := hx
          exact ⟨kx, px, by rw [x1]; rfl, XE.pre (((f2.trans hRO.1).trans hR4.1).trans R5.1) x2⟩
        rintro _ M6 ⟨y2, z2, hy2, rfl, hV2, hRO2⟩
        obtain ⟨u1, u2, -⟩ := hq2 y2 hy2
        have W6 := W5.to hRO2 u2
        have hz6 := hRO2.1.1.1
        have s6 := hRO2.1.sm (c := mZ M4) (by omega) (by omega)
        refine r_cI (pc := 73) dX2_within_73 ci_X2_236 (ct_X10_init (M := M6) (a := mZ M4) hg (by omega) (s6.1.trans m3) (by exact ⟨rfl, rfl⟩)) rfl rfl (Nat.le_of_ble_eq_true rfl) (by omega) ?_
        rintro _ M8 ⟨rfl, e8⟩
        have hV6 : VAL M6 o (fun c => mZ M2 ≤ c ∧ c < mZ M6 ∧ c ≠ mZ M4) D z1 y1.1 := VAL.fr (fun c hc => ((hR4.1.trans R5.1).trans hRO2.1).sm hc.2 (by omega)) (fun c hc => ⟨hc.1, by omega, by omega⟩) D D z1 y1.1 (Nat.le_refl _) hV
        obtain ⟨G1, G2⟩ := pair_mk (zz := false) hV6 hV2 (s6.1.trans m3) (by omega) (by omega) (by omega) (by decide) e8
        have R8 : RO M3 o y2.2 M8 := ((hR4.trans R5).trans hRO2).more ⟨G2.1, fun c hc hn => G2.2 c hc (fun q => by omega)⟩ (by omega)
        have W8 := W3.to R8 u2
        have r78 := W8.rd.2.2.2.2.2.2.2.1.1
        clear e8
        refine r_ast3 (pc := 76) dX2_within_76 ?_
        refine r_ald0 (pc := 77) dX2_within_77 ?_
        refine r_bipush (v := nI 41) (pc := 78) dX2_within_78 (by decide) ?_
        refine r_cVx (ci := 2) (pc := 80) (kc' := 0) (ks' := 0) dX2_within_80 cv_X2_121 r78 (ct_X2_must (c := 41) W8.rd u2 W8.at (by decide)) rfl rfl (Nat.le_of_ble_eq_true rfl) (by omega) (by omega) (by omega) (fun q M' hx => ?_) ?_
        · obtain ⟨kx, px, x1, x2⟩ := hx
          exact ⟨kx, px, by rw [hy2]; show fin _ (sgP f n 41 y2.2) = _; rw [x1]; rfl, XE.pre ((f2.trans hRO.1).trans R8.1) x2⟩
        rintro _ M10 ⟨rfl, b, hb, hR10⟩
        have W10 := W8.to hR10 (sgP_ok hb).2.1
        have r710 := W10.rd.2.2.2.2.2.2.2.1.1
        refine r_ald0 (pc := 83) dX2_within_83 ?_
        refine r_dup (pc := 84) dX2_within_84 rfl ?_
        refine r_getI' (pc := 85) dX2_within_85 fl_X2_113 r710 W10.2.2.2.1 ?_
        refine r_iconst (v := nI 1) (pc := 88) dX2_within_88 (by decide) ?_
        refine r_isubN (pc := 89) dX2_within_89 (by omega) ?_
        refine r_putI (pc := 90) (ty := .int) dX2_within_90 fl_X2_113 ⟨rfl, rfl⟩ rfl rfl r710 (by omega) ?_
        generalize hM11 : sI M10 (o + 5) 4 (nI (6 - oo - 1)) = M11
        obtain ⟨g1, g2⟩ := W.close f2 ((hRO.trans R8).trans hR10) W10.2.2.2.1 hM11
        refine r_ald3 (pc := 93) dX2_within_93 ?_
        refine r_aretR (pc := 94) dX2_within_94 ?_
        refine ⟨(y1.1 ++ (y2.1 ++ [5 + 0]), b), mZ M4, by rw [hy2]; show fin _ (sgP f n 41 y2.2) = _; rw [hb]; rfl, rfl, ?_, g1⟩
        have G3 : VAL M8 o (fun c => mZ M2 ≤ c ∧ c < mZ M8) (D + 1) (mZ M4) (y1.1 ++ (y2.1 ++ [5 + 0])) := by
          have e0 : 5 + 0 = if false = true then 6 else 5 := by decide
          rw [e0]; exact G1
        exact G3.rd (hR10.1.trans g2) (by omega) (by omega) (Nat.le_refl _)
      · skip
        exact absurd hvv (by omega)
  · skip
    exact absurd rfl h6
/-- in brackets: two sums, the less or the greater of them -/
theorem ct_within_2 (hpr : prg n (sumP f n it)) (hsum : CtV g yX2_sum cX2_sum d 30 30 400 400 o n f x oo D (sumP f n it)) (W : RWA g M o n f x (oo + 1) a) (e : lookO f n a = some 40) (hd : 20 ≤ d) : Ct g yX2_within cX2_within 4 (some (.object "Retouched$Value")) (d + 1) (cst 60 0 0 n a (thn (sumP f n it (skip f n a + 1)) (fun cs c => secP f n it 1 cs (sgP f n 44 c)))) (cst 4000 0 0 n a (thn (sumP f n it (skip f n a + 1)) (fun cs c => secP f n it 1 cs (sgP f n 44 c)))) [.ref (o + 5), .int (nI 2)] M (RVQ M o (D + 1) (thn (sumP f n it (skip f n a + 1)) (fun cs c => secP f n it 1 cs (sgP f n 44 c)))) (RVX M o (thn (sumP f n it (skip f n a + 1)) (fun cs c => secP f n it 1 cs (sgP f n 44 c)))) := by
  have hrd := W.rd
  have ho := hrd.oz
  have hg := hrd.1
  have hgb := hrd.2.1
  have r7 := hrd.2.2.2.2.2.2.2.1.1
  have hf := hrd.2.2.2.2.2.2.1.1
  have ho6 := W.2.2.2.2.1
  have hct := ct_X2_here hrd W.le W.at
  rw [(bI_look (by decide) hf).2 e] at hct
  have hsp : a < skip f n a + 1 := by have := skip_ge f n a; omega
  have hsn : skip f n a + 1 ≤ n := by have := (lookO_some e).1; omega
  have hq := fun y hy => hpr (skip f n a + 1) y hy
  have hL2 : ∀ (d0 : Nat) (cs : List Nat) (y z : List Nat × Nat), sumP f n it d0 = .ok y → (fun ds b => fin (cs ++ (ds ++ [5 + 1])) (sgP f n 41 b)) y.1 y.2 = .ok z → y.2 ≤ z.2 := fun d0 cs y z hy hz => by
    obtain ⟨b, hb, rfl⟩ := fin_ok hz
    exact Nat.le_of_lt (sgP_ok hb).1
  have hL : ∀ (y z : List Nat × Nat), sumP f n it (skip f n a + 1) = .ok y → (fun cs c => secP f n it 1 cs (sgP f n 44 c)) y.1 y.2 = .ok z → y.2 ≤ z.2 := fun y z hy hz => by
    have hz : secP f n it 1 y.1 (sgP f n 44 y.2) = .ok z := hz
    cases hb : sgP f n 44 y.2 with
    | error e0 => rw [hb] at hz; cases hz
    | ok d0 =>
      rw [hb] at hz
      have hz : thn (sumP f n it d0) (fun ds b => fin (y.1 ++ (ds ++ [5 + 1])) (sgP f n 41 b)) = .ok z := hz
      obtain ⟨y', h1, h2⟩ := thn_ok hz
      have := hL2 d0 y.1 y' z h1 h2
      have := (hpr d0 y' h1).1
      have := (sgP_ok hb).1
      omega
  obtain ⟨c1, c2⟩ := wic (L := fun cs c => secP f n it 1 cs (sgP f n 44 c)) (K := 60) (t := 30) (F := 30) (s := 3) hsp hsn (fun y hy => ⟨(hq y hy).1, (hq y hy).2.1⟩) hL (by decide) (by decide)
  obtain ⟨c3, c4⟩ := wic (L := fun cs c => secP f n it 1 cs (sgP f n 44 c)) (K := 4000) (t := 400) (F := 400) (s := 3) hsp hsn (fun y hy => ⟨(hq y hy).1, (hq y hy).2.1⟩) hL (by decide) (by decide)
  generalize hkc : cst 60 0 0 n a (thn (sumP f n it (skip f n a + 1)) (fun cs c => secP f n it 1 cs (sgP f n 44 c))) = kc at *
  generalize hks : cst 4000 0 0 n a (thn (sumP f n it (skip f n a + 1)) (fun cs c => secP f n it 1 cs (sgP f n 44 c))) = ks at *
  refine Ct.of (by decide) (Nat.le_of_ble_eq_true rfl) rfl ?_
  refine r_ald0 (pc := 0) dX2_within_0 ?_
  refine r_cV (ci := 2) (pc := 1) dX2_within_1 cv_X2_43 r7 hct rfl rfl (Nat.le_of_ble_eq_true rfl) (by omega) ?_
  rintro _ M1 ⟨rfl, k1, k2, k3⟩
  have hR1 := hrd.fr k1
  have r71 := hR1.2.2.2.2.2.2.2.1.1
  refine r_bipush (v := nI 40) (pc := 4) dX2_within_4 (by decide) ?_
  first | refine r_icmp_eqN (pc := 6) (tgt := 19) dX2_within_6 (by decide) (by omega) (by omega) (fun h6 => ?_) (fun h6 => ?_) | refine r_icmp_eq (pc := 6) (tgt := 19) dX2_within_6 (by decide) (fun h6 => ?_) (fun h6 => ?_)
  · skip
    refine r_ald0 (pc := 19) dX2_within_19 ?_
    refine r_ald0 (pc := 20) dX2_within_20 ?_
    refine r_getI' (pc := 21) dX2_within_21 fl_X2_36 r71 k2 ?_
    refine r_cVx (ci := 2) (pc := 24) (kc' := kc) (ks' := ks) dX2_within_24 cv_X2_231 r71 (ct_X2_opens (k := 6 - (oo + 1)) hR1 (k3.trans W.2.2.2.1) (by omega)) rfl rfl (Nat.le_of_ble_eq_true rfl) (by omega) (by omega) (by omega) (fun q M' hx => absurd hx.1 (by omega)) ?_
    rintro _ M9 ⟨rfl, -, e9⟩
    rw [e9]
    have r79 : mK (sI M1 (o + 5) 4 (nI (6 - (oo + 1) + 1))) (o + 5) = 22 := r71
    have k29 : mI (sI M1 (o + 5) 4 (nI (6 - (oo + 1) + 1))) (o + 5) 2 = nI (skip f n a) := (mI_sIj (by decide)).trans k2
    refine r_ald0 (pc := 27) dX2_within_27 ?_
    refine r_dup (pc := 28) dX2_within_28 rfl ?_
    refine r_getI' (pc := 29) dX2_within_29 fl_X2_36 r79 k29 ?_
    refine r_iconst (v := nI 1) (pc := 32) dX2_within_32 (by decide) ?_
    first | refine r_iaddN (pc := 33) dX2_within_33 ?_ | refine r_iaddJ (pc := 33) dX2_within_33 ?_ | refine r_iadd (pc := 33) dX2_within_33 ?_
    refine r_putI (pc := 34) (ty := .int) dX2_within_34 fl_X2_36 ⟨rfl, rfl⟩ rfl rfl r79 (by omega) ?_
    generalize hM2 : sI (sI M1 (o + 5) 4 (nI (6 - (oo + 1) + 1))) (o + 5) 2 (nI (skip f n a + 1)) = M2
    obtain ⟨W2, f2, m2⟩ := W.opn ⟨k1, k2, k3⟩ (Or.inl e) hM2
    clear hM2 e9 r79 k29
    have r72 := W2.rd.2.2.2.2.2.2.2.1.1
    have hz2 := f2.1.1
    refine r_ald0 (pc := 37) dX2_within_37 ?_
    refine r_cVx (ci := 2) (pc := 38) (kc' := kc - cst 60 30 30 n (skip f n a + 1) (sumP f n it (skip f n a + 1))) (ks' := ks - cst 4000 400 400 n (skip f n a + 1) (sumP f n it (skip f n a + 1))) dX2_within_38 cv_X2_165 r72 (hsum M2 _ W2) rfl rfl (Nat.le_of_ble_eq_true rfl) (by omega) (by omega) (by omega) (fun q M' hx => ?_) ?_
    · obtain ⟨kx, px, x1, x2⟩ := hx
      exact ⟨kx, px, by rw [x1]; rfl, XE.pre f2 x2⟩
    rintro _ M3 ⟨y1, z1, hy, rfl, hV, hRO⟩
    obtain ⟨w1, w2, -⟩ := hq y1 hy
    have b1 := c2 y1 hy
    have b2 := c4 y1 hy
    have W3 := W2.to hRO w2
    have r73 := W3.rd.2.2.2.2.2.2.2.1.1
    refine r_ast2 (pc := 41) dX2_within_41 ?_
    refine r_ald2 (pc := 42) dX2_within_42 ?_
    refine r_ast3 (pc := 43) dX2_within_43 ?_
    refine r_ild1 (pc := 44) dX2_within_44 ?_
    first | refine r_if_leN (pc := 45) (tgt := 77) dX2_within_45 (by decide) (by omega) (fun h45 => ?_) (fun h45 => ?_) | refine r_if_le (pc := 45) (tgt := 77) dX2_within_45 (by decide) (fun h45 => ?_) (fun h45 => ?_)
    · skip
      exact absurd h45 (by omega)
    · skip
      refine r_ald0 (pc := 48) dX2_within_48 ?_
      refine r_bipush (v := nI 44) (pc := 49) dX2_within_49 (by decide) ?_
      refine r_cVx (ci := 2) (pc := 51) (kc' := kc - cst 60 30 30 n (skip f n a + 1) (sumP f n it (skip f n a + 1))) (ks' := ks - cst 4000 400 400 n (skip f n a + 1) (sumP f n it (skip f n a + 1))) dX2_within_51 cv_X2_121 r73 (ct_X2_must (c := 44) W3.rd w2 W3.at (by decide)) rfl rfl (Nat.le_of_ble_eq_true rfl) (by omega) (by omega) (by omega) (fun q M' hx => ?_) ?_
      · obtain ⟨kx, px, x1, x2⟩ := hx
        exact ⟨kx, px, by rw [hy]; show secP f n it 1 y1.1 (sgP f n 44 y1.2) = _; rw [x1]; rfl, XE.pre (f2.trans hRO.1) x2⟩
      rintro _ M4 ⟨rfl, d0, hd0, hR4⟩
      have s4 := sgP_ok hd0
      have W4 := W3.to hR4 s4.2.1
      have e5 : secP f n it 1 y1.1 (sgP f n 44 y1.2) = thn (sumP f n it d0) (fun ds b => fin (y1.1 ++ (ds ++ [5 + 1])) (sgP f n 41 b)) := by rw [hd0]; rfl
      have e6 : thn (sumP f n it (skip f n a + 1)) (fun cs c => secP f n it 1 cs (sgP f n 44 c)) = thn (sumP f n it d0) (fun ds b => fin (y1.1 ++ (ds ++ [5 + 1])) (sgP f n 41 b)) := by rw [hy]; exact e5
      rw [e6]
      rw [e5] at b1 b2
      have hq2 := fun y hy => hpr d0 y hy
      obtain ⟨i1, i2⟩ := itc (L := fun ds b => fin (y1.1 ++ (ds ++ [5 + 1])) (sgP f n 41 b)) (K := 60) (t := 30) (F := 30) (F' := 0) (s := 0) s4.1 s4.2.1 (fun y hy => ⟨(hq2 y hy).1, (hq2 y hy).2.1⟩) (hL2 d0 y1.1) (by decide) (by decide)
      obtain ⟨i3, i4⟩ := itc (L := fun ds b => fin (y1.1 ++ (ds ++ [5 + 1])) (sgP f n 41 b)) (K := 4000) (t := 400) (F := 400) (F' := 0) (s := 0) s4.1 s4.2.1 (fun y hy => ⟨(hq2 y hy).1, (hq2 y hy).2.1⟩) (hL2 d0 y1.1) (by decide) (by decide)
      clear i2 i4 c1 c2 c3 c4
      generalize hk1 : kc - cst 60 30 30 n (skip f n a + 1) (sumP f n it (skip f n a + 1)) = kc1
      generalize hk2 : ks - cst 4000 400 400 n (skip f n a + 1) (sumP f n it (skip f n a + 1)) = ks1
      have j1 : 3 + cst 60 30 30 n d0 (sumP f n it d0) ≤ kc1 := by omega
      have j2 : 3 + cst 4000 400 400 n d0 (sumP f n it d0) ≤ ks1 := by omega
      clear hk1 hk2 b1 b2 i1 i3
      refine r_new (pc := 54) (ci := 10) (kc' := kc1 - 1) (ks' := ks1 - 3) dX2_within_54 q972 q973 q172 (by decide) (by omega) (by omega) ?_
      generalize hM5 : nw M4 (20 + 10) 0 = M5
      have m1 : mZ M5 = mZ M4 + 1 := by rw [← hM5]; rfl
      have m3 : mK M5 (mZ M4) = 30 := by rw [← hM5]; exact if_pos rfl
      have m4 : FM (fun _ => False) M4 M5 := by rw [← hM5]; exact FM.nw
      clear hM5
      have hz3 := hRO.1.1.1
      have hz4 := hR4.1.1.1
      have R5 : RO M4 o d0 M5 := (RO.rf W4.at).more ⟨m4.1, fun c hc _ => m4.2 c hc (fun q => q)⟩ (by omega)
      have W5 := W4.to R5 s4.2.1
      have r75 := W5.rd.2.2.2.2.2.2.2.1.1
      refine r_dup (pc := 57) dX2_within_57 rfl ?_
      refine r_ild1 (pc := 58) dX2_within_58 ?_
      refine r_iconst (v := nI 2) (pc := 59) dX2_within_59 (by decide) ?_
      first | refine r_icmp_neN (pc := 60) (tgt := 67) dX2_within_60 (by decide) (by omega) (by omega) (fun hvv => ?_) (fun hvv => ?_) | refine r_icmp_ne (pc := 60) (tgt := 67) dX2_within_60 (by decide) (fun hvv => ?_) (fun hvv => ?_)
      · skip
        exact absurd hvv (by omega)
      · skip
        refine r_iconst (v := nI 1) (pc := 63) dX2_within_63 (by decide) ?_
        refine r_goto (pc := 64) (tgt := 68) dX2_within_64 (by decide) ?_
        refine r_ald2 (pc := 68) dX2_within_68 ?_
        refine r_ald0 (pc := 69) dX2_within_69 ?_
        refine r_cVx (ci := 2) (pc := 70) (kc' := 0) (ks' := 0) dX2_within_70 cv_X2_165 r75 (hsum M5 _ W5) rfl rfl (Nat.le_of_ble_eq_true rfl) (by omega) (by omega) (by omega) (fun q M' hx => ?_) ?_
        · obtain ⟨kx, px, x1, x2⟩ := hx
          exact ⟨kx, px, by rw [x1]; rfl, XE.pre (((f2.trans hRO.1).trans hR4.1).trans R5.1) x2⟩
        rintro _ M6 ⟨y2, z2, hy2, rfl, hV2, hRO2⟩
        obtain ⟨u1, u2, -⟩ := hq2 y2 hy2
        have W6 := W5.to hRO2 u2
        have hz6 := hRO2.1.1.1
        have s6 := hRO2.1.sm (c := mZ M4) (by omega) (by omega)
        refine r_cI (pc := 73) dX2_within_73 ci_X2_236 (ct_X10_init (M := M6) (a := mZ M4) hg (by omega) (s6.1.trans m3) (by exact ⟨rfl, rfl⟩)) rfl rfl (Nat.le_of_ble_eq_true rfl) (by omega) ?_
        rintro _ M8 ⟨rfl, e8⟩
        have hV6 : VAL M6 o (fun c => mZ M2 ≤ c ∧ c < mZ M6 ∧ c ≠ mZ M4) D z1 y1.1 := VAL.fr (fun c hc => ((hR4.1.trans R5.1).trans hRO2.1).sm hc.2 (by omega)) (fun c hc => ⟨hc.1, by omega, by omega⟩) D D z1 y1.1 (Nat.le_refl _) hV
        obtain ⟨G1, G2⟩ := pair_mk (zz := true) hV6 hV2 (s6.1.trans m3) (by omega) (by omega) (by omega) (by decide) e8
        have R8 : RO M3 o y2.2 M8 := ((hR4.trans R5).trans hRO2).more ⟨G2.1, fun c hc hn => G2.2 c hc (fun q => by omega)⟩ (by omega)
        have W8 := W3.to R8 u2
        have r78 := W8.rd.2.2.2.2.2.2.2.1.1
        clear e8
        refine r_ast3 (pc := 76) dX2_within_76 ?_
        refine r_ald0 (pc := 77) dX2_within_77 ?_
        refine r_bipush (v := nI 41) (pc := 78) dX2_within_78 (by decide) ?_
        refine r_cVx (ci := 2) (pc := 80) (kc' := 0) (ks' := 0) dX2_within_80 cv_X2_121 r78 (ct_X2_must (c := 41) W8.rd u2 W8.at (by decide)) rfl rfl (Nat.le_of_ble_eq_true rfl) (by omega) (by omega) (by omega) (fun q M' hx => ?_) ?_
        · obtain ⟨kx, px, x1, x2⟩ := hx
          exact ⟨kx, px, by rw [hy2]; show fin _ (sgP f n 41 y2.2) = _; rw [x1]; rfl, XE.pre ((f2.trans hRO.1).trans R8.1) x2⟩
        rintro _ M10 ⟨rfl, b, hb, hR10⟩
        have W10 := W8.to hR10 (sgP_ok hb).2.1
        have r710 := W10.rd.2.2.2.2.2.2.2.1.1
        refine r_ald0 (pc := 83) dX2_within_83 ?_
        refine r_dup (pc := 84) dX2_within_84 rfl ?_
        refine r_getI' (pc := 85) dX2_within_85 fl_X2_113 r710 W10.2.2.2.1 ?_
        refine r_iconst (v := nI 1) (pc := 88) dX2_within_88 (by decide) ?_
        refine r_isubN (pc := 89) dX2_within_89 (by omega) ?_
        refine r_putI (pc := 90) (ty := .int) dX2_within_90 fl_X2_113 ⟨rfl, rfl⟩ rfl rfl r710 (by omega) ?_
        generalize hM11 : sI M10 (o + 5) 4 (nI (6 - oo - 1)) = M11
        obtain ⟨g1, g2⟩ := W.close f2 ((hRO.trans R8).trans hR10) W10.2.2.2.1 hM11
        refine r_ald3 (pc := 93) dX2_within_93 ?_
        refine r_aretR (pc := 94) dX2_within_94 ?_
        refine ⟨(y1.1 ++ (y2.1 ++ [5 + 1]), b), mZ M4, by rw [hy2]; show fin _ (sgP f n 41 y2.2) = _; rw [hb]; rfl, rfl, ?_, g1⟩
        have G3 : VAL M8 o (fun c => mZ M2 ≤ c ∧ c < mZ M8) (D + 1) (mZ M4) (y1.1 ++ (y2.1 ++ [5 + 1])) := by
          have e0 : 5 + 1 = if true = true then 6 else 5 := by decide
          rw [e0]; exact G1
        exact G3.rd (hR10.1.trans g2) (by omega) (by omega) (Nat.le_refl _)
  · skip
    exact absurd rfl h6
end X67
