set_option maxRecDepth 100000
/-! THE READER: a fact: brackets, not, all -/
theorem RTQ.up {M M' : MM} {o n D D' : Nat} {f : Nat → Nat} {r : Rz} {v : Option Value} (h : RTQ M o n f D r v M') (hD : D ≤ D') : RTQ M o n f D' r v M' := by
  obtain ⟨y, z, b, h1, h2, h3, h4⟩ := h
  exact ⟨y, z, b, h1, h2, TST.fr (fun _ _ => Sm.rf) (fun _ q => q) D D' z y.1 hD h3, h4⟩
def brR (f : Nat → Nat) (n : Nat) (r : Option (Nat → Rz)) (a : Nat) : Rz := match r with
  | none => .error (4, skip f n a)
  | some it => thn (testP f n it (skip f n a + 1)) (fun cs c => fin cs (sgP f n 93 c))
def noR (f : Nat → Nat) (n : Nat) (r : Option (Nat → Rz)) (a b : Nat) : Rz := match r with
  | none => .error (4, skip f n a)
  | some it => thn (it b) (fun cs c => .ok (cs ++ [12], c))
section X77
variable {g : GC} {M : MM} {o n x oo a b D d dd kc ks : Nat} {f : Nat → Nat} {it : Nat → Rz} {r : Option (Nat → Rz)}
def F9 (g : GC) (dd o n : Nat) (f : Nat → Nat) (x oo D : Nat) (r : Option (Nat → Rz)) : Prop := ∀ M a M1, RWA g M o n f x oo a → lookO f n a = some 91 → RO M o (skip f n a) M1 → Bd g yX2_fact cX2_fact 3 (some (.object "Retouched$Test")) [] dd (cst 60 0 40 n a (brR f n r a)) (cst 4000 0 5700 n a (brR f n r a)) M1 9 [some (.ref (o + 5)), none, none] [] (RTQ M o n f D (brR f n r a)) (RVX M o (brR f n r a))
def F60 (g : GC) (dd o n : Nat) (f : Nat → Nat) (x oo D : Nat) (r : Option (Nat → Rz)) : Prop := ∀ M a b M1, RWA g M o n f x oo a → psW f n wNot a = .ok (some b) → RO M o b M1 → mI M1 (o + 5) 3 = nI (skip f n a) → Bd g yX2_fact cX2_fact 3 (some (.object "Retouched$Test")) [] dd (cst 60 0 40 n a (noR f n r a b) - 3) (cst 4000 0 5700 n a (noR f n r a b) - 2564) M1 60 [some (.ref (o + 5)), none, none] [] (RTQ M o n f D (noR f n r a b)) (RVX M o (noR f n r a b))
theorem f9_none (hd : 20 ≤ dd) : F9 g dd o n f x 0 D none := by
  intro M a M1 W e hR
  have hsl := skip_le (f := f) W.le
  have W1 := W.to hR hsl
  have r71 := W1.rd.2.2.2.2.2.2.2.1.1
  refine r_ald0 (pc := 9) dX2_fact_9 ?_
  refine r_ald0 (pc := 10) dX2_fact_10 ?_
  refine r_getI' (pc := 11) dX2_fact_11 fl_X2_36 r71 W1.at ?_
  refine r_cVx (ci := 2) (pc := 14) (kc' := 0) (ks' := 0) dX2_fact_14 cv_X2_231 r71 (ct_X2_opens (k := 6) W1.rd W1.2.2.2.1 (Nat.le_refl _)) rfl rfl (Nat.le_of_ble_eq_true rfl) (by omega) (by omega) (by omega) (fun q M' hx => ⟨4, skip f n a, rfl, XE.pre hR.1 hx.2⟩) ?_
  rintro _ M2 ⟨rfl, e2, -⟩
  exact absurd e2 (by decide)
theorem f60_none (hd : 20 ≤ dd) : F60 g dd o n f x 0 D none := by
  intro M a b M1 W e hR h3
  obtain ⟨hw, hb⟩ := psW_some e
  have hwe := word_end hw
  rw [← hb] at hwe
  have W1 := W.to hR hwe.1
  have r71 := W1.rd.2.2.2.2.2.2.2.1.1
  refine r_ald0 (pc := 60) dX2_fact_60 ?_
  refine r_ald0 (pc := 61) dX2_fact_61 ?_
  refine r_getI' (pc := 62) dX2_fact_62 fl_X2_61 r71 h3 ?_
  refine r_cVx (ci := 2) (pc := 65) (kc' := 0) (ks' := 0) dX2_fact_65 cv_X2_231 r71 (ct_X2_opens (k := 6) W1.rd W1.2.2.2.1 (Nat.le_refl _)) rfl rfl (Nat.le_of_ble_eq_true rfl) (by omega) (by omega) (by omega) (fun q M' hx => ⟨4, skip f n a, rfl, XE.pre hR.1 hx.2⟩) ?_
  rintro _ M2 ⟨rfl, e2, -⟩
  exact absurd e2 (by decide)
theorem f9_some (hpr : prg n (testP f n it)) (htest : CtT g yX2_test cX2_test 2 d 20 60 5200 5900 o n f x oo D (testP f n it)) (hd : 20 ≤ d) (hdd : d + 1 ≤ dd) : F9 g dd o n f x (oo + 1) D (some it) := by
  intro M a M1 W e hR
  have hrd := W.rd
  have ho := hrd.oz
  have hg := hrd.1
  have hgb := hrd.2.1
  have ho6 := W.2.2.2.2.1
  have hsl := skip_le (f := f) W.le
  have W1 := W.to hR hsl
  have r71 := W1.rd.2.2.2.2.2.2.2.1.1
  have hsp : a < skip f n a + 1 := by have := skip_ge f n a; omega
  have hsn : skip f n a + 1 ≤ n := by have := (lookO_some e).1; omega
  have hq := fun y hy => hpr (skip f n a + 1) y hy
  have er : brR f n (some it) a = thn (testP f n it (skip f n a + 1)) (fun cs c => fin cs (sgP f n 93 c)) := rfl
  rw [er]
  have c1 : cst 60 20 60 n (skip f n a + 1) (testP f n it (skip f n a + 1)) ≤ cst 60 0 40 n a (thn (testP f n it (skip f n a + 1)) (fun cs c => fin cs (sgP f n 93 c))) ∧ cst 4000 5200 5900 n (skip f n a + 1) (testP f n it (skip f n a + 1)) ≤ cst 4000 0 5700 n a (thn (testP f n it (skip f n a + 1)) (fun cs c => fin cs (sgP f n 93 c))) := by
    cases h1 : testP f n it (skip f n a + 1) with
    | error e0 =>
      show 60 * (n - (skip f n a + 1)) + 60 ≤ 60 * (n - a) + 40 ∧ 4000 * (n - (skip f n a + 1)) + 5900 ≤ 4000 * (n - a) + 5700
      omega
    | ok y =>
      have q1 := (hq y h1).1
      have q2 := (hq y h1).2.1
      show 60 * (y.2 - (skip f n a + 1) - 1) + 20 ≤ cst 60 0 40 n a (fin y.1 (sgP f n 93 y.2)) ∧ 4000 * (y.2 - (skip f n a + 1) - 1) + 5200 ≤ cst 4000 0 5700 n a (fin y.1 (sgP f n 93 y.2))
      cases h2 : sgP f n 93 y.2 with
      | error e0 =>
        show _ ≤ 60 * (n - a) + 40 ∧ _ ≤ 4000 * (n - a) + 5700
        omega
      | ok c =>
        have := (sgP_ok h2).1
        show _ ≤ 60 * (c - a - 1) + 0 ∧ _ ≤ 4000 * (c - a - 1) + 0
        omega
  generalize hkc : cst 60 0 40 n a (thn (testP f n it (skip f n a + 1)) (fun cs c => fin cs (sgP f n 93 c))) = kc at *
  generalize hks : cst 4000 0 5700 n a (thn (testP f n it (skip f n a + 1)) (fun cs c => fin cs (sgP f n 93 c))) = ks at *
  refine r_ald0 (pc := 9) dX2_fact_9 ?_
  refine r_ald0 (pc := 10) dX2_fact_10 ?_
  refine r_getI' (pc := 11) dX2_fact_11 fl_X2_36 r71 W1.at ?_
  refine r_cVx (ci := 2) (pc := 14) (kc' := kc) (ks' := ks) dX2_fact_14 cv_X2_231 r71 (ct_X2_opens (k := 6 - (oo + 1)) W1.rd W1.2.2.2.1 (by omega)) rfl rfl (Nat.le_of_ble_eq_true rfl) (by omega) (by omega) (by omega) (fun q M' hx => absurd hx.1 (by omega)) ?_
  rintro _ M9 ⟨rfl, -, e9⟩
  rw [e9]
  have r79 : mK (sI M1 (o + 5) 4 (nI (6 - (oo + 1) + 1))) (o + 5) = 22 := r71
  have k29 : mI (sI M1 (o + 5) 4 (nI (6 - (oo + 1) + 1))) (o + 5) 2 = nI (skip f n a) := (mI_sIj (by decide)).trans W1.at
  refine r_ald0 (pc := 17) dX2_fact_17 ?_
  refine r_dup (pc := 18) dX2_fact_18 rfl ?_
  refine r_getI' (pc := 19) dX2_fact_19 fl_X2_36 r79 k29 ?_
  refine r_iconst (v := nI 1) (pc := 22) dX2_fact_22 (by decide) ?_
  first | refine r_iaddN (pc := 23) dX2_fact_23 ?_ | refine r_iaddJ (pc := 23) dX2_fact_23 ?_ | refine r_iadd (pc := 23) dX2_fact_23 ?_
  refine r_putI (pc := 24) (ty := .int) dX2_fact_24 fl_X2_36 ⟨rfl, rfl⟩ rfl rfl r79 (by omega) ?_
  generalize hM2 : sI (sI M1 (o + 5) 4 (nI (6 - (oo + 1) + 1))) (o + 5) 2 (nI (skip f n a + 1)) = M2
  obtain ⟨W2, f2, m2⟩ := W.opn hR (Or.inr e) hM2
  clear hM2 e9 r79 k29
  have r72 := W2.rd.2.2.2.2.2.2.2.1.1
  have hz2 := f2.1.1
  refine r_ald0 (pc := 27) dX2_fact_27 ?_
  refine r_cVx (ci := 2) (pc := 28) (kc' := 0) (ks' := 0) dX2_fact_28 cv_X2_210 r72 (htest M2 _ W2) rfl rfl (Nat.le_of_ble_eq_true rfl) (by omega) (by omega) (by omega) (fun q M' hx => ?_) ?_
  · obtain ⟨kx, px, x1, x2⟩ := hx
    exact ⟨kx, px, by rw [x1]; rfl, XE.pre f2 x2⟩
  rintro _ M3 ⟨y1, z1, b1, hy, rfl, hV, hRO, kb1, ks1⟩
  have W3 := W2.to hRO kb1
  have r73 := W3.rd.2.2.2.2.2.2.2.1.1
  have esg : sgP f n 93 b1 = sgP f n 93 y1.2 := by unfold sgP; rw [lookO_eq ks1, ks1]
  refine r_ast1 (pc := 31) dX2_fact_31 ?_
  refine r_ald0 (pc := 32) dX2_fact_32 ?_
  refine r_bipush (v := nI 93) (pc := 33) dX2_fact_33 (by decide) ?_
  refine r_cVx (ci := 2) (pc := 35) (kc' := 0) (ks' := 0) dX2_fact_35 cv_X2_121 r73 (ct_X2_must (c := 93) W3.rd kb1 W3.at (by decide)) rfl rfl (Nat.le_of_ble_eq_true rfl) (by omega) (by omega) (by omega) (fun q M' hx => ?_) ?_
  · obtain ⟨kx, px, x1, x2⟩ := hx
    rw [esg] at x1
    exact ⟨kx, px, by rw [hy]; show fin y1.1 (sgP f n 93 y1.2) = _; rw [x1]; rfl, XE.pre (f2.trans hRO.1) x2⟩
  rintro _ M4 ⟨rfl, c, hb, hR4⟩
  have hcn := (sgP_ok hb).2.1
  rw [esg] at hb
  have W4 := W3.to hR4 hcn
  have r74 := W4.rd.2.2.2.2.2.2.2.1.1
  refine r_ald0 (pc := 38) dX2_fact_38 ?_
  refine r_dup (pc := 39) dX2_fact_39 rfl ?_
  refine r_getI' (pc := 40) dX2_fact_40 fl_X2_113 r74 W4.2.2.2.1 ?_
  refine r_iconst (v := nI 1) (pc := 43) dX2_fact_43 (by decide) ?_
  refine r_isubN (pc := 44) dX2_fact_44 (by omega) ?_
  refine r_putI (pc := 45) (ty := .int) dX2_fact_45 fl_X2_113 ⟨rfl, rfl⟩ rfl rfl r74 (by omega) ?_
  generalize hM5 : sI M4 (o + 5) 4 (nI (6 - oo - 1)) = M5
  obtain ⟨g1, g2⟩ := W.close f2 (hRO.trans hR4) W4.2.2.2.1 hM5
  refine r_ald1 (pc := 48) dX2_fact_48 ?_
  refine r_aretR (pc := 49) dX2_fact_49 ?_
  refine ⟨(y1.1, c), z1, c, by rw [hy]; show fin y1.1 (sgP f n 93 y1.2) = _; rw [hb]; rfl, rfl, ?_, g1, hcn, rfl⟩
  exact hV.rd (hR4.1.trans g2) (by omega) (by omega) (Nat.le_refl _)
theorem not_mk {M6 M8 : MM} {pr z lo : Nat} {cs : List Nat} (hV : TST M6 o (fun c => lo ≤ c ∧ c < mZ M6) D z cs) (hK : mK M6 pr = 36) (hp : pr < lo) (hpz : pr < mZ M6) (e8 : M8 = sR M6 pr 0 (some z)) : TST M8 o (fun c => pr ≤ c ∧ c < mZ M8) (D + 1) pr (cs ++ [12]) ∧ FM (fun c => c = pr) M6 M8 := by
  have hS : ∀ c, c ≠ pr → Sm M6 M8 c := fun c hc => by rw [e8]; exact Sm.sR hc
  have hz : mZ M8 = mZ M6 := by rw [e8]; rfl
  refine ⟨Or.inr (Or.inl ⟨⟨Nat.le_refl _, by omega⟩, by rw [e8]; exact hK, z, cs, by rw [e8, mR_sRs], ?_, rfl⟩), by omega, fun c _ hc => hS c hc⟩
  exact TST.fr (fun c hc => hS c (by omega)) (fun c hc => ⟨by omega, by omega⟩) D D z cs (Nat.le_refl _) hV
theorem f60_some (hpr : prg n it) (hit : CtT g yX2_fact cX2_fact 3 d 0 40 0 5700 o n f x oo D it) (hd : 20 ≤ d) (hdd : d + 1 ≤ dd) : F60 g dd o n f x (oo + 1) (D + 1) (some it) := by
  intro M a b M1 W e hR h3
  obtain ⟨hw, hb⟩ := psW_some e
  have hwe := word_end hw
  rw [← hb] at hwe
  have hb3 : b = skip f n a + 3 := hb
  have hsg := skip_ge f n a
  have hrd := W.rd
  have ho := hrd.oz
  have hg := hrd.1
  have hgb := hrd.2.1
  have ho6 := W.2.2.2.2.1
  have W1 := W.to hR hwe.1
  have r71 := W1.rd.2.2.2.2.2.2.2.1.1
  have hz1 := hR.1.1.1
  have er : noR f n (some it) a b = thn (it b) (fun cs c => .ok (cs ++ [12], c)) := rfl
  rw [er]
  have c1 : 4 + cst 60 0 40 n b (it b) ≤ cst 60 0 40 n a (thn (it b) (fun cs c => .ok (cs ++ [12], c))) ∧ 2565 + cst 4000 0 5700 n b (it b) ≤ cst 4000 0 5700 n a (thn (it b) (fun cs c => .ok (cs ++ [12], c))) := by
    cases h1 : it b with
    | error e0 =>
      show 4 + (60 * (n - b) + 40) ≤ 60 * (n - a) + 40 ∧ 2565 + (4000 * (n - b) + 5700) ≤ 4000 * (n - a) + 5700
      omega
    | ok y =>
      have q1 := (hpr b y h1).1
      show 4 + (60 * (y.2 - b - 1) + 0) ≤ 60 * (y.2 - a - 1) + 0 ∧ 2565 + (4000 * (y.2 - b - 1) + 0) ≤ 4000 * (y.2 - a - 1) + 0
      omega
  generalize hkc : cst 60 0 40 n a (thn (it b) (fun cs c => .ok (cs ++ [12], c))) = kc at *
  generalize hks : cst 4000 0 5700 n a (thn (it b) (fun cs c => .ok (cs ++ [12], c))) = ks at *
  refine r_ald0 (pc := 60) dX2_fact_60 ?_
  refine r_ald0 (pc := 61) dX2_fact_61 ?_
  refine r_getI' (pc := 62) dX2_fact_62 fl_X2_61 r71 h3 ?_
  refine r_cVx (ci := 2) (pc := 65) (kc' := kc - 3) (ks' := ks - 2564) dX2_fact_65 cv_X2_231 r71 (ct_X2_opens (k := 6 - (oo + 1)) W1.rd W1.2.2.2.1 (by omega)) rfl rfl (Nat.le_of_ble_eq_true rfl) (by omega) (by omega) (by omega) (fun q M' hx => absurd hx.1 (by omega)) ?_
  rintro _ M9 ⟨rfl, -, e9⟩
  have f9 : RFr o M M9 := by rw [e9]; exact hR.1.trans (RFr.at (by decide) (by decide))
  have W9 : RWA g M9 o n f x oo b := ⟨W.1.fr f9, hwe.1, by rw [e9, mI_sIj (by decide)]; exact W1.at, by rw [e9, mI_sIs, show 6 - (oo + 1) + 1 = 6 - oo by omega], by omega, f9.2.2.2.2.2.trans W.2.2.2.2.2.1, W.2.2.2.2.2.2⟩
  have hz9 : mZ M9 = mZ M1 := by rw [e9]; rfl
  clear e9
  refine r_new (pc := 68) (ci := 16) (kc' := kc - 4) (ks' := ks - 2565) dX2_fact_68 q1138 q1139 q178 (by decide) (by omega) (by omega) ?_
  generalize hM5 : nw M9 (20 + 16) 0 = M5
  have m1 : mZ M5 = mZ M9 + 1 := by rw [← hM5]; rfl
  have m3 : mK M5 (mZ M9) = 36 := by rw [← hM5]; exact if_pos rfl
  have m4 : FM (fun _ => False) M9 M5 := by rw [← hM5]; exact FM.nw
  clear hM5
  have R5 : RO M9 o b M5 := (RO.rf W9.at).more ⟨m4.1, fun c hc _ => m4.2 c hc (fun q => q)⟩ (by omega)
  have W5 := W9.to R5 hwe.1
  have r75 := W5.rd.2.2.2.2.2.2.2.1.1
  refine r_dup (pc := 71) dX2_fact_71 rfl ?_
  refine r_ald0 (pc := 72) dX2_fact_72 ?_
  refine r_cVx (ci := 2) (pc := 73) (kc' := 0) (ks' := 0) dX2_fact_73 cv_X2_286 r75 (hit M5 _ W5) rfl rfl (Nat.le_of_ble_eq_true rfl) (by omega) (by omega) (by omega) (fun q M' hx => ?_) ?_
  · obtain ⟨kx, px, x1, x2⟩ := hx
    exact ⟨kx, px, by rw [x1]; rfl, XE.pre (f9.trans R5.1) x2⟩
  rintro _ M6 ⟨y2, z2, b2, hy2, rfl, hV2, hRO2, kb2, ks2⟩
  have hz6 := hRO2.1.1.1
  have s6 := hRO2.1.sm (c := mZ M9) (by omega) (by omega)
  refine r_cI (pc := 76) dX2_fact_76 ci_X2_295 (ct_X16_init (M := M6) (a := mZ M9) hg (by omega) (s6.1.trans m3)) rfl rfl (Nat.le_of_ble_eq_true rfl) (by omega) ?_
  rintro _ M8 ⟨rfl, e8⟩
  obtain ⟨G1, G2⟩ := not_mk hV2 (s6.1.trans m3) (by omega) (by omega) e8
  have R8 : RO M9 o b2 M8 := (R5.trans hRO2).more ⟨G2.1, fun c hc hn => G2.2 c hc (fun q => by omega)⟩ (by omega)
  have W8 := W9.to R8 kb2
  have r78 := W8.rd.2.2.2.2.2.2.2.1.1
  clear e8
  refine r_ast1 (pc := 79) dX2_fact_79 ?_
  refine r_ald0 (pc := 80) dX2_fact_80 ?_
  refine r_dup (pc := 81) dX2_fact_81 rfl ?_
  refine r_getI' (pc := 82) dX2_fact_82 fl_X2_113 r78 W8.2.2.2.1 ?_
  refine r_iconst (v := nI 1) (pc := 85) dX2_fact_85 (by decide) ?_
  refine r_isubN (pc := 86) dX2_fact_86 (by omega) ?_
  refine r_putI (pc := 87) (ty := .int) dX2_fact_87 fl_X2_113 ⟨rfl, rfl⟩ rfl rfl r78 (by omega) ?_
  generalize hM11 : sI M8 (o + 5) 4 (nI (6 - oo - 1)) = M11
  obtain ⟨g1, g2⟩ := W.close f9 R8 W8.2.2.2.1 hM11
  refine r_ald1 (pc := 90) dX2_fact_90 ?_
  refine r_aretR (pc := 91) dX2_fact_91 ?_
  refine ⟨(y2.1 ++ [12], y2.2), mZ M9, b2, by rw [hy2]; rfl, rfl, ?_, g1, kb2, ks2⟩
  exact G1.rd g2 (by omega) (by omega) (Nat.le_refl _)
end X77
