set_option maxRecDepth 100000
/-! THE READER: what stands within brackets -/
section X66
variable {g : GC} {M : MM} {o n x oo a D d : Nat} {f : Nat → Nat} {it : Nat → Rz}
abbrev vaT : Option FieldType := some (.object "Retouched$Value")
theorem ct_within_er {two : Int32} (W : RWA g M o n f x oo a) (e : lookO f n a ≠ some 40) (hd : 20 ≤ d) : Ct g yX2_within cX2_within 4 (some (.object "Retouched$Value")) d 0 0 [.ref (o + 5), .int two] M (fun _ _ => False) (XE M o 1 (skip f n a)) := by
  have hrd := W.rd
  have r7 := hrd.2.2.2.2.2.2.2.1.1
  have hf := hrd.2.2.2.2.2.2.1.1
  refine Ct.of (by decide) (Nat.le_of_ble_eq_true rfl) rfl ?_
  refine r_ald0 (pc := 0) dX2_within_0 ?_
  refine r_cV (ci := 2) (pc := 1) dX2_within_1 cv_X2_43 r7 (ct_X2_here hrd W.le W.at) rfl rfl (Nat.le_of_ble_eq_true rfl) (by omega) ?_
  rintro _ M1 ⟨rfl, k1, k2, k3⟩
  have hR := hrd.fr k1
  have r71 := hR.2.2.2.2.2.2.2.1.1
  refine r_bipush (v := nI 40) (pc := 4) dX2_within_4 (by decide) ?_
  refine r_icmp_eq (pc := 6) (tgt := 19) dX2_within_6 (by decide) (fun h6 => ?_) (fun h6 => ?_)
  · skip
    exact absurd ((bI_look (by decide) hf).1 h6) e
  · skip
    refine r_ald0 (pc := 9) dX2_within_9 ?_
    refine r_iconst (v := nI 1) (pc := 10) dX2_within_10 (by decide) ?_
    refine r_ald0 (pc := 11) dX2_within_11 ?_
    refine r_getI' (pc := 12) dX2_within_12 fl_X2_36 r71 k2 ?_
    refine r_cV (ci := 2) (pc := 15) dX2_within_15 cv_X2_47 r71 (ct_X2_wrong (k := 1) hR) rfl rfl (Nat.le_of_ble_eq_true rfl) (by omega) ?_
    rintro _ M2 ⟨rfl, e2⟩
    rw [e2]
    exact r_athrow (pc := 18) dX2_within_18 hR.2.2.2.2.2.2.2.2.1 (XE.fl k1)
theorem ct_within_no {two : Int32} (W : RWA g M o n f x 0 a) (e : lookO f n a = some 40) (hd : 20 ≤ d) : Ct g yX2_within cX2_within 4 (some (.object "Retouched$Value")) d 0 0 [.ref (o + 5), .int two] M (fun _ _ => False) (XE M o 4 (skip f n a)) := by
  have hrd := W.rd
  have r7 := hrd.2.2.2.2.2.2.2.1.1
  have hf := hrd.2.2.2.2.2.2.1.1
  have hct := ct_X2_here hrd W.le W.at
  rw [(bI_look (by decide) hf).2 e] at hct
  refine Ct.of (by decide) (Nat.le_of_ble_eq_true rfl) rfl ?_
  refine r_ald0 (pc := 0) dX2_within_0 ?_
  refine r_cV (ci := 2) (pc := 1) dX2_within_1 cv_X2_43 r7 hct rfl rfl (Nat.le_of_ble_eq_true rfl) (by omega) ?_
  rintro _ M1 ⟨rfl, k1, k2, k3⟩
  have hR := hrd.fr k1
  have r71 := hR.2.2.2.2.2.2.2.1.1
  refine r_bipush (v := nI 40) (pc := 4) dX2_within_4 (by decide) ?_
  first | refine r_icmp_eqN (pc := 6) (tgt := 19) dX2_within_6 (by decide) (by omega) (by omega) (fun h6 => ?_) (fun h6 => ?_) | refine r_icmp_eq (pc := 6) (tgt := 19) dX2_within_6 (by decide) (fun h6 => ?_) (fun h6 => ?_)
  · skip
    refine r_ald0 (pc := 19) dX2_within_19 ?_
    refine r_ald0 (pc := 20) dX2_within_20 ?_
    refine r_getI' (pc := 21) dX2_within_21 fl_X2_36 r71 k2 ?_
    refine r_cVx (ci := 2) (pc := 24) (kc' := 0) (ks' := 0) dX2_within_24 cv_X2_231 r71 (ct_X2_opens (k := 6) hR (k3.trans W.2.2.2.1) (Nat.le_refl _)) rfl rfl (Nat.le_of_ble_eq_true rfl) (by omega) (by omega) (by omega) (fun q M' hx => XE.pre k1 hx.2) ?_
    rintro _ M2 ⟨rfl, e2, -⟩
    exact absurd e2 (by decide)
  · skip
    exact absurd rfl h6
/-- behind the bracket: the memory, the reader one further -/
theorem RWA.opn {M1 M2 : MM} (W : RWA g M o n f x (oo + 1) a) (k1 : RO M o (skip f n a) M1) (e : lookO f n a = some 40 ∨ lookO f n a = some 91) (hM : sI (sI M1 (o + 5) 4 (nI (6 - (oo + 1) + 1))) (o + 5) 2 (nI (skip f n a + 1)) = M2) : RWA g M2 o n f x oo (skip f n a + 1) ∧ RFr o M M2 ∧ mZ M1 = mZ M2 := by
  have hf : RFr o M M2 := by rw [← hM]; exact (k1.1.trans (RFr.at (by decide) (by decide))).trans (RFr.at (Nat.le_refl 2) (by decide))
  have ho6 := W.2.2.2.2.1
  refine ⟨⟨W.1.fr hf, ?_, by rw [← hM]; exact mI_sIs _ _ _ _, ?_, by omega, hf.2.2.2.2.2.trans W.2.2.2.2.2.1, W.2.2.2.2.2.2⟩, hf, by rw [← hM]; rfl⟩
  · rcases e with e | e
    · have := (lookO_some e).1; omega
    · have := (lookO_some e).1; omega
  · rw [← hM, mI_sIj (by decide), mI_sIs, show 6 - (oo + 1) + 1 = 6 - oo by omega]
/-- the bracket is closed again -/
theorem RWA.close {M1 M2 M3 : MM} {b : Nat} (W : RWA g M o n f x (oo + 1) a) (hf : RFr o M M1) (hR : RO M1 o b M2) (h4 : mI M2 (o + 5) 4 = nI (6 - oo)) (hM : sI M2 (o + 5) 4 (nI (6 - oo - 1)) = M3) : RO M o b M3 ∧ RFr o M2 M3 := by
  have ho6 := W.2.2.2.2.1
  refine ⟨⟨?_, ?_, ?_⟩, ?_⟩
  · rw [← hM]; exact (hf.trans hR.1).trans (RFr.at (by decide) (by decide))
  · rw [← hM, mI_sIj (by decide)]; exact hR.2.1
  · rw [← hM, mI_sIs, W.2.2.2.1, show 6 - oo - 1 = 6 - (oo + 1) by omega]
  · rw [← hM]; exact RFr.at (by decide) (by decide)
/-- two values and which of them: a pair -/
theorem pair_mk {M6 M8 : MM} {zz : Bool} {pr z1 z2 lo lo2 : Nat} {cs ds : List Nat} {xx : Int32} (hyA : VAL M6 o (fun c => lo ≤ c ∧ c < mZ M6 ∧ c ≠ pr) D z1 cs) (hV2 : VAL M6 o (fun c => lo2 ≤ c ∧ c < mZ M6) D z2 ds) (hK : mK M6 pr = 30) (hl : lo ≤ pr) (hp : pr < lo2) (hpz : pr < mZ M6) (hxx : xx = zI (zz = true)) (e8 : M8 = sR (sR (sI M6 pr 0 xx) pr 1 (some z1)) pr 2 (some z2)) : VAL M8 o (fun c => lo ≤ c ∧ c < mZ M8) (D + 1) pr (cs ++ (ds ++ [if zz = true then 6 else 5])) ∧ FM (fun c => c = pr) M6 M8 := by
  have hS : ∀ c, c ≠ pr → Sm M6 M8 c := fun c hc => by rw [e8]; exact ((Sm.sI hc).trans (Sm.sR hc)).trans (Sm.sR hc)
  have hz : mZ M8 = mZ M6 := by rw [e8]; rfl
  refine ⟨Or.inr (Or.inr (Or.inr (Or.inl ⟨⟨hl, by omega⟩, by rw [e8]; exact hK, zz, z1, z2, cs, ds, ?_, ?_, ?_, ?_, ?_, rfl⟩))), by omega, fun c _ hc => hS c hc⟩
  · rw [e8, mI_sR, mI_sR, mI_sIs, hxx]
  · rw [e8, mR_sRj (by decide), mR_sRs]
  · rw [e8, mR_sRs]
  · exact VAL.fr (fun c hc => hS c hc.2.2) (fun c hc => ⟨hc.1, by omega⟩) D D z1 cs (Nat.le_refl _) hyA
  · exact VAL.fr (fun c hc => hS c (by omega)) (fun c hc => ⟨by omega, by omega⟩) D D z2 ds (Nat.le_refl _) hV2
/-- in brackets: a sum -/
theorem ct_within_0 (hpr : prg n (sumP f n it)) (hsum : CtV g yX2_sum cX2_sum d 30 30 400 400 o n f x oo D (sumP f n it)) (W : RWA g M o n f x (oo + 1) a) (e : lookO f n a = some 40) (hd : 20 ≤ d) : Ct g yX2_within cX2_within 4 (some (.object "Retouched$Value")) (d + 1) (cst 60 0 0 n a (thn (sumP f n it (skip f n a + 1)) (fun cs c => fin cs (sgP f n 41 c)))) (cst 4000 0 0 n a (thn (sumP f n it (skip f n a + 1)) (fun cs c => fin cs (sgP f n 41 c)))) [.ref (o + 5), .int (nI 0)] M (RVQ M o D (thn (sumP f n it (skip f n a + 1)) (fun cs c => fin cs (sgP f n 41 c)))) (RVX M o (thn (sumP f n it (skip f n a + 1)) (fun cs c => fin cs (sgP f n 41 c)))) := by
  have hrd := W.rd
  have ho := hrd.oz
  have hg := hrd.1
  have hgb := hrd.2.1
  have r7 := hrd.2.2.2.2.2.2.2.1.1
  have hf := hrd.2.2.2.2.2.2.1.1
  have ho6 := W.2.2.2.2.1
  have hct := ct_X2_here hrd W.le W.at
  rw [(bI_look (by decide) hf).2 e] at hct
  have hsp : a < skip f n a + 1 := by have := skip_ge f n a; omega
  have hsn : skip f n a + 1 ≤ n := by have := (lookO_some e).1; omega
  have hq := fun y hy => hpr (skip f n a + 1) y hy
  have hL : ∀ (y z : List Nat × Nat), sumP f n it (skip f n a + 1) = .ok y → (fun cs c => fin cs (sgP f n 41 c)) y.1 y.2 = .ok z → y.2 ≤ z.2 := fun y z hy hz => by
    obtain ⟨b, hb, rfl⟩ := fin_ok hz
    exact Nat.le_of_lt (sgP_ok hb).1
  obtain ⟨c1, c2⟩ := wic (L := fun cs c => fin cs (sgP f n 41 c)) (K := 60) (t := 30) (F := 30) (s := 3) hsp hsn (fun y hy => ⟨(hq y hy).1, (hq y hy).2.1⟩) hL (by decide) (by decide)
  obtain ⟨c3, c4⟩ := wic (L := fun cs c => fin cs (sgP f n 41 c)) (K := 4000) (t := 400) (F := 400) (s := 3) hsp hsn (fun y hy => ⟨(hq y hy).1, (hq y hy).2.1⟩) hL (by decide) (by decide)
  generalize hkc : cst 60 0 0 n a (thn (sumP f n it (skip f n a + 1)) (fun cs c => fin cs (sgP f n 41 c))) = kc at *
  generalize hks : cst 4000 0 0 n a (thn (sumP f n it (skip f n a + 1)) (fun cs c => fin cs (sgP f n 41 c))) = ks at *
  refine Ct.of (by decide) (Nat.le_of_ble_eq_true rfl) rfl ?_
  refine r_ald0 (pc := 0) dX2_within_0 ?_
  refine r_cV (ci := 2) (pc := 1) dX2_within_1 cv_X2_43 r7 hct rfl rfl (Nat.le_of_ble_eq_true rfl) (by omega) ?_
  rintro _ M1 ⟨rfl, k1, k2, k3⟩
  have hR1 := hrd.fr k1
  have r71 := hR1.2.2.2.2.2.2.2.1.1
  refine r_bipush (v := nI 40) (pc := 4) dX2_within_4 (by decide) ?_
  first | refine r_icmp_eqN (pc := 6) (tgt := 19) dX2_within_6 (by decide) (by omega) (by omega) (fun h6 => ?_) (fun h6 => ?_) | refine r_icmp_eq (pc := 6) (tgt := 19) dX2_within_6 (by decide) (fun h6 => ?_) (fun h6 => ?_)
  · skip
    refine r_ald0 (pc := 19) dX2_within_19 ?_
    refine r_ald0 (pc := 20) dX2_within_20 ?_
    refine r_getI' (pc := 21) dX2_within_21 fl_X2_36 r71 k2 ?_
    refine r_cVx (ci := 2) (pc := 24) (kc' := kc) (ks' := ks) dX2_within_24 cv_X2_231 r71 (ct_X2_opens (k := 6 - (oo + 1)) hR1 (k3.trans W.2.2.2.1) (by omega)) rfl rfl (Nat.le_of_ble_eq_true rfl) (by omega) (by omega) (by omega) (fun q M' hx => absurd hx.1 (by omega)) ?_
    rintro _ M9 ⟨rfl, -, e9⟩
    rw [e9]
    have r79 : mK (sI M1 (o + 5) 4 (nI (6 - (oo + 1) + 1))) (o + 5) = 22 := r71
    have k29 : mI (sI M1 (o + 5) 4 (nI (6 - (oo + 1) + 1))) (o + 5) 2 = nI (skip f n a) := (mI_sIj (by decide)).trans k2
    refine r_ald0 (pc := 27) dX2_within_27 ?_
    refine r_dup (pc := 28) dX2_within_28 rfl ?_
    refine r_getI' (pc := 29) dX2_within_29 fl_X2_36 r79 k29 ?_
    refine r_iconst (v := nI 1) (pc := 32) dX2_within_32 (by decide) ?_
    first | refine r_iaddN (pc := 33) dX2_within_33 ?_ | refine r_iaddJ (pc := 33) dX2_within_33 ?_ | refine r_iadd (pc := 33) dX2_within_33 ?_
    refine r_putI (pc := 34) (ty := .int) dX2_within_34 fl_X2_36 ⟨rfl, rfl⟩ rfl rfl r79 (by omega) ?_
    generalize hM2 : sI (sI M1 (o + 5) 4 (nI (6 - (oo + 1) + 1))) (o + 5) 2 (nI (skip f n a + 1)) = M2
    obtain ⟨W2, f2, m2⟩ := W.opn ⟨k1, k2, k3⟩ (Or.inl e) hM2
    clear hM2 e9 r79 k29
    have r72 := W2.rd.2.2.2.2.2.2.2.1.1
    have hz2 := f2.1.1
    refine r_ald0 (pc := 37) dX2_within_37 ?_
    refine r_cVx (ci := 2) (pc := 38) (kc' := kc - cst 60 30 30 n (skip f n a + 1) (sumP f n it (skip f n a + 1))) (ks' := ks - cst 4000 400 400 n (skip f n a + 1) (sumP f n it (skip f n a + 1))) dX2_within_38 cv_X2_165 r72 (hsum M2 _ W2) rfl rfl (Nat.le_of_ble_eq_true rfl) (by omega) (by omega) (by omega) (fun q M' hx => ?_) ?_
    · obtain ⟨kx, px, x1, x2⟩ := hx
      exact ⟨kx, px, by rw [x1]; rfl, XE.pre f2 x2⟩
    rintro _ M3 ⟨y1, z1, hy, rfl, hV, hRO⟩
    obtain ⟨w1, w2, -⟩ := hq y1 hy
    have b1 := c2 y1 hy
    have b2 := c4 y1 hy
    have W3 := W2.to hRO w2
    have r73 := W3.rd.2.2.2.2.2.2.2.1.1
    refine r_ast2 (pc := 41) dX2_within_41 ?_
    refine r_ald2 (pc := 42) dX2_within_42 ?_
    refine r_ast3 (pc := 43) dX2_within_43 ?_
    refine r_ild1 (pc := 44) dX2_within_44 ?_
    first | refine r_if_leN (pc := 45) (tgt := 77) dX2_within_45 (by decide) (by omega) (fun h45 => ?_) (fun h45 => ?_) | refine r_if_le (pc := 45) (tgt := 77) dX2_within_45 (by decide) (fun h45 => ?_) (fun h45 => ?_)
    · skip
      refine r_ald0 (pc := 77) dX2_within_77 ?_
      refine r_bipush (v := nI 41) (pc := 78) dX2_within_78 (by decide) ?_
      refine r_cVx (ci := 2) (pc := 80) (kc' := 0) (ks' := 0) dX2_within_80 cv_X2_121 r73 (ct_X2_must (c := 41) W3.rd w2 W3.at (by decide)) rfl rfl (Nat.le_of_ble_eq_true rfl) (by omega) (by omega) (by omega) (fun q M' hx => ?_) ?_
      · obtain ⟨kx, px, x1, x2⟩ := hx
        exact ⟨kx, px, by rw [hy]; show fin y1.1 (sgP f n 41 y1.2) = _; rw [x1]; rfl, XE.pre (f2.trans hRO.1) x2⟩
      rintro _ M4 ⟨rfl, b, hb, hR4⟩
      have W4 := W3.to hR4 (sgP_ok hb).2.1
      have r74 := W4.rd.2.2.2.2.2.2.2.1.1
      refine r_ald0 (pc := 83) dX2_within_83 ?_
      refine r_dup (pc := 84) dX2_within_84 rfl ?_
      refine r_getI' (pc := 85) dX2_within_85 fl_X2_113 r74 W4.2.2.2.1 ?_
      refine r_iconst (v := nI 1) (pc := 88) dX2_within_88 (by decide) ?_
      refine r_isubN (pc := 89) dX2_within_89 (by omega) ?_
      refine r_putI (pc := 90) (ty := .int) dX2_within_90 fl_X2_113 ⟨rfl, rfl⟩ rfl rfl r74 (by omega) ?_
      generalize hM5 : sI M4 (o + 5) 4 (nI (6 - oo - 1)) = M5
      obtain ⟨g1, g2⟩ := W.close f2 (hRO.trans hR4) W4.2.2.2.1 hM5
      refine r_ald3 (pc := 93) dX2_within_93 ?_
      refine r_aretR (pc := 94) dX2_within_94 ?_
      refine ⟨(y1.1, b), z1, by rw [hy]; show fin y1.1 (sgP f n 41 y1.2) = _; rw [hb]; rfl, rfl, ?_, g1⟩
      exact hV.rd (hR4.1.trans g2) (by omega) (by omega) (Nat.le_refl _)
    · skip
      exact absurd h45 (by omega)
  · skip
    exact absurd rfl h6
end X66
