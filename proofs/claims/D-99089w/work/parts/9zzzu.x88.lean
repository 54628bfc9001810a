set_option maxRecDepth 100000
/-! THE READER: all of a terrace -/
section X88
variable {g : GC} {M : MM} {o n : Nat} {f : Nat → Nat}
/-- the reader's own fields are set anew -/
theorem RW.set {M6 : MM} (h : RW g (sI M (o + 5) 1 (nI n)) o n f) (hz : mZ M ≤ mZ M6) (hS : ∀ c, c ≤ o + 6 → c ≠ o + 5 → Sm M M6 c) (k5 : mK M6 (o + 5) = mK M (o + 5)) (r0 : mR M6 (o + 5) 0 = mR M (o + 5) 0) (r7 : mR M6 (o + 5) 7 = mR M (o + 5) 7) (i1 : mI M6 (o + 5) 1 = nI n) : RW g M6 o n f := by
  obtain ⟨⟨h0, h1, ⟨h2, h2'⟩, ⟨h3, h3'⟩, h4, h5, h6, ⟨h7, h8, h9, h10⟩, h11, h12⟩, l1, l2, l3, l4⟩ := h
  have e0 := hS o (by omega) (by omega)
  have e4 := hS (o + 4) (by omega) (by omega)
  have e6 := hS (o + 6) (by omega) (by omega)
  have hSs : ∀ c, c ≠ o + 5 → c ≤ o + 6 → Sm (sI M (o + 5) 1 (nI n)) M6 c := fun c h1 h2 => by
    obtain ⟨q1, q2, q3, q4, q5⟩ := hS c h2 h1
    exact ⟨q1, q2, by rw [q3]; exact funext fun i => (mI_sIa h1).symm, q4, q5⟩
  have h12 : o + 6 < mZ M := h12
  refine ⟨⟨h0, h1, ⟨e0.1.trans h2, by rw [e0.2.2.2.2]; exact h2'⟩, ⟨e4.1.trans h3, e4.2.1.trans h3'⟩, h4, fun j hj => ?_, ⟨h6.1, fun j hj => ?_⟩, ⟨k5.trans h7, r0.trans h8, r7.trans h9, i1⟩, e6.1.trans h11, by omega⟩, l1, l2, l3.fr (fun c hc => hSs c (by omega) (by omega)), l4.fr (fun c hc => hSs c (by omega) (by omega))⟩
  · rw [(hSs (o + 4) (by omega) (by omega)).2.2.1]; exact h5 j hj
  · rw [(hSs (o + 4) (by omega) (by omega)).2.2.1]; exact h6.2 j hj
theorem XT.of2 {M0 M1 : MM} {k p q : Nat} (hF : FM (fun c => c = o + 5 ∨ c = o + 6) M0 M) (h : RDF g M o n f) (hx : XE M o k p q M1) : XT g M0 o n f k p q M1 := ⟨hx.1, hx.2.1, hx.2.2.1, hF.trans hx.2.2.2.1 (fun _ _ e => e) (fun _ _ e => e), h.fr hx.2.2.2⟩
theorem ct_X2_all (hW : RW g (sI M (o + 5) 1 (nI n)) o n f) : Ct g yX2_all cX2_all 3 (some (.object "Retouched$Terrace")) 61 (60 * n + 110) (4000 * n + 16000) [.ref (o + 5), .int (nI n)] M (AQ g M o n f (mZ M) (allP f n)) (TX g M o n f (allP f n)) := by
  have h := hW.1
  have hg := h.1
  have hgb := h.2.1
  have hO := hW.O
  have hc := hW.c
  have h1280 := hW.2.1
  have ho : o + 6 < mZ M := h.oz
  have r7 : mK M (o + 5) = 22 := h.2.2.2.2.2.2.2.1.1
  have e1 : allP f n = bnd (headP f n) (fun y => stmtsP f n (n + 1) (To0 y.1) 1 y.2) := rfl
  have e2 : headP f n = bnd (kwP f n wTerrace 0) (fun a => bnd (numP f n 2 9 (skip f n a)) (fun y => bnd (sgP f n 59 y.2) (fun b => .ok (y.1, b)))) := rfl
  refine Ct.of (by decide) (Nat.le_of_ble_eq_true rfl) rfl ?_
  refine r_ald0 (pc := 0) dX2_all_0 ?_
  refine r_new (pc := 1) (ci := 1) (kc' := 60 * n + 109) (ks' := 4000 * n + 15993) dX2_all_1 q531 q192 q146 (by decide) (by omega) (by omega) ?_
  generalize hM1 : nw M (20 + 1) 0 = M1
  have a1 : mZ M1 = mZ M + 1 := by rw [← hM1]; rfl
  have a2 : mK M1 (mZ M) = 21 := by rw [← hM1]; exact if_pos rfl
  have a3 : ∀ j, mI M1 (mZ M) j = nI 0 := fun j => by rw [← hM1]; exact if_pos rfl
  have a4 : ∀ j, mR M1 (mZ M) j = none := fun j => by rw [← hM1]; exact if_pos rfl
  have a5 : FM (fun _ => False) M M1 := by rw [← hM1]; exact FM.nw
  clear hM1
  refine r_dup (pc := 4) dX2_all_4 rfl ?_
  refine r_cINm (pc := 5) (kc' := 60 * n + 107) (ks' := 4000 * n + 15986) dX2_all_5 (cin_X2_112 hg) (ct_X1_init (M := M1) (a := mZ M) hO (by omega) (by omega) a2) rfl rfl (Nat.le_of_ble_eq_true rfl) (by decide) (by omega) (by omega) ?_
  rintro _ M2 ⟨rfl, hN⟩
  obtain ⟨b1, b2, b3, b4, b5, b6, b7, b8, b9⟩ := hN
  have F2 : FM (fun c => mZ M ≤ c) M M2 := a5.trans b9 (fun _ _ e => e.elim) (fun c hc e => by omega)
  have s5 := F2.2 (o + 5) (by omega) (fun q => by omega)
  refine r_putQ (pc := 8) (x := some (mZ M)) dX2_all_8 fl_X2_100 fw_X2_6 rfl rfl (s5.1.trans r7) (by omega) ?_
  refine r_ald0 (pc := 11) dX2_all_11 ?_
  refine r_ild1 (pc := 12) dX2_all_12 ?_
  refine r_putI (pc := 13) (ty := .int) dX2_all_13 fl_X2_29 ⟨rfl, rfl⟩ rfl rfl (s5.1.trans r7) (by omega) ?_
  refine r_ald0 (pc := 16) dX2_all_16 ?_
  refine r_iconst (v := nI 0) (pc := 17) dX2_all_17 (by decide) ?_
  refine r_putI (pc := 18) (ty := .int) dX2_all_18 fl_X2_36 ⟨rfl, rfl⟩ rfl rfl (s5.1.trans r7) (by omega) ?_
  refine r_ald0 (pc := 21) dX2_all_21 ?_
  refine r_iconst (v := nI 0) (pc := 22) dX2_all_22 (by decide) ?_
  refine r_putI (pc := 23) (ty := .int) dX2_all_23 fl_X2_113 ⟨rfl, rfl⟩ rfl rfl (s5.1.trans r7) (by omega) ?_
  generalize hM6 : sI (sI (sI (sR M2 (o + 5) 6 (some (mZ M))) (o + 5) 1 (nI n)) (o + 5) 2 (nI 0)) (o + 5) 4 (nI 0) = M6
  have z6 : mZ M6 = mZ M2 := by rw [← hM6]; rfl
  have S6 : ∀ c, c ≠ o + 5 → Sm M2 M6 c := fun c hc => by rw [← hM6]; exact (((Sm.sR hc).trans (Sm.sI hc)).trans (Sm.sI hc)).trans (Sm.sI hc)
  have k6 : mK M6 (o + 5) = mK M2 (o + 5) := by rw [← hM6]; rfl
  have r60 : mR M6 (o + 5) 0 = mR M2 (o + 5) 0 := by rw [← hM6]; exact mR_sRj (by decide)
  have r67 : mR M6 (o + 5) 7 = mR M2 (o + 5) 7 := by rw [← hM6]; exact mR_sRj (by decide)
  have r66 : mR M6 (o + 5) 6 = some (mZ M) := by rw [← hM6]; exact mR_sRs _ _ _ _
  have i61 : mI M6 (o + 5) 1 = nI n := by rw [← hM6, mI_sIj (by decide), mI_sIj (by decide), mI_sIs]
  have i62 : mI M6 (o + 5) 2 = nI 0 := by rw [← hM6, mI_sIj (by decide), mI_sIs]
  have i64 : mI M6 (o + 5) 4 = nI 0 := by rw [← hM6, mI_sIs]
  clear hM6
  have F6 : FM (fun c => c = o + 5 ∨ c = o + 6) M M6 := ⟨by have := F2.1; omega, fun c hc hn => (F2.2 c hc (fun q => by omega)).trans (S6 c (fun q => hn (Or.inl q)))⟩
  have W6 : RW g M6 o n f := hW.set F6.1 (fun c h1 h2 => (F2.2 c (by omega) (fun q => by omega)).trans (S6 c h2)) (k6.trans s5.1) (by rw [r60, s5.2.2.2.2]) (by rw [r67, s5.2.2.2.2]) i61
  have r76 := W6.1.2.2.2.2.2.2.2.1.1
  obtain ⟨zt, t1, t2⟩ := W6.tx (e := (116, "terrace", wTerrace)) (by decide)
  have hlw := lts_le f (n - skip f n 0) (skip f n 0)
  refine r_ald0 (pc := 26) dX2_all_26 ?_
  refine r_ldcS (pc := 27) (tx := "terrace") dX2_all_27 t1 ?_
  refine r_cVx (ci := 2) (pc := 29) (kc' := 60 * n + 104) (ks' := 4000 * n + 13422) dX2_all_29 cv_X2_93 r76 (ct_X2_word W6.1 hc t2 (Nat.zero_le n) i62) rfl rfl (Nat.le_of_ble_eq_true rfl) (by decide) (by omega) (by omega) (fun q M' hx => ⟨1, _, by rw [e1, e2, hx.1]; rfl, XT.of2 F6 W6.1 hx.2⟩) ?_
  rintro _ M7 ⟨rfl, c1, hc1, k7⟩
  have hc1n := kwP_le hc1
  have hc10 := (kwP_ok hc1).1
  have W7 := W6.fr k7.1
  have r77 := W7.1.2.2.2.2.2.2.2.1.1
  have F7 : FM (fun c => c = o + 5 ∨ c = o + 6) M M7 := F6.trans k7.1.1 (fun _ _ e => e) (fun _ _ e => e)
  have r67' : mR M7 (o + 5) 6 = some (mZ M) := by rw [k7.1.2.2.2.1]; exact r66
  refine r_ald0 (pc := 32) dX2_all_32 ?_
  refine r_getR (pc := 33) dX2_all_33 fl_X2_100 r77 r67' ?_
  refine r_ald0 (pc := 36) dX2_all_36 ?_
  refine r_iconst (v := nI 2) (pc := 37) dX2_all_37 (by decide) ?_
  refine r_bipush (v := nI 9) (pc := 38) dX2_all_38 (by decide) ?_
  refine r_cVx (ci := 2) (pc := 40) (kc' := 60 * n + 104) (ks' := 4000 * n + 13422) dX2_all_40 cv_X2_96 r77 (ct_X2_number (lo := 2) (hi := 9) W7.1 hc1n k7.2.1 (by decide) (by decide)) rfl rfl (Nat.le_of_ble_eq_true rfl) (by decide) (by omega) (by omega) (fun q M' hx => ?_) ?_
  · obtain ⟨kx, px, x1, x2⟩ := hx
    exact ⟨kx, px, by rw [e1, e2, hc1]; show bnd (bnd (numP f n 2 9 (skip f n c1)) _) _ = _; rw [x1]; rfl, XT.of2 F7 W7.1 x2⟩
  rintro _ M8 ⟨H, c2, hn, rfl, k8, -⟩
  obtain ⟨-, u1, u2, u3, u4⟩ := numP_ok hn
  have u1 : skip f n c1 < c2 := u1
  have u2 : c2 ≤ n := u2
  have u3 : 2 ≤ H := u3
  have u4 : H ≤ 9 := u4
  have W8 := W7.fr k8.1
  have F8 : FM (fun c => c = o + 5 ∨ c = o + 6) M M8 := F7.trans k8.1.1 (fun _ _ e => e) (fun _ _ e => e)
  have S28 : ∀ c, o + 6 < c → c < mZ M2 → Sm M2 M8 c := fun c h1 h2 => (S6 c (by omega)).trans ((k7.1.trans k8.1).sm (by omega) h1)
  have tk : mK M8 (mZ M) = 21 := (S28 (mZ M) (by omega) (by omega)).1.trans (b7.trans a2)
  refine r_putIN (pc := 43) (ty := .int) dX2_all_43 (fn_X2_118 hg) fw_X1_1 rfl rfl tk (by omega) ?_
  have W9 : RW g (sI M8 (mZ M) 1 (nI H)) o n f := W8.sm (Nat.le_refl _) (fun c hc => Sm.sI (by omega))
  have F9 : FM (fun c => c = o + 5 ∨ c = o + 6) M (sI M8 (mZ M) 1 (nI H)) := F8.trans (T := fun c => c = mZ M) (FM.sI fun _ => rfl) (fun _ _ e => e) (fun c hc e => by omega)
  have i92 : mI (sI M8 (mZ M) 1 (nI H)) (o + 5) 2 = nI c2 := (mI_sIa (by omega)).trans k8.2.1
  have i94 : mI (sI M8 (mZ M) 1 (nI H)) (o + 5) 4 = nI 0 := (mI_sIa (by omega)).trans (k8.2.2.trans (k7.2.2.trans i64))
  have r96 : mR (sI M8 (mZ M) 1 (nI H)) (o + 5) 6 = some (mZ M) := by rw [mR_sI, k8.1.2.2.2.1]; exact r67'
  have S29 : ∀ c, o + 6 < c → c < mZ M2 → c ≠ mZ M → Sm M2 (sI M8 (mZ M) 1 (nI H)) c := fun c h1 h2 h3 => (S28 c h1 h2).trans (Sm.sI h3)
  have t9 : mK (sI M8 (mZ M) 1 (nI H)) (mZ M) = 21 ∧ mI (sI M8 (mZ M) 1 (nI H)) (mZ M) 1 = nI H ∧ mI (sI M8 (mZ M) 1 (nI H)) (mZ M) 2 = nI 0 ∧ mR (sI M8 (mZ M) 1 (nI H)) (mZ M) 3 = some (mZ M1) ∧ ∀ i, i ≠ 3 → mR (sI M8 (mZ M) 1 (nI H)) (mZ M) i = none := by
    have q := S28 (mZ M) (by omega) (by omega)
    refine ⟨tk, mI_sIs _ _ _ _, ?_, ?_, fun i hi => ?_⟩
    · rw [mI_sIj (by decide), q.2.2.1, b6, a3]
    · rw [mR_sI, q.2.2.2.2, b4]
    · rw [mR_sI, q.2.2.2.2, b5 i hi, a4]
  have z9 : mZ M8 ≤ mZ (sI M8 (mZ M) 1 (nI H)) := Nat.le_refl _
  generalize sI M8 (mZ M) 1 (nI H) = M9 at *
  have r79 := W9.1.2.2.2.2.2.2.2.1.1
  refine r_ald0 (pc := 46) dX2_all_46 ?_
  refine r_bipush (v := nI 59) (pc := 47) dX2_all_47 (by decide) ?_
  refine r_cVx (ci := 2) (pc := 49) (kc' := 60 * n + 104) (ks' := 4000 * n + 13422) dX2_all_49 cv_X2_121 r79 (ct_X2_must (c := 59) W9.1 u2 i92 (by decide)) rfl rfl (Nat.le_of_ble_eq_true rfl) (by decide) (by omega) (by omega) (fun q M' hx => ?_) ?_
  · obtain ⟨kx, px, x1, x2⟩ := hx
    exact ⟨kx, px, by rw [e1, e2, hc1]; show bnd (bnd (numP f n 2 9 (skip f n c1)) _) _ = _; rw [hn]; show bnd (bnd (sgP f n 59 c2) _) _ = _; rw [x1]; rfl, XT.of2 F9 W9.1 x2⟩
  rintro _ M10 ⟨rfl, c3, hc3, k10⟩
  have hs3 := sgP_ok hc3
  have W10 := W9.fr k10.1
  have r710 := W10.1.2.2.2.2.2.2.2.1.1
  have F10 : FM (fun c => c = o + 5 ∨ c = o + 6) M M10 := F9.trans k10.1.1 (fun _ _ e => e) (fun _ _ e => e)
  have hz8 : mZ M2 ≤ mZ M8 := by have := k7.1.1.1; have := k8.1.1.1; omega
  have st10 := k10.1.sm (c := mZ M) (by omega) (by omega)
  have eA : allP f n = stmtsP f n (n + 1) (To0 H) 1 c3 := by rw [e1, e2, hc1]; show bnd (bnd (numP f n 2 9 (skip f n c1)) _) _ = _; rw [hn]; show bnd (bnd (sgP f n 59 c2) _) _ = _; rw [hc3]; rfl
  refine r_ald0 (pc := 52) dX2_all_52 ?_
  refine r_getR (pc := 53) dX2_all_53 fl_X2_100 r710 (by rw [k10.1.2.2.2.1]; exact r96) ?_
  refine r_iconst (v := nI 1) (pc := 56) dX2_all_56 (by decide) ?_
  refine r_putIN (pc := 57) (ty := .int) dX2_all_57 (fn_X2_125 hg) fw_X1_0 rfl rfl (st10.1.trans t9.1) (by omega) ?_
  have hS11 : ∀ c, o + 6 < c → c < mZ M2 → c ≠ mZ M → Sm M2 (sI M10 (mZ M) 0 (nI 1)) c := fun c h1 h2 h3 => ((S29 c h1 h2 h3).trans (k10.1.sm (by omega) h1)).trans (Sm.sI h3)
  have sl := hS11 (mZ M1) (by omega) (by omega) (by omega)
  have sv := hS11 (mZ M1 + 1) (by omega) (by omega) (by omega)
  have T11 : TLD g M (sI M10 (mZ M) 0 (nI 1)) o (mZ M) (mZ M1) (mZ M1 + 1) (fun _ => 0) (To0 H) 1 := by
    refine ⟨⟨st10.1.trans t9.1, mI_sIs _ _ _ _, ?_, ?_, ?_⟩, b1.fr sl sv, ?_, ⟨by omega, by omega, by omega⟩, ⟨Nat.le_refl _, by omega, by omega⟩, by rw [sv.2.1, b2]; decide, fun i z q => ?_, fun i hi => absurd hi (Nat.not_lt_zero i), fun i j hi => absurd hi (Nat.not_lt_zero i), fun i hi j => rfl, fun w hw => Or.inl ⟨rfl, ?_⟩, Or.inl ⟨rfl, ?_⟩⟩
    · rw [mI_sIj (by decide), st10.2.2.1]; exact t9.2.1
    · rw [mI_sIj (by decide), st10.2.2.1]; exact t9.2.2.1
    · rw [mR_sI, st10.2.2.2.2]; exact t9.2.2.2.1
    · have q1 := k10.1.1.1
      have q2 : mZ (sI M10 (mZ M) 0 (nI 1)) = mZ M10 := rfl
      omega
    · rw [sv.2.2.2.2, b3 i] at q; cases q
    · rw [mR_sI, st10.2.2.2.2]; exact t9.2.2.2.2 _ (by omega)
    · rw [mR_sI, st10.2.2.2.2]; exact t9.2.2.2.2 _ (by omega)
  have W11 : TW g M (sI M10 (mZ M) 0 (nI 1)) o n f (mZ M) (mZ M1) (mZ M1 + 1) (fun _ => 0) (To0 H) 1 c3 := ⟨W10.sm (Nat.le_refl _) (fun c hc => Sm.sI (by omega)), F10.trans (T := fun c => c = mZ M) (FM.sI fun _ => rfl) (fun _ _ e => e) (fun c hc e => by omega), ho, by rw [mR_sI, k10.1.2.2.2.1]; exact r96, by rw [mI_sIa (show o + 5 ≠ mZ M by omega), k10.2.2]; exact i94, by rw [mI_sIa (show o + 5 ≠ mZ M by omega)]; exact k10.2.1, hs3.2.1, T11, VT0 ⟨u3, u4⟩⟩
  rw [eA]
  exact Bd.kill 1 (Bd.spend (by omega) (by omega) (lp_all (n + 1) c3 (To0 H) 1 _ _ _ _ (by omega) W11 (by decide)))
end X88
