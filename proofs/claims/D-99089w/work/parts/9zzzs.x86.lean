set_option maxRecDepth 100000
/-! THE READER: the statements told (3) -/
section X86
variable {g : GC} {M0 M : MM} {o n ta l v m a p d zw : Nat} {f : Nat → Nat} {tA : Nat → Nat} {T : To} {w : List Nat} {Pz : Nat → Prop}
theorem to_paints (W : TW g M0 M o n f ta l v tA T m a) : Bd g yX2_told cX2_told 7 none [] 60 (cstB 60 0 80 n a (codesP f n T 0 p a)) (cstB 4000 1200 12000 n a (codesP f n T 0 p a)) M 258 [some (.ref (o + 5)), none, some (.int (nI p)), none, none, none, none] [] (TQ g M0 o n f ta m (codesP f n T 0 p a)) (TX g M0 o n f (codesP f n T 0 p a)) := by
  have h := W.w.1
  have hg := h.1
  have r7 := h.2.2.2.2.2.2.2.1.1
  have hgt := W.t.2.2.2.1.1
  have h0 := W.t.2.2.2.2.1.1
  have hz0 := W.z0
  rcases W.t.2.2.2.2.2.2.2.2.2.2.1 0 (by decide) with ⟨hn, hr⟩ | ⟨cs, xx, hs, hr, -⟩
  · have hr : mR M ta 4 = none := hr
    have e1 : codesP f n T 0 p a = bnd (sumP f n (atomP f n 0 6) a) (fun y => .ok (pC T 0 y.1, y.2)) := by
      unfold codesP
      rw [if_pos hn]
      rfl
    rw [e1]
    have c1 : cst 60 30 30 n a (sumP f n (atomP f n 0 6) a) ≤ cstB 60 0 80 n a (bnd (sumP f n (atomP f n 0 6) a) (fun y => .ok (pC T 0 y.1, y.2))) ∧ cst 4000 400 400 n a (sumP f n (atomP f n 0 6) a) ≤ cstB 4000 1200 12000 n a (bnd (sumP f n (atomP f n 0 6) a) (fun y => .ok (pC T 0 y.1, y.2))) := by
      cases h1 : sumP f n (atomP f n 0 6) a with
      | error e => show 60 * (n - a) + 30 ≤ 60 * (n - a) + 80 ∧ 4000 * (n - a) + 400 ≤ 4000 * (n - a) + 12000; omega
      | ok y =>
        have := (sumP_prg (atomP_prg 6) a y h1).1
        show 60 * (y.2 - a - 1) + 30 ≤ 60 * (y.2 - a) + 0 ∧ 4000 * (y.2 - a - 1) + 400 ≤ 4000 * (y.2 - a) + 1200
        omega
    have hco := ct_X2_once0 (x := 0) (p := p) W (by decide)
    rw [show cxN 0 = 63 from rfl] at hco
    have Wx := W.cx (v5 := nI 63)
    generalize hkc : cstB 60 0 80 n a (bnd (sumP f n (atomP f n 0 6) a) (fun y => .ok (pC T 0 y.1, y.2))) = kc at *
    generalize hks : cstB 4000 1200 12000 n a (bnd (sumP f n (atomP f n 0 6) a) (fun y => .ok (pC T 0 y.1, y.2))) = ks at *
    refine r_ald0 (pc := 258) dX2_told_258 ?_
    refine r_getR (pc := 259) dX2_told_259 fl_X2_100 r7 W.to ?_
    refine r_ald0 (pc := 262) dX2_told_262 ?_
    refine r_ald0 (pc := 263) dX2_told_263 ?_
    refine r_getR (pc := 264) dX2_told_264 fl_X2_100 r7 W.to ?_
    refine r_getQN (pc := 267) dX2_told_267 (fn_X2_198 hg) W.t.1.1 ?_
    rw [hr]
    refine r_ild2 (pc := 270) dX2_told_270 ?_
    refine r_bipush (v := nI 63) (pc := 271) dX2_told_271 (by decide) ?_
    refine r_cVx (ci := 2) (pc := 273) (kc' := 0) (ks' := 0) dX2_told_273 cv_X2_201 r7 hco rfl rfl (Nat.le_of_ble_eq_true rfl) (by decide) (by omega) (by omega) (fun q M' hx => ?_) ?_
    · obtain ⟨k, q1, x1, x2⟩ := hx
      exact ⟨k, q1, by rw [x1]; rfl, XT.of Wx x2⟩
    rintro _ M2 ⟨y, z, hy, rfl, hV, hRO⟩
    have hpg := sumP_prg (atomP_prg 6) a y hy
    have W2 := Wx.ro hRO hpg.2.1
    have hV2 := TW.pt Wx.t Wx.2.1.1 hV (by decide)
    refine r_putQN (pc := 276) (x := some z) dX2_told_276 (fn_X2_198 hg) fw_X1_4 rfl rfl W2.t.1.1 hgt ?_
    refine r_goto (pc := 279) (tgt := 371) dX2_told_279 (by decide) ?_
    refine r_vret (pc := 371) dX2_told_371 ?_
    have e2 : codesP f n T 0 p a = .ok (pC T 0 y.1, y.2) := by rw [e1, hy]; rfl
    have T3 : TLD g M0 (sR M2 ta 4 (some z)) o ta l v tA (pC T 0 y.1) m := W2.t.codes (w := 0) (by decide) hV2
    exact ⟨rfl, pC T 0 y.1, y.2, y.2, l, v, tA, by rw [hy]; rfl, W2.sm (FM.sR fun _ => h0) T3 (codesP_ok (by decide) W.w.1.2.2.2.2.1 W.V e2).1, rfl⟩
  · have hr : mR M ta 4 = some xx := hr
    have e1 : codesP f n T 0 p a = .error (5, p) := by
      unfold codesP
      rw [if_neg (by rw [hs]; exact fun q => by cases q)]
    rw [e1]
    refine r_ald0 (pc := 258) dX2_told_258 ?_
    refine r_getR (pc := 259) dX2_told_259 fl_X2_100 r7 W.to ?_
    refine r_ald0 (pc := 262) dX2_told_262 ?_
    refine r_ald0 (pc := 263) dX2_told_263 ?_
    refine r_getR (pc := 264) dX2_told_264 fl_X2_100 r7 W.to ?_
    refine r_getQN (pc := 267) dX2_told_267 (fn_X2_198 hg) W.t.1.1 ?_
    rw [hr]
    refine r_ild2 (pc := 270) dX2_told_270 ?_
    refine r_bipush (v := nI 63) (pc := 271) dX2_told_271 (by decide) ?_
    refine r_cVx (ci := 2) (pc := 273) (kc' := 0) (ks' := 0) dX2_told_273 cv_X2_201 r7 (ct_X2_once1 (xx := xx) (p := p) h) rfl rfl (Nat.le_of_ble_eq_true rfl) (by decide) (by omega) (by omega) (fun q M' hx => ⟨5, p, rfl, XT.of W hx⟩) ?_
    rintro _ M2 hF
    exact hF.elim
theorem to_minds (W : TW g M0 M o n f ta l v tA T m a) : Bd g yX2_told cX2_told 7 none [] 60 (cstB 60 0 80 n a (codesP f n T 1 p a)) (cstB 4000 1200 12000 n a (codesP f n T 1 p a)) M 282 [some (.ref (o + 5)), none, some (.int (nI p)), none, none, none, none] [] (TQ g M0 o n f ta m (codesP f n T 1 p a)) (TX g M0 o n f (codesP f n T 1 p a)) := by
  have h := W.w.1
  have hg := h.1
  have r7 := h.2.2.2.2.2.2.2.1.1
  have hgt := W.t.2.2.2.1.1
  have h0 := W.t.2.2.2.2.1.1
  have hz0 := W.z0
  rcases W.t.2.2.2.2.2.2.2.2.2.2.1 1 (by decide) with ⟨hn, hr⟩ | ⟨cs, xx, hs, hr, -⟩
  · have hr : mR M ta 5 = none := hr
    have e1 : codesP f n T 1 p a = bnd (sumP f n (atomP f n 1 6) a) (fun y => .ok (pC T 1 y.1, y.2)) := by
      unfold codesP
      rw [if_pos hn]
      rfl
    rw [e1]
    have c1 : cst 60 30 30 n a (sumP f n (atomP f n 1 6) a) ≤ cstB 60 0 80 n a (bnd (sumP f n (atomP f n 1 6) a) (fun y => .ok (pC T 1 y.1, y.2))) ∧ cst 4000 400 400 n a (sumP f n (atomP f n 1 6) a) ≤ cstB 4000 1200 12000 n a (bnd (sumP f n (atomP f n 1 6) a) (fun y => .ok (pC T 1 y.1, y.2))) := by
      cases h1 : sumP f n (atomP f n 1 6) a with
      | error e => show 60 * (n - a) + 30 ≤ 60 * (n - a) + 80 ∧ 4000 * (n - a) + 400 ≤ 4000 * (n - a) + 12000; omega
      | ok y =>
        have := (sumP_prg (atomP_prg 6) a y h1).1
        show 60 * (y.2 - a - 1) + 30 ≤ 60 * (y.2 - a) + 0 ∧ 4000 * (y.2 - a - 1) + 400 ≤ 4000 * (y.2 - a) + 1200
        omega
    have hco := ct_X2_once0 (x := 1) (p := p) W (by decide)
    rw [show cxN 1 = 79 from rfl] at hco
    have Wx := W.cx (v5 := nI 79)
    generalize hkc : cstB 60 0 80 n a (bnd (sumP f n (atomP f n 1 6) a) (fun y => .ok (pC T 1 y.1, y.2))) = kc at *
    generalize hks : cstB 4000 1200 12000 n a (bnd (sumP f n (atomP f n 1 6) a) (fun y => .ok (pC T 1 y.1, y.2))) = ks at *
    refine r_ald0 (pc := 282) dX2_told_282 ?_
    refine r_getR (pc := 283) dX2_told_283 fl_X2_100 r7 W.to ?_
    refine r_ald0 (pc := 286) dX2_told_286 ?_
    refine r_ald0 (pc := 287) dX2_told_287 ?_
    refine r_getR (pc := 288) dX2_told_288 fl_X2_100 r7 W.to ?_
    refine r_getQN (pc := 291) dX2_told_291 (fn_X2_205 hg) W.t.1.1 ?_
    rw [hr]
    refine r_ild2 (pc := 294) dX2_told_294 ?_
    refine r_bipush (v := nI 79) (pc := 295) dX2_told_295 (by decide) ?_
    refine r_cVx (ci := 2) (pc := 297) (kc' := 0) (ks' := 0) dX2_told_297 cv_X2_201 r7 hco rfl rfl (Nat.le_of_ble_eq_true rfl) (by decide) (by omega) (by omega) (fun q M' hx => ?_) ?_
    · obtain ⟨k, q1, x1, x2⟩ := hx
      exact ⟨k, q1, by rw [x1]; rfl, XT.of Wx x2⟩
    rintro _ M2 ⟨y, z, hy, rfl, hV, hRO⟩
    have hpg := sumP_prg (atomP_prg 6) a y hy
    have W2 := Wx.ro hRO hpg.2.1
    have hV2 := TW.pt Wx.t Wx.2.1.1 hV (by decide)
    refine r_putQN (pc := 300) (x := some z) dX2_told_300 (fn_X2_205 hg) fw_X1_5 rfl rfl W2.t.1.1 hgt ?_
    refine r_goto (pc := 303) (tgt := 371) dX2_told_303 (by decide) ?_
    refine r_vret (pc := 371) dX2_told_371 ?_
    have e2 : codesP f n T 1 p a = .ok (pC T 1 y.1, y.2) := by rw [e1, hy]; rfl
    have T3 : TLD g M0 (sR M2 ta 5 (some z)) o ta l v tA (pC T 1 y.1) m := W2.t.codes (w := 1) (by decide) hV2
    exact ⟨rfl, pC T 1 y.1, y.2, y.2, l, v, tA, by rw [hy]; rfl, W2.sm (FM.sR fun _ => h0) T3 (codesP_ok (by decide) W.w.1.2.2.2.2.1 W.V e2).1, rfl⟩
  · have hr : mR M ta 5 = some xx := hr
    have e1 : codesP f n T 1 p a = .error (5, p) := by
      unfold codesP
      rw [if_neg (by rw [hs]; exact fun q => by cases q)]
    rw [e1]
    refine r_ald0 (pc := 282) dX2_told_282 ?_
    refine r_getR (pc := 283) dX2_told_283 fl_X2_100 r7 W.to ?_
    refine r_ald0 (pc := 286) dX2_told_286 ?_
    refine r_ald0 (pc := 287) dX2_told_287 ?_
    refine r_getR (pc := 288) dX2_told_288 fl_X2_100 r7 W.to ?_
    refine r_getQN (pc := 291) dX2_told_291 (fn_X2_205 hg) W.t.1.1 ?_
    rw [hr]
    refine r_ild2 (pc := 294) dX2_told_294 ?_
    refine r_bipush (v := nI 79) (pc := 295) dX2_told_295 (by decide) ?_
    refine r_cVx (ci := 2) (pc := 297) (kc' := 0) (ks' := 0) dX2_told_297 cv_X2_201 r7 (ct_X2_once1 (xx := xx) (p := p) h) rfl rfl (Nat.le_of_ble_eq_true rfl) (by decide) (by omega) (by omega) (fun q M' hx => ⟨5, p, rfl, XT.of W hx⟩) ?_
    rintro _ M2 hF
    exact hF.elim
theorem to_feud (W : TW g M0 M o n f ta l v tA T m a) : Bd g yX2_told cX2_told 7 none [] 60 (cstB 60 0 80 n a (codesP f n T 2 p a)) (cstB 4000 1200 12000 n a (codesP f n T 2 p a)) M 306 [some (.ref (o + 5)), none, some (.int (nI p)), none, none, none, none] [] (TQ g M0 o n f ta m (codesP f n T 2 p a)) (TX g M0 o n f (codesP f n T 2 p a)) := by
  have h := W.w.1
  have hg := h.1
  have hgb := h.2.1
  have r7 := h.2.2.2.2.2.2.2.1.1
  have hgt := W.t.2.2.2.1.1
  have h0 := W.t.2.2.2.2.1.1
  have hz0 := W.z0
  rcases W.t.2.2.2.2.2.2.2.2.2.2.2 with ⟨hn, hr⟩ | ⟨cs, xx, hs, hr, -⟩
  · have e1 : codesP f n T 2 p a = bnd (testP f n (factP f n 2 6) a) (fun y => .ok (pC T 2 y.1, y.2)) := by
      unfold codesP
      rw [if_pos hn]
      rfl
    rw [e1]
    have c1 : cst 60 20 60 n a (testP f n (factP f n 2 6) a) ≤ cstB 60 0 80 n a (bnd (testP f n (factP f n 2 6) a) (fun y => .ok (pC T 2 y.1, y.2))) ∧ cst 4000 5200 5900 n a (testP f n (factP f n 2 6) a) ≤ cstB 4000 1200 12000 n a (bnd (testP f n (factP f n 2 6) a) (fun y => .ok (pC T 2 y.1, y.2))) := by
      cases h1 : testP f n (factP f n 2 6) a with
      | error e => show 60 * (n - a) + 60 ≤ 60 * (n - a) + 80 ∧ 4000 * (n - a) + 5900 ≤ 4000 * (n - a) + 12000; omega
      | ok y =>
        have := (testP_prg (factP_prg 6) a y h1).1
        show 60 * (y.2 - a - 1) + 20 ≤ 60 * (y.2 - a) + 0 ∧ 4000 * (y.2 - a - 1) + 5200 ≤ 4000 * (y.2 - a) + 1200
        omega
    have Wx := W.cx (v5 := nI 143)
    have hWA := W.rwa (x := 2) (by decide)
    rw [show cxN 2 = 143 from rfl] at hWA
    have hts := ct_tests (g := g) (o := o) (n := n) (f := f) (x := 2) (oo := 6) _ a hWA
    have r7x := Wx.w.1.2.2.2.2.2.2.2.1.1
    generalize hkc : cstB 60 0 80 n a (bnd (testP f n (factP f n 2 6) a) (fun y => .ok (pC T 2 y.1, y.2))) = kc at *
    generalize hks : cstB 4000 1200 12000 n a (bnd (testP f n (factP f n 2 6) a) (fun y => .ok (pC T 2 y.1, y.2))) = ks at *
    refine r_ald0 (pc := 306) dX2_told_306 ?_
    refine r_ald0 (pc := 307) dX2_told_307 ?_
    refine r_getR (pc := 308) dX2_told_308 fl_X2_100 r7 W.to ?_
    refine r_getQN (pc := 311) dX2_told_311 (fn_X2_207 hg) W.t.1.1 ?_
    rw [hr]
    refine r_ifnull (pc := 314) (tgt := 321) dX2_told_314 (by decide) (fun h314 => ?_) (fun _ h314 => ?_)
    · skip
      refine r_iconst (v := nI 0) (pc := 321) dX2_told_321 (by decide) ?_
      refine r_ild2 (pc := 322) dX2_told_322 ?_
      refine r_cV (ci := 2) (pc := 323) dX2_told_323 cv_X2_128 r7 (ct_most0 h) rfl rfl (Nat.le_of_ble_eq_true rfl) (by decide) ?_
      rintro _ M9 ⟨rfl, e9⟩
      rw [e9]
      refine r_ald0 (pc := 326) dX2_told_326 ?_
      refine r_sipush (v := nI 143) (pc := 327) dX2_told_327 (by decide) ?_
      refine r_putI (pc := 330) (ty := .int) dX2_told_330 fl_X2_162 ⟨rfl, rfl⟩ rfl rfl r7 (by omega) ?_
      generalize sI M (o + 5) 5 (nI 143) = M1 at *
      refine r_ald0 (pc := 333) dX2_told_333 ?_
      refine r_getR (pc := 334) dX2_told_334 fl_X2_100 r7x Wx.to ?_
      refine r_ald0 (pc := 337) dX2_told_337 ?_
      refine r_cVx (ci := 2) (pc := 338) (kc' := 0) (ks' := 0) dX2_told_338 cv_X2_210 r7x hts rfl rfl (Nat.le_of_ble_eq_true rfl) (by decide) (by omega) (by omega) (fun q M' hx => ?_) ?_
      · obtain ⟨k, q1, x1, x2⟩ := hx
        exact ⟨k, q1, by rw [x1]; rfl, XT.of Wx x2⟩
      rintro _ M2 ⟨y, z, b, hy, rfl, hV, hRO, kb, kz⟩
      have W2 := Wx.ro hRO kb
      have hV2 := TW.ptT Wx.t Wx.2.1.1 hV (by decide)
      refine r_putQN (pc := 341) (x := some z) dX2_told_341 (fn_X2_207 hg) fw_X1_6 rfl rfl W2.t.1.1 hgt ?_
      refine r_goto (pc := 344) (tgt := 371) dX2_told_344 (by decide) ?_
      refine r_vret (pc := 371) dX2_told_371 ?_
      have e2 : codesP f n T 2 p a = .ok (pC T 2 y.1, y.2) := by rw [e1, hy]; rfl
      exact ⟨rfl, pC T 2 y.1, y.2, b, l, v, tA, by rw [hy]; rfl, W2.sm (FM.sR fun _ => h0) (W2.t.codesT hV2) (codesP_ok (by decide) W.w.1.2.2.2.2.1 W.V e2).1, kz⟩
    · skip
      exact absurd h314 (by simp)
  · have e1 : codesP f n T 2 p a = .error (5, p) := by
      unfold codesP
      rw [if_neg (by rw [hs]; exact fun q => by cases q)]
    rw [e1]
    refine r_ald0 (pc := 306) dX2_told_306 ?_
    refine r_ald0 (pc := 307) dX2_told_307 ?_
    refine r_getR (pc := 308) dX2_told_308 fl_X2_100 r7 W.to ?_
    refine r_getQN (pc := 311) dX2_told_311 (fn_X2_207 hg) W.t.1.1 ?_
    rw [hr]
    refine r_ifnull (pc := 314) (tgt := 321) dX2_told_314 (by decide) (fun h314 => ?_) (fun _ h314 => ?_)
    · skip
      exact absurd h314 (by simp)
    · skip
      refine r_iconst (v := nI 1) (pc := 317) dX2_told_317 (by decide) ?_
      refine r_goto (pc := 318) (tgt := 322) dX2_told_318 (by decide) ?_
      refine r_ild2 (pc := 322) dX2_told_322 ?_
      refine r_cVx (ci := 2) (pc := 323) (kc' := 0) (ks' := 0) dX2_told_323 cv_X2_128 r7 (ct_most1 h) rfl rfl (Nat.le_of_ble_eq_true rfl) (by decide) (by omega) (by omega) (fun q M' hx => ⟨5, p, rfl, XT.of W hx⟩) ?_
      rintro _ M9 hF
      exact hF.elim
theorem ct_X2_told (W : TW g M0 M o n f ta l v tA T m a) (hw : WZ g M Pz zw w) (hzw : mZ M0 ≤ zw) (hT1 : ∀ j x, TLD g M0 (sI M zw j x) o ta l v tA T m) : Ct g yX2_told cX2_told 7 none 60 (cstB 60 0 80 n a (bodyP f n T w p a)) (cstB 4000 1200 12000 n a (bodyP f n T w p a)) [.ref (o + 5), .ref zw, .int (nI p)] M (TQ g M0 o n f ta m (bodyP f n T w p a)) (TX g M0 o n f (bodyP f n T w p a)) := by
  have hz0 := W.z0
  have hoz : o + 6 < zw := by omega
  have W1 : ∀ j x, TW g M0 (sI M zw j x) o n f ta l v tA T m a := fun j x => W.sm (FM.sI fun _ => hzw) (hT1 j x) W.V
  refine Ct.of (by decide) (Nat.le_of_ble_eq_true rfl) rfl ?_
  by_cases n0 : w = wSoul
  · have er : bodyP f n T w p a = soulP f n T p a := by unfold bodyP; rw [if_pos n0]
    rw [er]
    subst n0
    refine told_Soul W.w hw hoz (by decide) (fun j x hj => Bd.spend ?_ ?_ (to_soul (W1 j x)))
    · cases h1 : soulP f n T p a with
      | error e => rw [cstB_er]; omega
      | ok y => have := soul_len h1; rw [cstB_ok]; omega
    · cases h1 : soulP f n T p a with
      | error e => rw [cstB_er]; omega
      | ok y => have := soul_len h1; rw [cstB_ok]; omega
  by_cases n1 : w = wThinks
  · have er : bodyP f n T w p a = thinksP f n T a := by unfold bodyP; rw [if_neg n0, if_pos n1]
    rw [er]
    subst n1
    refine told_Thinks W.w hw hoz (by decide) (fun j x hj => Bd.spend ?_ ?_ (to_think (W1 j x)))
    · cases h1 : thinksP f n T a with
      | error e => rw [cstB_er]; omega
      | ok y => have := think_len h1; rw [cstB_ok]; omega
    · cases h1 : thinksP f n T a with
      | error e => rw [cstB_er]; omega
      | ok y => have := think_len h1; rw [cstB_ok]; omega
  by_cases n2 : w = wPaints
  · have er : bodyP f n T w p a = codesP f n T 0 p a := by unfold bodyP; rw [if_neg n0, if_neg n1, if_pos n2]
    rw [er]
    subst n2
    exact told_Paints W.w hw hoz (by decide) (fun j x hj => to_paints (W1 j x))
  by_cases n3 : w = wMinds
  · have er : bodyP f n T w p a = codesP f n T 1 p a := by unfold bodyP; rw [if_neg n0, if_neg n1, if_neg n2, if_pos n3]
    rw [er]
    subst n3
    exact told_Minds W.w hw hoz (by decide) (fun j x hj => to_minds (W1 j x))
  by_cases n4 : w = wFeud
  · have er : bodyP f n T w p a = codesP f n T 2 p a := by unfold bodyP; rw [if_neg n0, if_neg n1, if_neg n2, if_neg n3, if_pos n4]
    rw [er]
    subst n4
    exact told_Feud W.w hw hoz (by decide) (fun j x hj => to_feud (W1 j x))
  by_cases n5 : w = wSlip
  · have er : bodyP f n T w p a = slipP f n T a := by unfold bodyP; rw [if_neg n0, if_neg n1, if_neg n2, if_neg n3, if_neg n4, if_pos n5]
    rw [er]
    subst n5
    exact told_Slip W.w hw hoz (by decide) (fun j x hj => Bd.spend (Nat.zero_le _) (Nat.zero_le _) (to_slip (W1 j x)))
  have er : bodyP f n T w p a = .error (1, p) := by unfold bodyP; rw [if_neg n0, if_neg n1, if_neg n2, if_neg n3, if_neg n4, if_neg n5]
  rw [er]
  refine told_no W.w hw hoz (by decide) n0 n1 n2 n3 n4 n5 (fun M1 h1 f1 => ?_)
  have f2 : FM (fun c => c = o + 5 ∨ c = o + 6) M0 M1 := W.2.1.trans f1 (fun _ _ e => e) (fun c hc e => by omega)
  refine ⟨1, p, rfl, rfl, (mI_sIj (by decide)).trans (mI_sIs _ _ _ _), mI_sIs _ _ _ _, ?_, ?_⟩
  · exact (f2.trans (T := fun c => c = o + 6) (FM.sI fun _ => rfl) (fun _ _ e => e) (fun c hc e => Or.inr e)).trans (T := fun c => c = o + 6) (FM.sI fun _ => rfl) (fun _ _ e => e) (fun c hc e => Or.inr e)
  · exact h1.ft.ft
end X86
