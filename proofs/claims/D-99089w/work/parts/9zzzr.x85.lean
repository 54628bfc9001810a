set_option maxRecDepth 100000
/-! THE READER: the statements told (2) -/
section X85
variable {g : GC} {M0 M : MM} {o n ta l v m a p d zw : Nat} {f : Nat → Nat} {tA : Nat → Nat} {T : To} {w : List Nat} {Pz : Nat → Prop}
theorem soul_len {y : To × Nat} (h : soulP f n T p a = .ok y) : a + 7 ≤ y.2 := by
  unfold soulP at h
  split at h
  · cases h
  obtain ⟨y1, h1, h⟩ := bnd_some h
  have k1 := (nmP_ok h1).2.2.2.2.1
  have k0 := skip_ge f n a
  split at h
  · unfold soulH at h
    obtain ⟨c, h2, h⟩ := bnd_some h
    have k2 := (kwP_ok h2).1
    obtain ⟨y2, h3, h⟩ := bnd_some h
    have k3 := (numP_ok h3).2.1
    have k3' := skip_ge f n c
    split at h
    · unfold soulK at h
      obtain ⟨c2, h4, h⟩ := bnd_some h
      have k4 := (kwP_ok h4).1
      obtain ⟨y3, h5, h⟩ := bnd_some h
      have k5 := (numP_ok h5).2.1
      have k5' := skip_ge f n c2
      obtain ⟨c3, h6, h⟩ := bnd_some h
      have k6 := (kwP_ok h6).1
      obtain ⟨y4, h7, h⟩ := bnd_some h
      have k7 := (numP_ok h7).2.1
      have k7' := skip_ge f n c3
      cases h
      show a + 7 ≤ y4.2
      omega
    · cases h
  · cases h
theorem oneP_len {y : Nat × Nat} (h : oneP f n T a = .ok y) : a < y.2 ∧ y.2 ≤ n := by
  unfold oneP at h
  obtain ⟨y1, h1, h⟩ := bnd_some h
  have k1 := nmP_ok h1
  have k0 := skip_ge f n a
  split at h
  · cases h
  · cases h
    show a < y1.2 ∧ y1.2 ≤ n
    omega
theorem think_len {y : To × Nat} (h : thinksP f n T a = .ok y) : a + 4 ≤ y.2 := by
  unfold thinksP at h
  obtain ⟨y1, h1, h⟩ := bnd_some h
  have k1 := (oneP_len h1).1
  obtain ⟨c, h2, h⟩ := bnd_some h
  have k2 := (kwP_ok h2).1
  obtain ⟨y2, h3, h⟩ := bnd_some h
  have k3 := (oneP_len h3).1
  split at h
  · cases h
  · obtain ⟨y3, h4, h⟩ := bnd_some h
    have k4 := (numP_ok h4).2.1
    have k4' := skip_ge f n y2.2
    cases h
    show a + 4 ≤ y3.2
    omega
theorem to_soul (W : TW g M0 M o n f ta l v tA T m a) : Bd g yX2_told cX2_told 7 none [] 60 20 10400 M 196 [some (.ref (o + 5)), none, some (.int (nI p)), none, none, none, none] [] (TQ g M0 o n f ta m (soulP f n T p a)) (TX g M0 o n f (soulP f n T p a)) := by
  have r7 := W.w.1.2.2.2.2.2.2.2.1.1
  refine r_ald0 (pc := 196) dX2_told_196 ?_
  refine r_ild2 (pc := 197) dX2_told_197 ?_
  refine r_cVx (ci := 2) (pc := 198) (kc' := 0) (ks' := 0) dX2_told_198 cv_X2_184 r7 (ct_X2_soul W) rfl rfl (Nat.le_of_ble_eq_true rfl) (by decide) (by omega) (by omega) (fun q M' hx => hx) ?_
  rintro v9 M2 ⟨rfl, hQ⟩
  refine r_goto (pc := 201) (tgt := 371) dX2_told_201 (by decide) ?_
  refine r_vret (pc := 371) dX2_told_371 ?_
  exact ⟨rfl, hQ⟩
theorem to_slip (W : TW g M0 M o n f ta l v tA T m a) : Bd g yX2_told cX2_told 7 none [] 60 0 0 M 347 [some (.ref (o + 5)), none, some (.int (nI p)), none, none, none, none] [] (TQ g M0 o n f ta m (slipP f n T a)) (TX g M0 o n f (slipP f n T a)) := by
  have h := W.w.1
  have hg := h.1
  have r7 := h.2.2.2.2.2.2.2.1.1
  have hgt := W.t.2.2.2.1.1
  have h0 := W.t.2.2.2.2.1.1
  have e1 : slipP f n T a = bnd (numP f n 0 100 (skip f n a)) (fun y => .ok (pL T y.1, y.2)) := rfl
  refine r_ald0 (pc := 347) dX2_told_347 ?_
  refine r_getR (pc := 348) dX2_told_348 fl_X2_100 r7 W.to ?_
  refine r_ald0 (pc := 351) dX2_told_351 ?_
  refine r_iconst (v := nI 0) (pc := 352) dX2_told_352 (by decide) ?_
  refine r_bipush (v := nI 100) (pc := 353) dX2_told_353 (by decide) ?_
  refine r_cVx (ci := 2) (pc := 355) (kc' := 0) (ks' := 0) dX2_told_355 cv_X2_96 r7 (ct_X2_number (lo := 0) (hi := 100) h W.le W.at (by decide) (by decide)) rfl rfl (Nat.le_of_ble_eq_true rfl) (by decide) (by omega) (by omega) (fun q M' hx => ?_) ?_
  · obtain ⟨k, q1, x1, x2⟩ := hx
    exact ⟨k, q1, by rw [e1, x1]; rfl, XT.of W x2⟩
  rintro _ M2 ⟨xx, b, hn, rfl, hRO, -⟩
  obtain ⟨-, -, u2, -, -⟩ := numP_ok hn
  have u2 : b ≤ n := u2
  have W2 := W.ro hRO u2
  refine r_putIN (pc := 358) (ty := .int) dX2_told_358 (fn_X2_214 hg) fw_X1_2 rfl rfl W2.t.1.1 hgt ?_
  refine r_goto (pc := 361) (tgt := 371) dX2_told_361 (by decide) ?_
  refine r_vret (pc := 371) dX2_told_371 ?_
  have e2 : slipP f n T a = .ok (pL T xx, b) := by rw [e1, hn]; rfl
  have T3 : TLD g M0 (sI M2 ta 2 (nI xx)) o ta l v tA (pL T xx) m := W2.t.stI (by decide) ((mI_sIj (by decide)).trans W2.t.1.2.1) ((mI_sIj (by decide)).trans W2.t.1.2.2.1) (mI_sIs _ _ _ _) rfl rfl rfl
  exact ⟨rfl, pL T xx, b, b, l, v, tA, e2, W2.sm (FM.sI fun _ => h0) T3 (slipP_ok W.V e2).1, rfl⟩
theorem to_think (W : TW g M0 M o n f ta l v tA T m a) : Bd g yX2_told cX2_told 7 none [] 60 9 7692 M 204 [some (.ref (o + 5)), none, some (.int (nI p)), none, none, none, none] [] (TQ g M0 o n f ta m (thinksP f n T a)) (TX g M0 o n f (thinksP f n T a)) := by
  have h := W.w.1
  have hg := h.1
  have hc := W.w.c
  have r7 := h.2.2.2.2.2.2.2.1.1
  have h1280 := W.w.2.1
  have h8 := W.V.2.2.1
  have hct := ct_X2_other (than := none) W (fun i q => by cases q)
  rw [show onI none = (-1 : Int32) from iI_n1] at hct
  have e1 : thinksP f n T a = bnd (oneP f n T a) (fun y => bnd (kwP f n wOf y.2) (fun b => bnd (oneP f n T b) (fun z => if y.1 = z.1 then .error (3, skip f n b) else bnd (numP f n 0 9 (skip f n z.2)) (fun v => .ok (pT T y.1 z.1 v.1, v.2))))) := rfl
  refine r_ald0 (pc := 204) dX2_told_204 ?_
  refine r_iconst (v := -1) (pc := 205) dX2_told_205 (by decide) ?_
  refine r_cVx (ci := 2) (pc := 206) (kc' := 6) (ks' := 5128) dX2_told_206 cv_X2_186 r7 hct rfl rfl (Nat.le_of_ble_eq_true rfl) (by decide) (by omega) (by omega) (fun q M' hx => ?_) ?_
  · obtain ⟨k, q1, x1, x2⟩ := hx
    rcases x1 with x1 | ⟨i, b, -, x1, -⟩
    · exact ⟨k, q1, by rw [e1, x1]; rfl, XT.of W x2⟩
    · cases x1
  rintro _ M1 ⟨i, b1, hi, hil, -, rfl, k1, kb1⟩
  have W1 := W.ro k1 kb1
  have r71 := W1.w.1.2.2.2.2.2.2.2.1.1
  have e2 : thinksP f n T a = bnd (kwP f n wOf b1) (fun b => bnd (oneP f n T b) (fun z => if i = z.1 then .error (3, skip f n b) else bnd (numP f n 0 9 (skip f n z.2)) (fun v => .ok (pT T i z.1 v.1, v.2)))) := by rw [e1, hi]; rfl
  obtain ⟨zt, t1, t2⟩ := W1.w.tx (e := (189, "of", wOf)) (by decide)
  have hlw := lts_le f (n - skip f n b1) (skip f n b1)
  refine r_ist5 (pc := 209) dX2_told_209 ?_
  refine r_ald0 (pc := 211) dX2_told_211 ?_
  refine r_ldcS (pc := 212) (tx := "of") dX2_told_212 t1 ?_
  refine r_cVx (ci := 2) (pc := 214) (kc' := 3) (ks' := 2564) dX2_told_214 cv_X2_93 r71 (ct_X2_word W1.w.1 hc t2 kb1 W1.at) rfl rfl (Nat.le_of_ble_eq_true rfl) (by decide) (by omega) (by omega) (fun q M' hx => ⟨1, _, by rw [e2, hx.1]; rfl, XT.of W1 hx.2⟩) ?_
  rintro _ M2 ⟨rfl, b2, hb2, k2⟩
  have kb2 := kwP_le hb2
  have W2 := W1.ro k2 kb2
  have r72 := W2.w.1.2.2.2.2.2.2.2.1.1
  have e3 : thinksP f n T a = bnd (oneP f n T b2) (fun z => if i = z.1 then .error (3, skip f n b2) else bnd (numP f n 0 9 (skip f n z.2)) (fun v => .ok (pT T i z.1 v.1, v.2))) := by rw [e2, hb2]; rfl
  refine r_ald0 (pc := 217) dX2_told_217 ?_
  refine r_ild5 (pc := 218) dX2_told_218 ?_
  refine r_cVx (ci := 2) (pc := 220) (kc' := 0) (ks' := 0) dX2_told_220 cv_X2_186 r72 (ct_X2_other (than := some i) W2 (fun j q => by cases q; omega)) rfl rfl (Nat.le_of_ble_eq_true rfl) (by decide) (by omega) (by omega) (fun q M' hx => ?_) ?_
  · obtain ⟨k, q1, x1, x2⟩ := hx
    rcases x1 with x1 | ⟨j, b, x1, x3, rfl, rfl⟩
    · exact ⟨k, q1, by rw [e3, x1]; rfl, XT.of W2 x2⟩
    · cases x3
      exact ⟨3, skip f n b2, by rw [e3, x1]; show (if i = i then _ else _) = _; rw [if_pos rfl], XT.of W2 x2⟩
  rintro _ M3 ⟨j, b3, hj, hjl, hij, rfl, k3, kb3⟩
  have W3 := W2.ro k3 kb3
  have r73 := W3.w.1.2.2.2.2.2.2.2.1.1
  have hij : i ≠ j := fun q => hij (by rw [q])
  have e4 : thinksP f n T a = bnd (numP f n 0 9 (skip f n b3)) (fun v => .ok (pT T i j v.1, v.2)) := by rw [e3, hj]; show (if i = j then _ else _) = _; rw [if_neg hij]
  obtain ⟨aa, s1, s2, s3, s4, s5⟩ := W3.t.2.2.2.2.2.2.2.1 i hil
  refine r_ist6 (pc := 223) dX2_told_223 ?_
  refine r_ald0 (pc := 225) dX2_told_225 ?_
  refine r_getR (pc := 226) dX2_told_226 fl_X2_100 r73 W3.to ?_
  refine r_getRN (pc := 229) dX2_told_229 (fn_X2_136 hg) W3.t.1.1 W3.t.1.2.2.2.2 ?_
  refine r_ild5 (pc := 232) dX2_told_232 ?_
  refine r_cF (pc := 234) dX2_told_234 (cf_X2_191 hg) W3.t.2.1.1 (ct_J2_get W3.t.2.1 hil s1) rfl rfl (Nat.le_of_ble_eq_true rfl) (by decide) ?_
  rintro _ M8 ⟨rfl, e8⟩
  rw [e8]
  refine r_castE (ci := 7) (pc := 239) dX2_told_239 q796 s2.2.1 ?_
  refine r_getRN (pc := 242) dX2_told_242 (fn_X2_195 hg) s2.2.1 s2.2.2.2.2.1 ?_
  refine r_ild6 (pc := 245) dX2_told_245 ?_
  refine r_ald0 (pc := 247) dX2_told_247 ?_
  refine r_iconst (v := nI 0) (pc := 248) dX2_told_248 (by decide) ?_
  refine r_bipush (v := nI 9) (pc := 249) dX2_told_249 (by decide) ?_
  refine r_cVx (ci := 2) (pc := 251) (kc' := 0) (ks' := 0) dX2_told_251 cv_X2_96 r73 (ct_X2_number (lo := 0) (hi := 9) W3.w.1 kb3 W3.at (by decide) (by decide)) rfl rfl (Nat.le_of_ble_eq_true rfl) (by decide) (by omega) (by omega) (fun q M' hx => ?_) ?_
  · obtain ⟨k, q1, x1, x2⟩ := hx
    exact ⟨k, q1, by rw [e4, x1]; rfl, XT.of W3 x2⟩
  rintro _ M4 ⟨xx, b4, hn, rfl, k4, -⟩
  obtain ⟨-, -, u2, -, -⟩ := numP_ok hn
  have u2 : b4 ≤ n := u2
  have W4 := W3.ro k4 u2
  obtain ⟨aa4, s14, s24, -⟩ := W4.t.2.2.2.2.2.2.2.1 i hil
  refine r_iast (pc := 254) dX2_told_254 s24.2.2.2.2.2.1 (by rw [s24.2.2.2.2.2.2.1]; omega) (by omega) s5 ?_
  refine r_goto (pc := 255) (tgt := 371) dX2_told_255 (by decide) ?_
  refine r_vret (pc := 371) dX2_told_371 ?_
  have e5 : thinksP f n T a = .ok (pT T i j xx, b4) := by rw [e4, hn]; rfl
  exact ⟨rfl, pT T i j xx, b4, b4, l, v, tA, e5, W4.sm (FM.sI fun _ => s3) (W4.t.think hil (by omega)) (thinksP_ok W.V e5).1, rfl⟩
end X85
