set_option maxRecDepth 100000
/-! THE READER: X2_test -/
section X75
variable {g : GC} {o n x oo D d : Nat} {f : Nat → Nat} {it : Nat → Rz}
theorem lp_X2_test (hpr : prg n it) (hit : CtT g yX2_both cX2_both 2 d 10 50 2600 5800 o n f x oo D it) {M0 : MM} {a0 : Nat} (W0 : RWA g M0 o n f x oo a0) (hd : 20 ≤ d) : ∀ k c b cs M fa l v kk F, n + 1 ≤ c + k → c ≤ n → b ≤ n → skip f n b = skip f n c → RO M0 o b M → FCW g M0 M o D fa l v kk false F → 1 ≤ kk → 2 * kk ≤ c + 1 → chC F (fun _ => 11) (kk - 1) = cs → Bd g yX2_test cX2_test 2 (some (.object "Retouched$Test")) [] (d + 1) (clp 60 3 60 n c (loopT f n it wOr 11 k cs c)) (clp 4000 2564 5900 n c (loopT f n it wOr 11 k cs c)) M 23 [some (.ref (o + 5)), some (.ref fa)] [] (RTQ M0 o n f (D + 1) (loopT f n it wOr 11 k cs c)) (RVX M0 o (loopT f n it wOr 11 k cs c)) := by
  have ho := W0.rd.oz
  have hg := W0.rd.1
  have h1280 := W0.1.2.1
  have hcs0 := W0.1.c
  obtain ⟨mi, hmi⟩ := W0.1.2.2.1.2.2
  intro k
  induction k with
  | zero =>
    intro c b cs M fa l v kk F j1 j2
    exact absurd j1 (by omega)
  | succ k ih =>
    intro c b cs M fa l v kk F j1 j2 jb jsk hR hC hk hkb hcs
    have W := W0.to hR jb
    have hrd := W.rd
    have r7 := hrd.2.2.2.2.2.2.2.1.1
    have hsl := skip_le (f := f) jb
    have hsg := skip_ge f n c
    have hlw := lts_le f (n - skip f n b) (skip f n b)
    obtain ⟨zt, t1, t2⟩ := W.1.tx (e := (280, "or", wOr)) (by decide)
    have hps := ct_X2_passes hrd hcs0 t2 jb W.at
    have ep : psW f n wOr b = psW f n wOr c := psW_eq jsk
    cases hq : psW f n wOr c with
    | error e =>
      have er : loopT f n it wOr 11 (k + 1) cs c = .error e := by rw [loopT, hq]
      rw [er, clp_er, clp_er]
      have hq' : psW f n wOr b = .error e := ep.trans hq
      refine r_ald0 (pc := 23) dX2_test_23 ?_
      refine r_ldcwS (pc := 24) (tx := "or") dX2_test_24 t1 ?_
      refine r_cVx (ci := 2) (pc := 27) (kc' := 0) (ks' := 0) dX2_test_27 cv_X2_282 r7 hps rfl rfl (Nat.le_of_ble_eq_true rfl) (by omega) (by omega) (by omega) (fun q M' hx => ?_) ?_
      · have h8 := hx.1
        rw [hq'] at h8
        cases h8
        exact ⟨1, skip f n b, rfl, XE.pre hR.1 hx.2⟩
      rintro _ M1 hT
      exfalso
      rcases hT with ⟨b1, h8, -⟩ | ⟨h8, -⟩ <;> (rw [hq'] at h8; cases h8)
    | ok z =>
      cases z with
      | none =>
        have er : loopT f n it wOr 11 (k + 1) cs c = .ok (cs, skip f n c) := by rw [loopT, hq]
        rw [er, clp_ok, clp_ok]
        have hq' : psW f n wOr b = .ok none := ep.trans hq
        refine r_ald0 (pc := 23) dX2_test_23 ?_
        refine r_ldcwS (pc := 24) (tx := "or") dX2_test_24 t1 ?_
        refine r_cVx (ci := 2) (pc := 27) (kc' := 0) (ks' := 0) dX2_test_27 cv_X2_282 r7 hps rfl rfl (Nat.le_of_ble_eq_true rfl) (by omega) (by omega) (by omega) (fun q M' hx => ?_) ?_
        · have h8 := hx.1
          rw [hq'] at h8; cases h8
        rintro v1 M1 hT
        obtain ⟨-, rfl, b2, kT, kb, ks2, -⟩ := hT.resolve_left (fun z => by obtain ⟨b1, h8, -⟩ := z; rw [hq'] at h8; cases h8)
        first | refine r_if_eqZ (pc := 30) (tgt := 50) dX2_test_30 (by decide) (fun h30 => ?_) (fun h30 => ?_) | refine r_if_eqN (pc := 30) (tgt := 50) dX2_test_30 (by decide) (by omega) (fun h30 => ?_) (fun h30 => ?_) | refine r_if_eq (pc := 30) (tgt := 50) dX2_test_30 (by decide) (fun h30 => ?_) (fun h30 => ?_)
        · skip
          refine r_ald1 (pc := 50) dX2_test_50 ?_
          refine r_aretR (pc := 51) dX2_test_51 ?_
          refine ⟨(cs, skip f n c), fa, b2, rfl, rfl, ?_, hR.trans kT, kb, by rw [ks2, jsk]; exact (skip_idem f n c).symm⟩
          rw [← hcs]
          exact (hC.fr kT.1 ho).tst hk
        · skip
          exact absurd rfl h30
      | some p =>
        obtain ⟨hw, hp⟩ := psW_some hq
        have hwe := word_end hw
        rw [← hp] at hwe
        have hp2 : skip f n c + 2 = p := hp.symm
        have hq' : psW f n wOr b = .ok (some p) := ep.trans hq
        have er : loopT f n it wOr 11 (k + 1) cs c = thn (it p) (fun ds c => loopT f n it wOr 11 k (cs ++ (ds ++ [11])) c) := by rw [loopT, hq]
        rw [er]
        have hqp := fun y hy => hpr p y hy
        have hL : ∀ (y z : List Nat × Nat), it p = .ok y → loopT f n it wOr 11 k (cs ++ (y.1 ++ [11])) y.2 = .ok z → y.2 ≤ z.2 := fun y z hy hz => (loopT_ok hpr k _ _ _ hz (hqp y hy).2.1).1
        obtain ⟨c1, c2⟩ := itcT (L := fun ds c => loopT f n it wOr 11 k (cs ++ (ds ++ [11])) c) (K := 60) (t := 10) (F := 50) (F' := 60) (tL := 3) (s := 4) (show c < p by omega) hwe.1 (fun y hy => ⟨(hqp y hy).1, (hqp y hy).2.1⟩) hL (by omega) (by omega)
        obtain ⟨c3, c4⟩ := itcT (L := fun ds c => loopT f n it wOr 11 k (cs ++ (ds ++ [11])) c) (K := 4000) (t := 2600) (F := 5800) (F' := 5900) (tL := 2564) (s := 5128) (show c < p by omega) hwe.1 (fun y hy => ⟨(hqp y hy).1, (hqp y hy).2.1⟩) hL (by omega) (by omega)
        generalize hkc : clp 60 3 60 n c (thn (it p) (fun ds c => loopT f n it wOr 11 k (cs ++ (ds ++ [11])) c)) = kc at *
        generalize hks : clp 4000 2564 5900 n c (thn (it p) (fun ds c => loopT f n it wOr 11 k (cs ++ (ds ++ [11])) c)) = ks at *
        refine r_ald0 (pc := 23) dX2_test_23 ?_
        refine r_ldcwS (pc := 24) (tx := "or") dX2_test_24 t1 ?_
        refine r_cVx (ci := 2) (pc := 27) (kc' := kc - 3) (ks' := ks - 2564) dX2_test_27 cv_X2_282 r7 hps rfl rfl (Nat.le_of_ble_eq_true rfl) (by omega) (by omega) (by omega) (fun q M' hx => ?_) ?_
        · have h8 := hx.1
          rw [hq'] at h8; cases h8
        rintro v1 M1 hT
        obtain ⟨b1, h8, rfl, kT, -⟩ := hT.resolve_right (fun z => by have h8 := z.1; rw [hq'] at h8; cases h8)
        rw [hq'] at h8
        cases h8
        have W1 := W.to kT hwe.1
        have r71 := W1.rd.2.2.2.2.2.2.2.1.1
        have hC1 := hC.fr kT.1 ho
        first | refine r_if_eqZ (pc := 30) (tgt := 50) dX2_test_30 (by decide) (fun h30 => ?_) (fun h30 => ?_) | refine r_if_eqN (pc := 30) (tgt := 50) dX2_test_30 (by decide) (by omega) (fun h30 => ?_) (fun h30 => ?_) | refine r_if_eq (pc := 30) (tgt := 50) dX2_test_30 (by decide) (fun h30 => ?_) (fun h30 => ?_)
        · skip
          exact absurd h30 (by omega)
        · skip
          refine r_ald1 (pc := 33) dX2_test_33 ?_
          refine r_getRN (pc := 34) dX2_test_34 (fn_X2_274 hg) hC1.1.1 hC1.1.2.1 ?_
          refine r_ald0 (pc := 37) dX2_test_37 ?_
          refine r_cVx (ci := 2) (pc := 38) (kc' := kc - 3 - cst 60 10 50 n p (it p)) (ks' := ks - 2564 - cst 4000 2600 5800 n p (it p)) dX2_test_38 cv_X2_277 r71 (hit M1 _ W1) rfl rfl (Nat.le_of_ble_eq_true rfl) (by omega) (by omega) (by omega) (fun q M' hx => ?_) ?_
          · obtain ⟨kx, px, x1, x2⟩ := hx
            exact ⟨kx, px, by rw [x1]; rfl, XE.pre (hR.1.trans kT.1) x2⟩
          rintro _ M2 ⟨y2, z, b2, hy, rfl, hV, hRO, kb2, ks2⟩
          have hC2 := hC1.fr hRO.1 ho
          obtain ⟨ci, z1, z2, z3⟩ := TST.ob hg D hV
          have b4 := c2 y2 hy
          have b5 := c4 y2 hy
          have hcz := hC.2.2.1
          have hzT := kT.1.1.1
          have hz0 := hR.1.1.1
          have hz2 := hRO.1.1.1
          have hgz0 := W0.rd.gz
          obtain ⟨w1, w2, -⟩ := hqp y2 hy
          refine r_cFm (pc := 41) (kc' := kc - 3 - cst 60 10 50 n p (it p) - 1) (ks' := ks - 2564 - cst 4000 2600 5800 n p (it p) - (2 * kk + 1)) dX2_test_41 (cf_X2_159 hg) hC2.2.1.1 (ct_J2_add (hC2.gw hg W0.1.O hmi (by omega)) z1 z3.2 z2) rfl rfl (Nat.le_of_ble_eq_true rfl) (by omega) (by omega) (by omega) ?_
          rintro _ M3 ⟨rfl, hA⟩
          refine r_pop (pc := 46) dX2_test_46 rfl ?_
          refine r_goto (pc := 47) (tgt := 23) dX2_test_47 (by decide) ?_
          obtain ⟨v', hC3, hF3⟩ := hC2.add hA (by omega) (by omega) hV z1 z2 z3.2 (by omega) ⟨by omega, by omega⟩
          have e9 : thn (it p) (fun ds c => loopT f n it wOr 11 k (cs ++ (ds ++ [11])) c) = loopT f n it wOr 11 k (cs ++ (y2.1 ++ [11])) y2.2 := by rw [hy]; rfl
          rw [e9]
          refine Bd.spend (kc' := clp 60 3 60 n y2.2 (loopT f n it wOr 11 k (cs ++ (y2.1 ++ [11])) y2.2)) (ks' := clp 4000 2564 5900 n y2.2 (loopT f n it wOr 11 k (cs ++ (y2.1 ++ [11])) y2.2)) (by omega) (by omega) ?_
          exact ih y2.2 b2 _ M3 fa l v' (kk + 1) _ (by omega) w2 kb2 ks2 (((hR.trans kT).trans hRO).more hF3 ho) hC3 (by omega) (by omega) (by rw [chC_upF hk, hcs])
theorem ct_X2_test (hpr : prg n it) (hit : CtT g yX2_both cX2_both 2 d 10 50 2600 5800 o n f x oo D it) (hd : 20 ≤ d) : CtT g yX2_test cX2_test 2 (d + 1) 20 60 5200 5900 o n f x oo (D + 1) (ptT f n wOr 11 it) := by
  intro M a W
  have hrd := W.rd
  have ho := hrd.oz
  have hgz := hrd.gz
  have hg := hrd.1
  obtain ⟨mi, hmi⟩ := W.1.2.2.1.2.2
  have h1280 := W.1.2.1
  have er : ptT f n wOr 11 it a = thn (it a) (fun cs b => loopT f n it wOr 11 (n + 1) cs b) := rfl
  rw [er]
  have hq := fun y hy => hpr a y hy
  have hL : ∀ (y z : List Nat × Nat), it a = .ok y → loopT f n it wOr 11 (n + 1) y.1 y.2 = .ok z → y.2 ≤ z.2 := fun y z hy hz => (loopT_ok hpr _ _ _ _ hz (hq y hy).2.1).1
  obtain ⟨c1, c2⟩ := stcT (L := fun cs b => loopT f n it wOr 11 (n + 1) cs b) (K := 60) (t := 10) (F := 50) (t' := 20) (F' := 60) (FL := 60) (tL := 3) (s := 4) (fun y hy => ⟨(hq y hy).1, (hq y hy).2.1⟩) hL (by decide) (by decide) (by decide)
  obtain ⟨c3, c4⟩ := stcT (L := fun cs b => loopT f n it wOr 11 (n + 1) cs b) (K := 4000) (t := 2600) (F := 5800) (t' := 5200) (F' := 5900) (FL := 5900) (tL := 2564) (s := 8) (fun y hy => ⟨(hq y hy).1, (hq y hy).2.1⟩) hL (by decide) (by decide) (by decide)
  generalize hkc : cst 60 20 60 n a (thn (it a) (fun cs b => loopT f n it wOr 11 (n + 1) cs b)) = kc at *
  generalize hks : cst 4000 5200 5900 n a (thn (it a) (fun cs b => loopT f n it wOr 11 (n + 1) cs b)) = ks at *
  refine Ct.of (by decide) (Nat.le_of_ble_eq_true rfl) rfl ?_
  refine r_new (pc := 0) (ci := 15) (kc' := kc - 1) (ks' := ks - 2) dX2_test_0 q1106 q1107 q177 (by decide) (by omega) (by omega) ?_
  generalize hM : nw M (20 + 15) 0 = M1
  have m1 : mZ M1 = mZ M + 1 := by rw [← hM]; rfl
  have m2 : mK M1 (mZ M) = 35 := by rw [← hM]; exact if_pos rfl
  have m3 : FM (fun _ => False) M M1 := by rw [← hM]; exact FM.nw
  clear hM
  refine r_dup (pc := 3) dX2_test_3 rfl ?_
  refine r_iconst (v := nI 0) (pc := 4) dX2_test_4 (by decide) ?_
  refine r_cIm (pc := 5) (kc' := kc - 3) (ks' := ks - 7) dX2_test_5 ci_X2_271 (ct_X15_init (M := M1) (a := mZ M) (z := nI 0) hg W.1.O hgz (by omega) m2 ⟨rfl, rfl⟩) rfl rfl (Nat.le_of_ble_eq_true rfl) (by omega) (by omega) (by omega) ?_
  rintro _ M2 ⟨rfl, hN⟩
  have F2 : FM (fun c => mZ M ≤ c) M M2 := m3.trans hN.2.2.2.2.2.2.2 (fun _ _ e => e.elim) (fun c hc e => by omega)
  have R2 : RO M o a M2 := (RO.rf W.at).more F2 ho
  have W2 := W.to R2 W.le
  have r72 := W2.rd.2.2.2.2.2.2.2.1.1
  have C2 : FCW g M M2 o D (mZ M) (mZ M1) (mZ M1 + 1) 0 false (fun _ => []) := FCW.mk hN m2 (by decide) (by omega) (Nat.le_refl _) (by omega) (by omega)
  have hz2 := hN.2.2.2.2.2.2.1
  refine r_ast1 (pc := 8) dX2_test_8 ?_
  refine r_ald1 (pc := 9) dX2_test_9 ?_
  refine r_getRN (pc := 10) dX2_test_10 (fn_X2_274 hg) C2.1.1 C2.1.2.1 ?_
  refine r_ald0 (pc := 13) dX2_test_13 ?_
  refine r_cVx (ci := 2) (pc := 14) (kc' := kc - 3 - cst 60 10 50 n a (it a)) (ks' := ks - 7 - cst 4000 2600 5800 n a (it a)) dX2_test_14 cv_X2_277 r72 (hit M2 _ W2) rfl rfl (Nat.le_of_ble_eq_true rfl) (by omega) (by omega) (by omega) (fun q M' hx => ?_) ?_
  · obtain ⟨kx, px, x1, x2⟩ := hx
    exact ⟨kx, px, by rw [x1]; rfl, XE.pre R2.1 x2⟩
  rintro _ M3 ⟨y3, z, b3, hy, rfl, hV, hRO, kb3, ks3⟩
  have C3 := C2.fr hRO.1 ho
  have hz3 := hRO.1.1.1
  obtain ⟨ci, z1, z2, z3⟩ := TST.ob hg D hV
  have b4 := c2 y3 hy
  have b5 := c4 y3 hy
  obtain ⟨w1, w2, -⟩ := hq y3 hy
  refine r_cFm (pc := 17) (kc' := kc - 3 - cst 60 10 50 n a (it a) - 1) (ks' := ks - 7 - cst 4000 2600 5800 n a (it a) - 1) dX2_test_17 (cf_X2_159 hg) C3.2.1.1 (ct_J2_add (C3.gw hg W.1.O hmi (by omega)) z1 z3.2 z2) rfl rfl (Nat.le_of_ble_eq_true rfl) (by omega) (by omega) (by omega) ?_
  rintro _ M4 ⟨rfl, hA⟩
  refine r_pop (pc := 22) dX2_test_22 rfl ?_
  obtain ⟨v', C4, F4⟩ := C3.add hA (by decide) (by omega) hV z1 z2 z3.2 (by omega) ⟨by omega, by omega⟩
  have e9 : thn (it a) (fun cs b => loopT f n it wOr 11 (n + 1) cs b) = loopT f n it wOr 11 (n + 1) y3.1 y3.2 := by rw [hy]; rfl
  rw [e9]
  refine Bd.spend (kc' := clp 60 3 60 n y3.2 (loopT f n it wOr 11 (n + 1) y3.1 y3.2)) (ks' := clp 4000 2564 5900 n y3.2 (loopT f n it wOr 11 (n + 1) y3.1 y3.2)) (by omega) (by omega) ?_
  exact lp_X2_test hpr hit W hd (n + 1) y3.2 b3 y3.1 M4 (mZ M) (mZ M1) v' 1 _ (by omega) w2 kb3 ks3 ((R2.trans hRO).more F4 ho) C4 (Nat.le_refl _) (by omega) (show (if (0 : Nat) = 0 then y3.1 else []) = y3.1 from if_pos rfl)
end X75
