set_option maxRecDepth 100000
/-! THE READER: X2_sum -/
section X65
variable {g : GC} {o n x oo D d : Nat} {f : Nat → Nat} {it : Nat → Rz}
theorem lp_X2_sum (hpr : prg n it) (hit : CtV g yX2_product cX2_product d 20 20 300 300 o n f x oo D it) {M0 : MM} {a0 : Nat} (W0 : RWA g M0 o n f x oo a0) (hd : 20 ≤ d) : ∀ k b cs M ch l v bb u kk F op, n + 1 ≤ b + k → b ≤ n → RO M0 o b M → CHW g M0 M o D ch l v bb u kk F op → 1 ≤ kk → 2 * kk ≤ b + 1 → chC F op (kk - 1) = cs → Bd g yX2_sum cX2_sum 3 (some (.object "Retouched$Value")) [] (d + 1) (clp 60 0 30 n b (loopP f n it (opA f n) k cs b)) (clp 4000 0 400 n b (loopP f n it (opA f n) k cs b)) M 20 [some (.ref (o + 5)), some (.ref ch), some (.int (nI 1))] [] (RVQ M0 o (D + 1) (loopP f n it (opA f n) k cs b)) (RVX M0 o (loopP f n it (opA f n) k cs b)) := by
  have ho := W0.rd.oz
  have hg := W0.rd.1
  have h1280 := W0.1.2.1
  obtain ⟨mi, hmi⟩ := W0.1.2.2.1.2.2
  intro k
  induction k with
  | zero =>
    intro b cs M ch l v bb u kk F op j1 j2
    exact absurd j1 (by omega)
  | succ k ih =>
    intro b cs M ch l v bb u kk F op j1 j2 hR hC hk hkb hcs
    have W := W0.to hR j2
    have hrd := W.rd
    have r7 := hrd.2.2.2.2.2.2.2.1.1
    have hsl := skip_le (f := f) j2
    have hsg := skip_ge f n b
    by_cases e1 : lookO f n b = some 43
    · have eop : opA f n b = some (1, skip f n b + 1) := if_pos e1
      obtain ⟨p1, p2⟩ := opA_ok eop
      have p1 : b < skip f n b + 1 := p1
      have p2 : skip f n b + 1 ≤ n := p2
      have er : loopP f n it (opA f n) (k + 1) cs b = thn (it (skip f n b + 1)) (fun ds c => loopP f n it (opA f n) k (cs ++ (ds ++ [1])) c) := by
        rw [loopP, eop]
      rw [er]
      have hq := fun y hy => hpr (skip f n b + 1) y hy
      have hL : ∀ (y z : List Nat × Nat), it (skip f n b + 1) = .ok y → loopP f n it (opA f n) k (cs ++ (y.1 ++ [1])) y.2 = .ok z → y.2 ≤ z.2 := fun y z hy hz => (loopP_ok hpr (fun a y => opA_ok) k _ _ _ hz (hq y hy).2.1).1
      obtain ⟨c1, c2⟩ := itc (L := fun ds c => loopP f n it (opA f n) k (cs ++ (ds ++ [1])) c) (K := 60) (t := 20) (F := 20) (F' := 30) (s := 2) p1 p2 (fun y hy => ⟨(hq y hy).1, (hq y hy).2.1⟩) hL (by decide) (by decide)
      obtain ⟨c3, c4⟩ := itc (L := fun ds c => loopP f n it (opA f n) k (cs ++ (ds ++ [1])) c) (K := 4000) (t := 300) (F := 300) (F' := 400) (s := 2600) p1 p2 (fun y hy => ⟨(hq y hy).1, (hq y hy).2.1⟩) hL (by decide) (by decide)
      generalize hkc : clp 60 0 30 n b (thn (it (skip f n b + 1)) (fun ds c => loopP f n it (opA f n) k (cs ++ (ds ++ [1])) c)) = kc at *
      generalize hks : clp 4000 0 400 n b (thn (it (skip f n b + 1)) (fun ds c => loopP f n it (opA f n) k (cs ++ (ds ++ [1])) c)) = ks at *
      refine r_ild2 (pc := 20) dX2_sum_20 ?_
      first | refine r_if_eqZ (pc := 21) (tgt := 73) dX2_sum_21 (by decide) (fun h21 => ?_) (fun h21 => ?_) | refine r_if_eqN (pc := 21) (tgt := 73) dX2_sum_21 (by decide) (by omega) (fun h21 => ?_) (fun h21 => ?_) | refine r_if_eq (pc := 21) (tgt := 73) dX2_sum_21 (by decide) (fun h21 => ?_) (fun h21 => ?_)
      · skip
        exact absurd h21 (by omega)
      · skip
        refine r_ald0 (pc := 24) dX2_sum_24 ?_
        refine r_bipush (v := nI 43) (pc := 25) dX2_sum_25 (by decide) ?_
        refine r_cV (ci := 2) (pc := 27) dX2_sum_27 cv_X2_225 r7 (ct_X2_takes (c := 43) hrd j2 W.at (by decide)) rfl rfl (Nat.le_of_ble_eq_true rfl) (by omega) ?_
        rintro v1 M1 hT
        obtain ⟨-, rfl, kT⟩ := hT.resolve_right (fun z => z.1 e1)
        have W1 := W.to kT p2
        have r71 := W1.rd.2.2.2.2.2.2.2.1.1
        first | refine r_if_eqZ (pc := 30) (tgt := 46) dX2_sum_30 (by decide) (fun h30 => ?_) (fun h30 => ?_) | refine r_if_eqN (pc := 30) (tgt := 46) dX2_sum_30 (by decide) (by omega) (fun h30 => ?_) (fun h30 => ?_) | refine r_if_eq (pc := 30) (tgt := 46) dX2_sum_30 (by decide) (fun h30 => ?_) (fun h30 => ?_)
        · skip
          exact absurd h30 (by omega)
        · skip
          refine r_ald1 (pc := 33) dX2_sum_33 ?_
          refine r_bipush (v := nI 43) (pc := 34) dX2_sum_34 (by decide) ?_
          refine r_ald0 (pc := 36) dX2_sum_36 ?_
          refine r_cVx (ci := 2) (pc := 37) (kc' := kc - cst 60 20 20 n (skip f n b + 1) (it (skip f n b + 1))) (ks' := ks - cst 4000 300 300 n (skip f n b + 1) (it (skip f n b + 1))) dX2_sum_37 cv_X2_219 r71 (hit M1 _ W1) rfl rfl (Nat.le_of_ble_eq_true rfl) (by omega) (by omega) (by omega) (fun q M' hx => ?_) ?_
          · obtain ⟨kx, px, x1, x2⟩ := hx
            exact ⟨kx, px, by rw [x1]; rfl, XE.pre (hR.1.trans kT.1) x2⟩
          rintro _ M2 ⟨y2, z, hy, rfl, hV, hRO⟩
          have hC2 := (hC.fr kT.1 ho).fr hRO.1 ho
          obtain ⟨ci, z1, z2, z3⟩ := VAL.ob hg D hV
          have b4 := c2 y2 hy
          have b5 := c4 y2 hy
          have hcz := hC.1.2.2.2.2.2.1
          have hzT := kT.1.1.1
          have hz0 := hR.1.1.1
          obtain ⟨w1, w2, -⟩ := hq y2 hy
          refine r_cVm (ci := 9) (pc := 40) (kc' := kc - cst 60 20 20 n (skip f n b + 1) (it (skip f n b + 1)) - 2) (ks' := ks - cst 4000 300 300 n (skip f n b + 1) (it (skip f n b + 1)) - (4 * kk + 3)) dX2_sum_40 cv_X2_222 hC2.1.1 (ct_X9_add hg W0.1.O W0.1.c hmi hC2.1 (by omega) (by decide) z1 z3.2 z2) rfl rfl (Nat.le_of_ble_eq_true rfl) (by omega) (by omega) (by omega) ?_
          rintro _ M3 ⟨rfl, hA⟩
          refine r_goto (pc := 43) (tgt := 20) dX2_sum_43 (by decide) ?_
          obtain ⟨v', u', hC3, hF3⟩ := hC2.add (oc := 1) hA hV (by omega) ⟨by omega, by omega, by omega, by omega⟩ (fun _ => ⟨by decide, by decide, by decide⟩)
          have e9 : thn (it (skip f n b + 1)) (fun ds c => loopP f n it (opA f n) k (cs ++ (ds ++ [1])) c) = loopP f n it (opA f n) k (cs ++ (y2.1 ++ [1])) y2.2 := by rw [hy]; rfl
          rw [e9]
          refine Bd.spend (kc' := clp 60 0 30 n y2.2 (loopP f n it (opA f n) k (cs ++ (y2.1 ++ [1])) y2.2)) (ks' := clp 4000 0 400 n y2.2 (loopP f n it (opA f n) k (cs ++ (y2.1 ++ [1])) y2.2)) (by omega) (by omega) ?_
          exact ih y2.2 _ M3 ch l v' bb u' (kk + 1) _ _ (by omega) w2 (((hR.trans kT).trans hRO).more hF3 ho) hC3 (by omega) (by omega) (by rw [chC_up hk, hcs])
    · by_cases e2 : lookO f n b = some 45
      · have eop : opA f n b = some (2, skip f n b + 1) := (if_neg e1).trans (if_pos e2)
        obtain ⟨p1, p2⟩ := opA_ok eop
        have p1 : b < skip f n b + 1 := p1
        have p2 : skip f n b + 1 ≤ n := p2
        have er : loopP f n it (opA f n) (k + 1) cs b = thn (it (skip f n b + 1)) (fun ds c => loopP f n it (opA f n) k (cs ++ (ds ++ [2])) c) := by
          rw [loopP, eop]
        rw [er]
        have hq := fun y hy => hpr (skip f n b + 1) y hy
        have hL : ∀ (y z : List Nat × Nat), it (skip f n b + 1) = .ok y → loopP f n it (opA f n) k (cs ++ (y.1 ++ [2])) y.2 = .ok z → y.2 ≤ z.2 := fun y z hy hz => (loopP_ok hpr (fun a y => opA_ok) k _ _ _ hz (hq y hy).2.1).1
        obtain ⟨c1, c2⟩ := itc (L := fun ds c => loopP f n it (opA f n) k (cs ++ (ds ++ [2])) c) (K := 60) (t := 20) (F := 20) (F' := 30) (s := 2) p1 p2 (fun y hy => ⟨(hq y hy).1, (hq y hy).2.1⟩) hL (by decide) (by decide)
        obtain ⟨c3, c4⟩ := itc (L := fun ds c => loopP f n it (opA f n) k (cs ++ (ds ++ [2])) c) (K := 4000) (t := 300) (F := 300) (F' := 400) (s := 2600) p1 p2 (fun y hy => ⟨(hq y hy).1, (hq y hy).2.1⟩) hL (by decide) (by decide)
        generalize hkc : clp 60 0 30 n b (thn (it (skip f n b + 1)) (fun ds c => loopP f n it (opA f n) k (cs ++ (ds ++ [2])) c)) = kc at *
        generalize hks : clp 4000 0 400 n b (thn (it (skip f n b + 1)) (fun ds c => loopP f n it (opA f n) k (cs ++ (ds ++ [2])) c)) = ks at *
        refine r_ild2 (pc := 20) dX2_sum_20 ?_
        first | refine r_if_eqZ (pc := 21) (tgt := 73) dX2_sum_21 (by decide) (fun h21 => ?_) (fun h21 => ?_) | refine r_if_eqN (pc := 21) (tgt := 73) dX2_sum_21 (by decide) (by omega) (fun h21 => ?_) (fun h21 => ?_) | refine r_if_eq (pc := 21) (tgt := 73) dX2_sum_21 (by decide) (fun h21 => ?_) (fun h21 => ?_)
        · skip
          exact absurd h21 (by omega)
        · skip
          refine r_ald0 (pc := 24) dX2_sum_24 ?_
          refine r_bipush (v := nI 43) (pc := 25) dX2_sum_25 (by decide) ?_
          refine r_cV (ci := 2) (pc := 27) dX2_sum_27 cv_X2_225 r7 (ct_X2_takes (c := 43) hrd j2 W.at (by decide)) rfl rfl (Nat.le_of_ble_eq_true rfl) (by omega) ?_
          rintro v1 M1 hT
          obtain ⟨-, rfl, kT⟩ := hT.resolve_left (fun z => e1 z.1)
          have W1 := W.to kT hsl
          have r71 := W1.rd.2.2.2.2.2.2.2.1.1
          first | refine r_if_eqZ (pc := 30) (tgt := 46) dX2_sum_30 (by decide) (fun h30 => ?_) (fun h30 => ?_) | refine r_if_eqN (pc := 30) (tgt := 46) dX2_sum_30 (by decide) (by omega) (fun h30 => ?_) (fun h30 => ?_) | refine r_if_eq (pc := 30) (tgt := 46) dX2_sum_30 (by decide) (fun h30 => ?_) (fun h30 => ?_)
          · skip
            refine r_ald0 (pc := 46) dX2_sum_46 ?_
            refine r_bipush (v := nI 45) (pc := 47) dX2_sum_47 (by decide) ?_
            refine r_cV (ci := 2) (pc := 49) dX2_sum_49 cv_X2_225 r71 (ct_X2_takes (c := 45) W1.rd hsl W1.at (by decide)) rfl rfl (Nat.le_of_ble_eq_true rfl) (by omega) ?_
            rintro v1 M4 hT
            rw [skip_idem, lookO_skip] at hT
            obtain ⟨-, rfl, kU⟩ := hT.resolve_right (fun z => z.1 e2)
            have W4 := W1.to kU p2
            have r74 := W4.rd.2.2.2.2.2.2.2.1.1
            first | refine r_if_eqZ (pc := 52) (tgt := 68) dX2_sum_52 (by decide) (fun h52 => ?_) (fun h52 => ?_) | refine r_if_eqN (pc := 52) (tgt := 68) dX2_sum_52 (by decide) (by omega) (fun h52 => ?_) (fun h52 => ?_) | refine r_if_eq (pc := 52) (tgt := 68) dX2_sum_52 (by decide) (fun h52 => ?_) (fun h52 => ?_)
            · skip
              exact absurd h52 (by omega)
            · skip
              refine r_ald1 (pc := 55) dX2_sum_55 ?_
              refine r_bipush (v := nI 45) (pc := 56) dX2_sum_56 (by decide) ?_
              refine r_ald0 (pc := 58) dX2_sum_58 ?_
              refine r_cVx (ci := 2) (pc := 59) (kc' := kc - cst 60 20 20 n (skip f n b + 1) (it (skip f n b + 1))) (ks' := ks - cst 4000 300 300 n (skip f n b + 1) (it (skip f n b + 1))) dX2_sum_59 cv_X2_219 r74 (hit M4 _ W4) rfl rfl (Nat.le_of_ble_eq_true rfl) (by omega) (by omega) (by omega) (fun q M' hx => ?_) ?_
              · obtain ⟨kx, px, x1, x2⟩ := hx
                exact ⟨kx, px, by rw [x1]; rfl, XE.pre ((hR.1.trans kT.1).trans kU.1) x2⟩
              rintro _ M2 ⟨y2, z, hy, rfl, hV, hRO⟩
              have hC2 := ((hC.fr kT.1 ho).fr kU.1 ho).fr hRO.1 ho
              obtain ⟨ci, z1, z2, z3⟩ := VAL.ob hg D hV
              have b4 := c2 y2 hy
              have b5 := c4 y2 hy
              have hcz := hC.1.2.2.2.2.2.1
              have hzT := kT.1.1.1
              have hzU := kU.1.1.1
              have hz0 := hR.1.1.1
              obtain ⟨w1, w2, -⟩ := hq y2 hy
              refine r_cVm (ci := 9) (pc := 62) (kc' := kc - cst 60 20 20 n (skip f n b + 1) (it (skip f n b + 1)) - 2) (ks' := ks - cst 4000 300 300 n (skip f n b + 1) (it (skip f n b + 1)) - (4 * kk + 3)) dX2_sum_62 cv_X2_222 hC2.1.1 (ct_X9_add hg W0.1.O W0.1.c hmi hC2.1 (by omega) (by decide) z1 z3.2 z2) rfl rfl (Nat.le_of_ble_eq_true rfl) (by omega) (by omega) (by omega) ?_
              rintro _ M3 ⟨rfl, hA⟩
              refine r_goto (pc := 65) (tgt := 20) dX2_sum_65 (by decide) ?_
              obtain ⟨v', u', hC3, hF3⟩ := hC2.add (oc := 2) hA hV (by omega) ⟨by omega, by omega, by omega, by omega⟩ (fun _ => ⟨by decide, by decide, by decide⟩)
              have e9 : thn (it (skip f n b + 1)) (fun ds c => loopP f n it (opA f n) k (cs ++ (ds ++ [2])) c) = loopP f n it (opA f n) k (cs ++ (y2.1 ++ [2])) y2.2 := by rw [hy]; rfl
              rw [e9]
              refine Bd.spend (kc' := clp 60 0 30 n y2.2 (loopP f n it (opA f n) k (cs ++ (y2.1 ++ [2])) y2.2)) (ks' := clp 4000 0 400 n y2.2 (loopP f n it (opA f n) k (cs ++ (y2.1 ++ [2])) y2.2)) (by omega) (by omega) ?_
              exact ih y2.2 _ M3 ch l v' bb u' (kk + 1) _ _ (by omega) w2 ((((hR.trans kT).trans kU).trans hRO).more hF3 ho) hC3 (by omega) (by omega) (by rw [chC_up hk, hcs])
          · skip
            exact absurd rfl h30
      · have eop : opA f n b = none := (if_neg e1).trans (if_neg e2)
        have er : loopP f n it (opA f n) (k + 1) cs b = .ok (cs, skip f n b) := by
          rw [loopP, eop]
        rw [er]
        refine r_ild2 (pc := 20) dX2_sum_20 ?_
        first | refine r_if_eqZ (pc := 21) (tgt := 73) dX2_sum_21 (by decide) (fun h21 => ?_) (fun h21 => ?_) | refine r_if_eqN (pc := 21) (tgt := 73) dX2_sum_21 (by decide) (by omega) (fun h21 => ?_) (fun h21 => ?_) | refine r_if_eq (pc := 21) (tgt := 73) dX2_sum_21 (by decide) (fun h21 => ?_) (fun h21 => ?_)
        · skip
          exact absurd h21 (by omega)
        · skip
          refine r_ald0 (pc := 24) dX2_sum_24 ?_
          refine r_bipush (v := nI 43) (pc := 25) dX2_sum_25 (by decide) ?_
          refine r_cV (ci := 2) (pc := 27) dX2_sum_27 cv_X2_225 r7 (ct_X2_takes (c := 43) hrd j2 W.at (by decide)) rfl rfl (Nat.le_of_ble_eq_true rfl) (by omega) ?_
          rintro v1 M1 hT
          obtain ⟨-, rfl, kT⟩ := hT.resolve_left (fun z => e1 z.1)
          have W1 := W.to kT hsl
          have r71 := W1.rd.2.2.2.2.2.2.2.1.1
          first | refine r_if_eqZ (pc := 30) (tgt := 46) dX2_sum_30 (by decide) (fun h30 => ?_) (fun h30 => ?_) | refine r_if_eqN (pc := 30) (tgt := 46) dX2_sum_30 (by decide) (by omega) (fun h30 => ?_) (fun h30 => ?_) | refine r_if_eq (pc := 30) (tgt := 46) dX2_sum_30 (by decide) (fun h30 => ?_) (fun h30 => ?_)
          · skip
            refine r_ald0 (pc := 46) dX2_sum_46 ?_
            refine r_bipush (v := nI 45) (pc := 47) dX2_sum_47 (by decide) ?_
            refine r_cV (ci := 2) (pc := 49) dX2_sum_49 cv_X2_225 r71 (ct_X2_takes (c := 45) W1.rd hsl W1.at (by decide)) rfl rfl (Nat.le_of_ble_eq_true rfl) (by omega) ?_
            rintro v1 M4 hT
            rw [skip_idem, lookO_skip] at hT
            obtain ⟨-, rfl, kU⟩ := hT.resolve_left (fun z => e2 z.1)
            first | refine r_if_eqZ (pc := 52) (tgt := 68) dX2_sum_52 (by decide) (fun h52 => ?_) (fun h52 => ?_) | refine r_if_eqN (pc := 52) (tgt := 68) dX2_sum_52 (by decide) (by omega) (fun h52 => ?_) (fun h52 => ?_) | refine r_if_eq (pc := 52) (tgt := 68) dX2_sum_52 (by decide) (fun h52 => ?_) (fun h52 => ?_)
            · skip
              refine r_iconst (v := nI 0) (pc := 68) dX2_sum_68 (by decide) ?_
              refine r_ist2 (pc := 69) dX2_sum_69 ?_
              refine r_goto (pc := 70) (tgt := 20) dX2_sum_70 (by decide) ?_
              refine r_ild2 (pc := 20) dX2_sum_20 ?_
              refine r_if_eq (pc := 21) (tgt := 73) dX2_sum_21 (by decide) (fun h21 => ?_) (fun h21 => absurd rfl h21)
              refine r_ald1 (pc := 73) dX2_sum_73 ?_
              refine r_aretR (pc := 74) dX2_sum_74 ⟨(cs, skip f n b), ch, rfl, rfl, ?_, (hR.trans kT).trans kU⟩
              rw [← hcs]
              exact ((hC.fr kT.1 ho).fr kU.1 ho).val hk
            · skip
              exact absurd rfl h52
          · skip
            exact absurd rfl h30
theorem ct_X2_sum (hpr : prg n it) (hit : CtV g yX2_product cX2_product d 20 20 300 300 o n f x oo D it) (hd : 20 ≤ d) : CtV g yX2_sum cX2_sum (d + 1) 30 30 400 400 o n f x oo (D + 1) (ptP f n (opA f n) it) := by
  intro M a W
  have hrd := W.rd
  have ho := hrd.oz
  have hgz := hrd.gz
  have hg := hrd.1
  obtain ⟨mi, hmi⟩ := W.1.2.2.1.2.2
  have h1280 := W.1.2.1
  have er : ptP f n (opA f n) it a = thn (it a) (fun cs b => loopP f n it (opA f n) (n + 1) cs b) := rfl
  rw [er]
  have hq := fun y hy => hpr a y hy
  have hL : ∀ (y z : List Nat × Nat), it a = .ok y → loopP f n it (opA f n) (n + 1) y.1 y.2 = .ok z → y.2 ≤ z.2 := fun y z hy hz => (loopP_ok hpr (fun a y => opA_ok) _ _ _ _ hz (hq y hy).2.1).1
  obtain ⟨c1, c2⟩ := stc (L := fun cs b => loopP f n it (opA f n) (n + 1) cs b) (K := 60) (t := 20) (F := 20) (t' := 30) (F' := 30) (FL := 30) (s := 7) (fun y hy => ⟨(hq y hy).1, (hq y hy).2.1⟩) hL (by decide) (by decide) (by decide)
  obtain ⟨c3, c4⟩ := stc (L := fun cs b => loopP f n it (opA f n) (n + 1) cs b) (K := 4000) (t := 300) (F := 300) (t' := 400) (F' := 400) (FL := 400) (s := 30) (fun y hy => ⟨(hq y hy).1, (hq y hy).2.1⟩) hL (by decide) (by decide) (by decide)
  generalize hkc : cst 60 30 30 n a (thn (it a) (fun cs b => loopP f n it (opA f n) (n + 1) cs b)) = kc at *
  generalize hks : cst 4000 400 400 n a (thn (it a) (fun cs b => loopP f n it (opA f n) (n + 1) cs b)) = ks at *
  refine Ct.of (by decide) (Nat.le_of_ble_eq_true rfl) rfl ?_
  refine r_new (pc := 0) (ci := 9) (kc' := kc - 1) (ks' := ks - 2) dX2_sum_0 q915 q916 q169 (by decide) (by omega) (by omega) ?_
  generalize hM : nw M (20 + 9) 0 = M1
  have m1 : mZ M1 = mZ M + 1 := by rw [← hM]; rfl
  have m2 : mK M1 (mZ M) = 29 := by rw [← hM]; exact if_pos rfl
  have m3 : FM (fun _ => False) M M1 := by rw [← hM]; exact FM.nw
  clear hM
  refine r_dup (pc := 3) dX2_sum_3 rfl ?_
  refine r_cINm (pc := 4) (kc' := kc - 5) (ks' := ks - 27) dX2_sum_4 (cin_X2_218 hg) (ct_X9_init (M := M1) (a := mZ M) hg W.1.O W.1.c hgz (by omega) m2) rfl rfl (Nat.le_of_ble_eq_true rfl) (by omega) (by omega) (by omega) ?_
  rintro _ M2 ⟨rfl, hN⟩
  have F2 : FM (fun c => mZ M ≤ c) M M2 := m3.trans hN.2.2.2.2 (fun _ _ e => e.elim) (fun c hc e => by omega)
  have R2 : RO M o a M2 := (RO.rf W.at).more F2 ho
  have W2 := W.to R2 W.le
  have r72 := W2.rd.2.2.2.2.2.2.2.1.1
  have C2 : CHW g M M2 o D (mZ M) (mZ M1) (mZ M1 + 1) (mZ M1 + 2) (mZ M1 + 3) 0 (fun _ => []) (fun _ => 0) := CHW.mk hN (Nat.le_refl _) (by omega)
  have hz2 := hN.2.2.2.1
  refine r_ast1 (pc := 7) dX2_sum_7 ?_
  refine r_ald1 (pc := 8) dX2_sum_8 ?_
  refine r_bipush (v := nI 43) (pc := 9) dX2_sum_9 (by decide) ?_
  refine r_ald0 (pc := 11) dX2_sum_11 ?_
  refine r_cVx (ci := 2) (pc := 12) (kc' := kc - 5 - cst 60 20 20 n a (it a)) (ks' := ks - 27 - cst 4000 300 300 n a (it a)) dX2_sum_12 cv_X2_219 r72 (hit M2 _ W2) rfl rfl (Nat.le_of_ble_eq_true rfl) (by omega) (by omega) (by omega) (fun q M' hx => ?_) ?_
  · obtain ⟨kx, px, x1, x2⟩ := hx
    exact ⟨kx, px, by rw [x1]; rfl, XE.pre R2.1 x2⟩
  rintro _ M3 ⟨y3, z, hy, rfl, hV, hRO⟩
  have C3 := C2.fr hRO.1 ho
  obtain ⟨ci, z1, z2, z3⟩ := VAL.ob hg D hV
  have b4 := c2 y3 hy
  have b5 := c4 y3 hy
  obtain ⟨w1, w2, -⟩ := hq y3 hy
  refine r_cVm (ci := 9) (pc := 15) (kc' := kc - 5 - cst 60 20 20 n a (it a) - 2) (ks' := ks - 27 - cst 4000 300 300 n a (it a) - 3) dX2_sum_15 cv_X2_222 C3.1.1 (ct_X9_add hg W.1.O W.1.c hmi C3.1 (by decide) (by decide) z1 z3.2 z2) rfl rfl (Nat.le_of_ble_eq_true rfl) (by omega) (by omega) (by omega) ?_
  rintro _ M4 ⟨rfl, hA⟩
  refine r_iconst (v := nI 1) (pc := 18) dX2_sum_18 (by decide) ?_
  refine r_ist2 (pc := 19) dX2_sum_19 ?_
  obtain ⟨v', u', C4, F4⟩ := C3.add (oc := 0) hA hV (by omega) ⟨by omega, by omega, by omega, by omega⟩ (fun q => absurd q (by decide))
  have e9 : thn (it a) (fun cs b => loopP f n it (opA f n) (n + 1) cs b) = loopP f n it (opA f n) (n + 1) y3.1 y3.2 := by rw [hy]; rfl
  rw [e9]
  refine Bd.spend (kc' := clp 60 0 30 n y3.2 (loopP f n it (opA f n) (n + 1) y3.1 y3.2)) (ks' := clp 4000 0 400 n y3.2 (loopP f n it (opA f n) (n + 1) y3.1 y3.2)) (by omega) (by omega) ?_
  exact lp_X2_sum hpr hit W hd (n + 1) y3.2 y3.1 M4 (mZ M) (mZ M1) v' (mZ M1 + 2) u' 1 _ _ (by omega) w2 ((R2.trans hRO).more F4 ho) C4 (Nat.le_refl _) (by omega) (show (if (0 : Nat) = 0 then y3.1 else []) = y3.1 from if_pos rfl)
end X65
