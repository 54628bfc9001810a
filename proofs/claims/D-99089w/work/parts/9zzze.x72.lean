set_option maxRecDepth 100000
/-! THE READER: a part (3), and all the sums -/
section X72
variable {g : GC} {M : MM} {o n x oo a D d : Nat} {f : Nat → Nat} {r : Option (Nat → Rz)}
theorem cst_le {K t F t' F' n a q : Nat} {R : Rz} (haq : a ≤ q) (h1 : t ≤ t') (h2 : F ≤ F') : cst K t F n q R ≤ cst K t' F' n a R := by
  cases R with
  | ok y =>
    rw [cst_ok, cst_ok]
    have := Nat.mul_le_mul_left K (show y.2 - q - 1 ≤ y.2 - a - 1 by omega)
    omega
  | error e0 =>
    rw [cst_er, cst_er]
    have := Nat.mul_le_mul_left K (show n - q ≤ n - a by omega)
    omega
theorem ct_atom (hr : ∀ it, r = some it → prg n it) (hW : WiC g d o n f x oo D r) (hLk : LkC g d o n f x oo D r) (hd : 20 ≤ d) (hD : 1 ≤ D) : CtV g yX2_atom cX2_atom (d + 1) 10 10 200 200 o n f x oo D (atmK f n x r) := by
  intro M a W
  have hrd := W.rd
  have ho := hrd.oz
  have hg := hrd.1
  have hgb := hrd.2.1
  have r7 := hrd.2.2.2.2.2.2.2.1.1
  have hf := hrd.2.2.2.2.2.2.1.1
  have hsl := skip_le (f := f) W.le
  have hsg := skip_ge f n a
  have hct := ct_X2_here hrd W.le W.at
  by_cases e : lookO f n a = some 40
  · rw [atmK_b e]
    rw [(bI_look (by decide) hf).2 e] at hct
    have c1 : cst 60 0 0 n (skip f n a) (wiR f n r 0 (skip f n a)) ≤ cst 60 10 10 n a (wiR f n r 0 (skip f n a)) := cst_le hsg (by decide) (by decide)
    have c2 : cst 4000 0 0 n (skip f n a) (wiR f n r 0 (skip f n a)) ≤ cst 4000 200 200 n a (wiR f n r 0 (skip f n a)) := cst_le hsg (by decide) (by decide)
    generalize hkc : cst 60 10 10 n a (wiR f n r 0 (skip f n a)) = kc at *
    generalize hks : cst 4000 200 200 n a (wiR f n r 0 (skip f n a)) = ks at *
    refine Ct.of (by decide) (Nat.le_of_ble_eq_true rfl) rfl ?_
    refine r_ald0 (pc := 0) dX2_atom_0 ?_
    refine r_cV (ci := 2) (pc := 1) dX2_atom_1 cv_X2_43 r7 hct rfl rfl (Nat.le_of_ble_eq_true rfl) (by omega) ?_
    rintro _ M1 ⟨rfl, k1⟩
    have W1 := W.to k1 hsl
    have r71 := W1.rd.2.2.2.2.2.2.2.1.1
    obtain ⟨mc, ms, m1, m2, hcw⟩ := hW 0 (by decide) M1 _ W1
    refine r_bipush (v := nI 40) (pc := 4) dX2_atom_4 (by decide) ?_
    first | refine r_icmp_neN (pc := 6) (tgt := 15) dX2_atom_6 (by decide) (by omega) (by omega) (fun h6 => ?_) (fun h6 => ?_) | refine r_icmp_ne (pc := 6) (tgt := 15) dX2_atom_6 (by decide) (fun h6 => ?_) (fun h6 => ?_)
    · skip
      exact absurd rfl h6
    · skip
      refine r_ald0 (pc := 9) dX2_atom_9 ?_
      refine r_iconst (v := nI 0) (pc := 10) dX2_atom_10 (by decide) ?_
      refine r_cVx (ci := 2) (pc := 11) (kc' := 0) (ks' := 0) dX2_atom_11 cv_X2_239 r71 hcw rfl rfl (Nat.le_of_ble_eq_true rfl) (by omega) (by omega) (by omega) (fun q M' hx => hx.pre k1.1) ?_
      rintro v9 M9 hV
      have hV9 := hV.pre k1
      obtain ⟨y9, z9, hy9, rfl, -⟩ := hV
      refine r_aretR (pc := 14) dX2_atom_14 ?_
      exact hV9
  · by_cases e0 : skip f n a < n
    · have hfa := hf (skip f n a)
      have hne : f (skip f n a) ≠ 40 := fun q => e (by unfold lookO; rw [if_pos e0, q])
      rw [show bI f n (skip f n a) = nI (f (skip f n a)) from if_pos e0] at hct
      by_cases ed : dgt (f (skip f n a)) = true
      · have hwn : word f n (skip f n a) = none := by
          unfold word
          rw [if_neg]
          rintro ⟨-, q, -⟩
          unfold ltr at q
          unfold dgt at ed
          simp at q ed
          omega
        rw [atmK_n e hwn]
        have c1 : 1 ≤ cst 60 10 10 n a (match numP f n 0 9999 (skip f n a) with | .error e => .error e | .ok y => .ok ([1000 + y.1], y.2)) := by
          cases numP f n 0 9999 (skip f n a) with
          | error e1 => show 1 ≤ 60 * (n - a) + 10; omega
          | ok y => show 1 ≤ 60 * (y.2 - a - 1) + 10; omega
        have c2 : 1 ≤ cst 4000 200 200 n a (match numP f n 0 9999 (skip f n a) with | .error e => .error e | .ok y => .ok ([1000 + y.1], y.2)) := by
          cases numP f n 0 9999 (skip f n a) with
          | error e1 => show 1 ≤ 4000 * (n - a) + 200; omega
          | ok y => show 1 ≤ 4000 * (y.2 - a - 1) + 200; omega
        generalize hkc : cst 60 10 10 n a (match numP f n 0 9999 (skip f n a) with | .error e => .error e | .ok y => .ok ([1000 + y.1], y.2)) = kc at *
        generalize hks : cst 4000 200 200 n a (match numP f n 0 9999 (skip f n a) with | .error e => .error e | .ok y => .ok ([1000 + y.1], y.2)) = ks at *
        refine Ct.of (by decide) (Nat.le_of_ble_eq_true rfl) rfl ?_
        refine r_ald0 (pc := 0) dX2_atom_0 ?_
        refine r_cV (ci := 2) (pc := 1) dX2_atom_1 cv_X2_43 r7 hct rfl rfl (Nat.le_of_ble_eq_true rfl) (by omega) ?_
        rintro _ M1 ⟨rfl, k1⟩
        have W1 := W.to k1 hsl
        have r71 := W1.rd.2.2.2.2.2.2.2.1.1
        have hct2 := ct_X2_here W1.rd hsl W1.at
        rw [skip_idem, show bI f n (skip f n a) = nI (f (skip f n a)) from if_pos e0] at hct2
        refine r_bipush (v := nI 40) (pc := 4) dX2_atom_4 (by decide) ?_
        first | refine r_icmp_neN (pc := 6) (tgt := 15) dX2_atom_6 (by decide) (by omega) (by omega) (fun h6 => ?_) (fun h6 => ?_) | refine r_icmp_ne (pc := 6) (tgt := 15) dX2_atom_6 (by decide) (fun h6 => ?_) (fun h6 => ?_)
        · skip
          refine r_ald0 (pc := 15) dX2_atom_15 ?_
          refine r_cV (ci := 2) (pc := 16) dX2_atom_16 cv_X2_43 r71 hct2 rfl rfl (Nat.le_of_ble_eq_true rfl) (by omega) ?_
          rintro _ M2 ⟨rfl, k2⟩
          have W2 := W1.to k2 hsl
          have r72 := W2.rd.2.2.2.2.2.2.2.1.1
          refine r_cSN (pc := 19) dX2_atom_19 (csn_X2_55 hg) (ct_X0_isDigit hfa) rfl rfl (Nat.le_of_ble_eq_true rfl) (by omega) ?_
          rintro _ M8 ⟨rfl, e8⟩
          rw [e8]
          first | refine r_if_eqZ (pc := 22) (tgt := 42) dX2_atom_22 (by decide) (fun h22 => ?_) (fun h22 => ?_) | refine r_if_eqN (pc := 22) (tgt := 42) dX2_atom_22 (by decide) (by omega) (fun h22 => ?_) (fun h22 => ?_) | refine r_if_eq (pc := 22) (tgt := 42) dX2_atom_22 (by decide) (fun h22 => ?_) (fun h22 => ?_)
          · skip
            exact absurd ed h22
          · skip
            refine r_new (pc := 25) (ci := 11) (kc' := 0) (ks' := 0) dX2_atom_25 q988 q989 q173 (by decide) (by omega) (by omega) ?_
            generalize hM5 : nw M2 (20 + 11) 0 = M5
            have m1 : mZ M5 = mZ M2 + 1 := by rw [← hM5]; rfl
            have m3 : mK M5 (mZ M2) = 31 := by rw [← hM5]; exact if_pos rfl
            have m4 : FM (fun _ => False) M2 M5 := by rw [← hM5]; exact FM.nw
            clear hM5
            have hz1 := k1.1.1.1
            have hz2 := k2.1.1.1
            have R5 : RO M2 o (skip f n a) M5 := (RO.rf W2.at).more ⟨m4.1, fun c hc _ => m4.2 c hc (fun q => q)⟩ (by omega)
            have W5 := W2.to R5 hsl
            have r75 := W5.rd.2.2.2.2.2.2.2.1.1
            have hcn := ct_X2_number (lo := 0) (hi := 9999) W5.rd hsl W5.at (by decide) (by decide)
            rw [skip_idem] at hcn
            refine r_dup (pc := 28) dX2_atom_28 rfl ?_
            refine r_ald0 (pc := 29) dX2_atom_29 ?_
            refine r_iconst (v := nI 0) (pc := 30) dX2_atom_30 (by decide) ?_
            refine r_sipush (v := nI 9999) (pc := 31) dX2_atom_31 (by decide) ?_
            refine r_cVx (ci := 2) (pc := 34) (kc' := 0) (ks' := 0) dX2_atom_34 cv_X2_96 r75 hcn rfl rfl (Nat.le_of_ble_eq_true rfl) (by omega) (by omega) (by omega) (fun q M' hx => ?_) ?_
            · obtain ⟨kx, px, x1, x2⟩ := hx
              exact ⟨kx, px, by rw [x1], XE.pre ((k1.1.trans k2.1).trans R5.1) x2⟩
            rintro _ M6 ⟨v, b, hv, rfl, hRO, -⟩
            obtain ⟨-, -, -, -, hv9⟩ := numP_ok hv
            have hv9 : v ≤ 9999 := hv9
            have hz6 := hRO.1.1.1
            have s6 := hRO.1.sm (c := mZ M2) (by omega) (by omega)
            first | refine r_i2lM (pc := 37) dX2_atom_37 (by omega) ?_ | refine r_i2lI (pc := 37) dX2_atom_37 (by constructor <;> omega) ?_ | refine r_i2lT (pc := 37) dX2_atom_37 ?_
            refine r_cI (pc := 38) dX2_atom_38 ci_X2_245 (ct_X11_init (M := M6) (a := mZ M2) hg (by omega) (s6.1.trans m3)) rfl rfl (Nat.le_of_ble_eq_true rfl) (by omega) ?_
            rintro _ M7 ⟨rfl, e7⟩
            have z7 : mZ M7 = mZ M6 := by rw [e7]; rfl
            refine r_aretR (pc := 41) dX2_atom_41 ?_
            refine ⟨([1000 + v], b), mZ M2, by rw [hv], rfl, ?_, (((k1.trans k2).trans R5).trans hRO).more (M2 := M7) (by rw [e7]; exact FM.sL fun _ => by omega) ho⟩
            obtain ⟨D', rfl⟩ : ∃ D', D = D' + 1 := ⟨D - 1, by omega⟩
            exact Or.inl ⟨⟨by omega, by omega⟩, by rw [e7]; exact s6.1.trans m3, v, by omega, by rw [e7, mL_sLs], rfl⟩
        · skip
          exact absurd h6 (by omega)
      · generalize hkc : cst 60 10 10 n a (atmK f n x r a) = kc
        generalize hks : cst 4000 200 200 n a (atmK f n x r a) = ks
        refine Ct.of (by decide) (Nat.le_of_ble_eq_true rfl) rfl ?_
        refine r_ald0 (pc := 0) dX2_atom_0 ?_
        refine r_cV (ci := 2) (pc := 1) dX2_atom_1 cv_X2_43 r7 hct rfl rfl (Nat.le_of_ble_eq_true rfl) (by omega) ?_
        rintro _ M1 ⟨rfl, k1⟩
        have W1 := W.to k1 hsl
        have r71 := W1.rd.2.2.2.2.2.2.2.1.1
        have hct2 := ct_X2_here W1.rd hsl W1.at
        rw [skip_idem, show bI f n (skip f n a) = nI (f (skip f n a)) from if_pos e0] at hct2
        refine r_bipush (v := nI 40) (pc := 4) dX2_atom_4 (by decide) ?_
        first | refine r_icmp_neN (pc := 6) (tgt := 15) dX2_atom_6 (by decide) (by omega) (by omega) (fun h6 => ?_) (fun h6 => ?_) | refine r_icmp_ne (pc := 6) (tgt := 15) dX2_atom_6 (by decide) (fun h6 => ?_) (fun h6 => ?_)
        · skip
          refine r_ald0 (pc := 15) dX2_atom_15 ?_
          refine r_cV (ci := 2) (pc := 16) dX2_atom_16 cv_X2_43 r71 hct2 rfl rfl (Nat.le_of_ble_eq_true rfl) (by omega) ?_
          rintro _ M2 ⟨rfl, k2⟩
          refine r_cSN (pc := 19) dX2_atom_19 (csn_X2_55 hg) (ct_X0_isDigit hfa) rfl rfl (Nat.le_of_ble_eq_true rfl) (by omega) ?_
          rintro _ M8 ⟨rfl, e8⟩
          rw [e8]
          first | refine r_if_eqZ (pc := 22) (tgt := 42) dX2_atom_22 (by decide) (fun h22 => ?_) (fun h22 => ?_) | refine r_if_eqN (pc := 22) (tgt := 42) dX2_atom_22 (by decide) (by omega) (fun h22 => ?_) (fun h22 => ?_) | refine r_if_eq (pc := 22) (tgt := 42) dX2_atom_22 (by decide) (fun h22 => ?_) (fun h22 => ?_)
          · skip
            exact at_42 hr W (k1.trans k2) e (fun q => ed q.2) hW hLk hd hD hkc hks
          · skip
            exact absurd h22 ed
        · skip
          exact absurd h6 (by omega)
    · rw [show bI f n (skip f n a) = iI (-1) from if_neg e0] at hct
      generalize hkc : cst 60 10 10 n a (atmK f n x r a) = kc
      generalize hks : cst 4000 200 200 n a (atmK f n x r a) = ks
      refine Ct.of (by decide) (Nat.le_of_ble_eq_true rfl) rfl ?_
      refine r_ald0 (pc := 0) dX2_atom_0 ?_
      refine r_cV (ci := 2) (pc := 1) dX2_atom_1 cv_X2_43 r7 hct rfl rfl (Nat.le_of_ble_eq_true rfl) (by omega) ?_
      rintro _ M1 ⟨rfl, k1⟩
      have W1 := W.to k1 hsl
      have r71 := W1.rd.2.2.2.2.2.2.2.1.1
      have hct2 := ct_X2_here W1.rd hsl W1.at
      rw [skip_idem, show bI f n (skip f n a) = iI (-1) from if_neg e0] at hct2
      refine r_bipush (v := nI 40) (pc := 4) dX2_atom_4 (by decide) ?_
      refine r_icmp_ne (pc := 6) (tgt := 15) dX2_atom_6 (by decide) (fun h6 => ?_) (fun h6 => ?_)
      · skip
        refine r_ald0 (pc := 15) dX2_atom_15 ?_
        refine r_cV (ci := 2) (pc := 16) dX2_atom_16 cv_X2_43 r71 hct2 rfl rfl (Nat.le_of_ble_eq_true rfl) (by omega) ?_
        rintro _ M2 ⟨rfl, k2⟩
        refine r_cSN (pc := 19) dX2_atom_19 (csn_X2_55 hg) ct_X0_isDigit_neg rfl rfl (Nat.le_of_ble_eq_true rfl) (by omega) ?_
        rintro _ M8 ⟨rfl, e8⟩
        rw [e8]
        first | refine r_if_eqZ (pc := 22) (tgt := 42) dX2_atom_22 (by decide) (fun h22 => ?_) (fun h22 => ?_) | refine r_if_eqN (pc := 22) (tgt := 42) dX2_atom_22 (by decide) (by omega) (fun h22 => ?_) (fun h22 => ?_) | refine r_if_eq (pc := 22) (tgt := 42) dX2_atom_22 (by decide) (fun h22 => ?_) (fun h22 => ?_)
        · skip
          exact at_42 hr W (k1.trans k2) e (fun q => e0 q.1) hW hLk hd hD hkc hks
        · skip
          exact absurd rfl h22
      · skip
        exact absurd h6 (by decide)
/-- all the parts: with oo more brackets to come -/
theorem ct_atoms : ∀ oo, CtV g yX2_atom cX2_atom (21 + 4 * oo) 10 10 200 200 o n f x oo (3 * oo + 1) (atomP f n x oo)
  | 0 => ct_atom (r := none) (fun it h => by cases h) (wic_none (by decide)) (lkc_none (by decide)) (by decide) (by decide)
  | oo + 1 => by
    have h1 := ct_atoms oo
    have p1 : prg n (atomP f n x oo) := atomP_prg oo
    have h2 := ct_X2_product p1 h1 (by omega)
    rw [← prodP_pt] at h2
    have h3 := ct_X2_sum (prodP_prg p1) h2 (by omega)
    rw [← sumP_pt] at h3
    have h4 := wic_some (sumP_prg p1) h3 (by omega)
    have h5 := lkc_some (dd := 21 + 4 * oo + 1 + 1 + 1) p1 h1 (by omega) (by omega)
    have h6 : LkC g (21 + 4 * oo + 1 + 1 + 1) o n f x (oo + 1) (3 * oo + 1 + 1 + 1 + 1) (some (atomP f n x oo)) := fun k hk M a p W h3 => by
      obtain ⟨mc, ms, m1, m2, m3⟩ := h5 k hk M a p W h3
      exact ⟨mc, ms, m1, m2, m3.post (fun v M' q => q.up (by omega)) (fun _ _ q => q)⟩
    have h7 := ct_atom (r := some (atomP f n x oo)) (d := 21 + 4 * oo + 1 + 1 + 1) (D := 3 * oo + 1 + 1 + 1 + 1) (fun it h => by cases h; exact p1) h4 h6 (by omega) (by omega)
    have e1 : 21 + 4 * oo + 1 + 1 + 1 + 1 = 21 + 4 * (oo + 1) := by omega
    have e2 : 3 * oo + 1 + 1 + 1 = 3 * (oo + 1) := by omega
    rw [e1, e2] at h7
    exact h7
theorem ct_sums : CtV g yX2_sum cX2_sum (23 + 4 * oo) 30 30 400 400 o n f x oo (3 * oo + 3) (sumP f n (atomP f n x oo)) := by
  have h1 := ct_atoms (g := g) (o := o) (n := n) (f := f) (x := x) oo
  have p1 : prg n (atomP f n x oo) := atomP_prg oo
  have h2 := ct_X2_product p1 h1 (by omega)
  rw [← prodP_pt] at h2
  have h3 := ct_X2_sum (prodP_prg p1) h2 (by omega)
  rw [← sumP_pt] at h3
  have e1 : 21 + 4 * oo + 1 + 1 = 23 + 4 * oo := by omega
  rw [e1] at h3
  exact h3
end X72
