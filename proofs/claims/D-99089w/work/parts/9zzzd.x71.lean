set_option maxRecDepth 100000
/-! THE READER: a part (2) -/
section X71
variable {g : GC} {M M2 : MM} {o n x oo a D d kc ks : Nat} {f : Nat → Nat} {r : Option (Nat → Rz)}
/-- costs of a word and what comes behind it -/
theorem wdc {K t F t' F' s n a q : Nat} {R : Rz} (haq : a < q) (hqn : q ≤ n) (hpr : ∀ y, R = .ok y → q < y.2 ∧ y.2 ≤ n) (h1 : s + t ≤ K * (q - a) + t') (h2 : s + F ≤ K * (q - a) + F') : s + cst K t F n q R ≤ cst K t' F' n a R := by
  cases hR : R with
  | ok y =>
    obtain ⟨p1, p2⟩ := hpr y hR
    rw [cst_ok, cst_ok]
    have e : K * (y.2 - a - 1) = K * (y.2 - q - 1) + K * (q - a) := by rw [← Nat.mul_add]; congr 1; omega
    omega
  | error e0 =>
    rw [cst_er, cst_er]
    have e : K * (n - a) = K * (n - q) + K * (q - a) := by rw [← Nat.mul_add]; congr 1; omega
    omega
/-- a word is read: from there on -/
theorem at_42 (hr : ∀ it, r = some it → prg n it) (W : RWA g M o n f x oo a) (hR2 : RO M o (skip f n a) M2) (hnb : lookO f n a ≠ some 40) (hnd : ¬ (skip f n a < n ∧ dgt (f (skip f n a)) = true)) (hW : WiC g d o n f x oo D r) (hLk : LkC g d o n f x oo D r) (hd : 20 ≤ d) (hD : 1 ≤ D) (hkc : cst 60 10 10 n a (atmK f n x r a) = kc) (hks : cst 4000 200 200 n a (atmK f n x r a) = ks) :
    Bd g yX2_atom cX2_atom 3 (some (.object "Retouched$Value")) [] (d + 1) kc ks M2 42 [some (.ref (o + 5)), none, none] [] (RVQ M o D (atmK f n x r a)) (RVX M o (atmK f n x r a)) := by
  have ho := W.rd.oz
  have hg := W.rd.1
  have hgb := W.rd.2.1
  have hx3 := W.2.2.2.2.2.2
  have hsl := skip_le (f := f) W.le
  have hsg := skip_ge f n a
  have W2 := W.to hR2 hsl
  have r72 := W2.rd.2.2.2.2.2.2.2.1.1
  have hcs := W.1.c
  have hwd := ct_X2_word_2 W2.rd hcs hsl W2.at
  rw [skip_idem] at hwd
  have hlw := lts_le f (n - skip f n a) (skip f n a)
  cases hw : word f n (skip f n a) with
  | none =>
    have hnum : numP f n 0 9999 (skip f n a) = .error (1, skip f n a) := by
      unfold numP
      rw [if_neg (fun q => hnd ⟨q.1, q.2.1⟩)]
    have er : atmK f n x r a = .error (1, skip f n a) := by rw [atmK_n hnb hw, hnum]
    rw [er] at hkc hks ⊢
    rw [cst_er] at hkc hks
    rw [hw] at hwd
    refine r_ald0 (pc := 42) dX2_atom_42 ?_
    refine r_cVx (ci := 2) (pc := 43) (kc' := 0) (ks' := 0) dX2_atom_43 cv_X2_70 r72 hwd rfl rfl (Nat.le_of_ble_eq_true rfl) (by omega) (by omega) (by omega) (fun q M' hx => ⟨1, skip f n a, rfl, XE.pre hR2.1 hx.2⟩) ?_
    rintro _ M3 ⟨w, z, e9, -⟩
    cases e9
  | some w =>
    obtain ⟨v1, v2, v3, v4⟩ := word_some hw
    obtain ⟨v5, v6, -⟩ := word_end hw
    rw [hw, v4] at hwd
    obtain ⟨t, t1, t2, t3⟩ := W2.1.2.2.2.2 ("ASKED", askW) (by decide)
    have er := atmK_w (r := r) hx3 hw
    have hwm := W.1.2.1
    have hq : skip f n a + w.length ≤ n := v5
    have word_go : ∀ (R : Rz) (K3 : ∀ M3 z, WD M2 o (skip f n a) w z M3 → Bd g yX2_atom cX2_atom 3 (some (.object "Retouched$Value")) [] (d + 1) (kc - 3) (ks - (2 * w.length + 4)) M3 46 [some (.ref (o + 5)), none, none] [.ref z] (RVQ M o D R) (RVX M o R)), 3 ≤ kc → 2 * w.length + 4 ≤ ks → Bd g yX2_atom cX2_atom 3 (some (.object "Retouched$Value")) [] (d + 1) kc ks M2 42 [some (.ref (o + 5)), none, none] [] (RVQ M o D R) (RVX M o R) := by
      intro R K3 q1 q2
      refine r_ald0 (pc := 42) dX2_atom_42 ?_
      refine r_cVx (ci := 2) (pc := 43) (kc' := kc - 3) (ks' := ks - (2 * w.length + 4)) dX2_atom_43 cv_X2_70 r72 hwd rfl rfl (Nat.le_of_ble_eq_true rfl) (by omega) (by omega) (by omega) (fun q M' hx => by cases hx.1) ?_
      rintro _ M3 ⟨w', z, e9, rfl, q9⟩
      cases e9
      exact K3 M3 z q9
    by_cases hask : ∃ k, fndW askW w 11 0 = some k ∧ alwQ x k = true
    · obtain ⟨k, k1, k2⟩ := hask
      have hk := (fndW_lt 11 0 k k1).2
      have ej : jtW x w = some (3, 40 + k) := by unfold jtW; rw [k1]; exact if_pos k2
      rw [ej] at er
      have er : atmK f n x r a = .ok ([40 + k], skip f n a + w.length) := er
      rw [er] at hkc hks ⊢
      rw [cst_ok] at hkc hks
      have hkc : 60 * (skip f n a + w.length - a - 1) + 10 = kc := hkc
      have hks : 4000 * (skip f n a + w.length - a - 1) + 200 = ks := hks
      refine word_go _ (fun M3 z hWD => ?_) (by omega) (by omega)
      obtain ⟨q1, q2, -, -, q5, q6⟩ := hWD
      have W3 := W2.to q5 hq
      have r73 := W3.rd.2.2.2.2.2.2.2.1.1
      have hz3 := q5.1.1.1
      have hz2 := hR2.1.1.1
      obtain ⟨t, t1, t2, t3⟩ := W3.1.2.2.2.2 ("ASKED", askW) (by decide)
      have hfd := ct_X0_find (g := g) hcs t3 q2
      rw [show askW.length = 11 from rfl, k1, show onI (some k) = nI k from rfl] at hfd
      refine r_ast1 (pc := 46) dX2_atom_46 ?_
      refine r_ald1 (pc := 47) dX2_atom_47 ?_
      refine r_getsNn (pc := 48) dX2_atom_48 (hg _ q998 rfl) t1 ?_
      refine r_cSN (pc := 51) dX2_atom_51 (csn_X2_82 hg) hfd rfl rfl (Nat.le_of_ble_eq_true rfl) (by omega) ?_
      rintro _ M8 ⟨rfl, e8⟩
      rw [e8]
      refine r_ist2 (pc := 54) dX2_atom_54 ?_
      refine r_ild2 (pc := 55) dX2_atom_55 ?_
      refine r_iconst (v := -1) (pc := 56) dX2_atom_56 (by decide) ?_
      refine r_icmp_eq (pc := 57) (tgt := 80) dX2_atom_57 (by decide) (fun h57 => ?_) (fun h57 => ?_)
      · skip
        exact absurd h57 (nI_n1 (by omega))
      · skip
        refine r_ald0 (pc := 60) dX2_atom_60 ?_
        refine r_getI' (pc := 61) dX2_atom_61 fl_X2_162 r73 W3.2.2.2.2.2.1 ?_
        refine r_ild2 (pc := 64) dX2_atom_64 ?_
        refine r_cSN (pc := 65) dX2_atom_65 (csn_X2_251 hg) (ct_X0_hasC hx3 hk) rfl rfl (Nat.le_of_ble_eq_true rfl) (by omega) ?_
        rintro _ M7 ⟨rfl, e7⟩
        rw [e7]
        first | refine r_if_eqZ (pc := 68) (tgt := 80) dX2_atom_68 (by decide) (fun h68 => ?_) (fun h68 => ?_) | refine r_if_eqN (pc := 68) (tgt := 80) dX2_atom_68 (by decide) (by omega) (fun h68 => ?_) (fun h68 => ?_) | refine r_if_eq (pc := 68) (tgt := 80) dX2_atom_68 (by decide) (fun h68 => ?_) (fun h68 => ?_)
        · skip
          exact absurd k2 h68
        · skip
          refine r_new (pc := 71) (ci := 12) (kc' := 0) (ks' := 0) dX2_atom_71 q1003 q1004 q174 (by decide) (by omega) (by omega) ?_
          generalize hM5 : nw M3 (20 + 12) 0 = M5
          have m1 : mZ M5 = mZ M3 + 1 := by rw [← hM5]; rfl
          have m3 : mK M5 (mZ M3) = 32 := by rw [← hM5]; exact if_pos rfl
          have m4 : FM (fun _ => False) M3 M5 := by rw [← hM5]; exact FM.nw
          clear hM5
          refine r_dup (pc := 74) dX2_atom_74 rfl ?_
          refine r_ild2 (pc := 75) dX2_atom_75 ?_
          refine r_cI (pc := 76) dX2_atom_76 ci_X2_257 (ct_X12_init (M := M5) (a := mZ M3) hg (by omega) m3) rfl rfl (Nat.le_of_ble_eq_true rfl) (by omega) ?_
          rintro _ M6 ⟨rfl, e6⟩
          have f6 : FM (fun c => mZ M ≤ c) M3 M6 := m4.trans (T := fun c => c = mZ M3) (by rw [e6]; exact FM.sI fun _ => rfl) (fun _ _ e => e.elim) (fun c hc e => by omega)
          have z6 : mZ M6 = mZ M3 + 1 := by rw [e6]; exact m1
          refine r_aretR (pc := 79) dX2_atom_79 ?_
          refine ⟨([40 + k], skip f n a + w.length), mZ M3, rfl, rfl, ?_, (hR2.trans q5).more f6 ho⟩
          obtain ⟨D', rfl⟩ : ∃ D', D = D' + 1 := ⟨D - 1, by omega⟩
          exact Or.inr (Or.inl ⟨⟨by omega, by omega⟩, by rw [e6]; exact m3, k, by omega, by rw [e6, mI_sIs], rfl⟩)
    · have ej : jtW x w = jtR x w := by
        unfold jtW
        cases hf : fndW askW w 11 0 with
        | none => rfl
        | some k => exact if_neg (fun q => hask ⟨k, hf, q⟩)
      have er2 : atmK f n x r a = match jtR x w with
          | none => .error (1, skip f n a)
          | some k => if k.1 = 2 then lkR r k.2 (skip f n a) (skip f n a + w.length) else wiR f n r (k.2 + 1) (skip f n a + w.length) := by
        rw [er, ej]
        cases hj : jtR x w with
        | none => rfl
        | some k =>
          show (if k.1 = 3 then _ else _) = (if k.1 = 2 then _ else _)
          rw [if_neg]
          intro e3
          unfold jtR at hj
          split at hj
          · cases hj; cases e3
          · split at hj
            · cases hj; cases e3
            · split at hj
              · cases hj; cases e3
              · cases hj
      have hpg : ∀ y, atmK f n x r a = .ok y → skip f n a + w.length < y.2 ∧ y.2 ≤ n := by
        intro y hy
        rw [er2] at hy
        split at hy
        · cases hy
        · split at hy
          · exact lkR_prg hr hy
          · exact wiR_prg hr hy
      have c1 : 3 + cst 60 11 11 n (skip f n a + w.length) (atmK f n x r a) ≤ cst 60 10 10 n a (atmK f n x r a) := wdc (by omega) hq hpg (by omega) (by omega)
      have c2 : 2 * w.length + 4 + cst 4000 203 203 n (skip f n a + w.length) (atmK f n x r a) ≤ cst 4000 200 200 n a (atmK f n x r a) := wdc (by omega) hq hpg (by omega) (by omega)
      refine word_go _ (fun M3 z hWD => ?_) (by omega) (by omega)
      obtain ⟨q1, q2, -, -, q5, q6⟩ := hWD
      have W3 := W2.to q5 hq
      have r73 := W3.rd.2.2.2.2.2.2.2.1.1
      obtain ⟨t, t1, t2, t3⟩ := W3.1.2.2.2.2 ("ASKED", askW) (by decide)
      have hfd := ct_X0_find (g := g) hcs t3 q2
      rw [show askW.length = 11 from rfl] at hfd
      have hend : Bd g yX2_atom cX2_atom 3 (some (.object "Retouched$Value")) [] (d + 1) (kc - 3) (ks - (2 * w.length + 4)) M3 80 [some (.ref (o + 5)), some (.ref z), none] [] (RVQ M o D (atmK f n x r a)) (RVX M o (atmK f n x r a)) := at_80 W3 (hR2.trans q5) q2 q6 hW hLk hd er2 (by omega) (by omega)
      cases hf : fndW askW w 11 0 with
      | none =>
        rw [hf, show onI none = (-1 : Int32) from iI_n1] at hfd
        refine r_ast1 (pc := 46) dX2_atom_46 ?_
        refine r_ald1 (pc := 47) dX2_atom_47 ?_
        refine r_getsNn (pc := 48) dX2_atom_48 (hg _ q998 rfl) t1 ?_
        refine r_cSN (pc := 51) dX2_atom_51 (csn_X2_82 hg) hfd rfl rfl (Nat.le_of_ble_eq_true rfl) (by omega) ?_
        rintro _ M8 ⟨rfl, e8⟩
        rw [e8]
        refine r_ist2 (pc := 54) dX2_atom_54 ?_
        refine r_ild2 (pc := 55) dX2_atom_55 ?_
        refine r_iconst (v := -1) (pc := 56) dX2_atom_56 (by decide) ?_
        refine r_icmp_eq (pc := 57) (tgt := 80) dX2_atom_57 (by decide) (fun h57 => ?_) (fun h57 => ?_)
        · skip
          exact Bd.kill 2 hend
        · skip
          exact absurd rfl h57
      | some k =>
        have hk := (fndW_lt 11 0 k hf).2
        have hna : ¬ alwQ x k = true := fun q => hask ⟨k, hf, q⟩
        rw [hf, show onI (some k) = nI k from rfl] at hfd
        refine r_ast1 (pc := 46) dX2_atom_46 ?_
        refine r_ald1 (pc := 47) dX2_atom_47 ?_
        refine r_getsNn (pc := 48) dX2_atom_48 (hg _ q998 rfl) t1 ?_
        refine r_cSN (pc := 51) dX2_atom_51 (csn_X2_82 hg) hfd rfl rfl (Nat.le_of_ble_eq_true rfl) (by omega) ?_
        rintro _ M8 ⟨rfl, e8⟩
        rw [e8]
        refine r_ist2 (pc := 54) dX2_atom_54 ?_
        refine r_ild2 (pc := 55) dX2_atom_55 ?_
        refine r_iconst (v := -1) (pc := 56) dX2_atom_56 (by decide) ?_
        refine r_icmp_eq (pc := 57) (tgt := 80) dX2_atom_57 (by decide) (fun h57 => ?_) (fun h57 => ?_)
        · skip
          exact absurd h57 (nI_n1 (by omega))
        · skip
          refine r_ald0 (pc := 60) dX2_atom_60 ?_
          refine r_getI' (pc := 61) dX2_atom_61 fl_X2_162 r73 W3.2.2.2.2.2.1 ?_
          refine r_ild2 (pc := 64) dX2_atom_64 ?_
          refine r_cSN (pc := 65) dX2_atom_65 (csn_X2_251 hg) (ct_X0_hasC hx3 hk) rfl rfl (Nat.le_of_ble_eq_true rfl) (by omega) ?_
          rintro _ M7 ⟨rfl, e7⟩
          rw [e7]
          first | refine r_if_eqZ (pc := 68) (tgt := 80) dX2_atom_68 (by decide) (fun h68 => ?_) (fun h68 => ?_) | refine r_if_eqN (pc := 68) (tgt := 80) dX2_atom_68 (by decide) (by omega) (fun h68 => ?_) (fun h68 => ?_) | refine r_if_eq (pc := 68) (tgt := 80) dX2_atom_68 (by decide) (fun h68 => ?_) (fun h68 => ?_)
          · skip
            exact Bd.kill 2 hend
          · skip
            exact absurd h68 hna
end X71
