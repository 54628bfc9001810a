set_option maxRecDepth 100000
/-! THE READER: a part -/
theorem RVQ.pre {M M1 M' : MM} {o D b : Nat} {r : Rz} {v : Option Value} (h : RVQ M1 o D r v M') (hR : RO M o b M1) : RVQ M o D r v M' := by
  obtain ⟨y, z, h1, h2, h3, h4⟩ := h
  have hz := hR.1.1.1
  exact ⟨y, z, h1, h2, VAL.fr (fun _ _ => Sm.rf) (fun c q => ⟨by omega, q.2⟩) D D z y.1 (Nat.le_refl _) h3, hR.trans h4⟩
theorem RVX.pre {M M1 M' : MM} {o q : Nat} {r : Rz} (h : RVX M1 o r q M') (hR : RFr o M M1) : RVX M o r q M' := by
  obtain ⟨k, p, h1, h2⟩ := h
  exact ⟨k, p, h1, XE.pre hR h2⟩
section Spec70
variable {f : Nat → Nat} {n x : Nat} {r : Option (Nat → Rz)}
theorem jtW_k {w : List Nat} {k : Nat × Nat} (h : jtW x w = some k) : (k.1 = 1 ∧ k.2 ≤ 1) ∨ (k.1 = 2 ∧ k.2 ≤ 1) ∨ k.1 = 3 := by
  have hR : jtR x w = some k → (k.1 = 1 ∧ k.2 ≤ 1) ∨ (k.1 = 2 ∧ k.2 ≤ 1) ∨ k.1 = 3 := by
    intro h
    unfold jtR at h
    split at h
    · next j hj =>
      cases h
      split at hj
      · have := fndW_lt 2 0 j hj; exact Or.inr (Or.inl ⟨rfl, by show j ≤ 1; omega⟩)
      · cases hj
    · split at h
      · cases h; exact Or.inl ⟨rfl, Nat.zero_le _⟩
      · split at h
        · cases h; exact Or.inl ⟨rfl, Nat.le_refl _⟩
        · cases h
  unfold jtW at h
  split at h
  · split at h
    · cases h; exact Or.inr (Or.inr rfl)
    · exact hR h
  · exact hR h
theorem atmK_w {a : Nat} {w : List Nat} (hx : x ≤ 3) (hw : word f n (skip f n a) = some w) : atmK f n x r a = match jtW x w with
    | none => .error (1, skip f n a)
    | some k => if k.1 = 3 then .ok ([k.2], skip f n a + w.length) else if k.1 = 2 then lkR r k.2 (skip f n a) (skip f n a + w.length) else wiR f n r (k.2 + 1) (skip f n a + w.length) := by
  unfold atmK
  rw [aTok_w hw, ← jt_tk hx]
  cases hj : jtW x w with
  | none => rfl
  | some k =>
    have hk := jtW_k hj
    obtain ⟨k1, k2⟩ := k
    rcases hk with ⟨e, -⟩ | ⟨e, -⟩ | e
    · have e : k1 = 1 := e
      subst e
      cases r <;> rfl
    · have e : k1 = 2 := e
      subst e
      cases r <;> rfl
    · have e : k1 = 3 := e
      subst e
      rfl
theorem atmK_b {a : Nat} (e : lookO f n a = some 40) : atmK f n x r a = wiR f n r 0 (skip f n a) := by
  obtain ⟨h1, h2⟩ := lookO_some e
  unfold atmK wiR
  rw [show aTok f n x (skip f n a) = .ok (0, 0, skip f n a + 1) from if_pos ⟨h1, h2⟩, lookO_skip, if_pos e, skip_idem]
  show (if (0 : Nat) = 0 then _ else _) = _
  rw [if_pos rfl]
  cases r <;> rfl
theorem atmK_n {a : Nat} (e : lookO f n a ≠ some 40) (hw : word f n (skip f n a) = none) : atmK f n x r a = match numP f n 0 9999 (skip f n a) with
    | .error e => .error e
    | .ok y => .ok ([1000 + y.1], y.2) := by
  have hp : ¬ (skip f n a < n ∧ f (skip f n a) = 40) := fun q => e (by unfold lookO; rw [if_pos q.1, q.2])
  unfold atmK
  rw [aTok_n hp hw]
  cases numP f n 0 9999 (skip f n a) with
  | error e => rfl
  | ok y => rfl
theorem wiR_prg {two a : Nat} {y : List Nat × Nat} (hr : ∀ it, r = some it → prg n it) (h : wiR f n r two a = .ok y) : a < y.2 ∧ y.2 ≤ n := by
  unfold wiR at h
  have hs := skip_ge f n a
  split at h
  · cases r with
    | none => cases h
    | some it =>
      obtain ⟨y1, h1, h2⟩ := thn_ok h
      obtain ⟨p1, p2, -⟩ := sumP_prg (hr it rfl) _ _ h1
      have h2 : (if two = 0 then fin y1.1 (sgP f n 41 y1.2) else secP f n it (two - 1) y1.1 (sgP f n 44 y1.2)) = .ok y := h2
      split at h2
      · obtain ⟨b, hb, rfl⟩ := fin_ok h2
        have := sgP_ok hb
        exact ⟨by show a < b; omega, this.2.1⟩
      · cases hb : sgP f n 44 y1.2 with
        | error e0 => rw [hb] at h2; cases h2
        | ok d0 =>
          rw [hb] at h2
          have h2 : thn (sumP f n it d0) (fun ds b => fin (y1.1 ++ (ds ++ [5 + (two - 1)])) (sgP f n 41 b)) = .ok y := h2
          obtain ⟨y2, h3, h4⟩ := thn_ok h2
          obtain ⟨b, hb2, rfl⟩ := fin_ok h4
          have := sgP_ok hb
          have := sgP_ok hb2
          have := sumP_prg (hr it rfl) _ _ h3
          exact ⟨by show a < b; omega, by show b ≤ n; omega⟩
  · cases h
theorem lkR_prg {k p a : Nat} {y : List Nat × Nat} (hr : ∀ it, r = some it → prg n it) (h : lkR r k p a = .ok y) : a < y.2 ∧ y.2 ≤ n := by
  unfold lkR at h
  cases r with
  | none => cases h
  | some it =>
    obtain ⟨y1, h1, h2⟩ := thn_ok h
    obtain ⟨p1, p2, -⟩ := hr it rfl _ _ h1
    cases h2
    exact ⟨p1, p2⟩
end Spec70
section X70
variable {g : GC} {M M3 : MM} {o n x oo a p q D d kc ks z : Nat} {f : Nat → Nat} {r : Option (Nat → Rz)} {R : Rz} {w : List Nat} {Pz : Nat → Prop}
/-- min, max, or no such word -/
theorem at_113 (W3 : RWA g M3 o n f x oo q) (hR : RO M o q M3) (hz : STR M3 Pz z w) (h3 : mI M3 (o + 5) 3 = nI p) (hW : WiC g d o n f x oo D r) (hd : 20 ≤ d) (hRe : R = if w = wMin then wiR f n r 1 q else if w = wMax then wiR f n r 2 q else .error (1, p)) (hc : cst 60 0 0 n q R ≤ kc) (hs : cst 4000 0 0 n q R ≤ ks) :
    Bd g yX2_atom cX2_atom 3 (some (.object "Retouched$Value")) [] (d + 1) kc ks M3 113 [some (.ref (o + 5)), some (.ref z), none] [] (RVQ M o D R) (RVX M o R) := by
  have hrd := W3.rd
  have r7 := hrd.2.2.2.2.2.2.2.1.1
  have hcs := W3.1.c
  obtain ⟨zi, i1, i2⟩ := W3.1.tx (e := (265, "min", wMin)) (by decide)
  obtain ⟨zx, x1, x2⟩ := W3.1.tx (e := (267, "max", wMax)) (by decide)
  by_cases e1 : w = wMin
  · rw [if_pos e1] at hRe
    subst hRe
    obtain ⟨mc, ms, m1, m2, hct⟩ := hW 1 (by decide) M3 q W3
    refine r_ald1 (pc := 113) dX2_atom_113 ?_
    refine r_ldcwS (pc := 114) (tx := "min") dX2_atom_114 i1 ?_
    refine r_cV (ci := 22) (pc := 117) dX2_atom_117 cv_X2_74 hz.k (ct_J6_equals hcs hz i2) rfl rfl (Nat.le_of_ble_eq_true rfl) (by omega) ?_
    rintro _ M8 ⟨rfl, e8⟩
    rw [e8]
    first | refine r_if_neZ (pc := 120) (tgt := 143) dX2_atom_120 (by decide) (fun h120 => ?_) (fun h120 => ?_) | refine r_if_neN (pc := 120) (tgt := 143) dX2_atom_120 (by decide) (by omega) (fun h120 => ?_) (fun h120 => ?_) | refine r_if_ne (pc := 120) (tgt := 143) dX2_atom_120 (by decide) (fun h120 => ?_) (fun h120 => ?_)
    · skip
      refine r_ald0 (pc := 143) dX2_atom_143 ?_
      refine r_ald1 (pc := 144) dX2_atom_144 ?_
      refine r_ldcwS (pc := 145) (tx := "min") dX2_atom_145 i1 ?_
      refine r_cV (ci := 22) (pc := 148) dX2_atom_148 cv_X2_74 hz.k (ct_J6_equals hcs hz i2) rfl rfl (Nat.le_of_ble_eq_true rfl) (by omega) ?_
      rintro _ M7 ⟨rfl, e7⟩
      rw [e7]
      first | refine r_if_eqZ (pc := 151) (tgt := 158) dX2_atom_151 (by decide) (fun h151 => ?_) (fun h151 => ?_) | refine r_if_eqN (pc := 151) (tgt := 158) dX2_atom_151 (by decide) (by omega) (fun h151 => ?_) (fun h151 => ?_) | refine r_if_eq (pc := 151) (tgt := 158) dX2_atom_151 (by decide) (fun h151 => ?_) (fun h151 => ?_)
      · skip
        exact absurd e1 h151
      · skip
        refine r_iconst (v := nI 1) (pc := 154) dX2_atom_154 (by decide) ?_
        refine r_goto (pc := 155) (tgt := 159) dX2_atom_155 (by decide) ?_
        refine r_cVx (ci := 2) (pc := 159) (kc' := 0) (ks' := 0) dX2_atom_159 cv_X2_239 r7 hct rfl rfl (Nat.le_of_ble_eq_true rfl) (by omega) (by omega) (by omega) (fun q M' hx => hx.pre hR.1) ?_
        rintro v9 M9 hV
        have hV9 := hV.pre hR
        obtain ⟨y9, z9, hy9, rfl, -⟩ := hV
        refine r_aretR (pc := 162) dX2_atom_162 ?_
        exact hV9
    · skip
      exact absurd e1 h120
  · rw [if_neg e1] at hRe
    by_cases e2 : w = wMax
    · rw [if_pos e2] at hRe
      subst hRe
      obtain ⟨mc, ms, m1, m2, hct⟩ := hW 2 (by decide) M3 q W3
      refine r_ald1 (pc := 113) dX2_atom_113 ?_
      refine r_ldcwS (pc := 114) (tx := "min") dX2_atom_114 i1 ?_
      refine r_cV (ci := 22) (pc := 117) dX2_atom_117 cv_X2_74 hz.k (ct_J6_equals hcs hz i2) rfl rfl (Nat.le_of_ble_eq_true rfl) (by omega) ?_
      rintro _ M8 ⟨rfl, e8⟩
      rw [e8]
      first | refine r_if_neZ (pc := 120) (tgt := 143) dX2_atom_120 (by decide) (fun h120 => ?_) (fun h120 => ?_) | refine r_if_neN (pc := 120) (tgt := 143) dX2_atom_120 (by decide) (by omega) (fun h120 => ?_) (fun h120 => ?_) | refine r_if_ne (pc := 120) (tgt := 143) dX2_atom_120 (by decide) (fun h120 => ?_) (fun h120 => ?_)
      · skip
        exact absurd h120 e1
      · skip
        refine r_ald1 (pc := 123) dX2_atom_123 ?_
        refine r_ldcwS (pc := 124) (tx := "max") dX2_atom_124 x1 ?_
        refine r_cV (ci := 22) (pc := 127) dX2_atom_127 cv_X2_74 hz.k (ct_J6_equals hcs hz x2) rfl rfl (Nat.le_of_ble_eq_true rfl) (by omega) ?_
        rintro _ M8 ⟨rfl, e8⟩
        rw [e8]
        first | refine r_if_neZ (pc := 130) (tgt := 143) dX2_atom_130 (by decide) (fun h130 => ?_) (fun h130 => ?_) | refine r_if_neN (pc := 130) (tgt := 143) dX2_atom_130 (by decide) (by omega) (fun h130 => ?_) (fun h130 => ?_) | refine r_if_ne (pc := 130) (tgt := 143) dX2_atom_130 (by decide) (fun h130 => ?_) (fun h130 => ?_)
        · skip
          refine r_ald0 (pc := 143) dX2_atom_143 ?_
          refine r_ald1 (pc := 144) dX2_atom_144 ?_
          refine r_ldcwS (pc := 145) (tx := "min") dX2_atom_145 i1 ?_
          refine r_cV (ci := 22) (pc := 148) dX2_atom_148 cv_X2_74 hz.k (ct_J6_equals hcs hz i2) rfl rfl (Nat.le_of_ble_eq_true rfl) (by omega) ?_
          rintro _ M7 ⟨rfl, e7⟩
          rw [e7]
          first | refine r_if_eqZ (pc := 151) (tgt := 158) dX2_atom_151 (by decide) (fun h151 => ?_) (fun h151 => ?_) | refine r_if_eqN (pc := 151) (tgt := 158) dX2_atom_151 (by decide) (by omega) (fun h151 => ?_) (fun h151 => ?_) | refine r_if_eq (pc := 151) (tgt := 158) dX2_atom_151 (by decide) (fun h151 => ?_) (fun h151 => ?_)
          · skip
            refine r_iconst (v := nI 2) (pc := 158) dX2_atom_158 (by decide) ?_
            refine r_cVx (ci := 2) (pc := 159) (kc' := 0) (ks' := 0) dX2_atom_159 cv_X2_239 r7 hct rfl rfl (Nat.le_of_ble_eq_true rfl) (by omega) (by omega) (by omega) (fun q M' hx => hx.pre hR.1) ?_
            rintro v9 M9 hV
            have hV9 := hV.pre hR
            obtain ⟨y9, z9, hy9, rfl, -⟩ := hV
            refine r_aretR (pc := 162) dX2_atom_162 ?_
            exact hV9
          · skip
            exact absurd h151 e1
        · skip
          exact absurd e2 h130
    · rw [if_neg e2] at hRe
      subst hRe
      refine r_ald1 (pc := 113) dX2_atom_113 ?_
      refine r_ldcwS (pc := 114) (tx := "min") dX2_atom_114 i1 ?_
      refine r_cV (ci := 22) (pc := 117) dX2_atom_117 cv_X2_74 hz.k (ct_J6_equals hcs hz i2) rfl rfl (Nat.le_of_ble_eq_true rfl) (by omega) ?_
      rintro _ M8 ⟨rfl, e8⟩
      rw [e8]
      first | refine r_if_neZ (pc := 120) (tgt := 143) dX2_atom_120 (by decide) (fun h120 => ?_) (fun h120 => ?_) | refine r_if_neN (pc := 120) (tgt := 143) dX2_atom_120 (by decide) (by omega) (fun h120 => ?_) (fun h120 => ?_) | refine r_if_ne (pc := 120) (tgt := 143) dX2_atom_120 (by decide) (fun h120 => ?_) (fun h120 => ?_)
      · skip
        exact absurd h120 e1
      · skip
        refine r_ald1 (pc := 123) dX2_atom_123 ?_
        refine r_ldcwS (pc := 124) (tx := "max") dX2_atom_124 x1 ?_
        refine r_cV (ci := 22) (pc := 127) dX2_atom_127 cv_X2_74 hz.k (ct_J6_equals hcs hz x2) rfl rfl (Nat.le_of_ble_eq_true rfl) (by omega) ?_
        rintro _ M8 ⟨rfl, e8⟩
        rw [e8]
        first | refine r_if_neZ (pc := 130) (tgt := 143) dX2_atom_130 (by decide) (fun h130 => ?_) (fun h130 => ?_) | refine r_if_neN (pc := 130) (tgt := 143) dX2_atom_130 (by decide) (by omega) (fun h130 => ?_) (fun h130 => ?_) | refine r_if_ne (pc := 130) (tgt := 143) dX2_atom_130 (by decide) (fun h130 => ?_) (fun h130 => ?_)
        · skip
          exact absurd h130 e2
        · skip
          refine r_ald0 (pc := 133) dX2_atom_133 ?_
          refine r_iconst (v := nI 1) (pc := 134) dX2_atom_134 (by decide) ?_
          refine r_ald0 (pc := 135) dX2_atom_135 ?_
          refine r_getI' (pc := 136) dX2_atom_136 fl_X2_61 r7 h3 ?_
          refine r_cV (ci := 2) (pc := 139) dX2_atom_139 cv_X2_47 r7 (ct_X2_wrong (k := 1) hrd) rfl rfl (Nat.le_of_ble_eq_true rfl) (by omega) ?_
          rintro _ M2 ⟨rfl, e9⟩
          rw [e9]
          exact r_athrow (pc := 142) dX2_atom_142 hrd.2.2.2.2.2.2.2.2.1 ⟨1, p, rfl, XE.fl hR.1⟩
/-- a looked word, or one of those -/
theorem at_80 (W3 : RWA g M3 o n f x oo q) (hR : RO M o q M3) (hz : STR M3 Pz z w) (h3 : mI M3 (o + 5) 3 = nI p) (hW : WiC g d o n f x oo D r) (hLk : LkC g d o n f x oo D r) (hd : 20 ≤ d) (hRe : R = match jtR x w with
      | none => .error (1, p)
      | some k => if k.1 = 2 then lkR r k.2 p q else wiR f n r (k.2 + 1) q) (hc : cst 60 11 11 n q R ≤ kc) (hs : cst 4000 203 203 n q R ≤ ks) :
    Bd g yX2_atom cX2_atom 3 (some (.object "Retouched$Value")) [] (d + 1) kc ks M3 80 [some (.ref (o + 5)), some (.ref z), none] [] (RVQ M o D R) (RVX M o R) := by
  have hrd := W3.rd
  have hg := hrd.1
  have r7 := hrd.2.2.2.2.2.2.2.1.1
  have hcs := W3.1.c
  have h5 := W3.2.2.2.2.2.1
  have hx3 := W3.2.2.2.2.2.2
  have hcc : ∀ K, cst K 0 0 n q R ≤ cst K 11 11 n q R ∧ cst K 0 0 n q R ≤ cst K 203 203 n q R := by
    intro K
    cases R with
    | ok y => rw [cst_ok, cst_ok, cst_ok]; omega
    | error e => rw [cst_er, cst_er, cst_er]; omega
  by_cases ex : x = 3
  · subst ex
    have hcx : cxN 3 = 1819 := rfl
    rw [hcx] at h5
    obtain ⟨t, t1, t2, t3⟩ := W3.1.2.2.2.2 ("LOOKED", lookW) (by decide)
    have hfd := ct_X0_find (g := g) hcs t3 hz
    rw [show lookW.length = 2 from rfl] at hfd
    cases hf : fndW lookW w 2 0 with
    | some k =>
      rw [hf, show onI (some k) = nI k from rfl] at hfd
      have hk := (fndW_lt 2 0 k hf).2
      have ej : jtR 3 w = some (2, k) := by unfold jtR; rw [if_pos rfl, hf]
      rw [ej] at hRe
      have hRe : R = lkR r k p q := hRe
      subst hRe
      obtain ⟨mc, ms, m1, m2, hct⟩ := hLk k (by omega) M3 q p W3 h3
      refine r_ald0 (pc := 80) dX2_atom_80 ?_
      refine r_getI' (pc := 81) dX2_atom_81 fl_X2_162 r7 h5 ?_
      refine r_sipush (v := nI 1819) (pc := 84) dX2_atom_84 (by decide) ?_
      first | refine r_icmp_neN (pc := 87) (tgt := 100) dX2_atom_87 (by decide) (by omega) (by omega) (fun h87 => ?_) (fun h87 => ?_) | refine r_icmp_ne (pc := 87) (tgt := 100) dX2_atom_87 (by decide) (fun h87 => ?_) (fun h87 => ?_)
      · skip
        exact absurd rfl h87
      · skip
        refine r_ald1 (pc := 90) dX2_atom_90 ?_
        refine r_getsNn (pc := 91) dX2_atom_91 (hg _ q1013 rfl) t1 ?_
        refine r_cSN (pc := 94) dX2_atom_94 (csn_X2_82 hg) hfd rfl rfl (Nat.le_of_ble_eq_true rfl) (by omega) ?_
        rintro _ M8 ⟨rfl, e8⟩
        rw [e8]
        refine r_goto (pc := 97) (tgt := 101) dX2_atom_97 (by decide) ?_
        refine r_ist2 (pc := 101) dX2_atom_101 ?_
        refine r_ild2 (pc := 102) dX2_atom_102 ?_
        refine r_iconst (v := -1) (pc := 103) dX2_atom_103 (by decide) ?_
        refine r_icmp_eq (pc := 104) (tgt := 113) dX2_atom_104 (by decide) (fun h104 => ?_) (fun h104 => ?_)
        · skip
          exact absurd h104 (nI_n1 (by omega))
        · skip
          refine r_ald0 (pc := 107) dX2_atom_107 ?_
          refine r_ild2 (pc := 108) dX2_atom_108 ?_
          refine r_cVx (ci := 2) (pc := 109) (kc' := 0) (ks' := 0) dX2_atom_109 cv_X2_262 r7 hct rfl rfl (Nat.le_of_ble_eq_true rfl) (by omega) (by omega) (by omega) (fun q M' hx => hx.pre hR.1) ?_
          rintro v9 M9 hV
          have hV9 := hV.pre hR
          obtain ⟨y9, z9, hy9, rfl, -⟩ := hV
          refine r_aretR (pc := 112) dX2_atom_112 ?_
          exact hV9
    | none =>
      rw [hf, show onI none = (-1 : Int32) from iI_n1] at hfd
      have hRe : R = if w = wMin then wiR f n r 1 q else if w = wMax then wiR f n r 2 q else .error (1, p) := by
        rw [hRe]
        unfold jtR
        rw [if_pos rfl, hf]
        show (match (if w = wMin then some ((1 : Nat), (0 : Nat)) else if w = wMax then some (1, 1) else none) with | none => _ | some k => _) = _
        by_cases e1 : w = wMin
        · rw [if_pos e1, if_pos e1]; rfl
        rw [if_neg e1, if_neg e1]
        by_cases e2 : w = wMax
        · rw [if_pos e2, if_pos e2]; rfl
        rw [if_neg e2, if_neg e2]
      refine r_ald0 (pc := 80) dX2_atom_80 ?_
      refine r_getI' (pc := 81) dX2_atom_81 fl_X2_162 r7 h5 ?_
      refine r_sipush (v := nI 1819) (pc := 84) dX2_atom_84 (by decide) ?_
      first | refine r_icmp_neN (pc := 87) (tgt := 100) dX2_atom_87 (by decide) (by omega) (by omega) (fun h87 => ?_) (fun h87 => ?_) | refine r_icmp_ne (pc := 87) (tgt := 100) dX2_atom_87 (by decide) (fun h87 => ?_) (fun h87 => ?_)
      · skip
        exact absurd rfl h87
      · skip
        refine r_ald1 (pc := 90) dX2_atom_90 ?_
        refine r_getsNn (pc := 91) dX2_atom_91 (hg _ q1013 rfl) t1 ?_
        refine r_cSN (pc := 94) dX2_atom_94 (csn_X2_82 hg) hfd rfl rfl (Nat.le_of_ble_eq_true rfl) (by omega) ?_
        rintro _ M8 ⟨rfl, e8⟩
        rw [e8]
        refine r_goto (pc := 97) (tgt := 101) dX2_atom_97 (by decide) ?_
        refine r_ist2 (pc := 101) dX2_atom_101 ?_
        refine r_ild2 (pc := 102) dX2_atom_102 ?_
        refine r_iconst (v := -1) (pc := 103) dX2_atom_103 (by decide) ?_
        refine r_icmp_eq (pc := 104) (tgt := 113) dX2_atom_104 (by decide) (fun h104 => ?_) (fun h104 => ?_)
        · skip
          exact Bd.kill 2 (at_113 W3 hR hz h3 hW hd hRe (Nat.le_trans (hcc 60).1 hc) (Nat.le_trans (hcc 4000).2 hs))
        · skip
          exact absurd rfl h104
  · have hRe : R = if w = wMin then wiR f n r 1 q else if w = wMax then wiR f n r 2 q else .error (1, p) := by
      rw [hRe]
      unfold jtR
      rw [if_neg ex]
      show (match (if w = wMin then some ((1 : Nat), (0 : Nat)) else if w = wMax then some (1, 1) else none) with | none => _ | some k => _) = _
      by_cases e1 : w = wMin
      · rw [if_pos e1, if_pos e1]; rfl
      rw [if_neg e1, if_neg e1]
      by_cases e2 : w = wMax
      · rw [if_pos e2, if_pos e2]; rfl
      rw [if_neg e2, if_neg e2]
    have hcx : cxN x < 1819 := by
      unfold cxN
      split
      · decide
      · split
        · decide
        · rw [if_pos (by omega)]; decide
    refine r_ald0 (pc := 80) dX2_atom_80 ?_
    refine r_getI' (pc := 81) dX2_atom_81 fl_X2_162 r7 h5 ?_
    refine r_sipush (v := nI 1819) (pc := 84) dX2_atom_84 (by decide) ?_
    first | refine r_icmp_neN (pc := 87) (tgt := 100) dX2_atom_87 (by decide) (by omega) (by omega) (fun h87 => ?_) (fun h87 => ?_) | refine r_icmp_ne (pc := 87) (tgt := 100) dX2_atom_87 (by decide) (fun h87 => ?_) (fun h87 => ?_)
    · skip
      refine r_iconst (v := -1) (pc := 100) dX2_atom_100 (by decide) ?_
      refine r_ist2 (pc := 101) dX2_atom_101 ?_
      refine r_ild2 (pc := 102) dX2_atom_102 ?_
      refine r_iconst (v := -1) (pc := 103) dX2_atom_103 (by decide) ?_
      refine r_icmp_eq (pc := 104) (tgt := 113) dX2_atom_104 (by decide) (fun h104 => ?_) (fun h104 => ?_)
      · skip
        exact Bd.kill 2 (at_113 W3 hR hz h3 hW hd hRe (Nat.le_trans (hcc 60).1 hc) (Nat.le_trans (hcc 4000).2 hs))
      · skip
        first | exact absurd h104 (by decide) | exact absurd rfl h104 | (exfalso; revert h104; decide)
    · skip
      exact absurd h87 (by omega)
end X70
