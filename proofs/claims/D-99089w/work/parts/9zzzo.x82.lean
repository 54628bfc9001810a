set_option maxRecDepth 100000
/-! THE READER: a soul is told -/
section X82
variable {g : GC} {M0 M : MM} {o n ta l v m a pl : Nat} {f : Nat → Nat} {tA : Nat → Nat} {T : To}
theorem ct_most1 {p : Nat} (h : RDF g M o n f) : Ct g yX2_most cX2_most 3 none 1 0 0 [.ref (o + 5), .int (nI 1), .int (nI p)] M (fun _ _ => False) (XE M o 5 p) := by
  have h1 := ct_X2_most (p := p) (b := true) h
  rw [zI_t rfl] at h1
  exact h1.post (fun _ _ q => by cases q.2.1) (fun _ _ q => q.2)
theorem ct_most0 {p : Nat} (h : RDF g M o n f) : Ct g yX2_most cX2_most 3 none 1 0 0 [.ref (o + 5), .int (nI 0), .int (nI p)] M (fun r M' => r = none ∧ M' = M) noX := by
  have h1 := ct_X2_most (p := p) (b := false) h
  rw [zI_f (by decide)] at h1
  exact h1.post (fun _ _ q => ⟨q.1, q.2.2⟩) (fun _ _ q => by cases q.1)
/-- what a statement tells -/
def TQ (g : GC) (M0 : MM) (o n : Nat) (f : Nat → Nat) (ta m : Nat) (R : Pz (To × Nat)) : Option Value → MM → Prop := fun r M' => r = none ∧ ∃ T' b' b l' v' tA', R = .ok (T', b') ∧ TW g M0 M' o n f ta l' v' tA' T' m b ∧ skip f n b = skip f n b'
def TX (g : GC) (M0 : MM) (o n : Nat) (f : Nat → Nat) (R : Pz (To × Nat)) : Nat → MM → Prop := fun q M' => ∃ k p, R = .error (k, p) ∧ XT g M0 o n f k p q M'
/-- a soul that was just made -/
theorem SOL.mk {M6 M7 : MM} {so z h c d zb : Nat} {w nm : List Nat} (hs : SLN M6 so z h c d M7) (hz : STR M7 (fun q => zb ≤ q ∧ q < mZ M7) z w) (hnm : nm.map (fun c => c + 96) = w) (hso : zb ≤ so) (hsz : so < mZ M7) : ∃ t, mZ M6 ≤ t ∧ t < mZ M7 ∧ SOL M7 (fun c => zb ≤ c ∧ c < mZ M7 ∧ mK M7 c ≠ 1) so t (nm, h, c, d) (fun _ => 5) := by
  obtain ⟨t, t1, t2, t3, t4, t5, t6, t7, t8, t9, t10, t11, t12⟩ := hs
  have hz2 := hz.nk
  exact ⟨t, t2, t3, ⟨hso, hsz, by rw [t11]; decide⟩, t11, ⟨z, t7, by
    show STR M7 _ z (nm.map (fun c => c + 96))
    rw [hnm]
    exact hz2.up (fun q hq => ⟨hq.1.1, hq.1.2, hq.2⟩)⟩, ⟨t8, t9, t10⟩, t1, t4, t5, t6⟩
theorem ct_X2_soul (W : TW g M0 M o n f ta l v tA T m a) : Ct g yX2_soul cX2_soul 5 none 14 (20) (10400) [.ref (o + 5), .int (nI pl)] M (TQ g M0 o n f ta m (soulP f n T pl a)) (TX g M0 o n f (soulP f n T pl a)) := by
  have h := W.w.1
  have hg := h.1
  have hgb := h.2.1
  have hc := W.w.c
  have h1280 := W.w.2.1
  have hz0 := W.z0
  have hgz := W.gz
  have r7 := h.2.2.2.2.2.2.2.1.1
  have h8 := W.V.2.2.1
  have hH := W.V.1
  have hH9 := W.V.2.1
  obtain ⟨mi, hmi⟩ := W.w.2.2.1.2.2
  have wl : ∀ a, a ≤ n → 2 * (lts f (n - skip f n a) (skip f n a)).length + 4 ≤ 2564 := fun a ha => by
    have := lts_le f (n - skip f n a) (skip f n a)
    omega
  by_cases e8 : (oS T).length = 8
  · have er : soulP f n T pl a = .error (5, pl) := if_pos e8
    rw [er]
    refine Ct.of (by decide) (Nat.le_of_ble_eq_true rfl) rfl ?_
    refine r_ald0 (pc := 0) dX2_soul_0 ?_
    refine r_ald0 (pc := 1) dX2_soul_1 ?_
    refine r_getR (pc := 2) dX2_soul_2 fl_X2_100 r7 W.to ?_
    refine r_getRN (pc := 5) dX2_soul_5 (fn_X2_136 hg) W.t.1.1 W.t.1.2.2.2.2 ?_
    refine r_cF (pc := 8) dX2_soul_8 (cf_X2_140 hg) W.t.2.1.1 (ct_J2_size W.t.2.1) rfl rfl (Nat.le_of_ble_eq_true rfl) (by decide) ?_
    rintro _ M8 ⟨rfl, e9⟩
    rw [e9]
    refine r_bipush (v := nI 8) (pc := 13) dX2_soul_13 (by decide) ?_
    first | refine r_icmp_neN (pc := 15) (tgt := 22) dX2_soul_15 (by decide) (by omega) (by omega) (fun h15 => ?_) (fun h15 => ?_) | refine r_icmp_ne (pc := 15) (tgt := 22) dX2_soul_15 (by decide) (fun h15 => ?_) (fun h15 => ?_)
    · skip
      exact absurd h15 (by omega)
    · skip
      refine r_iconst (v := nI 1) (pc := 18) dX2_soul_18 (by decide) ?_
      refine r_goto (pc := 19) (tgt := 23) dX2_soul_19 (by decide) ?_
      refine r_ild1 (pc := 23) dX2_soul_23 ?_
      refine r_cVx (ci := 2) (pc := 24) (kc' := 0) (ks' := 0) dX2_soul_24 cv_X2_128 r7 (ct_most1 h) rfl rfl (Nat.le_of_ble_eq_true rfl) (by decide) (by omega) (by omega) (fun q M' hx => ⟨5, pl, rfl, XT.of W hx⟩) ?_
      rintro _ M9 hF
      exact hF.elim
  · have e1 : soulP f n T pl a = bnd (nmP f n (skip f n a)) (fun y => if fndS T y.1 = none then soulH f n T y.1 y.2 else .error (3, skip f n a)) := if_neg e8
    refine Ct.of (by decide) (Nat.le_of_ble_eq_true rfl) rfl ?_
    refine r_ald0 (pc := 0) dX2_soul_0 ?_
    refine r_ald0 (pc := 1) dX2_soul_1 ?_
    refine r_getR (pc := 2) dX2_soul_2 fl_X2_100 r7 W.to ?_
    refine r_getRN (pc := 5) dX2_soul_5 (fn_X2_136 hg) W.t.1.1 W.t.1.2.2.2.2 ?_
    refine r_cF (pc := 8) dX2_soul_8 (cf_X2_140 hg) W.t.2.1.1 (ct_J2_size W.t.2.1) rfl rfl (Nat.le_of_ble_eq_true rfl) (by decide) ?_
    rintro _ M8 ⟨rfl, e9⟩
    rw [e9]
    refine r_bipush (v := nI 8) (pc := 13) dX2_soul_13 (by decide) ?_
    first | refine r_icmp_neN (pc := 15) (tgt := 22) dX2_soul_15 (by decide) (by omega) (by omega) (fun h15 => ?_) (fun h15 => ?_) | refine r_icmp_ne (pc := 15) (tgt := 22) dX2_soul_15 (by decide) (fun h15 => ?_) (fun h15 => ?_)
    · skip
      refine r_iconst (v := nI 0) (pc := 22) dX2_soul_22 (by decide) ?_
      refine r_ild1 (pc := 23) dX2_soul_23 ?_
      refine r_cV (ci := 2) (pc := 24) dX2_soul_24 cv_X2_128 r7 (ct_most0 h) rfl rfl (Nat.le_of_ble_eq_true rfl) (by decide) ?_
      rintro _ M9 ⟨rfl, e10⟩
      rw [e10]
      refine r_ald0 (pc := 27) dX2_soul_27 ?_
      refine r_cVx (ci := 2) (pc := 28) (kc' := 17) (ks' := 7836) dX2_soul_28 cv_X2_104 r7 (ct_X2_name W.w W.le W.at) rfl rfl (Nat.le_of_ble_eq_true rfl) (by decide) (by omega) (by omega) (fun q M' hx => ?_) ?_
      · obtain ⟨k, p, x1, x2⟩ := hx
        exact ⟨k, p, by rw [e1, x1]; rfl, XT.of W x2⟩
      rintro _ M1 ⟨w, z, hw, hw6, hn, rfl, q1, q2, q3, q4, q5, q6⟩
      have hwe := word_end hw
      have W1 := W.ro q5 hwe.1
      have hR1 := W1.w.1
      have r71 := hR1.2.2.2.2.2.2.2.1.1
      have r11 := hR1.2.2.2.2.2.2.2.2.1
      have hfd := ct_X1_find (g := g) hg hc (W1.t.sls W1.V) q2
      rw [fnd_S hw] at hfd
      have e2 : soulP f n T pl a = if fndS T (nmZ w) = none then soulH f n T (nmZ w) (skip f n a + w.length) else .error (3, skip f n a) := by rw [e1, hn]; rfl
      refine r_ast2 (pc := 31) dX2_soul_31 ?_
      refine r_ald0 (pc := 32) dX2_soul_32 ?_
      refine r_getR (pc := 33) dX2_soul_33 fl_X2_100 r71 W1.to ?_
      refine r_ald2 (pc := 36) dX2_soul_36 ?_
      refine r_cV (ci := 1) (pc := 37) dX2_soul_37 cv_X2_107 W1.t.1.1 hfd rfl rfl (Nat.le_of_ble_eq_true rfl) (by decide) ?_
      rintro _ M8 ⟨rfl, e11⟩
      rw [e11]
      refine r_iconst (v := -1) (pc := 40) dX2_soul_40 (by decide) ?_
      refine r_icmp_eq (pc := 41) (tgt := 54) dX2_soul_41 (by decide) (fun h41 => ?_) (fun h41 => ?_)
      · skip
        have e3 : fndS T (nmZ w) = none := by
          cases hf : fndS T (nmZ w) with
          | none => rfl
          | some i => rw [hf] at h41; exact absurd h41 (nI_n1 (by have := (ff_lt hf).2.1; omega))
        have e4 : soulP f n T pl a = bnd (kwP f n wAt (skip f n a + w.length)) (fun c => bnd (numP f n 0 (oH T - 1) (skip f n c)) (fun y => if full T y.1 = none then soulK f n T (nmZ w) y.1 y.2 else .error (2, skip f n c))) := by rw [e2, if_pos e3]; rfl
        refine r_ald0 (pc := 54) dX2_soul_54 ?_
        obtain ⟨zt, t1, t2⟩ := W1.w.tx (e := (144, "at", wAt)) (by decide)
        refine r_ldcS (pc := 55) (tx := "at") dX2_soul_55 t1 ?_
        refine r_cVx (ci := 2) (pc := 57) (kc' := 14) (ks' := 5272) dX2_soul_57 cv_X2_93 r71 (ct_X2_word hR1 hc t2 hwe.1 W1.at) rfl rfl (Nat.le_of_ble_eq_true rfl) (by decide) (by omega) (by have := wl _ hwe.1; omega) (fun q M' hx => ⟨1, _, by rw [e4, hx.1]; rfl, XT.of W1 hx.2⟩) ?_
        rintro _ M2 ⟨rfl, c1, hc1, k2⟩
        have hc1n := kwP_le hc1
        have W2 := W1.ro k2 hc1n
        have hR2 := W2.w.1
        have r72 := hR2.2.2.2.2.2.2.2.1.1
        have e5 : soulP f n T pl a = bnd (numP f n 0 (oH T - 1) (skip f n c1)) (fun y => if full T y.1 = none then soulK f n T (nmZ w) y.1 y.2 else .error (2, skip f n c1)) := by rw [e4, hc1]; rfl
        refine r_ald0 (pc := 60) dX2_soul_60 ?_
        refine r_iconst (v := nI 0) (pc := 61) dX2_soul_61 (by decide) ?_
        refine r_ald0 (pc := 62) dX2_soul_62 ?_
        refine r_getR (pc := 63) dX2_soul_63 fl_X2_100 r72 W2.to ?_
        refine r_getIN (pc := 66) dX2_soul_66 (fn_X2_118 hg) W2.t.1.1 ?_
        rw [W2.t.1.2.2.1]
        refine r_iconst (v := nI 1) (pc := 69) dX2_soul_69 (by decide) ?_
        refine r_isubN (pc := 70) dX2_soul_70 (by omega) ?_
        refine r_cVx (ci := 2) (pc := 71) (kc' := 14) (ks' := 5272) dX2_soul_71 cv_X2_96 r72 (ct_X2_number hR2 hc1n W2.at (by decide) (by omega)) rfl rfl (Nat.le_of_ble_eq_true rfl) (by decide) (by omega) (by omega) (fun q M' hx => ?_) ?_
        · obtain ⟨k, p, x1, x2⟩ := hx
          exact ⟨k, p, by rw [e5, x1]; rfl, XT.of W2 x2⟩
        rintro _ M3 ⟨hh, c2, hnum, rfl, k3, kf3⟩
        obtain ⟨-, -, u2, -, u3⟩ := numP_ok hnum
        have u2 : c2 ≤ n := u2
        have u3 : hh ≤ oH T - 1 := u3
        have W3 := W2.ro k3 u2
        have hR3 := W3.w.1
        have r73 := hR3.2.2.2.2.2.2.2.1.1
        have r113 := hR3.2.2.2.2.2.2.2.2.1
        have e6 : soulP f n T pl a = if full T hh = none then soulK f n T (nmZ w) hh c2 else .error (2, skip f n c1) := by rw [e5, hnum]; rfl
        have hfl := ct_X1_isFull (g := g) (h := hh) hg (W3.t.sls W3.V) (by omega)
        rw [List.length_map] at hfl
        refine r_ist3 (pc := 74) dX2_soul_74 ?_
        refine r_ald0 (pc := 75) dX2_soul_75 ?_
        refine r_getR (pc := 76) dX2_soul_76 fl_X2_100 r73 W3.to ?_
        refine r_ild3 (pc := 79) dX2_soul_79 ?_
        refine r_cV (ci := 1) (pc := 80) dX2_soul_80 cv_X2_145 W3.t.1.1 hfl rfl rfl (Nat.le_of_ble_eq_true rfl) (by decide) ?_
        rintro _ M8 ⟨rfl, e12⟩
        rw [e12]
        first | refine r_if_eqZ (pc := 83) (tgt := 96) dX2_soul_83 (by decide) (fun h83 => ?_) (fun h83 => ?_) | refine r_if_eqN (pc := 83) (tgt := 96) dX2_soul_83 (by decide) (by omega) (fun h83 => ?_) (fun h83 => ?_) | refine r_if_eq (pc := 83) (tgt := 96) dX2_soul_83 (by decide) (fun h83 => ?_) (fun h83 => ?_)
        · skip
          have e7 : full T hh = none := by
            refine Classical.byContradiction fun q => h83 ((has_full _ _).2 q)
          have e9 : soulP f n T pl a = bnd (kwP f n wFace c2) (fun c => bnd (numP f n 0 9 (skip f n c)) (fun y => bnd (kwP f n wKind y.2) (fun d => bnd (numP f n 0 9 (skip f n d)) (fun z => .ok (pS T (nmZ w, hh, y.1, z.1), z.2))))) := by rw [e6, if_pos e7]; rfl
          refine r_ald0 (pc := 96) dX2_soul_96 ?_
          obtain ⟨zt2, s1, s2⟩ := W3.w.tx (e := (148, "face", wFace)) (by decide)
          refine r_ldcS (pc := 97) (tx := "face") dX2_soul_97 s1 ?_
          refine r_iconst (v := nI 0) (pc := 99) dX2_soul_99 (by decide) ?_
          refine r_bipush (v := nI 9) (pc := 100) dX2_soul_100 (by decide) ?_
          refine r_cVx (ci := 2) (pc := 102) (kc' := 11) (ks' := 2708) dX2_soul_102 cv_X2_150 r73 (ct_X2_number_2 (lo := 0) (hi := 9) hR3 hc s2 u2 W3.at (by decide) (by decide)) rfl rfl (Nat.le_of_ble_eq_true rfl) (by decide) (by omega) (by have := wl _ u2; omega) (fun q M' hx => ?_) ?_
          · rcases hx with ⟨x1, x2⟩ | ⟨b9, x1, k, p, x2, x3⟩
            · exact ⟨1, _, by rw [e9, x1]; rfl, XT.of W3 x2⟩
            · exact ⟨k, p, by rw [e9, x1]; show bnd (numP f n 0 9 (skip f n b9)) _ = _; rw [x2]; rfl, XT.of W3 x3⟩
          rintro _ M4 ⟨c3, hc3, fc, c4, hn4, rfl, k4, -⟩
          obtain ⟨-, -, u4, -, u5⟩ := numP_ok hn4
          have u4 : c4 ≤ n := u4
          have W4 := W3.ro k4 u4
          have hR4 := W4.w.1
          have r74 := hR4.2.2.2.2.2.2.2.1.1
          have e10' : soulP f n T pl a = bnd (kwP f n wKind c4) (fun d => bnd (numP f n 0 9 (skip f n d)) (fun z => .ok (pS T (nmZ w, hh, fc, z.1), z.2))) := by rw [e9, hc3]; show bnd (numP f n 0 9 (skip f n c3)) _ = _; rw [hn4]; rfl
          refine r_ist4 (pc := 105) dX2_soul_105 ?_
          refine r_ald0 (pc := 107) dX2_soul_107 ?_
          refine r_getR (pc := 108) dX2_soul_108 fl_X2_100 r74 W4.to ?_
          refine r_getRN (pc := 111) dX2_soul_111 (fn_X2_136 hg) W4.t.1.1 W4.t.1.2.2.2.2 ?_
          refine r_new (pc := 114) (ci := 7) (kc' := 10) (ks' := 2703) dX2_soul_114 q796 q797 q164 (by decide) (by omega) (by omega) ?_
          generalize hM5 : nw M4 (20 + 7) 0 = M5
          have m1 : mZ M5 = mZ M4 + 1 := by rw [← hM5]; rfl
          have m3 : mK M5 (mZ M4) = 27 := by rw [← hM5]; exact if_pos rfl
          have m4 : FM (fun _ => False) M4 M5 := by rw [← hM5]; exact FM.nw
          clear hM5
          have hz4 := W4.2.1.1
          have R5 : RO M4 o c4 M5 := (RO.rf W4.at).more ⟨m4.1, fun c hc _ => m4.2 c hc (fun q => q)⟩ (by omega)
          have W5 := W4.ro R5 u4
          have hR5 := W5.w.1
          have r75 := hR5.2.2.2.2.2.2.2.1.1
          obtain ⟨zt3, v1, v2⟩ := W5.w.tx (e := (155, "kind", wKind)) (by decide)
          refine r_dup (pc := 117) dX2_soul_117 rfl ?_
          refine r_ald2 (pc := 118) dX2_soul_118 ?_
          refine r_ild3 (pc := 119) dX2_soul_119 ?_
          refine r_ild4 (pc := 120) dX2_soul_120 ?_
          refine r_ald0 (pc := 122) dX2_soul_122 ?_
          refine r_ldcS (pc := 123) (tx := "kind") dX2_soul_123 v1 ?_
          refine r_iconst (v := nI 0) (pc := 125) dX2_soul_125 (by decide) ?_
          refine r_bipush (v := nI 9) (pc := 126) dX2_soul_126 (by decide) ?_
          refine r_cVx (ci := 2) (pc := 128) (kc' := 7) (ks' := 139) dX2_soul_128 cv_X2_150 r75 (ct_X2_number_2 (lo := 0) (hi := 9) hR5 hc v2 u4 W5.at (by decide) (by decide)) rfl rfl (Nat.le_of_ble_eq_true rfl) (by decide) (by omega) (by have := wl _ u4; omega) (fun q M' hx => ?_) ?_
          · rcases hx with ⟨x1, x2⟩ | ⟨b9, x1, k, p, x2, x3⟩
            · exact ⟨1, _, by rw [e10', x1]; rfl, XT.of W5 x2⟩
            · exact ⟨k, p, by rw [e10', x1]; show bnd (numP f n 0 9 (skip f n b9)) _ = _; rw [x2]; rfl, XT.of W5 x3⟩
          rintro _ M6 ⟨c5, hc5, kd, c6, hn6, rfl, k6, -⟩
          obtain ⟨-, -, u6, -, u7⟩ := numP_ok hn6
          have u6 : c6 ≤ n := u6
          have W6 := W5.ro k6 u6
          have hz6 := k6.1.1.1
          have e11' : soulP f n T pl a = .ok (pS T (nmZ w, hh, fc, kd), c6) := by rw [e10', hc5]; show bnd (numP f n 0 9 (skip f n c5)) _ = _; rw [hn6]; rfl
          have s6 := k6.1.sm (c := mZ M4) (by omega) (by omega)
          refine r_cIm (pc := 131) (kc' := 6) (ks' := 131) dX2_soul_131 ci_X2_156 (ct_X7_init (M := M6) (a := mZ M4) (by omega) (by omega) (s6.1.trans m3)) rfl rfl (Nat.le_of_ble_eq_true rfl) (by decide) (by omega) (by omega) ?_
          rintro _ M7 ⟨rfl, hS7⟩
          have f7 : FM (fun q => q = mZ M4) M6 M7 := by obtain ⟨t, -, -, -, -, -, -, -, -, -, -, -, q⟩ := hS7; exact q
          have k7 : mK M7 (mZ M4) = 27 := by obtain ⟨t, -, -, -, -, -, -, -, -, -, -, q, -⟩ := hS7; exact q
          have hz7 := f7.1
          have f47 : ∀ c, mZ M0 ≤ c → c < mZ M4 → Sm M4 M7 c := fun c h1 h2 => ((R5.1.trans k6.1).sm h2 (by omega)).trans (f7.2 c (by omega) (fun q => by omega))
          have hkk : ∀ c, c < mZ M4 → mK M7 c = mK M4 c := fun c hc => by rw [(f7.2 c (by omega) (fun q => by omega)).1]; exact (R5.1.trans k6.1).k hc
          have T7 : TLD g M0 M7 o ta l v tA T m := W4.t.mv (by omega) f47 hkk
          have hq1z := q5.1.1.1
          have hz1 := W.2.1.1
          have hzz : mZ M1 ≤ mZ M4 := by have := k2.1.1.1; have := k3.1.1.1; have := k4.1.1.1; omega
          have st7 : STR M7 (fun q => mZ M ≤ q ∧ q < mZ M7) z w := q2.fr (fun c hc => (((k2.1.trans k3.1).trans k4.1).sm hc.2 (by omega)).trans (f47 c (by omega) (by omega))) (fun c hc => ⟨hc.1, by omega⟩)
          obtain ⟨t, tt1, tt2, hso⟩ := SOL.mk hS7 st7 (nmZ_back hw) (by omega) (by omega)
          have ll := W.t.2.2.1
          have gw7 : LGw g M7 l v (oS T).length mi := ⟨hg, W.w.O, hmi, T7.2.1, T7.2.2.1.2.1, T7.2.2.1.2.2, T7.2.2.2.1.2.1, T7.2.2.2.1.2.2, by omega, fun i _ z q => T7.2.2.2.2.2.2.1 i z q, by omega, T7.2.2.2.2.2.1⟩
          refine r_cFm (pc := 134) (kc' := 0) (ks' := 0) dX2_soul_134 (cf_X2_159 hg) T7.2.1.1 (ct_J2_add gw7 (ci := 7) k7 (by omega) (hg _ q2514 rfl)) rfl rfl (Nat.le_of_ble_eq_true rfl) (by decide) (by omega) (by omega) ?_
          rintro _ M8 ⟨rfl, hA⟩
          refine r_pop (pc := 139) dX2_soul_139 rfl ?_
          refine r_vret (pc := 140) dX2_soul_140 ?_
          obtain ⟨v', T8, f8⟩ := T7.add (zb := mZ M) hA hgz ⟨by omega, by omega, by omega, fun i hi => by obtain ⟨_, -, -, -, q, -⟩ := W.t.2.2.2.2.2.2.2.1 i hi; exact q⟩ hz1 hso ⟨by omega, tt2⟩ (hg _ q2514 rfl)
          have W7 : TW g M0 M7 o n f ta l v tA T m c6 := W6.sm ⟨f7.1, fun c hc hn => f7.2 c hc (fun q => hn (by omega))⟩ T7 W.V
          have hV8 := (soulP_ok W.V e11').1
          exact ⟨rfl, pS T (nmZ w, hh, fc, kd), c6, c6, l, v', _, e11', W7.sm f8 T8 hV8, rfl⟩
        · skip
          have e7 : full T hh ≠ none := (has_full _ _).1 h83
          refine r_ald0 (pc := 86) dX2_soul_86 ?_
          refine r_iconst (v := nI 2) (pc := 87) dX2_soul_87 (by decide) ?_
          refine r_ald0 (pc := 88) dX2_soul_88 ?_
          refine r_getI' (pc := 89) dX2_soul_89 fl_X2_61 r73 kf3 ?_
          refine r_cV (ci := 2) (pc := 92) dX2_soul_92 cv_X2_47 r73 (ct_X2_wrong (k := 2) hR3) rfl rfl (Nat.le_of_ble_eq_true rfl) (by decide) ?_
          rintro _ M4 ⟨rfl, e13⟩
          rw [e13]
          exact r_athrow (pc := 95) dX2_soul_95 r113 ⟨2, skip f n c1, by rw [e6, if_neg e7], XT.of W3 (XE.fl RFr.rf)⟩
      · skip
        have e3 : fndS T (nmZ w) ≠ none := fun q => by rw [q] at h41; exact h41 iI_n1
        refine r_ald0 (pc := 44) dX2_soul_44 ?_
        refine r_iconst (v := nI 3) (pc := 45) dX2_soul_45 (by decide) ?_
        refine r_ald0 (pc := 46) dX2_soul_46 ?_
        refine r_getI' (pc := 47) dX2_soul_47 fl_X2_61 r71 q6 ?_
        refine r_cV (ci := 2) (pc := 50) dX2_soul_50 cv_X2_47 r71 (ct_X2_wrong (k := 3) hR1) rfl rfl (Nat.le_of_ble_eq_true rfl) (by decide) ?_
        rintro _ M2 ⟨rfl, e9⟩
        rw [e9]
        exact r_athrow (pc := 53) dX2_soul_53 r11 ⟨3, skip f n a, by rw [e2, if_neg e3], XT.of W (XE.fl q5.1)⟩
    · skip
      exact absurd h15 (by omega)
end X82
