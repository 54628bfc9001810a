set_option maxRecDepth 100000
/-! THE TREES: chains, made and added to -/
/-- a chain that is being made: its list l with array v, its signs b with bytes u, n parts so far -/
def CHU (g : GC) (M : MM) (a l v b u n : Nat) : Prop := mK M a = 29 ∧ mR M a 0 = some l ∧ mR M a 1 = some b ∧ LsX M l v n ∧ SbC M b u n ∧ (a < mZ M ∧ l < mZ M ∧ v < mZ M ∧ b < mZ M ∧ u < mZ M) ∧ (gb g ≤ a ∧ gb g ≤ l ∧ gb g ≤ v ∧ gb g ≤ b ∧ gb g ≤ u) ∧ 0 < mN M v ∧ (∀ i z, mR M v i = some z → OB g M z) ∧ n < 100000
/-- the kinds keep them apart -/
theorem CHU.ne {g : GC} {M : MM} {a l v b u n : Nat} (h : CHU g M a l v b u n) : a ≠ l ∧ a ≠ v ∧ a ≠ b ∧ a ≠ u ∧ l ≠ v ∧ l ≠ b ∧ l ≠ u ∧ v ≠ b ∧ v ≠ u ∧ b ≠ u := by
  obtain ⟨h1, -, -, ⟨h2, -, -, h3, -, -⟩, ⟨⟨h4, -, -, -, h5, -, -⟩, -⟩, -⟩ := h
  refine ⟨?_, ?_, ?_, ?_, ?_, ?_, ?_, ?_, ?_, ?_⟩ <;> (intro e; subst e; omega)
section X43
variable {g : GC} {M : MM}
/-- a chain anew at a -/
def CNW (g : GC) (M : MM) (a : Nat) (M' : MM) : Prop := CHU g M' a (mZ M) (mZ M + 1) (mZ M + 2) (mZ M + 3) 0 ∧ mN M' (mZ M + 1) = 2 ∧ mN M' (mZ M + 3) = 16 ∧ mZ M' = mZ M + 4 ∧ FM (fun c => c = a) M M'
theorem CNW.mk {a : Nat} {M1 M2 : MM} (hb : gb g ≤ a) (haz : a < mZ M) (hK : mK M a = 29) (h1 : LNW M 2 M1) (h2 : SNB (sR M1 a 0 (some (mZ M))) M2) : CNW g M a (sR M2 a 1 (some (mZ M + 2))) := by
  obtain ⟨l1, l2, l3, l4, l5⟩ := h1
  obtain ⟨s1, s2, s3, s4⟩ := h2
  rw [mZ_sR, l4] at s1 s2 s3
  rw [show mZ M + 2 + 1 = mZ M + 3 from rfl] at s1 s2
  rw [show mZ M + 2 + 2 = mZ M + 4 from rfl] at s3
  have s5 : ∀ c, c < mZ M + 2 → c ≠ a → Sm M1 M2 c := fun c hc hne => (Sm.sR hne).trans (s4.2 c (by rw [mZ_sR, l4]; exact hc) (fun h => h))
  have s6 : Sm (sR M1 a 0 (some (mZ M))) M2 a := s4.2 a (by rw [mZ_sR, l4]; omega) (fun h => h)
  have t0 : ∀ c, c ≠ a → Sm M2 (sR M2 a 1 (some (mZ M + 2))) c := fun c hc => Sm.sR hc
  have t1 := (s5 (mZ M) (by omega) (by omega)).trans (t0 (mZ M) (by omega))
  have t2 := (s5 (mZ M + 1) (by omega) (by omega)).trans (t0 (mZ M + 1) (by omega))
  have t3 := t0 (mZ M + 2) (by omega)
  have t4 := t0 (mZ M + 3) (by omega)
  refine ⟨⟨?_, ?_, mR_sRs _ _ _ _, l1.fr t1 t2, s1.fr t3 t4, ?_, ?_, ?_, fun i z hz => ?_, by decide⟩, t2.2.1.trans l2, t4.2.1.trans s2, ?_, ?_⟩
  · rw [mK_sR, s6.1, mK_sR, (l5.2 a haz (fun h => h)).1, hK]
  · rw [mR_sRj (by decide), s6.2.2.2.2, mR_sRs]
  · rw [mZ_sR, s3]; omega
  · omega
  · rw [t2.2.1, l2]; decide
  · rw [t2.2.2.2.2, l3 i] at hz; cases hz
  · rw [mZ_sR, s3]
  · exact FM.trans (S := fun c => c = a) (T := fun c => c = a) (FM.trans (S := fun c => c = a) (T := fun _ => False) (FM.trans (S := fun _ => False) (T := fun c => c = a) l5 (FM.sR fun _ => rfl) (fun _ _ e => e.elim) (fun _ _ e => e)) s4 (fun _ _ e => e) (fun _ _ e => e.elim)) (FM.sR fun _ => rfl) (fun _ _ e => e) (fun _ _ e => e)
theorem ct_X9_init {a : Nat} (hg : GX g) (hO : GO g) (hc : CMPS g) (hb : gb g ≤ a) (haz : a < mZ M) (hK : mK M a = 29) : Ct g yX9_init cX9_init 1 none 7 (4) (25) [.ref a] M (fun v M' => v = none ∧ CNW g M a M') noX := by
  have hgz : gb g ≤ mZ M := by omega
  refine Ct.of (by decide) (Nat.le_of_ble_eq_true rfl) rfl ?_
  refine r_ald0 (pc := 0) dX9_init_0 ?_
  refine r_cIN (pc := 1) dX9_init_1 (cin_X9_1 hg) ct_X8_init rfl rfl (Nat.le_of_ble_eq_true rfl) (by decide) ?_
  rintro _ M8 ⟨rfl, e8⟩
  rw [e8]
  refine r_ald0 (pc := 4) dX9_init_4 ?_
  refine r_new (pc := 5) (ci := 20) (kc' := 3) (ks' := 22) dX9_init_5 q924 q198 q149 (by decide) (by omega) (by omega) ?_
  generalize hM : nw M (20 + 20) 0 = M1
  have z1 : mZ M1 = mZ M + 1 := by rw [← hM]; rfl
  have j4 : mK M1 (mZ M) = 40 := by rw [← hM]; exact if_pos rfl
  refine r_dup (pc := 8) dX9_init_8 rfl ?_
  refine r_iconst (v := nI 2) (pc := 9) dX9_init_9 (by decide) ?_
  refine r_cIm (pc := 10) (kc' := 2) (ks' := 20) dX9_init_10 ci_X9_9 (ct_J2_init (M := M1) (n := 2) hO hgz j4 (by omega) (by decide) (by decide)) rfl rfl (Nat.le_of_ble_eq_true rfl) (by decide) (by omega) (by omega) ?_
  rintro _ M9 ⟨rfl, e9⟩
  have h9 : LNW M 2 M9 := by rw [e9]; exact LNW.mk hM (by decide)
  clear e9 hM
  have sa := h9.2.2.2.2.2 a haz (fun h => h)
  have z9 := h9.2.2.2.1
  refine r_putFQ (pc := 13) (x := some (mZ M)) dX9_init_13 fl_X9_12 ff_X9_0 rfl rfl rfl (sa.1.trans hK) hb ?_
  generalize hM2 : sR M9 a 0 (some (mZ M)) = M2
  have z2 : mZ M2 = mZ M + 2 := by rw [← hM2, mZ_sR, z9]
  have k2 : mK M2 a = 29 := by rw [← hM2, mK_sR, sa.1, hK]
  refine r_ald0 (pc := 16) dX9_init_16 ?_
  refine r_new (pc := 17) (ci := 21) (kc' := 1) (ks' := 16) dX9_init_17 q926 q927 q171 (by decide) (by omega) (by omega) ?_
  generalize hM3 : nw M2 (20 + 21) 0 = M3
  have z3 : mZ M3 = mZ M2 + 1 := by rw [← hM3]; rfl
  have k3 : mK M3 (mZ M2) = 41 := by rw [← hM3]; exact if_pos rfl
  refine r_dup (pc := 20) dX9_init_20 rfl ?_
  refine r_cIm (pc := 21) (kc' := 0) (ks' := 0) dX9_init_21 ci_X9_20 (ct_J15_init (M := M3) (a := mZ M2) hc (by omega) k3 (by omega)) rfl rfl (Nat.le_of_ble_eq_true rfl) (by decide) (by omega) (by omega) ?_
  rintro _ M7 ⟨rfl, e7⟩
  have h7 : SNB M2 M7 := by rw [e7]; exact SNB.mk hM3
  clear e7 hM3
  have s7 := h7.2.2.2.2 a (by omega) (fun h => h)
  refine r_putFQ (pc := 24) (x := some (mZ M2)) dX9_init_24 fl_X9_21 ff_X9_1 rfl rfl rfl (s7.1.trans k2) hb ?_
  refine r_vret (pc := 27) dX9_init_27 ?_
  rw [z2]
  exact ⟨rfl, CNW.mk hb haz hK h9 (by rw [hM2]; exact h7)⟩
/-- the chain after the part x with the sign c was added -/
def CHA (g : GC) (M : MM) (a l v b u n x c : Nat) (M' : MM) : Prop := ∃ v' u', CHU g M' a l v' b u' (n + 1) ∧ (∀ i, i < n → mR M' v' i = mR M v i) ∧ mR M' v' n = some x ∧ (∀ i, i < n → mI M' u' i = mI M u i) ∧ mI M' u' n = nI c ∧ FM (fun q => q = l ∨ q = v ∨ q = b ∨ q = u) M M' ∧ mZ M' ≤ mZ M + 2 ∧ (v' = v ∨ mZ M ≤ v') ∧ (u' = u ∨ mZ M ≤ u')
theorem CHA.mk {a l v b u n x c ci : Nat} {M1 M2 : MM} (h : CHU g M a l v b u n) (hn : n + 1 < 100000) (hx : mK M x = 20 + ci) (hxz : x < mZ M) (hca : NW g (.castable (clT ci).1 "java/lang/Object")) (h1 : SAD M b u n c M1) (h2 : LAD M1 l v n x M2) : CHA g M a l v b u n x c M2 := by
  obtain ⟨n1, n2, n3, n4, n5, n6, n7, n8, n9, n10⟩ := h.ne
  obtain ⟨k1, k2, k3, k4, k5, ⟨a1, a2, a3, a4, a5⟩, ⟨b1, b2, b3, b4, b5⟩, k6, k7, k8⟩ := h
  obtain ⟨u', s1, s2, s3, s4, s5, s6, s7, s8⟩ := h1
  obtain ⟨v', t1, t2, t3, t4, t5, t6, t7, t8, t9⟩ := h2
  have hz1 := s5.1
  have hz2 := t6.1
  have fa := (s5.2 a a1 (fun e => by omega)).trans (t6.2 a (by omega) (fun e => by omega))
  have fb := t6.2 b (by omega) (fun e => by omega)
  have hu' : u' ≠ l ∧ u' ≠ v := by rcases s4 with q | q <;> constructor <;> omega
  have fu := t6.2 u' (by omega) (fun e => by omega)
  have fv1 := s5.2 v a3 (fun e => by omega)
  have ob : ∀ z, OB g M z → z ≠ l → z ≠ v → z ≠ b → z ≠ u → OB g M2 z := fun z hz e1 e2 e3 e4 => by
    have hz9 := hz.1
    exact hz.fr (by omega) ((s5.2 z hz9 (fun e => by omega)).trans (t6.2 z (by omega) (fun e => by omega)))
  have ob2 : ∀ z, OB g M z → OB g M2 z := fun z hz => by
    have hz9 := hz.1
    obtain ⟨-, cj, hk, hcj⟩ := hz
    by_cases e1 : z = l
    · subst e1
      exact ⟨by omega, cj, by rw [t1.1, ← k4.1]; exact hk, hcj⟩
    by_cases e2 : z = v
    · subst e2; rw [k4.2.2.2.1] at hk; omega
    by_cases e3 : z = b
    · subst e3
      exact ⟨by omega, cj, by rw [fb.1, s1.1.1, ← k5.1.1]; exact hk, hcj⟩
    by_cases e4 : z = u
    · subst e4; rw [k5.1.2.2.2.2.1] at hk; omega
    exact ob z ⟨hz9, cj, hk, hcj⟩ e1 e2 e3 e4
  refine ⟨v', u', ⟨fa.1.trans k1, by rw [fa.2.2.2.2]; exact k2, by rw [fa.2.2.2.2]; exact k3, t1, s1.fr fb fu, ⟨by omega, by omega, t9, by omega, by omega⟩, ⟨b1, b2, by rcases t5 with q | q <;> omega, b4, by rcases s4 with q | q <;> omega⟩, ?_, fun i z hz => ?_, hn⟩, fun i hi => ?_, t3, fun i hi => ?_, ?_, ?_, by omega, ?_, ?_⟩
  · have := t1.2.2.2.2.1; omega
  · by_cases e1 : i = n
    · subst e1
      rw [t3] at hz
      cases hz
      exact ob2 x ⟨hxz, ci, hx, hca⟩
    · by_cases e2 : i < n
      · rw [t2 i e2, fv1.2.2.2.2] at hz
        exact ob2 z (k7 i z hz)
      · rcases t4 i (by omega) with q | q
        · rw [q, fv1.2.2.2.2] at hz
          exact ob2 z (k7 i z hz)
        · rw [q] at hz; cases hz
  · rw [t2 i hi, fv1.2.2.2.2]
  · rw [fu.2.2.1, s2 i hi]
  · rw [fu.2.2.1, s3]
  · exact s5.trans t6 (fun c _ e => by rcases e with e | e <;> simp [e]) (fun c _ e => by rcases e with e | e <;> simp [e])
  · rcases t5 with q | q
    · exact Or.inl q
    · exact Or.inr (by omega)
  · rcases s4 with q | q
    · exact Or.inl q
    · exact Or.inr (by omega)
end X43
