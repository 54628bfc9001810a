set_option maxRecDepth 100000
/-! THE TREES: lists of parts, made and added to -/
/-- a new list with room for c -/
def LNW (M : MM) (c : Nat) (M' : MM) : Prop := LsX M' (mZ M) (mZ M + 1) 0 ∧ mN M' (mZ M + 1) = c ∧ (∀ i, mR M' (mZ M + 1) i = none) ∧ mZ M' = mZ M + 2 ∧ FM (fun _ => False) M M'
/-- a new text -/
def SNB (M M' : MM) : Prop := SbC M' (mZ M) (mZ M + 1) 0 ∧ mN M' (mZ M + 1) = 16 ∧ mZ M' = mZ M + 2 ∧ FM (fun _ => False) M M'
theorem LNW.mk {M M1 : MM} {c : Nat} (hM : nw M (20 + 20) 0 = M1) (hc : c < 1000000) : LNW M c (sR (nw (sI M1 (mZ M) 0 (nI 0)) 6 c) (mZ M) 1 (some (mZ M1))) := by
  have z1 : mZ M1 = mZ M + 1 := by rw [← hM]; rfl
  have k1 : mK M1 (mZ M) = 40 := by rw [← hM]; exact if_pos rfl
  have i1 : ∀ j, mI M1 (mZ M) j = nI 0 := fun j => by rw [← hM]; exact if_pos rfl
  have f1 : FM (fun _ => False) M M1 := by rw [← hM]; exact FM.nw
  clear hM
  have f2 : FM (fun _ => False) M (sI M1 (mZ M) 0 (nI 0)) := FM.trans (S := fun _ => False) (T := fun c => c = mZ M) f1 (FM.sI fun _ => rfl) (fun _ _ e => e) (fun c hc e => by omega)
  have z2 : mZ (sI M1 (mZ M) 0 (nI 0)) = mZ M + 1 := z1
  have k2 : mK (sI M1 (mZ M) 0 (nI 0)) (mZ M) = 40 := k1
  have i2 : mI (sI M1 (mZ M) 0 (nI 0)) (mZ M) 2 = nI 0 := (mI_sIj (by decide)).trans (i1 2)
  unfold LNW
  rw [← z2, show mZ M1 = mZ (sI M1 (mZ M) 0 (nI 0)) from rfl]
  generalize sI M1 (mZ M) 0 (nI 0) = M2 at *
  clear k1 i1 f1 z1
  refine ⟨⟨?_, mR_sRs _ _ _ _, ?_, ?_, Nat.zero_le _, ?_⟩, ?_, fun i => ?_, ?_, ?_⟩
  · rw [mK_sR]; exact (if_neg (show ¬ mZ M = mZ M2 by omega)).trans k2
  · rw [mI_sR]; exact (if_neg (show ¬ mZ M = mZ M2 by omega)).trans i2
  · rw [mK_sR]; exact if_pos rfl
  · rw [mN_sR, show mN (nw M2 6 c) (mZ M2) = c from if_pos rfl]; exact hc
  · rw [mN_sR]; exact if_pos rfl
  · rw [mR_sRa (show mZ M2 ≠ mZ M by omega)]; exact if_pos rfl
  · rw [mZ_sR, mZ_nw, z2]
  · exact FM.trans (S := fun _ => False) (T := fun c => c = mZ M) (FM.trans (S := fun _ => False) (T := fun _ => False) f2 FM.nw (fun _ _ e => e) (fun _ _ e => e)) (FM.sR fun _ => rfl) (fun _ _ e => e) (fun c hc e => by omega)
theorem SNB.mk {M M1 : MM} (hM : nw M (20 + 21) 0 = M1) : SNB M (sI (sR (nw M1 3 16) (mZ M) 0 (some (mZ M1))) (mZ M) 1 (nI 0)) := by
  have z1 : mZ M1 = mZ M + 1 := by rw [← hM]; rfl
  have k1 : mK M1 (mZ M) = 41 := by rw [← hM]; exact if_pos rfl
  have i1 : ∀ j, mI M1 (mZ M) j = nI 0 := fun j => by rw [← hM]; exact if_pos rfl
  have f1 : FM (fun _ => False) M M1 := by rw [← hM]; exact FM.nw
  clear hM
  unfold SNB
  rw [← z1]
  have n1 : mN (sI (sR (nw M1 3 16) (mZ M) 0 (some (mZ M1))) (mZ M) 1 (nI 0)) (mZ M1) = 16 := by rw [mN_sI, mN_sR]; exact if_pos rfl
  refine ⟨⟨⟨?_, ?_, mI_sIs _ _ _ _, ?_, ?_, Nat.zero_le _, ?_⟩, fun i _ => ?_⟩, n1, ?_, ?_⟩
  · rw [mK_sI, mK_sR]; exact (if_neg (show ¬ mZ M = mZ M1 by omega)).trans k1
  · rw [mR_sI, mR_sRs]
  · rw [mI_sIj (by decide), mI_sR]; exact (if_neg (show ¬ mZ M = mZ M1 by omega)).trans (i1 3)
  · rw [mK_sI, mK_sR]; exact if_pos rfl
  · rw [n1]; decide
  · rw [mI_sIa (show mZ M1 ≠ mZ M by omega), mI_sR, show mI (nw M1 3 16) (mZ M1) i = nI 0 from if_pos rfl]; rfl
  · rw [mZ_sI, mZ_sR, mZ_nw, z1]
  · exact FM.trans (S := fun _ => False) (T := fun c => c = mZ M) (FM.trans (S := fun _ => False) (T := fun c => c = mZ M) (FM.trans (S := fun _ => False) (T := fun _ => False) f1 FM.nw (fun _ _ e => e) (fun _ _ e => e)) (FM.sR fun _ => rfl) (fun _ _ e => e) (fun c hc e => by omega)) (FM.sI fun _ => rfl) (fun _ _ e => e) (fun c hc e => by omega)
theorem SbC.fr {M M' : MM} {a v n : Nat} (h : SbC M a v n) (h1 : Sm M M' a) (h2 : Sm M M' v) : SbC M' a v n := ⟨h.1.fr h1 h2, fun i hi => by rw [h2.2.2.1]; exact h.2 i (by rw [h2.2.1] at hi; exact hi)⟩
/-- facts anew: no parts yet -/
def FNW (M : MM) (a : Nat) (z : Int32) (M' : MM) : Prop := LsX M' (mZ M) (mZ M + 1) 0 ∧ mN M' (mZ M + 1) = 2 ∧ (∀ i, mR M' (mZ M + 1) i = none) ∧ mR M' a 0 = some (mZ M) ∧ mI M' a 1 = z ∧ mK M' a = mK M a ∧ mZ M' = mZ M + 2 ∧ FM (fun c => c = a) M M'
section X42
variable {g : GC} {M : MM}
theorem ct_X15_init {a : Nat} {z : Int32} (hg : GX g) (hO : GO g) (hb : gb g ≤ a) (haz : a < mZ M) (hK : mK M a = 35) (hz : narrow .boolean (.int z) = .int z ∧ fits .boolean (.int z) = true) : Ct g yX15_init cX15_init 2 none 4 (2) (5) [.ref a, .int z] M (fun v M' => v = none ∧ FNW M a z M') noX := by
  have hgz : gb g ≤ mZ M := by omega
  refine Ct.of (by decide) (Nat.le_of_ble_eq_true rfl) rfl ?_
  refine r_ald0 (pc := 0) dX15_init_0 ?_
  refine r_cIN (pc := 1) dX15_init_1 (cin_X15_1 hg) ct_X14_init rfl rfl (Nat.le_of_ble_eq_true rfl) (by decide) ?_
  rintro _ M8 ⟨rfl, e8⟩
  rw [e8]
  refine r_ald0 (pc := 4) dX15_init_4 ?_
  refine r_new (pc := 5) (ci := 20) (kc' := 1) (ks' := 2) dX15_init_5 q1115 q198 q149 (by decide) (by omega) (by omega) ?_
  generalize hM : nw M (20 + 20) 0 = M1
  have z1 : mZ M1 = mZ M + 1 := by rw [← hM]; rfl
  have j4 : mK M1 (mZ M) = 40 := by rw [← hM]; exact if_pos rfl
  refine r_dup (pc := 8) dX15_init_8 rfl ?_
  refine r_iconst (v := nI 2) (pc := 9) dX15_init_9 (by decide) ?_
  refine r_cIm (pc := 10) (kc' := 0) (ks' := 0) dX15_init_10 ci_X15_9 (ct_J2_init (M := M1) (n := 2) hO hgz j4 (by omega) (by decide) (by decide)) rfl rfl (Nat.le_of_ble_eq_true rfl) (by decide) (by omega) (by omega) ?_
  rintro _ M9 ⟨rfl, e9⟩
  have h9 : LNW M 2 M9 := by rw [e9]; exact LNW.mk hM (by decide)
  clear e9 hM
  obtain ⟨l1, l2, l3, l4, l5⟩ := h9
  have sa := l5.2 a haz (fun h => h)
  refine r_putFQ (pc := 13) (x := some (mZ M)) dX15_init_13 fl_X15_12 ff_X15_0 rfl rfl rfl (sa.1.trans hK) hb ?_
  refine r_ald0 (pc := 16) dX15_init_16 ?_
  refine r_ild1 (pc := 17) dX15_init_17 ?_
  refine r_putFI (pc := 18) dX15_init_18 fl_X15_18 ff_X15_1 rfl hz.1 hz.2 (sa.1.trans hK) hb ?_
  refine r_vret (pc := 21) dX15_init_21 ?_
  have s1 : ∀ c, c ≠ a → Sm M9 (sI (sR M9 a 0 (some (mZ M))) a 1 z) c := fun c hc => (Sm.sR hc).trans (Sm.sI hc)
  have t1 := s1 (mZ M) (by omega)
  have t2 := s1 (mZ M + 1) (by omega)
  refine ⟨rfl, l1.fr t1 t2, t2.2.1.trans l2, fun i => by rw [t2.2.2.2.2]; exact l3 i, ?_, mI_sIs _ _ _ _, sa.1, l4, ?_⟩
  · rw [mR_sI, mR_sRs]
  · exact FM.trans (S := fun c => c = a) (T := fun c => c = a) (FM.trans (S := fun _ => False) (T := fun c => c = a) l5 (FM.sR fun _ => rfl) (fun _ _ e => e.elim) (fun _ _ e => e)) (FM.sI fun _ => rfl) (fun _ _ e => e) (fun _ _ e => e)
/-- a terrace anew: nobody yet -/
def TNW (M : MM) (a : Nat) (M' : MM) : Prop := LsX M' (mZ M) (mZ M + 1) 0 ∧ mN M' (mZ M + 1) = 4 ∧ (∀ i, mR M' (mZ M + 1) i = none) ∧ mR M' a 3 = some (mZ M) ∧ (∀ i, i ≠ 3 → mR M' a i = mR M a i) ∧ (∀ i, mI M' a i = mI M a i) ∧ mK M' a = mK M a ∧ mZ M' = mZ M + 2 ∧ FM (fun c => c = a) M M'
theorem ct_X1_init {a : Nat} (hO : GO g) (hb : gb g ≤ a) (haz : a < mZ M) (hK : mK M a = 21) : Ct g yX1_init cX1_init 1 none 4 (2) (7) [.ref a] M (fun v M' => v = none ∧ TNW M a M') noX := by
  have hgz : gb g ≤ mZ M := by omega
  refine Ct.of (by decide) (Nat.le_of_ble_eq_true rfl) rfl ?_
  refine r_ald0 (pc := 0) dX1_init_0 ?_
  refine r_objInit (pc := 1) dX1_init_1 q196 q189 q190 (by decide) (Nat.le_of_ble_eq_true rfl) ?_
  refine r_ald0 (pc := 4) dX1_init_4 ?_
  refine r_new (pc := 5) (ci := 20) (kc' := 1) (ks' := 4) dX1_init_5 q197 q198 q149 (by decide) (by omega) (by omega) ?_
  generalize hM : nw M (20 + 20) 0 = M1
  have z1 : mZ M1 = mZ M + 1 := by rw [← hM]; rfl
  have j4 : mK M1 (mZ M) = 40 := by rw [← hM]; exact if_pos rfl
  refine r_dup (pc := 8) dX1_init_8 rfl ?_
  refine r_iconst (v := nI 4) (pc := 9) dX1_init_9 (by decide) ?_
  refine r_cIm (pc := 10) (kc' := 0) (ks' := 0) dX1_init_10 ci_X1_11 (ct_J2_init (M := M1) (n := 4) hO hgz j4 (by omega) (by decide) (by decide)) rfl rfl (Nat.le_of_ble_eq_true rfl) (by decide) (by omega) (by omega) ?_
  rintro _ M9 ⟨rfl, e9⟩
  have h9 : LNW M 4 M9 := by rw [e9]; exact LNW.mk hM (by decide)
  clear e9 hM
  obtain ⟨l1, l2, l3, l4, l5⟩ := h9
  have sa := l5.2 a haz (fun h => h)
  refine r_putFQ (pc := 13) (x := some (mZ M)) dX1_init_13 fl_X1_14 ff_X1_3 rfl rfl rfl (sa.1.trans hK) hb ?_
  refine r_vret (pc := 16) dX1_init_16 ?_
  have s1 : ∀ c, c ≠ a → Sm M9 (sR M9 a 3 (some (mZ M))) c := fun c hc => Sm.sR hc
  have t1 := s1 (mZ M) (by omega)
  have t2 := s1 (mZ M + 1) (by omega)
  refine ⟨rfl, l1.fr t1 t2, t2.2.1.trans l2, fun i => by rw [t2.2.2.2.2]; exact l3 i, mR_sRs _ _ _ _, fun i hi => ?_, fun i => ?_, sa.1, l4, ?_⟩
  · rw [mR_sRj hi, sa.2.2.2.2]
  · rw [mI_sR, sa.2.2.1]
  · exact FM.trans (S := fun _ => False) (T := fun c => c = a) l5 (FM.sR fun _ => rfl) (fun _ _ e => e.elim) (fun _ _ e => e)
end X42
