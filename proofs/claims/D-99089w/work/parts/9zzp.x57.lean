set_option maxRecDepth 100000
/-! A SOUL ANEW -/
/-- ints laid at t up to i -/
theorem layB_k {M : MM} {t i c : Nat} {φ : Nat → Nat} : mK (layB M t i φ) c = mK M c := rfl
section X57
variable {g : GC} {M : MM}
theorem lp_soul {a t z : Nat} {Q : Option Value → MM → Prop} {x2 x3 x4 : Int32} (hK : mK M a = 27) (hT : mR M a 4 = some t) (hk : mK M t = 1) (hn : mN M t = 8) (hb : gb g ≤ t) (K : Q none (layB M t 8 (fun _ => 5))) : ∀ k i, i + k = 8 → Bd g yX7_init cX7_init 6 none [] 1 0 0 (layB M t i (fun _ => 5)) 36 [some (.ref a), some (.ref z), some (.int x2), some (.int x3), some (.int x4), some (.int (nI i))] [] Q noX := by
  intro k
  induction k with
  | zero =>
    intro i hi
    have e8 : i = 8 := by omega
    subst e8
    refine r_ild5 (pc := 36) dX7_init_36 ?_
    refine r_bipush (v := nI 8) (pc := 38) dX7_init_38 (by decide) ?_
    first | refine r_icmp_geN (pc := 40) (tgt := 57) dX7_init_40 (by decide) (by omega) (by omega) (fun h40 => ?_) (fun h40 => ?_) | refine r_icmp_ge (pc := 40) (tgt := 57) dX7_init_40 (by decide) (fun h40 => ?_) (fun h40 => ?_)
    · skip
      refine r_vret (pc := 57) dX7_init_57 ?_
      exact K
    · skip
      exact absurd h40 (by omega)
  | succ k ih =>
    intro i hi
    refine r_ild5 (pc := 36) dX7_init_36 ?_
    refine r_bipush (v := nI 8) (pc := 38) dX7_init_38 (by decide) ?_
    first | refine r_icmp_geN (pc := 40) (tgt := 57) dX7_init_40 (by decide) (by omega) (by omega) (fun h40 => ?_) (fun h40 => ?_) | refine r_icmp_ge (pc := 40) (tgt := 57) dX7_init_40 (by decide) (fun h40 => ?_) (fun h40 => ?_)
    · skip
      exact absurd h40 (by omega)
    · skip
      refine r_ald0 (pc := 43) dX7_init_43 ?_
      refine r_getR (pc := 44) dX7_init_44 fl_X7_9 hK hT ?_
      refine r_ild5 (pc := 47) dX7_init_47 ?_
      refine r_iconst (v := nI 5) (pc := 49) dX7_init_49 (by decide) ?_
      refine r_iast (pc := 50) dX7_init_50 hk (by show i < mN M t; omega) (by omega) hb ?_
      rw [layB_s (f := fun _ => 5)]
      first | refine r_iinc5N (j := 1) (pc := 51) dX7_init_51 rfl ?_ | refine r_iinc5 (pc := 51) dX7_init_51 ?_
      refine r_goto (pc := 54) (tgt := 36) dX7_init_54 (by decide) ?_
      exact ih (i + 1) (by omega)
/-- a soul anew: her name z, house h, face c, kind d -/
def SLN (M : MM) (a z h c d : Nat) (M' : MM) : Prop := ∃ t, mR M' a 4 = some t ∧ mZ M ≤ t ∧ t < mZ M' ∧ mK M' t = 1 ∧ mN M' t = 8 ∧ (∀ j, j < 8 → mI M' t j = nI 5) ∧ mR M' a 0 = some z ∧ mI M' a 1 = nI h ∧ mI M' a 2 = nI c ∧ mI M' a 3 = nI d ∧ mK M' a = 27 ∧ FM (fun q => q = a) M M'
theorem SLN.mk {a z h c d : Nat} {M1 : MM} (haz : a < mZ M) (hK : mK M a = 27) (hM : nw M 1 8 = M1) : SLN M a z h c d (layB (sI (sI (sI (sR (sR M1 a 4 (some (mZ M))) a 0 (some z)) a 1 (nI h)) a 2 (nI c)) a 3 (nI d)) (mZ M) 8 (fun _ => 5)) := by
  have z1 : mZ M1 = mZ M + 1 := by rw [← hM]; rfl
  have k1 : mK M1 (mZ M) = 1 := by rw [← hM]; exact if_pos rfl
  have n1 : mN M1 (mZ M) = 8 := by rw [← hM]; exact if_pos rfl
  have k2 : mK M1 a = 27 := by rw [← hM]; exact (if_neg (show ¬ a = mZ M by omega)).trans hK
  have f1 : FM (fun _ => False) M M1 := by rw [← hM]; exact FM.nw
  clear hM
  have ea : ∀ N : MM, ∀ j, mI (layB N (mZ M) 8 (fun _ => 5)) a j = mI N a j := fun N j => by rw [layB, mI_sIf, if_neg (show ¬ a = mZ M by omega)]
  refine ⟨mZ M, ?_, Nat.le_refl _, ?_, k1, n1, fun j hj => ?_, ?_, ?_, ?_, ?_, k2, ?_⟩
  · show mR (sR (sR M1 a 4 (some (mZ M))) a 0 (some z)) a 4 = _
    rw [mR_sRj (by decide), mR_sRs]
  · show mZ M < mZ M1; omega
  · rw [layB, mI_sIf, if_pos rfl, if_pos hj]
  · show mR (sR (sR M1 a 4 (some (mZ M))) a 0 (some z)) a 0 = _
    rw [mR_sRs]
  · rw [ea, mI_sIj (by decide), mI_sIj (by decide), mI_sIs]
  · rw [ea, mI_sIj (by decide), mI_sIs]
  · rw [ea, mI_sIs]
  · exact ((((((f1.trans (U := fun q => q = a) (T := fun q => q = a) (FM.sR fun _ => rfl) (fun _ _ e => e.elim) (fun _ _ e => e)).trans (T := fun q => q = a) (FM.sR fun _ => rfl) (fun _ _ e => e) (fun _ _ e => e)).trans (T := fun q => q = a) (FM.sI fun _ => rfl) (fun _ _ e => e) (fun _ _ e => e)).trans (T := fun q => q = a) (FM.sI fun _ => rfl) (fun _ _ e => e) (fun _ _ e => e)).trans (T := fun q => q = a) (FM.sI fun _ => rfl) (fun _ _ e => e) (fun _ _ e => e))).trans (T := fun q => q = mZ M) (FM.sIs fun _ => rfl) (fun _ _ e => e) (fun q hq e => by omega)
theorem ct_X7_init {a z h c d : Nat} (hb : gb g ≤ a) (haz : a < mZ M) (hK : mK M a = 27) : Ct g yX7_init cX7_init 6 none 1 (1) (8) [.ref a, .ref z, .int (nI h), .int (nI c), .int (nI d)] M (fun v M' => v = none ∧ SLN M a z h c d M') noX := by
  refine Ct.of (by decide) (Nat.le_of_ble_eq_true rfl) rfl ?_
  refine r_ald0 (pc := 0) dX7_init_0 ?_
  refine r_objInit (pc := 1) dX7_init_1 q802 q189 q190 (by decide) (Nat.le_of_ble_eq_true rfl) ?_
  refine r_ald0 (pc := 4) dX7_init_4 ?_
  refine r_bipush (v := nI 8) (pc := 5) dX7_init_5 (by decide) ?_
  refine r_newa (pc := 7) (t := 1) (n := 8) (kc' := 0) (ks' := 0) dX7_init_7 rfl (by decide) q425 (by omega) (by omega) (by omega) ?_
  generalize hM : nw M 1 8 = M1
  have k1 : mK M1 (mZ M) = 1 := by rw [← hM]; exact if_pos rfl
  have n1 : mN M1 (mZ M) = 8 := by rw [← hM]; exact if_pos rfl
  have k2 : mK M1 a = 27 := by rw [← hM]; exact (if_neg (show ¬ a = mZ M by omega)).trans hK
  refine r_putFQ (pc := 9) (x := some (mZ M)) dX7_init_9 fl_X7_9 ff_X7_4 rfl rfl rfl k2 hb ?_
  refine r_ald0 (pc := 12) dX7_init_12 ?_
  refine r_ald1 (pc := 13) dX7_init_13 ?_
  refine r_putFQ (pc := 14) (x := some z) dX7_init_14 fl_X7_15 ff_X7_0 rfl rfl rfl k2 hb ?_
  refine r_ald0 (pc := 17) dX7_init_17 ?_
  refine r_ild2 (pc := 18) dX7_init_18 ?_
  refine r_putFI (pc := 19) dX7_init_19 fl_X7_19 ff_X7_1 rfl rfl rfl k2 hb ?_
  refine r_ald0 (pc := 22) dX7_init_22 ?_
  refine r_ild3 (pc := 23) dX7_init_23 ?_
  refine r_putFI (pc := 24) dX7_init_24 fl_X7_23 ff_X7_2 rfl rfl rfl k2 hb ?_
  refine r_ald0 (pc := 27) dX7_init_27 ?_
  refine r_ild4 (pc := 28) dX7_init_28 ?_
  refine r_putFI (pc := 30) dX7_init_30 fl_X7_26 ff_X7_3 rfl rfl rfl k2 hb ?_
  refine r_iconst (v := nI 0) (pc := 33) dX7_init_33 (by decide) ?_
  refine r_ist5 (pc := 34) dX7_init_34 ?_
  have h9 := lp_soul (g := g) (M := sI (sI (sI (sR (sR M1 a 4 (some (mZ M))) a 0 (some z)) a 1 (nI h)) a 2 (nI c)) a 3 (nI d)) (a := a) (t := mZ M) (z := z) (Q := fun v M' => v = none ∧ SLN M a z h c d M') (x2 := nI h) (x3 := nI c) (x4 := nI d) k2 ((mR_sRj (by decide)).trans (mR_sRs _ _ _ _)) k1 n1 (by omega) ⟨rfl, SLN.mk haz hK hM⟩ 8 0 (by decide)
  rw [layB_0] at h9
  exact h9
end X57
