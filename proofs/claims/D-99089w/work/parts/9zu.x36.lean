set_option maxRecDepth 100000
/-! LISTS: add. TEXT: StringBuilder, how it is made and grows -/
section X36
variable {g : GC} {M : MM}
theorem LAD.at {a v n x : Nat} {w : Int32} {M' : MM} (h : LAD (sI M a 0 w) a v n x M') : LAD M a v n x M' := by
  obtain ⟨v', h1, h2, h3, h4, h5, h6, h7, h8, h9⟩ := h
  exact ⟨v', h1, h2, h3, h4, h5, FM.trans (S := fun c => c = a) (T := fun c => c = a ∨ c = v) (FM.sI fun _ => rfl) h6 (fun _ _ e => Or.inl e) (fun _ _ e => e), h7, h8, h9⟩
theorem LGw.at {a v n mi : Nat} {w : Int32} (h : LGw g M a v n mi) : LGw g (sI M a 0 w) a v n mi := by
  obtain ⟨hg, hO, hz, ⟨k1, k2, k3, k4, k5, k6⟩, haz, hvz, hab, hvb, hgz, hel, hn, h0⟩ := h
  exact ⟨hg, hO, hz, ⟨k1, k2, (mI_sIj (by decide)).trans k3, k4, k5, k6⟩, haz, hvz, hab, hvb, hgz, fun i hi z hz => by
    obtain ⟨t1, ci, t2, t3⟩ := hel i hi z hz
    exact ⟨t1, ci, t2, t3⟩, hn, h0⟩
theorem ct_J2_add {a v n mi x ci : Nat} (h : LGw g M a v n mi) (hx : mK M x = 20 + ci) (hxz : x < mZ M) (hca : NW g (.castable (clT ci).1 "java/lang/Object")) : Ct g yJ2_add cJ2_add 2 (some Jvm.ClassFile.FieldType.boolean) 8 (1) (2 * n + 1) [.ref a, .ref x] M (fun w M' => w = some (.int (nI 1)) ∧ LAD M a v n x M') noX := by
  have hh := h
  obtain ⟨hg, hO, hz, ⟨k1, k2, k3, k4, k5, k6⟩, haz, hvz, hab, hvb, hgz, hel, hn, h0⟩ := h
  refine Ct.of (by decide) (Nat.le_of_ble_eq_true rfl) rfl ?_
  refine r_ald0 (pc := 0) dJ2_add_0 ?_
  refine r_dup (pc := 1) dJ2_add_1 rfl ?_
  refine r_getIs (pc := 2) dJ2_add_2 fls_J2_63 k1 ?_
  refine r_iconst (v := nI 1) (pc := 5) dJ2_add_5 (by decide) ?_
  refine r_iadd (pc := 6) dJ2_add_6 ?_
  refine r_putIs (pc := 7) (ty := .int) dJ2_add_7 fls_J2_63 ⟨rfl, rfl⟩ rfl rfl k1 hab ?_
  generalize hM1 : sI M a 0 (mI M a 0 + nI 1) = M1
  have hh1 : LGw g M1 a v n mi := by rw [← hM1]; exact hh.at
  have hx1 : mK M1 x = 20 + ci := by rw [← hM1]; exact hx
  have hxz1 : x < mZ M1 := by rw [← hM1]; exact hxz
  have k11 := hh1.2.2.2.1
  refine r_ald0 (pc := 10) dJ2_add_10 ?_
  refine r_ald1 (pc := 11) dJ2_add_11 ?_
  refine r_ald0 (pc := 12) dJ2_add_12 ?_
  refine r_getR (pc := 13) dJ2_add_13 fl_J2_9 k11.1 k11.2.1 ?_
  refine r_ald0 (pc := 16) dJ2_add_16 ?_
  refine r_getI' (pc := 17) dJ2_add_17 fl_J2_48 k11.1 k11.2.2.1 ?_
  refine r_cVm (pc := 20) (kc' := 0) (ks' := 0) dJ2_add_20 cv_J2_131 k11.1 (ct_J2_add_2 hh1 hx1 hxz1 hca) rfl rfl (Nat.le_of_ble_eq_true rfl) (by decide) (by omega) (by omega) ?_
  rintro _ M9 ⟨rfl, e9⟩
  refine r_iconst (v := nI 1) (pc := 23) dJ2_add_23 (by decide) ?_
  refine r_zret (pc := 24) dJ2_add_24 (by first | rfl | exact zI_nar | assumption) ?_
  exact ⟨rfl, LAD.at (by rw [hM1]; exact e9)⟩
/-- a StringBuilder whose bytes are letters -/
def SbC (M : MM) (a v n : Nat) : Prop := SbX M a v n ∧ (∀ i, i < mN M v → fits .byte (.int (mI M v i)) = true)
theorem ct_J14_init {a n : Nat} (hc : NS g "java/lang/String" "COMPACT_STRINGS" "Z" (.int (nI 1))) (hb : gb g ≤ a) (hK : mK M a = 41) (haz : a < mZ M) (hn : n < 1000000) : Ct g yJ14_init cJ14_init 2 none 5 (1) (n) [.ref a, .int (nI n)] M (PV (sI (sR (nw M 3 n) a 0 (some (mZ M))) a 1 (nI 0))) noX := by
  have e1 : mK (nw M 3 n) a = 41 := (if_neg (show ¬ a = mZ M by omega)).trans hK
  refine Ct.of (by decide) (Nat.le_of_ble_eq_true rfl) rfl ?_
  refine r_ald0 (pc := 0) dJ14_init_0 ?_
  refine r_objInit (pc := 1) dJ14_init_1 q934 q189 q190 (by decide) (Nat.le_of_ble_eq_true rfl) ?_
  refine r_gets (pc := 4) dJ14_init_4 q935 hc ?_
  refine r_if_eq (pc := 7) (tgt := 25) dJ14_init_7 (by decide) (fun h7 => ?_) (fun h7 => ?_)
  · skip
    exact absurd h7 (by decide)
  · skip
    refine r_ald0 (pc := 10) dJ14_init_10 ?_
    refine r_ild1 (pc := 11) dJ14_init_11 ?_
    refine r_newa (pc := 12) (t := 3) (kc' := 0) (ks' := 0) dJ14_init_12 rfl (by decide) q334 (by omega) (by omega) (by omega) ?_
    refine r_putQ (pc := 14) (ty := clY 21 0) (x := some (mZ M)) dJ14_init_14 fl_J14_15 ⟨rfl, rfl⟩ rfl rfl e1 hb ?_
    refine r_ald0 (pc := 17) dJ14_init_17 ?_
    refine r_iconst (v := nI 0) (pc := 18) dJ14_init_18 (by decide) ?_
    refine r_putI (pc := 19) (ty := clY 21 1) dJ14_init_19 fl_J14_22 ⟨rfl, rfl⟩ rfl rfl e1 hb ?_
    refine r_goto (pc := 22) (tgt := 38) dJ14_init_22 (by decide) ?_
    refine r_vret (pc := 38) dJ14_init_38 ?_
    exact ⟨rfl, rfl⟩
theorem ct_J15_init {a : Nat} (hc : NS g "java/lang/String" "COMPACT_STRINGS" "Z" (.int (nI 1))) (hb : gb g ≤ a) (hK : mK M a = 41) (haz : a < mZ M) : Ct g yJ15_init cJ15_init 1 none 6 (1) (16) [.ref a] M (PV (sI (sR (nw M 3 16) a 0 (some (mZ M))) a 1 (nI 0))) noX := by
  refine Ct.of (by decide) (Nat.le_of_ble_eq_true rfl) rfl ?_
  refine r_ald0 (pc := 0) dJ15_init_0 ?_
  refine r_bipush (v := nI 16) (pc := 1) dJ15_init_1 (by decide) ?_
  refine r_cIm (pc := 3) (kc' := 0) (ks' := 0) dJ15_init_3 ci_J15_1 (ct_J14_init hc hb hK haz (by decide)) rfl rfl (Nat.le_of_ble_eq_true rfl) (by decide) (by omega) (by omega) ?_
  rintro _ _ ⟨rfl, rfl⟩
  refine r_vret (pc := 6) dJ15_init_6 ?_
  exact ⟨rfl, rfl⟩
end X36
