set_option maxRecDepth 100000
/-! LISTS: add -/
/-- an object that an Object[] may hold -/
def OB (g : GC) (M : MM) (z : Nat) : Prop := z < mZ M ∧ ∃ ci, mK M z = 20 + ci ∧ NW g (.castable (clT ci).1 "java/lang/Object")
theorem OB.fr {g : GC} {M M' : MM} {z : Nat} (h : OB g M z) (hz : mZ M ≤ mZ M') (hs : Sm M M' z) : OB g M' z := by
  obtain ⟨h1, ci, h2, h3⟩ := h
  exact ⟨Nat.lt_of_lt_of_le h1 hz, ci, by rw [hs.1]; exact h2, h3⟩
/-- a copy of the array v with room for c -/
def cpR (M : MM) (v c : Nat) : MM := sRs (nw M 6 c) (mZ M) (fun i => if i < mN M v then mR M v i else none)
section Rows35
variable {g : GC} {y : MethodName} {cc : ByteArray} {nL : Nat} {rt : Option FieldType} {hh : List (Nat × Nat × Nat × Nat)} {d kc ks : Nat} {M : MM} {pc : Nat} {lv : List (Option Value)} {st : List Value} {Q : Option Value → MM → Prop} {X : Nat → MM → Prop}
theorem r_aretA {a : Nat} {n : FieldType} (hd : decode cc pc = .ok (.areturn, 1)) (hQ : Q (some (.ref a)) M) : Bd g y cc nL (some (.array n)) hh d kc ks M pc lv [.ref a] Q X := r_aret (r := some a) hd (Or.inr ⟨n, rfl⟩) hQ
end Rows35
section X35
variable {g : GC} {M : MM}
theorem nI_half {n : Nat} (h : n < 1000000) : (nI n) >>> (nI 1 &&& 31) = nI (n / 2) := by
  have e : (nI 1 &&& 31 : Int32) = nI 1 := by decide
  rw [e]
  apply Int32.toBitVec_inj.1
  show BitVec.sshiftRight (BitVec.ofNat 32 n) ((nI 1).toBitVec.smod 32).toNat = BitVec.ofNat 32 (n / 2)
  rw [show ((nI 1).toBitVec.smod 32).toNat = 1 by decide, BitVec.sshiftRight_eq_of_msb_false (by rw [BitVec.msb_eq_false_iff_two_mul_lt, BitVec.toNat_ofNat]; omega)]
  apply BitVec.eq_of_toNat_eq
  rw [BitVec.toNat_ushiftRight, BitVec.toNat_ofNat, BitVec.toNat_ofNat, Nat.shiftRight_eq_div_pow]
  omega
theorem ct_J10_newLength {a b c : Nat} (h0 : 0 < b) (h1 : a + b + c < 1000000) : Ct g yJ10_newLength cJ10_newLength 4 (some Jvm.ClassFile.FieldType.int) 4 0 0 [.int (nI a), .int (nI b), .int (nI c)] M (PQ M (.int (nI (a + (if c ≤ b then b else c))))) noX := by
  have e : (2147483639 : Int32) = nI 2147483639 := by decide
  have e1 : 0 < a + (if c ≤ b then b else c) := by split <;> omega
  have e2 : a + (if c ≤ b then b else c) < 1000000 := by split <;> omega
  generalize hm : a + (if c ≤ b then b else c) = m at *
  refine Ct.of (by decide) (Nat.le_of_ble_eq_true rfl) rfl ?_
  refine r_ild0 (pc := 0) dJ10_newLength_0 ?_
  refine r_ild1 (pc := 1) dJ10_newLength_1 ?_
  refine r_ild2 (pc := 2) dJ10_newLength_2 ?_
  refine r_cS (pc := 3) dJ10_newLength_3 cs_J10_194 (ct_J12_max (by omega) (by omega)) rfl rfl (Nat.le_of_ble_eq_true rfl) (by first | decide | omega) ?_
  rintro _ _ ⟨rfl, rfl⟩
  first | refine r_iaddN (pc := 6) dJ10_newLength_6 ?_ | refine r_iaddJ (pc := 6) dJ10_newLength_6 ?_ | refine r_iadd (pc := 6) dJ10_newLength_6 ?_
  rw [hm]
  refine r_ist3 (pc := 7) dJ10_newLength_7 ?_
  refine r_iconst (v := nI 0) (pc := 8) dJ10_newLength_8 (by decide) ?_
  refine r_ild3 (pc := 9) dJ10_newLength_9 ?_
  first | refine r_icmp_geN (pc := 10) (tgt := 21) dJ10_newLength_10 (by decide) (by omega) (by omega) (fun h10 => ?_) (fun h10 => ?_) | refine r_icmp_ge (pc := 10) (tgt := 21) dJ10_newLength_10 (by decide) (fun h10 => ?_) (fun h10 => ?_)
  · skip
    exact absurd h10 (by omega)
  · skip
    refine r_ild3 (pc := 13) dJ10_newLength_13 ?_
    refine r_ldc (pc := 14) dJ10_newLength_14 q855 ?_
    refine Bd.eqI e ?_
    first | refine r_icmp_gtN (pc := 16) (tgt := 21) dJ10_newLength_16 (by decide) (by omega) (by omega) (fun h16 => ?_) (fun h16 => ?_) | refine r_icmp_gt (pc := 16) (tgt := 21) dJ10_newLength_16 (by decide) (fun h16 => ?_) (fun h16 => ?_)
    · skip
      exact absurd h16 (by omega)
    · skip
      refine r_ild3 (pc := 19) dJ10_newLength_19 ?_
      refine r_iret (pc := 20) dJ10_newLength_20 ?_
      exact ⟨rfl, rfl⟩
theorem ct_J13_copyOf_2 {v c mi : Nat} (hO : GO g) (hz : NM g "[Ljava/lang/Object;" mi) (hK : mK M v = 6) (hv : v < mZ M) (hgz : gb g ≤ mZ M) (hn : mN M v ≤ c) (hc : c < 1000000) (hel : ∀ i, i < mN M v → ∀ z, mR M v i = some z → OB g M z) : Ct g yJ13_copyOf_2 cJ13_copyOf_2 4 (some ((Jvm.ClassFile.FieldType.array (Jvm.ClassFile.FieldType.object "java/lang/Object")))) 3 (1) (c) [.ref v, .int (nI c), .ref mi] M (fun w M' => w = some (.ref (mZ M)) ∧ M' = cpR M v c) noX := by
  have hvz : v ≠ mZ M := by omega
  refine Ct.of (by decide) (Nat.le_of_ble_eq_true rfl) rfl ?_
  refine r_ald2 (pc := 0) dJ13_copyOf_2_0 ?_
  refine r_ldcM (pc := 1) dJ13_copyOf_2_1 q891 hz ?_
  refine r_acmp_ne (rx := some mi) (ry := some mi) (pc := 3) (tgt := 13) dJ13_copyOf_2_3 (by decide) (fun h3 => ?_) (fun h3 => ?_)
  · skip
    exact absurd rfl h3
  · skip
    refine r_ild1 (pc := 6) dJ13_copyOf_2_6 ?_
    refine r_anew (pc := 7) (t := 6) (kc' := 0) (ks' := 0) (C := "java/lang/Object") hO (Or.inl rfl) rfl q210 dJ13_copyOf_2_7 q892 (by omega) (by omega) (by omega) ?_
    refine r_goto (pc := 10) (tgt := 24) dJ13_copyOf_2_10 (by decide) ?_
    refine r_ast3 (pc := 24) dJ13_copyOf_2_24 ?_
    refine r_ald0 (pc := 25) dJ13_copyOf_2_25 ?_
    refine r_iconst (v := nI 0) (pc := 26) dJ13_copyOf_2_26 (by decide) ?_
    refine r_ald3 (pc := 27) dJ13_copyOf_2_27 ?_
    refine r_iconst (v := nI 0) (pc := 28) dJ13_copyOf_2_28 (by decide) ?_
    refine r_ald0 (pc := 29) dJ13_copyOf_2_29 ?_
    refine r_alen (pc := 30) (t := 6) dJ13_copyOf_2_30 ((if_neg hvz).trans hK) (by decide) ?_
    rw [show mN (nw M 6 c) v = mN M v from if_neg hvz]
    refine r_ild1 (pc := 31) dJ13_copyOf_2_31 ?_
    refine r_cS (pc := 32) dJ13_copyOf_2_32 cs_J13_304 (ct_J12_min (by omega) (by omega)) rfl rfl (Nat.le_of_ble_eq_true rfl) (by first | decide | omega) ?_
    rintro _ _ ⟨rfl, rfl⟩
    rw [if_pos hn]
    refine r_copyR (pc := 35) q896 dJ13_copyOf_2_35 ((if_neg hvz).trans hK) (if_pos rfl) (by rw [show mN (nw M 6 c) v = mN M v from if_neg hvz]; exact Nat.le_refl _) (by rw [show mN (nw M 6 c) (mZ M) = c from if_pos rfl]; exact hn) (by omega) (fun i hi z hz9 => ?_) hgz (by decide) (Nat.le_of_ble_eq_true rfl) ?_
    · rw [show mR (nw M 6 c) v i = mR M v i from if_neg hvz] at hz9
      obtain ⟨t1, ci, t2, t3⟩ := hel i hi z hz9
      exact ⟨ci, (if_neg (show ¬ z = mZ M by omega)).trans t2, t3⟩
    rw [show (fun i => if i < mN M v then mR (nw M 6 c) v i else mR (nw M 6 c) (mZ M) i) = (fun i => if i < mN M v then mR M v i else none) from funext fun i => by rw [show mR (nw M 6 c) v i = mR M v i from if_neg hvz, show mR (nw M 6 c) (mZ M) i = none from if_pos rfl]]
    refine r_ald3 (pc := 38) dJ13_copyOf_2_38 ?_
    refine r_aretA (pc := 39) dJ13_copyOf_2_39 ?_
    exact ⟨rfl, rfl⟩
theorem ct_J13_copyOf {v c mi : Nat} (hg : GX g) (hO : GO g) (hz : NM g "[Ljava/lang/Object;" mi) (hK : mK M v = 6) (hv : v < mZ M) (hgz : gb g ≤ mZ M) (hn : mN M v ≤ c) (hc : c < 1000000) (hel : ∀ i, i < mN M v → ∀ z, mR M v i = some z → OB g M z) : Ct g yJ13_copyOf cJ13_copyOf 2 (some ((Jvm.ClassFile.FieldType.array (Jvm.ClassFile.FieldType.object "java/lang/Object")))) 4 (1) (c) [.ref v, .int (nI c)] M (fun w M' => w = some (.ref (mZ M)) ∧ M' = cpR M v c) noX := by
  refine Ct.of (by decide) (Nat.le_of_ble_eq_true rfl) rfl ?_
  refine r_ald0 (pc := 0) dJ13_copyOf_0 ?_
  refine r_ild1 (pc := 1) dJ13_copyOf_1 ?_
  refine r_ald0 (pc := 2) dJ13_copyOf_2 ?_
  refine r_getC (pc := 3) hg dJ13_copyOf_3 q862 hz hK (by decide) (Nat.le_of_ble_eq_true rfl) ?_
  refine r_cSm (pc := 6) (kc' := 0) (ks' := 0) dJ13_copyOf_6 cs_J13_300 (ct_J13_copyOf_2 hO hz hK hv hgz hn hc hel) rfl rfl (Nat.le_of_ble_eq_true rfl) (by decide) (by omega) (by omega) ?_
  rintro _ _ ⟨rfl, rfl⟩
  refine r_aretA (pc := 9) dJ13_copyOf_9 ?_
  exact ⟨rfl, rfl⟩
/-- room after growing -/
def gwC (n : Nat) : Nat := n + (if n / 2 ≤ 1 then 1 else n / 2)
theorem gwC_le {n : Nat} : n + 1 ≤ gwC n ∧ gwC n ≤ 2 * n + 1 := by
  unfold gwC
  split <;> omega
/-- what growing needs -/
def LGw (g : GC) (M : MM) (a v n mi : Nat) : Prop := GX g ∧ GO g ∧ NM g "[Ljava/lang/Object;" mi ∧ LsX M a v n ∧ a < mZ M ∧ v < mZ M ∧ gb g ≤ a ∧ gb g ≤ v ∧ gb g ≤ mZ M ∧ (∀ i, i < mN M v → ∀ z, mR M v i = some z → OB g M z) ∧ n < 100000 ∧ 0 < mN M v
theorem ct_J2_grow_2 {a v n mi : Nat} (h : LGw g M a v n mi) (hf : mN M v = n) : Ct g yJ2_grow_2 cJ2_grow_2 4 (some ((Jvm.ClassFile.FieldType.array (Jvm.ClassFile.FieldType.object "java/lang/Object")))) 5 (1) (gwC n) [.ref a, .int (nI (n + 1))] M (fun w M' => w = some (.ref (mZ M)) ∧ M' = sR (cpR M v (gwC n)) a 1 (some (mZ M))) noX := by
  obtain ⟨hg, hO, hz, ⟨k1, k2, k3, k4, k5, k6⟩, haz, hvz, hab, hvb, hgz, hel, hn, h0⟩ := h
  have hle := @gwC_le n
  rw [hf] at h0
  refine Ct.of (by decide) (Nat.le_of_ble_eq_true rfl) rfl ?_
  refine r_ald0 (pc := 0) dJ2_grow_2_0 ?_
  refine r_getR (pc := 1) dJ2_grow_2_1 fl_J2_9 k1 k2 ?_
  refine r_alen (pc := 4) dJ2_grow_2_4 k4 (by decide) ?_
  rw [hf]
  refine r_ist2 (pc := 5) dJ2_grow_2_5 ?_
  refine r_ild2 (pc := 6) dJ2_grow_2_6 ?_
  first | refine r_if_gtN (pc := 7) (tgt := 20) dJ2_grow_2_7 (by decide) (by omega) (fun h7 => ?_) (fun h7 => ?_) | refine r_if_gt (pc := 7) (tgt := 20) dJ2_grow_2_7 (by decide) (fun h7 => ?_) (fun h7 => ?_)
  · skip
    refine r_ild2 (pc := 20) dJ2_grow_2_20 ?_
    refine r_ild1 (pc := 21) dJ2_grow_2_21 ?_
    refine r_ild2 (pc := 22) dJ2_grow_2_22 ?_
    first | refine r_isubN (pc := 23) dJ2_grow_2_23 (by omega) ?_ | refine r_isubM (pc := 23) dJ2_grow_2_23 ?_ | refine r_isubJ (pc := 23) dJ2_grow_2_23 ?_ | refine r_isub (pc := 23) dJ2_grow_2_23 ?_
    refine r_ild2 (pc := 24) dJ2_grow_2_24 ?_
    refine r_iconst (v := nI 1) (pc := 25) dJ2_grow_2_25 (by decide) ?_
    refine r_ishr (pc := 26) dJ2_grow_2_26 ?_
    refine Bd.eqI (nI_half (by omega)) ?_
    refine r_cS (pc := 27) dJ2_grow_2_27 cs_J2_73 (ct_J10_newLength (by omega) (by omega)) rfl rfl (Nat.le_of_ble_eq_true rfl) (by first | decide | omega) ?_
    rintro _ M9 ⟨rfl, e9⟩
    rw [e9]
    rw [show n + (if n / 2 ≤ n + 1 - n then n + 1 - n else n / 2) = gwC n by rw [Nat.add_sub_cancel_left]; rfl]
    refine r_ist3 (pc := 30) dJ2_grow_2_30 ?_
    refine r_ald0 (pc := 31) dJ2_grow_2_31 ?_
    refine r_ald0 (pc := 32) dJ2_grow_2_32 ?_
    refine r_getR (pc := 33) dJ2_grow_2_33 fl_J2_9 k1 k2 ?_
    refine r_ild3 (pc := 36) dJ2_grow_2_36 ?_
    refine r_cSm (pc := 37) (kc' := 0) (ks' := 0) dJ2_grow_2_37 cs_J2_66 (ct_J13_copyOf hg hO hz k4 hvz hgz (by omega) (by omega) hel) rfl rfl (Nat.le_of_ble_eq_true rfl) (by decide) (by omega) (by omega) ?_
    rintro _ _ ⟨rfl, rfl⟩
    refine r_dup_x1 (pc := 40) dJ2_grow_2_40 rfl rfl ?_
    refine r_putQ (pc := 41) (ty := clY 20 1) (x := some (mZ M)) dJ2_grow_2_41 fl_J2_9 ⟨rfl, rfl⟩ rfl rfl ((if_neg (show ¬ a = mZ M by omega)).trans k1) hab ?_
    refine r_aretA (pc := 44) dJ2_grow_2_44 ?_
    exact ⟨rfl, rfl⟩
  · skip
    exact absurd h7 (by omega)
/-- the memory after growing -/
def GRW (M : MM) (a v n : Nat) (M1 : MM) : Prop := mK M1 (mZ M) = 6 ∧ mN M1 (mZ M) = gwC n ∧ (∀ c, c < mZ M → mK M1 c = mK M c) ∧ mR M1 a 1 = some (mZ M) ∧ (∀ i, mR M1 (mZ M) i = if i < n then mR M v i else none) ∧ mZ M1 = mZ M + 1 ∧ FM (fun c => c = a) M M1
theorem GRW.mk {a v n : Nat} (haz : a < mZ M) (hvz : v < mZ M) (hf : mN M v = n) : GRW M a v n (sR (cpR M v (gwC n)) a 1 (some (mZ M))) := by
  refine ⟨?_, ?_, fun c hc => ?_, mR_sRs _ _ _ _, fun i => ?_, ?_, ?_⟩
  · rw [mK_sR, cpR]; exact if_pos rfl
  · rw [mN_sR, cpR]; exact if_pos rfl
  · rw [mK_sR, cpR]; exact if_neg (Nat.ne_of_lt hc)
  · rw [mR_sRa (show mZ M ≠ a by omega), cpR, mR_sRf, if_pos rfl, hf]
  · rw [mZ_sR, cpR]; rfl
  · exact (FM.nw.trans (U := fun c => c = a) (S := fun _ => False) (T := fun c => c = mZ M) (FM.sRs fun _ => rfl) (fun _ _ e => e.elim) (fun c hc e => by omega)).trans (T := fun c => c = a) (FM.sR fun _ => rfl) (fun _ _ e => e) (fun _ _ e => e)
theorem ct_J2_grow {a v n mi : Nat} (h : LGw g M a v n mi) (hf : mN M v = n) : Ct g yJ2_grow cJ2_grow 1 (some ((Jvm.ClassFile.FieldType.array (Jvm.ClassFile.FieldType.object "java/lang/Object")))) 6 (1) (gwC n) [.ref a] M (fun w M' => w = some (.ref (mZ M)) ∧ GRW M a v n M') noX := by
  have hh := h
  obtain ⟨hg, hO, hz, ⟨k1, k2, k3, k4, k5, k6⟩, haz, hvz, hab, hvb, hgz, hel, hn, h0⟩ := h
  refine Ct.of (by decide) (Nat.le_of_ble_eq_true rfl) rfl ?_
  refine r_ald0 (pc := 0) dJ2_grow_0 ?_
  refine r_ald0 (pc := 1) dJ2_grow_1 ?_
  refine r_getI (pc := 2) dJ2_grow_2 fl_J2_48 k1 ?_
  rw [k3]
  refine r_iconst (v := nI 1) (pc := 5) dJ2_grow_5 (by decide) ?_
  first | refine r_iaddN (pc := 6) dJ2_grow_6 ?_ | refine r_iaddJ (pc := 6) dJ2_grow_6 ?_ | refine r_iadd (pc := 6) dJ2_grow_6 ?_
  refine r_cVm (pc := 7) (kc' := 0) (ks' := 0) dJ2_grow_7 cv_J2_69 k1 (ct_J2_grow_2 hh hf) rfl rfl (Nat.le_of_ble_eq_true rfl) (by decide) (by omega) (by omega) ?_
  rintro _ M9 ⟨rfl, e9⟩
  rw [e9]
  refine r_aretA (pc := 10) dJ2_grow_10 ?_
  exact ⟨rfl, GRW.mk haz hvz hf⟩
/-- the list after x was added -/
def LAD (M : MM) (a v n x : Nat) (M' : MM) : Prop := ∃ v', LsX M' a v' (n + 1) ∧ (∀ i, i < n → mR M' v' i = mR M v i) ∧ mR M' v' n = some x ∧ (∀ i, n < i → mR M' v' i = mR M v i ∨ mR M' v' i = none) ∧ (v' = v ∨ v' = mZ M) ∧ FM (fun c => c = a ∨ c = v) M M' ∧ mZ M' ≤ mZ M + 1 ∧ mN M' v' ≤ mN M v + (2 * n + 1) ∧ v' < mZ M'
theorem ct_J2_add_2n {a v n mi x ci : Nat} (h : LGw g M a v n mi) (hx : mK M x = 20 + ci) (hxz : x < mZ M) (hca : NW g (.castable (clT ci).1 "java/lang/Object")) (hf : ¬ mN M v = n) : Ct g yJ2_add_2 cJ2_add_2 4 none 7 (1) (2 * n + 1) [.ref a, .ref x, .ref v, .int (nI n)] M (fun w M' => w = none ∧ LAD M a v n x M') noX := by
  have hh := h
  obtain ⟨hg, hO, hz, ⟨k1, k2, k3, k4, k5, k6⟩, haz, hvz, hab, hvb, hgz, hel, hn, h0⟩ := h
  have hle := @gwC_le n
  have hav : a ≠ v := fun e => by rw [e, k4] at k1; omega
  refine Ct.of (by decide) (Nat.le_of_ble_eq_true rfl) rfl ?_
  refine r_ild3 (pc := 0) dJ2_add_2_0 ?_
  refine r_ald2 (pc := 1) dJ2_add_2_1 ?_
  refine r_alen (pc := 2) dJ2_add_2_2 k4 (by decide) ?_
  first | refine r_icmp_neN (pc := 3) (tgt := 11) dJ2_add_2_3 (by decide) (by omega) (by omega) (fun h3 => ?_) (fun h3 => ?_) | refine r_icmp_ne (pc := 3) (tgt := 11) dJ2_add_2_3 (by decide) (fun h3 => ?_) (fun h3 => ?_)
  · skip
    refine r_ald2 (pc := 11) dJ2_add_2_11 ?_
    refine r_ild3 (pc := 12) dJ2_add_2_12 ?_
    refine r_ald1 (pc := 13) dJ2_add_2_13 ?_
    refine r_aast6 (pc := 14) hca dJ2_add_2_14 k4 hx (by omega) (by omega) hvb ?_
    refine r_ald0 (pc := 15) dJ2_add_2_15 ?_
    refine r_ild3 (pc := 16) dJ2_add_2_16 ?_
    refine r_iconst (v := nI 1) (pc := 17) dJ2_add_2_17 (by decide) ?_
    first | refine r_iaddN (pc := 18) dJ2_add_2_18 ?_ | refine r_iaddJ (pc := 18) dJ2_add_2_18 ?_ | refine r_iadd (pc := 18) dJ2_add_2_18 ?_
    refine r_putI (pc := 19) (ty := .int) dJ2_add_2_19 fl_J2_48 ⟨rfl, rfl⟩ rfl rfl k1 hab ?_
    refine r_vret (pc := 22) dJ2_add_2_22 ?_
    have g1 : ∀ i, mR (sI (sR M v n (some x)) a 2 (nI (n + 1))) v i = if i = n then some x else mR M v i := fun i => by
      rw [mR_sI, mR_sR]
      by_cases e : i = n
      · rw [if_pos ⟨rfl, e⟩, if_pos e]
      · rw [if_neg (fun q => e q.2), if_neg e]
    refine ⟨rfl, v, ⟨k1, ?_, mI_sIs _ _ _ _, k4, ?_, k6⟩, fun i hi => ?_, ?_, fun i hi => Or.inl ?_, Or.inl rfl, ?_, Nat.le_succ _, Nat.le_add_right _ _, hvz⟩
    · rw [mR_sI, mR_sRa hav]; exact k2
    · show n + 1 ≤ mN M v; omega
    · rw [g1, if_neg (by omega)]
    · rw [g1, if_pos rfl]
    · rw [g1, if_neg (by omega)]
    · exact FM.trans (U := fun c => c = a ∨ c = v) (S := fun c => c = v) (T := fun c => c = a) (FM.sR fun _ => rfl) (FM.sI fun _ => rfl) (fun _ _ e => Or.inr e) (fun _ _ e => Or.inl e)
  · skip
    exact absurd h3.symm hf
theorem LAD.mkf {a v n x : Nat} {M1 : MM} (k1 : mK M a = 40) (k4 : mK M v = 6) (hf : mN M v = n) (haz : a < mZ M) (hvz : v < mZ M) (hn : n < 100000) (f1 : mK M1 (mZ M) = 6) (f2 : mN M1 (mZ M) = gwC n) (f3 : ∀ c, c < mZ M → mK M1 c = mK M c) (f4 : mR M1 a 1 = some (mZ M)) (f5 : ∀ i, mR M1 (mZ M) i = if i < n then mR M v i else none) (f6 : mZ M1 = mZ M + 1) (f7 : FM (fun c => c = a) M M1) : LAD M a v n x (sI (sR M1 (mZ M) n (some x)) a 2 (nI (n + 1))) := by
  have hle := @gwC_le n
  have g1 : ∀ i, mR (sI (sR M1 (mZ M) n (some x)) a 2 (nI (n + 1))) (mZ M) i = if i = n then some x else if i < n then mR M v i else none := fun i => by
    rw [mR_sI, mR_sR]
    by_cases e : i = n
    · rw [if_pos ⟨rfl, e⟩, if_pos e]
    · rw [if_neg (fun q => e q.2), if_neg e, f5]
  have g2 : mN (sI (sR M1 (mZ M) n (some x)) a 2 (nI (n + 1))) (mZ M) = gwC n := by rw [mN_sI, mN_sR, f2]
  refine ⟨mZ M, ⟨?_, ?_, mI_sIs _ _ _ _, ?_, ?_, ?_⟩, fun i hi => ?_, ?_, fun i hi => Or.inr ?_, Or.inr rfl, ?_, ?_, ?_, ?_⟩
  · rw [mK_sI, mK_sR, f3 a haz, k1]
  · rw [mR_sI, mR_sRa (show a ≠ mZ M by omega), f4]
  · rw [mK_sI, mK_sR, f1]
  · rw [g2]; omega
  · rw [g2]; omega
  · rw [g1, if_neg (by omega), if_pos hi]
  · rw [g1, if_pos rfl]
  · rw [g1, if_neg (by omega), if_neg (by omega)]
  · exact (f7.trans (U := fun c => c = a ∨ c = v) (T := fun c => c = mZ M) (FM.sR fun _ => rfl) (fun _ _ e => Or.inl e) (fun c hc e => by omega)).trans (T := fun c => c = a) (FM.sI fun _ => rfl) (fun _ _ e => e) (fun _ _ e => Or.inl e)
  · rw [mZ_sI, mZ_sR, f6]; exact Nat.le_refl _
  · rw [g2]; omega
  · rw [mZ_sI, mZ_sR, f6]; exact Nat.lt_succ_self _
theorem ct_J2_add_2f {a v n mi x ci : Nat} (h : LGw g M a v n mi) (hx : mK M x = 20 + ci) (hxz : x < mZ M) (hca : NW g (.castable (clT ci).1 "java/lang/Object")) (hf : mN M v = n) : Ct g yJ2_add_2 cJ2_add_2 4 none 7 (1) (2 * n + 1) [.ref a, .ref x, .ref v, .int (nI n)] M (fun w M' => w = none ∧ LAD M a v n x M') noX := by
  have hh := h
  obtain ⟨hg, hO, hz, ⟨k1, k2, k3, k4, k5, k6⟩, haz, hvz, hab, hvb, hgz, hel, hn, h0⟩ := h
  have hle := @gwC_le n
  have hav : a ≠ v := fun e => by rw [e, k4] at k1; omega
  refine Ct.of (by decide) (Nat.le_of_ble_eq_true rfl) rfl ?_
  refine r_ild3 (pc := 0) dJ2_add_2_0 ?_
  refine r_ald2 (pc := 1) dJ2_add_2_1 ?_
  refine r_alen (pc := 2) dJ2_add_2_2 k4 (by decide) ?_
  rw [hf]
  first | refine r_icmp_neN (pc := 3) (tgt := 11) dJ2_add_2_3 (by decide) (by omega) (by omega) (fun h3 => ?_) (fun h3 => ?_) | refine r_icmp_ne (pc := 3) (tgt := 11) dJ2_add_2_3 (by decide) (fun h3 => ?_) (fun h3 => ?_)
  · skip
    exact absurd rfl h3
  · skip
    refine r_ald0 (pc := 6) dJ2_add_2_6 ?_
    refine r_cVm (pc := 7) (kc' := 0) (ks' := 0) dJ2_add_2_7 cv_J2_129 k1 (ct_J2_grow hh hf) rfl rfl (Nat.le_of_ble_eq_true rfl) (by decide) (by omega) (by omega) ?_
    rintro _ M1 ⟨rfl, f1, f2, f3, f4, f5, f6, f7⟩
    refine r_ast2 (pc := 10) dJ2_add_2_10 ?_
    refine r_ald2 (pc := 11) dJ2_add_2_11 ?_
    refine r_ild3 (pc := 12) dJ2_add_2_12 ?_
    refine r_ald1 (pc := 13) dJ2_add_2_13 ?_
    refine r_aast6 (pc := 14) hca dJ2_add_2_14 f1 ((f3 x hxz).trans hx) (by rw [f2]; omega) (by omega) hgz ?_
    refine r_ald0 (pc := 15) dJ2_add_2_15 ?_
    refine r_ild3 (pc := 16) dJ2_add_2_16 ?_
    refine r_iconst (v := nI 1) (pc := 17) dJ2_add_2_17 (by decide) ?_
    first | refine r_iaddN (pc := 18) dJ2_add_2_18 ?_ | refine r_iaddJ (pc := 18) dJ2_add_2_18 ?_ | refine r_iadd (pc := 18) dJ2_add_2_18 ?_
    refine r_putI (pc := 19) (ty := .int) dJ2_add_2_19 fl_J2_48 ⟨rfl, rfl⟩ rfl rfl ((f3 a haz).trans k1) hab ?_
    refine r_vret (pc := 22) dJ2_add_2_22 ?_
    exact ⟨rfl, LAD.mkf k1 k4 hf haz hvz hn f1 f2 f3 f4 f5 f6 f7⟩
theorem ct_J2_add_2 {a v n mi x ci : Nat} (h : LGw g M a v n mi) (hx : mK M x = 20 + ci) (hxz : x < mZ M) (hca : NW g (.castable (clT ci).1 "java/lang/Object")) : Ct g yJ2_add_2 cJ2_add_2 4 none 7 (1) (2 * n + 1) [.ref a, .ref x, .ref v, .int (nI n)] M (fun w M' => w = none ∧ LAD M a v n x M') noX := by
  by_cases hf : mN M v = n
  · exact ct_J2_add_2f h hx hxz hca hf
  · exact ct_J2_add_2n h hx hxz hca hf
end X35
