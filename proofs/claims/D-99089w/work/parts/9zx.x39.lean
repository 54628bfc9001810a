set_option maxRecDepth 100000
/-! TEXT: a String of an array of chars; hashCode -/
section Rows39
variable {g : GC} {y : MethodName} {cc : ByteArray} {nL : Nat} {rt : Option FieldType} {hh : List (Nat × Nat × Nat × Nat)} {d kc ks : Nat} {M : MM} {pc : Nat} {lv : List (Option Value)} {st : List Value} {Q : Option Value → MM → Prop} {X : Nat → MM → Prop}
theorem r_castB {a idx : Nat} (hd : decode cc pc = .ok (.checkcast idx, 3)) (hl : Cond.classLink y.cls idx "[B" ∈ lw_all) (hK : mK M a = 3) (k : Bd g y cc nL rt hh d kc ks M (pc + 3) lv (.ref a :: st) Q X) : Bd g y cc nL rt hh d kc ks M pc lv (.ref a :: st) Q X := by
  intro p e s m args below meth c H locs cells slots mc ms ls hC hH hL h1 h2
  obtain ⟨cell, hcell, hwc⟩ := hH.1.arw hK (by decide) (by decide)
  have hGS := hC.2.2.2.2.2.2.2.2.1
  have hRA : s.vm.findClass "[B" = some (gA g 3) := va_nm_byte (hGS.2.1 3 (by decide) (by decide)).2
  exact va_castE hC.1 hC.2.1 hC.2.2.2.2.2.2.1 (hC.2.2.2.2.2.2.2.1 _ hl) ⟨cell, hcell, hwc.2.2.1, by rw [hwc.1]; exact hRA⟩ hd (k p e s m args below meth c H locs cells slots mc ms ls hC hH hL h1 h2)
end Rows39
/-- the hash of letters i, i + 1, .. -/
def hsL (w : List Nat) (h : Int32) : Nat → Nat → Int32
  | 0, _ => h
  | k + 1, i => hsL w (nI 31 * h + nI (w.getD i 0)) k (i + 1)
def hsW (w : List Nat) : Int32 := hsL w (nI 0) w.length 0
section X39
variable {g : GC} {M : MM}
theorem b255 {c : Nat} (hc : c < 128) : (nI c) &&& (nI 255) = nI c := by
  have : ∀ c : Fin 128, (nI c.val) &&& (nI 255) = nI c.val := by decide
  exact this ⟨c, hc⟩
theorem lp_signedHashCode {v n : Nat} {w : List Nat} (h1 : mK M v = 3) (h2 : mN M v = n) (hn : n < 1000000) (h3 : ∀ j, j < n → mI M v j = nI (w.getD j 0) ∧ w.getD j 0 < 128) : ∀ k i (h : Int32), i + k = n →
    Bd g yJ10_signedHashCode cJ10_signedHashCode 6 (some Jvm.ClassFile.FieldType.int) [] 0 0 0 M 8 [some (.int h), some (.ref v), some (.int (nI 0)), some (.int (nI n)), some (.int (nI n)), some (.int (nI i))] [] (PQ M (.int (hsL w h k i))) noX := by
  intro k
  induction k with
  | zero =>
    intro i h hi
    refine r_ild5 (pc := 8) dJ10_signedHashCode_8 ?_
    refine r_ild4 (pc := 10) dJ10_signedHashCode_10 ?_
    first | refine r_icmp_geN (pc := 12) (tgt := 35) dJ10_signedHashCode_12 (by decide) (by omega) (by omega) (fun h12 => ?_) (fun h12 => ?_) | refine r_icmp_ge (pc := 12) (tgt := 35) dJ10_signedHashCode_12 (by decide) (fun h12 => ?_) (fun h12 => ?_)
    · skip
      refine r_ild0 (pc := 35) dJ10_signedHashCode_35 ?_
      refine r_iret (pc := 36) dJ10_signedHashCode_36 ?_
      exact ⟨rfl, rfl⟩
    · skip
      exact absurd h12 (by omega)
  | succ k ih =>
    intro i h hi
    obtain ⟨p1, p2⟩ := h3 i (by omega)
    refine r_ild5 (pc := 8) dJ10_signedHashCode_8 ?_
    refine r_ild4 (pc := 10) dJ10_signedHashCode_10 ?_
    first | refine r_icmp_geN (pc := 12) (tgt := 35) dJ10_signedHashCode_12 (by decide) (by omega) (by omega) (fun h12 => ?_) (fun h12 => ?_) | refine r_icmp_ge (pc := 12) (tgt := 35) dJ10_signedHashCode_12 (by decide) (fun h12 => ?_) (fun h12 => ?_)
    · skip
      exact absurd h12 (by omega)
    · skip
      refine r_bipush (v := nI 31) (pc := 15) dJ10_signedHashCode_15 (by decide) ?_
      refine r_ild0 (pc := 17) dJ10_signedHashCode_17 ?_
      refine r_imul (pc := 18) dJ10_signedHashCode_18 ?_
      refine r_ald1 (pc := 19) dJ10_signedHashCode_19 ?_
      refine r_ild5 (pc := 20) dJ10_signedHashCode_20 ?_
      refine r_bald (pc := 22) dJ10_signedHashCode_22 h1 (by omega) (by omega) ?_
      rw [p1]
      refine r_sipush (v := nI 255) (pc := 23) dJ10_signedHashCode_23 (by decide) ?_
      refine r_iand (pc := 26) dJ10_signedHashCode_26 ?_
      refine Bd.eqI (b255 p2) ?_
      refine r_iadd (pc := 27) dJ10_signedHashCode_27 ?_
      refine r_ist0 (pc := 28) dJ10_signedHashCode_28 ?_
      first | refine r_iinc5N (j := 1) (pc := 29) dJ10_signedHashCode_29 rfl ?_ | refine r_iinc5 (pc := 29) dJ10_signedHashCode_29 ?_
      refine r_goto (pc := 32) (tgt := 8) dJ10_signedHashCode_32 (by decide) ?_
      exact ih (i + 1) _ (by omega)
theorem ct_J10_signedHashCode {v n : Nat} {w : List Nat} (h1 : mK M v = 3) (h2 : mN M v = n) (hw : w.length = n) (hn : n < 1000000) (h3 : ∀ j, j < n → mI M v j = nI (w.getD j 0) ∧ w.getD j 0 < 128) : Ct g yJ10_signedHashCode cJ10_signedHashCode 6 (some Jvm.ClassFile.FieldType.int) 0 0 0 [.int (nI 0), .ref v, .int (nI 0), .int (nI n)] M (PQ M (.int (hsW w))) noX := by
  refine Ct.of (by decide) (Nat.le_of_ble_eq_true rfl) rfl ?_
  refine r_ild2 (pc := 0) dJ10_signedHashCode_0 ?_
  refine r_ild3 (pc := 1) dJ10_signedHashCode_1 ?_
  refine r_iaddN (pc := 2) dJ10_signedHashCode_2 ?_
  rw [Nat.zero_add]
  refine r_ist4 (pc := 3) dJ10_signedHashCode_3 ?_
  refine r_ild2 (pc := 5) dJ10_signedHashCode_5 ?_
  refine r_ist5 (pc := 6) dJ10_signedHashCode_6 ?_
  rw [show hsW w = hsL w (nI 0) n 0 by rw [← hw]; rfl]
  exact lp_signedHashCode h1 h2 hn h3 n 0 (nI 0) (by omega)
theorem ct_J10_vectorizedHashCode {v n : Nat} {w : List Nat} (h1 : mK M v = 3) (h2 : mN M v = n) (hw : w.length = n) (hn : n < 1000000) (h3 : ∀ j, j < n → mI M v j = nI (w.getD j 0) ∧ w.getD j 0 < 128) : Ct g yJ10_vectorizedHashCode cJ10_vectorizedHashCode 5 (some Jvm.ClassFile.FieldType.int) 4 0 0 [.ref v, .int (nI 0), .int (nI n), .int (nI 0), .int (nI 4)] M (PQ M (.int (hsW w))) noX := by
  refine Ct.of (by decide) (Nat.le_of_ble_eq_true rfl) rfl ?_
  refine r_ild4 (pc := 0) dJ10_vectorizedHashCode_0 ?_
  refine r_tableIn (pc := 2) (tgt := 44) (off := 42) dJ10_vectorizedHashCode_2 (by decide) (by decide) rfl (by decide) ?_
  refine r_ild3 (pc := 44) dJ10_vectorizedHashCode_44 ?_
  refine r_ald0 (pc := 45) dJ10_vectorizedHashCode_45 ?_
  refine r_castB (pc := 46) dJ10_vectorizedHashCode_46 q682 h1 ?_
  refine r_ild1 (pc := 49) dJ10_vectorizedHashCode_49 ?_
  refine r_ild2 (pc := 50) dJ10_vectorizedHashCode_50 ?_
  refine r_cS (pc := 51) dJ10_vectorizedHashCode_51 cs_J10_62 (ct_J10_signedHashCode h1 h2 hw hn h3) rfl rfl (Nat.le_of_ble_eq_true rfl) (by first | decide | omega) ?_
  rintro _ _ ⟨rfl, rfl⟩
  refine r_goto (pc := 54) (tgt := 157) dJ10_vectorizedHashCode_54 (by decide) ?_
  refine r_iret (pc := 157) dJ10_vectorizedHashCode_157 ?_
  exact ⟨rfl, rfl⟩
theorem ct_J9_hashCode {v n : Nat} {w : List Nat} (h1 : mK M v = 3) (h2 : mN M v = n) (hw : w.length = n) (h0 : 0 < n) (hn : n < 1000000) (h3 : ∀ j, j < n → mI M v j = nI (w.getD j 0) ∧ w.getD j 0 < 128) : Ct g yJ9_hashCode cJ9_hashCode 1 (some Jvm.ClassFile.FieldType.int) 5 0 0 [.ref v] M (PQ M (.int (hsW w))) noX := by
  by_cases e : n = 1
  · obtain ⟨p1, p2⟩ := h3 0 (by omega)
    have e1 : hsW w = nI (w.getD 0 0) := by
      unfold hsW
      rw [hw, e]
      show nI 31 * nI 0 + nI (w.getD 0 0) = _
      rw [show nI 31 * nI 0 = (0 : Int32) by decide, Int32.zero_add]
    refine Ct.of (by decide) (Nat.le_of_ble_eq_true rfl) rfl ?_
    refine r_ald0 (pc := 0) dJ9_hashCode_0 ?_
    refine r_alen (pc := 1) (t := 3) dJ9_hashCode_1 h1 (by decide) ?_
    rw [h2, e]
    refine r_lookup (pc := 2) (tgt := 32) (off := 30) dJ9_hashCode_2 (by decide) (by decide) (by decide) ?_
    · skip
      refine r_ald0 (pc := 32) dJ9_hashCode_32 ?_
      refine r_iconst (v := nI 0) (pc := 33) dJ9_hashCode_33 (by decide) ?_
      refine r_bald (pc := 34) (j := 0) dJ9_hashCode_34 h1 (by omega) (by omega) ?_
      rw [p1]
      refine r_sipush (v := nI 255) (pc := 35) dJ9_hashCode_35 (by decide) ?_
      refine r_iand (pc := 38) dJ9_hashCode_38 ?_
      refine Bd.eqI (b255 p2) ?_
      refine r_goto (pc := 39) (tgt := 51) dJ9_hashCode_39 (by decide) ?_
      refine r_iret (pc := 51) dJ9_hashCode_51 ?_
      exact ⟨by rw [e1], rfl⟩
  · have ho : Op.lookupswitch.offset [(0, 26), (1, 30)] 40 (nI n).toInt = 40 := by
      rw [nI_toInt (by omega)]
      simp only [Op.lookupswitch.offset]
      rw [if_neg (by omega), if_neg (by omega)]
    refine Ct.of (by decide) (Nat.le_of_ble_eq_true rfl) rfl ?_
    refine r_ald0 (pc := 0) dJ9_hashCode_0 ?_
    refine r_alen (pc := 1) (t := 3) dJ9_hashCode_1 h1 (by decide) ?_
    rw [h2]
    refine r_lookup (pc := 2) (tgt := 42) (off := 40) dJ9_hashCode_2 (by decide) ho (by decide) ?_
    · skip
      refine r_ald0 (pc := 42) dJ9_hashCode_42 ?_
      refine r_iconst (v := nI 0) (pc := 43) dJ9_hashCode_43 (by decide) ?_
      refine r_ald0 (pc := 44) dJ9_hashCode_44 ?_
      refine r_alen (pc := 45) (t := 3) dJ9_hashCode_45 h1 (by decide) ?_
      rw [h2]
      refine r_iconst (v := nI 0) (pc := 46) dJ9_hashCode_46 (by decide) ?_
      refine r_iconst (v := nI 4) (pc := 47) dJ9_hashCode_47 (by decide) ?_
      refine r_cS (pc := 48) dJ9_hashCode_48 cs_J9_84 (ct_J10_vectorizedHashCode h1 h2 hw hn h3) rfl rfl (Nat.le_of_ble_eq_true rfl) (by first | decide | omega) ?_
      rintro _ _ ⟨rfl, rfl⟩
      refine r_iret (pc := 51) dJ9_hashCode_51 ?_
      exact ⟨rfl, rfl⟩
end X39
