set_option maxRecDepth 100000
/-! TEXT: StringBuilder, append -/
/-- a copy of the bytes v with room for c -/
def cpB (M : MM) (v c : Nat) : MM := sIs (nw M 3 c) (mZ M) (fun i => if i < mN M v then mI M v i else 0)
section X37
variable {g : GC} {M : MM}
theorem ct_J13_copyOf_3 {v c : Nat} (hK : mK M v = 3) (hv : v < mZ M) (hgz : gb g ≤ mZ M) (hn : mN M v < c) (hc : c < 1000000) (hel : ∀ i, i < mN M v → fits .byte (.int (mI M v i)) = true) : Ct g yJ13_copyOf_3 cJ13_copyOf_3 3 (some ((Jvm.ClassFile.FieldType.array Jvm.ClassFile.FieldType.byte))) 3 (1) (c) [.ref v, .int (nI c)] M (fun w M' => w = some (.ref (mZ M)) ∧ M' = cpB M v c) noX := by
  have hvz : v ≠ mZ M := by omega
  refine Ct.of (by decide) (Nat.le_of_ble_eq_true rfl) rfl ?_
  refine r_ild1 (pc := 0) dJ13_copyOf_3_0 ?_
  refine r_ald0 (pc := 1) dJ13_copyOf_3_1 ?_
  refine r_alen (pc := 2) (t := 3) dJ13_copyOf_3_2 hK (by decide) ?_
  first | refine r_icmp_neN (pc := 3) (tgt := 14) dJ13_copyOf_3_3 (by decide) (by omega) (by omega) (fun h3 => ?_) (fun h3 => ?_) | refine r_icmp_ne (pc := 3) (tgt := 14) dJ13_copyOf_3_3 (by decide) (fun h3 => ?_) (fun h3 => ?_)
  · skip
    refine r_ild1 (pc := 14) dJ13_copyOf_3_14 ?_
    refine r_newa (pc := 15) (t := 3) (kc' := 0) (ks' := 0) dJ13_copyOf_3_15 rfl (by decide) q334 (by omega) (by omega) (by omega) ?_
    refine r_ast2 (pc := 17) dJ13_copyOf_3_17 ?_
    refine r_ald0 (pc := 18) dJ13_copyOf_3_18 ?_
    refine r_iconst (v := nI 0) (pc := 19) dJ13_copyOf_3_19 (by decide) ?_
    refine r_ald2 (pc := 20) dJ13_copyOf_3_20 ?_
    refine r_iconst (v := nI 0) (pc := 21) dJ13_copyOf_3_21 (by decide) ?_
    refine r_ald0 (pc := 22) dJ13_copyOf_3_22 ?_
    refine r_alen (pc := 23) (t := 3) dJ13_copyOf_3_23 ((if_neg hvz).trans hK) (by decide) ?_
    rw [show mN (nw M 3 c) v = mN M v from if_neg hvz]
    refine r_ild1 (pc := 24) dJ13_copyOf_3_24 ?_
    refine r_cS (pc := 25) dJ13_copyOf_3_25 cs_J13_304 (ct_J12_min (by omega) (by omega)) rfl rfl (Nat.le_of_ble_eq_true rfl) (by first | decide | omega) ?_
    rintro _ _ ⟨rfl, rfl⟩
    rw [if_pos (Nat.le_of_lt hn)]
    refine r_copyB (pc := 28) q896 dJ13_copyOf_3_28 ((if_neg hvz).trans hK) (if_pos rfl) (by rw [show mN (nw M 3 c) v = mN M v from if_neg hvz]; exact Nat.le_refl _) (by rw [show mN (nw M 3 c) (mZ M) = c from if_pos rfl]; exact Nat.le_of_lt hn) (by omega) (fun i hi => by rw [show mI (nw M 3 c) v i = mI M v i from if_neg hvz]; exact hel i hi) hgz (by decide) (Nat.le_of_ble_eq_true rfl) ?_
    rw [show (fun i => if i < mN M v then mI (nw M 3 c) v i else mI (nw M 3 c) (mZ M) i) = (fun i => if i < mN M v then mI M v i else 0) from funext fun i => by rw [show mI (nw M 3 c) v i = mI M v i from if_neg hvz, show mI (nw M 3 c) (mZ M) i = 0 from if_pos rfl]]
    refine r_ald2 (pc := 31) dJ13_copyOf_3_31 ?_
    refine r_aretA (pc := 32) dJ13_copyOf_3_32 ?_
    exact ⟨rfl, rfl⟩
  · skip
    exact absurd h3 (by omega)
theorem sh0r (n : Nat) : (nI n) >>> (nI 0 &&& 31) = nI n := by simp [nI]
theorem sh0l (n : Nat) : (nI n) <<< (nI 0 &&& 31) = nI n := by simp [nI]
theorem ct_J14_newCapacity {a v n : Nat} (h : SbX M a v n) (hn : n < 100000) (hf : mN M v = n) : Ct g yJ14_newCapacity cJ14_newCapacity 6 (some Jvm.ClassFile.FieldType.int) 5 0 0 [.ref a, .int (nI (n + 1))] M (PQ M (.int (nI (2 * n + 2)))) noX := by
  obtain ⟨h1, h2, h3, h4, h5, h6, h7⟩ := h
  have e7 : (2147483647 : Int32) = nI 2147483647 := by decide
  refine Ct.of (by decide) (Nat.le_of_ble_eq_true rfl) rfl ?_
  refine r_ald0 (pc := 0) dJ14_newCapacity_0 ?_
  refine r_getR (pc := 1) dJ14_newCapacity_1 fl_J14_15 h1 h2 ?_
  refine r_alen (pc := 4) (t := 3) dJ14_newCapacity_4 h5 (by decide) ?_
  rw [hf]
  refine r_ist2 (pc := 5) dJ14_newCapacity_5 ?_
  refine r_ild1 (pc := 6) dJ14_newCapacity_6 ?_
  refine r_ald0 (pc := 7) dJ14_newCapacity_7 ?_
  refine r_getI' (pc := 8) dJ14_newCapacity_8 fl_J14_22 h1 h3 ?_
  refine r_ishl (pc := 11) dJ14_newCapacity_11 ?_
  refine Bd.eqI (sh0l _) ?_
  refine r_ist3 (pc := 12) dJ14_newCapacity_12 ?_
  refine r_ild3 (pc := 13) dJ14_newCapacity_13 ?_
  refine r_ild2 (pc := 14) dJ14_newCapacity_14 ?_
  first | refine r_isubN (pc := 15) dJ14_newCapacity_15 (by omega) ?_ | refine r_isubM (pc := 15) dJ14_newCapacity_15 ?_ | refine r_isubJ (pc := 15) dJ14_newCapacity_15 ?_ | refine r_isub (pc := 15) dJ14_newCapacity_15 ?_
  refine r_ist4 (pc := 16) dJ14_newCapacity_16 ?_
  refine r_ild2 (pc := 18) dJ14_newCapacity_18 ?_
  refine r_ild4 (pc := 19) dJ14_newCapacity_19 ?_
  refine r_ild2 (pc := 21) dJ14_newCapacity_21 ?_
  refine r_iconst (v := nI 2) (pc := 22) dJ14_newCapacity_22 (by decide) ?_
  refine r_ald0 (pc := 23) dJ14_newCapacity_23 ?_
  refine r_getI' (pc := 24) dJ14_newCapacity_24 fl_J14_22 h1 h3 ?_
  refine r_ishl (pc := 27) dJ14_newCapacity_27 ?_
  refine Bd.eqI (sh0l _) ?_
  first | refine r_iaddN (pc := 28) dJ14_newCapacity_28 ?_ | refine r_iaddJ (pc := 28) dJ14_newCapacity_28 ?_ | refine r_iadd (pc := 28) dJ14_newCapacity_28 ?_
  refine r_cS (pc := 29) dJ14_newCapacity_29 cs_J14_114 (ct_J10_newLength (by omega) (by omega)) rfl rfl (Nat.le_of_ble_eq_true rfl) (by first | decide | omega) ?_
  rintro _ M9 ⟨rfl, e9⟩
  rw [e9, show n + (if n + 2 ≤ n + 1 - n then n + 1 - n else n + 2) = 2 * n + 2 by rw [if_neg (by omega)]; omega]
  refine r_ist5 (pc := 32) dJ14_newCapacity_32 ?_
  refine r_ild5 (pc := 34) dJ14_newCapacity_34 ?_
  refine r_ldc (pc := 36) dJ14_newCapacity_36 q1057 ?_
  refine Bd.eqI e7 ?_
  first | refine r_icmp_neN (pc := 38) (tgt := 51) dJ14_newCapacity_38 (by decide) (by omega) (by omega) (fun h38 => ?_) (fun h38 => ?_) | refine r_icmp_ne (pc := 38) (tgt := 51) dJ14_newCapacity_38 (by decide) (fun h38 => ?_) (fun h38 => ?_)
  · skip
    refine r_ild5 (pc := 51) dJ14_newCapacity_51 ?_
    refine r_ald0 (pc := 53) dJ14_newCapacity_53 ?_
    refine r_getI' (pc := 54) dJ14_newCapacity_54 fl_J14_22 h1 h3 ?_
    refine r_ishr (pc := 57) dJ14_newCapacity_57 ?_
    refine Bd.eqI (sh0r _) ?_
    refine r_iret (pc := 58) dJ14_newCapacity_58 ?_
    exact ⟨rfl, rfl⟩
  · skip
    exact absurd h38 (by omega)
theorem ct_J14_isLatin1 {a v n : Nat} (hc : NS g "java/lang/String" "COMPACT_STRINGS" "Z" (.int (nI 1))) (h : SbX M a v n) : Ct g yJ14_isLatin1 cJ14_isLatin1 1 (some Jvm.ClassFile.FieldType.boolean) 0 0 0 [.ref a] M (PQ M (.int (nI 1))) noX := by
  obtain ⟨h1, h2, h3, h4, h5, h6, h7⟩ := h
  refine Ct.of (by decide) (Nat.le_of_ble_eq_true rfl) rfl ?_
  refine r_gets (pc := 0) dJ14_isLatin1_0 q935 hc ?_
  refine r_if_eq (pc := 3) (tgt := 17) dJ14_isLatin1_3 (by decide) (fun h3 => ?_) (fun h3 => ?_)
  · skip
    exact absurd h3 (by decide)
  · skip
    refine r_ald0 (pc := 6) dJ14_isLatin1_6 ?_
    refine r_getI' (pc := 7) dJ14_isLatin1_7 fl_J14_22 h1 (by assumption) ?_
    first | refine r_if_neZ (pc := 10) (tgt := 17) dJ14_isLatin1_10 (by decide) (fun h10 => ?_) (fun h10 => ?_) | refine r_if_neN (pc := 10) (tgt := 17) dJ14_isLatin1_10 (by decide) (by omega) (fun h10 => ?_) (fun h10 => ?_) | refine r_if_ne (pc := 10) (tgt := 17) dJ14_isLatin1_10 (by decide) (fun h10 => ?_) (fun h10 => ?_)
    · skip
      exact absurd rfl h10
    · skip
      refine r_iconst (v := nI 1) (pc := 13) dJ14_isLatin1_13 (by decide) ?_
      refine r_goto (pc := 14) (tgt := 18) dJ14_isLatin1_14 (by decide) ?_
      refine r_zret (pc := 18) dJ14_isLatin1_18 (by first | rfl | exact zI_nar | assumption) ?_
      exact ⟨rfl, rfl⟩
theorem ct_J9_canEncode {c : Nat} (hc : c < 128) : Ct g yJ9_canEncode cJ9_canEncode 1 (some Jvm.ClassFile.FieldType.boolean) 0 0 0 [.int (nI c)] M (PQ M (.int (nI 1))) noX := by
  refine Ct.of (by decide) (Nat.le_of_ble_eq_true rfl) rfl ?_
  refine r_ild0 (pc := 0) dJ9_canEncode_0 ?_
  refine r_sipush (v := nI 255) (pc := 1) dJ9_canEncode_1 (by decide) ?_
  first | refine r_icmp_gtN (pc := 4) (tgt := 11) dJ9_canEncode_4 (by decide) (by omega) (by omega) (fun h4 => ?_) (fun h4 => ?_) | refine r_icmp_gt (pc := 4) (tgt := 11) dJ9_canEncode_4 (by decide) (fun h4 => ?_) (fun h4 => ?_)
  · skip
    exact absurd h4 (by omega)
  · skip
    refine r_iconst (v := nI 1) (pc := 7) dJ9_canEncode_7 (by decide) ?_
    refine r_goto (pc := 8) (tgt := 12) dJ9_canEncode_8 (by decide) ?_
    refine r_zret (pc := 12) dJ9_canEncode_12 (by first | rfl | exact zI_nar | assumption) ?_
    exact ⟨rfl, rfl⟩
end X37
