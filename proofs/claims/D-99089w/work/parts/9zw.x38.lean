set_option maxRecDepth 100000
/-! TEXT: StringBuilder, append (room first) -/
/-- there is room for one more -/
def ESC (M : MM) (a v n : Nat) (M' : MM) : Prop := ∃ v', SbC M' a v' n ∧ n + 1 ≤ mN M' v' ∧ (∀ i, i < n → mI M' v' i = mI M v i) ∧ (v' = v ∨ v' = mZ M) ∧ FM (fun c => c = a) M M' ∧ mZ M' ≤ mZ M + 1 ∧ mN M' v' ≤ mN M v + (2 * n + 2) ∧ v' < mZ M' ∧ v' ≠ a
section X38
variable {g : GC} {M : MM}
theorem ESC.mkf {a v n : Nat} (h : SbC M a v n) (haz : a < mZ M) (hvz : v < mZ M) (hn : n < 100000) (hf : mN M v = n) : ESC M a v n (sR (cpB M v (2 * n + 2)) a 0 (some (mZ M))) := by
  obtain ⟨⟨h1, h2, h3, h4, h5, h6, h7⟩, h8⟩ := h
  have e1 : ∀ c, c < mZ M → mK (sR (cpB M v (2 * n + 2)) a 0 (some (mZ M))) c = mK M c := fun c hc => by rw [mK_sR, cpB]; exact if_neg (Nat.ne_of_lt hc)
  have e2 : mN (sR (cpB M v (2 * n + 2)) a 0 (some (mZ M))) (mZ M) = 2 * n + 2 := by rw [mN_sR, cpB]; exact if_pos rfl
  have e3 : ∀ i, mI (sR (cpB M v (2 * n + 2)) a 0 (some (mZ M))) (mZ M) i = if i < n then mI M v i else 0 := fun i => by rw [mI_sR, cpB, mI_sIf, if_pos rfl, hf]
  have e4 : ∀ c i, c < mZ M → mI (sR (cpB M v (2 * n + 2)) a 0 (some (mZ M))) c i = mI M c i := fun c i hc => by rw [mI_sR, cpB, mI_sIf, if_neg (Nat.ne_of_lt hc)]; exact if_neg (Nat.ne_of_lt hc)
  refine ⟨mZ M, ⟨⟨?_, mR_sRs _ _ _ _, ?_, ?_, ?_, ?_, ?_⟩, fun i hi => ?_⟩, ?_, fun i hi => ?_, Or.inr rfl, ?_, ?_, ?_, ?_, ?_⟩
  · rw [e1 a haz, h1]
  · rw [e4 a 1 haz, h3]
  · rw [e4 a 3 haz, h4]
  · rw [mK_sR, cpB]; exact if_pos rfl
  · rw [e2]; omega
  · rw [e2]; omega
  · rw [e3]
    by_cases e : i < n
    · rw [if_pos e]; exact h8 i (by omega)
    · rw [if_neg e]; rfl
  · rw [e2]; omega
  · rw [e3, if_pos hi]
  · exact (FM.nw.trans (U := fun c => c = a) (S := fun _ => False) (T := fun c => c = mZ M) (FM.sIs fun _ => rfl) (fun _ _ e => e.elim) (fun c hc e => by omega)).trans (T := fun c => c = a) (FM.sR fun _ => rfl) (fun _ _ e => e) (fun _ _ e => e)
  · rw [mZ_sR, cpB]; exact Nat.le_refl _
  · rw [e2]; omega
  · rw [mZ_sR, cpB]; exact Nat.lt_succ_self _
  · omega
theorem ct_J14_ensureCapacityInternal {a v n : Nat} (hg : GX g) (h : SbC M a v n) (haz : a < mZ M) (hvz : v < mZ M) (hab : gb g ≤ a) (hgz : gb g ≤ mZ M) (hn : n < 100000) : Ct g yJ14_ensureCapacityInternal cJ14_ensureCapacityInternal 3 none 6 (1) (2 * n + 2) [.ref a, .int (nI (n + 1))] M (fun w M' => w = none ∧ ESC M a v n M') noX := by
  have hh := h
  obtain ⟨⟨h1, h2, h3, h4, h5, h6, h7⟩, h8⟩ := h
  have hav : v ≠ a := fun e => by rw [e, h1] at h5; omega
  by_cases hf : mN M v = n
  · refine Ct.of (by decide) (Nat.le_of_ble_eq_true rfl) rfl ?_
    refine r_ald0 (pc := 0) dJ14_ensureCapacityInternal_0 ?_
    refine r_getR (pc := 1) dJ14_ensureCapacityInternal_1 fl_J14_15 h1 h2 ?_
    refine r_alen (pc := 4) (t := 3) dJ14_ensureCapacityInternal_4 h5 (by decide) ?_
    rw [hf]
    refine r_ald0 (pc := 5) dJ14_ensureCapacityInternal_5 ?_
    refine r_getI' (pc := 6) dJ14_ensureCapacityInternal_6 fl_J14_22 h1 h3 ?_
    refine r_ishr (pc := 9) dJ14_ensureCapacityInternal_9 ?_
    refine Bd.eqI (sh0r _) ?_
    refine r_ist2 (pc := 10) dJ14_ensureCapacityInternal_10 ?_
    refine r_ild1 (pc := 11) dJ14_ensureCapacityInternal_11 ?_
    refine r_ild2 (pc := 12) dJ14_ensureCapacityInternal_12 ?_
    first | refine r_isubN (pc := 13) dJ14_ensureCapacityInternal_13 (by omega) ?_ | refine r_isubM (pc := 13) dJ14_ensureCapacityInternal_13 ?_ | refine r_isubJ (pc := 13) dJ14_ensureCapacityInternal_13 ?_ | refine r_isub (pc := 13) dJ14_ensureCapacityInternal_13 ?_
    first | refine r_if_leN (pc := 14) (tgt := 38) dJ14_ensureCapacityInternal_14 (by decide) (by omega) (fun h14 => ?_) (fun h14 => ?_) | refine r_if_le (pc := 14) (tgt := 38) dJ14_ensureCapacityInternal_14 (by decide) (fun h14 => ?_) (fun h14 => ?_)
    · skip
      exact absurd h14 (by omega)
    · skip
      refine r_ald0 (pc := 17) dJ14_ensureCapacityInternal_17 ?_
      refine r_ald0 (pc := 18) dJ14_ensureCapacityInternal_18 ?_
      refine r_getR (pc := 19) dJ14_ensureCapacityInternal_19 fl_J14_15 h1 h2 ?_
      refine r_ald0 (pc := 22) dJ14_ensureCapacityInternal_22 ?_
      refine r_ild1 (pc := 23) dJ14_ensureCapacityInternal_23 ?_
      refine r_cUp (ci := 21) (pc := 24) dJ14_ensureCapacityInternal_24 (cup_J14_104 hg) h1 (ct_J14_newCapacity hh.1 hn hf) rfl rfl (Nat.le_of_ble_eq_true rfl) (by decide) ?_
      rintro _ M9 ⟨rfl, e9⟩
      rw [e9]
      refine r_ald0 (pc := 27) dJ14_ensureCapacityInternal_27 ?_
      refine r_getI' (pc := 28) dJ14_ensureCapacityInternal_28 fl_J14_22 h1 h3 ?_
      refine r_ishl (pc := 31) dJ14_ensureCapacityInternal_31 ?_
      refine Bd.eqI (sh0l _) ?_
      refine r_cSm (pc := 32) (kc' := 0) (ks' := 0) dJ14_ensureCapacityInternal_32 cs_J14_108 (ct_J13_copyOf_3 h5 hvz hgz (by omega) (by omega) h8) rfl rfl (Nat.le_of_ble_eq_true rfl) (by decide) (by omega) (by omega) ?_
      rintro _ M8 ⟨rfl, e8⟩
      rw [e8]
      refine r_putQ (pc := 35) (ty := clY 21 0) (x := some (mZ M)) dJ14_ensureCapacityInternal_35 fl_J14_15 ⟨rfl, rfl⟩ rfl rfl ((if_neg (show ¬ a = mZ M by omega)).trans h1) hab ?_
      refine r_vret (pc := 38) dJ14_ensureCapacityInternal_38 ?_
      exact ⟨rfl, ESC.mkf hh haz hvz hn hf⟩
  · refine Ct.of (by decide) (Nat.le_of_ble_eq_true rfl) rfl ?_
    refine r_ald0 (pc := 0) dJ14_ensureCapacityInternal_0 ?_
    refine r_getR (pc := 1) dJ14_ensureCapacityInternal_1 fl_J14_15 h1 h2 ?_
    refine r_alen (pc := 4) (t := 3) dJ14_ensureCapacityInternal_4 h5 (by decide) ?_
    refine r_ald0 (pc := 5) dJ14_ensureCapacityInternal_5 ?_
    refine r_getI' (pc := 6) dJ14_ensureCapacityInternal_6 fl_J14_22 h1 h3 ?_
    refine r_ishr (pc := 9) dJ14_ensureCapacityInternal_9 ?_
    refine Bd.eqI (sh0r _) ?_
    refine r_ist2 (pc := 10) dJ14_ensureCapacityInternal_10 ?_
    refine r_ild1 (pc := 11) dJ14_ensureCapacityInternal_11 ?_
    refine r_ild2 (pc := 12) dJ14_ensureCapacityInternal_12 ?_
    refine r_isubM (pc := 13) dJ14_ensureCapacityInternal_13 ?_
    refine r_if_le (pc := 14) (tgt := 38) dJ14_ensureCapacityInternal_14 (by decide) (fun h14 => ?_) (fun h14 => ?_)
    · skip
      refine r_vret (pc := 38) dJ14_ensureCapacityInternal_38 ?_
      exact ⟨rfl, v, hh, by omega, fun _ _ => rfl, Or.inl rfl, FM.rf, Nat.le_succ _, Nat.le_add_right _ _, hvz, hav⟩
    · skip
      exact absurd ((iI_le (b := 0) (by constructor <;> omega) (by constructor <;> omega)).2 (by omega)) h14
/-- the text after the letter c was added -/
def SAD (M : MM) (a v n c : Nat) (M' : MM) : Prop := ∃ v', SbC M' a v' (n + 1) ∧ (∀ i, i < n → mI M' v' i = mI M v i) ∧ mI M' v' n = nI c ∧ (v' = v ∨ v' = mZ M) ∧ FM (fun c => c = a ∨ c = v) M M' ∧ mZ M' ≤ mZ M + 1 ∧ mN M' v' ≤ mN M v + (2 * n + 2) ∧ v' < mZ M'
theorem SAD.mk {a v v' n c : Nat} {M1 : MM} (hc : c < 128) (h : SbC M1 a v' n) (h1 : n + 1 ≤ mN M1 v') (h2 : ∀ i, i < n → mI M1 v' i = mI M v i) (h3 : v' = v ∨ v' = mZ M) (h4 : FM (fun c => c = a) M M1) (h5 : mZ M1 ≤ mZ M + 1) (h6 : mN M1 v' ≤ mN M v + (2 * n + 2)) (h7 : v' < mZ M1) (h8 : v' ≠ a) : SAD M a v n c (sI (sI M1 a 3 (nI (n + 1))) v' n (nI c)) := by
  obtain ⟨⟨k1, k2, k3, k4, k5, k6, k7⟩, k8⟩ := h
  have e : ∀ i, mI (sI (sI M1 a 3 (nI (n + 1))) v' n (nI c)) v' i = if i = n then nI c else mI M1 v' i := fun i => by
    rw [mI_sI]
    by_cases e : i = n
    · rw [if_pos ⟨rfl, e⟩, if_pos e]
    · rw [if_neg (fun q => e q.2), if_neg e, mI_sIa h8]
  refine ⟨v', ⟨⟨k1, k2, ?_, ?_, k5, h1, k7⟩, fun i hi => ?_⟩, fun i hi => ?_, ?_, h3, ?_, h5, h6, h7⟩
  · rw [mI_sIa (Ne.symm h8), mI_sIj (by decide), k3]
  · rw [mI_sIa (Ne.symm h8), mI_sIs]
  · rw [e]
    by_cases q : i = n
    · rw [if_pos q]
      have : ∀ c : Fin 128, fits .byte (.int (nI c.val)) = true := by decide
      exact this ⟨c, hc⟩
    · rw [if_neg q]; exact k8 i hi
  · rw [e, if_neg (by omega), h2 i hi]
  · rw [e, if_pos rfl]
  · refine (h4.trans (U := fun c => c = a ∨ c = v) (T := fun c => c = a) (FM.sI fun _ => rfl) (fun _ _ e => Or.inl e) (fun _ _ e => Or.inl e)).trans (T := fun c => c = v') (FM.sI fun _ => rfl) (fun _ _ e => e) (fun c hc e => ?_)
    rcases h3 with q | q
    · exact Or.inr (e.trans q)
    · omega
theorem ct_J14_append {a v n c : Nat} (hg : GX g) (hz : NS g "java/lang/String" "COMPACT_STRINGS" "Z" (.int (nI 1))) (h : SbC M a v n) (haz : a < mZ M) (hvz : v < mZ M) (hab : gb g ≤ a) (hvb : gb g ≤ v) (hgz : gb g ≤ mZ M) (hn : n < 100000) (hc : c < 128) : Ct g yJ14_append cJ14_append 2 (some ((Jvm.ClassFile.FieldType.object "java/lang/AbstractStringBuilder"))) 9 (1) (2 * n + 2) [.ref a, .int (nI c)] M (fun w M' => w = some (.ref a) ∧ SAD M a v n c M') noX := by
  have hh := h
  obtain ⟨⟨h1, h2, h3, h4, h5, h6, h7⟩, h8⟩ := h
  have e1 : (nI c).toInt8.toInt32 = nI c := by
    have : ∀ c : Fin 128, (nI c.val).toInt8.toInt32 = nI c.val := by decide
    exact this ⟨c, hc⟩
  have e2 : vp_nar .byte (nI c) = nI c := by
    have : ∀ c : Fin 128, vp_nar .byte (nI c.val) = nI c.val := by decide
    exact this ⟨c, hc⟩
  refine Ct.of (by decide) (Nat.le_of_ble_eq_true rfl) rfl ?_
  refine r_ald0 (pc := 0) dJ14_append_0 ?_
  refine r_ald0 (pc := 1) dJ14_append_1 ?_
  refine r_getI' (pc := 2) dJ14_append_2 fl_J14_79 h1 h4 ?_
  refine r_iconst (v := nI 1) (pc := 5) dJ14_append_5 (by decide) ?_
  first | refine r_iaddN (pc := 6) dJ14_append_6 ?_ | refine r_iaddJ (pc := 6) dJ14_append_6 ?_ | refine r_iadd (pc := 6) dJ14_append_6 ?_
  refine r_cUpm (ci := 21) (pc := 7) (kc' := 0) (ks' := 0) dJ14_append_7 (cup_J14_100 hg) h1 (ct_J14_ensureCapacityInternal hg hh haz hvz hab hgz hn) rfl rfl (Nat.le_of_ble_eq_true rfl) (by decide) (by omega) (by omega) ?_
  rintro _ M1 ⟨rfl, v', k0, k1, k2, k3, k4, k5, k6, k7, k8⟩
  have j0 := k0
  obtain ⟨⟨j1, j2, j3, j4, j5, j6, j7⟩, j8⟩ := j0
  refine r_ald0 (pc := 10) dJ14_append_10 ?_
  refine r_cU (ci := 21) (pc := 11) dJ14_append_11 cu_J14_83 j1 (ct_J14_isLatin1 hz k0.1) rfl rfl (Nat.le_of_ble_eq_true rfl) (by decide) ?_
  rintro _ M9 ⟨rfl, e9⟩
  rw [e9]
  refine r_if_eq (pc := 14) (tgt := 45) dJ14_append_14 (by decide) (fun h14 => ?_) (fun h14 => ?_)
  · skip
    exact absurd h14 (by decide)
  · skip
    refine r_ild1 (pc := 17) dJ14_append_17 ?_
    refine r_cS (pc := 18) dJ14_append_18 cs_J14_191 (ct_J9_canEncode hc) rfl rfl (Nat.le_of_ble_eq_true rfl) (by first | decide | omega) ?_
    rintro _ M8 ⟨rfl, e8⟩
    rw [e8]
    refine r_if_eq (pc := 21) (tgt := 45) dJ14_append_21 (by decide) (fun h21 => ?_) (fun h21 => ?_)
    · skip
      exact absurd h21 (by decide)
    · skip
      refine r_ald0 (pc := 24) dJ14_append_24 ?_
      refine r_getR (pc := 25) dJ14_append_25 fl_J14_15 j1 j2 ?_
      refine r_ald0 (pc := 28) dJ14_append_28 ?_
      refine r_dup (pc := 29) dJ14_append_29 rfl ?_
      refine r_getI' (pc := 30) dJ14_append_30 fl_J14_79 j1 j4 ?_
      refine r_dup_x1 (pc := 33) dJ14_append_33 rfl rfl ?_
      refine r_iconst (v := nI 1) (pc := 34) dJ14_append_34 (by decide) ?_
      first | refine r_iaddN (pc := 35) dJ14_append_35 ?_ | refine r_iaddJ (pc := 35) dJ14_append_35 ?_ | refine r_iadd (pc := 35) dJ14_append_35 ?_
      refine r_putI (pc := 36) (ty := .int) dJ14_append_36 fl_J14_79 ⟨rfl, rfl⟩ rfl rfl j1 hab ?_
      refine r_ild1 (pc := 39) dJ14_append_39 ?_
      refine r_i2b (pc := 40) dJ14_append_40 ?_
      refine Bd.eqI e1 ?_
      refine r_bast (pc := 41) dJ14_append_41 j5 (by show n < mN M1 v'; omega) (by omega) (by rcases k3 with q | q <;> omega) ?_
      rw [e2]
      refine r_goto (pc := 42) (tgt := 75) dJ14_append_42 (by decide) ?_
      refine r_ald0 (pc := 75) dJ14_append_75 ?_
      refine r_aretR (pc := 76) dJ14_append_76 ?_
      exact ⟨rfl, SAD.mk hc k0 k1 k2 k3 k4 k5 k6 k7 k8⟩
theorem cp_J15_50 : CPs RJ15 50 yJ14_append cJ14_append 2 (some (.object "java/lang/AbstractStringBuilder")) 1 := ⟨q1045, q2489, q948, q1046, q170, q1047, by decide +kernel, by decide⟩
theorem ct_J15_append {a v n c : Nat} (hg : GX g) (hz : NS g "java/lang/String" "COMPACT_STRINGS" "Z" (.int (nI 1))) (h : SbC M a v n) (haz : a < mZ M) (hvz : v < mZ M) (hab : gb g ≤ a) (hvb : gb g ≤ v) (hgz : gb g ≤ mZ M) (hn : n < 100000) (hc : c < 128) : Ct g yJ15_append cJ15_append 2 (some ((Jvm.ClassFile.FieldType.object "java/lang/StringBuilder"))) 10 (1) (2 * n + 2) [.ref a, .int (nI c)] M (fun w M' => w = some (.ref a) ∧ SAD M a v n c M') noX := by
  refine Ct.of (by decide) (Nat.le_of_ble_eq_true rfl) rfl ?_
  refine r_ald0 (pc := 0) dJ15_append_0 ?_
  refine r_ild1 (pc := 1) dJ15_append_1 ?_
  refine r_cPm (ci := 21) (pc := 2) (kc' := 0) (ks' := 0) dJ15_append_2 cp_J15_50 h.1.1 (ct_J14_append hg hz h haz hvz hab hvb hgz hn hc) rfl rfl (Nat.le_of_ble_eq_true rfl) (by decide) (by omega) (by omega) ?_
  rintro _ M1 ⟨rfl, h9⟩
  refine r_pop (pc := 5) dJ15_append_5 rfl ?_
  refine r_ald0 (pc := 6) dJ15_append_6 ?_
  refine r_aretR (pc := 7) dJ15_append_7 ?_
  exact ⟨rfl, h9⟩
end X38
