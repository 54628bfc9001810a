set_option maxRecDepth 100000
/-! THE READER: blanks, signs, faults -/
/-- what a reading leaves as it was -/
def RFr (o : Nat) (M M' : MM) : Prop := FM (fun c => c = o + 5 ∨ c = o + 6) M M' ∧ mK M' (o + 5) = mK M (o + 5) ∧ mK M' (o + 6) = mK M (o + 6) ∧ mR M' (o + 5) = mR M (o + 5) ∧ mI M' (o + 5) 1 = mI M (o + 5) 1 ∧ mI M' (o + 5) 5 = mI M (o + 5) 5
/-- read up to b -/
def RO (M : MM) (o b : Nat) (M' : MM) : Prop := RFr o M M' ∧ mI M' (o + 5) 2 = nI b ∧ mI M' (o + 5) 4 = mI M (o + 5) 4
/-- the fault of kind k at place p is thrown -/
def XE (M : MM) (o k p q : Nat) (M' : MM) : Prop := q = o + 6 ∧ mI M' (o + 6) 6 = nI k ∧ mI M' (o + 6) 7 = nI p ∧ RFr o M M'
theorem RFr.rf {o : Nat} {M : MM} : RFr o M M := ⟨FM.rf, rfl, rfl, rfl, rfl, rfl⟩
theorem RFr.trans {o : Nat} {M M1 M2 : MM} (h : RFr o M M1) (h' : RFr o M1 M2) : RFr o M M2 := ⟨h.1.trans h'.1 (fun _ _ e => e) (fun _ _ e => e), h'.2.1.trans h.2.1, h'.2.2.1.trans h.2.2.1, h'.2.2.2.1.trans h.2.2.2.1, h'.2.2.2.2.1.trans h.2.2.2.2.1, h'.2.2.2.2.2.trans h.2.2.2.2.2⟩
theorem RFr.at {o j : Nat} {M : MM} {v : Int32} (h2 : 2 ≤ j) (h4 : j ≤ 4) : RFr o M (sI M (o + 5) j v) := ⟨FM.sI fun _ => Or.inl rfl, rfl, rfl, rfl, mI_sIj (by omega), mI_sIj (by omega)⟩
theorem RFr.ft {o j : Nat} {M : MM} {v : Int32} : RFr o M (sI M (o + 6) j v) := ⟨FM.sI fun _ => Or.inr rfl, rfl, rfl, rfl, mI_sIa (by omega), mI_sIa (by omega)⟩
theorem RFr.fl {o k p : Nat} {M : MM} : RFr o M (flM M o k p) := RFr.ft.trans RFr.ft
theorem RDF.fr {g : GC} {M M' : MM} {o n : Nat} {f : Nat → Nat} (h : RDF g M o n f) (hf : RFr o M M') : RDF g M' o n f := by
  obtain ⟨h0, h1, ⟨h2, h2'⟩, ⟨h3, h3'⟩, h4, h5, h6, ⟨h7, h8, h9, h10⟩, h11, h12⟩ := h
  obtain ⟨⟨f0, f1⟩, f2, f3, f4, f5, f6⟩ := hf
  have e0 := f1 o (by omega) (fun e => by omega)
  have e4 := f1 (o + 4) (by omega) (fun e => by omega)
  exact ⟨h0, h1, ⟨e0.1.trans h2, by rw [e0.2.2.2.2]; exact h2'⟩, ⟨e4.1.trans h3, e4.2.1.trans h3'⟩, h4, fun j hj => by rw [e4.2.2.1]; exact h5 j hj, ⟨h6.1, fun j hj => by rw [e4.2.2.1]; exact h6.2 j hj⟩, ⟨f2.trans h7, by rw [f4]; exact h8, by rw [f4]; exact h9, f5.trans h10⟩, f3.trans h11, by omega⟩
theorem RO.trans {M M1 M2 : MM} {o a b : Nat} (h : RO M o a M1) (h' : RO M1 o b M2) : RO M o b M2 := ⟨h.1.trans h'.1, h'.2.1, h'.2.2.trans h.2.2⟩
theorem XE.fl {M M1 : MM} {o k p : Nat} (h : RFr o M M1) : XE M o k p (o + 6) (flM M1 o k p) := ⟨rfl, (mI_sIj (by decide)).trans (mI_sIs _ _ _ _), mI_sIs _ _ _ _, h.trans RFr.fl⟩
theorem XE.pre {M M1 M2 : MM} {o k p q : Nat} (h : RFr o M M1) (h' : XE M1 o k p q M2) : XE M o k p q M2 := ⟨h'.1, h'.2.1, h'.2.2.1, h.trans h'.2.2.2⟩
theorem bI_eq {f : Nat → Nat} {n p c : Nat} (hc : c < 256) (hf : ∀ j, f j < 256) : bI f n p = nI c ↔ p < n ∧ f p = c := by
  unfold bI
  by_cases e : p < n
  · rw [if_pos e]
    constructor
    · intro h
      have hp := hf p
      rw [nI_iI, nI_iI, iI_eq (by constructor <;> omega) (by constructor <;> omega)] at h
      exact ⟨e, by omega⟩
    · intro h
      rw [h.2]
  · rw [if_neg e]
    constructor
    · intro h
      rw [nI_iI, iI_eq (by constructor <;> omega) (by constructor <;> omega)] at h
      omega
    · intro h
      exact absurd h.1 e
section X46
variable {g : GC} {M : MM} {o n : Nat} {f : Nat → Nat}
theorem lp_here (h : RDF g M o n f) : ∀ k a, a + k = n → Bd g yX2_here cX2_here 1 (some Jvm.ClassFile.FieldType.int) [] 1 0 0 (atM M o a) 0 [some (.ref (o + 5))] [] (fun v M' => v = some (.int (bI f n (skp f k a))) ∧ M' = atM M o (skp f k a)) noX := by
  intro k
  induction k with
  | zero =>
    intro a ha
    have hn := h.2.2.2.2.1
    have hR := h.at (v := nI a) (Nat.le_refl 2)
    have r7 := hR.2.2.2.2.2.2.2.1.1
    have ea : mI (atM M o a) (o + 5) 2 = nI a := mI_sIs _ _ _ _
    have eb : bI f n a = iI (-1) := if_neg (by omega)
    have hct := ct_X2_byteAt hR (show a ≤ 1600 by omega)
    rw [eb] at hct
    refine r_ald0 (pc := 0) dX2_here_0 ?_
    refine r_ald0 (pc := 1) dX2_here_1 ?_
    refine r_getI' (pc := 2) dX2_here_2 fl_X2_36 r7 ea ?_
    refine r_cV (ci := 2) (pc := 5) dX2_here_5 cv_X2_39 r7 hct rfl rfl (Nat.le_of_ble_eq_true rfl) (by decide) ?_
    rintro _ M9 ⟨rfl, e9⟩
    rw [e9]
    refine r_bipush (v := nI 32) (pc := 8) dX2_here_8 (by decide) ?_
    refine r_icmp_eq (pc := 10) (tgt := 26) dX2_here_10 (by decide) (fun h10 => ?_) (fun h10 => ?_)
    · skip
      exact absurd h10 (by decide)
    · skip
      refine r_ald0 (pc := 13) dX2_here_13 ?_
      refine r_ald0 (pc := 14) dX2_here_14 ?_
      refine r_getI' (pc := 15) dX2_here_15 fl_X2_36 r7 ea ?_
      refine r_cV (ci := 2) (pc := 18) dX2_here_18 cv_X2_39 r7 hct rfl rfl (Nat.le_of_ble_eq_true rfl) (by decide) ?_
      rintro _ M8 ⟨rfl, e8⟩
      rw [e8]
      refine r_bipush (v := nI 10) (pc := 21) dX2_here_21 (by decide) ?_
      refine r_icmp_ne (pc := 23) (tgt := 39) dX2_here_23 (by decide) (fun h23 => ?_) (fun h23 => ?_)
      · skip
        refine r_ald0 (pc := 39) dX2_here_39 ?_
        refine r_ald0 (pc := 40) dX2_here_40 ?_
        refine r_getI' (pc := 41) dX2_here_41 fl_X2_36 r7 ea ?_
        refine r_cV (ci := 2) (pc := 44) dX2_here_44 cv_X2_39 r7 hct rfl rfl (Nat.le_of_ble_eq_true rfl) (by decide) ?_
        rintro _ M7 ⟨rfl, e7⟩
        rw [e7]
        refine r_iret (pc := 47) dX2_here_47 ?_
        exact ⟨by rw [show skp f 0 a = a from rfl, eb], rfl⟩
      · skip
        exact absurd h23 (by decide)
  | succ k ih =>
    intro a ha
    have hn := h.2.2.2.2.1
    have hR := h.at (v := nI a) (Nat.le_refl 2)
    have r7 := hR.2.2.2.2.2.2.2.1.1
    have hgb := h.2.1
    have hfa := h.2.2.2.2.2.2.1.1 a
    have ea : mI (atM M o a) (o + 5) 2 = nI a := mI_sIs _ _ _ _
    have eb : bI f n a = nI (f a) := if_pos (by omega)
    have hct := ct_X2_byteAt hR (show a ≤ 1600 by omega)
    rw [eb] at hct
    refine r_ald0 (pc := 0) dX2_here_0 ?_
    refine r_ald0 (pc := 1) dX2_here_1 ?_
    refine r_getI' (pc := 2) dX2_here_2 fl_X2_36 r7 ea ?_
    refine r_cV (ci := 2) (pc := 5) dX2_here_5 cv_X2_39 r7 hct rfl rfl (Nat.le_of_ble_eq_true rfl) (by decide) ?_
    rintro _ M9 ⟨rfl, e9⟩
    rw [e9]
    refine r_bipush (v := nI 32) (pc := 8) dX2_here_8 (by decide) ?_
    first | refine r_icmp_eqN (pc := 10) (tgt := 26) dX2_here_10 (by decide) (by omega) (by omega) (fun h10 => ?_) (fun h10 => ?_) | refine r_icmp_eq (pc := 10) (tgt := 26) dX2_here_10 (by decide) (fun h10 => ?_) (fun h10 => ?_)
    · skip
      refine r_ald0 (pc := 26) dX2_here_26 ?_
      refine r_dup (pc := 27) dX2_here_27 rfl ?_
      refine r_getI' (pc := 28) dX2_here_28 fl_X2_36 r7 ea ?_
      refine r_iconst (v := nI 1) (pc := 31) dX2_here_31 (by decide) ?_
      first | refine r_iaddN (pc := 32) dX2_here_32 ?_ | refine r_iaddJ (pc := 32) dX2_here_32 ?_ | refine r_iadd (pc := 32) dX2_here_32 ?_
      refine r_putI (pc := 33) (ty := .int) dX2_here_33 fl_X2_36 ⟨rfl, rfl⟩ rfl rfl r7 (by omega) ?_
      rw [atM, sI_sI]
      refine r_goto (pc := 36) (tgt := 0) dX2_here_36 (by decide) ?_
      have h9 := ih (a + 1) (by omega)
      rw [show skp f (k + 1) a = skp f k (a + 1) from if_pos (by unfold blk; simp; omega)]
      exact h9
    · skip
      refine r_ald0 (pc := 13) dX2_here_13 ?_
      refine r_ald0 (pc := 14) dX2_here_14 ?_
      refine r_getI' (pc := 15) dX2_here_15 fl_X2_36 r7 ea ?_
      refine r_cV (ci := 2) (pc := 18) dX2_here_18 cv_X2_39 r7 hct rfl rfl (Nat.le_of_ble_eq_true rfl) (by decide) ?_
      rintro _ M8 ⟨rfl, e8⟩
      rw [e8]
      refine r_bipush (v := nI 10) (pc := 21) dX2_here_21 (by decide) ?_
      first | refine r_icmp_neN (pc := 23) (tgt := 39) dX2_here_23 (by decide) (by omega) (by omega) (fun h23 => ?_) (fun h23 => ?_) | refine r_icmp_ne (pc := 23) (tgt := 39) dX2_here_23 (by decide) (fun h23 => ?_) (fun h23 => ?_)
      · skip
        refine r_ald0 (pc := 39) dX2_here_39 ?_
        refine r_ald0 (pc := 40) dX2_here_40 ?_
        refine r_getI' (pc := 41) dX2_here_41 fl_X2_36 r7 ea ?_
        refine r_cV (ci := 2) (pc := 44) dX2_here_44 cv_X2_39 r7 hct rfl rfl (Nat.le_of_ble_eq_true rfl) (by decide) ?_
        rintro _ M7 ⟨rfl, e7⟩
        rw [e7]
        refine r_iret (pc := 47) dX2_here_47 ?_
        rw [show skp f (k + 1) a = a from if_neg (by unfold blk; simp; omega)]
        exact ⟨by rw [eb], rfl⟩
      · skip
        refine r_ald0 (pc := 26) dX2_here_26 ?_
        refine r_dup (pc := 27) dX2_here_27 rfl ?_
        refine r_getI' (pc := 28) dX2_here_28 fl_X2_36 r7 ea ?_
        refine r_iconst (v := nI 1) (pc := 31) dX2_here_31 (by decide) ?_
        first | refine r_iaddN (pc := 32) dX2_here_32 ?_ | refine r_iaddJ (pc := 32) dX2_here_32 ?_ | refine r_iadd (pc := 32) dX2_here_32 ?_
        refine r_putI (pc := 33) (ty := .int) dX2_here_33 fl_X2_36 ⟨rfl, rfl⟩ rfl rfl r7 (by omega) ?_
        rw [atM, sI_sI]
        refine r_goto (pc := 36) (tgt := 0) dX2_here_36 (by decide) ?_
        have h9 := ih (a + 1) (by omega)
        rw [show skp f (k + 1) a = skp f k (a + 1) from if_pos (by unfold blk; simp; omega)]
        exact h9
theorem ct_X2_here {a : Nat} (h : RDF g M o n f) (ha : a ≤ n) (hA : mI M (o + 5) 2 = nI a) : Ct g yX2_here cX2_here 1 (some Jvm.ClassFile.FieldType.int) 1 0 0 [.ref (o + 5)] M (fun v M' => v = some (.int (bI f n (skip f n a))) ∧ RO M o (skip f n a) M') noX := by
  refine Ct.of (by decide) (Nat.le_of_ble_eq_true rfl) rfl ?_
  have h9 := lp_here h (n - a) a (by omega)
  rw [show atM M o a = M from sI_self hA] at h9
  refine Bd.post (fun v M' q => ?_) (fun _ _ q => q) h9
  rw [q.1, q.2]
  exact ⟨rfl, RFr.at (Nat.le_refl 2) (by decide), mI_sIs _ _ _ _, mI_sIj (by decide)⟩
theorem ct_X2_takes {a c : Nat} (h : RDF g M o n f) (ha : a ≤ n) (hA : mI M (o + 5) 2 = nI a) (hc : c < 256) : Ct g yX2_takes cX2_takes 3 (some Jvm.ClassFile.FieldType.boolean) 2 0 0 [.ref (o + 5), .int (nI c)] M (fun v M' => (lookO f n a = some c ∧ v = some (.int (nI 1)) ∧ RO M o (skip f n a + 1) M') ∨ (lookO f n a ≠ some c ∧ v = some (.int (nI 0)) ∧ RO M o (skip f n a) M')) noX := by
  have hgb := h.2.1
  have r7 := h.2.2.2.2.2.2.2.1.1
  have hf := h.2.2.2.2.2.2.1.1
  have hlk : bI f n (skip f n a) = nI c ↔ lookO f n a = some c := by
    rw [bI_eq hc hf]
    unfold lookO
    by_cases e : skip f n a < n
    · rw [if_pos e]
      exact ⟨fun q => by rw [q.2], fun q => ⟨e, Option.some.inj q⟩⟩
    · rw [if_neg e]
      exact ⟨fun q => absurd q.1 e, fun q => by cases q⟩
  refine Ct.of (by decide) (Nat.le_of_ble_eq_true rfl) rfl ?_
  refine r_ald0 (pc := 0) dX2_takes_0 ?_
  refine r_cV (ci := 2) (pc := 1) dX2_takes_1 cv_X2_43 r7 (ct_X2_here h ha hA) rfl rfl (Nat.le_of_ble_eq_true rfl) (by decide) ?_
  rintro _ M1 ⟨rfl, k1, k2, k3⟩
  have hR := h.fr k1
  have r7' := hR.2.2.2.2.2.2.2.1.1
  refine r_ild1 (pc := 4) dX2_takes_4 ?_
  refine r_icmp_ne (pc := 5) (tgt := 12) dX2_takes_5 (by decide) (fun h5 => ?_) (fun h5 => ?_)
  · skip
    refine r_iconst (v := nI 0) (pc := 12) dX2_takes_12 (by decide) ?_
    refine r_ist2 (pc := 13) dX2_takes_13 ?_
    refine r_ald0 (pc := 14) dX2_takes_14 ?_
    refine r_dup (pc := 15) dX2_takes_15 rfl ?_
    refine r_getI' (pc := 16) dX2_takes_16 fl_X2_36 r7' k2 ?_
    refine r_ild2 (pc := 19) dX2_takes_19 ?_
    first | refine r_if_eqZ (pc := 20) (tgt := 27) dX2_takes_20 (by decide) (fun h20 => ?_) (fun h20 => ?_) | refine r_if_eqN (pc := 20) (tgt := 27) dX2_takes_20 (by decide) (by omega) (fun h20 => ?_) (fun h20 => ?_) | refine r_if_eq (pc := 20) (tgt := 27) dX2_takes_20 (by decide) (fun h20 => ?_) (fun h20 => ?_)
    · skip
      refine r_iconst (v := nI 0) (pc := 27) dX2_takes_27 (by decide) ?_
      first | refine r_iaddN (pc := 28) dX2_takes_28 ?_ | refine r_iaddJ (pc := 28) dX2_takes_28 ?_ | refine r_iadd (pc := 28) dX2_takes_28 ?_
      refine r_putI (pc := 29) (ty := .int) dX2_takes_29 fl_X2_36 ⟨rfl, rfl⟩ rfl rfl r7' (by omega) ?_
      refine r_ild2 (pc := 32) dX2_takes_32 ?_
      refine r_zret (pc := 33) dX2_takes_33 (by first | rfl | exact zI_nar | assumption) ?_
      have k4 : ∀ b, RO M o b (sI M1 (o + 5) 2 (nI b)) := fun b => ⟨k1.trans (RFr.at (Nat.le_refl 2) (by decide)), mI_sIs _ _ _ _, (mI_sIj (by decide)).trans k3⟩
      first | exact Or.inr ⟨fun q => h5 (hlk.2 q), rfl, k4 _⟩ | exact Or.inl ⟨hlk.1 h5, rfl, k4 _⟩ | exact Or.inl ⟨hlk.1 (Decidable.not_not.mp h5), rfl, k4 _⟩
    · skip
      first | exact absurd h20 (by decide) | exact absurd rfl h20 | (exfalso; revert h20; decide)
  · skip
    refine r_iconst (v := nI 1) (pc := 8) dX2_takes_8 (by decide) ?_
    refine r_goto (pc := 9) (tgt := 13) dX2_takes_9 (by decide) ?_
    refine r_ist2 (pc := 13) dX2_takes_13 ?_
    refine r_ald0 (pc := 14) dX2_takes_14 ?_
    refine r_dup (pc := 15) dX2_takes_15 rfl ?_
    refine r_getI' (pc := 16) dX2_takes_16 fl_X2_36 r7' k2 ?_
    refine r_ild2 (pc := 19) dX2_takes_19 ?_
    first | refine r_if_eqZ (pc := 20) (tgt := 27) dX2_takes_20 (by decide) (fun h20 => ?_) (fun h20 => ?_) | refine r_if_eqN (pc := 20) (tgt := 27) dX2_takes_20 (by decide) (by omega) (fun h20 => ?_) (fun h20 => ?_) | refine r_if_eq (pc := 20) (tgt := 27) dX2_takes_20 (by decide) (fun h20 => ?_) (fun h20 => ?_)
    · skip
      first | exact absurd h20 (by decide) | exact absurd rfl h20 | (exfalso; revert h20; decide)
    · skip
      refine r_iconst (v := nI 1) (pc := 23) dX2_takes_23 (by decide) ?_
      refine r_goto (pc := 24) (tgt := 28) dX2_takes_24 (by decide) ?_
      first | refine r_iaddN (pc := 28) dX2_takes_28 ?_ | refine r_iaddJ (pc := 28) dX2_takes_28 ?_ | refine r_iadd (pc := 28) dX2_takes_28 ?_
      refine r_putI (pc := 29) (ty := .int) dX2_takes_29 fl_X2_36 ⟨rfl, rfl⟩ rfl rfl r7' (by omega) ?_
      refine r_ild2 (pc := 32) dX2_takes_32 ?_
      refine r_zret (pc := 33) dX2_takes_33 (by first | rfl | exact zI_nar | assumption) ?_
      have k4 : ∀ b, RO M o b (sI M1 (o + 5) 2 (nI b)) := fun b => ⟨k1.trans (RFr.at (Nat.le_refl 2) (by decide)), mI_sIs _ _ _ _, (mI_sIj (by decide)).trans k3⟩
      first | exact Or.inr ⟨fun q => h5 (hlk.2 q), rfl, k4 _⟩ | exact Or.inl ⟨hlk.1 h5, rfl, k4 _⟩ | exact Or.inl ⟨hlk.1 (Decidable.not_not.mp h5), rfl, k4 _⟩
theorem ct_X2_must {a c : Nat} (h : RDF g M o n f) (ha : a ≤ n) (hA : mI M (o + 5) 2 = nI a) (hc : c < 256) : Ct g yX2_must cX2_must 2 none 2 0 0 [.ref (o + 5), .int (nI c)] M (fun v M' => v = none ∧ ∃ b, sgP f n c a = .ok b ∧ RO M o b M') (fun q M' => ∃ k p, sgP f n c a = .error (k, p) ∧ XE M o k p q M') := by
  have hgb := h.2.1
  have r7 := h.2.2.2.2.2.2.2.1.1
  have hf := h.2.2.2.2.2.2.1.1
  have hlk : bI f n (skip f n a) = nI c ↔ lookO f n a = some c := by
    rw [bI_eq hc hf]
    unfold lookO
    by_cases e : skip f n a < n
    · rw [if_pos e]
      exact ⟨fun q => by rw [q.2], fun q => ⟨e, Option.some.inj q⟩⟩
    · rw [if_neg e]
      exact ⟨fun q => absurd q.1 e, fun q => by cases q⟩
  refine Ct.of (by decide) (Nat.le_of_ble_eq_true rfl) rfl ?_
  refine r_ald0 (pc := 0) dX2_must_0 ?_
  refine r_cV (ci := 2) (pc := 1) dX2_must_1 cv_X2_43 r7 (ct_X2_here h ha hA) rfl rfl (Nat.le_of_ble_eq_true rfl) (by decide) ?_
  rintro _ M1 ⟨rfl, k1, k2, k3⟩
  have hR := h.fr k1
  have r7' := hR.2.2.2.2.2.2.2.1.1
  refine r_ild1 (pc := 4) dX2_must_4 ?_
  refine r_icmp_eq (pc := 5) (tgt := 18) dX2_must_5 (by decide) (fun h5 => ?_) (fun h5 => ?_)
  · skip
    refine r_ald0 (pc := 18) dX2_must_18 ?_
    refine r_dup (pc := 19) dX2_must_19 rfl ?_
    refine r_getI' (pc := 20) dX2_must_20 fl_X2_36 r7' k2 ?_
    refine r_iconst (v := nI 1) (pc := 23) dX2_must_23 (by decide) ?_
    first | refine r_iaddN (pc := 24) dX2_must_24 ?_ | refine r_iaddJ (pc := 24) dX2_must_24 ?_ | refine r_iadd (pc := 24) dX2_must_24 ?_
    refine r_putI (pc := 25) (ty := .int) dX2_must_25 fl_X2_36 ⟨rfl, rfl⟩ rfl rfl r7' (by omega) ?_
    refine r_vret (pc := 28) dX2_must_28 ?_
    exact ⟨rfl, skip f n a + 1, by unfold sgP; rw [if_pos (hlk.1 h5)], k1.trans (RFr.at (Nat.le_refl 2) (by decide)), mI_sIs _ _ _ _, (mI_sIj (by decide)).trans k3⟩
  · skip
    refine r_ald0 (pc := 8) dX2_must_8 ?_
    refine r_iconst (v := nI 1) (pc := 9) dX2_must_9 (by decide) ?_
    refine r_ald0 (pc := 10) dX2_must_10 ?_
    refine r_getI' (pc := 11) dX2_must_11 fl_X2_36 r7' k2 ?_
    refine r_cV (ci := 2) (pc := 14) dX2_must_14 cv_X2_47 r7' (ct_X2_wrong (k := 1) hR) rfl rfl (Nat.le_of_ble_eq_true rfl) (by decide) ?_
    rintro _ M2 ⟨rfl, e2⟩
    rw [e2]
    refine r_athrow (pc := 17) dX2_must_17 hR.2.2.2.2.2.2.2.2.1 ⟨1, skip f n a, by unfold sgP; rw [if_neg (fun q => h5 (hlk.2 q))], XE.fl k1⟩
end X46
