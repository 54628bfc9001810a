set_option maxRecDepth 100000
/-! THE READER: what it reads from -/
/-- all that stands while o's reader reads n bytes f -/
def RDF (g : GC) (M : MM) (o n : Nat) (f : Nat → Nat) : Prop := GX g ∧ gb g ≤ o ∧ (mK M o = 20 ∧ mR M o 1 = some (o + 4)) ∧ (mK M (o + 4) = 3 ∧ mN M (o + 4) = 1600) ∧ n ≤ 1600 ∧ (∀ j, j < 1600 → mI M (o + 4) j &&& nI 255 = nI (f j)) ∧ ((∀ j, f j < 256) ∧ ∀ j, j < 1600 → bR (mI M (o + 4) j)) ∧ (mK M (o + 5) = 22 ∧ mR M (o + 5) 0 = some (o + 6) ∧ mR M (o + 5) 7 = some o ∧ mI M (o + 5) 1 = nI n) ∧ mK M (o + 6) = 23 ∧ o + 6 < mZ M
/-- the reader's place -/
def atM (M : MM) (o a : Nat) : MM := sI M (o + 5) 2 (nI a)
theorem sI_self {M : MM} {a j : Nat} {v : Int32} (h : mI M a j = v) : sI M a j v = M := by
  refine Prod.ext rfl (Prod.ext rfl (Prod.ext rfl (Prod.ext ?_ (Prod.ext rfl rfl))))
  funext b i
  show mI (sI M a j v) b i = mI M b i
  rw [mI_sI]
  by_cases e : b = a ∧ i = j
  · rw [if_pos e, e.1, e.2, h]
  · rw [if_neg e]
theorem sI_sI {M : MM} {a j : Nat} {v w : Int32} : sI (sI M a j v) a j w = sI M a j w := by
  refine Prod.ext rfl (Prod.ext rfl (Prod.ext rfl (Prod.ext ?_ (Prod.ext rfl rfl))))
  funext b i
  show mI (sI (sI M a j v) a j w) b i = mI (sI M a j w) b i
  rw [mI_sI, mI_sI, mI_sI]
  by_cases e : b = a ∧ i = j
  · rw [if_pos e, if_pos e]
  · rw [if_neg e, if_neg e, if_neg e]
theorem RDF.at {g : GC} {M : MM} {o n j : Nat} {f : Nat → Nat} {v : Int32} (h : RDF g M o n f) (hj : 2 ≤ j) : RDF g (sI M (o + 5) j v) o n f := by
  obtain ⟨h0, h1, h2, h3, h4, h5, h6, ⟨h7, h8, h9, h10⟩, h11, h12⟩ := h
  exact ⟨h0, h1, h2, h3, h4, fun i hi => by rw [mI_sIa (by omega)]; exact h5 i hi, ⟨h6.1, fun i hi => by rw [mI_sIa (by omega)]; exact h6.2 i hi⟩, ⟨h7, h8, h9, (mI_sIj (by omega)).trans h10⟩, h11, h12⟩
theorem RDF.ft {g : GC} {M : MM} {o n j : Nat} {f : Nat → Nat} {v : Int32} (h : RDF g M o n f) : RDF g (sI M (o + 6) j v) o n f := by
  obtain ⟨h0, h1, h2, h3, h4, h5, h6, ⟨h7, h8, h9, h10⟩, h11, h12⟩ := h
  exact ⟨h0, h1, h2, h3, h4, fun i hi => by rw [mI_sIa (by omega)]; exact h5 i hi, ⟨h6.1, fun i hi => by rw [mI_sIa (by omega)]; exact h6.2 i hi⟩, ⟨h7, h8, h9, (mI_sIa (by omega)).trans h10⟩, h11, h12⟩
/-- the byte at k, or none -/
def bI (f : Nat → Nat) (n k : Nat) : Int32 := if k < n then nI (f k) else iI (-1)
/-- a fault is told: its kind, its place; the fault's own object -/
def flM (M : MM) (o k p : Nat) : MM := sI (sI M (o + 6) 6 (nI k)) (o + 6) 7 (nI p)
/-- thrown: the fault of kind k at place p -/
def XF (M : MM) (o k p : Nat) (q : Nat) (M' : MM) : Prop := q = o + 6 ∧ M' = flM M o k p
section X45
variable {g : GC} {M : MM} {o n : Nat} {f : Nat → Nat}
theorem ct_X2_byteAt {k : Nat} (h : RDF g M o n f) (hk : k ≤ 1600) : Ct g yX2_byteAt cX2_byteAt 2 (some Jvm.ClassFile.FieldType.int) 0 0 0 [.ref (o + 5), .int (nI k)] M (PQ M (.int (bI f n k))) noX := by
  obtain ⟨hg, r1, ⟨r2, r2'⟩, ⟨r3, r3'⟩, r4, r5, r6, ⟨r7, r8, r9, r10⟩, r11, r12⟩ := h
  refine Ct.of (by decide) (Nat.le_of_ble_eq_true rfl) rfl ?_
  refine r_ild1 (pc := 0) dX2_byteAt_0 ?_
  refine r_if_lt (pc := 1) (tgt := 28) dX2_byteAt_1 (by decide) (fun h1 => ?_) (fun h1 => ?_)
  · skip
    exact absurd h1 (fun q => nI_in' (n := k + 1) (j := k) (by omega) (by omega) (Or.inl q))
  · skip
    refine r_ild1 (pc := 4) dX2_byteAt_4 ?_
    refine r_ald0 (pc := 5) dX2_byteAt_5 ?_
    refine r_getI' (pc := 6) dX2_byteAt_6 fl_X2_29 r7 r10 ?_
    first | refine r_icmp_geN (pc := 9) (tgt := 28) dX2_byteAt_9 (by decide) (by omega) (by omega) (fun h9 => ?_) (fun h9 => ?_) | refine r_icmp_ge (pc := 9) (tgt := 28) dX2_byteAt_9 (by decide) (fun h9 => ?_) (fun h9 => ?_)
    · skip
      refine r_iconst (v := -1) (pc := 28) dX2_byteAt_28 (by decide) ?_
      refine r_iret (pc := 29) dX2_byteAt_29 ?_
      exact ⟨by unfold bI; first | (rw [if_pos (by omega)]; done) | (rw [if_neg (by omega)]; rfl), rfl⟩
    · skip
      refine r_ald0 (pc := 12) dX2_byteAt_12 ?_
      refine r_getR (pc := 13) dX2_byteAt_13 fl_X2_3 r7 r9 ?_
      refine r_getRN (pc := 16) dX2_byteAt_16 (fn_X2_32 hg) r2 r2' ?_
      refine r_ild1 (pc := 19) dX2_byteAt_19 ?_
      refine r_bald (pc := 20) dX2_byteAt_20 r3 (by omega) (by omega) ?_
      refine r_sipush (v := nI 255) (pc := 21) dX2_byteAt_21 (by decide) ?_
      refine r_iand (pc := 24) dX2_byteAt_24 ?_
      refine Bd.eqI (r5 k (by omega)) ?_
      refine r_goto (pc := 25) (tgt := 29) dX2_byteAt_25 (by decide) ?_
      refine r_iret (pc := 29) dX2_byteAt_29 ?_
      exact ⟨by unfold bI; first | (rw [if_pos (by omega)]; done) | (rw [if_neg (by omega)]; rfl), rfl⟩
theorem ct_X2_byteAt_neg (h : RDF g M o n f) : Ct g yX2_byteAt cX2_byteAt 2 (some Jvm.ClassFile.FieldType.int) 0 0 0 [.ref (o + 5), .int (iI (-1))] M (PQ M (.int (iI (-1)))) noX := by
  refine Ct.of (by decide) (Nat.le_of_ble_eq_true rfl) rfl ?_
  refine r_ild1 (pc := 0) dX2_byteAt_0 ?_
  refine r_if_lt (pc := 1) (tgt := 28) dX2_byteAt_1 (by decide) (fun h1 => ?_) (fun h1 => ?_)
  · skip
    refine r_iconst (v := -1) (pc := 28) dX2_byteAt_28 (by decide) ?_
    refine r_iret (pc := 29) dX2_byteAt_29 ?_
    exact ⟨rfl, rfl⟩
  · skip
    exact absurd (by decide) h1
theorem ct_X2_wrong {k p : Nat} (h : RDF g M o n f) : Ct g yX2_wrong cX2_wrong 3 (some ((Jvm.ClassFile.FieldType.object "Retouched$Fault"))) 0 0 0 [.ref (o + 5), .int (nI k), .int (nI p)] M (fun v M' => v = some (.ref (o + 6)) ∧ M' = flM M o k p) noX := by
  obtain ⟨hg, r1, ⟨r2, r2'⟩, ⟨r3, r3'⟩, r4, r5, r6, ⟨r7, r8, r9, r10⟩, r11, r12⟩ := h
  refine Ct.of (by decide) (Nat.le_of_ble_eq_true rfl) rfl ?_
  refine r_ald0 (pc := 0) dX2_wrong_0 ?_
  refine r_getR (pc := 1) dX2_wrong_1 fl_X2_18 r7 r8 ?_
  refine r_ild1 (pc := 4) dX2_wrong_4 ?_
  refine r_putIN (pc := 5) (ty := .int) dX2_wrong_5 (fn_X2_22 hg) ⟨rfl, rfl⟩ rfl rfl r11 (by omega) ?_
  refine r_ald0 (pc := 8) dX2_wrong_8 ?_
  refine r_getR (pc := 9) dX2_wrong_9 fl_X2_18 r7 r8 ?_
  refine r_ild2 (pc := 12) dX2_wrong_12 ?_
  refine r_putIN (pc := 13) (ty := .int) dX2_wrong_13 (fn_X2_26 hg) ⟨rfl, rfl⟩ rfl rfl r11 (by omega) ?_
  refine r_ald0 (pc := 16) dX2_wrong_16 ?_
  refine r_getR (pc := 17) dX2_wrong_17 fl_X2_18 r7 r8 ?_
  refine r_aretR (pc := 20) dX2_wrong_20 ?_
  exact ⟨rfl, rfl⟩
theorem ct_X0_isLetter {c : Nat} (hc : c < 256) : Ct g yX0_isLetter cX0_isLetter 1 (some Jvm.ClassFile.FieldType.boolean) 0 0 0 [.int (nI c)] M (PQ M (.int (zI (ltr c = true)))) noX := by
  refine Ct.of (by decide) (Nat.le_of_ble_eq_true rfl) rfl ?_
  refine r_ild0 (pc := 0) dX0_isLetter_0 ?_
  refine r_bipush (v := nI 97) (pc := 1) dX0_isLetter_1 (by decide) ?_
  first | refine r_icmp_ltN (pc := 3) (tgt := 16) dX0_isLetter_3 (by decide) (by omega) (by omega) (fun h3 => ?_) (fun h3 => ?_) | refine r_icmp_lt (pc := 3) (tgt := 16) dX0_isLetter_3 (by decide) (fun h3 => ?_) (fun h3 => ?_)
  · skip
    refine r_iconst (v := nI 0) (pc := 16) dX0_isLetter_16 (by decide) ?_
    refine r_zret (pc := 17) dX0_isLetter_17 (by first | rfl | exact zI_nar | assumption) ?_
    exact ⟨by first | rw [zI_t (by unfold ltr; simp; omega)]; rfl | rw [zI_f (by unfold ltr; simp; omega)]; rfl, rfl⟩
  · skip
    refine r_ild0 (pc := 6) dX0_isLetter_6 ?_
    refine r_bipush (v := nI 122) (pc := 7) dX0_isLetter_7 (by decide) ?_
    first | refine r_icmp_gtN (pc := 9) (tgt := 16) dX0_isLetter_9 (by decide) (by omega) (by omega) (fun h9 => ?_) (fun h9 => ?_) | refine r_icmp_gt (pc := 9) (tgt := 16) dX0_isLetter_9 (by decide) (fun h9 => ?_) (fun h9 => ?_)
    · skip
      refine r_iconst (v := nI 0) (pc := 16) dX0_isLetter_16 (by decide) ?_
      refine r_zret (pc := 17) dX0_isLetter_17 (by first | rfl | exact zI_nar | assumption) ?_
      exact ⟨by first | rw [zI_t (by unfold ltr; simp; omega)]; rfl | rw [zI_f (by unfold ltr; simp; omega)]; rfl, rfl⟩
    · skip
      refine r_iconst (v := nI 1) (pc := 12) dX0_isLetter_12 (by decide) ?_
      refine r_goto (pc := 13) (tgt := 17) dX0_isLetter_13 (by decide) ?_
      refine r_zret (pc := 17) dX0_isLetter_17 (by first | rfl | exact zI_nar | assumption) ?_
      exact ⟨by first | rw [zI_t (by unfold ltr; simp; omega)]; rfl | rw [zI_f (by unfold ltr; simp; omega)]; rfl, rfl⟩
theorem ct_X0_isLetter_neg : Ct g yX0_isLetter cX0_isLetter 1 (some Jvm.ClassFile.FieldType.boolean) 0 0 0 [.int (iI (-1))] M (PQ M (.int (nI 0))) noX := by
  refine Ct.of (by decide) (Nat.le_of_ble_eq_true rfl) rfl ?_
  refine r_ild0 (pc := 0) dX0_isLetter_0 ?_
  refine r_bipush (v := nI 97) (pc := 1) dX0_isLetter_1 (by decide) ?_
  refine r_icmp_lt (pc := 3) (tgt := 16) dX0_isLetter_3 (by decide) (fun h3 => ?_) (fun h3 => ?_)
  · skip
    refine r_iconst (v := nI 0) (pc := 16) dX0_isLetter_16 (by decide) ?_
    refine r_zret (pc := 17) dX0_isLetter_17 (by first | rfl | exact zI_nar | assumption) ?_
    exact ⟨rfl, rfl⟩
  · skip
    exact absurd (by decide) h3
theorem ct_X0_isDigit {c : Nat} (hc : c < 256) : Ct g yX0_isDigit cX0_isDigit 1 (some Jvm.ClassFile.FieldType.boolean) 0 0 0 [.int (nI c)] M (PQ M (.int (zI (dgt c = true)))) noX := by
  refine Ct.of (by decide) (Nat.le_of_ble_eq_true rfl) rfl ?_
  refine r_ild0 (pc := 0) dX0_isDigit_0 ?_
  refine r_bipush (v := nI 48) (pc := 1) dX0_isDigit_1 (by decide) ?_
  first | refine r_icmp_ltN (pc := 3) (tgt := 16) dX0_isDigit_3 (by decide) (by omega) (by omega) (fun h3 => ?_) (fun h3 => ?_) | refine r_icmp_lt (pc := 3) (tgt := 16) dX0_isDigit_3 (by decide) (fun h3 => ?_) (fun h3 => ?_)
  · skip
    refine r_iconst (v := nI 0) (pc := 16) dX0_isDigit_16 (by decide) ?_
    refine r_zret (pc := 17) dX0_isDigit_17 (by first | rfl | exact zI_nar | assumption) ?_
    exact ⟨by first | rw [zI_t (by unfold dgt; simp; omega)]; rfl | rw [zI_f (by unfold dgt; simp; omega)]; rfl, rfl⟩
  · skip
    refine r_ild0 (pc := 6) dX0_isDigit_6 ?_
    refine r_bipush (v := nI 57) (pc := 7) dX0_isDigit_7 (by decide) ?_
    first | refine r_icmp_gtN (pc := 9) (tgt := 16) dX0_isDigit_9 (by decide) (by omega) (by omega) (fun h9 => ?_) (fun h9 => ?_) | refine r_icmp_gt (pc := 9) (tgt := 16) dX0_isDigit_9 (by decide) (fun h9 => ?_) (fun h9 => ?_)
    · skip
      refine r_iconst (v := nI 0) (pc := 16) dX0_isDigit_16 (by decide) ?_
      refine r_zret (pc := 17) dX0_isDigit_17 (by first | rfl | exact zI_nar | assumption) ?_
      exact ⟨by first | rw [zI_t (by unfold dgt; simp; omega)]; rfl | rw [zI_f (by unfold dgt; simp; omega)]; rfl, rfl⟩
    · skip
      refine r_iconst (v := nI 1) (pc := 12) dX0_isDigit_12 (by decide) ?_
      refine r_goto (pc := 13) (tgt := 17) dX0_isDigit_13 (by decide) ?_
      refine r_zret (pc := 17) dX0_isDigit_17 (by first | rfl | exact zI_nar | assumption) ?_
      exact ⟨by first | rw [zI_t (by unfold dgt; simp; omega)]; rfl | rw [zI_f (by unfold dgt; simp; omega)]; rfl, rfl⟩
theorem ct_X0_isDigit_neg : Ct g yX0_isDigit cX0_isDigit 1 (some Jvm.ClassFile.FieldType.boolean) 0 0 0 [.int (iI (-1))] M (PQ M (.int (nI 0))) noX := by
  refine Ct.of (by decide) (Nat.le_of_ble_eq_true rfl) rfl ?_
  refine r_ild0 (pc := 0) dX0_isDigit_0 ?_
  refine r_bipush (v := nI 48) (pc := 1) dX0_isDigit_1 (by decide) ?_
  refine r_icmp_lt (pc := 3) (tgt := 16) dX0_isDigit_3 (by decide) (fun h3 => ?_) (fun h3 => ?_)
  · skip
    refine r_iconst (v := nI 0) (pc := 16) dX0_isDigit_16 (by decide) ?_
    refine r_zret (pc := 17) dX0_isDigit_17 (by first | rfl | exact zI_nar | assumption) ?_
    exact ⟨rfl, rfl⟩
  · skip
    exact absurd (by decide) h3
end X45
