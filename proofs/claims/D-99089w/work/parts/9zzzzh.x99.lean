set_option maxRecDepth 100000
/-! CONSTRUCTORS: the fault, the reader, a moment, a state -/
/-- only the references of cell a may differ -/
def RfO (M : MM) (a : Nat) (M' : MM) : Prop := mZ M' = mZ M ∧ mK M' = mK M ∧ mN M' = mN M ∧ mI M' = mI M ∧ mL M' = mL M ∧ (∀ c, c ≠ a → mR M' c = mR M c)
theorem RfO.sR {M M' : MM} {a j : Nat} {x : Option Nat} (h : RfO M a M') : RfO M a (sR M' a j x) := ⟨h.1, h.2.1, h.2.2.1, h.2.2.2.1, h.2.2.2.2.1, fun c hc => by rw [← h.2.2.2.2.2 c hc]; funext i; exact mR_sRa hc⟩
theorem RfO.rf {M : MM} {a : Nat} : RfO M a M := ⟨rfl, rfl, rfl, rfl, rfl, fun _ _ => rfl⟩
theorem RfO.sm {M M' : MM} {a c : Nat} (h : RfO M a M') (hc : c ≠ a) : Sm M M' c := ⟨by rw [h.2.1], by rw [h.2.2.1], by rw [h.2.2.2.1], by rw [h.2.2.2.2.1], h.2.2.2.2.2 c hc⟩
theorem fl_J3_7 : Fl RJ3 7 3 0 2 := ⟨by decide, by decide, rfl, q319⟩
theorem fl_J3_17 : Fl RJ3 17 3 1 2 := ⟨by decide, by decide, rfl, q320⟩
theorem fl_J3_24 : Fl RJ3 24 3 2 2 := ⟨by decide, by decide, rfl, q321⟩
theorem fl_J3_31 : Fl RJ3 31 3 3 2 := ⟨by decide, by decide, rfl, q318⟩
abbrev UNST (g : GC) : Prop := NSq g "java/lang/Throwable" "UNASSIGNED_STACK" "[Ljava/lang/StackTraceElement;"
abbrev SUPS (g : GC) : Prop := NSq g "java/lang/Throwable" "SUPPRESSED_SENTINEL" "Ljava/util/List;"
theorem rf_narrow {ty : FieldType} (x : Option Nat) (h : fc ty = 2) : narrow ty (va_rf x) = va_rf x ∧ fits ty (va_rf x) = true := by
  cases ty <;> first | (exact absurd h (by decide)) | (cases x <;> exact ⟨rfl, rfl⟩)
theorem fl7 {M : MM} {a : Nat} {x r1 r2 : Option Nat} (i : Nat) : mR (sR (sR (sR (sR (sR (sR (sR M a 0 x) a 1 r1) a 2 r2) a 1 none) a 3 none) a 0 none) a 2 none) a i = if i < 4 then none else mR M a i := by
  simp only [mR_sR, true_and]
  by_cases e0 : i = 0
  · subst e0; rfl
  · by_cases e1 : i = 1
    · subst e1; rfl
    · by_cases e2 : i = 2
      · subst e2; rfl
      · by_cases e3 : i = 3
        · subst e3; rfl
        · rw [if_neg e2, if_neg e0, if_neg e3, if_neg e1, if_neg e2, if_neg e1, if_neg e0, if_neg (show ¬ i < 4 by omega)]
/-- a cell: kind, length, ints, references (longs zero) -/
def ZC (M : MM) (a k n : Nat) (f : Nat → Int32) (r : Nat → Option Nat) : Prop := mK M a = k ∧ mN M a = n ∧ (∀ i, mI M a i = f i) ∧ (∀ i, mL M a i = 0) ∧ ∀ i, mR M a i = r i
theorem ZC.sm {M M' : MM} {a k n : Nat} {f : Nat → Int32} {r : Nat → Option Nat} (h : ZC M a k n f r) (hs : Sm M M' a) : ZC M' a k n f r := ⟨hs.1.trans h.1, hs.2.1.trans h.2.1, fun i => by rw [hs.2.2.1]; exact h.2.2.1 i, fun i => by rw [hs.2.2.2.1]; exact h.2.2.2.1 i, fun i => by rw [hs.2.2.2.2]; exact h.2.2.2.2 i⟩
theorem ZC.nw {M : MM} {t n : Nat} : ZC (nw M t n) (mZ M) t n (fun _ => 0) (fun _ => none) := ⟨if_pos rfl, if_pos rfl, fun _ => if_pos rfl, fun _ => if_pos rfl, fun _ => if_pos rfl⟩
theorem ZC.put {M : MM} {a k n : Nat} {f : Nat → Int32} {r : Nat → Option Nat} (h : ZC M a k n f r) (j : Nat) (x : Option Nat) : ZC (sR M a j x) a k n f (fun i => if i = j then x else r i) := ⟨h.1, h.2.1, h.2.2.1, h.2.2.2.1, fun i => by
  rw [mR_sR]
  by_cases e : i = j
  · exact (if_pos ⟨rfl, e⟩).trans (if_pos e).symm
  · exact ((if_neg (fun q => e q.2)).trans (h.2.2.2.2 i)).trans (if_neg e).symm⟩
theorem ZC.cg {M : MM} {a k n k' n' : Nat} {f f' : Nat → Int32} {r r' : Nat → Option Nat} (h : ZC M a k n f r) (h1 : k' = k) (h2 : n' = n) (h3 : ∀ i, f' i = f i) (h4 : ∀ i, r' i = r i) : ZC M a k' n' f' r' := ⟨h.1.trans h1.symm, h.2.1.trans h2.symm, fun i => (h.2.2.1 i).trans (h3 i).symm, h.2.2.2.1, fun i => (h.2.2.2.2 i).trans (h4 i).symm⟩
/-- a region that is being made: cell 0 by its fields, the cells from lo on by a table -/
def BLD (M0 M : MM) (a lo n kind : Nat) (eI : Nat → Int32) (eL : Nat → Int64) (r : Nat → Option Nat) (K N : Nat → Nat) (I : Nat → Nat → Int32) (R : Nat → Nat → Option Nat) : Prop := mZ M = a + n ∧ (∀ c, c < a + lo → c ≠ a → Sm M0 M c) ∧ (mK M a = kind ∧ mN M a = 0 ∧ (∀ i, mI M a i = eI i) ∧ (∀ i, mL M a i = eL i) ∧ ∀ i, mR M a i = r i) ∧ ∀ d, lo ≤ d → d < n → ZC M (a + d) (K d) (N d) (I d) (R d)
section BLD
variable {M0 M M' : MM} {a lo n kind : Nat} {eI : Nat → Int32} {eL : Nat → Int64} {r : Nat → Option Nat} {K N : Nat → Nat} {I : Nat → Nat → Int32} {R : Nat → Nat → Option Nat}
theorem BLD.sub (h : BLD M0 M a lo n kind eI eL r K N I R) (hl : 1 ≤ lo ∧ lo ≤ n) {n' : Nat} (hs : ∀ c, c < a + n → Sm M M' c) (hz : mZ M' = a + n') (hn : ∀ d, n ≤ d → d < n' → ZC M' (a + d) (K d) (N d) (I d) (R d)) : BLD M0 M' a lo n' kind eI eL r K N I R := by
  obtain ⟨h1, h2, h3, h4⟩ := h
  refine ⟨hz, fun c hc hne => (h2 c hc hne).trans (hs c (by omega)), ?_, fun d q1 q2 => ?_⟩
  · obtain ⟨k1, k2, k3, k4, k5⟩ := h3
    obtain ⟨s1, s2, s3, s4, s5⟩ := hs a (by omega)
    exact ⟨s1.trans k1, s2.trans k2, fun i => by rw [s3]; exact k3 i, fun i => by rw [s4]; exact k4 i, fun i => by rw [s5]; exact k5 i⟩
  · by_cases e : d < n
    · exact (h4 d q1 e).sm (hs _ (by omega))
    · exact hn d (by omega) q2
theorem BLD.nw (h : BLD M0 M a lo n kind eI eL r K N I R) (hl : 1 ≤ lo ∧ lo ≤ n) {t m : Nat} (h1 : K n = t) (h2 : N n = m) (h3 : ∀ i, I n i = 0) (h4 : ∀ i, R n i = none) : BLD M0 (nw M t m) a lo (n + 1) kind eI eL r K N I R := by
  have hz := h.1
  refine h.sub hl (fun c hc => Sm.nw (by omega)) (by rw [mZ_nw, hz]; omega) fun d q1 q2 => ?_
  have e : d = n := by omega
  subst e
  rw [← hz]
  exact ZC.nw.cg h1 h2 h3 h4
theorem BLD.grid (h : BLD M0 M a lo n kind eI eL r K N I R) (hl : 1 ≤ lo ∧ lo ≤ n) {m k : Nat} (h1 : K n = 7) (h2 : N n = m) (h3 : ∀ i, I n i = 0) (h4 : ∀ i, R n i = some (a + n + 1 + i)) (h5 : ∀ d, n < d → d ≤ n + m → K d = 1 ∧ N d = k ∧ (∀ i, I d i = 0) ∧ ∀ i, R d i = none) : BLD M0 (mw M m k) a lo (n + 1 + m) kind eI eL r K N I R := by
  have hz := h.1
  refine h.sub hl (fun c hc => mw_old M m k (by omega)) (by rw [mw_Z, hz]; omega) fun d q1 q2 => ?_
  by_cases e : d = n
  · subst e
    rw [← hz]
    obtain ⟨k1, k2, k3⟩ := mw_K0 M m k
    exact ⟨k1.trans h1.symm, k2.trans h2.symm, fun i => (mw_I M m k (Nat.le_refl _) (by omega) i).1.trans (h3 i).symm, fun i => (mw_I M m k (Nat.le_refl _) (by omega) i).2, fun i => (k3 i).trans (by rw [h4, hz])⟩
  · obtain ⟨g1, g2, g3, g4⟩ := h5 d (by omega) (by omega)
    obtain ⟨k1, k2⟩ := mw_K1 M m k (c := a + d) (by omega) (by omega)
    exact ⟨k1.trans g1.symm, k2.trans g2.symm, fun i => (mw_I M m k (by omega) (by omega) i).1.trans (g3 i).symm, fun i => (mw_I M m k (by omega) (by omega) i).2, fun i => by
      rw [g4]
      exact (if_neg (show ¬ a + d = mZ M by omega)).trans (if_pos ⟨by omega, by omega⟩)⟩
theorem BLD.r0 (h : BLD M0 M a lo n kind eI eL r K N I R) (hl : 1 ≤ lo) (j : Nat) (x : Option Nat) : BLD M0 (sR M a j x) a lo n kind eI eL (fun i => if i = j then x else r i) K N I R := by
  obtain ⟨h1, h2, ⟨k1, k2, k3, k4, k5⟩, h4⟩ := h
  refine ⟨h1, fun c hc hne => (h2 c hc hne).trans (Sm.sR hne), ⟨k1, k2, k3, k4, fun i => ?_⟩, fun d q1 q2 => (h4 d q1 q2).sm (Sm.sR (by omega))⟩
  rw [mR_sR]
  by_cases e : i = j
  · exact (if_pos ⟨rfl, e⟩).trans (if_pos e).symm
  · exact ((if_neg (fun q => e q.2)).trans (k5 i)).trans (if_neg e).symm
theorem BLD.i0 (h : BLD M0 M a lo n kind eI eL r K N I R) (hl : 1 ≤ lo) (j : Nat) (x : Int32) : BLD M0 (sI M a j x) a lo n kind (fun i => if i = j then x else eI i) eL r K N I R := by
  obtain ⟨h1, h2, ⟨k1, k2, k3, k4, k5⟩, h4⟩ := h
  refine ⟨h1, fun c hc hne => (h2 c hc hne).trans (Sm.sI hne), ⟨k1, k2, fun i => ?_, k4, k5⟩, fun d q1 q2 => (h4 d q1 q2).sm (Sm.sI (by omega))⟩
  rw [mI_sI]
  by_cases e : i = j
  · exact (if_pos ⟨rfl, e⟩).trans (if_pos e).symm
  · exact ((if_neg (fun q => e q.2)).trans (k3 i)).trans (if_neg e).symm
theorem BLD.l0 (h : BLD M0 M a lo n kind eI eL r K N I R) (hl : 1 ≤ lo) (j : Nat) (x : Int64) : BLD M0 (sL M a j x) a lo n kind eI (fun i => if i = j then x else eL i) r K N I R := by
  obtain ⟨h1, h2, ⟨k1, k2, k3, k4, k5⟩, h4⟩ := h
  refine ⟨h1, fun c hc hne => (h2 c hc hne).trans (Sm.sL hne), ⟨k1, k2, k3, fun i => ?_, k5⟩, fun d q1 q2 => (h4 d q1 q2).sm (Sm.sL (by omega))⟩
  rw [mL_sL]
  by_cases e : i = j
  · exact (if_pos ⟨rfl, e⟩).trans (if_pos e).symm
  · exact ((if_neg (fun q => e q.2)).trans (k4 i)).trans (if_neg e).symm
end BLD
/-- a state's references -/
def stR (og a d i : Nat) : Option Nat := if d = 0 then (if i = 9 then some (a + 15) else if i = 8 then some (a + 6) else if i = 7 then some (a + 5) else if i = 6 then some (a + 4) else if i = 5 then some (a + 3) else if i = 4 then some (a + 2) else if i = 3 then some (a + 1) else if i = 10 then some og else none) else if d = 6 then some (a + 6 + 1 + i) else if d = 15 then some (a + 15 + 1 + i) else none
theorem st_hi1 {d : Nat} (h : 16 ≤ d) : stk d = 1 := by
  unfold stk
  rw [if_neg (by omega), if_neg (by omega), if_neg (by omega), if_neg (by omega), if_neg (by omega), if_neg (by omega)]
theorem st_hi2 {d : Nat} (h : 16 ≤ d) : stl d = 3 := by
  unfold stl
  rw [if_neg (by omega), if_neg (by omega), if_neg (by omega)]
theorem st_hi3 {d o a i : Nat} (h : 16 ≤ d) : stR o a d i = none := by
  unfold stR
  rw [if_neg (by omega), if_neg (by omega), if_neg (by omega)]
section X99
variable {g : GC} {M : MM}
theorem ct_J3_init_2 {a : Nat} (h1 : UNST g) (h2 : SUPS g) (hb : gb g ≤ a) (hK : mK M a = 23) : Ct g yJ3_init_2 cJ3_init_2 5 none 3 0 0 [.ref a, .null, .null, .int (nI 0), .int (nI 0)] M (fun v M' => v = none ∧ RfO M a M' ∧ ∀ i, mR M' a i = if i < 4 then none else mR M a i) noX := by
  refine Ct.of (by decide) (Nat.le_of_ble_eq_true rfl) rfl ?_
  refine r_ald0 (pc := 0) dJ3_init_2_0 ?_
  refine r_objInit (pc := 1) dJ3_init_2_1 q287 q189 q190 (by decide) (Nat.le_of_ble_eq_true rfl) ?_
  refine r_ald0 (pc := 4) dJ3_init_2_4 ?_
  refine r_ald0 (pc := 5) dJ3_init_2_5 ?_
  refine r_putQ (pc := 6) (x := some a) dJ3_init_2_6 fl_J3_7 fw_X3_0 rfl rfl hK hb ?_
  refine r_ald0 (pc := 9) dJ3_init_2_9 ?_
  refine r_getsq (pc := 10) dJ3_init_2_10 q288 h1 fun r1 => ?_
  refine r_putQ (pc := 13) (x := r1) dJ3_init_2_13 fl_J3_17 fw_X3_1 (rf_narrow _ rfl).1 (rf_narrow _ rfl).2 hK hb ?_
  refine r_ald0 (pc := 16) dJ3_init_2_16 ?_
  refine r_getsq (pc := 17) dJ3_init_2_17 q290 h2 fun r2 => ?_
  refine r_putQ (pc := 20) (x := r2) dJ3_init_2_20 fl_J3_24 fw_X3_2 (rf_narrow _ rfl).1 (rf_narrow _ rfl).2 hK hb ?_
  refine r_ild4 (pc := 23) dJ3_init_2_23 ?_
  first | refine r_if_eqZ (pc := 25) (tgt := 36) dJ3_init_2_25 (by decide) (fun h25 => ?_) (fun h25 => ?_) | refine r_if_eqN (pc := 25) (tgt := 36) dJ3_init_2_25 (by decide) (by omega) (fun h25 => ?_) (fun h25 => ?_) | refine r_if_eq (pc := 25) (tgt := 36) dJ3_init_2_25 (by decide) (fun h25 => ?_) (fun h25 => ?_)
  · skip
    refine r_ald0 (pc := 36) dJ3_init_2_36 ?_
    refine r_null (pc := 37) dJ3_init_2_37 ?_
    refine r_putQ (pc := 38) (x := none) dJ3_init_2_38 fl_J3_17 fw_X3_1 rfl rfl hK hb ?_
    refine r_ald0 (pc := 41) dJ3_init_2_41 ?_
    refine r_aldq1 (pc := 42) (x := none) dJ3_init_2_42 ?_
    refine r_putQ (pc := 43) (x := none) dJ3_init_2_43 fl_J3_31 fw_X3_3 rfl rfl hK hb ?_
    refine r_ald0 (pc := 46) dJ3_init_2_46 ?_
    refine r_aldq2 (pc := 47) (x := none) dJ3_init_2_47 ?_
    refine r_putQ (pc := 48) (x := none) dJ3_init_2_48 fl_J3_7 fw_X3_0 rfl rfl hK hb ?_
    refine r_ild3 (pc := 51) dJ3_init_2_51 ?_
    first | refine r_if_neZ (pc := 52) (tgt := 60) dJ3_init_2_52 (by decide) (fun h52 => ?_) (fun h52 => ?_) | refine r_if_neN (pc := 52) (tgt := 60) dJ3_init_2_52 (by decide) (by omega) (fun h52 => ?_) (fun h52 => ?_) | refine r_if_ne (pc := 52) (tgt := 60) dJ3_init_2_52 (by decide) (fun h52 => ?_) (fun h52 => ?_)
    · skip
      first | exact absurd h52 (by decide) | exact absurd rfl h52
    · skip
      refine r_ald0 (pc := 55) dJ3_init_2_55 ?_
      refine r_null (pc := 56) dJ3_init_2_56 ?_
      refine r_putQ (pc := 57) (x := none) dJ3_init_2_57 fl_J3_24 fw_X3_2 rfl rfl hK hb ?_
      refine r_vret (pc := 60) dJ3_init_2_60 ?_
      exact ⟨rfl, RfO.rf.sR.sR.sR.sR.sR.sR.sR, fl7⟩
  · skip
    first | exact absurd rfl h25 | exact absurd (by decide) h25
theorem ct_J4_init {a : Nat} (h1 : UNST g) (h2 : SUPS g) (hb : gb g ≤ a) (hK : mK M a = 23) : Ct g yJ4_init cJ4_init 5 none 4 0 0 [.ref a, .null, .null, .int (nI 0), .int (nI 0)] M (fun v M' => v = none ∧ RfO M a M' ∧ ∀ i, mR M' a i = if i < 4 then none else mR M a i) noX := by
  refine Ct.of (by decide) (Nat.le_of_ble_eq_true rfl) rfl ?_
  refine r_ald0 (pc := 0) dJ4_init_0 ?_
  refine r_aldq1 (pc := 1) (x := none) dJ4_init_1 ?_
  refine r_aldq2 (pc := 2) (x := none) dJ4_init_2 ?_
  refine r_ild3 (pc := 3) dJ4_init_3 ?_
  refine r_ild4 (pc := 4) dJ4_init_4 ?_
  refine r_cI (pc := 6) dJ4_init_6 ci_J4_16 (ct_J3_init_2 h1 h2 hb hK) rfl rfl (Nat.le_of_ble_eq_true rfl) (by decide) ?_
  rintro _ M7 ⟨rfl, e7⟩
  refine r_vret (pc := 9) dJ4_init_9 ?_
  exact ⟨rfl, e7⟩
theorem ct_J5_init {a : Nat} (h1 : UNST g) (h2 : SUPS g) (hb : gb g ≤ a) (hK : mK M a = 23) : Ct g yJ5_init cJ5_init 5 none 5 0 0 [.ref a, .null, .null, .int (nI 0), .int (nI 0)] M (fun v M' => v = none ∧ RfO M a M' ∧ ∀ i, mR M' a i = if i < 4 then none else mR M a i) noX := by
  refine Ct.of (by decide) (Nat.le_of_ble_eq_true rfl) rfl ?_
  refine r_ald0 (pc := 0) dJ5_init_0 ?_
  refine r_aldq1 (pc := 1) (x := none) dJ5_init_1 ?_
  refine r_aldq2 (pc := 2) (x := none) dJ5_init_2 ?_
  refine r_ild3 (pc := 3) dJ5_init_3 ?_
  refine r_ild4 (pc := 4) dJ5_init_4 ?_
  refine r_cI (pc := 6) dJ5_init_6 ci_J5_16 (ct_J4_init h1 h2 hb hK) rfl rfl (Nat.le_of_ble_eq_true rfl) (by decide) ?_
  rintro _ M7 ⟨rfl, e7⟩
  refine r_vret (pc := 9) dJ5_init_9 ?_
  exact ⟨rfl, e7⟩
theorem ct_X3_init {a : Nat} (h1 : UNST g) (h2 : SUPS g) (hb : gb g ≤ a) (hK : mK M a = 23) : Ct g yX3_init cX3_init 1 none 6 0 0 [.ref a] M (fun v M' => v = none ∧ RfO M a M' ∧ ∀ i, mR M' a i = if i < 4 then none else mR M a i) noX := by
  refine Ct.of (by decide) (Nat.le_of_ble_eq_true rfl) rfl ?_
  refine r_ald0 (pc := 0) dX3_init_0 ?_
  refine r_null (pc := 1) dX3_init_1 ?_
  refine r_null (pc := 2) dX3_init_2 ?_
  refine r_iconst (v := nI 0) (pc := 3) dX3_init_3 (by decide) ?_
  refine r_iconst (v := nI 0) (pc := 4) dX3_init_4 (by decide) ?_
  refine r_cI (pc := 5) dX3_init_5 ci_X3_1 (ct_J5_init h1 h2 hb hK) rfl rfl (Nat.le_of_ble_eq_true rfl) (by decide) ?_
  rintro _ M7 ⟨rfl, e7⟩
  refine r_vret (pc := 8) dX3_init_8 ?_
  exact ⟨rfl, e7⟩
/-- a reader anew, with its fault -/
theorem ct_X2_init {a o : Nat} (h1 : UNST g) (h2 : SUPS g) (hb : gb g ≤ a) (hz : mZ M = a + 1) (hF : ZC M a 22 0 (fun _ => 0) (fun _ => none)) : Ct g yX2_init cX2_init 2 none 7 (1) (8) [.ref a, .ref o] M (fun v M' => v = none ∧ mZ M' = a + 2 ∧ (∀ c, c < a → Sm M M' c) ∧ ZC M' a 22 0 (fun _ => 0) (fun i => if i = 0 then some (a + 1) else if i = 7 then some o else none) ∧ ZC M' (a + 1) 23 0 (fun _ => 0) (fun _ => none)) noX := by
  refine Ct.of (by decide) (Nat.le_of_ble_eq_true rfl) rfl ?_
  refine r_ald0 (pc := 0) dX2_init_0 ?_
  refine r_ald1 (pc := 1) dX2_init_1 ?_
  refine r_putFQ (pc := 2) (x := some o) dX2_init_2 fl_X2_3 ff_X2_7 rfl rfl rfl hF.1 hb ?_
  refine r_ald0 (pc := 5) dX2_init_5 ?_
  refine r_objInit (pc := 6) dX2_init_6 q261 q189 q190 (by decide) (Nat.le_of_ble_eq_true rfl) ?_
  refine r_ald0 (pc := 9) dX2_init_9 ?_
  refine r_new (pc := 10) (ci := 3) (kc' := 0) (ks' := 0) dX2_init_10 q262 q263 q154 (by decide) (by omega) (by omega) ?_
  have b1 : ZC (nw (sR M a 7 (some o)) (20 + 3) 0) (a + 1) 23 0 (fun _ => 0) (fun _ => none) := by rw [← hz]; exact ZC.nw (M := sR M a 7 (some o))
  have b2 : ZC (nw (sR M a 7 (some o)) (20 + 3) 0) a 22 0 (fun _ => 0) (fun i => if i = 7 then some o else none) := (hF.put 7 (some o)).sm (Sm.nw (by rw [mZ_sR]; omega))
  have b3 : mZ (nw (sR M a 7 (some o)) (20 + 3) 0) = a + 2 := by rw [mZ_nw, mZ_sR, hz]
  have b4 : ∀ c, c < a → Sm M (nw (sR M a 7 (some o)) (20 + 3) 0) c := fun c hc => (Sm.sR (by omega)).trans (Sm.nw (by rw [mZ_sR]; omega))
  rw [show mZ (sR M a 7 (some o)) = a + 1 from hz]
  generalize nw (sR M a 7 (some o)) (20 + 3) 0 = M1 at *
  refine r_dup (pc := 13) dX2_init_13 rfl ?_
  refine r_cI (pc := 14) dX2_init_14 ci_X2_17 (ct_X3_init h1 h2 (by omega) b1.1) rfl rfl (Nat.le_of_ble_eq_true rfl) (by decide) ?_
  rintro _ M7 ⟨rfl, e7, e8⟩
  have c2 := b2.sm (e7.sm (show a ≠ a + 1 by omega))
  refine r_putFQ (pc := 17) (x := some (a + 1)) dX2_init_17 fl_X2_18 ff_X2_0 rfl rfl rfl c2.1 hb ?_
  refine r_vret (pc := 20) dX2_init_20 ?_
  refine ⟨rfl, e7.1.trans b3, fun c hc => ((b4 c hc).trans (e7.sm (by omega))).trans (Sm.sR (by omega)), c2.put 0 (some (a + 1)), ZC.sm (M := M7) ⟨?_, ?_, ?_, ?_, ?_⟩ (Sm.sR (by omega))⟩
  · rw [e7.2.1]; exact b1.1
  · rw [e7.2.2.1]; exact b1.2.1
  · intro i; rw [e7.2.2.2.1]; exact b1.2.2.1 i
  · intro i; rw [e7.2.2.2.2.1]; exact b1.2.2.2.1 i
  · intro i; rw [e8]; split
    · rfl
    · exact b1.2.2.2.2 i
/-- a moment anew -/
theorem ct_X4_init {a : Nat} (hb : gb g ≤ a) (hz : mZ M = a + 1) (hF : ZC M a 24 0 (fun _ => 0) (fun _ => none)) : Ct g yX4_init cX4_init 1 none 1 (1) (11) [.ref a] M (fun v M' => v = none ∧ mZ M' = a + 2 ∧ (∀ c, c < a → Sm M M' c) ∧ ZC M' a 24 0 (fun _ => 0) (fun i => if i = 0 then some (a + 1) else none) ∧ ZC M' (a + 1) 2 11 (fun _ => 0) (fun _ => none)) noX := by
  refine Ct.of (by decide) (Nat.le_of_ble_eq_true rfl) rfl ?_
  refine r_ald0 (pc := 0) dX4_init_0 ?_
  refine r_objInit (pc := 1) dX4_init_1 q365 q189 q190 (by decide) (Nat.le_of_ble_eq_true rfl) ?_
  refine r_ald0 (pc := 4) dX4_init_4 ?_
  refine r_bipush (v := nI 11) (pc := 5) dX4_init_5 (by decide) ?_
  refine r_newa (pc := 7) (t := 2) (n := 11) (kc' := 0) (ks' := 0) dX4_init_7 rfl ⟨by decide, by decide⟩ q373 (by omega) (by omega) (by omega) ?_
  refine r_putFQ (pc := 9) (x := some (mZ M)) dX4_init_9 fl_X4_7 ff_X4_0 rfl rfl rfl ((if_neg (show ¬ a = mZ M by omega)).trans hF.1) hb ?_
  refine r_vret (pc := 12) dX4_init_12 ?_
  rw [hz]
  have b1 : ZC (nw M 2 11) (a + 1) 2 11 (fun _ => 0) (fun _ => none) := by rw [← hz]; exact ZC.nw
  exact ⟨rfl, by rw [mZ_sR, mZ_nw, hz], fun c hc => (Sm.nw (by omega)).trans (Sm.sR (by omega)), (hF.sm (Sm.nw (by omega))).put 0 (some (a + 1)), b1.sm (Sm.sR (by omega))⟩
/-- a state anew -/
theorem ct_X5_init {a o : Nat} (hO : GO g) (hb : gb g ≤ a) (hz : mZ M = a + 1) (hF : ZC M a 25 0 (fun _ => 0) (fun _ => none)) : Ct g yX5_init cX5_init 2 none 1 (55) (272) [.ref a, .ref o] M (fun v M' => v = none ∧ mZ M' = a + 56 ∧ (∀ c, c < a → Sm M M' c) ∧ ∀ d, d < 56 → ZC M' (a + d) (stk d) (stl d) (fun _ => 0) (stR o a d)) noX := by
  have B : BLD M M a 1 1 25 (fun _ => 0) (fun _ => 0) (fun _ => none) stk stl (fun _ _ => 0) (stR o a) := ⟨hz, fun _ _ _ => Sm.rf, ⟨hF.1, hF.2.1, hF.2.2.1, hF.2.2.2.1, hF.2.2.2.2⟩, fun d q1 q2 => absurd q1 (by omega)⟩
  clear hF hz
  refine Ct.of (by decide) (Nat.le_of_ble_eq_true rfl) rfl ?_
  refine r_ald0 (pc := 0) dX5_init_0 ?_
  refine r_ald1 (pc := 1) dX5_init_1 ?_
  refine r_putFQ (pc := 2) (x := some o) dX5_init_2 fl_X5_3 ff_X5_10 rfl rfl rfl B.2.2.1.1 hb ?_
  have B1 := B.r0 (by decide) 10 (some o)
  generalize sR M a 10 (some o) = M1 at *
  refine r_ald0 (pc := 5) dX5_init_5 ?_
  refine r_objInit (pc := 6) dX5_init_6 q379 q189 q190 (by decide) (Nat.le_of_ble_eq_true rfl) ?_
  refine r_ald0 (pc := 9) dX5_init_9 ?_
  refine r_bipush (v := nI 8) (pc := 10) dX5_init_10 (by decide) ?_
  refine r_newa (pc := 12) (t := 1) (n := 8) (kc' := 54) (ks' := 264) dX5_init_12 rfl ⟨by decide, by decide⟩ q425 (by omega) (by omega) (by omega) ?_
  have C2 := B1.nw (t := 1) (m := 8) ⟨by decide, by decide⟩ rfl rfl (fun _ => rfl) (fun _ => rfl)
  rw [B1.1]
  generalize nw M1 1 8 = N2 at *
  refine r_putFQ (pc := 14) (x := some (a + 1)) dX5_init_14 fl_X5_15 ff_X5_3 rfl rfl rfl C2.2.2.1.1 hb ?_
  have B2 := C2.r0 (by decide) 3 (some (a + 1))
  generalize sR N2 a 3 (some (a + 1)) = M2 at *
  clear C2 B1
  refine r_ald0 (pc := 17) dX5_init_17 ?_
  refine r_bipush (v := nI 8) (pc := 18) dX5_init_18 (by decide) ?_
  refine r_newa (pc := 20) (t := 1) (n := 8) (kc' := 53) (ks' := 256) dX5_init_20 rfl ⟨by decide, by decide⟩ q425 (by omega) (by omega) (by omega) ?_
  have C3 := B2.nw (t := 1) (m := 8) ⟨by decide, by decide⟩ rfl rfl (fun _ => rfl) (fun _ => rfl)
  rw [B2.1]
  generalize nw M2 1 8 = N3 at *
  refine r_putFQ (pc := 22) (x := some (a + 2)) dX5_init_22 fl_X5_19 ff_X5_4 rfl rfl rfl C3.2.2.1.1 hb ?_
  have B3 := C3.r0 (by decide) 4 (some (a + 2))
  generalize sR N3 a 4 (some (a + 2)) = M3 at *
  clear C3 B2
  refine r_ald0 (pc := 25) dX5_init_25 ?_
  refine r_bipush (v := nI 8) (pc := 26) dX5_init_26 (by decide) ?_
  refine r_newa (pc := 28) (t := 1) (n := 8) (kc' := 52) (ks' := 248) dX5_init_28 rfl ⟨by decide, by decide⟩ q425 (by omega) (by omega) (by omega) ?_
  have C4 := B3.nw (t := 1) (m := 8) ⟨by decide, by decide⟩ rfl rfl (fun _ => rfl) (fun _ => rfl)
  rw [B3.1]
  generalize nw M3 1 8 = N4 at *
  refine r_putFQ (pc := 30) (x := some (a + 3)) dX5_init_30 fl_X5_22 ff_X5_5 rfl rfl rfl C4.2.2.1.1 hb ?_
  have B4 := C4.r0 (by decide) 5 (some (a + 3))
  generalize sR N4 a 5 (some (a + 3)) = M4 at *
  clear C4 B3
  refine r_ald0 (pc := 33) dX5_init_33 ?_
  refine r_bipush (v := nI 8) (pc := 34) dX5_init_34 (by decide) ?_
  refine r_newa (pc := 36) (t := 1) (n := 8) (kc' := 51) (ks' := 240) dX5_init_36 rfl ⟨by decide, by decide⟩ q425 (by omega) (by omega) (by omega) ?_
  have C5 := B4.nw (t := 1) (m := 8) ⟨by decide, by decide⟩ rfl rfl (fun _ => rfl) (fun _ => rfl)
  rw [B4.1]
  generalize nw M4 1 8 = N5 at *
  refine r_putFQ (pc := 38) (x := some (a + 4)) dX5_init_38 fl_X5_25 ff_X5_6 rfl rfl rfl C5.2.2.1.1 hb ?_
  have B5 := C5.r0 (by decide) 6 (some (a + 4))
  generalize sR N5 a 6 (some (a + 4)) = M5 at *
  clear C5 B4
  refine r_ald0 (pc := 41) dX5_init_41 ?_
  refine r_bipush (v := nI 8) (pc := 42) dX5_init_42 (by decide) ?_
  refine r_newa (pc := 44) (t := 4) (n := 8) (kc' := 50) (ks' := 232) dX5_init_44 rfl ⟨by decide, by decide⟩ q426 (by omega) (by omega) (by omega) ?_
  have C6 := B5.nw (t := 4) (m := 8) ⟨by decide, by decide⟩ rfl rfl (fun _ => rfl) (fun _ => rfl)
  rw [B5.1]
  generalize nw M5 4 8 = N6 at *
  refine r_putFQ (pc := 46) (x := some (a + 5)) dX5_init_46 fl_X5_28 ff_X5_7 rfl rfl rfl C6.2.2.1.1 hb ?_
  have B6 := C6.r0 (by decide) 7 (some (a + 5))
  generalize sR N6 a 7 (some (a + 5)) = M6 at *
  clear C6 B5
  refine r_ald0 (pc := 49) dX5_init_49 ?_
  refine r_bipush (v := nI 8) (pc := 50) dX5_init_50 (by decide) ?_
  refine r_bipush (v := nI 8) (pc := 52) dX5_init_52 (by decide) ?_
  refine r_grid (pc := 54) (n := 8) (k := 8) (kc' := 41) (ks' := 160) hO dX5_init_54 q380 (by omega) (by omega) (by omega) (by omega) ?_
  have C7 := B6.grid (m := 8) (k := 8) ⟨by decide, by decide⟩ rfl rfl (fun _ => rfl) (fun _ => rfl) (fun d q1 q2 => by have hd : d = 7 ∨ d = 8 ∨ d = 9 ∨ d = 10 ∨ d = 11 ∨ d = 12 ∨ d = 13 ∨ d = 14 := (by omega); rcases hd with e | e | e | e | e | e | e | e <;> subst e <;> exact ⟨rfl, rfl, fun _ => rfl, fun _ => rfl⟩)
  rw [B6.1]
  generalize mw M6 8 8 = N7 at *
  refine r_putFQ (pc := 58) (x := some (a + 6)) dX5_init_58 fl_X5_34 ff_X5_8 rfl rfl rfl C7.2.2.1.1 hb ?_
  have B7 := C7.r0 (by decide) 8 (some (a + 6))
  generalize sR N7 a 8 (some (a + 6)) = M7 at *
  clear C7 B6
  refine r_ald0 (pc := 61) dX5_init_61 ?_
  refine r_bipush (v := nI 40) (pc := 62) dX5_init_62 (by decide) ?_
  refine r_iconst (v := nI 3) (pc := 64) dX5_init_64 (by decide) ?_
  refine r_grid (pc := 65) (n := 40) (k := 3) (kc' := 0) (ks' := 0) hO dX5_init_65 q380 (by omega) (by omega) (by omega) (by omega) ?_
  have C8 := B7.grid (m := 40) (k := 3) ⟨by decide, by decide⟩ rfl rfl (fun _ => rfl) (fun _ => rfl) (fun d q1 q2 => by have hd : 16 ≤ d := (by omega); exact ⟨st_hi1 hd, st_hi2 hd, fun _ => rfl, fun _ => st_hi3 hd⟩)
  rw [B7.1]
  generalize mw M7 40 3 = N8 at *
  refine r_putFQ (pc := 69) (x := some (a + 15)) dX5_init_69 fl_X5_37 ff_X5_9 rfl rfl rfl C8.2.2.1.1 hb ?_
  have B8 := C8.r0 (by decide) 9 (some (a + 15))
  generalize sR N8 a 9 (some (a + 15)) = M8 at *
  clear C8 B7
  refine r_vret (pc := 72) dX5_init_72 ?_
  obtain ⟨z1, z2, z3, z4⟩ := B8
  refine ⟨rfl, z1, fun c hc => z2 c (by omega) (by omega), fun d hd => ?_⟩
  by_cases e : d = 0
  · subst e
    exact ⟨z3.1, z3.2.1, z3.2.2.1, z3.2.2.2.1, fun i => z3.2.2.2.2 i⟩
  · exact z4 d (by omega) hd
end X99
