set_option maxRecDepth 100000
/-! TREES: tests -/
section X14
variable {g : GC} {M : MM}
theorem zI_iff {p q : Prop} [Decidable p] [Decidable q] : zI p = zI q ↔ (p ↔ q) := by
  by_cases hp : p <;> by_cases hq : q <;> simp [zI, hp, hq]
theorem ct_X17_holds {a m : Nat} : Ct g yX17_holds cX17_holds 2 (some .boolean) 0 0 0 [.ref a, .ref m] M (PQ M (.int (zI True))) noX := by
  refine Ct.of (by decide) (Nat.le_of_ble_eq_true rfl) rfl ?_
  refine r_iconst (v := nI 1) (pc := 0) dX17_holds_0 (by decide) ?_
  refine r_zret (pc := 1) dX17_holds_1 (by first | rfl | exact zI_nar | assumption) ?_
  exact ⟨by rw [zI_t trivial]; rfl, rfl⟩
theorem ct_X16_holds {a m x D : Nat} {p : Prop} [Decidable p] (hg : GX g) (hK : mK M a = 36) (h0 : mR M a 0 = some x) (c1 : HO g M D x m (.int (zI p))) :
    Ct g yX16_holds cX16_holds 2 (some .boolean) (D + 1) 0 0 [.ref a, .ref m] M (PQ M (.int (zI (¬ p)))) noX := by
  refine Ct.of (by decide) (Nat.le_of_ble_eq_true rfl) rfl ?_
  refine r_ald0 (pc := 0) dX16_holds_0 ?_
  refine r_getR (pc := 1) dX16_holds_1 fl_X16_7 hK h0 ?_
  refine r_ald1 (pc := 4) dX16_holds_4 ?_
  refine r_ho_X16_13 hg rfl (pc := 5) dX16_holds_5 c1 (Nat.le_of_ble_eq_true rfl) (by omega) ?_
  first | refine r_if_neZ (pc := 8) (tgt := 15) dX16_holds_8 (by decide) (fun h8 => ?_) (fun h8 => ?_) | refine r_if_neN (pc := 8) (tgt := 15) dX16_holds_8 (by decide) (by omega) (fun h8 => ?_) (fun h8 => ?_) | refine r_if_ne (pc := 8) (tgt := 15) dX16_holds_8 (by decide) (fun h8 => ?_) (fun h8 => ?_)
  · skip
    refine r_iconst (v := nI 0) (pc := 15) dX16_holds_15 (by decide) ?_
    refine r_zret (pc := 16) dX16_holds_16 (by first | rfl | exact zI_nar | assumption) ?_
    exact ⟨by by_cases q : p <;> simp_all [zI, nI], rfl⟩
  · skip
    refine r_iconst (v := nI 1) (pc := 11) dX16_holds_11 (by decide) ?_
    refine r_goto (pc := 12) (tgt := 16) dX16_holds_12 (by decide) ?_
    refine r_zret (pc := 16) dX16_holds_16 (by first | rfl | exact zI_nar | assumption) ?_
    exact ⟨by by_cases q : p <;> simp_all [zI, nI], rfl⟩
/-- the sign of a comparison's code -/
def sgT0 (op : Nat) : Nat := if op = 7 then 60 else if op = 8 then 62 else 61
theorem ct_X18_holds {a m x z D op : Nat} {r1 r2 : Int} (hg : GX g) (ho : op = 7 ∨ op = 8 ∨ op = 9) (hK : mK M a = 38) (h0 : mR M a 0 = some x) (h1 : mR M a 1 = some z) (h2 : mI M a 2 = nI (sgT0 op)) (c1 : AT g M D x m (.long (lI r1))) (c2 : AT g M D z m (.long (lI r2))) (b1 : b6 r1) (b2 : b6 r2) :
    Ct g yX18_holds cX18_holds 6 (some .boolean) (D + 1) 0 0 [.ref a, .ref m] M (PQ M (.int (zI (jn op r1 r2 = 1)))) noX := by
  obtain ⟨b11, b12⟩ := b1
  obtain ⟨b21, b22⟩ := b2
  refine Ct.of (by decide) (Nat.le_of_ble_eq_true rfl) rfl ?_
  rcases ho with rfl | rfl | rfl
  · skip
    refine r_ald0 (pc := 0) dX18_holds_0 ?_
    refine r_getR (pc := 1) dX18_holds_1 fl_X18_7 hK h0 ?_
    refine r_ald1 (pc := 4) dX18_holds_4 ?_
    refine r_at_X18_20 hg rfl (pc := 5) dX18_holds_5 c1 (Nat.le_of_ble_eq_true rfl) (by omega) ?_
    refine r_lst2 (pc := 8) dX18_holds_8 ?_
    refine r_ald0 (pc := 9) dX18_holds_9 ?_
    refine r_getR (pc := 10) dX18_holds_10 fl_X18_17 hK h1 ?_
    refine r_ald1 (pc := 13) dX18_holds_13 ?_
    refine r_at_X18_20 hg rfl (pc := 14) dX18_holds_14 c2 (Nat.le_of_ble_eq_true rfl) (by omega) ?_
    refine r_lst4 (pc := 17) dX18_holds_17 ?_
    refine r_ald0 (pc := 19) dX18_holds_19 ?_
    refine r_getI (pc := 20) dX18_holds_20 fl_X18_13 hK ?_
    rw [h2, show sgT0 7 = 60 from rfl]
    refine r_bipush (v := nI 60) (pc := 23) dX18_holds_23 (by decide) ?_
    first | refine r_icmp_neN (pc := 25) (tgt := 43) dX18_holds_25 (by decide) (by omega) (by omega) (fun h25 => ?_) (fun h25 => ?_) | refine r_icmp_ne (pc := 25) (tgt := 43) dX18_holds_25 (by decide) (fun h25 => ?_) (fun h25 => ?_)
    · skip
      exact absurd rfl h25
    · skip
      refine r_lld2 (pc := 28) dX18_holds_28 ?_
      refine r_lld4 (pc := 29) dX18_holds_29 ?_
      refine r_lcmp (pc := 31) dX18_holds_31 ?_
      first | refine r_if_geCI (pc := 32) (tgt := 39) dX18_holds_32 (by decide) (by constructor <;> omega) (by constructor <;> omega) (fun h32 => ?_) (fun h32 => ?_) | refine r_if_geC (pc := 32) (tgt := 39) dX18_holds_32 (by decide) (fun h32 => ?_) (fun h32 => ?_)
      · skip
        refine r_iconst (v := nI 0) (pc := 39) dX18_holds_39 (by decide) ?_
        refine r_goto (pc := 40) (tgt := 79) dX18_holds_40 (by decide) ?_
        refine r_zret (pc := 79) dX18_holds_79 (by first | rfl | exact zI_nar | assumption) ?_
        exact ⟨by unfold zI jn; by_cases e : r1 < r2 <;> simp [e] <;> first | rfl | (exfalso; omega), rfl⟩
      · skip
        refine r_iconst (v := nI 1) (pc := 35) dX18_holds_35 (by decide) ?_
        refine r_goto (pc := 36) (tgt := 79) dX18_holds_36 (by decide) ?_
        refine r_zret (pc := 79) dX18_holds_79 (by first | rfl | exact zI_nar | assumption) ?_
        exact ⟨by unfold zI jn; by_cases e : r1 < r2 <;> simp [e] <;> first | rfl | (exfalso; omega), rfl⟩
  · skip
    refine r_ald0 (pc := 0) dX18_holds_0 ?_
    refine r_getR (pc := 1) dX18_holds_1 fl_X18_7 hK h0 ?_
    refine r_ald1 (pc := 4) dX18_holds_4 ?_
    refine r_at_X18_20 hg rfl (pc := 5) dX18_holds_5 c1 (Nat.le_of_ble_eq_true rfl) (by omega) ?_
    refine r_lst2 (pc := 8) dX18_holds_8 ?_
    refine r_ald0 (pc := 9) dX18_holds_9 ?_
    refine r_getR (pc := 10) dX18_holds_10 fl_X18_17 hK h1 ?_
    refine r_ald1 (pc := 13) dX18_holds_13 ?_
    refine r_at_X18_20 hg rfl (pc := 14) dX18_holds_14 c2 (Nat.le_of_ble_eq_true rfl) (by omega) ?_
    refine r_lst4 (pc := 17) dX18_holds_17 ?_
    refine r_ald0 (pc := 19) dX18_holds_19 ?_
    refine r_getI (pc := 20) dX18_holds_20 fl_X18_13 hK ?_
    rw [h2, show sgT0 8 = 62 from rfl]
    refine r_bipush (v := nI 60) (pc := 23) dX18_holds_23 (by decide) ?_
    first | refine r_icmp_neN (pc := 25) (tgt := 43) dX18_holds_25 (by decide) (by omega) (by omega) (fun h25 => ?_) (fun h25 => ?_) | refine r_icmp_ne (pc := 25) (tgt := 43) dX18_holds_25 (by decide) (fun h25 => ?_) (fun h25 => ?_)
    · skip
      refine r_ald0 (pc := 43) dX18_holds_43 ?_
      refine r_getI (pc := 44) dX18_holds_44 fl_X18_13 hK ?_
      rw [h2, show sgT0 8 = 62 from rfl]
      refine r_bipush (v := nI 62) (pc := 47) dX18_holds_47 (by decide) ?_
      first | refine r_icmp_neN (pc := 49) (tgt := 67) dX18_holds_49 (by decide) (by omega) (by omega) (fun h49 => ?_) (fun h49 => ?_) | refine r_icmp_ne (pc := 49) (tgt := 67) dX18_holds_49 (by decide) (fun h49 => ?_) (fun h49 => ?_)
      · skip
        exact absurd rfl h49
      · skip
        refine r_lld2 (pc := 52) dX18_holds_52 ?_
        refine r_lld4 (pc := 53) dX18_holds_53 ?_
        refine r_lcmp (pc := 55) dX18_holds_55 ?_
        first | refine r_if_leCI (pc := 56) (tgt := 63) dX18_holds_56 (by decide) (by constructor <;> omega) (by constructor <;> omega) (fun h56 => ?_) (fun h56 => ?_) | refine r_if_leC (pc := 56) (tgt := 63) dX18_holds_56 (by decide) (fun h56 => ?_) (fun h56 => ?_)
        · skip
          refine r_iconst (v := nI 0) (pc := 63) dX18_holds_63 (by decide) ?_
          refine r_goto (pc := 64) (tgt := 79) dX18_holds_64 (by decide) ?_
          refine r_zret (pc := 79) dX18_holds_79 (by first | rfl | exact zI_nar | assumption) ?_
          exact ⟨by unfold zI jn; by_cases e : r2 < r1 <;> simp [e] <;> first | rfl | (exfalso; omega), rfl⟩
        · skip
          refine r_iconst (v := nI 1) (pc := 59) dX18_holds_59 (by decide) ?_
          refine r_goto (pc := 60) (tgt := 79) dX18_holds_60 (by decide) ?_
          refine r_zret (pc := 79) dX18_holds_79 (by first | rfl | exact zI_nar | assumption) ?_
          exact ⟨by unfold zI jn; by_cases e : r2 < r1 <;> simp [e] <;> first | rfl | (exfalso; omega), rfl⟩
    · skip
      exact absurd h25 (by decide)
  · skip
    refine r_ald0 (pc := 0) dX18_holds_0 ?_
    refine r_getR (pc := 1) dX18_holds_1 fl_X18_7 hK h0 ?_
    refine r_ald1 (pc := 4) dX18_holds_4 ?_
    refine r_at_X18_20 hg rfl (pc := 5) dX18_holds_5 c1 (Nat.le_of_ble_eq_true rfl) (by omega) ?_
    refine r_lst2 (pc := 8) dX18_holds_8 ?_
    refine r_ald0 (pc := 9) dX18_holds_9 ?_
    refine r_getR (pc := 10) dX18_holds_10 fl_X18_17 hK h1 ?_
    refine r_ald1 (pc := 13) dX18_holds_13 ?_
    refine r_at_X18_20 hg rfl (pc := 14) dX18_holds_14 c2 (Nat.le_of_ble_eq_true rfl) (by omega) ?_
    refine r_lst4 (pc := 17) dX18_holds_17 ?_
    refine r_ald0 (pc := 19) dX18_holds_19 ?_
    refine r_getI (pc := 20) dX18_holds_20 fl_X18_13 hK ?_
    rw [h2, show sgT0 9 = 61 from rfl]
    refine r_bipush (v := nI 60) (pc := 23) dX18_holds_23 (by decide) ?_
    first | refine r_icmp_neN (pc := 25) (tgt := 43) dX18_holds_25 (by decide) (by omega) (by omega) (fun h25 => ?_) (fun h25 => ?_) | refine r_icmp_ne (pc := 25) (tgt := 43) dX18_holds_25 (by decide) (fun h25 => ?_) (fun h25 => ?_)
    · skip
      refine r_ald0 (pc := 43) dX18_holds_43 ?_
      refine r_getI (pc := 44) dX18_holds_44 fl_X18_13 hK ?_
      rw [h2, show sgT0 9 = 61 from rfl]
      refine r_bipush (v := nI 62) (pc := 47) dX18_holds_47 (by decide) ?_
      first | refine r_icmp_neN (pc := 49) (tgt := 67) dX18_holds_49 (by decide) (by omega) (by omega) (fun h49 => ?_) (fun h49 => ?_) | refine r_icmp_ne (pc := 49) (tgt := 67) dX18_holds_49 (by decide) (fun h49 => ?_) (fun h49 => ?_)
      · skip
        refine r_lld2 (pc := 67) dX18_holds_67 ?_
        refine r_lld4 (pc := 68) dX18_holds_68 ?_
        refine r_lcmp (pc := 70) dX18_holds_70 ?_
        first | refine r_if_neCI (pc := 71) (tgt := 78) dX18_holds_71 (by decide) (by constructor <;> omega) (by constructor <;> omega) (fun h71 => ?_) (fun h71 => ?_) | refine r_if_neC (pc := 71) (tgt := 78) dX18_holds_71 (by decide) (fun h71 => ?_) (fun h71 => ?_)
        · skip
          refine r_iconst (v := nI 0) (pc := 78) dX18_holds_78 (by decide) ?_
          refine r_zret (pc := 79) dX18_holds_79 (by first | rfl | exact zI_nar | assumption) ?_
          exact ⟨by unfold zI jn; by_cases e : r1 = r2 <;> simp [e] <;> first | rfl | (exfalso; omega), rfl⟩
        · skip
          refine r_iconst (v := nI 1) (pc := 74) dX18_holds_74 (by decide) ?_
          refine r_goto (pc := 75) (tgt := 79) dX18_holds_75 (by decide) ?_
          refine r_zret (pc := 79) dX18_holds_79 (by first | rfl | exact zI_nar | assumption) ?_
          exact ⟨by unfold zI jn; by_cases e : r1 = r2 <;> simp [e] <;> first | rfl | (exfalso; omega), rfl⟩
      · skip
        exact absurd h49 (by decide)
    · skip
      exact absurd h25 (by decide)
/-- all (or any) of the tests i .. i + k - 1 -/
def fctV (all : Bool) (r : Nat → Int) (k i : Nat) : Bool := if all = true then allR (fun j => decide (r j = 1)) k i else !(allR (fun j => decide (r j ≠ 1)) k i)
theorem fctV_0 {all : Bool} {r : Nat → Int} {i : Nat} : fctV all r 0 i = all := by cases all <;> rfl
theorem fctV_e {all : Bool} {r : Nat → Int} {k i : Nat} (h : r i = 1 ↔ all = true) : fctV all r (k + 1) i = fctV all r k (i + 1) := by
  cases all with
  | true => unfold fctV; simp [allR, h.mpr rfl]
  | false => unfold fctV; simp [allR, show r i ≠ 1 from fun e => by cases h.mp e]
theorem fctV_n {all : Bool} {r : Nat → Int} {k i : Nat} (h : ¬ (r i = 1 ↔ all = true)) : fctV all r (k + 1) i = !all := by
  cases all with
  | true => unfold fctV; simp [allR, show r i ≠ 1 from fun e => h ⟨fun _ => rfl, fun _ => e⟩]
  | false => unfold fctV; simp [allR, show r i = 1 from Classical.byContradiction fun e => h ⟨fun q => absurd q e, fun q => by cases q⟩]
theorem xfactsLoop {a m l v n D : Nat} {all : Bool} {r : Nat → Int} (hg : GX g) (hK : mK M a = 35) (h0 : mR M a 0 = some l) (h1 : mI M a 1 = zI (all = true)) (hL : LsX M l v n) (hr : ∀ i, i < n → ∃ b, mR M v i = some b ∧ HO g M D b m (.int (zI (r i = 1)))) : ∀ k i, i + k = n →
    Bd g yX15_holds cX15_holds 3 (some .boolean) [] (D + 6) 0 0 M 2 [some (.ref a), some (.ref m), some (.int (nI i))] [] (PQ M (.int (zI (fctV all r k i = true)))) noX := by
  have hn6 : n < 1000000 := by have := hL.2.2.2.2; omega
  intro k
  induction k with
  | zero =>
    intro i hi
    rw [fctV_0]
    refine r_ild2 (pc := 2) dX15_holds_2 ?_
    refine r_ald0 (pc := 3) dX15_holds_3 ?_
    refine r_getR (pc := 4) dX15_holds_4 fl_X15_12 hK h0 ?_
    refine r_cF (pc := 7) dX15_holds_7 (cf_X15_22 hg) hL.1 (ct_J2_size hL) rfl rfl (Nat.le_of_ble_eq_true rfl) (by first | decide | omega) ?_
    rintro _ _ ⟨rfl, rfl⟩
    first | refine r_icmp_geN (pc := 12) (tgt := 58) dX15_holds_12 (by decide) (by omega) (by omega) (fun h12 => ?_) (fun h12 => ?_) | refine r_icmp_ge (pc := 12) (tgt := 58) dX15_holds_12 (by decide) (fun h12 => ?_) (fun h12 => ?_)
    · skip
      refine r_ald0 (pc := 58) dX15_holds_58 ?_
      refine r_getI (pc := 59) dX15_holds_59 fl_X15_18 hK ?_
      rw [h1]
      refine r_zret (pc := 62) dX15_holds_62 (by first | rfl | exact zI_nar | assumption) ?_
      exact ⟨rfl, rfl⟩
    · skip
      exact absurd h12 (by omega)
  | succ k ih =>
    intro i hi
    obtain ⟨b, hb1, hb2⟩ := hr i (by omega)
    refine r_ild2 (pc := 2) dX15_holds_2 ?_
    refine r_ald0 (pc := 3) dX15_holds_3 ?_
    refine r_getR (pc := 4) dX15_holds_4 fl_X15_12 hK h0 ?_
    refine r_cF (pc := 7) dX15_holds_7 (cf_X15_22 hg) hL.1 (ct_J2_size hL) rfl rfl (Nat.le_of_ble_eq_true rfl) (by first | decide | omega) ?_
    rintro _ _ ⟨rfl, rfl⟩
    first | refine r_icmp_geN (pc := 12) (tgt := 58) dX15_holds_12 (by decide) (by omega) (by omega) (fun h12 => ?_) (fun h12 => ?_) | refine r_icmp_ge (pc := 12) (tgt := 58) dX15_holds_12 (by decide) (fun h12 => ?_) (fun h12 => ?_)
    · skip
      exact absurd h12 (by omega)
    · skip
      refine r_ald0 (pc := 15) dX15_holds_15 ?_
      refine r_getR (pc := 16) dX15_holds_16 fl_X15_12 hK h0 ?_
      refine r_ild2 (pc := 19) dX15_holds_19 ?_
      refine r_cF (pc := 20) dX15_holds_20 (cf_X15_28 hg) hL.1 (ct_J2_get hL (i := i) (by omega) hb1) rfl rfl (Nat.le_of_ble_eq_true rfl) (by first | decide | omega) ?_
      rintro _ _ ⟨rfl, rfl⟩
      refine r_cast_X15 hg rfl (pc := 25) dX15_holds_25 hb2 ?_
      refine r_ald1 (pc := 28) dX15_holds_28 ?_
      refine r_ho_X15_32 hg rfl (pc := 29) dX15_holds_29 hb2 (Nat.le_of_ble_eq_true rfl) (by omega) ?_
      refine r_ald0 (pc := 32) dX15_holds_32 ?_
      refine r_getI (pc := 33) dX15_holds_33 fl_X15_18 hK ?_
      rw [h1]
      refine r_icmp_eq (pc := 36) (tgt := 52) dX15_holds_36 (by decide) (fun h36 => ?_) (fun h36 => ?_)
      · skip
        rw [fctV_e (zI_iff.mp h36)]
        first | refine r_iinc2N (j := 1) (pc := 52) dX15_holds_52 rfl ?_ | refine r_iinc2 (pc := 52) dX15_holds_52 ?_
        refine r_goto (pc := 55) (tgt := 2) dX15_holds_55 (by decide) ?_
        exact ih (i + 1) (by omega)
      · skip
        rw [fctV_n (fun q => h36 (zI_iff.mpr q))]
        refine r_ald0 (pc := 39) dX15_holds_39 ?_
        refine r_getI (pc := 40) dX15_holds_40 fl_X15_18 hK ?_
        rw [h1]
        first | refine r_if_neZ (pc := 43) (tgt := 50) dX15_holds_43 (by decide) (fun h43 => ?_) (fun h43 => ?_) | refine r_if_neN (pc := 43) (tgt := 50) dX15_holds_43 (by decide) (by omega) (fun h43 => ?_) (fun h43 => ?_) | refine r_if_ne (pc := 43) (tgt := 50) dX15_holds_43 (by decide) (fun h43 => ?_) (fun h43 => ?_)
        · skip
          refine r_iconst (v := nI 0) (pc := 50) dX15_holds_50 (by decide) ?_
          refine r_zret (pc := 51) dX15_holds_51 (by first | rfl | exact zI_nar | assumption) ?_
          exact ⟨by first | (rw [h43]; rfl) | (rw [show all = false by simpa using h43]; rfl), rfl⟩
        · skip
          refine r_iconst (v := nI 1) (pc := 46) dX15_holds_46 (by decide) ?_
          refine r_goto (pc := 47) (tgt := 51) dX15_holds_47 (by decide) ?_
          refine r_zret (pc := 51) dX15_holds_51 (by first | rfl | exact zI_nar | assumption) ?_
          exact ⟨by first | (rw [h43]; rfl) | (rw [show all = false by simpa using h43]; rfl), rfl⟩
theorem ct_X15_holds {a m l v n D : Nat} {all : Bool} {r : Nat → Int} (hg : GX g) (hK : mK M a = 35) (h0 : mR M a 0 = some l) (h1 : mI M a 1 = zI (all = true)) (hL : LsX M l v n) (hr : ∀ i, i < n → ∃ b, mR M v i = some b ∧ HO g M D b m (.int (zI (r i = 1)))) :
    Ct g yX15_holds cX15_holds 3 (some .boolean) (D + 6) 0 0 [.ref a, .ref m] M (PQ M (.int (zI (fctV all r n 0 = true)))) noX := by
  refine Ct.of (by decide) (Nat.le_of_ble_eq_true rfl) rfl ?_
  refine r_iconst (v := nI 0) (pc := 0) dX15_holds_0 (by decide) ?_
  refine r_ist2 (pc := 1) dX15_holds_1 ?_
  exact xfactsLoop hg hK h0 h1 hL hr n 0 (by omega)
end X14
