set_option maxRecDepth 100000
/-! TREES: a chain -/
section X15
variable {g : GC} {M : MM}
/-- a chain's value: of the first k + 1 parts -/
def chV (op : Nat → Nat) (r : Nat → Int) : Nat → Int
  | 0 => r 0
  | k + 1 => jn (op (k + 1)) (chV op r k) (r (k + 1))
theorem chV_b6 {op : Nat → Nat} {r : Nat → Int} {n : Nat} (ho : ∀ i, 1 ≤ i → i < n → 1 ≤ op i ∧ op i ≤ 4) (hr : ∀ i, i < n → b6 (r i)) : ∀ k, k < n → b6 (chV op r k)
  | 0, h => hr 0 h
  | k + 1, h => by
    have h1 := ho (k + 1) (by omega) h
    exact jn_num ⟨h1.1, by omega⟩ (chV_b6 ho hr k (by omega)) (hr (k + 1) h)
theorem jn0_b62 {op : Nat} {a b : Int} (h1 : 1 ≤ op) (h4 : op ≤ 4) (ha : b6 a) (hb : b6 b) : b62 (jn0 op a b) := by
  have hc : op = 1 ∨ op = 2 ∨ op = 3 ∨ op = 4 := by omega
  have hf := flr_b6 (b := b) ha
  obtain ⟨a1, a2⟩ := ha
  obtain ⟨b1, b2⟩ := hb
  obtain ⟨f1, f2⟩ := hf
  rcases hc with rfl | rfl | rfl | rfl
  · show b62 (a + b); constructor <;> omega
  · show b62 (a - b); constructor <;> omega
  · show b62 (a * b)
    have h := Int.natAbs_mul a b
    have h2 : a.natAbs * b.natAbs ≤ 1000000 * 1000000 := Nat.mul_le_mul (by omega) (by omega)
    constructor <;> omega
  · show b62 (flr a b); constructor <;> omega
theorem sgC_lt (op : Nat) : sgC op < 128 := by unfold sgC; split <;> (try split) <;> (try split) <;> decide
theorem xchainLoop {a m l v b w n D : Nat} {op : Nat → Nat} {r : Nat → Int} (hg : GX g) (hz : NSq g "jdk/internal/util/Preconditions" "SIOOBE_FORMATTER" "Ljava/util/function/BiFunction;") (hK : mK M a = 29) (h0 : mR M a 0 = some l) (h1 : mR M a 1 = some b) (hL : LsX M l v n) (hB : SbX M b w n) (ho : ∀ i, 1 ≤ i → i < n → 1 ≤ op i ∧ op i ≤ 4 ∧ mI M w i = nI (sgC (op i))) (hr : ∀ i, i < n → ∃ b, mR M v i = some b ∧ AT g M D b m (.long (lI (r i))) ∧ b6 (r i)) : ∀ k i, i + k = n → 1 ≤ i →
    Bd g yX9_at cX9_at 5 (some .long) [] (D + 8) 0 0 M 21 [some (.ref a), some (.ref m), some (.long (lI (chV op r (i - 1)))), none, some (.int (nI i))] [] (PQ M (.long (lI (chV op r (n - 1))))) noX := by
  have hn6 : n < 1000000 := by have := hL.2.2.2.2; omega
  have hb6 := chV_b6 (op := op) (r := r) (n := n) (fun i p1 p2 => ⟨(ho i p1 p2).1, (ho i p1 p2).2.1⟩) (fun i p => by obtain ⟨_, -, -, q⟩ := hr i p; exact q)
  intro k
  induction k with
  | zero =>
    intro i hi h1i
    obtain rfl : i = n := by omega
    refine r_ild4 (pc := 21) dX9_at_21 ?_
    refine r_ald0 (pc := 23) dX9_at_23 ?_
    refine r_getR (pc := 24) dX9_at_24 fl_X9_12 hK h0 ?_
    refine r_cF (pc := 27) dX9_at_27 (cf_X9_43 hg) hL.1 (ct_J2_size hL) rfl rfl (Nat.le_of_ble_eq_true rfl) (by first | decide | omega) ?_
    rintro _ _ ⟨rfl, rfl⟩
    first | refine r_icmp_geN (pc := 32) (tgt := 76) dX9_at_32 (by decide) (by omega) (by omega) (fun h32 => ?_) (fun h32 => ?_) | refine r_icmp_ge (pc := 32) (tgt := 76) dX9_at_32 (by decide) (fun h32 => ?_) (fun h32 => ?_)
    · skip
      refine r_lld2 (pc := 76) dX9_at_76 ?_
      refine r_lret (pc := 77) dX9_at_77 ?_
      exact ⟨rfl, rfl⟩
    · skip
      exact absurd h32 (by omega)
  | succ k ih =>
    intro i hi h1i
    obtain ⟨e, he1, he2, he3⟩ := hr i (by omega)
    obtain ⟨o1, o2, o3⟩ := ho i h1i (by omega)
    have hp := hb6 (i - 1) (by omega)
    have hj : b62 (jn0 (op i) (chV op r (i - 1)) (r i)) := jn0_b62 o1 o2 hp he3
    have hs : clip (jn0 (op i) (chV op r (i - 1)) (r i)) = chV op r (i + 1 - 1) := by
      rw [jn0_clip o1 o2 hp, show i + 1 - 1 = (i - 1) + 1 by omega]
      show _ = jn (op (i - 1 + 1)) (chV op r (i - 1)) (r (i - 1 + 1))
      rw [show i - 1 + 1 = i by omega]
    refine r_ild4 (pc := 21) dX9_at_21 ?_
    refine r_ald0 (pc := 23) dX9_at_23 ?_
    refine r_getR (pc := 24) dX9_at_24 fl_X9_12 hK h0 ?_
    refine r_cF (pc := 27) dX9_at_27 (cf_X9_43 hg) hL.1 (ct_J2_size hL) rfl rfl (Nat.le_of_ble_eq_true rfl) (by first | decide | omega) ?_
    rintro _ _ ⟨rfl, rfl⟩
    first | refine r_icmp_geN (pc := 32) (tgt := 76) dX9_at_32 (by decide) (by omega) (by omega) (fun h32 => ?_) (fun h32 => ?_) | refine r_icmp_ge (pc := 32) (tgt := 76) dX9_at_32 (by decide) (fun h32 => ?_) (fun h32 => ?_)
    · skip
      exact absurd h32 (by omega)
    · skip
      refine r_ald0 (pc := 35) dX9_at_35 ?_
      refine r_getR (pc := 36) dX9_at_36 fl_X9_21 hK h1 ?_
      refine r_ild4 (pc := 39) dX9_at_39 ?_
      refine r_cV (pc := 41) dX9_at_41 cv_X9_47 hB.1 (ct_J15_charAt hz hB (i := i) (by omega) o3 (sgC_lt _)) rfl rfl (Nat.le_of_ble_eq_true rfl) (by omega) ?_
      rintro _ _ ⟨rfl, rfl⟩
      refine r_lld2 (pc := 44) dX9_at_44 ?_
      refine r_ald0 (pc := 45) dX9_at_45 ?_
      refine r_getR (pc := 46) dX9_at_46 fl_X9_12 hK h0 ?_
      refine r_ild4 (pc := 49) dX9_at_49 ?_
      refine r_cF (pc := 51) dX9_at_51 (cf_X9_35 hg) hL.1 (ct_J2_get hL (i := i) (by omega) he1) rfl rfl (Nat.le_of_ble_eq_true rfl) (by first | decide | omega) ?_
      rintro _ _ ⟨rfl, rfl⟩
      refine r_cast_X9 hg rfl (pc := 56) dX9_at_56 he2 ?_
      refine r_ald1 (pc := 59) dX9_at_59 ?_
      refine r_at_X9_39 hg rfl (pc := 60) dX9_at_60 he2 (Nat.le_of_ble_eq_true rfl) (by omega) ?_
      refine r_cS (pc := 63) dX9_at_63 cs_X9_51 (ct_X9_two o1 o2 hp he3) rfl rfl (Nat.le_of_ble_eq_true rfl) (by first | decide | omega) ?_
      rintro _ _ ⟨rfl, rfl⟩
      refine r_cSN (pc := 66) dX9_at_66 (csn_X9_55 hg) (ct_X0_held hj) rfl rfl (Nat.le_of_ble_eq_true rfl) (by first | decide | omega) ?_
      rintro _ _ ⟨rfl, rfl⟩
      rw [hs]
      refine r_lst2 (pc := 69) dX9_at_69 ?_
      first | refine r_iinc4N (j := 1) (pc := 70) dX9_at_70 rfl ?_ | refine r_iinc4 (pc := 70) dX9_at_70 ?_
      refine r_goto (pc := 73) (tgt := 21) dX9_at_73 (by decide) ?_
      exact ih (i + 1) (by omega) (by omega)
theorem ct_X9_at {a m l v b w n D : Nat} {op : Nat → Nat} {r : Nat → Int} (hg : GX g) (hz : NSq g "jdk/internal/util/Preconditions" "SIOOBE_FORMATTER" "Ljava/util/function/BiFunction;") (hK : mK M a = 29) (h0 : mR M a 0 = some l) (h1 : mR M a 1 = some b) (hL : LsX M l v n) (hB : SbX M b w n) (hn : 1 ≤ n) (ho : ∀ i, 1 ≤ i → i < n → 1 ≤ op i ∧ op i ≤ 4 ∧ mI M w i = nI (sgC (op i))) (hr : ∀ i, i < n → ∃ b, mR M v i = some b ∧ AT g M D b m (.long (lI (r i))) ∧ b6 (r i)) :
    Ct g yX9_at cX9_at 5 (some .long) (D + 8) 0 0 [.ref a, .ref m] M (PQ M (.long (lI (chV op r (n - 1))))) noX := by
  obtain ⟨e, he1, he2, he3⟩ := hr 0 (by omega)
  refine Ct.of (by decide) (Nat.le_of_ble_eq_true rfl) rfl ?_
  refine r_ald0 (pc := 0) dX9_at_0 ?_
  refine r_getR (pc := 1) dX9_at_1 fl_X9_12 hK h0 ?_
  refine r_iconst (v := nI 0) (pc := 4) dX9_at_4 (by decide) ?_
  refine r_cF (pc := 5) dX9_at_5 (cf_X9_35 hg) hL.1 (ct_J2_get hL (i := 0) (by omega) he1) rfl rfl (Nat.le_of_ble_eq_true rfl) (by first | decide | omega) ?_
  rintro _ _ ⟨rfl, rfl⟩
  refine r_cast_X9 hg rfl (pc := 10) dX9_at_10 he2 ?_
  refine r_ald1 (pc := 13) dX9_at_13 ?_
  refine r_at_X9_39 hg rfl (pc := 14) dX9_at_14 he2 (Nat.le_of_ble_eq_true rfl) (by omega) ?_
  refine r_lst2 (pc := 17) dX9_at_17 ?_
  refine r_iconst (v := nI 1) (pc := 18) dX9_at_18 (by decide) ?_
  refine r_ist4 (pc := 19) dX9_at_19 ?_
  exact xchainLoop hg hz hK h0 h1 hL hB ho hr (n - 1) 1 (by omega) (by omega)
theorem ct_X13_at {a m x D k o : Nat} {r q : Int} (hg : GX g) (hK : mK M a = 33) (h0 : mI M a 0 = nI k) (h1 : mR M a 1 = some x) (h2 : mR M a 2 = some o) (hKo : mK M o = 20) (c1 : AT g M D x m (.long (lI r))) (c2 : Ct g yX0_looked cX0_looked 4 (some .long) D 0 0 [.ref o, .int (nI k), .long (lI r)] M (PQ M (.long (lI q))) noX) (hq : b62 q) :
    Ct g yX13_at cX13_at 2 (some .long) (D + 4) 0 0 [.ref a, .ref m] M (PQ M (.long (lI (clip q)))) noX := by
  refine Ct.of (by decide) (Nat.le_of_ble_eq_true rfl) rfl ?_
  refine r_ald0 (pc := 0) dX13_at_0 ?_
  refine r_getR (pc := 1) dX13_at_1 fl_X13_1 hK h2 ?_
  refine r_ald0 (pc := 4) dX13_at_4 ?_
  refine r_getI (pc := 5) dX13_at_5 fl_X13_13 hK ?_
  rw [h0]
  refine r_ald0 (pc := 8) dX13_at_8 ?_
  refine r_getR (pc := 9) dX13_at_9 fl_X13_17 hK h1 ?_
  refine r_ald1 (pc := 12) dX13_at_12 ?_
  refine r_at_X13_21 hg rfl (pc := 13) dX13_at_13 c1 (Nat.le_of_ble_eq_true rfl) (by omega) ?_
  refine r_cVN (pc := 16) dX13_at_16 (cvn_X13_25 hg) hKo c2 rfl rfl (Nat.le_of_ble_eq_true rfl) (by omega) ?_
  rintro _ _ ⟨rfl, rfl⟩
  refine r_cSN (pc := 19) dX13_at_19 (csn_X13_31 hg) (ct_X0_held hq) rfl rfl (Nat.le_of_ble_eq_true rfl) (by first | decide | omega) ?_
  rintro _ _ ⟨rfl, rfl⟩
  refine r_lret (pc := 22) dX13_at_22 ?_
  exact ⟨rfl, rfl⟩
end X15
