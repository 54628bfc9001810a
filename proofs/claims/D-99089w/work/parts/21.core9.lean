set_option maxRecDepth 100000
/-! longs and ints by whole numbers -/
def lI (v : Int) : Int64 := Int64.ofInt v
def iI (v : Int) : Int32 := Int32.ofInt v
abbrev b62 (v : Int) : Prop := -4611686018427387904 ≤ v ∧ v ≤ 4611686018427387904
abbrev b31 (v : Int) : Prop := -2147483648 ≤ v ∧ v ≤ 2147483647
theorem lI_T {v : Int} (h : b62 v) : (lI v).toInt = v := Int64.toInt_ofInt_of_le (by have := h.1; omega) (by have := h.2; omega)
theorem iI_T {v : Int} (h : b31 v) : (iI v).toInt = v := Int32.toInt_ofInt_of_le (by have := h.1; omega) (by have := h.2; omega)
theorem lI_add (a b : Int) : lI a + lI b = lI (a + b) := (Int64.ofInt_add a b).symm
theorem lI_sub (a b : Int) : lI a - lI b = lI (a - b) := (Int64.ofInt_sub a b).symm
theorem lI_mul (a b : Int) : lI a * lI b = lI (a * b) := (Int64.ofInt_mul a b).symm
theorem lI_lt {a b : Int} (ha : b62 a) (hb : b62 b) : lI a < lI b ↔ a < b := by rw [Int64.lt_iff_toInt_lt, lI_T ha, lI_T hb]
theorem lI_le {a b : Int} (ha : b62 a) (hb : b62 b) : lI a ≤ lI b ↔ a ≤ b := by rw [Int64.le_iff_toInt_le, lI_T ha, lI_T hb]
theorem lI_eq {a b : Int} (ha : b62 a) (hb : b62 b) : lI a = lI b ↔ a = b := by rw [← Int64.toInt_inj, lI_T ha, lI_T hb]
theorem tdiv_b {a b : Int} (ha : b62 a) : b62 (a.tdiv b) := by
  have h : (a.tdiv b).natAbs ≤ a.natAbs := by rw [Int.natAbs_tdiv]; exact Nat.div_le_self _ _
  obtain ⟨h1, h2⟩ := ha
  constructor <;> omega
theorem lI_div {a b : Int} (ha : b62 a) (hb : b62 b) : lI a / lI b = lI (a.tdiv b) := by
  apply Int64.toInt_inj.mp
  rw [Int64.toInt_div_of_ne_left _ _ ?_, lI_T ha, lI_T hb, lI_T (tdiv_b ha)]
  intro h
  have := congrArg Int64.toInt h
  rw [lI_T ha, Int64.toInt_minValue] at this
  have := ha.1
  omega
theorem lI_rem {a b : Int} (ha : b62 a) (hb : b62 b) : lI a - lI a / lI b * lI b = lI (a.tmod b) := by
  rw [lI_div ha hb, lI_mul, lI_sub]
  congr 1
  have := Int.tmod_add_tdiv_mul a b
  omega
theorem nI_iI (n : Nat) : nI n = iI n := by
  show Int32.ofNat n = Int32.ofInt (n : Int)
  exact (Int32.ofInt_eq_ofNat).symm
theorem iI_add (a b : Int) : iI a + iI b = iI (a + b) := (Int32.ofInt_add a b).symm
theorem iI_sub (a b : Int) : iI a - iI b = iI (a - b) := (Int32.ofInt_sub a b).symm
theorem iI_mul (a b : Int) : iI a * iI b = iI (a * b) := (Int32.ofInt_mul a b).symm
theorem iI_lt {a b : Int} (ha : b31 a) (hb : b31 b) : iI a < iI b ↔ a < b := by rw [Int32.lt_iff_toInt_lt, iI_T ha, iI_T hb]
theorem iI_le {a b : Int} (ha : b31 a) (hb : b31 b) : iI a ≤ iI b ↔ a ≤ b := by rw [Int32.le_iff_toInt_le, iI_T ha, iI_T hb]
theorem iI_eq {a b : Int} (ha : b31 a) (hb : b31 b) : iI a = iI b ↔ a = b := by rw [← Int32.toInt_inj, iI_T ha, iI_T hb]
theorem i2l_T (x : Int32) : x.toInt64 = lI x.toInt := by
  apply Int64.toInt_inj.mp
  rw [Int32.toInt_toInt64, lI_T]
  have h1 := x.toInt_lt
  have h2 := x.le_toInt
  constructor <;> omega
theorem iI_l {v : Int} (h : b31 v) : (iI v).toInt64 = lI v := by rw [i2l_T, iI_T h]
theorem nI_lI {n : Nat} (h : n < 2147483648) : (nI n).toInt64 = lI n := by rw [nI_iI]; exact iI_l ⟨by omega, by omega⟩
theorem iI_of (x : Int32) : x = iI x.toInt := (Int32.ofInt_toInt x).symm
theorem b31_of (x : Int32) : b31 x.toInt := by
  have h1 := x.toInt_lt
  have h2 := x.le_toInt
  constructor <;> omega
theorem lI_i (v : Int) : (lI v).toInt32 = iI v := by
  show (Int64.ofInt v).toInt32 = Int32.ofInt v
  simp
theorem lI_n {n : Nat} : (lI n).toInt32 = nI n := by rw [lI_i, nI_iI]

section Rows9
variable {g : GC} {y : MethodName} {cc : ByteArray} {nL : Nat} {rt : Option FieldType} {hh : List (Nat × Nat × Nat × Nat)} {d kc ks : Nat} {M : MM} {pc : Nat} {lv : List (Option Value)} {st : List Value} {Q : Option Value → MM → Prop} {X : Nat → MM → Prop}
theorem r_laddI {a b : Int} (hd : decode cc pc = .ok (.ladd, 1)) (k : Bd g y cc nL rt hh d kc ks M (pc + 1) lv (.long (lI (a + b)) :: st) Q X) : Bd g y cc nL rt hh d kc ks M pc lv (.long (lI b) :: .long (lI a) :: st) Q X := r_ladd hd (Bd.eqL (lI_add a b) k)
theorem r_lsubI {a b : Int} (hd : decode cc pc = .ok (.lsub, 1)) (k : Bd g y cc nL rt hh d kc ks M (pc + 1) lv (.long (lI (a - b)) :: st) Q X) : Bd g y cc nL rt hh d kc ks M pc lv (.long (lI b) :: .long (lI a) :: st) Q X := r_lsub hd (Bd.eqL (lI_sub a b) k)
theorem r_lmulI {a b : Int} (hd : decode cc pc = .ok (.lmul, 1)) (k : Bd g y cc nL rt hh d kc ks M (pc + 1) lv (.long (lI (a * b)) :: st) Q X) : Bd g y cc nL rt hh d kc ks M pc lv (.long (lI b) :: .long (lI a) :: st) Q X := r_lmul hd (Bd.eqL (lI_mul a b) k)
theorem r_iaddJ {a b : Int} (hd : decode cc pc = .ok (.iadd, 1)) (k : Bd g y cc nL rt hh d kc ks M (pc + 1) lv (.int (iI (a + b)) :: st) Q X) : Bd g y cc nL rt hh d kc ks M pc lv (.int (iI b) :: .int (iI a) :: st) Q X := r_iadd hd (Bd.eqI (iI_add a b) k)
theorem r_isubJ {a b : Int} (hd : decode cc pc = .ok (.isub, 1)) (k : Bd g y cc nL rt hh d kc ks M (pc + 1) lv (.int (iI (a - b)) :: st) Q X) : Bd g y cc nL rt hh d kc ks M pc lv (.int (iI b) :: .int (iI a) :: st) Q X := r_isub hd (Bd.eqI (iI_sub a b) k)
theorem r_imulJ {a b : Int} (hd : decode cc pc = .ok (.imul, 1)) (k : Bd g y cc nL rt hh d kc ks M (pc + 1) lv (.int (iI (a * b)) :: st) Q X) : Bd g y cc nL rt hh d kc ks M pc lv (.int (iI b) :: .int (iI a) :: st) Q X := r_imul hd (Bd.eqI (iI_mul a b) k)
theorem r_isubM {a b : Nat} (hd : decode cc pc = .ok (.isub, 1)) (k : Bd g y cc nL rt hh d kc ks M (pc + 1) lv (.int (iI ((a : Int) - (b : Int))) :: st) Q X) : Bd g y cc nL rt hh d kc ks M pc lv (.int (nI b) :: .int (nI a) :: st) Q X := r_isub hd (Bd.eqI (by rw [nI_iI, nI_iI]; exact iI_sub a b) k)
theorem r_ldivI {a b : Int} (hd : decode cc pc = .ok (.ldiv, 1)) (hz : b ≠ 0) (ha : b62 a) (hb : b62 b) (k : Bd g y cc nL rt hh d kc ks M (pc + 1) lv (.long (lI (a.tdiv b)) :: st) Q X) : Bd g y cc nL rt hh d kc ks M pc lv (.long (lI b) :: .long (lI a) :: st) Q X := r_ldiv hd (fun h => hz ((lI_eq hb (by constructor <;> decide)).mp (show lI b = lI 0 from h))) (Bd.eqL (lI_div ha hb) k)
theorem r_lremI {a b : Int} (hd : decode cc pc = .ok (.lrem, 1)) (hz : b ≠ 0) (ha : b62 a) (hb : b62 b) (k : Bd g y cc nL rt hh d kc ks M (pc + 1) lv (.long (lI (a.tmod b)) :: st) Q X) : Bd g y cc nL rt hh d kc ks M pc lv (.long (lI b) :: .long (lI a) :: st) Q X := r_lrem hd (fun h => hz ((lI_eq hb (by constructor <;> decide)).mp (show lI b = lI 0 from h))) (Bd.eqL (lI_rem ha hb) k)
theorem r_i2lM {a : Nat} (hd : decode cc pc = .ok (.i2l, 1)) (h : a < 2147483648) (k : Bd g y cc nL rt hh d kc ks M (pc + 1) lv (.long (lI (a : Int)) :: st) Q X) : Bd g y cc nL rt hh d kc ks M pc lv (.int (nI a) :: st) Q X := r_i2l hd (Bd.eqL (nI_lI h) k)
theorem r_i2lI {a : Int} (hd : decode cc pc = .ok (.i2l, 1)) (h : b31 a) (k : Bd g y cc nL rt hh d kc ks M (pc + 1) lv (.long (lI a) :: st) Q X) : Bd g y cc nL rt hh d kc ks M pc lv (.int (iI a) :: st) Q X := r_i2l hd (Bd.eqL (iI_l h) k)
theorem r_i2lT {x : Int32} (hd : decode cc pc = .ok (.i2l, 1)) (k : Bd g y cc nL rt hh d kc ks M (pc + 1) lv (.long (lI x.toInt) :: st) Q X) : Bd g y cc nL rt hh d kc ks M pc lv (.int x :: st) Q X := r_i2l hd (Bd.eqL (i2l_T x) k)
theorem r_l2iI {a : Int} (hd : decode cc pc = .ok (.l2i, 1)) (k : Bd g y cc nL rt hh d kc ks M (pc + 1) lv (.int (iI a) :: st) Q X) : Bd g y cc nL rt hh d kc ks M pc lv (.long (lI a) :: st) Q X := r_l2i hd (Bd.eqI (lI_i a) k)
theorem r_l2iN {a : Nat} (hd : decode cc pc = .ok (.l2i, 1)) (k : Bd g y cc nL rt hh d kc ks M (pc + 1) lv (.int (nI a) :: st) Q X) : Bd g y cc nL rt hh d kc ks M pc lv (.long (lI (a : Int)) :: st) Q X := r_l2i hd (Bd.eqI lI_n k)
theorem r_if_ltCI {x z : Int} {off : Int} {tgt : Nat} (hd : decode cc pc = .ok (.ifCond .lt off, 3)) (ht : (pc : Int) + off = (tgt : Int)) (hx : b62 x) (hz : b62 z) (kt : x < z → Bd g y cc nL rt hh d kc ks M tgt lv st Q X) (kf : ¬ (x < z) → Bd g y cc nL rt hh d kc ks M (pc + 3) lv st Q X) : Bd g y cc nL rt hh d kc ks M pc lv (.int (lg_cmp (lI x) (lI z)) :: st) Q X := r_if_ltC hd ht (fun h => kt ((lI_lt hx hz).mp h)) (fun h => kf (fun q => h ((lI_lt hx hz).mpr q)))
theorem r_if_geCI {x z : Int} {off : Int} {tgt : Nat} (hd : decode cc pc = .ok (.ifCond .ge off, 3)) (ht : (pc : Int) + off = (tgt : Int)) (hx : b62 x) (hz : b62 z) (kt : z ≤ x → Bd g y cc nL rt hh d kc ks M tgt lv st Q X) (kf : ¬ (z ≤ x) → Bd g y cc nL rt hh d kc ks M (pc + 3) lv st Q X) : Bd g y cc nL rt hh d kc ks M pc lv (.int (lg_cmp (lI x) (lI z)) :: st) Q X := r_if_geC hd ht (fun h => kt ((lI_le hz hx).mp h)) (fun h => kf (fun q => h ((lI_le hz hx).mpr q)))
theorem r_if_gtCI {x z : Int} {off : Int} {tgt : Nat} (hd : decode cc pc = .ok (.ifCond .gt off, 3)) (ht : (pc : Int) + off = (tgt : Int)) (hx : b62 x) (hz : b62 z) (kt : z < x → Bd g y cc nL rt hh d kc ks M tgt lv st Q X) (kf : ¬ (z < x) → Bd g y cc nL rt hh d kc ks M (pc + 3) lv st Q X) : Bd g y cc nL rt hh d kc ks M pc lv (.int (lg_cmp (lI x) (lI z)) :: st) Q X := r_if_gtC hd ht (fun h => kt ((lI_lt hz hx).mp h)) (fun h => kf (fun q => h ((lI_lt hz hx).mpr q)))
theorem r_if_leCI {x z : Int} {off : Int} {tgt : Nat} (hd : decode cc pc = .ok (.ifCond .le off, 3)) (ht : (pc : Int) + off = (tgt : Int)) (hx : b62 x) (hz : b62 z) (kt : x ≤ z → Bd g y cc nL rt hh d kc ks M tgt lv st Q X) (kf : ¬ (x ≤ z) → Bd g y cc nL rt hh d kc ks M (pc + 3) lv st Q X) : Bd g y cc nL rt hh d kc ks M pc lv (.int (lg_cmp (lI x) (lI z)) :: st) Q X := r_if_leC hd ht (fun h => kt ((lI_le hx hz).mp h)) (fun h => kf (fun q => h ((lI_le hx hz).mpr q)))
theorem r_if_eqCI {x z : Int} {off : Int} {tgt : Nat} (hd : decode cc pc = .ok (.ifCond .eq off, 3)) (ht : (pc : Int) + off = (tgt : Int)) (hx : b62 x) (hz : b62 z) (kt : x = z → Bd g y cc nL rt hh d kc ks M tgt lv st Q X) (kf : ¬ (x = z) → Bd g y cc nL rt hh d kc ks M (pc + 3) lv st Q X) : Bd g y cc nL rt hh d kc ks M pc lv (.int (lg_cmp (lI x) (lI z)) :: st) Q X := r_if_eqC hd ht (fun h => kt ((lI_eq hx hz).mp h)) (fun h => kf (fun q => h ((lI_eq hx hz).mpr q)))
theorem r_if_neCI {x z : Int} {off : Int} {tgt : Nat} (hd : decode cc pc = .ok (.ifCond .ne off, 3)) (ht : (pc : Int) + off = (tgt : Int)) (hx : b62 x) (hz : b62 z) (kt : x ≠ z → Bd g y cc nL rt hh d kc ks M tgt lv st Q X) (kf : x = z → Bd g y cc nL rt hh d kc ks M (pc + 3) lv st Q X) : Bd g y cc nL rt hh d kc ks M pc lv (.int (lg_cmp (lI x) (lI z)) :: st) Q X := r_if_neC hd ht (fun h => kt (fun q => h ((lI_eq hx hz).mpr q))) (fun h => kf ((lI_eq hx hz).mp h))
end Rows9
