set_option maxRecDepth 100000
section Rows8
variable {g : GC} {y : MethodName} {cc : ByteArray} {nL : Nat} {rt : Option FieldType} {hh : List (Nat × Nat × Nat × Nat)} {d kc ks : Nat} {M : MM} {pc : Nat} {lv : List (Option Value)} {st : List Value} {Q : Option Value → MM → Prop} {X : Nat → MM → Prop}
theorem r_if_eqZ {p : Prop} [Decidable p] {off : Int} {tgt : Nat} (hd : decode cc pc = .ok (.ifCond .eq off, 3)) (ht : (pc : Int) + off = (tgt : Int)) (kt : ¬ p → Bd g y cc nL rt hh d kc ks M tgt lv st Q X) (kf : p → Bd g y cc nL rt hh d kc ks M (pc + 3) lv st Q X) : Bd g y cc nL rt hh d kc ks M pc lv (.int (zI p) :: st) Q X := r_if_eq hd ht (fun h => kt (zI_eq0.mp h)) (fun h => kf (zI_ne0.mp h))
theorem r_if_neZ {p : Prop} [Decidable p] {off : Int} {tgt : Nat} (hd : decode cc pc = .ok (.ifCond .ne off, 3)) (ht : (pc : Int) + off = (tgt : Int)) (kt : p → Bd g y cc nL rt hh d kc ks M tgt lv st Q X) (kf : ¬ p → Bd g y cc nL rt hh d kc ks M (pc + 3) lv st Q X) : Bd g y cc nL rt hh d kc ks M pc lv (.int (zI p) :: st) Q X := r_if_ne hd ht (fun h => kt (zI_ne0.mp h)) (fun h => kf (zI_eq0.mp h))
theorem lg_cmp_eq0 (x z : Int64) : lg_cmp x z = 0 ↔ x = z := by
  unfold lg_cmp
  by_cases h : x > z
  · rw [if_pos h]
    constructor
    · intro q; exact absurd q (by decide)
    · intro q; subst q; exact absurd h (Int64.lt_irrefl)
  · rw [if_neg h]
    by_cases h2 : x = z
    · simp [h2]
    · rw [if_neg h2]
      constructor
      · intro q; exact absurd q (by decide)
      · intro q; exact absurd q h2
theorem r_if_ltC {x z : Int64} {off : Int} {tgt : Nat} (hd : decode cc pc = .ok (.ifCond .lt off, 3)) (ht : (pc : Int) + off = (tgt : Int)) (kt : x < z → Bd g y cc nL rt hh d kc ks M tgt lv st Q X) (kf : ¬ x < z → Bd g y cc nL rt hh d kc ks M (pc + 3) lv st Q X) : Bd g y cc nL rt hh d kc ks M pc lv (.int (lg_cmp x z) :: st) Q X := r_if_lt hd ht (fun h => kt ((lg_cmp_lt x z).mp h)) (fun h => kf (fun q => h ((lg_cmp_lt x z).mpr q)))
theorem r_if_geC {x z : Int64} {off : Int} {tgt : Nat} (hd : decode cc pc = .ok (.ifCond .ge off, 3)) (ht : (pc : Int) + off = (tgt : Int)) (kt : z ≤ x → Bd g y cc nL rt hh d kc ks M tgt lv st Q X) (kf : ¬ z ≤ x → Bd g y cc nL rt hh d kc ks M (pc + 3) lv st Q X) : Bd g y cc nL rt hh d kc ks M pc lv (.int (lg_cmp x z) :: st) Q X := r_if_ge hd ht (fun h => kt ((lg_cmp_ge x z).mp h)) (fun h => kf (fun q => h ((lg_cmp_ge x z).mpr q)))
theorem r_if_gtC {x z : Int64} {off : Int} {tgt : Nat} (hd : decode cc pc = .ok (.ifCond .gt off, 3)) (ht : (pc : Int) + off = (tgt : Int)) (kt : z < x → Bd g y cc nL rt hh d kc ks M tgt lv st Q X) (kf : ¬ z < x → Bd g y cc nL rt hh d kc ks M (pc + 3) lv st Q X) : Bd g y cc nL rt hh d kc ks M pc lv (.int (lg_cmp x z) :: st) Q X := r_if_gt hd ht (fun h => kt ((lg_cmp_gt x z).mp h)) (fun h => kf (fun q => h ((lg_cmp_gt x z).mpr q)))
theorem r_if_leC {x z : Int64} {off : Int} {tgt : Nat} (hd : decode cc pc = .ok (.ifCond .le off, 3)) (ht : (pc : Int) + off = (tgt : Int)) (kt : x ≤ z → Bd g y cc nL rt hh d kc ks M tgt lv st Q X) (kf : ¬ x ≤ z → Bd g y cc nL rt hh d kc ks M (pc + 3) lv st Q X) : Bd g y cc nL rt hh d kc ks M pc lv (.int (lg_cmp x z) :: st) Q X := r_if_le hd ht (fun h => kt ((lg_cmp_le x z).mp h)) (fun h => kf (fun q => h ((lg_cmp_le x z).mpr q)))
theorem r_if_eqC {x z : Int64} {off : Int} {tgt : Nat} (hd : decode cc pc = .ok (.ifCond .eq off, 3)) (ht : (pc : Int) + off = (tgt : Int)) (kt : x = z → Bd g y cc nL rt hh d kc ks M tgt lv st Q X) (kf : ¬ x = z → Bd g y cc nL rt hh d kc ks M (pc + 3) lv st Q X) : Bd g y cc nL rt hh d kc ks M pc lv (.int (lg_cmp x z) :: st) Q X := r_if_eq hd ht (fun h => kt ((lg_cmp_eq0 x z).mp h)) (fun h => kf (fun q => h ((lg_cmp_eq0 x z).mpr q)))
theorem r_if_neC {x z : Int64} {off : Int} {tgt : Nat} (hd : decode cc pc = .ok (.ifCond .ne off, 3)) (ht : (pc : Int) + off = (tgt : Int)) (kt : ¬ x = z → Bd g y cc nL rt hh d kc ks M tgt lv st Q X) (kf : x = z → Bd g y cc nL rt hh d kc ks M (pc + 3) lv st Q X) : Bd g y cc nL rt hh d kc ks M pc lv (.int (lg_cmp x z) :: st) Q X := r_if_ne hd ht (fun h => kt (fun q => h ((lg_cmp_eq0 x z).mpr q))) (fun h => kf ((lg_cmp_eq0 x z).mp h))
theorem nI_z0 {a : Nat} (ha : a < 2147483648) : nI a = 0 ↔ a = 0 := by
  rw [← nI_0]; exact nI_eq ha (by decide)
theorem nI_z1 {a : Nat} (ha : a < 2147483648) (h : (0 : Int32) < nI a) : 0 < a := by
  rw [← nI_0] at h; exact (nI_ltI (by decide) ha).mp h
theorem nI_z2 {a : Nat} (ha : a < 2147483648) (h : ¬ (0 : Int32) < nI a) : a = 0 := by
  rw [← nI_0] at h
  have := mt (nI_ltI (a := 0) (b := a) (by decide) ha).mpr h
  omega
theorem nI_z3 {a : Nat} (ha : a < 2147483648) (h : nI a ≤ 0) : a = 0 := by
  rw [← nI_0] at h; have := (nI_leI ha (by decide)).mp h; omega
theorem nI_z4 {a : Nat} (ha : a < 2147483648) (h : ¬ nI a ≤ 0) : 0 < a := by
  rw [← nI_0] at h
  have := mt (nI_leI (a := a) (b := 0) ha (by decide)).mpr h
  omega
theorem r_if_eqN {a : Nat} {off : Int} {tgt : Nat} (hd : decode cc pc = .ok (.ifCond .eq off, 3)) (ht : (pc : Int) + off = (tgt : Int)) (ha : a < 2147483648) (kt : a = 0 → Bd g y cc nL rt hh d kc ks M tgt lv st Q X) (kf : a ≠ 0 → Bd g y cc nL rt hh d kc ks M (pc + 3) lv st Q X) : Bd g y cc nL rt hh d kc ks M pc lv (.int (nI a) :: st) Q X := r_if_eq hd ht (fun h => kt ((nI_z0 ha).mp h)) (fun h => kf (fun q => h ((nI_z0 ha).mpr q)))
theorem r_if_neN {a : Nat} {off : Int} {tgt : Nat} (hd : decode cc pc = .ok (.ifCond .ne off, 3)) (ht : (pc : Int) + off = (tgt : Int)) (ha : a < 2147483648) (kt : a ≠ 0 → Bd g y cc nL rt hh d kc ks M tgt lv st Q X) (kf : a = 0 → Bd g y cc nL rt hh d kc ks M (pc + 3) lv st Q X) : Bd g y cc nL rt hh d kc ks M pc lv (.int (nI a) :: st) Q X := r_if_ne hd ht (fun h => kt (fun q => h ((nI_z0 ha).mpr q))) (fun h => kf ((nI_z0 ha).mp h))
theorem r_if_gtN {a : Nat} {off : Int} {tgt : Nat} (hd : decode cc pc = .ok (.ifCond .gt off, 3)) (ht : (pc : Int) + off = (tgt : Int)) (ha : a < 2147483648) (kt : 0 < a → Bd g y cc nL rt hh d kc ks M tgt lv st Q X) (kf : a = 0 → Bd g y cc nL rt hh d kc ks M (pc + 3) lv st Q X) : Bd g y cc nL rt hh d kc ks M pc lv (.int (nI a) :: st) Q X := r_if_gt hd ht (fun h => kt (nI_z1 ha h)) (fun h => kf (nI_z2 ha h))
theorem r_if_leN {a : Nat} {off : Int} {tgt : Nat} (hd : decode cc pc = .ok (.ifCond .le off, 3)) (ht : (pc : Int) + off = (tgt : Int)) (ha : a < 2147483648) (kt : a = 0 → Bd g y cc nL rt hh d kc ks M tgt lv st Q X) (kf : 0 < a → Bd g y cc nL rt hh d kc ks M (pc + 3) lv st Q X) : Bd g y cc nL rt hh d kc ks M pc lv (.int (nI a) :: st) Q X := r_if_le hd ht (fun h => kt (nI_z3 ha h)) (fun h => kf (nI_z4 ha h))
end Rows8
/-- a reader's end: the answer v, the memory as it was -/
def PQ (M1 : MM) (v : Value) : Option Value → MM → Prop := fun r M' => r = some v ∧ M' = M1
/-- no answer, the memory M1 -/
def VQ (M1 : MM) : Option Value → MM → Prop := fun r M' => r = none ∧ M' = M1
/-- the first place from i on, k places far, where f holds -/
def ff (f : Nat → Bool) : Nat → Nat → Option Nat
  | 0, _ => none
  | k + 1, i => if f i then some i else ff f k (i + 1)
theorem ff_lt {f : Nat → Bool} : ∀ {k i j : Nat}, ff f k i = some j → i ≤ j ∧ j < i + k ∧ f j = true
  | 0, i, j, h => by simp [ff] at h
  | k + 1, i, j, h => by
    unfold ff at h
    split at h
    · next hf => cases h; exact ⟨Nat.le_refl _, by omega, hf⟩
    · obtain ⟨h1, h2, h3⟩ := ff_lt h; exact ⟨by omega, by omega, h3⟩
