set_option maxRecDepth 100000
/-! SPEC 3: small counts -/
def cnt (f : Nat → Bool) : Nat → Nat
  | 0 => 0
  | n + 1 => cnt f n + (if f n then 1 else 0)
def sumN (f : Nat → Nat) : Nat → Nat
  | 0 => 0
  | n + 1 => sumN f n + f n
theorem cnt_le (f : Nat → Bool) : ∀ n, cnt f n ≤ n
  | 0 => Nat.le_refl _
  | n + 1 => by have := cnt_le f n; unfold cnt; split <;> omega
theorem sumN_le {f : Nat → Nat} {b : Nat} : ∀ n, (∀ i, i < n → f i ≤ b) → sumN f n ≤ n * b
  | 0, _ => by simp [sumN]
  | n + 1, h => by have := sumN_le n (fun i hi => h i (by omega)); have := h n (by omega); unfold sumN; rw [Nat.succ_mul]; omega
theorem cnt_congr {f f' : Nat → Bool} : ∀ n, (∀ i, i < n → f i = f' i) → cnt f n = cnt f' n
  | 0, _ => rfl
  | n + 1, h => by unfold cnt; rw [cnt_congr n (fun i hi => h i (by omega)), h n (by omega)]
theorem sumN_congr {f f' : Nat → Nat} : ∀ n, (∀ i, i < n → f i = f' i) → sumN f n = sumN f' n
  | 0, _ => rfl
  | n + 1, h => by unfold sumN; rw [sumN_congr n (fun i hi => h i (by omega)), h n (by omega)]
/-- an int as a place below n -/
def pidx (x : Int32) (n : Nat) : Option Nat := if 0 ≤ x.toInt ∧ x.toInt < n then some x.toInt.toNat else none
theorem pidx_some {x : Int32} {n p : Nat} (h : pidx x n = some p) : p < n ∧ x = nI p := by
  unfold pidx at h
  split at h
  · next hc =>
    cases h
    refine ⟨by omega, ?_⟩
    rw [nI_iI, Int.toNat_of_nonneg hc.1]
    exact iI_of x
  · cases h
theorem pidx_none {x : Int32} {n : Nat} (h : pidx x n = none) : ¬ (0 ≤ x.toInt ∧ x.toInt < n) := by
  unfold pidx at h
  split at h
  · cases h
  · assumption
theorem pidx_nI {n p : Nat} (h : p < n) (h2 : p < 2147483648) : pidx (nI p) n = some p := by
  unfold pidx
  rw [nI_toInt h2, if_pos (by omega)]
  simp
/-- a feud at a house and the next: none if not both are lived in -/
def feudAtS (T : Te) (t : St) (h : Nat) : Option Bool := match who t (tn T) h, who t (tn T) (h + 1) with
  | some a, some b => some (feudS T t a b)
  | _, _ => none
def fI (o : Option Bool) : Int32 := match o with
  | none => -1
  | some true => 1
  | some false => 0
def looksS (T : Te) (t : St) : Nat := sumN (lk t) (tn T)
