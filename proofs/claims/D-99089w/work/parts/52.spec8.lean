set_option maxRecDepth 100000
/-! SPEC 8: what is seen -/
def asE (t : St) (y : Nat) (e : Ev) : Bool := !(e.1 == y && (decide (999 < yr t) || lk t e.2.1 != e.2.2))
def asSeen (rw : List Ev) (t : St) (y : Nat) : Bool := rw.all (asE t y)
/-- all is as seen in the years below n -/
def seenN (rw : List Ev) (T : Te) (t : St) : Nat → Bool
  | 0 => true
  | n + 1 => seenN rw T t n && asSeen rw (yearsS T n t).1 n
def setS (f : Nat → Bool) : Nat → Nat
  | 0 => 0
  | n + 1 => setS f n + if f n then 2 ^ n else 0
theorem setS_lt (f : Nat → Bool) : ∀ n, setS f n < 2 ^ n
  | 0 => Nat.one_pos
  | n + 1 => by have := setS_lt f n; have e : 2 ^ (n + 1) = 2 * 2 ^ n := by rw [Nat.pow_succ, Nat.mul_comm]
                unfold setS; split <;> omega
theorem ior_all : ∀ v, v < 10 → ∀ x, x < 2 ^ v → nI x ||| nI (2 ^ v) = nI (x + 2 ^ v) := by decide +kernel
theorem shl_all2 : ∀ p, p < 10 → nI 1 <<< (nI p &&& 31) = nI (2 ^ p) := by decide +kernel
theorem pow_le2 : ∀ n, n < 11 → 2 ^ n ≤ 1024 := by decide
def alikeS (f : Nat → Bool) (w : Nat → Nat → Nat) (y a : Nat) : Nat := cnt (fun b => f b && w a y == w b y) 10
def mostS (f : Nat → Bool) (w : Nat → Nat → Nat) (y : Nat) : Nat → Nat
  | 0 => 0
  | n + 1 => if f n = true ∧ mostS f w y n < alikeS f w y n then alikeS f w y n else mostS f w y n
theorem mostS_le {f : Nat → Bool} {w : Nat → Nat → Nat} {y : Nat} : ∀ n, mostS f w y n ≤ 10
  | 0 => Nat.zero_le _
  | n + 1 => by
    have := mostS_le (f := f) (w := w) (y := y) n
    have h2 : alikeS f w y n ≤ 10 := cnt_le _ 10
    unfold mostS; split <;> omega
def tellS (m : Nat → Nat) : Nat → Nat → Option (Nat × Nat) → Option (Nat × Nat)
  | 0, _, x => x
  | k + 1, y, x => tellS m k (y + 1) (match x with
    | none => some (y, m y)
    | some z => if m y < z.2 then some (y, m y) else some z)
def thF (q : Sg) (p r v : Nat) : Bool := seenN (gRw q) (gT q) (sTh (gS q) p r v) 31
def thW (q : Sg) (p r v y : Nat) : Nat := lk (yearsS (gT q) y (sTh (gS q) p r v)).1 r
def sFa (T : Te) (p v : Nat) : Te := (tH T, tn T, va_up (fa T) p v, ki T, cd T, sl T, nms T)
def faF (q : Sg) (p v : Nat) : Bool := seenN (gRw q) (sFa (gT q) p v) (gS q) 31
def thoughtsQ (q : Sg) (a b : Int32) : Int32 := match twoS (tn (gT q)) a b with
  | none => -1
  | some z => nI (setS (thF q z.1 z.2) 10)
def facesQ (q : Sg) (a : Int32) : Int32 := match pidx a (tn (gT q)) with
  | none => -1
  | some p => nI (setS (faF q p) 10)
def tellsN (q : Sg) (p r v : Nat) : Int32 := if cnt (thF q p r) 10 = 0 then -1 else strR v (tellS (fun y => mostS (thF q p r) (thW q p r) y 10) (min 30 (999 - yr (gS q))) 1 none)
def tellsQ (q : Sg) (a b c : Int32) : Int32 := match twoS (tn (gT q)) a b, pidx c 2 with
  | some z, some v => tellsN q z.1 z.2 v
  | _, _ => -1
/-- rows out of the tape -/
def rowsOf (f : Nat → Nat) : Nat → List Ev
  | 0 => []
  | n + 1 => rowsOf f n ++ [(f (3 * n), f (3 * n + 1), f (3 * n + 2))]
def okRow (n : Nat) (e : Ev) : Bool := decide (e.1 ≤ 30) && decide (e.2.1 < n) && decide (e.2.2 ≤ 99)
def seeQ (q : Sg) : Int32 × Sg := if 0 < gTd q ∧ gTd q % 3 = 0 ∧ gTd q / 3 ≤ 16 ∧ (rowsOf (gTp q) (gTd q / 3)).all (okRow (tn (gT q))) then (nI (gTd q / 3), uRw (uTp q (gTp q) 0) (rowsOf (gTp q) (gTd q / 3))) else (-1, uRf (uTp q (gTp q) 0) 1)
