set_option maxRecDepth 100000
/-! SPEC 7: sets of people as bits -/
def hb (x p : Nat) : Nat := x / 2 ^ p % 2
def flp (x p : Nat) : Nat := if hb x p = 1 then x - 2 ^ p else x + 2 ^ p
def bc (x : Nat) : Nat := hb x 0 + hb x 1 + hb x 2 + hb x 3 + hb x 4 + hb x 5 + hb x 6 + hb x 7
def dn (x : Nat) : Nat := x &&& (x - 1)
theorem dn_all : ∀ x, x < 256 → x ≠ 0 → dn x < x ∧ bc (dn x) + 1 = bc x ∧ nI x &&& nI (x - 1) = nI (dn x) := by decide +kernel
theorem bc_le : ∀ x, x < 256 → bc x ≤ 8 := by decide +kernel
theorem shr_all : ∀ x, x < 256 → ∀ p, p < 8 → (nI x >>> (nI p &&& 31)) &&& nI 1 = nI (hb x p) := by decide +kernel
theorem shl_all : ∀ p, p < 9 → nI 1 <<< (nI p &&& 31) = nI (2 ^ p) := by decide +kernel
theorem xor_all : ∀ x, x < 256 → ∀ p, p < 8 → nI x ^^^ nI (2 ^ p) = nI (flp x p) := by decide +kernel
theorem flp_lt : ∀ n, n < 9 → ∀ x, x < 2 ^ n → ∀ p, p < n → flp x p < 2 ^ n := by decide +kernel
theorem pow_le : ∀ n, n < 9 → 2 ^ n ≤ 256 := by decide
/-- of sets x below m the first with fewest members that is ok -/
def fewS (f : Nat → Bool) : Nat → Nat → Option Nat → Option Nat
  | 0, _, b => b
  | k + 1, x, b => fewS f k (x + 1) (match b with
    | none => if f x then some x else none
    | some y => if bc x < bc y ∧ f x then some x else some y)
def peaceS (T : Te) (t : St) (x h : Nat) : Bool := match who t (tn T) h, who t (tn T) (h + 1) with
  | some a, some b => !(feudS T t a b && hb x a == 0 && hb x b == 0)
  | _, _ => true
def peacesS (T : Te) (t : St) (x : Nat) : Nat → Nat → Bool
  | 0, _ => true
  | k + 1, h => peaceS T t x h && peacesS T t x k (h + 1)
def partedQ (q : Sg) : Int32 := oI (fewS (fun x => peacesS (gT q) (gS q) x (tH (gT q) - 1) 0) (2 ^ tn (gT q)) 0 none)
def spsS (t : St) (x : Nat) : St := (yr t, hs t, lk t, fun p => hb x p, th t)
def thenS (T : Te) (t : St) (m x p : Nat) : Nat := lk (yearsS T m (spsS t x)).1 p
def restS (f : Nat → Nat → Nat) (n x : Nat) : Bool := (List.range n).all (fun p => decide (f (flp x p) p ≤ f x p))
def restQ (q : Sg) (y : Int32) : Int32 := if gIt q = true then (match ahd (gS q) y 1 20 with
  | none => -1
  | some m => oI (fewS (restS (thenS (gT q) (gS q) m) (tn (gT q))) (2 ^ tn (gT q)) 0 none)) else -1
