set_option maxRecDepth 100000
/-! SPEC 11: reading, byte by byte -/
def blk (c : Nat) : Bool := c == 10 || c == 32
def ltr (c : Nat) : Bool := decide (97 ≤ c) && decide (c ≤ 122)
def dgt (c : Nat) : Bool := decide (48 ≤ c) && decide (c ≤ 57)
/-- behind blanks, k places at most -/
def skp (f : Nat → Nat) : Nat → Nat → Nat
  | 0, a => a
  | k + 1, a => if blk (f a) then skp f k (a + 1) else a
def skip (f : Nat → Nat) (n a : Nat) : Nat := skp f (n - a) a
def lookO (f : Nat → Nat) (n a : Nat) : Option Nat := if skip f n a < n then some (f (skip f n a)) else none
/-- a letter or digit stands right before -/
def ptd (f : Nat → Nat) (a : Nat) : Bool := decide (0 < a) && (ltr (f (a - 1)) || dgt (f (a - 1)))
/-- where letters (digits) end -/
def run (g : Nat → Bool) (f : Nat → Nat) : Nat → Nat → Nat
  | 0, a => a
  | k + 1, a => if g (f a) then run g f k (a + 1) else a
