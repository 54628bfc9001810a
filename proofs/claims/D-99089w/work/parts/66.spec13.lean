set_option maxRecDepth 100000
/-! SPEC 13: sums and tests, read by descent: their codes and where they end, or a fault -/
abbrev Rz : Type := Pz (List Nat × Nat)
abbrev wMin : List Nat := [109, 105, 110]
abbrev wMax : List Nat := [109, 97, 120]
abbrev wNot : List Nat := [110, 111, 116]
abbrev wAll : List Nat := [97, 108, 108]
abbrev wAnd : List Nat := [97, 110, 100]
abbrev wOr : List Nat := [111, 114]
abbrev wFace : List Nat := [102, 97, 99, 101]
abbrev wKind : List Nat := [107, 105, 110, 100]
abbrev wThinks : List Nat := [116, 104, 105, 110, 107, 115]
abbrev wYear : List Nat := [121, 101, 97, 114]
abbrev wLook : List Nat := [108, 111, 111, 107]
abbrev wSide : List Nat := [115, 105, 100, 101]
abbrev wGain : List Nat := [103, 97, 105, 110]
abbrev wBack : List Nat := [98, 97, 99, 107]
abbrev wNumber : List Nat := [110, 117, 109, 98, 101, 114]
abbrev wHouse : List Nat := [104, 111, 117, 115, 101]
abbrev wSpares : List Nat := [115, 112, 97, 114, 101, 115]
/-- which word of a text of kind x it is -/
def whN (x : Nat) (w : Option (List Nat)) : Option Nat :=
  if w = some wFace then some 0 else if w = some wKind then some 1 else if x < 3 ∧ w = some wThinks then some 2 else if w = some wYear then some 3 else if w = some wLook then some 4 else if w = some wSide then some 5 else if w = some wGain then some 6 else if x < 3 ∧ w = some wBack then some 7 else if w = some wNumber then some 8 else if w = some wHouse then some 9 else if w = some wSpares then some 10 else if w = some wThinks then some 11 else if w = some wBack then some 12 else none
def alwQ (x k : Nat) : Bool := if x = 0 then decide (k < 6) else if x = 1 then decide (k < 4 ∨ k = 6) else if x = 2 then decide (k < 4 ∨ k = 7) else decide (k < 2 ∨ k = 3 ∨ k = 4 ∨ 7 < k)
def wrdO (x lo hi : Nat) (w : Option (List Nat)) : Option Nat := match whN x w with
  | none => none
  | some k => if lo ≤ k ∧ k < hi ∧ alwQ x k = true then some k else none
def thn (r : Rz) (k : List Nat → Nat → Rz) : Rz := match r with
  | .error e => .error e
  | .ok y => k y.1 y.2
def fin (cs : List Nat) (r : Pz Nat) : Rz := match r with
  | .error e => .error e
  | .ok b => .ok (cs, b)
section Desc
variable (f : Nat → Nat) (n x : Nat)
def wln (p : Nat) : Nat := ((word f n p).getD []).length
def tokN (p : Nat) : Pz (Nat × Nat) → Pz (Nat × Nat × Nat)
  | .error e => .error e
  | .ok y => .ok (3, 1000 + y.1, y.2)
/-- what begins a part at p: 0 a bracket, 1 min or max, 2 a word with a part behind it, 3 a part's code -/
def aTok (p : Nat) : Pz (Nat × Nat × Nat) :=
  if p < n ∧ f p = 40 then .ok (0, 0, p + 1)
  else if word f n p = some wMin then .ok (1, 0, p + 3)
  else if word f n p = some wMax then .ok (1, 1, p + 3)
  else match wrdO x 11 13 (word f n p) with
    | some k => .ok (2, k - 11, p + wln f n p)
    | none => (match wrdO x 0 11 (word f n p) with
      | some k => .ok (3, 40 + k, p + wln f n p)
      | none => tokN p (numP f n 0 9999 p))
def loopP (it : Nat → Rz) (op : Nat → Option (Nat × Nat)) : Nat → List Nat → Nat → Rz
  | 0, cs, a => .ok (cs, a)
  | k + 1, cs, a => match op a with
    | none => .ok (cs, skip f n a)
    | some y => thn (it y.2) (fun ds b => loopP it op k (cs ++ (ds ++ [y.1])) b)
def opM (a : Nat) : Option (Nat × Nat) := if lookO f n a = some 42 then some (3, skip f n a + 1) else if lookO f n a = some 47 then some (4, skip f n a + 1) else none
def opA (a : Nat) : Option (Nat × Nat) := if lookO f n a = some 43 then some (1, skip f n a + 1) else if lookO f n a = some 45 then some (2, skip f n a + 1) else none
def prodP (it : Nat → Rz) (a : Nat) : Rz := thn (it a) (fun cs b => loopP f n it (opM f n) (n + 1) cs b)
def sumP (it : Nat → Rz) (a : Nat) : Rz := thn (prodP f n it a) (fun cs b => loopP f n (prodP f n it) (opA f n) (n + 1) cs b)
def secP (it : Nat → Rz) (v : Nat) (cs : List Nat) : Pz Nat → Rz
  | .error e => .error e
  | .ok d => thn (sumP f n it d) (fun ds b => fin (cs ++ (ds ++ [5 + v])) (sgP f n 41 b))
def atmK (r : Option (Nat → Rz)) (a : Nat) : Rz := match aTok f n x (skip f n a) with
  | .error e => .error e
  | .ok y => if y.1 = 0 then (match r with
      | none => .error (4, skip f n a)
      | some it => thn (sumP f n it y.2.2) (fun cs c => fin cs (sgP f n 41 c)))
    else if y.1 = 1 then (if lookO f n y.2.2 = some 40 then (match r with
      | none => .error (4, skip f n y.2.2)
      | some it => thn (sumP f n it (skip f n y.2.2 + 1)) (fun cs c => secP f n it y.2.1 cs (sgP f n 44 c))) else .error (1, skip f n y.2.2))
    else if y.1 = 2 then (match r with
      | none => .error (4, skip f n a)
      | some it => thn (it y.2.2) (fun cs c => .ok (cs ++ [60 + y.2.1], c)))
    else .ok ([y.2.1], y.2.2)
/-- a part, with o more to open -/
def atomP : Nat → Nat → Rz
  | 0, a => atmK f n x none a
  | o + 1, a => atmK f n x (some (atomP o)) a
/-- whether the word w comes next; a word that isn't parted is a fault -/
def psW (w : List Nat) (a : Nat) : Pz (Option Nat) := if ltrO (lookO f n a) = true then (if ptd f (skip f n a) = true then .error (1, skip f n a) else if word f n (skip f n a) = some w then .ok (some (skip f n a + w.length)) else .ok none) else .ok none
def loopT (it : Nat → Rz) (w : List Nat) (v : Nat) : Nat → List Nat → Nat → Rz
  | 0, cs, a => .ok (cs, a)
  | k + 1, cs, a => match psW f n w a with
    | .error e => .error e
    | .ok none => .ok (cs, skip f n a)
    | .ok (some b) => thn (it b) (fun ds c => loopT it w v k (cs ++ (ds ++ [v])) c)
def bothP (it : Nat → Rz) (a : Nat) : Rz := thn (it a) (fun cs b => loopT f n it wAnd 10 (n + 1) cs b)
def testP (it : Nat → Rz) (a : Nat) : Rz := thn (bothP f n it a) (fun cs b => loopT f n (bothP f n it) wOr 11 (n + 1) cs b)
def sgT (a : Nat) : Option Nat := if lookO f n a = some 60 then some 7 else if lookO f n a = some 62 then some 8 else if lookO f n a = some 61 then some 9 else none
/-- a sum, a sign, a sum -/
def thanP (it : Nat → Rz) (a : Nat) : Rz := thn (sumP f n it a) (fun cs b => match sgT f n b with
  | none => .error (1, skip f n b)
  | some v => thn (sumP f n it (skip f n b + 1)) (fun ds c => .ok (cs ++ (ds ++ [v]), c)))
def fctK (o : Nat) (r : Option (Nat → Rz)) (a : Nat) : Rz := if lookO f n a = some 91 then (match r with
    | none => .error (4, skip f n a)
    | some it => thn (testP f n it (skip f n a + 1)) (fun cs c => fin cs (sgP f n 93 c)))
  else match psW f n wNot a with
    | .error e => .error e
    | .ok (some b) => (match r with
      | none => .error (4, skip f n a)
      | some it => thn (it b) (fun cs c => .ok (cs ++ [12], c)))
    | .ok none => (match psW f n wAll a with
      | .error e => .error e
      | .ok (some b) => .ok ([13], b)
      | .ok none => thanP f n (atomP f n x o) a)
def factP : Nat → Nat → Rz
  | 0, a => fctK f n x 0 none a
  | o + 1, a => fctK f n x (o + 1) (some (factP o)) a
end Desc
/-! the model's way: what waits is piled -/
abbrev Cf : Type := Bool × Nat × List Nat × List Nat × Nat
abbrev Ou : Type := Pz (Nat × List Nat × Nat)
/-- drops from the pile what g names: dropped, left -/
def popW (g : Nat → Bool) : List Nat → List Nat × List Nat
  | [] => ([], [])
  | v :: V => if g v then (v :: (popW g V).1, (popW g V).2) else ([], v :: V)
def isBr (v : Nat) : Bool := decide (20 ≤ v) && decide (v ≤ 24)
def gO (v : Nat) : Bool := decide (60 ≤ v)
def gM (v : Nat) : Bool := v == 3 || v == 4
def gS4 (v : Nat) : Bool := v == 3 || v == 4 || v == 1 || v == 2
def gB (v : Nat) : Bool := !isBr v
def brk (V : List Nat) : Option Nat := (popW gB V).2.head?
section Mach
variable (f : Nat → Nat) (n x : Nat)
def stpP (a : Nat) (cs V : List Nat) (op : Nat) : Cf ⊕ Ou := match aTok f n x (skip f n a) with
  | .error e => .inr (.error e)
  | .ok y => if y.1 = 0 then (if op = 6 then .inr (.error (4, skip f n a)) else .inl (true, y.2.2, cs, 20 :: V, op + 1))
    else if y.1 = 1 then (if lookO f n y.2.2 = some 40 then (if op = 6 then .inr (.error (4, skip f n y.2.2)) else .inl (true, skip f n y.2.2 + 1, cs, (21 + y.2.1) :: V, op + 1)) else .inr (.error (1, skip f n y.2.2)))
    else if y.1 = 2 then (if op = 6 then .inr (.error (4, skip f n a)) else .inl (true, y.2.2, cs, (60 + y.2.1) :: V, op + 1))
    else .inl (false, y.2.2, cs ++ [y.2.1] ++ (popW gO V).1, (popW gO V).2, op - (popW gO V).1.length)
/-- what a closed bracket leaves: the pile under it, and its code -/
def clB (V : List Nat) : List Nat := (popW gO (popW gB V).2.tail).2
def clC (V : List Nat) : List Nat := (popW gB V).1 ++ (if brk V = some 20 then [] else if brk V = some 23 then [5] else [6]) ++ (popW gO (popW gB V).2.tail).1
def stpA (a : Nat) (cs V : List Nat) (op : Nat) : Cf ⊕ Ou :=
  if lookO f n a = some 41 ∧ (brk V = some 20 ∨ brk V = some 23 ∨ brk V = some 24) then .inl (false, skip f n a + 1, cs ++ clC V, clB V, op - 1 - (popW gO (popW gB V).2.tail).1.length)
  else match opM f n a with
    | some y => .inl (true, y.2, cs ++ (popW gM V).1, y.1 :: (popW gM V).2, op)
    | none => (match opA f n a with
      | some y => .inl (true, y.2, cs ++ (popW gS4 V).1, y.1 :: (popW gS4 V).2, op)
      | none => (match brk V with
        | some b => if b = 21 ∨ b = 22 then (if lookO f n a = some 44 then .inl (true, skip f n a + 1, cs ++ (popW gB V).1, (b + 2) :: (popW gB V).2.tail, op) else .inr (.error (1, skip f n a))) else .inr (.error (1, skip f n a))
        | none => .inr (.ok (skip f n a, cs ++ V, op))))
def stpC (c : Cf) : Cf ⊕ Ou := if c.1 then stpP f n x c.2.1 c.2.2.1 c.2.2.2.1 c.2.2.2.2 else stpA f n c.2.1 c.2.2.1 c.2.2.2.1 c.2.2.2.2
def runC : Nat → Cf → Option Ou
  | 0, _ => none
  | k + 1, c => match stpC f n x c with
    | .inl d => runC k d
    | .inr r => some r
def Ends (c : Cf) (r : Ou) : Prop := ∃ k, runC f n x k c = some r
end Mach
