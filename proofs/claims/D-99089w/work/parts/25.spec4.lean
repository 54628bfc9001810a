set_option maxRecDepth 100000
/-! SPEC 4: the whole state, and what the calls answer -/
abbrev Ev : Type := Nat × Nat × Nat
/-- tape, taped; fault's kind and place; refusals; terrace, whether there is one; state with what is kept; undo; rows seen; seed; octets out -/
abbrev Sg : Type := (Nat → Nat) × Nat × (Nat × Option Nat) × (Nat → Nat) × (Te × Bool) × (St × List Ev) × List (St × List Ev) × List Ev × Nat × List Nat
def gTp (q : Sg) : Nat → Nat := q.1
def gTd (q : Sg) : Nat := q.2.1
def gFt (q : Sg) : Nat × Option Nat := q.2.2.1
def gRf (q : Sg) : Nat → Nat := q.2.2.2.1
def gT (q : Sg) : Te := q.2.2.2.2.1.1
def gIt (q : Sg) : Bool := q.2.2.2.2.1.2
def gS (q : Sg) : St := q.2.2.2.2.2.1.1
def gK (q : Sg) : List Ev := q.2.2.2.2.2.1.2
def gUn (q : Sg) : List (St × List Ev) := q.2.2.2.2.2.2.1
def gRw (q : Sg) : List Ev := q.2.2.2.2.2.2.2.1
def gSd (q : Sg) : Nat := q.2.2.2.2.2.2.2.2.1
def gOu (q : Sg) : List Nat := q.2.2.2.2.2.2.2.2.2
def uTp (q : Sg) (f : Nat → Nat) (n : Nat) : Sg := (f, n, q.2.2)
def uFt (q : Sg) (x : Nat × Option Nat) : Sg := (q.1, q.2.1, x, q.2.2.2)
def uRf (q : Sg) (i : Nat) : Sg := (q.1, q.2.1, q.2.2.1, va_up (gRf q) i (gRf q i + 1), q.2.2.2.2)
def uTe (q : Sg) (x : Te × Bool) : Sg := (q.1, q.2.1, q.2.2.1, q.2.2.2.1, x, q.2.2.2.2.2)
def uNw (q : Sg) (x : St × List Ev) : Sg := (q.1, q.2.1, q.2.2.1, q.2.2.2.1, q.2.2.2.2.1, x, q.2.2.2.2.2.2)
def uUn (q : Sg) (x : List (St × List Ev)) : Sg := (q.1, q.2.1, q.2.2.1, q.2.2.2.1, q.2.2.2.2.1, q.2.2.2.2.2.1, x, q.2.2.2.2.2.2.2)
def uRw (q : Sg) (x : List Ev) : Sg := (q.1, q.2.1, q.2.2.1, q.2.2.2.1, q.2.2.2.2.1, q.2.2.2.2.2.1, q.2.2.2.2.2.2.1, x, q.2.2.2.2.2.2.2.2)
def uSd (q : Sg) (x : Nat) : Sg := (q.1, q.2.1, q.2.2.1, q.2.2.2.1, q.2.2.2.2.1, q.2.2.2.2.2.1, q.2.2.2.2.2.2.1, q.2.2.2.2.2.2.2.1, x, q.2.2.2.2.2.2.2.2.2)
def uOu (q : Sg) (x : List Nat) : Sg := (q.1, q.2.1, q.2.2.1, q.2.2.2.1, q.2.2.2.2.1, q.2.2.2.2.2.1, q.2.2.2.2.2.2.1, q.2.2.2.2.2.2.2.1, q.2.2.2.2.2.2.2.2.1, x)
/-- a state of the terrace T within its bounds -/
def SO (T : Te) (x : St × List Ev) : Prop := SB (tn T) x.1 ∧ yr x.1 ≤ 999 ∧ (∀ p, p < tn T → hs x.1 p < tH T) ∧ x.2.length ≤ 40
/-- the whole within its bounds -/
def GI (q : Sg) : Prop := gTd q ≤ 1600 ∧ (∀ j, gTp q j < 256) ∧ TB (gT q) ∧ (gIt q = false → tH (gT q) = 0 ∧ tn (gT q) = 0) ∧ (gIt q = true → 2 ≤ tH (gT q)) ∧ SO (gT q) (gS q, gK q) ∧ (∀ x ∈ gUn q, SO (gT q) x) ∧ (gUn q).length ≤ 20 ∧ (gRw q).length ≤ 16 ∧ (∀ e ∈ gRw q, e.1 ≤ 30 ∧ e.2.1 < tn (gT q) ∧ e.2.2 ≤ 99) ∧ gSd q < 2147483648 ∧ (gOu q).length ≤ 83 ∧ (∀ v ∈ gOu q, v < 256) ∧ (∀ p, p < tn (gT q) → (nms (gT q) p).length ≤ 6 ∧ 1 ≤ (nms (gT q) p).length ∧ ∀ c ∈ nms (gT q) p, 1 ≤ c ∧ c ≤ 26)
/-- byte j (0 the highest) of an int -/
def bytN (w : Int32) (j : Nat) : Nat := w.toBitVec.toNat / 2 ^ (8 * (3 - j)) % 256
def feedB (a b c d e : Int32) (k : Nat) : Nat := bytN (if k < 4 then a else if k < 8 then b else if k < 12 then c else if k < 16 then d else e) (k % 4)
def feedS (q : Sg) (a b c d e : Int32) : Int32 × Sg := if gTd q + 20 > 1600 then (-1, uRf q 0) else (nI (gTd q + 20), uTp q (fun i => if gTd q ≤ i ∧ i < gTd q + 20 then feedB a b c d e (i - gTd q) else gTp q i) (gTd q + 20))
def endS (q : Sg) (x : Int32) : Int32 × Sg := if x.toInt < 0 ∨ (gTd q : Int) < x.toInt then (0, uRf q 0) else (1, uTp q (gTp q) x.toInt.toNat)
def faultS (q : Sg) (x : Int32) : Int32 := if x = 0 then nI (gFt q).1 else if x = 1 then oI (gFt q).2 else -1
def hasN (q : Sg) (k : Nat) : Int32 := match k with
  | 0 => nI (tH (gT q))
  | 1 => nI (tn (gT q))
  | 2 => nI (yr (gS q))
  | 3 => nI (cnt (fun p => lk (gS q) p == 0) (tn (gT q)))
  | 4 => nI (cnt (fun p => sp (gS q) p == 1) (tn (gT q)))
  | 5 => nI (cnt (fun h => feudAtS (gT q) (gS q) h == some true) (tH (gT q)))
  | 6 => nI (sumN (lk (gS q)) (tn (gT q)))
  | 7 => nI (gK q).length
  | 8 => nI (gRw q).length
  | _ => nI (gUn q).length
def hasS (q : Sg) (x : Int32) : Int32 := match pidx x 10 with
  | none => -1
  | some k => hasN q k
def letterS (q : Sg) (x k : Int32) : Int32 := match pidx x (tn (gT q)), pidx k 6 with
  | some p, some k => nI ((nms (gT q) p).getD k 0)
  | _, _ => -1
def houseQ (q : Sg) (x : Int32) : Int32 := match pidx x (tH (gT q)) with
  | none => -1
  | some h => oI (who (gS q) (tn (gT q)) h)
def personN (q : Sg) (p k : Nat) : Int32 := match k with
  | 0 => nI (hs (gS q) p)
  | 1 => nI (lk (gS q) p)
  | 2 => nI (fa (gT q) p)
  | 3 => nI (ki (gT q) p)
  | 4 => nI (sp (gS q) p)
  | 5 => oI (nb (gS q) (tn (gT q)) p 0)
  | _ => oI (nb (gS q) (tn (gT q)) p 1)
def personS (q : Sg) (x w : Int32) : Int32 := match pidx x (tn (gT q)), pidx w 7 with
  | some p, some k => personN q p k
  | _, _ => -1
/-- two different people -/
def twoS (n : Nat) (a b : Int32) : Option (Nat × Nat) := match pidx a n, pidx b n with
  | some p, some r => if p = r then none else some (p, r)
  | _, _ => none
def thinksS (q : Sg) (a b : Int32) : Int32 := match twoS (tn (gT q)) a b with
  | none => -1
  | some x => nI (th (gS q) x.1 x.2)
def paintsS (q : Sg) (a b : Int32) : Int32 := match pidx a (tn (gT q)), pidx b 2 with
  | some p, some side => (match nb (gS q) (tn (gT q)) p side with
    | none => -1
    | some w => nI (paintS (gT q) (gS q) p w side))
  | _, _ => -1
def feudQ (q : Sg) (x : Int32) : Int32 := match pidx x (tH (gT q)) with
  | none => -1
  | some h => fI (feudAtS (gT q) (gS q) h)
def keptS (q : Sg) (x w : Int32) : Int32 := match pidx x (gK q).length, pidx w 3 with
  | some i, some k => (match (gK q)[i]? with
    | none => -1
    | some e => if k = 0 then nI e.1 else if k = 1 then nI e.2.1 else nI e.2.2)
  | _, _ => -1
/-- so many years ahead are asked for, from lo to hi -/
def ahd (t : St) (x : Int32) (lo hi : Nat) : Option Nat := if (lo : Int) ≤ x.toInt ∧ x.toInt ≤ (hi : Int) ∧ (yr t : Int) + x.toInt ≤ 999 then some x.toInt.toNat else none
def laterS (q : Sg) (a x : Int32) : Int32 := match pidx a (tn (gT q)), ahd (gS q) x 0 60 with
  | some p, some n => nI (lk (yearsS (gT q) n (gS q)).1 p)
  | _, _ => -1
def mindQ (q : Sg) (a b x : Int32) : Int32 := match twoS (tn (gT q)) a b, ahd (gS q) x 0 60 with
  | some z, some n => nI (th (yearsS (gT q) n (gS q)).1 z.1 z.2)
  | _, _ => -1
def statusS (q : Sg) (x : Int32) : Int32 := match pidx x 6 with
  | none => -1
  | some i => nI (gRf q i)
def octetS (q : Sg) (x : Int32) : Int32 := match pidx x (gOu q).length with
  | none => -1
  | some i => nI ((gOu q).getD i 0)
def seedS (q : Sg) (x : Int32) : Int32 × Sg := if x.toInt < 0 then (0, uRf q 5) else (1, uSd q x.toInt.toNat)
theorem twoS_some {n : Nat} {a b : Int32} {x : Nat × Nat} (h : twoS n a b = some x) : x.1 < n ∧ x.2 < n ∧ x.1 ≠ x.2 ∧ a = nI x.1 ∧ b = nI x.2 := by
  unfold twoS at h
  split at h
  · next p r h1 h2 =>
    split at h
    · cases h
    · next hne => cases h; exact ⟨(pidx_some h1).1, (pidx_some h2).1, hne, (pidx_some h1).2, (pidx_some h2).2⟩
  · cases h
theorem twoS_iff {n : Nat} {a b : Int32} (hn : n ≤ 100) : (∃ x, twoS n a b = some x) ↔ ((0 ≤ a.toInt ∧ a.toInt < (n : Int)) ∧ (0 ≤ b.toInt ∧ b.toInt < (n : Int)) ∧ b.toInt ≠ a.toInt) := by
  unfold twoS
  constructor
  · rintro ⟨x, h⟩
    split at h
    · next p r h1 h2 =>
      obtain ⟨e1, e2⟩ := pidx_some h1
      obtain ⟨e3, e4⟩ := pidx_some h2
      subst e2; subst e4
      rw [nI_toInt (by omega), nI_toInt (by omega)]
      split at h
      · cases h
      · omega
    · cases h
  · rintro ⟨h1, h2, h3⟩
    refine ⟨(a.toInt.toNat, b.toInt.toNat), ?_⟩
    unfold pidx
    rw [if_pos h1, if_pos h2]
    show (if _ then none else _) = _
    rw [if_neg (by omega)]
theorem ahd_some {t : St} {x : Int32} {lo hi n : Nat} (h : ahd t x lo hi = some n) : lo ≤ n ∧ n ≤ hi ∧ yr t + n ≤ 999 ∧ x = nI n := by
  unfold ahd at h
  split at h
  · next hc =>
    cases h
    refine ⟨by omega, by omega, by omega, ?_⟩
    rw [nI_iI, Int.toNat_of_nonneg (by omega)]
    exact iI_of x
  · cases h
theorem ahd_none {t : St} {x : Int32} {lo hi : Nat} (h : ahd t x lo hi = none) : ¬ ((lo : Int) ≤ x.toInt ∧ x.toInt ≤ (hi : Int) ∧ (yr t : Int) + x.toInt ≤ 999) := by
  unfold ahd at h
  split at h
  · cases h
  · assumption
