set_option maxRecDepth 100000
/-! SPEC 5: acts -/
def pushK (K : List (Nat × Nat × Nat)) (e : Nat × Nat × Nat) : List (Nat × Nat × Nat) := if K.length = 40 then K.tail ++ [e] else K ++ [e]
def pushes (K : List (Nat × Nat × Nat)) : List (Nat × Nat × Nat) → List (Nat × Nat × Nat)
  | [] => K
  | e :: es => pushes (pushK K e) es
theorem pushes_app : ∀ (K es fs : List (Nat × Nat × Nat)), pushes K (es ++ fs) = pushes (pushes K es) fs
  | _, [], _ => rfl
  | K, e :: es, fs => pushes_app (pushK K e) es fs
theorem pushK_le {K : List (Nat × Nat × Nat)} {e : Nat × Nat × Nat} (h : K.length ≤ 40) : (pushK K e).length ≤ 40 := by
  unfold pushK; split <;> simp <;> omega
def keepU (q : Sg) : Sg := uUn q (((gS q, gK q) :: gUn q).take 20)
def undoS (q : Sg) : Int32 × Sg := match gUn q with
  | [] => (0, uRf q 4)
  | x :: xs => (1, uUn (uNw q x) xs)
/-- who lives in a and in b change houses -/
def changesS (n : Nat) (t : St) (a b : Nat) : St := match who t n a, who t n b with
  | some p, some r => sHs (sHs t p b) r a
  | some p, none => sHs t p b
  | none, some r => sHs t r a
  | none, none => t
def changeQ (q : Sg) (x y : Int32) : Int32 × Sg := match pidx x (tH (gT q)), pidx y (tH (gT q)) with
  | some a, some b => if a = b ∨ (who (gS q) (tn (gT q)) a = none ∧ who (gS q) (tn (gT q)) b = none) then (0, uRf q 2) else (1, uNw (keepU q) (changesS (tn (gT q)) (gS q) a b, gK q))
  | _, _ => (0, uRf q 2)
def rightQ (q : Sg) (x : Int32) : Int32 × Sg := match pidx x (tn (gT q)) with
  | none => (0, uRf q 2)
  | some p => if lk (gS q) p = 10 * fa (gT q) p then (0, uRf q 2) else (1, uNw (keepU q) (sLk (gS q) p (10 * fa (gT q) p), gK q))
def spareQ (q : Sg) (x y : Int32) : Int32 × Sg := match pidx x (tn (gT q)), pidx y 2 with
  | some p, some v => if sp (gS q) p = v then (0, uRf q 2) else (1, uNw (keepU q) (sSp (gS q) p v, gK q))
  | _, _ => (0, uRf q 2)
def yearsQ (q : Sg) (x : Int32) : Int32 × Sg := if gIt q = true then (match ahd (gS q) x 1 100 with
  | none => (-1, uRf q 3)
  | some n => (nI (yearsS (gT q) n (gS q)).2.length, uNw (keepU q) ((yearsS (gT q) n (gS q)).1, pushes (gK q) (yearsS (gT q) n (gS q)).2))) else (-1, uRf q 3)
def lcg (v : Nat) : Nat := (1103515245 * v + 12345) % 2147483648
/-- one year by chance: state, kept, seed, slips -/
def slipS (T : Te) (x : St × List Ev × Nat × Nat) : St × List Ev × Nat × Nat :=
  if lcg x.2.2.1 / 64 % 100 < sl T ∧ 0 < tn T then
    ((yearS T (sLk x.1 (lcg (lcg x.2.2.1) / 64 % tn T) (lcg (lcg (lcg x.2.2.1)) / 64 % 100))).1, pushes x.2.1 (yearS T (sLk x.1 (lcg (lcg x.2.2.1) / 64 % tn T) (lcg (lcg (lcg x.2.2.1)) / 64 % 100))).2, lcg (lcg (lcg x.2.2.1)), x.2.2.2 + 1)
  else ((yearS T x.1).1, pushes x.2.1 (yearS T x.1).2, lcg x.2.2.1, x.2.2.2)
def slipsS (T : Te) : Nat → St × List Ev × Nat × Nat → St × List Ev × Nat × Nat
  | 0, x => x
  | k + 1, x => slipsS T k (slipS T x)
def chanceQ (q : Sg) (x : Int32) : Int32 × Sg := if gIt q = true then (match ahd (gS q) x 1 100 with
  | none => (-1, uRf q 3)
  | some n => (nI (slipsS (gT q) n (gS q, gK q, gSd q, 0)).2.2.2, uSd (uNw (keepU q) ((slipsS (gT q) n (gS q, gK q, gSd q, 0)).1, (slipsS (gT q) n (gS q, gK q, gSd q, 0)).2.1)) (slipsS (gT q) n (gS q, gK q, gSd q, 0)).2.2.1)) else (-1, uRf q 3)
