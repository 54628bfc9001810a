set_option maxRecDepth 100000
/-! SPEC 10: images come on -/
def allR (g : Nat → Bool) : Nat → Nat → Bool
  | 0, _ => true
  | k + 1, i => g i && allR g k (i + 1)
def pTold (f : Nat → Nat) (n H p : Nat) : Bool := decide (f (2 + (2 + n) * p) < H) && decide (f (2 + (2 + n) * p + 1) ≤ 99) && decide (f (2 + (2 + n) * p + 2) ≤ 1) && allR (fun i => decide (f (2 + (2 + n) * p + i) ≤ 9)) (n - 1) 3 && allR (fun r => f (2 + (2 + n) * r) != f (2 + (2 + n) * p)) p 0
def imgOk (q : Sg) : Bool := gIt q && gTd q == 3 + tn (gT q) * (2 + tn (gT q)) && gTp q (gTd q - 1) == chkF (gTp q) (gTd q - 1) && decide (256 * gTp q 0 + gTp q 1 ≤ 999) && allR (pTold (gTp q) (tn (gT q)) (tH (gT q))) (tn (gT q)) 0
def onT (f : Nat → Nat) (n : Nat) (t : St) : St := (256 * f 0 + f 1, fun p => f (2 + (2 + n) * p), fun p => f (2 + (2 + n) * p + 1), fun p => f (2 + (2 + n) * p + 2), fun p k => if k = p then th t p p else f (2 + (2 + n) * p + 3 + (if k < p then k else k - 1)))
def onQ (q : Sg) : Int32 × Sg := if imgOk q then (1, uUn (uNw (uTp q (gTp q) 0) (onT (gTp q) (tn (gT q)) (gS q), [])) []) else (0, uRf (uTp q (gTp q) 0) 5)
