set_option maxRecDepth 100000
/-! THE OTHER SIDE: its fixed cells (offsets 0, 4 .. 1516 from the object), a picture over the rest of the memory.
Offsets: 0 Retouched, (1 .. 3 its first terrace: not owned), 4 tape, 5 Reader, 6 Fault, 7 Moment, 8 its longs, 9 Moment (asked), 10 its longs, 11 refused, 12 State now, 68 State tried, 124 lookBy, 125 .. 380 its rows, 381 rowYear, 382 rowWho, 383 rowLook, 384 looksOf, 385 .. 394 its rows, 395 kept, 396 + 56 k the kept states, 1516 out.
A State at b: b + 1 house, 2 look, 3 face, 4 kind, 5 spares, 6 thinks, 7 .. 14 its rows, 15 rows, 16 .. 55 its rows. -/
abbrev XS : Type := (Nat → Nat → Int32) × (Nat → Nat → Int64) × (Nat → Nat → Option Nat)
def iX (s : XS) : Nat → Nat → Int32 := s.1
def lX (s : XS) : Nat → Nat → Int64 := s.2.1
def rX (s : XS) : Nat → Nat → Option Nat := s.2.2
def uI (s : XS) (c j : Nat) (v : Int32) : XS := ((fun a b => if a = c ∧ b = j then v else iX s a b), lX s, rX s)
def uL (s : XS) (c j : Nat) (v : Int64) : XS := (iX s, (fun a b => if a = c ∧ b = j then v else lX s a b), rX s)
def uR (s : XS) (c j : Nat) (v : Option Nat) : XS := (iX s, lX s, (fun a b => if a = c ∧ b = j then v else rX s a b))
theorem iX_uI (s : XS) (c j a b : Nat) (v : Int32) : iX (uI s c j v) a b = if a = c ∧ b = j then v else iX s a b := rfl
theorem lX_uL (s : XS) (c j a b : Nat) (v : Int64) : lX (uL s c j v) a b = if a = c ∧ b = j then v else lX s a b := rfl
theorem rX_uR (s : XS) (c j a b : Nat) (v : Option Nat) : rX (uR s c j v) a b = if a = c ∧ b = j then v else rX s a b := rfl
theorem iX_uL (s : XS) (c j : Nat) (v : Int64) : iX (uL s c j v) = iX s := rfl
theorem iX_uR (s : XS) (c j : Nat) (v : Option Nat) : iX (uR s c j v) = iX s := rfl
theorem lX_uI (s : XS) (c j : Nat) (v : Int32) : lX (uI s c j v) = lX s := rfl
theorem lX_uR (s : XS) (c j : Nat) (v : Option Nat) : lX (uR s c j v) = lX s := rfl
theorem rX_uI (s : XS) (c j : Nat) (v : Int32) : rX (uI s c j v) = rX s := rfl
theorem rX_uL (s : XS) (c j : Nat) (v : Int64) : rX (uL s c j v) = rX s := rfl
theorem iX_s {s : XS} {c j : Nat} {v : Int32} : iX (uI s c j v) c j = v := by rw [iX_uI, if_pos ⟨rfl, rfl⟩]
theorem iX_c {s : XS} {c j a b : Nat} {v : Int32} (h : a ≠ c) : iX (uI s c j v) a b = iX s a b := by rw [iX_uI, if_neg (fun q => h q.1)]
theorem iX_j {s : XS} {c j a b : Nat} {v : Int32} (h : b ≠ j) : iX (uI s c j v) a b = iX s a b := by rw [iX_uI, if_neg (fun q => h q.2)]
/-- owned offsets, owned addresses -/
def ow (c : Nat) : Prop := c = 0 ∨ (4 ≤ c ∧ c < 1517)
def owA (o a : Nat) : Prop := a = o ∨ (o + 4 ≤ a ∧ a < o + 1517)
theorem owA_ow {o c : Nat} (h : ow c) : owA o (o + c) := by unfold ow at h; unfold owA; omega

def putX (M : MM) (o : Nat) (s : XS) : MM := (mZ M, mK M, mN M, (fun a j => if a = o ∨ (o + 4 ≤ a ∧ a < o + 1517) then iX s (a - o) j else mI M a j), (fun a j => if a = o ∨ (o + 4 ≤ a ∧ a < o + 1517) then lX s (a - o) j else mL M a j), (fun a j => if a = o ∨ (o + 4 ≤ a ∧ a < o + 1517) then rX s (a - o) j else mR M a j))
theorem mZ_putX (M : MM) (o : Nat) (s : XS) : mZ (putX M o s) = mZ M := rfl
theorem mK_putX (M : MM) (o : Nat) (s : XS) : mK (putX M o s) = mK M := rfl
theorem mN_putX (M : MM) (o : Nat) (s : XS) : mN (putX M o s) = mN M := rfl
section PutX
variable {M : MM} {o c j a : Nat} {s : XS}
theorem mI_putX (h : ow c) : mI (putX M o s) (o + c) j = iX s c j := by
  show (if o + c = o ∨ (o + 4 ≤ o + c ∧ o + c < o + 1517) then iX s (o + c - o) j else _) = _
  rw [if_pos (show o + c = o ∨ (o + 4 ≤ o + c ∧ o + c < o + 1517) from owA_ow h), Nat.add_sub_cancel_left]
theorem mI_putXn (h : ¬ owA o a) : mI (putX M o s) a j = mI M a j := if_neg h
theorem mL_putX (h : ow c) : mL (putX M o s) (o + c) j = lX s c j := by
  show (if o + c = o ∨ (o + 4 ≤ o + c ∧ o + c < o + 1517) then lX s (o + c - o) j else _) = _
  rw [if_pos (show o + c = o ∨ (o + 4 ≤ o + c ∧ o + c < o + 1517) from owA_ow h), Nat.add_sub_cancel_left]
theorem mL_putXn (h : ¬ owA o a) : mL (putX M o s) a j = mL M a j := if_neg h
theorem mR_putX (h : ow c) : mR (putX M o s) (o + c) j = rX s c j := by
  show (if o + c = o ∨ (o + 4 ≤ o + c ∧ o + c < o + 1517) then rX s (o + c - o) j else _) = _
  rw [if_pos (show o + c = o ∨ (o + 4 ≤ o + c ∧ o + c < o + 1517) from owA_ow h), Nat.add_sub_cancel_left]
theorem mR_putXn (h : ¬ owA o a) : mR (putX M o s) a j = mR M a j := if_neg h
theorem putX_I {v : Int32} (h : ow c) : sI (putX M o s) (o + c) j v = putX M o (uI s c j v) := by
  have hA := owA_ow (o := o) h
  unfold sI
  refine Prod.ext rfl (Prod.ext rfl (Prod.ext rfl (Prod.ext ?_ (Prod.ext rfl rfl))))
  funext a b
  show (if a = o + c ∧ b = j then v else if a = o ∨ (o + 4 ≤ a ∧ a < o + 1517) then iX s (a - o) b else mI M a b) = (if a = o ∨ (o + 4 ≤ a ∧ a < o + 1517) then (if a - o = c ∧ b = j then v else iX s (a - o) b) else mI M a b)
  by_cases e : a = o ∨ (o + 4 ≤ a ∧ a < o + 1517)
  · rw [if_pos e, if_pos e]
    by_cases e2 : a = o + c ∧ b = j
    · rw [if_pos e2, if_pos ⟨by omega, e2.2⟩]
    · rw [if_neg e2, if_neg (fun q => e2 ⟨by omega, q.2⟩)]
  · rw [if_neg e, if_neg e, if_neg (fun q => e (by rw [q.1]; exact hA))]
theorem putX_In {v : Int32} (h : ¬ owA o a) : sI (putX M o s) a j v = putX (sI M a j v) o s := by
  unfold sI
  refine Prod.ext rfl (Prod.ext rfl (Prod.ext rfl (Prod.ext ?_ (Prod.ext rfl rfl))))
  funext b i
  show (if b = a ∧ i = j then v else if b = o ∨ (o + 4 ≤ b ∧ b < o + 1517) then iX s (b - o) i else mI M b i) = (if b = o ∨ (o + 4 ≤ b ∧ b < o + 1517) then iX s (b - o) i else if b = a ∧ i = j then v else mI M b i)
  by_cases e : b = o ∨ (o + 4 ≤ b ∧ b < o + 1517)
  · rw [if_pos e, if_pos e, if_neg (fun q => h (by rw [← q.1]; exact e))]
  · rw [if_neg e, if_neg e]
theorem putX_L {v : Int64} (h : ow c) : sL (putX M o s) (o + c) j v = putX M o (uL s c j v) := by
  have hA := owA_ow (o := o) h
  unfold sL
  refine Prod.ext rfl (Prod.ext rfl (Prod.ext rfl (Prod.ext rfl (Prod.ext ?_ rfl))))
  funext a b
  show (if a = o + c ∧ b = j then v else if a = o ∨ (o + 4 ≤ a ∧ a < o + 1517) then lX s (a - o) b else mL M a b) = (if a = o ∨ (o + 4 ≤ a ∧ a < o + 1517) then (if a - o = c ∧ b = j then v else lX s (a - o) b) else mL M a b)
  by_cases e : a = o ∨ (o + 4 ≤ a ∧ a < o + 1517)
  · rw [if_pos e, if_pos e]
    by_cases e2 : a = o + c ∧ b = j
    · rw [if_pos e2, if_pos ⟨by omega, e2.2⟩]
    · rw [if_neg e2, if_neg (fun q => e2 ⟨by omega, q.2⟩)]
  · rw [if_neg e, if_neg e, if_neg (fun q => e (by rw [q.1]; exact hA))]
theorem putX_Ln {v : Int64} (h : ¬ owA o a) : sL (putX M o s) a j v = putX (sL M a j v) o s := by
  unfold sL
  refine Prod.ext rfl (Prod.ext rfl (Prod.ext rfl (Prod.ext rfl (Prod.ext ?_ rfl))))
  funext b i
  show (if b = a ∧ i = j then v else if b = o ∨ (o + 4 ≤ b ∧ b < o + 1517) then lX s (b - o) i else mL M b i) = (if b = o ∨ (o + 4 ≤ b ∧ b < o + 1517) then lX s (b - o) i else if b = a ∧ i = j then v else mL M b i)
  by_cases e : b = o ∨ (o + 4 ≤ b ∧ b < o + 1517)
  · rw [if_pos e, if_pos e, if_neg (fun q => h (by rw [← q.1]; exact e))]
  · rw [if_neg e, if_neg e]
theorem putX_R {v : Option Nat} (h : ow c) : sR (putX M o s) (o + c) j v = putX M o (uR s c j v) := by
  have hA := owA_ow (o := o) h
  unfold sR
  refine Prod.ext rfl (Prod.ext rfl (Prod.ext rfl (Prod.ext rfl (Prod.ext rfl ?_))))
  funext a b
  show (if a = o + c ∧ b = j then v else if a = o ∨ (o + 4 ≤ a ∧ a < o + 1517) then rX s (a - o) b else mR M a b) = (if a = o ∨ (o + 4 ≤ a ∧ a < o + 1517) then (if a - o = c ∧ b = j then v else rX s (a - o) b) else mR M a b)
  by_cases e : a = o ∨ (o + 4 ≤ a ∧ a < o + 1517)
  · rw [if_pos e, if_pos e]
    by_cases e2 : a = o + c ∧ b = j
    · rw [if_pos e2, if_pos ⟨by omega, e2.2⟩]
    · rw [if_neg e2, if_neg (fun q => e2 ⟨by omega, q.2⟩)]
  · rw [if_neg e, if_neg e, if_neg (fun q => e (by rw [q.1]; exact hA))]
theorem putX_Rn {v : Option Nat} (h : ¬ owA o a) : sR (putX M o s) a j v = putX (sR M a j v) o s := by
  unfold sR
  refine Prod.ext rfl (Prod.ext rfl (Prod.ext rfl (Prod.ext rfl (Prod.ext rfl ?_))))
  funext b i
  show (if b = a ∧ i = j then v else if b = o ∨ (o + 4 ≤ b ∧ b < o + 1517) then rX s (b - o) i else mR M b i) = (if b = o ∨ (o + 4 ≤ b ∧ b < o + 1517) then rX s (b - o) i else if b = a ∧ i = j then v else mR M b i)
  by_cases e : b = o ∨ (o + 4 ≤ b ∧ b < o + 1517)
  · rw [if_pos e, if_pos e, if_neg (fun q => h (by rw [← q.1]; exact e))]
  · rw [if_neg e, if_neg e]
theorem putX_nw {t n : Nat} (h : o + 1517 ≤ mZ M) : nw (putX M o s) t n = putX (nw M t n) o s := by
  unfold nw
  refine Prod.ext rfl (Prod.ext rfl (Prod.ext rfl (Prod.ext ?_ (Prod.ext ?_ ?_)))) <;> funext b i
  · show (if b = mZ M then _ else if b = o ∨ (o + 4 ≤ b ∧ b < o + 1517) then _ else _) = (if b = o ∨ (o + 4 ≤ b ∧ b < o + 1517) then _ else if b = mZ M then _ else _)
    by_cases e : b = mZ M
    · rw [if_pos e, if_neg (by omega), if_pos e]
    · rw [if_neg e, if_neg e]
  · show (if b = mZ M then _ else if b = o ∨ (o + 4 ≤ b ∧ b < o + 1517) then _ else _) = (if b = o ∨ (o + 4 ≤ b ∧ b < o + 1517) then _ else if b = mZ M then _ else _)
    by_cases e : b = mZ M
    · rw [if_pos e, if_neg (by omega), if_pos e]
    · rw [if_neg e, if_neg e]
  · show (if b = mZ M then _ else if b = o ∨ (o + 4 ≤ b ∧ b < o + 1517) then _ else _) = (if b = o ∨ (o + 4 ≤ b ∧ b < o + 1517) then _ else if b = mZ M then _ else _)
    by_cases e : b = mZ M
    · rw [if_pos e, if_neg (by omega), if_pos e]
    · rw [if_neg e, if_neg e]
end PutX
/-! kinds and lengths by offset -/
def stk (d : Nat) : Nat := if d = 0 then 25 else if d ≤ 4 then 1 else if d = 5 then 4 else if d = 6 then 7 else if d ≤ 14 then 1 else if d = 15 then 7 else 1
def stl (d : Nat) : Nat := if d = 0 then 0 else if d ≤ 14 then 8 else if d = 15 then 40 else 3
def kd (c : Nat) : Nat := if c = 0 then 20 else if c = 4 then 3 else if c = 5 then 22 else if c = 6 then 23 else if c = 7 ∨ c = 9 then 24 else if c = 8 ∨ c = 10 then 2 else if c = 11 then 1 else if c < 68 then stk (c - 12) else if c < 124 then stk (c - 68) else if c = 124 then 7 else if c < 384 then 1 else if c = 384 then 7 else if c < 395 then 1 else if c = 395 then 8 else if c < 1516 then stk ((c - 396) % 56) else 3
def ln (c : Nat) : Nat := if c = 4 then 1600 else if c < 8 ∨ c = 9 then 0 else if c = 8 ∨ c = 10 then 11 else if c = 11 then 6 else if c < 68 then stl (c - 12) else if c < 124 then stl (c - 68) else if c = 124 then 256 else if c < 381 then 8 else if c < 384 then 16 else if c = 384 then 10 else if c < 395 then 31 else if c = 395 then 20 else if c < 1516 then stl ((c - 396) % 56) else 83
/-- where states lie -/
def isS (b : Nat) : Prop := b = 12 ∨ b = 68 ∨ ∃ k, k < 20 ∧ b = 396 + 56 * k
theorem isS_ow {b d : Nat} (h : isS b) (hd : d < 56) : ow (b + d) := by
  unfold ow
  rcases h with e | e | ⟨k, hk, e⟩ <;> omega
theorem isS_kd {b d : Nat} (h : isS b) (hd : d < 56) : kd (b + d) = stk d ∧ ln (b + d) = stl d := by
  rcases h with e | e | ⟨k, hk, e⟩
  · subst e
    unfold kd ln
    simp only [if_neg (show ¬ 12 + d = 0 by omega), if_neg (show ¬ 12 + d = 4 by omega), if_neg (show ¬ 12 + d = 5 by omega), if_neg (show ¬ 12 + d = 6 by omega), if_neg (show ¬ (12 + d = 7 ∨ 12 + d = 9) by omega), if_neg (show ¬ (12 + d = 8 ∨ 12 + d = 10) by omega), if_neg (show ¬ 12 + d = 11 by omega), if_pos (show 12 + d < 68 by omega), if_neg (show ¬ (12 + d < 8 ∨ 12 + d = 9) by omega), Nat.add_sub_cancel_left]
    exact ⟨trivial, trivial⟩
  · subst e
    unfold kd ln
    simp only [if_neg (show ¬ 68 + d = 0 by omega), if_neg (show ¬ 68 + d = 4 by omega), if_neg (show ¬ 68 + d = 5 by omega), if_neg (show ¬ 68 + d = 6 by omega), if_neg (show ¬ (68 + d = 7 ∨ 68 + d = 9) by omega), if_neg (show ¬ (68 + d = 8 ∨ 68 + d = 10) by omega), if_neg (show ¬ 68 + d = 11 by omega), if_neg (show ¬ 68 + d < 68 by omega), if_pos (show 68 + d < 124 by omega), if_neg (show ¬ (68 + d < 8 ∨ 68 + d = 9) by omega), Nat.add_sub_cancel_left]
    exact ⟨trivial, trivial⟩
  · subst e
    have e1 : (396 + 56 * k + d - 396) % 56 = d := by rw [Nat.add_assoc, Nat.add_sub_cancel_left, Nat.mul_add_mod, Nat.mod_eq_of_lt hd]
    unfold kd ln
    generalize hc : 396 + 56 * k + d = c at e1 ⊢
    simp only [if_neg (show ¬ c = 0 by omega), if_neg (show ¬ c = 4 by omega), if_neg (show ¬ c = 5 by omega), if_neg (show ¬ c = 6 by omega), if_neg (show ¬ (c = 7 ∨ c = 9) by omega), if_neg (show ¬ (c = 8 ∨ c = 10) by omega), if_neg (show ¬ c = 11 by omega), if_neg (show ¬ c < 68 by omega), if_neg (show ¬ c < 124 by omega), if_neg (show ¬ c = 124 by omega), if_neg (show ¬ c < 384 by omega), if_neg (show ¬ c = 384 by omega), if_neg (show ¬ c < 395 by omega), if_neg (show ¬ c = 395 by omega), if_pos (show c < 1516 by omega), if_neg (show ¬ (c < 8 ∨ c = 9) by omega), if_neg (show ¬ c < 381 by omega), e1]
    exact ⟨trivial, trivial⟩
def ShX (g : GC) (M : MM) (o : Nat) : Prop := gb g ≤ o ∧ o + 1517 ≤ mZ M ∧ ∀ c, ow c → mK M (o + c) = kd c ∧ mN M (o + c) = ln c
section RowsX
variable {g : GC} {y : MethodName} {cc : ByteArray} {nL : Nat} {rt : Option FieldType} {hh : List (Nat × Nat × Nat × Nat)} {d kc ks : Nat} {M : MM} {pc : Nat} {lv : List (Option Value)} {st : List Value} {Q : Option Value → MM → Prop} {X : Nat → MM → Prop} {o c : Nat} {s : XS}
theorem ShX.k {ci : Nat} (hS : ShX g M o) (hc : ow c) (hk : kd c = ci) : mK (putX M o s) (o + c) = ci := (hS.2.2 c hc).1.trans hk
theorem ShX.n {j n : Nat} (hS : ShX g M o) (hc : ow c) (hk : ln c = n) (hj : j < n) : j < mN (putX M o s) (o + c) := by
  show j < mN M (o + c)
  rw [(hS.2.2 c hc).2, hk]; exact hj
theorem ShX.b (hS : ShX g M o) : gb g ≤ o + c := Nat.le_trans hS.1 (Nat.le_add_right _ _)
theorem x_getI {ci i idx : Nat} (hS : ShX g M o) (hc : ow c) (hk : kd c = 20 + ci) (hd : decode cc pc = .ok (.getfield idx, 3)) (hf : Fl y.cls idx ci i 0) (k : Bd g y cc nL rt hh d kc ks (putX M o s) (pc + 3) lv (.int (iX s c i) :: st) Q X) : Bd g y cc nL rt hh d kc ks (putX M o s) pc lv (.ref (o + c) :: st) Q X := r_getI hd hf (hS.k hc hk) (Bd.eqI (mI_putX hc) k)
theorem x_getL {ci i idx : Nat} (hS : ShX g M o) (hc : ow c) (hk : kd c = 20 + ci) (hd : decode cc pc = .ok (.getfield idx, 3)) (hf : Fl y.cls idx ci i 1) (k : Bd g y cc nL rt hh d kc ks (putX M o s) (pc + 3) lv (.long (lX s c i) :: st) Q X) : Bd g y cc nL rt hh d kc ks (putX M o s) pc lv (.ref (o + c) :: st) Q X := r_getL hd hf (hS.k hc hk) (Bd.eqL (mL_putX hc) k)
theorem x_getR {ci i idx b : Nat} (hS : ShX g M o) (hc : ow c) (hk : kd c = 20 + ci) (hd : decode cc pc = .ok (.getfield idx, 3)) (hf : Fl y.cls idx ci i 2) (hv : rX s c i = some b) (k : Bd g y cc nL rt hh d kc ks (putX M o s) (pc + 3) lv (.ref b :: st) Q X) : Bd g y cc nL rt hh d kc ks (putX M o s) pc lv (.ref (o + c) :: st) Q X := r_getR hd hf (hS.k hc hk) ((mR_putX hc).trans hv) k
theorem x_putI {ci i idx : Nat} {ty : FieldType} {x : Int32} (hS : ShX g M o) (hc : ow c) (hk : kd c = 20 + ci) (hd : decode cc pc = .ok (.putfield idx, 3)) (hf : Fl y.cls idx ci i 0) (hw : Fw ci i ty) (hn : narrow ty (.int x) = .int x) (hfit : fits ty (.int x) = true) (k : Bd g y cc nL rt hh d kc ks (putX M o (uI s c i x)) (pc + 3) lv st Q X) : Bd g y cc nL rt hh d kc ks (putX M o s) pc lv (.int x :: .ref (o + c) :: st) Q X := r_putI hd hf hw hn hfit (hS.k hc hk) hS.b (Bd.eqM (putX_I hc) k)
theorem x_putL {ci i idx : Nat} {x : Int64} (hS : ShX g M o) (hc : ow c) (hk : kd c = 20 + ci) (hd : decode cc pc = .ok (.putfield idx, 3)) (hf : Fl y.cls idx ci i 1) (hw : Fw ci i .long) (k : Bd g y cc nL rt hh d kc ks (putX M o (uL s c i x)) (pc + 3) lv st Q X) : Bd g y cc nL rt hh d kc ks (putX M o s) pc lv (.long x :: .ref (o + c) :: st) Q X := r_putL hd hf hw rfl rfl (hS.k hc hk) hS.b (Bd.eqM (putX_L hc) k)
theorem x_putR {ci i idx b : Nat} {ty : FieldType} (hS : ShX g M o) (hc : ow c) (hk : kd c = 20 + ci) (hd : decode cc pc = .ok (.putfield idx, 3)) (hf : Fl y.cls idx ci i 2) (hw : Fw ci i ty) (hn : narrow ty (va_rf (some b)) = va_rf (some b)) (hfit : fits ty (va_rf (some b)) = true) (k : Bd g y cc nL rt hh d kc ks (putX M o (uR s c i (some b))) (pc + 3) lv st Q X) : Bd g y cc nL rt hh d kc ks (putX M o s) pc lv (.ref b :: .ref (o + c) :: st) Q X := r_putQ (x := some b) hd hf hw hn hfit (hS.k hc hk) hS.b (Bd.eqM (putX_R hc) k)
theorem x_getIN {ci i idx : Nat} (hS : ShX g M o) (hc : ow c) (hk : kd c = 20 + ci) (hd : decode cc pc = .ok (.getfield idx, 3)) (hf : FlN g y.cls idx ci i 0) (k : Bd g y cc nL rt hh d kc ks (putX M o s) (pc + 3) lv (.int (iX s c i) :: st) Q X) : Bd g y cc nL rt hh d kc ks (putX M o s) pc lv (.ref (o + c) :: st) Q X := r_getIN hd hf (hS.k hc hk) (Bd.eqI (mI_putX hc) k)
theorem x_getLN {ci i idx : Nat} (hS : ShX g M o) (hc : ow c) (hk : kd c = 20 + ci) (hd : decode cc pc = .ok (.getfield idx, 3)) (hf : FlN g y.cls idx ci i 1) (k : Bd g y cc nL rt hh d kc ks (putX M o s) (pc + 3) lv (.long (lX s c i) :: st) Q X) : Bd g y cc nL rt hh d kc ks (putX M o s) pc lv (.ref (o + c) :: st) Q X := r_getLN hd hf (hS.k hc hk) (Bd.eqL (mL_putX hc) k)
theorem x_getRN {ci i idx b : Nat} (hS : ShX g M o) (hc : ow c) (hk : kd c = 20 + ci) (hd : decode cc pc = .ok (.getfield idx, 3)) (hf : FlN g y.cls idx ci i 2) (hv : rX s c i = some b) (k : Bd g y cc nL rt hh d kc ks (putX M o s) (pc + 3) lv (.ref b :: st) Q X) : Bd g y cc nL rt hh d kc ks (putX M o s) pc lv (.ref (o + c) :: st) Q X := r_getRN hd hf (hS.k hc hk) ((mR_putX hc).trans hv) k
theorem x_putIN {ci i idx : Nat} {ty : FieldType} {x : Int32} (hS : ShX g M o) (hc : ow c) (hk : kd c = 20 + ci) (hd : decode cc pc = .ok (.putfield idx, 3)) (hf : FlN g y.cls idx ci i 0) (hw : Fw ci i ty) (hn : narrow ty (.int x) = .int x) (hfit : fits ty (.int x) = true) (k : Bd g y cc nL rt hh d kc ks (putX M o (uI s c i x)) (pc + 3) lv st Q X) : Bd g y cc nL rt hh d kc ks (putX M o s) pc lv (.int x :: .ref (o + c) :: st) Q X := r_putIN hd hf hw hn hfit (hS.k hc hk) hS.b (Bd.eqM (putX_I hc) k)
theorem x_putLN {ci i idx : Nat} {x : Int64} (hS : ShX g M o) (hc : ow c) (hk : kd c = 20 + ci) (hd : decode cc pc = .ok (.putfield idx, 3)) (hf : FlN g y.cls idx ci i 1) (hw : Fw ci i .long) (k : Bd g y cc nL rt hh d kc ks (putX M o (uL s c i x)) (pc + 3) lv st Q X) : Bd g y cc nL rt hh d kc ks (putX M o s) pc lv (.long x :: .ref (o + c) :: st) Q X := r_putLN hd hf hw rfl rfl (hS.k hc hk) hS.b (Bd.eqM (putX_L hc) k)
theorem x_putRN {ci i idx b : Nat} {ty : FieldType} (hS : ShX g M o) (hc : ow c) (hk : kd c = 20 + ci) (hd : decode cc pc = .ok (.putfield idx, 3)) (hf : FlN g y.cls idx ci i 2) (hw : Fw ci i ty) (hn : narrow ty (va_rf (some b)) = va_rf (some b)) (hfit : fits ty (va_rf (some b)) = true) (k : Bd g y cc nL rt hh d kc ks (putX M o (uR s c i (some b))) (pc + 3) lv st Q X) : Bd g y cc nL rt hh d kc ks (putX M o s) pc lv (.ref b :: .ref (o + c) :: st) Q X := r_putQN (x := some b) hd hf hw hn hfit (hS.k hc hk) hS.b (Bd.eqM (putX_R hc) k)
theorem x_iald {j n : Nat} (hS : ShX g M o) (hc : ow c) (hk : kd c = 1) (hl : ln c = n) (hd : decode cc pc = .ok (.iaload, 1)) (hj : j < n) (hj2 : j < 2147483648) (k : Bd g y cc nL rt hh d kc ks (putX M o s) (pc + 1) lv (.int (iX s c j) :: st) Q X) : Bd g y cc nL rt hh d kc ks (putX M o s) pc lv (.int (nI j) :: .ref (o + c) :: st) Q X := r_iald hd (hS.k hc hk) (hS.n hc hl hj) hj2 (Bd.eqI (mI_putX hc) k)
theorem x_bald {j n : Nat} (hS : ShX g M o) (hc : ow c) (hk : kd c = 3) (hl : ln c = n) (hd : decode cc pc = .ok (.baload, 1)) (hj : j < n) (hj2 : j < 2147483648) (k : Bd g y cc nL rt hh d kc ks (putX M o s) (pc + 1) lv (.int (iX s c j) :: st) Q X) : Bd g y cc nL rt hh d kc ks (putX M o s) pc lv (.int (nI j) :: .ref (o + c) :: st) Q X := r_bald hd (hS.k hc hk) (hS.n hc hl hj) hj2 (Bd.eqI (mI_putX hc) k)
theorem x_zald {j n : Nat} (hS : ShX g M o) (hc : ow c) (hk : kd c = 4) (hl : ln c = n) (hd : decode cc pc = .ok (.baload, 1)) (hj : j < n) (hj2 : j < 2147483648) (k : Bd g y cc nL rt hh d kc ks (putX M o s) (pc + 1) lv (.int (iX s c j) :: st) Q X) : Bd g y cc nL rt hh d kc ks (putX M o s) pc lv (.int (nI j) :: .ref (o + c) :: st) Q X := r_zald hd (hS.k hc hk) (hS.n hc hl hj) hj2 (Bd.eqI (mI_putX hc) k)
theorem x_lald {j n : Nat} (hS : ShX g M o) (hc : ow c) (hk : kd c = 2) (hl : ln c = n) (hd : decode cc pc = .ok (.laload, 1)) (hj : j < n) (hj2 : j < 2147483648) (k : Bd g y cc nL rt hh d kc ks (putX M o s) (pc + 1) lv (.long (lX s c j) :: st) Q X) : Bd g y cc nL rt hh d kc ks (putX M o s) pc lv (.int (nI j) :: .ref (o + c) :: st) Q X := r_lald hd (hS.k hc hk) (hS.n hc hl hj) hj2 (Bd.eqL (mL_putX hc) k)
theorem x_aald {j n t b : Nat} (hS : ShX g M o) (hc : ow c) (hk : kd c = t) (ht : 6 ≤ t ∧ t ≤ 9) (hl : ln c = n) (hd : decode cc pc = .ok (.aaload, 1)) (hj : j < n) (hj2 : j < 2147483648) (hv : rX s c j = some b) (k : Bd g y cc nL rt hh d kc ks (putX M o s) (pc + 1) lv (.ref b :: st) Q X) : Bd g y cc nL rt hh d kc ks (putX M o s) pc lv (.int (nI j) :: .ref (o + c) :: st) Q X := r_aaldR hd (hS.k hc hk) ht (hS.n hc hl hj) hj2 ((mR_putX hc).trans hv) k
theorem x_iast {j n : Nat} {x : Int32} (hS : ShX g M o) (hc : ow c) (hk : kd c = 1) (hl : ln c = n) (hd : decode cc pc = .ok (.iastore, 1)) (hj : j < n) (hj2 : j < 2147483648) (k : Bd g y cc nL rt hh d kc ks (putX M o (uI s c j x)) (pc + 1) lv st Q X) : Bd g y cc nL rt hh d kc ks (putX M o s) pc lv (.int x :: .int (nI j) :: .ref (o + c) :: st) Q X := r_iast hd (hS.k hc hk) (hS.n hc hl hj) hj2 hS.b (Bd.eqM (putX_I hc) k)
theorem x_bast {j n : Nat} {x : Int32} (hS : ShX g M o) (hc : ow c) (hk : kd c = 3) (hl : ln c = n) (hd : decode cc pc = .ok (.bastore, 1)) (hj : j < n) (hj2 : j < 2147483648) (k : Bd g y cc nL rt hh d kc ks (putX M o (uI s c j (vp_nar .byte x))) (pc + 1) lv st Q X) : Bd g y cc nL rt hh d kc ks (putX M o s) pc lv (.int x :: .int (nI j) :: .ref (o + c) :: st) Q X := r_bast hd (hS.k hc hk) (hS.n hc hl hj) hj2 hS.b (Bd.eqM (putX_I hc) k)
theorem x_zast {j n : Nat} {x : Int32} (hS : ShX g M o) (hc : ow c) (hk : kd c = 4) (hl : ln c = n) (hd : decode cc pc = .ok (.bastore, 1)) (hj : j < n) (hj2 : j < 2147483648) (k : Bd g y cc nL rt hh d kc ks (putX M o (uI s c j (vp_nar .boolean x))) (pc + 1) lv st Q X) : Bd g y cc nL rt hh d kc ks (putX M o s) pc lv (.int x :: .int (nI j) :: .ref (o + c) :: st) Q X := r_zast hd (hS.k hc hk) (hS.n hc hl hj) hj2 hS.b (Bd.eqM (putX_I hc) k)
theorem x_last {j n : Nat} {x : Int64} (hS : ShX g M o) (hc : ow c) (hk : kd c = 2) (hl : ln c = n) (hd : decode cc pc = .ok (.lastore, 1)) (hj : j < n) (hj2 : j < 2147483648) (k : Bd g y cc nL rt hh d kc ks (putX M o (uL s c j x)) (pc + 1) lv st Q X) : Bd g y cc nL rt hh d kc ks (putX M o s) pc lv (.long x :: .int (nI j) :: .ref (o + c) :: st) Q X := r_last hd (hS.k hc hk) (hS.n hc hl hj) hj2 hS.b (Bd.eqM (putX_L hc) k)
theorem x_alen {n t : Nat} (hS : ShX g M o) (hc : ow c) (hk : kd c = t) (ht : 1 ≤ t ∧ t ≤ 9) (hl : ln c = n) (hd : decode cc pc = .ok (.arraylength, 1)) (k : Bd g y cc nL rt hh d kc ks (putX M o s) (pc + 1) lv (.int (nI n) :: st) Q X) : Bd g y cc nL rt hh d kc ks (putX M o s) pc lv (.ref (o + c) :: st) Q X := r_alen hd (hS.k hc hk) ht (Bd.eqI (show nI (mN M (o + c)) = nI n by rw [(hS.2.2 c hc).2, hl]) k)
end RowsX
