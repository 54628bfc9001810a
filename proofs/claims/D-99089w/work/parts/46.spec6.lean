set_option maxRecDepth 100000
/-! SPEC 6: the best change of houses; the best house for one who comes -/
def lksS (T : Te) (m : Nat) (t : St) : Nat := sumN (lk (yearsS T m t).1) (tn T)
def chgS (T : Te) (t : St) (m a b : Nat) (x : Nat × Option (Nat × Nat)) : Nat × Option (Nat × Nat) := if x.1 < lksS T m (changesS (tn T) t a b) then (lksS T m (changesS (tn T) t a b), some (a, b)) else x
def chgsB (T : Te) (t : St) (m a : Nat) : Nat → Nat → Nat × Option (Nat × Nat) → Nat × Option (Nat × Nat)
  | 0, _, x => x
  | k + 1, b, x => chgsB T t m a k (b + 1) (chgS T t m a b x)
def chgsA (T : Te) (t : St) (m : Nat) : Nat → Nat → Nat × Option (Nat × Nat) → Nat × Option (Nat × Nat)
  | 0, _, x => x
  | k + 1, a, x => chgsA T t m k (a + 1) (chgsB T t m a (tH T - (a + 1)) (a + 1) x)
def changedN (q : Sg) (m w : Nat) : Int32 := match (chgsA (gT q) (gS q) m (tH (gT q)) 0 (lksS (gT q) m (gS q), none)).2 with
  | none => -1
  | some z => if w = 0 then nI z.1 else if w = 1 then nI z.2 else nI (chgsA (gT q) (gS q) m (tH (gT q)) 0 (lksS (gT q) m (gS q), none)).1
def changedQ (q : Sg) (x y : Int32) : Int32 := match ahd (gS q) x 1 20, pidx y 3 with
  | some m, some w => changedN q m w
  | _, _ => -1
/-- one comes into house h -/
def comesS (n : Nat) (t : St) (h f : Nat) : St := (yr t, va_up (hs t) n h, va_up (lk t) n (10 * f), va_up (sp t) n 0, fun p r => if p = n ∨ r = n then 5 else th t p r)
def comesT (T : Te) (f k : Nat) : Te := (tH T, tn T + 1, va_up (fa T) (tn T) f, va_up (ki T) (tn T) k, cd T, sl T, nms T)
def strN (T : Te) (t : St) (f k m h : Nat) : Nat := lk (yearsS (comesT T f k) m (comesS (tn T) t h f)).1 (tn T)
def strS (T : Te) (t : St) (f k m h : Nat) (x : Option (Nat × Nat)) : Option (Nat × Nat) := match who t (tn T) h with
  | some _ => x
  | none => (match x with
    | none => some (h, strN T t f k m h)
    | some z => if z.2 < strN T t f k m h then some (h, strN T t f k m h) else some z)
def strsS (T : Te) (t : St) (f k m : Nat) : Nat → Nat → Option (Nat × Nat) → Option (Nat × Nat)
  | 0, _, x => x
  | c + 1, h, x => strsS T t f k m c (h + 1) (strS T t f k m h x)
def strR (v : Nat) : Option (Nat × Nat) → Int32
  | none => -1
  | some r => if v = 0 then nI r.1 else nI r.2
def strangerQ (q : Sg) (x y z w : Int32) : Int32 := if tn (gT q) = 8 then -1 else match pidx x 10, pidx y 10, ahd (gS q) z 1 20, pidx w 2 with
  | some f, some k, some m, some v => strR v (strsS (gT q) (gS q) f k m (tH (gT q)) 0 none)
  | _, _, _, _ => -1
theorem changesS_yr (n : Nat) (t : St) (a b : Nat) : yr (changesS n t a b) = yr t := by
  unfold changesS; split <;> rfl
theorem sHs_SB {n : Nat} {t : St} {p v : Nat} (h : SB n t) (hv : v < 9) : SB n (sHs t p v) := by
  refine ⟨h.1, fun r hr => ⟨?_, (h.2 r hr).2⟩⟩
  show va_up (hs t) p v r < 9
  unfold va_up; split
  · exact hv
  · exact (h.2 r hr).1
theorem changesS_SB {n : Nat} {t : St} {a b : Nat} (h : SB n t) (ha : a < 9) (hb : b < 9) : SB n (changesS n t a b) := by
  unfold changesS; split
  · exact sHs_SB (sHs_SB h hb) ha
  · exact sHs_SB h hb
  · exact sHs_SB h ha
  · exact h
theorem lksS_le {T : Te} {m : Nat} {t : St} (hB : SB (tn T) t) (hn : tn T ≤ 8) (hy : yr t + m ≤ 2000) : lksS T m t ≤ 792 := by
  have h := sumN_le (f := lk (yearsS T m t).1) (b := 99) (tn T) (fun i hi => ((yearsS_SB m T t hB hy).2 i hi).2.1)
  unfold lksS
  omega
