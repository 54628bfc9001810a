set_option maxRecDepth 100000
/-! SPEC 2: a terrace, its state, a year -/
/-- year; of people: house, portrait, whether he spares; thoughts -/
abbrev St : Type := Nat × (Nat → Nat) × (Nat → Nat) × (Nat → Nat) × (Nat → Nat → Nat)
def yr (t : St) : Nat := t.1
def hs (t : St) : Nat → Nat := t.2.1
def lk (t : St) : Nat → Nat := t.2.2.1
def sp (t : St) : Nat → Nat := t.2.2.2.1
def th (t : St) : Nat → Nat → Nat := t.2.2.2.2
def sHs (t : St) (p v : Nat) : St := (yr t, va_up (hs t) p v, lk t, sp t, th t)
def sLk (t : St) (p v : Nat) : St := (yr t, hs t, va_up (lk t) p v, sp t, th t)
def sSp (t : St) (p v : Nat) : St := (yr t, hs t, lk t, va_up (sp t) p v, th t)
def sTh (t : St) (p q v : Nat) : St := (yr t, hs t, lk t, sp t, va_up (th t) p (va_up (th t p) q v))
def sYr (t : St) (v : Nat) : St := (v, hs t, lk t, sp t, th t)
/-- houses, people, faces, kindness, codes (0 paints, 1 minds, 2 feud), slip, names -/
abbrev Te : Type := Nat × Nat × (Nat → Nat) × (Nat → Nat) × (Nat → Option (List Nat)) × Nat × (Nat → List Nat)
def tH (T : Te) : Nat := T.1
def tn (T : Te) : Nat := T.2.1
def fa (T : Te) : Nat → Nat := T.2.2.1
def ki (T : Te) : Nat → Nat := T.2.2.2.1
def cd (T : Te) : Nat → Option (List Nat) := T.2.2.2.2.1
def sl (T : Te) : Nat := T.2.2.2.2.2.1
def nms (T : Te) : Nat → List Nat := T.2.2.2.2.2.2
/-- who is asked for in codes of kind w -/
def alw (w k : Nat) : Bool := if w = 0 then decide (k < 6) else if w = 1 then decide (k < 4 ∨ k = 6) else decide (k < 4 ∨ k = 7)
def okC (al : Nat → Bool) (cs : List Nat) : Prop := ∀ c ∈ cs, (c < 40 ∨ 1000 ≤ c) ∨ (40 ≤ c ∧ c < 48 ∧ al (c - 40) = true)
theorem okC_tl {al : Nat → Bool} {c : Nat} {cs : List Nat} (h : okC al (c :: cs)) : okC al cs := fun x hx => h x (List.mem_cons_of_mem _ hx)
/-- a terrace within its bounds -/
def TB (T : Te) : Prop := tn T ≤ 8 ∧ tH T ≤ 9 ∧ (∀ p, p < tn T → fa T p ≤ 9 ∧ ki T p ≤ 9) ∧ (∀ w cs, w < 3 → cd T w = some cs → okC (alw w) cs ∧ tyC cs [] = some [decide (w ≠ 2)] ∧ cs.length ≤ 1600) ∧ sl T ≤ 100
def SB (n : Nat) (t : St) : Prop := yr t ≤ 2000 ∧ ∀ p, p < n → hs t p < 9 ∧ lk t p ≤ 99 ∧ sp t p ≤ 1 ∧ ∀ q, q < n → th t p q ≤ 9
def who (t : St) (n h : Nat) : Option Nat := ff (fun p => hs t p == h) n 0
def nb (t : St) (n p side : Nat) : Option Nat := if side = 0 then (if hs t p = 0 then none else who t n (hs t p - 1)) else who t n (hs t p + 1)
def ofn0 : Nat → Int → Int := fun _ _ => 0
def evS (cs : List Nat) (env : Nat → Int) : Int := (rpn env ofn0 cs []).headD 0
def cutN (m : Nat) (v : Int) : Nat := if v < 0 then 0 else if v > m then m else v.toNat
theorem cutN_le (m : Nat) (v : Int) : cutN m v ≤ m := by unfold cutN; split <;> (try split) <;> omega
def envP (T : Te) (t : St) (sit pai side : Nat) : Nat → Int := fun k => if k = 0 then fa T sit else if k = 1 then ki T pai else if k = 2 then th t pai sit else if k = 3 then yr t else if k = 4 then lk t sit else if k = 5 then side else 0
def envM (T : Te) (t : St) (sit pai : Nat) (gain : Int) : Nat → Int := fun k => if k = 0 then fa T pai else if k = 1 then ki T sit else if k = 2 then th t sit pai else if k = 3 then yr t else if k = 6 then gain else 0
def envF (T : Te) (t : St) (a b : Nat) : Nat → Int := fun k => if k = 0 then fa T b else if k = 1 then ki T a else if k = 2 then th t a b else if k = 3 then yr t else if k = 7 then th t b a else 0
def paintS (T : Te) (t : St) (sit pai side : Nat) : Nat := match cd T 0 with
  | none => lk t sit
  | some cs => cutN 99 (evS cs (envP T t sit pai side))
def mindS (T : Te) (t : St) (sit pai : Nat) (gain : Int) : Nat := match cd T 1 with
  | none => th t sit pai
  | some cs => cutN 9 (evS cs (envM T t sit pai gain))
def feudS (T : Te) (t : St) (a b : Nat) : Bool := match cd T 2 with
  | none => decide (th t a b + th t b a < 6)
  | some cs => decide (evS cs (envF T t a b) = 1)
/-- a stroke: the new state, and the curtain if one comes (year, sitter, painter) -/
def strokeS (T : Te) (t : St) (sit side : Nat) : St × List (Nat × Nat × Nat) := match nb t (tn T) sit side with
  | none => (t, [])
  | some w => if sp t w = 1 then (t, []) else
    (sTh (sLk t sit (paintS T t sit w side)) sit w (mindS T t sit w ((paintS T t sit w side : Int) - (lk t sit : Int))), if paintS T t sit w side = 0 ∧ 0 < lk t sit then [(yr t, sit, w)] else [])
def houseS (T : Te) (t : St) (h : Nat) : St × List (Nat × Nat × Nat) := match who t (tn T) h with
  | none => (t, [])
  | some p => ((strokeS T (strokeS T t p 0).1 p 1).1, (strokeS T t p 0).2 ++ (strokeS T (strokeS T t p 0).1 p 1).2)
def housesS (T : Te) : Nat → St → Nat → St × List (Nat × Nat × Nat)
  | 0, t, _ => (t, [])
  | k + 1, t, h => ((housesS T k (houseS T t h).1 (h + 1)).1, (houseS T t h).2 ++ (housesS T k (houseS T t h).1 (h + 1)).2)
def yearS (T : Te) (t : St) : St × List (Nat × Nat × Nat) := (sYr (housesS T (tH T) t 0).1 (yr (housesS T (tH T) t 0).1 + 1), (housesS T (tH T) t 0).2)
def yearsS (T : Te) : Nat → St → St × List (Nat × Nat × Nat)
  | 0, t => (t, [])
  | k + 1, t => ((yearsS T k (yearS T t).1).1, (yearS T t).2 ++ (yearsS T k (yearS T t).1).2)
theorem rpn_congr {al : Nat → Bool} {env env' : Nat → Int} {ofn ofn' : Nat → Int → Int} (he : ∀ k, al k = true → env k = env' k) : ∀ (cs : List Nat) (vs : List Int), okC al cs → rpn env ofn cs vs = rpn env' ofn' cs vs
  | [], _, _ => rfl
  | c :: cs, vs, h => by
    have h1 : stp env ofn c vs = stp env' ofn' c vs := by
      unfold stp
      rcases h c List.mem_cons_self with q | ⟨q1, q2, q3⟩
      · by_cases h1 : 1000 ≤ c
        · rw [if_pos h1, if_pos h1]
        · simp only [if_neg h1, if_neg (show ¬ 60 ≤ c by omega), if_neg (show ¬ 40 ≤ c by omega)]
      · simp only [if_neg (show ¬ 1000 ≤ c by omega), if_neg (show ¬ 60 ≤ c by omega), if_pos q1, he _ q3]
    show rpn env ofn cs (stp env ofn c vs) = rpn env' ofn' cs (stp env' ofn' c vs)
    rw [h1]
    exact rpn_congr he cs _ (okC_tl h)
theorem rpn_one {env : Nat → Int} {ofn : Nat → Int → Int} {cs : List Nat} {t : Bool} (h : tyC cs [] = some [t]) : ∃ v, rpn env ofn cs [] = [v] ∧ okv t v := by
  have := rpn_ok (env := env) (ofn := ofn) h (vs := []) trivial
  match hr : rpn env ofn cs [], this with
  | [v], hv => exact ⟨v, rfl, hv.1⟩
theorem ff_congr {f f' : Nat → Bool} : ∀ (k i : Nat), (∀ j, i ≤ j → j < i + k → f j = f' j) → ff f k i = ff f' k i
  | 0, _, _ => rfl
  | k + 1, i, h => by
    unfold ff
    rw [h i (Nat.le_refl _) (by omega), ff_congr k (i + 1) (fun j h1 h2 => h j (by omega) (by omega))]
theorem ff_none {f : Nat → Bool} : ∀ (k i : Nat), (∀ j, i ≤ j → j < i + k → f j = false) → ff f k i = none
  | 0, _, _ => rfl
  | k + 1, i, h => by
    unfold ff
    rw [h i (Nat.le_refl _) (by omega), ff_none k (i + 1) (fun j h1 h2 => h j (by omega) (by omega))]
    rfl
theorem who_lt {t : St} {n h p : Nat} (e : who t n h = some p) : p < n := by have := ff_lt e; omega
theorem nb_lt {t : St} {n p side w : Nat} (e : nb t n p side = some w) : w < n := by
  unfold nb at e
  split at e
  · split at e
    · cases e
    · exact who_lt e
  · exact who_lt e
theorem paintS_le {T : Te} {t : St} {sit pai side : Nat} (h : lk t sit ≤ 99) : paintS T t sit pai side ≤ 99 := by
  unfold paintS; split
  · exact h
  · exact cutN_le _ _
theorem mindS_le {T : Te} {t : St} {sit pai : Nat} {gain : Int} (h : th t sit pai ≤ 9) : mindS T t sit pai gain ≤ 9 := by
  unfold mindS; split
  · exact h
  · exact cutN_le _ _
theorem strokeS_SB {T : Te} {t : St} {sit side : Nat} (h : SB (tn T) t) (hs0 : sit < tn T) : SB (tn T) (strokeS T t sit side).1 := by
  unfold strokeS
  split
  · exact h
  · next w hw =>
    split
    · exact h
    · refine ⟨h.1, fun p hp => ⟨(h.2 p hp).1, ?_, (h.2 p hp).2.2.1, fun q hq => ?_⟩⟩
      · show va_up (lk t) sit _ p ≤ 99
        unfold va_up
        split
        · exact paintS_le (h.2 sit hs0).2.1
        · exact (h.2 p hp).2.1
      · show va_up (th t) sit (va_up (th t sit) w _) p q ≤ 9
        unfold va_up
        split
        · show (if q = w then _ else _) ≤ 9
          split
          · exact mindS_le ((h.2 sit hs0).2.2.2 w (nb_lt hw))
          · exact (h.2 sit hs0).2.2.2 q hq
        · exact (h.2 p hp).2.2.2 q hq
theorem strokeS_yr {T : Te} {t : St} {sit side : Nat} : yr (strokeS T t sit side).1 = yr t := by
  unfold strokeS
  split
  · rfl
  · split <;> rfl
theorem strokeS_hs {T : Te} {t : St} {sit side : Nat} : hs (strokeS T t sit side).1 = hs t := by
  unfold strokeS
  split
  · rfl
  · split <;> rfl
theorem houseS_SB {T : Te} {t : St} {h : Nat} (hb : SB (tn T) t) : SB (tn T) (houseS T t h).1 := by
  unfold houseS
  split
  · exact hb
  · next p hp => exact strokeS_SB (strokeS_SB hb (who_lt hp)) (who_lt hp)
theorem housesS_SB {T : Te} : ∀ (k : Nat) (t : St) (h : Nat), SB (tn T) t → SB (tn T) (housesS T k t h).1
  | 0, _, _, hb => hb
  | k + 1, t, h, hb => housesS_SB k _ _ (houseS_SB hb)
theorem houseS_yr {T : Te} {t : St} {h : Nat} : yr (houseS T t h).1 = yr t := by
  unfold houseS
  split
  · rfl
  · show yr (strokeS T _ _ 1).1 = _
    rw [strokeS_yr, strokeS_yr]
theorem housesS_yr {T : Te} : ∀ (k : Nat) (t : St) (h : Nat), yr (housesS T k t h).1 = yr t
  | 0, _, _ => rfl
  | k + 1, t, h => (housesS_yr k _ _).trans houseS_yr
theorem yearS_yr {T : Te} {t : St} : yr (yearS T t).1 = yr t + 1 := by
  show yr (housesS T (tH T) t 0).1 + 1 = _
  rw [housesS_yr]
theorem yearS_SB {T : Te} {t : St} (hb : SB (tn T) t) (hy : yr t < 2000) : SB (tn T) (yearS T t).1 := by
  have := housesS_SB (T := T) (tH T) t 0 hb
  refine ⟨?_, this.2⟩
  rw [yearS_yr]; omega
