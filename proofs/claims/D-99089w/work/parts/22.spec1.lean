set_option maxRecDepth 100000
/-! SPEC 1: what codes tell, over whole numbers -/
def clip (v : Int) : Int := if v > 1000000 then 1000000 else if v < -1000000 then -1000000 else v
abbrev b6 (v : Int) : Prop := -1000000 ≤ v ∧ v ≤ 1000000
theorem clip_b6 (v : Int) : b6 (clip v) := by unfold clip; split <;> (try split) <;> (constructor <;> omega)
theorem clip_id {v : Int} (h : b6 v) : clip v = v := by unfold clip; obtain ⟨h1, h2⟩ := h; rw [if_neg (by omega), if_neg (by omega)]
/-- division with its rest towards less infinity; by nothing: nothing -/
def flr (a b : Int) : Int := if b = 0 then 0 else if a.tmod b ≠ 0 ∧ (a < 0 ↔ ¬ b < 0) then a.tdiv b - 1 else a.tdiv b
theorem flr_b6 {a b : Int} (ha : b6 a) : b6 (flr a b) := by
  have hq : (a.tdiv b).natAbs ≤ a.natAbs := by rw [Int.natAbs_tdiv]; exact Nat.div_le_self _ _
  obtain ⟨h1, h2⟩ := ha
  unfold flr
  split
  · constructor <;> decide
  · next hb =>
    split
    · next h =>
      have hb2 : 2 ≤ b.natAbs := by
        rcases Nat.lt_or_ge b.natAbs 2 with h9 | h9
        · exfalso
          have h8 : b = 1 ∨ b = -1 := by omega
          rcases h8 with h8 | h8 <;> subst h8 <;> simp at h
        · exact h9
      have hq2 : (a.tdiv b).natAbs ≤ a.natAbs / 2 := by
        rw [Int.natAbs_tdiv]
        exact Nat.div_le_div_left hb2 (by decide)
      constructor <;> omega
    · constructor <;> omega
def jn (op : Nat) (a b : Int) : Int := match op with
  | 1 => clip (a + b)
  | 2 => clip (a - b)
  | 3 => clip (a * b)
  | 4 => flr a b
  | 5 => if a < b then a else b
  | 6 => if b < a then a else b
  | 7 => if a < b then 1 else 0
  | 8 => if b < a then 1 else 0
  | 9 => if a = b then 1 else 0
  | 10 => a * b
  | _ => if 0 < a + b then 1 else 0
/-- one code: env the parts, ofn the parts of a number -/
def stp (env : Nat → Int) (ofn : Nat → Int → Int) (c : Nat) (st : List Int) : List Int :=
  if 1000 ≤ c then ((c : Int) - 1000) :: st
  else if 60 ≤ c then (match st with | a :: r => clip (ofn (c - 60) a) :: r | [] => [])
  else if 40 ≤ c then clip (env (c - 40)) :: st
  else if c = 13 then 1 :: st
  else if c = 12 then (match st with | a :: r => (1 - a) :: r | [] => [])
  else (match st with | b :: a :: r => jn c a b :: r | _ => [])
def rpn (env : Nat → Int) (ofn : Nat → Int → Int) : List Nat → List Int → List Int
  | [], st => st
  | c :: cs, st => rpn env ofn cs (stp env ofn c st)
theorem rpn_app (env : Nat → Int) (ofn : Nat → Int → Int) : ∀ (a b : List Nat) (st : List Int), rpn env ofn (a ++ b) st = rpn env ofn b (rpn env ofn a st)
  | [], _, _ => rfl
  | _ :: a, b, st => rpn_app env ofn a b _
/-- types: true a number, false a truth -/
def tyS (c : Nat) (st : List Bool) : Option (List Bool) :=
  if 1000 ≤ c then (if c < 11000 then some (true :: st) else none)
  else if 60 ≤ c then (match st with | true :: r => some (true :: r) | _ => none)
  else if 40 ≤ c then some (true :: st)
  else if c = 13 then some (false :: st)
  else if c = 12 then (match st with | false :: r => some (false :: r) | _ => none)
  else if c = 10 ∨ c = 11 then (match st with | false :: false :: r => some (false :: r) | _ => none)
  else if 7 ≤ c ∧ c ≤ 9 then (match st with | true :: true :: r => some (false :: r) | _ => none)
  else if 1 ≤ c ∧ c ≤ 6 then (match st with | true :: true :: r => some (true :: r) | _ => none)
  else none
def tyC : List Nat → List Bool → Option (List Bool)
  | [], st => some st
  | c :: cs, st => (tyS c st).bind (tyC cs)
theorem tyC_app : ∀ (a b : List Nat) (st : List Bool), tyC (a ++ b) st = (tyC a st).bind (tyC b)
  | [], _, _ => rfl
  | c :: a, b, st => by
    show (tyS c st).bind (tyC (a ++ b)) = ((tyS c st).bind (tyC a)).bind (tyC b)
    cases tyS c st with
    | none => rfl
    | some x => exact tyC_app a b x
def okv (t : Bool) (v : Int) : Prop := if t then b6 v else (v = 0 ∨ v = 1)
theorem okv_b6 {t : Bool} {v : Int} (h : okv t v) : b6 v := by
  cases t with
  | true => exact h
  | false => rcases h with h | h <;> subst h <;> (constructor <;> decide)
def okl : List Bool → List Int → Prop
  | [], [] => True
  | t :: ts, v :: vs => okv t v ∧ okl ts vs
  | _, _ => False
theorem jn_num {op : Nat} {a b : Int} (h : 1 ≤ op ∧ op ≤ 6) (ha : b6 a) (hb : b6 b) : b6 (jn op a b) := by
  have : op = 1 ∨ op = 2 ∨ op = 3 ∨ op = 4 ∨ op = 5 ∨ op = 6 := by omega
  rcases this with h | h | h | h | h | h <;> subst h
  · exact clip_b6 _
  · exact clip_b6 _
  · exact clip_b6 _
  · exact flr_b6 ha
  · show b6 (if a < b then a else b); split <;> assumption
  · show b6 (if b < a then a else b); split <;> assumption
theorem jn_cmp {op : Nat} {a b : Int} (h : 7 ≤ op ∧ op ≤ 9) : jn op a b = 0 ∨ jn op a b = 1 := by
  have : op = 7 ∨ op = 8 ∨ op = 9 := by omega
  rcases this with h | h | h <;> subst h
  · show (if a < b then (1 : Int) else 0) = 0 ∨ (if a < b then (1 : Int) else 0) = 1; split <;> simp
  · show (if b < a then (1 : Int) else 0) = 0 ∨ (if b < a then (1 : Int) else 0) = 1; split <;> simp
  · show (if a = b then (1 : Int) else 0) = 0 ∨ (if a = b then (1 : Int) else 0) = 1; split <;> simp
theorem jn_and {a b : Int} (ha : a = 0 ∨ a = 1) (hb : b = 0 ∨ b = 1) : jn 10 a b = 0 ∨ jn 10 a b = 1 := by
  rcases ha with h | h <;> rcases hb with h' | h' <;> subst h <;> subst h' <;> decide
theorem jn_or (a b : Int) : jn 11 a b = 0 ∨ jn 11 a b = 1 := by
  show (if 0 < a + b then (1 : Int) else 0) = 0 ∨ (if 0 < a + b then (1 : Int) else 0) = 1; split <;> simp
/-- a typed code keeps typed values; its kinds, for the walk -/
theorem tyS_ok {env : Nat → Int} {ofn : Nat → Int → Int} {c : Nat} {ts ts' : List Bool} {vs : List Int} (h : tyS c ts = some ts') (hv : okl ts vs) : okl ts' (stp env ofn c vs) := by
  unfold tyS at h
  unfold stp
  split at h
  · next h1 =>
    rw [if_pos h1]
    split at h
    · next h2 => cases h; exact ⟨⟨by omega, by omega⟩, hv⟩
    · cases h
  · next h1 =>
    rw [if_neg h1]
    split at h
    · next h2 =>
      rw [if_pos h2]
      match ts, h, hv with
      | true :: r, h, hv =>
        cases h
        match vs, hv with
        | v :: vs, hv => exact ⟨clip_b6 _, hv.2⟩
    · next h2 =>
      rw [if_neg h2]
      split at h
      · next h3 => rw [if_pos h3]; cases h; exact ⟨clip_b6 _, hv⟩
      · next h3 =>
        rw [if_neg h3]
        split at h
        · next h4 => rw [if_pos h4]; cases h; exact ⟨Or.inr rfl, hv⟩
        · next h4 =>
          rw [if_neg h4]
          split at h
          · next h5 =>
            rw [if_pos h5]
            match ts, h, hv with
            | false :: r, h, hv =>
              cases h
              match vs, hv with
              | v :: vs, hv =>
                refine ⟨?_, hv.2⟩
                rcases hv.1 with e | e
                · exact Or.inr (by omega)
                · exact Or.inl (by omega)
          · next h5 =>
            rw [if_neg h5]
            split at h
            · next h6 =>
              match ts, h, hv with
              | false :: false :: r, h, hv =>
                cases h
                match vs, hv with
                | b :: a :: vs, hv =>
                  refine ⟨?_, hv.2.2⟩
                  rcases h6 with e | e <;> subst e
                  · exact jn_and hv.2.1 hv.1
                  · exact jn_or a b
            · next h6 =>
              split at h
              · next h7 =>
                match ts, h, hv with
                | true :: true :: r, h, hv =>
                  cases h
                  match vs, hv with
                  | b :: a :: vs, hv => exact ⟨jn_cmp h7, hv.2.2⟩
              · next h7 =>
                split at h
                · next h8 =>
                  match ts, h, hv with
                  | true :: true :: r, h, hv =>
                    cases h
                    match vs, hv with
                    | b :: a :: vs, hv => exact ⟨jn_num h8 hv.2.1 hv.1, hv.2.2⟩
                · cases h
theorem okl_len : ∀ {ts : List Bool} {vs : List Int}, okl ts vs → ts.length = vs.length
  | [], [], _ => rfl
  | _ :: ts, _ :: vs, h => by simp [okl_len h.2]
theorem rpn_ok {env : Nat → Int} {ofn : Nat → Int → Int} : ∀ {cs : List Nat} {ts ts' : List Bool} {vs : List Int}, tyC cs ts = some ts' → okl ts vs → okl ts' (rpn env ofn cs vs)
  | [], ts, ts', vs, h, hv => by cases h; exact hv
  | c :: cs, ts, ts', vs, h, hv => by
    have h' : (tyS c ts).bind (tyC cs) = some ts' := h
    cases e : tyS c ts with
    | none => rw [e] at h'; cases h'
    | some t1 => rw [e] at h'; exact rpn_ok (cs := cs) h' (tyS_ok e hv)
/-- codes in an array from place b on -/
def hol (a : Nat → Int32) : Nat → List Nat → Prop
  | _, [] => True
  | b, c :: cs => a b = nI c ∧ hol a (b + 1) cs
theorem hol_congr {a a' : Nat → Int32} : ∀ {cs : List Nat} {b : Nat}, (∀ i, b ≤ i → i < b + cs.length → a' i = a i) → hol a b cs → hol a' b cs
  | [], _, _, _ => trivial
  | c :: cs, b, h, hh => ⟨by rw [h b (Nat.le_refl _) (by simp)]; exact hh.1, hol_congr (fun i h1 h2 => h i (by omega) (by simp at h2 ⊢; omega)) hh.2⟩
/-- values piled in an array, the top first -/
def pil (b : Nat → Int64) : List Int → Prop
  | [] => True
  | v :: vs => b vs.length = lI v ∧ pil b vs
theorem pil_congr {b b' : Nat → Int64} : ∀ {vs : List Int}, (∀ i, i < vs.length → b' i = b i) → pil b vs → pil b' vs
  | [], _, _ => trivial
  | v :: vs, h, hh => ⟨by rw [h vs.length (by simp)]; exact hh.1, pil_congr (fun i hi => h i (by simp; omega)) hh.2⟩
