set_option maxRecDepth 100000
/-! SPEC 15: tests by the model's way -/
def gN (v : Nat) : Bool := v == 12
def gA1 (v : Nat) : Bool := v == 10
def gA2 (v : Nat) : Bool := v == 10 || v == 11
def gSq (v : Nat) : Bool := v != 25
section MachT
variable (f : Nat → Nat) (n x : Nat)
def facM (op p : Nat) : Rz := if word f n p = some wAll then .ok ([13], p + 3) else thanP f n (atomP f n x (6 - op)) p
def stpU (a : Nat) (cs W : List Nat) (op : Nat) : Cf ⊕ Ou :=
  if lookO f n a = some 91 then (if op = 6 then .inr (.error (4, skip f n a)) else .inl (true, skip f n a + 1, cs, 25 :: W, op + 1))
  else if word f n (skip f n a) = some wNot then (if op = 6 then .inr (.error (4, skip f n a)) else .inl (true, skip f n a + 3, cs, 12 :: W, op + 1))
  else match facM f n x op (skip f n a) with
    | .error e => .inr (.error e)
    | .ok y => .inl (false, y.2, cs ++ y.1 ++ (popW gN W).1, (popW gN W).2, op - (popW gN W).1.length)
def stpV (a : Nat) (cs W : List Nat) (op : Nat) : Cf ⊕ Ou :=
  if lookO f n a = some 93 ∧ 25 ∈ W then .inl (false, skip f n a + 1, cs ++ (popW gSq W).1 ++ (popW gN (popW gSq W).2.tail).1, (popW gN (popW gSq W).2.tail).2, op - 1 - (popW gN (popW gSq W).2.tail).1.length)
  else if word f n (skip f n a) = some wAnd then .inl (true, skip f n a + 3, cs ++ (popW gA1 W).1, 10 :: (popW gA1 W).2, op)
  else if word f n (skip f n a) = some wOr then .inl (true, skip f n a + 2, cs ++ (popW gA2 W).1, 11 :: (popW gA2 W).2, op)
  else if 25 ∈ W then .inr (.error (1, skip f n a))
  else .inr (.ok (skip f n a, cs ++ W, op))
def stpT (c : Cf) : Cf ⊕ Ou := if c.1 then stpU f n x c.2.1 c.2.2.1 c.2.2.2.1 c.2.2.2.2 else stpV f n c.2.1 c.2.2.1 c.2.2.2.1 c.2.2.2.2
def runT : Nat → Cf → Option Ou
  | 0, _ => none
  | k + 1, c => match stpT f n x c with
    | .inl d => runT k d
    | .inr r => some r
def EndT (c : Cf) (r : Ou) : Prop := ∃ k, runT f n x k c = some r
/-- a fault, now or at what comes next: a letter stands there -/
def EndE (c : Cf) (e : Nat × Nat) : Prop := EndT f n x c (.error e) ∨ ∃ cs op, EndT f n x c (.ok (e.2, cs, op)) ∧ e.1 = 1 ∧ e.2 < n ∧ ltr (f e.2) = true
end MachT
section ProgT
variable {f : Nat → Nat} {n x : Nat}
theorem psW_some {w : List Nat} {a b : Nat} (h : psW f n w a = .ok (some b)) : word f n (skip f n a) = some w ∧ b = skip f n a + w.length := by
  unfold psW at h
  split at h
  · split at h
    · cases h
    · split at h
      · next hw => cases h; exact ⟨hw, rfl⟩
      · cases h
  · cases h
theorem psW_none {w : List Nat} {a : Nat} (h : psW f n w a = .ok none) : word f n (skip f n a) ≠ some w ∧ ¬ (ltrO (lookO f n a) = true ∧ ptd f (skip f n a) = true) := by
  unfold psW at h
  split at h
  · split at h
    · cases h
    · next hp =>
      split at h
      · cases h
      · next hw => exact ⟨hw, fun q => hp q.2⟩
  · next hl =>
    refine ⟨fun q => hl ?_, fun q => hl q.1⟩
    obtain ⟨h1, h2, -⟩ := word_some q
    unfold lookO; rw [if_pos h1]; exact h2
theorem psW_err {w : List Nat} {a : Nat} {e : Nat × Nat} (h : psW f n w a = .error e) : e = (1, skip f n a) ∧ ltrO (lookO f n a) = true ∧ ptd f (skip f n a) = true := by
  unfold psW at h
  split at h
  · next hl =>
    split at h
    · next hp => cases h; exact ⟨rfl, hl, hp⟩
    · split at h <;> cases h
  · cases h
theorem ltrO_some {a : Nat} (h : ltrO (lookO f n a) = true) : skip f n a < n ∧ ltr (f (skip f n a)) = true := by
  unfold lookO at h
  split at h
  · next hc => exact ⟨hc, h⟩
  · cases h
theorem atmK_skip {r : Option (Nat → Rz)} (a : Nat) : atmK f n x r (skip f n a) = atmK f n x r a := by unfold atmK; rw [skip_idem]
theorem atomP_skip {o : Nat} (a : Nat) : atomP f n x o (skip f n a) = atomP f n x o a := by
  cases o with
  | zero => exact atmK_skip a
  | succ o => exact atmK_skip a
theorem sumP_sk {o : Nat} (a : Nat) : sumP f n (atomP f n x o) (skip f n a) = sumP f n (atomP f n x o) a := by
  unfold sumP prodP; rw [atomP_skip]
theorem thanP_sk {o : Nat} (a : Nat) : thanP f n (atomP f n x o) (skip f n a) = thanP f n (atomP f n x o) a := by
  unfold thanP; rw [sumP_sk]
/-- a word that isn't parted begins no part -/
theorem aTok_bad {p : Nat} (h : ltr (f p) = true) (hp : ptd f p = true) : aTok f n x p = .error (1, p) := by
  have hw : word f n p = none := by unfold word; rw [if_neg (fun q => by rw [hp] at q; cases q.2.2)]
  have h40 : ¬ (p < n ∧ f p = 40) := fun q => by rw [q.2] at h; cases h
  have hn : numP f n 0 9999 p = .error (1, p) := by unfold numP; rw [if_neg (fun q => by rw [hp] at q; cases q.2.2)]
  unfold aTok
  rw [if_neg h40, hw]
  have hwh : whN x none = none := by unfold whN; simp
  have hwr : ∀ lo hi, wrdO x lo hi none = none := fun lo hi => by unfold wrdO; rw [hwh]
  rw [if_neg (by intro q; cases q), if_neg (by intro q; cases q), hn, hwr, hwr]
  rfl
theorem thanP_bad {o a : Nat} (h : ltr (f (skip f n a)) = true) (hp : ptd f (skip f n a) = true) : thanP f n (atomP f n x o) a = .error (1, skip f n a) := by
  have : atomP f n x o a = .error (1, skip f n a) := by
    cases o with
    | zero => show atmK f n x none a = _; unfold atmK; rw [aTok_bad h hp]
    | succ o => show atmK f n x (some _) a = _; unfold atmK; rw [aTok_bad h hp]
  unfold thanP sumP prodP
  rw [this]; rfl
theorem thanP_prg {it : Nat → Rz} (hi : prg n it) : prg n (thanP f n it) := by
  intro a y h
  obtain ⟨w, hw, h⟩ := thn_ok h
  have h3 := sumP_prg hi _ _ hw
  cases hs : sgT f n w.2 with
  | none => rw [hs] at h; cases h
  | some v =>
    rw [hs] at h
    have h : thn (sumP f n it (skip f n w.2 + 1)) (fun ds c => .ok (w.1 ++ (ds ++ [v]), c)) = .ok y := h
    obtain ⟨z, hz, h⟩ := thn_ok h
    have h4 := sumP_prg hi _ _ hz
    have h5 := skip_ge f n w.2
    cases h
    exact ⟨(by show a < z.2; omega), h4.2.1, (by show a + (w.1 ++ (z.1 ++ [v])).length ≤ z.2; simp only [List.length_append, List.length_singleton]; omega)⟩
theorem loopT_ok {it : Nat → Rz} {w : List Nat} {v : Nat} (hi : prg n it) : ∀ k cs a y, loopT f n it w v k cs a = .ok y → a ≤ n → a ≤ y.2 ∧ y.2 ≤ n ∧ a + y.1.length ≤ y.2 + cs.length := by
  intro k
  induction k with
  | zero => intro cs a y h ha; cases h; exact ⟨Nat.le_refl _, ha, Nat.le_refl _⟩
  | succ k ih =>
    intro cs a y h ha
    unfold loopT at h
    cases h1 : psW f n w a with
    | error e => rw [h1] at h; cases h
    | ok o =>
      rw [h1] at h
      cases o with
      | none => cases h; exact ⟨skip_ge f n a, skip_le ha, (by show a + cs.length ≤ skip f n a + cs.length; have := skip_ge f n a; omega)⟩
      | some b =>
        obtain ⟨z, hz, h⟩ := thn_ok h
        obtain ⟨w1, w2⟩ := psW_some h1
        have w3 := word_end w1
        have w4 := skip_ge f n a
        have h3 := hi _ _ hz
        have h4 := ih _ _ _ h h3.2.1
        simp only [List.length_append, List.length_singleton] at h4
        omega
theorem bothP_prg {it : Nat → Rz} (hi : prg n it) : prg n (bothP f n it) := by
  intro a y h
  obtain ⟨w, hw, h⟩ := thn_ok h
  have h3 := hi _ _ hw
  have h4 := loopT_ok hi _ _ _ _ h h3.2.1
  omega
theorem testP_prg {it : Nat → Rz} (hi : prg n it) : prg n (testP f n it) := by
  intro a y h
  obtain ⟨w, hw, h⟩ := thn_ok h
  have h3 := bothP_prg hi _ _ hw
  have h4 := loopT_ok (bothP_prg hi) _ _ _ _ h h3.2.1
  omega
theorem fctK_prg {o : Nat} {r : Option (Nat → Rz)} (hr : ∀ it, r = some it → prg n it) : prg n (fctK f n x o r) := by
  intro a y h
  have hg := skip_ge f n a
  unfold fctK at h
  split at h
  · cases r with
    | none => cases h
    | some it =>
      obtain ⟨w, hw, h⟩ := thn_ok h
      have h3 := testP_prg (hr it rfl) _ _ hw
      obtain ⟨b, hb, rfl⟩ := fin_ok h
      have := sgP_ok hb
      exact ⟨(by show a < b; omega), this.2.1, (by show a + w.1.length ≤ b; omega)⟩
  · cases h1 : psW f n wNot a with
    | error e => rw [h1] at h; cases h
    | ok z =>
      rw [h1] at h
      cases z with
      | some b =>
        obtain ⟨w1, w2⟩ := psW_some h1
        have w3 := word_end w1
        cases r with
        | none => cases h
        | some it =>
          obtain ⟨w, hw, h⟩ := thn_ok h
          have h3 := hr it rfl _ _ hw
          cases h
          exact ⟨(by show a < w.2; omega), h3.2.1, (by show a + (w.1 ++ [12]).length ≤ w.2; simp only [List.length_append, List.length_singleton]; omega)⟩
      | none =>
        have h : (match psW f n wAll a with
          | .error e => .error e
          | .ok (some b) => .ok ([13], b)
          | .ok none => thanP f n (atomP f n x o) a : Rz) = .ok y := h
        cases h2 : psW f n wAll a with
        | error e => rw [h2] at h; cases h
        | ok z =>
          rw [h2] at h
          cases z with
          | some b =>
            obtain ⟨w1, w2⟩ := psW_some h2
            have w3 := word_end w1
            cases h
            exact ⟨(by show a < b; omega), (by show b ≤ n; omega), (by show a + 1 ≤ b; omega)⟩
          | none => exact thanP_prg (atomP_prg o) a y h
theorem factP_prg : ∀ o, prg n (factP f n x o)
  | 0 => fctK_prg (fun it h => by cases h)
  | o + 1 => fctK_prg (fun it h => by cases h; exact factP_prg o)
/-- what may wait of tests -/
def okT (W : List Nat) : Prop := ∀ v ∈ W, v = 10 ∨ v = 11 ∨ v = 12 ∨ v = 25
def cT (W : List Nat) : Nat := (W.filter (fun v => decide (12 ≤ v))).length
theorem cT_app (P V : List Nat) : cT (P ++ V) = cT P + cT V := by unfold cT; rw [List.filter_append, List.length_append]
theorem cT_cons (v : Nat) (V : List Nat) : cT (v :: V) = (if 12 ≤ v then 1 else 0) + cT V := by
  unfold cT; rw [List.filter_cons]
  by_cases h : 12 ≤ v
  · simp [h]; omega
  · simp [h]
theorem cT_pop (g : Nat → Bool) (V : List Nat) : cT (popW g V).1 + cT (popW g V).2 = cT V := by rw [← cT_app, popW_eq]
theorem cT_all {P : List Nat} (h : ∀ v ∈ P, 12 ≤ v) : cT P = P.length := by
  unfold cT; rw [List.filter_eq_self.mpr (fun v hv => by simpa using h v hv)]
theorem popN_len (V : List Nat) : cT (popW gN V).1 = (popW gN V).1.length := cT_all (fun v hv => by
  have := popW_all gN V v hv
  unfold gN at this
  have : v = 12 := by simpa using this
  omega)
theorem okT_pop {g : Nat → Bool} {W : List Nat} (h : okT W) : okT (popW g W).2 := fun v hv => h v (by rw [← popW_eq g W]; exact List.mem_append_right _ hv)
theorem sq_some {W : List Nat} (h : 25 ∈ W) : (popW gSq W).2 = 25 :: (popW gSq W).2.tail := by
  induction W with
  | nil => nomatch h
  | cons v W ih =>
    by_cases e : v = 25
    · subst e; rfl
    · have hW : 25 ∈ W := by rcases List.mem_cons.mp h with q | q; exact absurd q.symm e; exact q
      have : popW gSq (v :: W) = (v :: (popW gSq W).1, (popW gSq W).2) := if_pos (by unfold gSq; simp [e])
      rw [this]; exact ih hW
def iT (n a0 : Nat) (c : Cf) : Prop := c.2.2.1.length + c.2.2.2.1.length + a0 ≤ c.2.1 ∧ c.2.1 ≤ n ∧ cT c.2.2.2.1 ≤ c.2.2.2.2 ∧ c.2.2.2.2 ≤ 6 ∧ okT c.2.2.2.1
theorem facM_prg {op : Nat} {y : List Nat × Nat} {p : Nat} (h : facM f n x op p = .ok y) : p < y.2 ∧ y.2 ≤ n ∧ p + y.1.length ≤ y.2 := by
  unfold facM at h
  split at h
  · next hw =>
    have := word_end hw
    have h3 : p + 3 ≤ n := by simpa using this.1
    cases h; exact ⟨(by show p < p + 3; omega), h3, (by show p + 1 ≤ p + 3; omega)⟩
  · exact thanP_prg (atomP_prg _) p y h
theorem stpT_inv {a0 : Nat} {c d : Cf} (h : stpT f n x c = .inl d) (hi : iT n a0 c) : iT n a0 d := by
  obtain ⟨m, a, cs, W, op⟩ := c
  obtain ⟨h1, h2, h3, h4, h5⟩ := hi
  have h1 : cs.length + W.length + a0 ≤ a := h1
  have h2 : a ≤ n := h2
  have h3 : cT W ≤ op := h3
  have h4 : op ≤ 6 := h4
  have h5 : okT W := h5
  have hg := skip_ge f n a
  cases m with
  | true =>
    have h : stpU f n x a cs W op = .inl d := h
    unfold stpU at h
    split at h
    · next hl =>
      have hl := lookO_some hl
      split at h
      · cases h
      · cases h
        exact ⟨(by show cs.length + (W.length + 1) + a0 ≤ skip f n a + 1; omega), hl.1, (by show cT (25 :: W) ≤ op + 1; rw [cT_cons]; simp; omega), (by show op + 1 ≤ 6; omega), fun v hv => by rcases List.mem_cons.mp hv with e | e; exact Or.inr (Or.inr (Or.inr e)); exact h5 v e⟩
    · split at h
      · next hw =>
        have hw := word_end hw
        have h3' : skip f n a + 3 ≤ n := by simpa using hw.1
        split at h
        · cases h
        · cases h
          exact ⟨(by show cs.length + (W.length + 1) + a0 ≤ skip f n a + 3; omega), h3', (by show cT (12 :: W) ≤ op + 1; rw [cT_cons]; simp; omega), (by show op + 1 ≤ 6; omega), fun v hv => by rcases List.mem_cons.mp hv with e | e; exact Or.inr (Or.inr (Or.inl e)); exact h5 v e⟩
      · cases hf : facM f n x op (skip f n a) with
        | error e => rw [hf] at h; cases h
        | ok y =>
          rw [hf] at h
          have hp := facM_prg hf
          have p1 := popW_len gN W
          have p2 := cT_pop gN W
          have p3 := popN_len W
          cases h
          refine ⟨?_, hp.2.1, (by show cT (popW gN W).2 ≤ op - (popW gN W).1.length; omega), (by show op - _ ≤ 6; omega), okT_pop h5⟩
          show (cs ++ y.1 ++ (popW gN W).1).length + (popW gN W).2.length + a0 ≤ y.2
          simp only [List.length_append]; omega
  | false =>
    have h : stpV f n a cs W op = .inl d := h
    unfold stpV at h
    split at h
    · next hc =>
      have hl := lookO_some hc.1
      have e1 := sq_some hc.2
      have p1 := popW_len gSq W
      have p2 := cT_pop gSq W
      have p3 : (popW gSq W).2.length = (popW gSq W).2.tail.length + 1 := by rw [e1]; simp
      have p4 : cT (popW gSq W).2 = 1 + cT (popW gSq W).2.tail := by rw [e1, cT_cons]; simp
      have p5 := popW_len gN (popW gSq W).2.tail
      have p6 := cT_pop gN (popW gSq W).2.tail
      have p7 := popN_len (popW gSq W).2.tail
      cases h
      refine ⟨?_, hl.1, ?_, (by show op - 1 - _ ≤ 6; omega), ?_⟩
      · show (cs ++ (popW gSq W).1 ++ (popW gN (popW gSq W).2.tail).1).length + (popW gN (popW gSq W).2.tail).2.length + a0 ≤ skip f n a + 1
        simp only [List.length_append]; omega
      · show cT (popW gN (popW gSq W).2.tail).2 ≤ op - 1 - (popW gN (popW gSq W).2.tail).1.length
        omega
      · exact okT_pop (fun v hv => okT_pop (g := gSq) h5 v (by rw [e1]; exact List.mem_cons_of_mem _ hv))
    · split at h
      · next hw =>
        have hw := word_end hw
        have h3' : skip f n a + 3 ≤ n := by simpa using hw.1
        have p1 := popW_len gA1 W
        have p2 := cT_pop gA1 W
        cases h
        refine ⟨?_, h3', (by show cT (10 :: (popW gA1 W).2) ≤ op; rw [cT_cons]; simp; omega), h4, fun v hv => by rcases List.mem_cons.mp hv with e | e; exact Or.inl e; exact okT_pop h5 v e⟩
        show (cs ++ (popW gA1 W).1).length + ((popW gA1 W).2.length + 1) + a0 ≤ skip f n a + 3
        simp only [List.length_append]; omega
      · split at h
        · next hw =>
          have hw := word_end hw
          have h3' : skip f n a + 2 ≤ n := by simpa using hw.1
          have p1 := popW_len gA2 W
          have p2 := cT_pop gA2 W
          cases h
          refine ⟨?_, h3', (by show cT (11 :: (popW gA2 W).2) ≤ op; rw [cT_cons]; simp; omega), h4, fun v hv => by rcases List.mem_cons.mp hv with e | e; exact Or.inr (Or.inl e); exact okT_pop h5 v e⟩
          show (cs ++ (popW gA2 W).1).length + ((popW gA2 W).2.length + 1) + a0 ≤ skip f n a + 2
          simp only [List.length_append]; omega
        · split at h <;> cases h
end ProgT
