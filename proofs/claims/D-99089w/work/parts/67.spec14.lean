set_option maxRecDepth 100000
/-! SPEC 14: reading goes on; what waits stays within its bounds -/
section Prog
variable {f : Nat → Nat} {n x : Nat}
theorem numP_ok {lo hi p : Nat} {y : Nat × Nat} (h : numP f n lo hi p = .ok y) : p < n ∧ p < y.2 ∧ y.2 ≤ n ∧ lo ≤ y.1 ∧ y.1 ≤ hi := by
  unfold numP at h
  split at h
  · next hc =>
    obtain ⟨k, hk⟩ : ∃ k, n - p = k + 1 := ⟨n - p - 1, by omega⟩
    cases h2 : numL f (n - p) p 0 0 with
    | error e => rw [h2] at h; cases h
    | ok z =>
      rw [h2] at h
      have h : (if lo ≤ z.1 ∧ z.1 ≤ hi then (.ok z : Pz (Nat × Nat)) else .error (2, p)) = .ok y := h
      have hz : p + 1 ≤ z.2 ∧ z.2 ≤ n := by
        rw [hk] at h2
        unfold numL at h2
        rw [if_pos hc.2.1, if_neg (by decide)] at h2
        have := numL_ge f k (p + 1) _ _ z h2
        omega
      split at h
      · next hr => cases h; exact ⟨hc.1, by omega, hz.2, hr.1, hr.2⟩
      · cases h
  · cases h
theorem whN_some {w : Option (List Nat)} {k : Nat} (h : whN x w = some k) : ∃ l, w = some l ∧ 2 ≤ l.length := by
  cases w with
  | none => unfold whN at h; simp at h
  | some l =>
    refine ⟨l, rfl, ?_⟩
    by_cases hl : 2 ≤ l.length
    · exact hl
    · exfalso
      unfold whN at h
      have e : ∀ v : List Nat, 2 ≤ v.length → ¬ (some l = some v) := by
        intro v hv q; cases q; exact hl hv
      rw [if_neg (e _ (by decide)), if_neg (e _ (by decide)), if_neg (fun q => e _ (by decide) q.2), if_neg (e _ (by decide)), if_neg (e _ (by decide)), if_neg (e _ (by decide)), if_neg (e _ (by decide)), if_neg (fun q => e _ (by decide) q.2), if_neg (e _ (by decide)), if_neg (e _ (by decide)), if_neg (e _ (by decide)), if_neg (e _ (by decide)), if_neg (e _ (by decide))] at h
      cases h
theorem wrdO_some {w : Option (List Nat)} {lo hi k : Nat} (h : wrdO x lo hi w = some k) : lo ≤ k ∧ k < hi ∧ alwQ x k = true ∧ whN x w = some k ∧ ∃ l, w = some l ∧ 2 ≤ l.length := by
  unfold wrdO at h
  cases h2 : whN x w with
  | none => rw [h2] at h; cases h
  | some j =>
    rw [h2] at h
    have h : (if lo ≤ j ∧ j < hi ∧ alwQ x j = true then some j else none) = some k := h
    split at h
    · next hc => cases h; exact ⟨hc.1, hc.2.1, hc.2.2, rfl, whN_some h2⟩
    · cases h
theorem wln_some {p : Nat} {l : List Nat} (h : word f n p = some l) : wln f n p = l.length := by unfold wln; rw [h]; rfl
/-- a token moves on by one at least, min and max by three -/
theorem aTok_ok {p : Nat} {y : Nat × Nat × Nat} (h : aTok f n x p = .ok y) : p < n ∧ p < y.2.2 ∧ y.2.2 ≤ n ∧ (y.1 = 0 ∨ (y.1 = 1 ∧ y.2.1 ≤ 1) ∨ (y.1 = 2 ∧ y.2.1 ≤ 1 ∧ x ≠ 0 ∧ x ≠ 1 ∧ x ≠ 2) ∨ y.1 = 3) := by
  unfold aTok at h
  split at h
  · next hc => cases h; exact ⟨hc.1, Nat.lt_succ_self p, hc.1, Or.inl rfl⟩
  · split at h
    · next hw => have := word_end hw; have := (word_some hw).1; cases h; exact ⟨this, (by show p < p + 3; omega), (by show p + 3 ≤ n; have := (word_end hw).1; simpa using this), Or.inr (Or.inl ⟨rfl, Nat.zero_le _⟩)⟩
    · split at h
      · next hw => have := (word_some hw).1; cases h; exact ⟨this, (by show p < p + 3; omega), (by show p + 3 ≤ n; have := (word_end hw).1; simpa using this), Or.inr (Or.inl ⟨rfl, Nat.le_refl 1⟩)⟩
      · split at h
        · next k hk =>
          obtain ⟨k1, k2, k3, k4, l, hl, hl2⟩ := wrdO_some hk
          have h3 := word_end hl
          have h4 := (word_some hl).1
          cases h
          refine ⟨h4, (by show p < p + wln f n p; rw [wln_some hl]; omega), (by show p + wln f n p ≤ n; rw [wln_some hl]; omega), Or.inr (Or.inr (Or.inl ⟨rfl, (by show k - 11 ≤ 1; omega), ?_, ?_, ?_⟩))⟩
          · intro e; subst e; unfold alwQ at k3; simp at k3; omega
          · intro e; subst e; unfold alwQ at k3; simp at k3; omega
          · intro e; subst e; unfold alwQ at k3; simp at k3; omega
        · split at h
          · next k hk =>
            obtain ⟨k1, k2, k3, k4, l, hl, hl2⟩ := wrdO_some hk
            have h3 := word_end hl
            have h4 := (word_some hl).1
            cases h
            exact ⟨h4, (by show p < p + wln f n p; rw [wln_some hl]; omega), (by show p + wln f n p ≤ n; rw [wln_some hl]; omega), Or.inr (Or.inr (Or.inr rfl))⟩
          · cases hn : numP f n 0 9999 p with
            | error e => rw [hn] at h; cases h
            | ok z =>
              rw [hn] at h
              have := numP_ok hn
              cases h
              exact ⟨this.1, this.2.1, this.2.2.1, Or.inr (Or.inr (Or.inr rfl))⟩
/-- a reader that moves on -/
def prg (n : Nat) (it : Nat → Rz) : Prop := ∀ a y, it a = .ok y → a < y.2 ∧ y.2 ≤ n ∧ a + y.1.length ≤ y.2
theorem lookO_some {a c : Nat} (h : lookO f n a = some c) : skip f n a < n ∧ f (skip f n a) = c := by
  unfold lookO at h
  split at h
  · next hc => cases h; exact ⟨hc, rfl⟩
  · cases h
theorem sgP_ok {c a b : Nat} (h : sgP f n c a = .ok b) : a < b ∧ b ≤ n ∧ lookO f n a = some c ∧ b = skip f n a + 1 := by
  unfold sgP at h
  split at h
  · next hc =>
    have := lookO_some hc
    have := skip_ge f n a
    cases h
    exact ⟨by omega, by omega, hc, rfl⟩
  · cases h
theorem opM_ok {a : Nat} {y : Nat × Nat} (h : opM f n a = some y) : a < y.2 ∧ y.2 ≤ n := by
  have hg := skip_ge f n a
  unfold opM at h
  split at h
  · next hc => have := lookO_some hc; cases h; exact ⟨(by show a < skip f n a + 1; omega), this.1⟩
  · split at h
    · next hc => have := lookO_some hc; cases h; exact ⟨(by show a < skip f n a + 1; omega), this.1⟩
    · cases h
theorem opA_ok {a : Nat} {y : Nat × Nat} (h : opA f n a = some y) : a < y.2 ∧ y.2 ≤ n := by
  have hg := skip_ge f n a
  unfold opA at h
  split at h
  · next hc => have := lookO_some hc; cases h; exact ⟨(by show a < skip f n a + 1; omega), this.1⟩
  · split at h
    · next hc => have := lookO_some hc; cases h; exact ⟨(by show a < skip f n a + 1; omega), this.1⟩
    · cases h
theorem thn_ok {r : Rz} {k : List Nat → Nat → Rz} {y : List Nat × Nat} (h : thn r k = .ok y) : ∃ z, r = .ok z ∧ k z.1 z.2 = .ok y := by
  cases r with
  | error e => cases h
  | ok z => exact ⟨z, rfl, h⟩
theorem fin_ok {cs : List Nat} {r : Pz Nat} {y : List Nat × Nat} (h : fin cs r = .ok y) : ∃ b, r = .ok b ∧ y = (cs, b) := by
  cases r with
  | error e => cases h
  | ok b => cases h; exact ⟨b, rfl, rfl⟩
theorem loopP_ok {it : Nat → Rz} {op : Nat → Option (Nat × Nat)} (hi : prg n it) (ho : ∀ a y, op a = some y → a < y.2 ∧ y.2 ≤ n) : ∀ k cs a y, loopP f n it op k cs a = .ok y → a ≤ n → a ≤ y.2 ∧ y.2 ≤ n ∧ a + y.1.length ≤ y.2 + cs.length := by
  intro k
  induction k with
  | zero => intro cs a y h ha; cases h; exact ⟨Nat.le_refl _, ha, Nat.le_refl _⟩
  | succ k ih =>
    intro cs a y h ha
    unfold loopP at h
    cases h1 : op a with
    | none => rw [h1] at h; cases h; exact ⟨skip_ge f n a, skip_le ha, (by show a + cs.length ≤ skip f n a + cs.length; have := skip_ge f n a; omega)⟩
    | some z =>
      rw [h1] at h
      obtain ⟨w, hw, h⟩ := thn_ok h
      have h2 := ho a z h1
      have h3 := hi _ _ hw
      have h4 := ih _ _ _ h h3.2.1
      simp only [List.length_append, List.length_singleton] at h4
      omega
theorem prodP_prg {it : Nat → Rz} (hi : prg n it) : prg n (prodP f n it) := by
  intro a y h
  obtain ⟨w, hw, h⟩ := thn_ok h
  have h3 := hi _ _ hw
  have h4 := loopP_ok hi (fun a y => opM_ok) _ _ _ _ h h3.2.1
  omega
theorem sumP_prg {it : Nat → Rz} (hi : prg n it) : prg n (sumP f n it) := by
  intro a y h
  obtain ⟨w, hw, h⟩ := thn_ok h
  have h3 := prodP_prg hi _ _ hw
  have h4 := loopP_ok (prodP_prg hi) (fun a y => opA_ok) _ _ _ _ h h3.2.1
  omega
theorem atmK_prg {r : Option (Nat → Rz)} (hr : ∀ it, r = some it → prg n it) : prg n (atmK f n x r) := by
  intro a y h
  have hg := skip_ge f n a
  unfold atmK at h
  cases ht : aTok f n x (skip f n a) with
  | error e => rw [ht] at h; cases h
  | ok t =>
    rw [ht] at h
    obtain ⟨t1, t2, t3, t4⟩ := aTok_ok ht
    have h : (if t.1 = 0 then _ else _ : Rz) = .ok y := h
    split at h
    · cases r with
      | none => cases h
      | some it =>
        obtain ⟨w, hw, h⟩ := thn_ok h
        have h3 := sumP_prg (hr it rfl) _ _ hw
        obtain ⟨b, hb, rfl⟩ := fin_ok h
        have := sgP_ok hb
        exact ⟨(by show a < b; omega), this.2.1, (by show a + w.1.length ≤ b; omega)⟩
    · split at h
      · split at h
        · next hl =>
          have hg2 := skip_ge f n t.2.2
          cases r with
          | none => cases h
          | some it =>
            obtain ⟨w, hw, h⟩ := thn_ok h
            have h3 := sumP_prg (hr it rfl) _ _ hw
            cases hs : sgP f n 44 w.2 with
            | error e => rw [hs] at h; cases h
            | ok d =>
              rw [hs] at h
              have h : thn (sumP f n it d) (fun ds b => fin (w.1 ++ (ds ++ [5 + t.2.1])) (sgP f n 41 b)) = .ok y := h
              obtain ⟨v, hv, h⟩ := thn_ok h
              have h5 := sumP_prg (hr it rfl) _ _ hv
              obtain ⟨b, hb, rfl⟩ := fin_ok h
              have := sgP_ok hb
              have := sgP_ok hs
              exact ⟨(by show a < b; omega), (sgP_ok hb).2.1, (by show a + (w.1 ++ (v.1 ++ [5 + t.2.1])).length ≤ b; simp only [List.length_append, List.length_singleton]; omega)⟩
        · cases h
      · split at h
        · cases r with
          | none => cases h
          | some it =>
            obtain ⟨w, hw, h⟩ := thn_ok h
            have h3 := hr it rfl _ _ hw
            cases h
            exact ⟨(by show a < w.2; omega), h3.2.1, (by show a + (w.1 ++ [60 + t.2.1]).length ≤ w.2; simp only [List.length_append, List.length_singleton]; omega)⟩
        · cases h; exact ⟨(by show a < t.2.2; omega), t3, (by show a + 1 ≤ t.2.2; omega)⟩
theorem atomP_prg : ∀ o, prg n (atomP f n x o)
  | 0 => atmK_prg (fun it h => by cases h)
  | o + 1 => atmK_prg (fun it h => by cases h; exact atomP_prg o)
end Prog
/-! piles -/
theorem popW_len (g : Nat → Bool) : ∀ V, (popW g V).1.length + (popW g V).2.length = V.length
  | [] => rfl
  | v :: V => by
    have := popW_len g V
    unfold popW; split
    · simp; omega
    · simp
theorem popW_eq (g : Nat → Bool) : ∀ V, (popW g V).1 ++ (popW g V).2 = V
  | [] => rfl
  | v :: V => by
    have := popW_eq g V
    unfold popW; split
    · simp [this]
    · simp
theorem popW_all (g : Nat → Bool) : ∀ V, ∀ v ∈ (popW g V).1, g v = true
  | [], v, h => nomatch h
  | u :: V, v, h => by
    unfold popW at h
    split at h
    · next hu =>
      rcases List.mem_cons.mp h with e | e
      · rw [e]; exact hu
      · exact popW_all g V v e
    · nomatch h
/-- how many of the pile have been opened -/
def cO (V : List Nat) : Nat := (V.filter (fun v => decide (20 ≤ v))).length
theorem cO_app (P V : List Nat) : cO (P ++ V) = cO P + cO V := by unfold cO; rw [List.filter_append, List.length_append]
theorem cO_cons (v : Nat) (V : List Nat) : cO (v :: V) = (if 20 ≤ v then 1 else 0) + cO V := by
  unfold cO; rw [List.filter_cons]
  by_cases h : 20 ≤ v
  · simp [h]; omega
  · simp [h]
theorem cO_pop (g : Nat → Bool) (V : List Nat) : cO (popW g V).1 + cO (popW g V).2 = cO V := by rw [← cO_app, popW_eq]
theorem cO_all {P : List Nat} (h : ∀ v ∈ P, 20 ≤ v) : cO P = P.length := by
  unfold cO; rw [List.filter_eq_self.mpr (fun v hv => by simpa using h v hv)]
theorem cO_none {P : List Nat} (h : ∀ v ∈ P, v < 20) : cO P = 0 := by
  unfold cO; rw [List.filter_eq_nil_iff.mpr (fun v hv => by have := h v hv; simp; omega)]; rfl
theorem brk_some {V : List Nat} {b : Nat} (h : brk V = some b) : (popW gB V).2 = b :: (popW gB V).2.tail ∧ 20 ≤ b ∧ b ≤ 24 := by
  unfold brk at h
  have key : ∀ V, ∀ b, (popW gB V).2.head? = some b → gB b = false := by
    intro V
    induction V with
    | nil => intro b h; cases h
    | cons v V ih =>
      intro b h
      unfold popW at h
      split at h
      · exact ih b h
      · next hv => cases h; simpa using hv
  cases e : (popW gB V).2 with
  | nil => rw [e] at h; cases h
  | cons c W =>
    have hk := key V b h
    rw [e] at h
    obtain rfl : c = b := Option.some.inj h
    refine ⟨rfl, ?_⟩
    unfold gB isBr at hk
    have : 20 ≤ c ∧ c ≤ 24 := by simpa using hk
    exact this
section InvC
variable {f : Nat → Nat} {n x : Nat}
/-- within bounds: e more wait below -/
def iC (n e : Nat) (c : Cf) : Prop := c.2.2.1.length + c.2.2.2.1.length + e ≤ c.2.1 ∧ c.2.1 ≤ n ∧ cO c.2.2.2.1 ≤ c.2.2.2.2 ∧ c.2.2.2.2 ≤ 6
theorem stpC_inv {e : Nat} {c d : Cf} (h : stpC f n x c = .inl d) (hi : iC n e c) : iC n e d := by
  obtain ⟨m, a, cs, V, op⟩ := c
  obtain ⟨h1, h2, h3, h4⟩ := hi
  have h1 : cs.length + V.length + e ≤ a := h1
  have h2 : a ≤ n := h2
  have h3 : cO V ≤ op := h3
  have h4 : op ≤ 6 := h4
  have hg := skip_ge f n a
  cases m with
  | true =>
    have h : stpP f n x a cs V op = .inl d := h
    unfold stpP at h
    cases ht : aTok f n x (skip f n a) with
    | error e => rw [ht] at h; cases h
    | ok t =>
      rw [ht] at h
      obtain ⟨t1, t2, t3, t4⟩ := aTok_ok ht
      have h : (if t.1 = 0 then _ else _ : Cf ⊕ Ou) = .inl d := h
      split at h
      · split at h
        · cases h
        · cases h
          exact ⟨(by show cs.length + (V.length + 1) + e ≤ t.2.2; omega), t3, (by show cO (20 :: V) ≤ op + 1; rw [cO_cons]; simp; omega), (by show op + 1 ≤ 6; omega)⟩
      · split at h
        · split at h
          · next hl =>
            have hg2 := skip_ge f n t.2.2
            have hl2 := lookO_some hl
            split at h
            · cases h
            · cases h
              exact ⟨(by show cs.length + (V.length + 1) + e ≤ skip f n t.2.2 + 1; omega), hl2.1, (by show cO ((21 + t.2.1) :: V) ≤ op + 1; rw [cO_cons, if_pos (by omega)]; omega), (by show op + 1 ≤ 6; omega)⟩
          · cases h
        · split at h
          · split at h
            · cases h
            · cases h
              exact ⟨(by show cs.length + (V.length + 1) + e ≤ t.2.2; omega), t3, (by show cO ((60 + t.2.1) :: V) ≤ op + 1; rw [cO_cons, if_pos (by omega)]; omega), (by show op + 1 ≤ 6; omega)⟩
          · cases h
            have p1 := popW_len gO V
            have p2 := cO_pop gO V
            have p3 : cO (popW gO V).1 = (popW gO V).1.length := cO_all (fun v hv => by
              have := popW_all gO V v hv
              unfold gO at this
              have : 60 ≤ v := by simpa using this
              omega)
            exact ⟨(by show (cs ++ [t.2.1] ++ (popW gO V).1).length + (popW gO V).2.length + e ≤ t.2.2; simp; omega), t3, (by show cO (popW gO V).2 ≤ op - (popW gO V).1.length; omega), (by show op - _ ≤ 6; omega)⟩
  | false =>
    have h : stpA f n a cs V op = .inl d := h
    unfold stpA at h
    split at h
    · next hc =>
      have hl := lookO_some hc.1
      cases h
      have p1 := popW_len gB V
      have p2 := cO_pop gB V
      obtain ⟨b, hb⟩ : ∃ b, brk V = some b := by rcases hc.2 with e | e | e <;> exact ⟨_, e⟩
      obtain ⟨b1, b2, b3⟩ := brk_some hb
      have p3 : (popW gB V).2.length = (popW gB V).2.tail.length + 1 := by rw [b1]; simp
      have p4 : cO (popW gB V).2 = 1 + cO (popW gB V).2.tail := by rw [b1, cO_cons, if_pos b2]; rfl
      have p5 := popW_len gO (popW gB V).2.tail
      have p6 := cO_pop gO (popW gB V).2.tail
      have p7 : cO (popW gO (popW gB V).2.tail).1 = (popW gO (popW gB V).2.tail).1.length := cO_all (fun v hv => by
        have := popW_all gO _ v hv
        unfold gO at this
        have : 60 ≤ v := by simpa using this
        omega)
      have p8 : (if brk V = some 20 then [] else if brk V = some 23 then [5] else [6] : List Nat).length ≤ 1 := by split; decide; split <;> decide
      refine ⟨?_, hl.1, ?_, (by show op - 1 - _ ≤ 6; omega)⟩
      · show (cs ++ clC V).length + (clB V).length + e ≤ skip f n a + 1
        unfold clC clB
        rw [List.length_append, List.length_append, List.length_append]
        omega
      · show cO (popW gO (popW gB V).2.tail).2 ≤ op - 1 - (popW gO (popW gB V).2.tail).1.length
        omega
    · cases h1' : opM f n a with
      | some y =>
        rw [h1'] at h
        cases h
        have p1 := popW_len gM V
        have p2 := cO_pop gM V
        have p3 := opM_ok h1'
        have p4 : y.1 = 3 ∨ y.1 = 4 := by
          unfold opM at h1'
          split at h1'
          · cases h1'; exact Or.inl rfl
          · split at h1'
            · cases h1'; exact Or.inr rfl
            · cases h1'
        exact ⟨(by show (cs ++ (popW gM V).1).length + ((popW gM V).2.length + 1) + e ≤ y.2; rw [List.length_append]; omega), p3.2, (by show cO (y.1 :: (popW gM V).2) ≤ op; rw [cO_cons, if_neg (by omega)]; omega), h4⟩
      | none =>
        rw [h1'] at h
        cases h2' : opA f n a with
        | some y =>
          rw [h2'] at h
          cases h
          have p1 := popW_len gS4 V
          have p2 := cO_pop gS4 V
          have p3 := opA_ok h2'
          have p4 : y.1 = 1 ∨ y.1 = 2 := by
            unfold opA at h2'
            split at h2'
            · cases h2'; exact Or.inl rfl
            · split at h2'
              · cases h2'; exact Or.inr rfl
              · cases h2'
          exact ⟨(by show (cs ++ (popW gS4 V).1).length + ((popW gS4 V).2.length + 1) + e ≤ y.2; rw [List.length_append]; omega), p3.2, (by show cO (y.1 :: (popW gS4 V).2) ≤ op; rw [cO_cons, if_neg (by omega)]; omega), h4⟩
        | none =>
          rw [h2'] at h
          cases hb : brk V with
          | none => rw [hb] at h; cases h
          | some b =>
            rw [hb] at h
            have h : (if b = 21 ∨ b = 22 then _ else _ : Cf ⊕ Ou) = .inl d := h
            split at h
            · split at h
              · next hl =>
                have hl := lookO_some hl
                cases h
                have p1 := popW_len gB V
                have p2 := cO_pop gB V
                obtain ⟨b1, b2, b3⟩ := brk_some hb
                have p3 : (popW gB V).2.length = (popW gB V).2.tail.length + 1 := by rw [b1]; simp
                have p4 : cO (popW gB V).2 = 1 + cO (popW gB V).2.tail := by rw [b1, cO_cons, if_pos b2]; rfl
                exact ⟨(by show (cs ++ (popW gB V).1).length + ((popW gB V).2.tail.length + 1) + e ≤ skip f n a + 1; rw [List.length_append]; omega), hl.1, (by show cO ((b + 2) :: (popW gB V).2.tail) ≤ op; rw [cO_cons, if_pos (by omega)]; omega), h4⟩
              · cases h
            · cases h
end InvC
