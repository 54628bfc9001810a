set_option maxRecDepth 100000
/-! SPEC 12: words, numbers, names, signs: what is read, or a fault (its kind, its place) -/
abbrev Pz (α : Type) : Type := Except (Nat × Nat) α
/-- the letters from p on, k places at most -/
def lts (f : Nat → Nat) : Nat → Nat → List Nat
  | 0, _ => []
  | k + 1, p => if ltr (f p) then f p :: lts f k (p + 1) else []
/-- the word that begins right at p, apart from what stands before -/
def word (f : Nat → Nat) (n p : Nat) : Option (List Nat) := if p < n ∧ ltr (f p) = true ∧ ptd f p = false then some (lts f (n - p) p) else none
def numL (f : Nat → Nat) : Nat → Nat → Nat → Nat → Pz (Nat × Nat)
  | 0, a, v, _ => .ok (v, a)
  | k + 1, a, v, c => if dgt (f a) then (if c = 4 then .error (1, a) else numL f k (a + 1) (10 * v + (f a - 48)) (c + 1)) else .ok (v, a)
def numR (lo hi p : Nat) : Pz (Nat × Nat) → Pz (Nat × Nat)
  | .error e => .error e
  | .ok x => if lo ≤ x.1 ∧ x.1 ≤ hi then .ok x else .error (2, p)
/-- a number from lo to hi at p -/
def numP (f : Nat → Nat) (n lo hi p : Nat) : Pz (Nat × Nat) := if p < n ∧ dgt (f p) = true ∧ ptd f p = false then numR lo hi p (numL f (n - p) p 0 0) else .error (1, p)
def nmL (f : Nat → Nat) : Nat → Nat → List Nat → Pz (List Nat × Nat)
  | 0, a, cs => .ok (cs, a)
  | k + 1, a, cs => if ltr (f a) then (if cs.length = 6 then .error (1, a) else nmL f k (a + 1) (cs ++ [f a - 96])) else .ok (cs, a)
def ownW : List (List Nat) := [[116, 101, 114, 114, 97, 99, 101], [115, 111, 117, 108], [97, 116], [102, 97, 99, 101], [107, 105, 110, 100], [116, 104, 105, 110, 107, 115], [111, 102], [112, 97, 105, 110, 116, 115], [109, 105, 110, 100, 115], [102, 101, 117, 100], [115, 108, 105, 112], [108, 111, 111, 107], [115, 105, 100, 101], [103, 97, 105, 110], [98, 97, 99, 107], [121, 101, 97, 114], [110, 117, 109, 98, 101, 114], [104, 111, 117, 115, 101], [115, 112, 97, 114, 101, 115], [111, 114], [97, 110, 100], [110, 111, 116], [97, 108, 108], [109, 105, 110], [109, 97, 120]]
/-- a name at p: its letters by number, none of the own words -/
def nmP (f : Nat → Nat) (n p : Nat) : Pz (List Nat × Nat) := match word f n p with
  | none => .error (1, p)
  | some w => if w ∈ ownW then .error (1, p) else nmL f (n - p) p []
/-- the word w is next -/
def kwP (f : Nat → Nat) (n : Nat) (w : List Nat) (a : Nat) : Pz Nat := if word f n (skip f n a) = some w then .ok (skip f n a + w.length) else .error (1, skip f n a)
/-- the sign c is next -/
def sgP (f : Nat → Nat) (n c a : Nat) : Pz Nat := if lookO f n a = some c then .ok (skip f n a + 1) else .error (1, skip f n a)
def ltrO (r : Option Nat) : Bool := match r with
  | none => false
  | some c => ltr c
def dgtO (r : Option Nat) : Bool := match r with
  | none => false
  | some c => dgt c
theorem skp_ge (f : Nat → Nat) : ∀ k a, a ≤ skp f k a
  | 0, a => Nat.le_refl a
  | k + 1, a => by
    unfold skp; split
    · exact Nat.le_trans (Nat.le_succ a) (skp_ge f k (a + 1))
    · exact Nat.le_refl a
theorem skp_le (f : Nat → Nat) : ∀ k a, skp f k a ≤ a + k
  | 0, a => Nat.le_refl a
  | k + 1, a => by
    unfold skp; split
    · have := skp_le f k (a + 1); omega
    · omega
theorem skip_ge (f : Nat → Nat) (n a : Nat) : a ≤ skip f n a := skp_ge f _ a
theorem skip_le {f : Nat → Nat} {n a : Nat} (h : a ≤ n) : skip f n a ≤ n := by have := skp_le f (n - a) a; unfold skip; omega
/-- where blanks end, no blank stands -/
theorem skp_nb (f : Nat → Nat) : ∀ k a, skp f k a < a + k → blk (f (skp f k a)) = false
  | 0, a, h => by have : skp f 0 a = a := rfl; omega
  | k + 1, a, h => by
    unfold skp at h ⊢
    split
    · next hb => rw [if_pos hb] at h; exact skp_nb f k (a + 1) (by omega)
    · next hb => simpa using hb
theorem skp_same {f : Nat → Nat} {k a : Nat} (h : blk (f a) = false) : skp f k a = a := by
  cases k with
  | zero => rfl
  | succ k => unfold skp; rw [if_neg (by simp [h])]
theorem skip_idem (f : Nat → Nat) (n a : Nat) : skip f n (skip f n a) = skip f n a := by
  by_cases h : skip f n a < n
  · have : skip f n a < a + (n - a) := by have := skip_ge f n a; omega
    exact skp_same (skp_nb f (n - a) a this)
  · unfold skip at h ⊢
    rw [show n - skp f (n - a) a = 0 by omega]; rfl
theorem lookO_skip (f : Nat → Nat) (n a : Nat) : lookO f n (skip f n a) = lookO f n a := by unfold lookO; rw [skip_idem]
theorem skip_next {f : Nat → Nat} {n a : Nat} (h : skip f n a ≠ a) : 0 < skip f n a ∧ blk (f (skip f n a - 1)) = true := by
  have key : ∀ k a, skp f k a ≠ a → 0 < skp f k a ∧ blk (f (skp f k a - 1)) = true := by
    intro k
    induction k with
    | zero => intro a h; exact absurd rfl h
    | succ k ih =>
      intro a h
      unfold skp at h ⊢
      by_cases hb : blk (f a) = true
      · rw [if_pos hb] at h ⊢
        by_cases h2 : skp f k (a + 1) = a + 1
        · rw [h2]; exact ⟨by omega, by simpa using hb⟩
        · exact ih (a + 1) h2
      · rw [if_neg hb] at h; exact absurd rfl h
  exact key _ a h
theorem blk_ptd {c : Nat} (h : blk c = true) : ltr c = false ∧ dgt c = false := by
  unfold blk at h
  have : c = 10 ∨ c = 32 := by simpa using h
  rcases this with h | h <;> subst h <;> decide
theorem ptd_blk {f : Nat → Nat} {p : Nat} (h : blk (f (p - 1)) = true) : ptd f p = false := by
  unfold ptd; rw [(blk_ptd h).1, (blk_ptd h).2]; simp
theorem skip_ptd {f : Nat → Nat} {n a : Nat} (h : skip f n a ≠ a) : ptd f (skip f n a) = false := ptd_blk (skip_next h).2
theorem lts_le (f : Nat → Nat) : ∀ k p, (lts f k p).length ≤ k
  | 0, _ => Nat.le_refl _
  | k + 1, p => by
    unfold lts; split
    · have := lts_le f k (p + 1); simp; omega
    · simp
theorem lts_get (f : Nat → Nat) : ∀ k p j, j < (lts f k p).length → (lts f k p).getD j 0 = f (p + j) ∧ ltr (f (p + j)) = true
  | 0, _, j, h => absurd h (Nat.not_lt_zero j)
  | k + 1, p, j, h => by
    unfold lts at h ⊢
    by_cases hl : ltr (f p) = true
    · rw [if_pos hl] at h ⊢
      cases j with
      | zero => exact ⟨rfl, hl⟩
      | succ j =>
        have := lts_get f k (p + 1) j (by simpa using h)
        rw [show p + (j + 1) = p + 1 + j by omega]
        exact this
    · rw [if_neg hl] at h; exact absurd h (Nat.not_lt_zero j)
theorem word_some {f : Nat → Nat} {n p : Nat} {w : List Nat} (h : word f n p = some w) : p < n ∧ ltr (f p) = true ∧ ptd f p = false ∧ lts f (n - p) p = w := by
  unfold word at h
  split at h
  · next hc => cases h; exact ⟨hc.1, hc.2.1, hc.2.2, rfl⟩
  · cases h
theorem lts_pos {f : Nat → Nat} {n p : Nat} (h : p < n) (hl : ltr (f p) = true) : 0 < (lts f (n - p) p).length := by
  obtain ⟨k, hk⟩ : ∃ k, n - p = k + 1 := ⟨n - p - 1, by omega⟩
  rw [hk]; unfold lts; rw [if_pos hl]; simp
/-- behind a word: at most n; what stands before is a letter -/
theorem word_end {f : Nat → Nat} {n p : Nat} {w : List Nat} (h : word f n p = some w) : p + w.length ≤ n ∧ 0 < w.length ∧ ptd f (p + w.length) = true := by
  obtain ⟨h1, h2, -, h4⟩ := word_some h
  have h5 := lts_le f (n - p) p
  have h6 := lts_pos h1 h2
  rw [h4] at h5 h6
  refine ⟨by omega, h6, ?_⟩
  have h7 := (lts_get f (n - p) p (w.length - 1) (by rw [h4]; omega)).2
  unfold ptd
  rw [show p + w.length - 1 = p + (w.length - 1) by omega, h7]
  simp; omega
theorem ptd_sign {f : Nat → Nat} {p : Nat} (h : ltr (f p) = false) (h2 : dgt (f p) = false) : ptd f (p + 1) = false := by
  unfold ptd; rw [Nat.add_sub_cancel, h, h2]; simp
theorem ptd_ltr {f : Nat → Nat} {p : Nat} (h : ltr (f p) = true) : ptd f (p + 1) = true := by
  unfold ptd; rw [Nat.add_sub_cancel, h]; simp
theorem ptd_dgt {f : Nat → Nat} {p : Nat} (h : dgt (f p) = true) : ptd f (p + 1) = true := by
  unfold ptd; rw [Nat.add_sub_cancel, h]; simp
theorem numL_ge (f : Nat → Nat) : ∀ k a v c x, numL f k a v c = .ok x → a ≤ x.2 ∧ x.2 ≤ a + k
  | 0, a, v, c, x, h => by cases h; exact ⟨Nat.le_refl _, Nat.le_refl _⟩
  | k + 1, a, v, c, x, h => by
    unfold numL at h
    split at h
    · split at h
      · cases h
      · have := numL_ge f k (a + 1) _ _ x h; omega
    · cases h; exact ⟨Nat.le_refl _, by omega⟩
theorem list_ext {l w : List Nat} (h : l.length = w.length) (hj : ∀ j, j < w.length → l.getD j 0 = w.getD j 0) : l = w := by
  refine List.ext_getElem h (fun i h1 h2 => ?_)
  have := hj i h2
  rw [List.getD_eq_getElem?_getD, List.getD_eq_getElem?_getD, List.getElem?_eq_getElem h1, List.getElem?_eq_getElem h2] at this
  exact this
