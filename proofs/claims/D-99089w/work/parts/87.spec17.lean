set_option maxRecDepth 100000
/-! SPEC 17: questions -/
def envA (T : Te) (t : St) (i : Nat) : Nat → Int := fun k => if k = 0 then fa T i else if k = 1 then ki T i else if k = 3 then yr t else if k = 4 then lk t i else if k = 8 then i else if k = 9 then hs t i else if k = 10 then (if sp t i = 1 then 1 else 0) else 0
def ofnA (T : Te) (t : St) (i : Nat) : Nat → Int → Int := fun w v => if (0 ≤ v ∧ v < (tn T : Int)) ∧ v ≠ (i : Int) then (if w = 0 then (th t i v.toNat : Int) else (th t v.toNat i : Int)) else 0
def evA (T : Te) (t : St) (cs : List Nat) (i : Nat) : Int := (rpn (envA T t i) (ofnA T t i) cs []).headD 0
/-- what is found grows by one: kinds first, last, often, total, most, least -/
def stpA1 (k : Nat) (ans : Int) (v : Int) (i : Nat) : Int :=
  if k = 0 then (if v = 1 ∧ ans = -1 then (i : Int) else ans) else if k = 1 then (if v = 1 then (i : Int) else ans) else if k = 2 then (if v = 1 then ans + 1 else ans) else if k = 3 then ans + v else if k = 4 then (if i = 0 ∨ ans < v then v else ans) else (if i = 0 ∨ v < ans then v else ans)
def ansF (k : Nat) (vs : Nat → Int) : Nat → Int
  | 0 => if k < 2 then -1 else 0
  | i + 1 => stpA1 k (ansF k vs i) (vs i) i
abbrev wFirst : List Nat := [102, 105, 114, 115, 116]
abbrev wLast : List Nat := [108, 97, 115, 116]
abbrev wOften : List Nat := [111, 102, 116, 101, 110]
abbrev wTotal : List Nat := [116, 111, 116, 97, 108]
abbrev wMost : List Nat := [109, 111, 115, 116]
abbrev wLeast : List Nat := [108, 101, 97, 115, 116]
section Ask
variable (f : Nat → Nat) (n : Nat)
/-- which question it is -/
def kndP : Pz (Nat × Nat) := if word f n (skip f n 0) = some wFirst then .ok (0, skip f n 0 + 5) else if word f n (skip f n 0) = some wLast then .ok (1, skip f n 0 + 4) else if word f n (skip f n 0) = some wOften then .ok (2, skip f n 0 + 5) else if word f n (skip f n 0) = some wTotal then .ok (3, skip f n 0 + 5) else if word f n (skip f n 0) = some wMost then .ok (4, skip f n 0 + 4) else if word f n (skip f n 0) = some wLeast then .ok (5, skip f n 0 + 5) else .error (1, skip f n 0)
def txtP (k a : Nat) : Rz := if k < 3 then testP f n (factP f n 3 6) a else sumP f n (atomP f n 3 6) a
def askP : Pz (Nat × List Nat) := bnd (kndP f n) (fun y => bnd (txtP f n y.1 y.2) (fun z => if lookO f n z.2 = none then .ok (y.1, z.1) else .error (1, skip f n z.2)))
end Ask
def askQ (q : Sg) : Int64 × Sg := if gIt q = true then (match askP (gTp q) (gTd q) with
  | .error e => (lI (-1000000000000000), uFt (uTp q (gTp q) 0) (e.1, some e.2))
  | .ok y => (lI (ansF y.1 (evA (gT q) (gS q) y.2) (tn (gT q))), uFt (uTp q (gTp q) 0) (0, none))) else (lI (-1000000000000000), uTp q (gTp q) 0)
theorem stpA1_b {k : Nat} {ans v : Int} {i m : Nat} (h1 : -((m : Int) * 1000000) - 1 ≤ ans ∧ ans ≤ (m : Int) * 1000000 + 10) (h2 : b6 v) (hi : i < 10) : -(((m + 1 : Nat) : Int) * 1000000) - 1 ≤ stpA1 k ans v i ∧ stpA1 k ans v i ≤ ((m + 1 : Nat) : Int) * 1000000 + 10 := by
  obtain ⟨v1, v2⟩ := h2
  unfold stpA1
  split
  · split <;> omega
  · split
    · split <;> omega
    · split
      · split <;> omega
      · split
        · omega
        · split
          · split <;> omega
          · split <;> omega
theorem ansF_b {k : Nat} {vs : Nat → Int} : ∀ m, m < 10 → (∀ i, i < m → b6 (vs i)) → -((m : Int) * 1000000) - 1 ≤ ansF k vs m ∧ ansF k vs m ≤ (m : Int) * 1000000 + 10
  | 0, _, _ => by unfold ansF; split <;> omega
  | m + 1, hm, h => stpA1_b (ansF_b m (by omega) (fun i hi => h i (by omega))) (h m (by omega)) (by omega)
section AskB
variable {f : Nat → Nat} {n : Nat}
theorem kndP_ok {y : Nat × Nat} (h : kndP f n = .ok y) : y.1 < 6 ∧ 0 < y.2 ∧ y.2 ≤ n := by
  unfold kndP at h
  split at h
  · next hw => have := word_end hw; cases h; exact ⟨(by decide : 0 < 6), (by show 0 < skip f n 0 + 5; omega), (by show skip f n 0 + 5 ≤ n; simpa using this.1)⟩
  · split at h
    · next hw => have := word_end hw; cases h; exact ⟨(by decide : 1 < 6), (by show 0 < skip f n 0 + 4; omega), (by show skip f n 0 + 4 ≤ n; simpa using this.1)⟩
    · split at h
      · next hw => have := word_end hw; cases h; exact ⟨(by decide : 2 < 6), (by show 0 < skip f n 0 + 5; omega), (by show skip f n 0 + 5 ≤ n; simpa using this.1)⟩
      · split at h
        · next hw => have := word_end hw; cases h; exact ⟨(by decide : 3 < 6), (by show 0 < skip f n 0 + 5; omega), (by show skip f n 0 + 5 ≤ n; simpa using this.1)⟩
        · split at h
          · next hw => have := word_end hw; cases h; exact ⟨(by decide : 4 < 6), (by show 0 < skip f n 0 + 4; omega), (by show skip f n 0 + 4 ≤ n; simpa using this.1)⟩
          · split at h
            · next hw => have := word_end hw; cases h; exact ⟨(by decide : 5 < 6), (by show 0 < skip f n 0 + 5; omega), (by show skip f n 0 + 5 ≤ n; simpa using this.1)⟩
            · cases h
theorem txtP_ok {k a : Nat} {y : List Nat × Nat} (h : txtP f n k a = .ok y) : (tyC y.1 [] = some [decide (3 ≤ k)] ∧ okX 3 y.1) ∧ a < y.2 ∧ y.2 ≤ n ∧ a + y.1.length ≤ y.2 := by
  unfold txtP at h
  split at h
  · next e =>
    have h1 := testP_gd (factP_gd (f := f) (n := n) (x := 3) (by decide) 6) _ _ h
    exact ⟨⟨by rw [h1.1 []]; rw [decide_eq_false (by omega)], h1.2⟩, testP_prg (factP_prg 6) _ _ h⟩
  · next e =>
    have h1 := sumP_gd (atomP_gd (f := f) (n := n) (x := 3) (by decide) 6) _ _ h
    exact ⟨⟨by rw [h1.1 []]; rw [decide_eq_true (by omega)], h1.2⟩, sumP_prg (atomP_prg 6) _ _ h⟩
end AskB
