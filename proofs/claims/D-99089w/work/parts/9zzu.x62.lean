/-! NAMES: letter by letter, or as a word -/
theorem nmL_lts (f : Nat → Nat) : ∀ (k a : Nat) (cs : List Nat), cs.length ≤ 6 → nmL f k a cs = if cs.length + (lts f k a).length ≤ 6 then .ok (cs ++ (lts f k a).map (fun c => c - 96), a + (lts f k a).length) else .error (1, a + (6 - cs.length))
  | 0, a, cs, h => by
    show Except.ok (cs, a) = _
    rw [if_pos (by show cs.length + 0 ≤ 6; omega)]
    show _ = Except.ok (cs ++ [], a + 0)
    rw [List.append_nil, Nat.add_zero]
  | k + 1, a, cs, h => by
    by_cases e : ltr (f a) = true
    · rw [show lts f (k + 1) a = f a :: lts f k (a + 1) from if_pos e]
      rw [show nmL f (k + 1) a cs = (if cs.length = 6 then .error (1, a) else nmL f k (a + 1) (cs ++ [f a - 96])) from if_pos e]
      by_cases e6 : cs.length = 6
      · rw [if_pos e6, if_neg (by rw [List.length_cons]; omega), e6, Nat.sub_self, Nat.add_zero]
      · rw [if_neg e6, nmL_lts f k (a + 1) (cs ++ [f a - 96]) (by rw [List.length_append]; show cs.length + 1 ≤ 6; omega)]
        rw [List.length_append, show [f a - 96].length = 1 from rfl, List.length_cons]
        by_cases e7 : cs.length + 1 + (lts f k (a + 1)).length ≤ 6
        · rw [if_pos e7, if_pos (by omega), List.map_cons, List.append_assoc, List.singleton_append, show a + 1 + (lts f k (a + 1)).length = a + ((lts f k (a + 1)).length + 1) by omega]
        · rw [if_neg e7, if_neg (by omega), show a + 1 + (6 - (cs.length + 1)) = a + (6 - cs.length) by omega]
    · rw [show lts f (k + 1) a = [] from if_neg e]
      rw [show nmL f (k + 1) a cs = .ok (cs, a) from if_neg e]
      rw [if_pos (by show cs.length + 0 ≤ 6; omega)]
      show _ = Except.ok (cs ++ [], a + 0)
      rw [List.append_nil, Nat.add_zero]
