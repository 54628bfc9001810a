set_option maxRecDepth 100000
/-! SPEC 9: images -/
def thL (t : St) (p : Nat) : Nat → List Nat
  | 0 => []
  | k + 1 => thL t p k ++ (if k = p then [] else [th t p k])
def imgL (t : St) (n : Nat) : Nat → List Nat
  | 0 => [yr t / 256, yr t % 256]
  | p + 1 => imgL t n p ++ ([hs t p, lk t p, sp t p] ++ thL t p n)
def chkF (f : Nat → Nat) : Nat → Nat
  | 0 => 149
  | n + 1 => (3 * chkF f n + f n) % 251
def outL (t : St) (n : Nat) : List Nat := imgL t n n ++ [chkF (fun i => (imgL t n n).getD i 0) (imgL t n n).length]
def imageQ (q : Sg) : Int32 × Sg := (nI (outL (gS q) (tn (gT q))).length, uOu q (outL (gS q) (tn (gT q))))
theorem chkF_lt (f : Nat → Nat) : ∀ n, chkF f n < 251
  | 0 => (by decide : 149 < 251)
  | _ + 1 => Nat.mod_lt _ (by decide)
theorem thL_len (t : St) (p : Nat) : ∀ k, (thL t p k).length = if p < k then k - 1 else k
  | 0 => by rw [if_neg (by omega)]; rfl
  | k + 1 => by
    show (thL t p k ++ _).length = _
    rw [List.length_append, thL_len t p k]
    by_cases e : k = p
    · subst e; rw [if_neg (by omega), if_pos rfl, if_pos (by omega)]; simp
    · rw [if_neg e]
      by_cases e2 : p < k
      · rw [if_pos e2, if_pos (by omega)]; show k - 1 + 1 = _; omega
      · rw [if_neg e2, if_neg (by omega)]; rfl
theorem imgL_len (t : St) (n : Nat) : ∀ p, p ≤ n → (imgL t n p).length = 2 + p * (2 + n)
  | 0, _ => by simp [imgL]
  | p + 1, h => by
    show (imgL t n p ++ ([hs t p, lk t p, sp t p] ++ thL t p n)).length = _
    rw [List.length_append, imgL_len t n p (by omega), List.length_append, thL_len, if_pos (by omega), Nat.succ_mul]
    show _ + (3 + (n - 1)) = _
    omega
