set_option maxRecDepth 100000
/-! THE BEGINNING: the model anew means the same -/
/-- the cell of an array field -/
def cgo : Nat → Nat
  | 0 => 1
  | 9 => 2
  | 11 => 3
  | 12 => 4
  | 13 => 5
  | 14 => 6
  | 15 => 7
  | 16 => 8
  | 17 => 9
  | 18 => 10
  | 19 => 11
  | 20 => 12
  | 21 => 13
  | 22 => 14
  | 23 => 15
  | 24 => 16
  | 25 => 17
  | 26 => 18
  | 27 => 19
  | 28 => 20
  | 29 => 21
  | 30 => 22
  | 31 => 23
  | 32 => 24
  | 33 => 25
  | 34 => 26
  | 35 => 27
  | 41 => 28
  | 42 => 29
  | 43 => 30
  | 44 => 31
  | 45 => 32
  | 48 => 33
  | 49 => 34
  | 50 => 35
  | 55 => 36
  | 56 => 37
  | 66 => 38
  | 68 => 39
  | 69 => 40
  | 70 => 41
  | 72 => 42
  | 76 => 43
  | 77 => 44
  | 78 => 45
  | 79 => 46
  | 80 => 47
  | 81 => 48
  | 82 => 49
  | 83 => 50
  | 84 => 51
  | 85 => 52
  | 86 => 53
  | 87 => 54
  | 88 => 55
  | 89 => 56
  | 90 => 57
  | 91 => 58
  | 92 => 59
  | 93 => 60
  | 94 => 61
  | 95 => 62
  | 96 => 63
  | 97 => 64
  | 98 => 65
  | 99 => 66
  | 100 => 67
  | 101 => 68
  | 103 => 69
  | 107 => 70
  | 111 => 71
  | _ => 0
theorem cgo_cf : ∀ c, c < 72 → 1 ≤ c → cgo (cf c) = c := by decide +kernel
theorem cgo_lt : ∀ e ∈ shT, 1 ≤ e.2.1 ∧ e.2.1 < 72 ∧ cf e.2.1 = e.1 ∧ mk0 e.2.1 = e.2.2.1 ∧ mn0 e.2.1 = e.2.2.2 := by decide +kernel
def getM (M : MM) (o : Nat) : MS := (mI M o, mL M o, (fun f j => mI M (o + cgo f) j), (fun f j => mL M (o + cgo f) j))
theorem putM_get (M : MM) (o : Nat) : putM M o (getM M o) = M := by
  obtain ⟨z, k, n, i, l, r⟩ := M
  have hc : ∀ a, o < a ∧ a ≤ o + 71 → o + cgo (cf (a - o)) = a := fun a h => by rw [cgo_cf (a - o) (by omega) (by omega)]; omega
  have e1 : (fun a j => if a = o then i o j else if o < a ∧ a ≤ o + 71 then i (o + cgo (cf (a - o))) j else i a j) = i := by
    funext a j
    by_cases h : a = o
    · rw [if_pos h, h]
    · rw [if_neg h]
      by_cases h2 : o < a ∧ a ≤ o + 71
      · rw [if_pos h2, hc a h2]
      · rw [if_neg h2]
  have e2 : (fun a j => if a = o then l o j else if o < a ∧ a ≤ o + 71 then l (o + cgo (cf (a - o))) j else l a j) = l := by
    funext a j
    by_cases h : a = o
    · rw [if_pos h, h]
    · rw [if_neg h]
      by_cases h2 : o < a ∧ a ≤ o + 71
      · rw [if_pos h2, hc a h2]
      · rw [if_neg h2]
  exact Prod.ext rfl (Prod.ext rfl (Prod.ext rfl (Prod.ext e1 (Prod.ext e2 rfl))))
theorem wd_mw : ∀ e ∈ wdT, cgo e.1 < 72 ∧ 1 ≤ cgo e.1 ∧ mw0 (cgo e.1) = e.2.map nI := by decide +kernel
theorem sh_new {g : GC} {M0 M : MM} {o : Nat} (hb : gb g ≤ o) (h : BM M0 M o 72 mE mH) : ShM g M o := by
  obtain ⟨z1, z2, ⟨z3, z4, z5, z6⟩, z7, z8⟩ := h
  refine ⟨z3, hb, fun e he => ?_⟩
  obtain ⟨q1, q2, q3, q4, q5⟩ := cgo_lt e he
  exact ⟨by rw [← q3]; exact z7 _ q1 q2, (z8 _ q1 q2).1.trans q4, (z8 _ q1 q2).2.1.trans q5⟩
theorem im_new {M0 M : MM} {o : Nat} (h : BM M0 M o 72 mE mH) : IM (getM M o) q00 := by
  obtain ⟨z1, z2, ⟨z3, z4, z5, z6⟩, z7, z8⟩ := h
  have za : ∀ d, 1 ≤ d → d < 72 → ∀ i, mI M (o + d) i = (mw0 d).getD i 0 := fun d h1 h2 => (z8 d h1 h2).2.2.1
  have zs : ∀ f, 1 ≤ cgo f → cgo f < 72 → ∀ i, mA (getM M o) f i = (mw0 (cgo f)).getD i 0 := fun f h1 h2 i => za (cgo f) h1 h2 i
  refine ⟨⟨z5 1, fun j _ => zs 0 (by decide) (by decide) j⟩, ⟨z5 7, z5 8⟩, fun i _ => zs 9 (by decide) (by decide) i, ⟨⟨z5 38, z5 40, fun p hp => absurd hp (Nat.not_lt_zero p), fun p hp => absurd hp (Nat.not_lt_zero p), zs 48 (by decide) (by decide) 3, zs 48 (by decide) (by decide) 4, zs 48 (by decide) (by decide) 5, z5 47⟩, z5 53, fun p hp => absurd hp (Nat.not_lt_zero p)⟩, ⟨⟨zs 55 (by decide) (by decide) 0, fun p hp => absurd hp (Nat.not_lt_zero p), fun p hp => absurd hp (Nat.not_lt_zero p), fun p hp => absurd hp (Nat.not_lt_zero p), fun p hp => absurd hp (Nat.not_lt_zero p)⟩, ⟨zs 55 (by decide) (by decide) 89, by decide, (fun i a b c hh => by cases hh)⟩, z5 64⟩, ⟨z5 73, 0, by decide, z5 74, (fun i x hh => by cases hh)⟩, ⟨z5 67, (fun i a b c hh => by cases hh)⟩, z6 75, ⟨z5 112, fun i hi => absurd hi (Nat.not_lt_zero i)⟩, fun e he j hj => ?_⟩
  obtain ⟨q1, q2, q3⟩ := wd_mw e he
  rw [zs e.1 q2 q1 j, q3, List.getD_eq_getElem?_getD, List.getD_eq_getElem?_getD, List.getElem?_map, List.getElem?_eq_getElem hj]
  rfl
