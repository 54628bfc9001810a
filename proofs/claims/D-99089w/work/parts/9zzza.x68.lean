set_option maxRecDepth 100000
/-! THE READER: what begins a part, word by word; what may be asked -/
/-- as the reader asks -/
def jtR (x : Nat) (w : List Nat) : Option (Nat × Nat) := match (if x = 3 then fndW lookW w 2 0 else none) with
  | some k => some (2, k)
  | none => if w = wMin then some (1, 0) else if w = wMax then some (1, 1) else none
def jtW (x : Nat) (w : List Nat) : Option (Nat × Nat) := match fndW askW w 11 0 with
  | some k => if alwQ x k = true then some (3, 40 + k) else jtR x w
  | none => jtR x w
/-- as it is said -/
def tkW (x : Nat) (w : List Nat) : Option (Nat × Nat) := if w = wMin then some (1, 0) else if w = wMax then some (1, 1) else match wrdO x 11 13 (some w) with
  | some k => some (2, k - 11)
  | none => (match wrdO x 0 11 (some w) with
    | some k => some (3, 40 + k)
    | none => none)
def knW : List (List Nat) := [wFace, wKind, wThinks, wYear, wLook, wSide, wGain, wBack, wNumber, wHouse, wSpares, wMin, wMax]
theorem jt_tk {x : Nat} {w : List Nat} (hx : x ≤ 3) : jtW x w = tkW x w := by
  by_cases h : w ∈ knW
  · have key : ∀ x ∈ [0, 1, 2, 3], ∀ w ∈ knW, jtW x w = tkW x w := by decide
    refine key x ?_ w h
    have : x = 0 ∨ x = 1 ∨ x = 2 ∨ x = 3 := by omega
    rcases this with rfl | rfl | rfl | rfl <;> decide
  · have hn : ∀ v, v ∈ knW → ¬ w = v := fun v hv e => h (e ▸ hv)
    have n1 := hn wFace (by decide)
    have n2 := hn wKind (by decide)
    have n3 := hn wThinks (by decide)
    have n4 := hn wYear (by decide)
    have n5 := hn wLook (by decide)
    have n6 := hn wSide (by decide)
    have n7 := hn wGain (by decide)
    have n8 := hn wBack (by decide)
    have n9 := hn wNumber (by decide)
    have n10 := hn wHouse (by decide)
    have n11 := hn wSpares (by decide)
    have n12 := hn wMin (by decide)
    have n13 := hn wMax (by decide)
    have f1 : fndW askW w 11 0 = none := by
      have e : ∀ v, ¬ w = v → ∀ k i, fndW askW w (k + 1) i = if askW.getD i [] = w then some i else fndW askW w k (i + 1) := fun _ _ _ _ => rfl
      simp only [fndW]
      rw [if_neg (show ¬ askW.getD 0 [] = w from fun q => n1 q.symm), if_neg (show ¬ askW.getD (0 + 1) [] = w from fun q => n2 q.symm), if_neg (show ¬ askW.getD (0 + 1 + 1) [] = w from fun q => n3 q.symm), if_neg (show ¬ askW.getD (0 + 1 + 1 + 1) [] = w from fun q => n4 q.symm), if_neg (show ¬ askW.getD (0 + 1 + 1 + 1 + 1) [] = w from fun q => n5 q.symm), if_neg (show ¬ askW.getD (0 + 1 + 1 + 1 + 1 + 1) [] = w from fun q => n6 q.symm), if_neg (show ¬ askW.getD (0 + 1 + 1 + 1 + 1 + 1 + 1) [] = w from fun q => n7 q.symm), if_neg (show ¬ askW.getD (0 + 1 + 1 + 1 + 1 + 1 + 1 + 1) [] = w from fun q => n8 q.symm), if_neg (show ¬ askW.getD (0 + 1 + 1 + 1 + 1 + 1 + 1 + 1 + 1) [] = w from fun q => n9 q.symm), if_neg (show ¬ askW.getD (0 + 1 + 1 + 1 + 1 + 1 + 1 + 1 + 1 + 1) [] = w from fun q => n10 q.symm), if_neg (show ¬ askW.getD (0 + 1 + 1 + 1 + 1 + 1 + 1 + 1 + 1 + 1 + 1) [] = w from fun q => n11 q.symm)]
    have f2 : fndW lookW w 2 0 = none := by
      simp only [fndW]
      rw [if_neg (show ¬ lookW.getD 0 [] = w from fun q => n3 q.symm), if_neg (show ¬ lookW.getD (0 + 1) [] = w from fun q => n8 q.symm)]
    have f3 : whN x (some w) = none := by
      unfold whN
      have e : ∀ v, ¬ w = v → ¬ (some w = some v) := fun v hv q => hv (Option.some.inj q)
      rw [if_neg (e _ n1), if_neg (e _ n2), if_neg (fun q => e _ n3 q.2), if_neg (e _ n4), if_neg (e _ n5), if_neg (e _ n6), if_neg (e _ n7), if_neg (fun q => e _ n8 q.2), if_neg (e _ n9), if_neg (e _ n10), if_neg (e _ n11), if_neg (e _ n3), if_neg (e _ n8)]
    have f4 : ∀ lo hi, wrdO x lo hi (some w) = none := fun lo hi => by unfold wrdO; rw [f3]
    have g1 : jtR x w = none := by
      unfold jtR
      have : (if x = 3 then fndW lookW w 2 0 else none) = none := by split; exact f2; rfl
      rw [this]
      show (if w = wMin then _ else _) = _
      rw [if_neg n12, if_neg n13]
    unfold jtW tkW
    rw [f1, if_neg n12, if_neg n13, f4, f4]
    exact g1
section Tok
variable {f : Nat → Nat} {n x p : Nat}
/-- a word begins the part -/
theorem aTok_w {w : List Nat} (hw : word f n p = some w) : aTok f n x p = match tkW x w with
    | some k => .ok (k.1, k.2, p + w.length)
    | none => .error (1, p) := by
  obtain ⟨h1, h2, h3, h4⟩ := word_some hw
  have hl : 97 ≤ f p ∧ f p ≤ 122 := by unfold ltr at h2; simpa using h2
  have hnum : numP f n 0 9999 p = .error (1, p) := by
    unfold numP
    rw [if_neg]
    rintro ⟨-, q, -⟩
    unfold dgt at q
    simp at q
    omega
  unfold aTok tkW
  rw [if_neg (fun q => by omega), hw]
  by_cases e1 : w = wMin
  · rw [if_pos (by rw [e1]), if_pos e1, e1]; rfl
  rw [if_neg (fun q => e1 (Option.some.inj q)), if_neg e1]
  by_cases e2 : w = wMax
  · rw [if_pos (by rw [e2]), if_pos e2, e2]; rfl
  rw [if_neg (fun q => e2 (Option.some.inj q)), if_neg e2, wln_some hw]
  cases wrdO x 11 13 (some w) with
  | some k => rfl
  | none =>
    cases wrdO x 0 11 (some w) with
    | some k => rfl
    | none => show tokN p (numP f n 0 9999 p) = _; rw [hnum]; rfl
theorem aTok_n (hp : ¬ (p < n ∧ f p = 40)) (hw : word f n p = none) : aTok f n x p = tokN p (numP f n 0 9999 p) := by
  have hx : whN x none = none := by unfold whN; simp
  unfold aTok
  rw [if_neg hp, hw, if_neg (by simp), if_neg (by simp)]
  unfold wrdO
  rw [hx]
theorem fndW_lt {L : List (List Nat)} {w : List Nat} : ∀ k i j, fndW L w k i = some j → i ≤ j ∧ j < i + k
  | 0, i, j, h => by cases h
  | k + 1, i, j, h => by
    by_cases e : L.getD i [] = w
    · rw [show fndW L w (k + 1) i = some i from if_pos e] at h; cases h; omega
    · rw [show fndW L w (k + 1) i = fndW L w k (i + 1) from if_neg e] at h
      have := fndW_lt k (i + 1) j h; omega
end Tok
theorem nI_n1 {k : Nat} (h : k < 1000) : nI k ≠ -1 := by
  intro e
  have : (-1 : Int32) = iI (-1) := by decide
  rw [this, nI_iI, iI_eq (by constructor <;> omega) (by constructor <;> omega)] at e
  omega
theorem iI_n1 : iI (-1) = (-1 : Int32) := by decide
theorem cx_bit {x k : Nat} (hx : x ≤ 3) (hk : k < 11) : nI (cxN x) >>> (nI k &&& 31) &&& nI 1 = nI (if alwQ x k = true then 1 else 0) := by
  have key : ∀ x : Fin 4, ∀ k : Fin 11, nI (cxN x.val) >>> (nI k.val &&& 31) &&& nI 1 = nI (if alwQ x.val k.val = true then 1 else 0) := by decide +kernel
  exact key ⟨x, by omega⟩ ⟨k, hk⟩
section X68
variable {g : GC} {M : MM}
theorem ct_X0_hasC {x k : Nat} (hx : x ≤ 3) (hk : k < 11) : Ct g yX0_has cX0_has 2 (some Jvm.ClassFile.FieldType.boolean) 0 0 0 [.int (nI (cxN x)), .int (nI k)] M (PQ M (.int (zI (alwQ x k = true)))) noX := by
  have hb := cx_bit hx hk
  have h2 : (if alwQ x k = true then 1 else 0) < 2 := by split <;> decide
  refine Ct.of (by decide) (Nat.le_of_ble_eq_true rfl) rfl ?_
  refine r_ild0 (pc := 0) dX0_has_0 ?_
  refine r_ild1 (pc := 1) dX0_has_1 ?_
  refine r_ishr (pc := 2) dX0_has_2 ?_
  refine r_iconst (v := nI 1) (pc := 3) dX0_has_3 (by decide) ?_
  refine r_iand (pc := 4) dX0_has_4 ?_
  refine Bd.eqI hb ?_
  refine r_iconst (v := nI 1) (pc := 5) dX0_has_5 (by decide) ?_
  first | refine r_icmp_neN (pc := 6) (tgt := 13) dX0_has_6 (by decide) (by omega) (by omega) (fun h6 => ?_) (fun h6 => ?_) | refine r_icmp_ne (pc := 6) (tgt := 13) dX0_has_6 (by decide) (fun h6 => ?_) (fun h6 => ?_)
  · skip
    have h6 : ¬ alwQ x k = true := fun q => by rw [if_pos q] at h6; exact h6 rfl
    refine r_iconst (v := nI 0) (pc := 13) dX0_has_13 (by decide) ?_
    refine r_zret (pc := 14) dX0_has_14 (by first | rfl | exact zI_nar | assumption) ?_
    exact ⟨by first | (rw [zI_t h6]; rfl) | (rw [zI_f h6]; rfl), rfl⟩
  · skip
    have h6 : alwQ x k = true := by
      by_cases q : alwQ x k = true
      · exact q
      · rw [if_neg q] at h6; omega
    refine r_iconst (v := nI 1) (pc := 9) dX0_has_9 (by decide) ?_
    refine r_goto (pc := 10) (tgt := 14) dX0_has_10 (by decide) ?_
    refine r_zret (pc := 14) dX0_has_14 (by first | rfl | exact zI_nar | assumption) ?_
    exact ⟨by first | (rw [zI_t h6]; rfl) | (rw [zI_f h6]; rfl), rfl⟩
end X68
