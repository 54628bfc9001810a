set_option maxRecDepth 100000
/-! THE MODEL OBJECT: its picture over a fixed rest of the memory -/
/-- array fields: field, offset, kind, length -/
def shT : List (Nat × Nat × Nat × Nat) := [(0, 1, 1, 1600), (9, 2, 1, 6), (11, 3, 5, 7), (12, 4, 5, 4), (13, 5, 5, 2), (14, 6, 5, 4), (15, 7, 5, 4), (16, 8, 5, 6), (17, 9, 5, 2), (18, 10, 5, 6), (19, 11, 5, 5), (20, 12, 5, 4), (21, 13, 5, 4), (22, 14, 5, 4), (23, 15, 5, 4), (24, 16, 5, 4), (25, 17, 5, 4), (26, 18, 5, 4), (27, 19, 5, 6), (28, 20, 5, 5), (29, 21, 5, 6), (30, 22, 5, 2), (31, 23, 5, 3), (32, 24, 5, 3), (33, 25, 5, 3), (34, 26, 5, 3), (35, 27, 5, 3), (41, 28, 2, 16), (42, 29, 1, 8), (43, 30, 1, 16), (44, 31, 1, 16), (45, 32, 1, 64), (48, 33, 1, 6), (49, 34, 1, 6), (50, 35, 1, 3200), (55, 36, 1, 210), (56, 37, 1, 89), (66, 38, 1, 2048), (68, 39, 1, 48), (69, 40, 1, 310), (70, 41, 4, 10), (72, 42, 1, 4200), (76, 43, 5, 5), (77, 44, 5, 4), (78, 45, 5, 5), (79, 46, 5, 5), (80, 47, 5, 4), (81, 48, 5, 5), (82, 49, 5, 3), (83, 50, 5, 3), (84, 51, 5, 2), (85, 52, 5, 3), (86, 53, 5, 3), (87, 54, 5, 3), (88, 55, 5, 4), (89, 56, 5, 4), (90, 57, 5, 6), (91, 58, 5, 4), (92, 59, 5, 4), (93, 60, 5, 4), (94, 61, 5, 4), (95, 62, 5, 4), (96, 63, 5, 6), (97, 64, 5, 5), (98, 65, 5, 6), (99, 66, 5, 6), (100, 67, 5, 4), (101, 68, 1, 1700), (103, 69, 1, 1700), (107, 70, 2, 1700), (111, 71, 1, 83)]
def cf : Nat → Nat
  | 1 => 0
  | 2 => 9
  | 3 => 11
  | 4 => 12
  | 5 => 13
  | 6 => 14
  | 7 => 15
  | 8 => 16
  | 9 => 17
  | 10 => 18
  | 11 => 19
  | 12 => 20
  | 13 => 21
  | 14 => 22
  | 15 => 23
  | 16 => 24
  | 17 => 25
  | 18 => 26
  | 19 => 27
  | 20 => 28
  | 21 => 29
  | 22 => 30
  | 23 => 31
  | 24 => 32
  | 25 => 33
  | 26 => 34
  | 27 => 35
  | 28 => 41
  | 29 => 42
  | 30 => 43
  | 31 => 44
  | 32 => 45
  | 33 => 48
  | 34 => 49
  | 35 => 50
  | 36 => 55
  | 37 => 56
  | 38 => 66
  | 39 => 68
  | 40 => 69
  | 41 => 70
  | 42 => 72
  | 43 => 76
  | 44 => 77
  | 45 => 78
  | 46 => 79
  | 47 => 80
  | 48 => 81
  | 49 => 82
  | 50 => 83
  | 51 => 84
  | 52 => 85
  | 53 => 86
  | 54 => 87
  | 55 => 88
  | 56 => 89
  | 57 => 90
  | 58 => 91
  | 59 => 92
  | 60 => 93
  | 61 => 94
  | 62 => 95
  | 63 => 96
  | 64 => 97
  | 65 => 98
  | 66 => 99
  | 67 => 100
  | 68 => 101
  | 69 => 103
  | 70 => 107
  | 71 => 111
  | _ => 0
abbrev MS : Type := (Nat → Int32) × (Nat → Int64) × (Nat → Nat → Int32) × (Nat → Nat → Int64)
def mF (s : MS) : Nat → Int32 := s.1
def mG (s : MS) : Nat → Int64 := s.2.1
def mA (s : MS) : Nat → Nat → Int32 := s.2.2.1
def mB (s : MS) : Nat → Nat → Int64 := s.2.2.2
def tF (s : MS) (i : Nat) (v : Int32) : MS := ((fun j => if j = i then v else mF s j), mG s, mA s, mB s)
def tG (s : MS) (i : Nat) (v : Int64) : MS := (mF s, (fun j => if j = i then v else mG s j), mA s, mB s)
def tA (s : MS) (i j : Nat) (v : Int32) : MS := (mF s, mG s, (fun a b => if a = i ∧ b = j then v else mA s a b), mB s)
def tB (s : MS) (i j : Nat) (v : Int64) : MS := (mF s, mG s, mA s, (fun a b => if a = i ∧ b = j then v else mB s a b))
/-- the whole array i -/
def tAA (s : MS) (i : Nat) (f : Nat → Int32) : MS := (mF s, mG s, (fun a b => if a = i then f b else mA s a b), mB s)
theorem mF_tF (s : MS) (i j : Nat) (v : Int32) : mF (tF s i v) j = if j = i then v else mF s j := rfl
theorem mF_tG (s : MS) (i : Nat) (v : Int64) : mF (tG s i v) = mF s := rfl
theorem mF_tA (s : MS) (i j : Nat) (v : Int32) : mF (tA s i j v) = mF s := rfl
theorem mF_tB (s : MS) (i j : Nat) (v : Int64) : mF (tB s i j v) = mF s := rfl
theorem mF_tAA (s : MS) (i : Nat) (f : Nat → Int32) : mF (tAA s i f) = mF s := rfl
theorem mG_tF (s : MS) (i : Nat) (v : Int32) : mG (tF s i v) = mG s := rfl
theorem mG_tG (s : MS) (i j : Nat) (v : Int64) : mG (tG s i v) j = if j = i then v else mG s j := rfl
theorem mG_tA (s : MS) (i j : Nat) (v : Int32) : mG (tA s i j v) = mG s := rfl
theorem mG_tB (s : MS) (i j : Nat) (v : Int64) : mG (tB s i j v) = mG s := rfl
theorem mG_tAA (s : MS) (i : Nat) (f : Nat → Int32) : mG (tAA s i f) = mG s := rfl
theorem mA_tF (s : MS) (i : Nat) (v : Int32) : mA (tF s i v) = mA s := rfl
theorem mA_tG (s : MS) (i : Nat) (v : Int64) : mA (tG s i v) = mA s := rfl
theorem mA_tA (s : MS) (i j a b : Nat) (v : Int32) : mA (tA s i j v) a b = if a = i ∧ b = j then v else mA s a b := rfl
theorem mA_tB (s : MS) (i j : Nat) (v : Int64) : mA (tB s i j v) = mA s := rfl
theorem mA_tAA (s : MS) (i a b : Nat) (f : Nat → Int32) : mA (tAA s i f) a b = if a = i then f b else mA s a b := rfl
theorem mB_tF (s : MS) (i : Nat) (v : Int32) : mB (tF s i v) = mB s := rfl
theorem mB_tG (s : MS) (i : Nat) (v : Int64) : mB (tG s i v) = mB s := rfl
theorem mB_tA (s : MS) (i j : Nat) (v : Int32) : mB (tA s i j v) = mB s := rfl
theorem mB_tB (s : MS) (i j a b : Nat) (v : Int64) : mB (tB s i j v) a b = if a = i ∧ b = j then v else mB s a b := rfl
theorem mB_tAA (s : MS) (i : Nat) (f : Nat → Int32) : mB (tAA s i f) = mB s := rfl
def putM (M : MM) (o : Nat) (s : MS) : MM := (mZ M, mK M, mN M, (fun a j => if a = o then mF s j else if o < a ∧ a ≤ o + 71 then mA s (cf (a - o)) j else mI M a j), (fun a j => if a = o then mG s j else if o < a ∧ a ≤ o + 71 then mB s (cf (a - o)) j else mL M a j), mR M)
def ShM (g : GC) (M : MM) (o : Nat) : Prop := mK M o = 26 ∧ gb g ≤ o ∧ ∀ e ∈ shT, mR M o e.1 = some (o + e.2.1) ∧ mK M (o + e.2.1) = e.2.2.1 ∧ mN M (o + e.2.1) = e.2.2.2
def AR (i c t n : Nat) : Prop := (i, c, t, n) ∈ shT ∧ cf c = i ∧ 1 ≤ c ∧ c ≤ 71
def QM (M : MM) (o : Nat) (Q : Option Value → MS → Prop) : Option Value → MM → Prop := fun v M' => ∃ s', M' = putM M o s' ∧ Q v s'
theorem mI_putM0 (M : MM) (o i : Nat) (s : MS) : mI (putM M o s) o i = mF s i := by simp [putM, mI]
theorem mL_putM0 (M : MM) (o i : Nat) (s : MS) : mL (putM M o s) o i = mG s i := by simp [putM, mL]
theorem mI_putMc {M : MM} {o i c t n j : Nat} {s : MS} (h : AR i c t n) : mI (putM M o s) (o + c) j = mA s i j := by
  obtain ⟨-, h1, h2, h3⟩ := h
  have : ¬ (o + c = o) := by omega
  have h4 : o < o + c ∧ o + c ≤ o + 71 := by omega
  show (if o + c = o then _ else if _ then _ else _) = _
  rw [if_neg this, if_pos h4, Nat.add_sub_cancel_left, h1]
theorem mL_putMc {M : MM} {o i c t n j : Nat} {s : MS} (h : AR i c t n) : mL (putM M o s) (o + c) j = mB s i j := by
  obtain ⟨-, h1, h2, h3⟩ := h
  have : ¬ (o + c = o) := by omega
  have h4 : o < o + c ∧ o + c ≤ o + 71 := by omega
  show (if o + c = o then _ else if _ then _ else _) = _
  rw [if_neg this, if_pos h4, Nat.add_sub_cancel_left, h1]
theorem cf_inj : ∀ a, a < 72 → ∀ b, b < 72 → 1 ≤ a → 1 ≤ b → cf a = cf b → a = b := by decide +kernel
theorem putM_tF (M : MM) (o i : Nat) (s : MS) (v : Int32) : sI (putM M o s) o i v = putM M o (tF s i v) := by
  unfold sI
  refine Prod.ext rfl (Prod.ext rfl (Prod.ext rfl (Prod.ext ?_ rfl)))
  funext a j
  show (if a = o ∧ j = i then v else if a = o then mF s j else _) = (if a = o then (if j = i then v else mF s j) else _)
  by_cases e : a = o
  · simp [e]
  · simp [e, putM, mI, mA_tF]
theorem putM_tG (M : MM) (o i : Nat) (s : MS) (v : Int64) : sL (putM M o s) o i v = putM M o (tG s i v) := by
  unfold sL
  refine Prod.ext rfl (Prod.ext rfl (Prod.ext rfl (Prod.ext rfl (Prod.ext ?_ rfl))))
  funext a j
  show (if a = o ∧ j = i then v else if a = o then mG s j else _) = (if a = o then (if j = i then v else mG s j) else _)
  by_cases e : a = o
  · simp [e]
  · simp [e, putM, mL, mB_tG]
theorem putM_tA {M : MM} {o i c t n j : Nat} {s : MS} {v : Int32} (h : AR i c t n) : sI (putM M o s) (o + c) j v = putM M o (tA s i j v) := by
  obtain ⟨-, h1, h2, h3⟩ := h
  unfold sI
  refine Prod.ext rfl (Prod.ext rfl (Prod.ext rfl (Prod.ext ?_ rfl)))
  funext a b
  show (if a = o + c ∧ b = j then v else if a = o then mF s b else if o < a ∧ a ≤ o + 71 then mA s (cf (a - o)) b else mI M a b) = (if a = o then mF s b else if o < a ∧ a ≤ o + 71 then (if cf (a - o) = i ∧ b = j then v else mA s (cf (a - o)) b) else mI M a b)
  by_cases e : a = o
  · subst e
    rw [if_neg (by omega), if_pos rfl, if_pos rfl]
  · rw [if_neg e, if_neg e]
    by_cases e2 : o < a ∧ a ≤ o + 71
    · rw [if_pos e2, if_pos e2]
      by_cases e3 : a = o + c
      · subst e3
        rw [Nat.add_sub_cancel_left, h1]
        simp
      · rw [if_neg (by omega), if_neg ?_]
        rintro ⟨h4, -⟩
        rw [← h1] at h4
        have := cf_inj (a - o) (by omega) c (by omega) (by omega) h2 h4
        omega
    · rw [if_neg e2, if_neg e2, if_neg (by omega)]
theorem putM_tB {M : MM} {o i c t n j : Nat} {s : MS} {v : Int64} (h : AR i c t n) : sL (putM M o s) (o + c) j v = putM M o (tB s i j v) := by
  obtain ⟨-, h1, h2, h3⟩ := h
  unfold sL
  refine Prod.ext rfl (Prod.ext rfl (Prod.ext rfl (Prod.ext rfl (Prod.ext ?_ rfl))))
  funext a b
  show (if a = o + c ∧ b = j then v else if a = o then mG s b else if o < a ∧ a ≤ o + 71 then mB s (cf (a - o)) b else mL M a b) = (if a = o then mG s b else if o < a ∧ a ≤ o + 71 then (if cf (a - o) = i ∧ b = j then v else mB s (cf (a - o)) b) else mL M a b)
  by_cases e : a = o
  · subst e
    rw [if_neg (by omega), if_pos rfl, if_pos rfl]
  · rw [if_neg e, if_neg e]
    by_cases e2 : o < a ∧ a ≤ o + 71
    · rw [if_pos e2, if_pos e2]
      by_cases e3 : a = o + c
      · subst e3
        rw [Nat.add_sub_cancel_left, h1]
        simp
      · rw [if_neg (by omega), if_neg ?_]
        rintro ⟨h4, -⟩
        rw [← h1] at h4
        have := cf_inj (a - o) (by omega) c (by omega) (by omega) h2 h4
        omega
    · rw [if_neg e2, if_neg e2, if_neg (by omega)]
theorem ar0 : AR 0 1 1 1600 := ⟨by decide, rfl, by decide, by decide⟩
theorem ar9 : AR 9 2 1 6 := ⟨by decide, rfl, by decide, by decide⟩
theorem ar11 : AR 11 3 5 7 := ⟨by decide, rfl, by decide, by decide⟩
theorem ar12 : AR 12 4 5 4 := ⟨by decide, rfl, by decide, by decide⟩
theorem ar13 : AR 13 5 5 2 := ⟨by decide, rfl, by decide, by decide⟩
theorem ar14 : AR 14 6 5 4 := ⟨by decide, rfl, by decide, by decide⟩
theorem ar15 : AR 15 7 5 4 := ⟨by decide, rfl, by decide, by decide⟩
theorem ar16 : AR 16 8 5 6 := ⟨by decide, rfl, by decide, by decide⟩
theorem ar17 : AR 17 9 5 2 := ⟨by decide, rfl, by decide, by decide⟩
theorem ar18 : AR 18 10 5 6 := ⟨by decide, rfl, by decide, by decide⟩
theorem ar19 : AR 19 11 5 5 := ⟨by decide, rfl, by decide, by decide⟩
theorem ar20 : AR 20 12 5 4 := ⟨by decide, rfl, by decide, by decide⟩
theorem ar21 : AR 21 13 5 4 := ⟨by decide, rfl, by decide, by decide⟩
theorem ar22 : AR 22 14 5 4 := ⟨by decide, rfl, by decide, by decide⟩
theorem ar23 : AR 23 15 5 4 := ⟨by decide, rfl, by decide, by decide⟩
theorem ar24 : AR 24 16 5 4 := ⟨by decide, rfl, by decide, by decide⟩
theorem ar25 : AR 25 17 5 4 := ⟨by decide, rfl, by decide, by decide⟩
theorem ar26 : AR 26 18 5 4 := ⟨by decide, rfl, by decide, by decide⟩
theorem ar27 : AR 27 19 5 6 := ⟨by decide, rfl, by decide, by decide⟩
theorem ar28 : AR 28 20 5 5 := ⟨by decide, rfl, by decide, by decide⟩
theorem ar29 : AR 29 21 5 6 := ⟨by decide, rfl, by decide, by decide⟩
theorem ar30 : AR 30 22 5 2 := ⟨by decide, rfl, by decide, by decide⟩
theorem ar31 : AR 31 23 5 3 := ⟨by decide, rfl, by decide, by decide⟩
theorem ar32 : AR 32 24 5 3 := ⟨by decide, rfl, by decide, by decide⟩
theorem ar33 : AR 33 25 5 3 := ⟨by decide, rfl, by decide, by decide⟩
theorem ar34 : AR 34 26 5 3 := ⟨by decide, rfl, by decide, by decide⟩
theorem ar35 : AR 35 27 5 3 := ⟨by decide, rfl, by decide, by decide⟩
theorem ar41 : AR 41 28 2 16 := ⟨by decide, rfl, by decide, by decide⟩
theorem ar42 : AR 42 29 1 8 := ⟨by decide, rfl, by decide, by decide⟩
theorem ar43 : AR 43 30 1 16 := ⟨by decide, rfl, by decide, by decide⟩
theorem ar44 : AR 44 31 1 16 := ⟨by decide, rfl, by decide, by decide⟩
theorem ar45 : AR 45 32 1 64 := ⟨by decide, rfl, by decide, by decide⟩
theorem ar48 : AR 48 33 1 6 := ⟨by decide, rfl, by decide, by decide⟩
theorem ar49 : AR 49 34 1 6 := ⟨by decide, rfl, by decide, by decide⟩
theorem ar50 : AR 50 35 1 3200 := ⟨by decide, rfl, by decide, by decide⟩
theorem ar55 : AR 55 36 1 210 := ⟨by decide, rfl, by decide, by decide⟩
theorem ar56 : AR 56 37 1 89 := ⟨by decide, rfl, by decide, by decide⟩
theorem ar66 : AR 66 38 1 2048 := ⟨by decide, rfl, by decide, by decide⟩
theorem ar68 : AR 68 39 1 48 := ⟨by decide, rfl, by decide, by decide⟩
theorem ar69 : AR 69 40 1 310 := ⟨by decide, rfl, by decide, by decide⟩
theorem ar70 : AR 70 41 4 10 := ⟨by decide, rfl, by decide, by decide⟩
theorem ar72 : AR 72 42 1 4200 := ⟨by decide, rfl, by decide, by decide⟩
theorem ar76 : AR 76 43 5 5 := ⟨by decide, rfl, by decide, by decide⟩
theorem ar77 : AR 77 44 5 4 := ⟨by decide, rfl, by decide, by decide⟩
theorem ar78 : AR 78 45 5 5 := ⟨by decide, rfl, by decide, by decide⟩
theorem ar79 : AR 79 46 5 5 := ⟨by decide, rfl, by decide, by decide⟩
theorem ar80 : AR 80 47 5 4 := ⟨by decide, rfl, by decide, by decide⟩
theorem ar81 : AR 81 48 5 5 := ⟨by decide, rfl, by decide, by decide⟩
theorem ar82 : AR 82 49 5 3 := ⟨by decide, rfl, by decide, by decide⟩
theorem ar83 : AR 83 50 5 3 := ⟨by decide, rfl, by decide, by decide⟩
theorem ar84 : AR 84 51 5 2 := ⟨by decide, rfl, by decide, by decide⟩
theorem ar85 : AR 85 52 5 3 := ⟨by decide, rfl, by decide, by decide⟩
theorem ar86 : AR 86 53 5 3 := ⟨by decide, rfl, by decide, by decide⟩
theorem ar87 : AR 87 54 5 3 := ⟨by decide, rfl, by decide, by decide⟩
theorem ar88 : AR 88 55 5 4 := ⟨by decide, rfl, by decide, by decide⟩
theorem ar89 : AR 89 56 5 4 := ⟨by decide, rfl, by decide, by decide⟩
theorem ar90 : AR 90 57 5 6 := ⟨by decide, rfl, by decide, by decide⟩
theorem ar91 : AR 91 58 5 4 := ⟨by decide, rfl, by decide, by decide⟩
theorem ar92 : AR 92 59 5 4 := ⟨by decide, rfl, by decide, by decide⟩
theorem ar93 : AR 93 60 5 4 := ⟨by decide, rfl, by decide, by decide⟩
theorem ar94 : AR 94 61 5 4 := ⟨by decide, rfl, by decide, by decide⟩
theorem ar95 : AR 95 62 5 4 := ⟨by decide, rfl, by decide, by decide⟩
theorem ar96 : AR 96 63 5 6 := ⟨by decide, rfl, by decide, by decide⟩
theorem ar97 : AR 97 64 5 5 := ⟨by decide, rfl, by decide, by decide⟩
theorem ar98 : AR 98 65 5 6 := ⟨by decide, rfl, by decide, by decide⟩
theorem ar99 : AR 99 66 5 6 := ⟨by decide, rfl, by decide, by decide⟩
theorem ar100 : AR 100 67 5 4 := ⟨by decide, rfl, by decide, by decide⟩
theorem ar101 : AR 101 68 1 1700 := ⟨by decide, rfl, by decide, by decide⟩
theorem ar103 : AR 103 69 1 1700 := ⟨by decide, rfl, by decide, by decide⟩
theorem ar107 : AR 107 70 2 1700 := ⟨by decide, rfl, by decide, by decide⟩
theorem ar111 : AR 111 71 1 83 := ⟨by decide, rfl, by decide, by decide⟩
section RowsM
variable {g : GC} {y : MethodName} {cc : ByteArray} {nL : Nat} {rt : Option FieldType} {hh : List (Nat × Nat × Nat × Nat)} {d kc ks : Nat} {M : MM} {o : Nat} {s : MS} {pc : Nat} {lv : List (Option Value)} {st : List Value} {Q : Option Value → MM → Prop} {X : Nat → MM → Prop}
theorem ShM.k (hS : ShM g M o) : mK (putM M o s) o = 20 + 6 := hS.1
theorem m_getI {i idx : Nat} (hS : ShM g M o) (hd : decode cc pc = .ok (.getfield idx, 3)) (hf : Fl y.cls idx 6 i 0) (k : Bd g y cc nL rt hh d kc ks (putM M o s) (pc + 3) lv (.int (mF s i) :: st) Q X) : Bd g y cc nL rt hh d kc ks (putM M o s) pc lv (.ref o :: st) Q X := r_getI' hd hf hS.k (mI_putM0 M o i s) k
theorem m_getL {i idx : Nat} (hS : ShM g M o) (hd : decode cc pc = .ok (.getfield idx, 3)) (hf : Fl y.cls idx 6 i 1) (k : Bd g y cc nL rt hh d kc ks (putM M o s) (pc + 3) lv (.long (mG s i) :: st) Q X) : Bd g y cc nL rt hh d kc ks (putM M o s) pc lv (.ref o :: st) Q X := r_getL hd hf hS.k (Bd.eqL (mL_putM0 M o i s) k)
theorem m_getR {i c t n idx : Nat} (hS : ShM g M o) (hd : decode cc pc = .ok (.getfield idx, 3)) (hf : Fl y.cls idx 6 i 2) (ha : AR i c t n) (k : Bd g y cc nL rt hh d kc ks (putM M o s) (pc + 3) lv (.ref (o + c) :: st) Q X) : Bd g y cc nL rt hh d kc ks (putM M o s) pc lv (.ref o :: st) Q X := r_getR hd hf hS.k (hS.2.2 _ ha.1).1 k
theorem m_putI {i idx : Nat} {x : Int32} {ty : FieldType} (hS : ShM g M o) (hd : decode cc pc = .ok (.putfield idx, 3)) (hf : Fl y.cls idx 6 i 0) (hw : Fw 6 i ty) (hn : narrow ty (.int x) = .int x) (hfit : fits ty (.int x) = true) (k : Bd g y cc nL rt hh d kc ks (putM M o (tF s i x)) (pc + 3) lv st Q X) : Bd g y cc nL rt hh d kc ks (putM M o s) pc lv (.int x :: .ref o :: st) Q X := r_putI hd hf hw hn hfit hS.k hS.2.1 (Bd.eqM (putM_tF M o i s x) k)
theorem m_putL {i idx : Nat} {x : Int64} (hS : ShM g M o) (hd : decode cc pc = .ok (.putfield idx, 3)) (hf : Fl y.cls idx 6 i 1) (hw : Fw 6 i .long) (k : Bd g y cc nL rt hh d kc ks (putM M o (tG s i x)) (pc + 3) lv st Q X) : Bd g y cc nL rt hh d kc ks (putM M o s) pc lv (.long x :: .ref o :: st) Q X := r_putL hd hf hw rfl rfl hS.k hS.2.1 (Bd.eqM (putM_tG M o i s x) k)
theorem m_iald {i c n j : Nat} (hS : ShM g M o) (hd : decode cc pc = .ok (.iaload, 1)) (ha : AR i c 1 n) (hj : j < n) (hj2 : j < 2147483648) (k : Bd g y cc nL rt hh d kc ks (putM M o s) (pc + 1) lv (.int (mA s i j) :: st) Q X) : Bd g y cc nL rt hh d kc ks (putM M o s) pc lv (.int (nI j) :: .ref (o + c) :: st) Q X := r_iald hd (hS.2.2 _ ha.1).2.1 (show j < mN M (o + c) by rw [(hS.2.2 _ ha.1).2.2]; exact hj) hj2 (Bd.eqI (mI_putMc ha) k)
theorem m_zald {i c n j : Nat} (hS : ShM g M o) (hd : decode cc pc = .ok (.baload, 1)) (ha : AR i c 4 n) (hj : j < n) (hj2 : j < 2147483648) (k : Bd g y cc nL rt hh d kc ks (putM M o s) (pc + 1) lv (.int (mA s i j) :: st) Q X) : Bd g y cc nL rt hh d kc ks (putM M o s) pc lv (.int (nI j) :: .ref (o + c) :: st) Q X := r_zald hd (hS.2.2 _ ha.1).2.1 (show j < mN M (o + c) by rw [(hS.2.2 _ ha.1).2.2]; exact hj) hj2 (Bd.eqI (mI_putMc ha) k)
theorem m_cald {i c n j : Nat} (hS : ShM g M o) (hd : decode cc pc = .ok (.caload, 1)) (ha : AR i c 5 n) (hj : j < n) (hj2 : j < 2147483648) (k : Bd g y cc nL rt hh d kc ks (putM M o s) (pc + 1) lv (.int (mA s i j) :: st) Q X) : Bd g y cc nL rt hh d kc ks (putM M o s) pc lv (.int (nI j) :: .ref (o + c) :: st) Q X := r_cald hd (hS.2.2 _ ha.1).2.1 (show j < mN M (o + c) by rw [(hS.2.2 _ ha.1).2.2]; exact hj) hj2 (Bd.eqI (mI_putMc ha) k)
theorem m_lald {i c n j : Nat} (hS : ShM g M o) (hd : decode cc pc = .ok (.laload, 1)) (ha : AR i c 2 n) (hj : j < n) (hj2 : j < 2147483648) (k : Bd g y cc nL rt hh d kc ks (putM M o s) (pc + 1) lv (.long (mB s i j) :: st) Q X) : Bd g y cc nL rt hh d kc ks (putM M o s) pc lv (.int (nI j) :: .ref (o + c) :: st) Q X := r_lald hd (hS.2.2 _ ha.1).2.1 (show j < mN M (o + c) by rw [(hS.2.2 _ ha.1).2.2]; exact hj) hj2 (Bd.eqL (mL_putMc ha) k)
theorem m_iast {i c n j : Nat} {x : Int32} (hS : ShM g M o) (hd : decode cc pc = .ok (.iastore, 1)) (ha : AR i c 1 n) (hj : j < n) (hj2 : j < 2147483648) (k : Bd g y cc nL rt hh d kc ks (putM M o (tA s i j x)) (pc + 1) lv st Q X) : Bd g y cc nL rt hh d kc ks (putM M o s) pc lv (.int x :: .int (nI j) :: .ref (o + c) :: st) Q X := r_iast hd (hS.2.2 _ ha.1).2.1 (show j < mN M (o + c) by rw [(hS.2.2 _ ha.1).2.2]; exact hj) hj2 (Nat.le_trans hS.2.1 (Nat.le_add_right o c)) (Bd.eqM (putM_tA ha) k)
theorem m_zast {i c n j : Nat} {x : Int32} (hS : ShM g M o) (hd : decode cc pc = .ok (.bastore, 1)) (ha : AR i c 4 n) (hj : j < n) (hj2 : j < 2147483648) (k : Bd g y cc nL rt hh d kc ks (putM M o (tA s i j (vp_nar .boolean x))) (pc + 1) lv st Q X) : Bd g y cc nL rt hh d kc ks (putM M o s) pc lv (.int x :: .int (nI j) :: .ref (o + c) :: st) Q X := r_zast hd (hS.2.2 _ ha.1).2.1 (show j < mN M (o + c) by rw [(hS.2.2 _ ha.1).2.2]; exact hj) hj2 (Nat.le_trans hS.2.1 (Nat.le_add_right o c)) (Bd.eqM (putM_tA ha) k)
theorem m_cast {i c n j : Nat} {x : Int32} (hS : ShM g M o) (hd : decode cc pc = .ok (.castore, 1)) (ha : AR i c 5 n) (hj : j < n) (hj2 : j < 2147483648) (k : Bd g y cc nL rt hh d kc ks (putM M o (tA s i j (vp_nar .char x))) (pc + 1) lv st Q X) : Bd g y cc nL rt hh d kc ks (putM M o s) pc lv (.int x :: .int (nI j) :: .ref (o + c) :: st) Q X := r_cast hd (hS.2.2 _ ha.1).2.1 (show j < mN M (o + c) by rw [(hS.2.2 _ ha.1).2.2]; exact hj) hj2 (Nat.le_trans hS.2.1 (Nat.le_add_right o c)) (Bd.eqM (putM_tA ha) k)
theorem m_last {i c n j : Nat} {x : Int64} (hS : ShM g M o) (hd : decode cc pc = .ok (.lastore, 1)) (ha : AR i c 2 n) (hj : j < n) (hj2 : j < 2147483648) (k : Bd g y cc nL rt hh d kc ks (putM M o (tB s i j x)) (pc + 1) lv st Q X) : Bd g y cc nL rt hh d kc ks (putM M o s) pc lv (.long x :: .int (nI j) :: .ref (o + c) :: st) Q X := r_last hd (hS.2.2 _ ha.1).2.1 (show j < mN M (o + c) by rw [(hS.2.2 _ ha.1).2.2]; exact hj) hj2 (Nat.le_trans hS.2.1 (Nat.le_add_right o c)) (Bd.eqM (putM_tB ha) k)
theorem m_alen {i c t n : Nat} (hS : ShM g M o) (hd : decode cc pc = .ok (.arraylength, 1)) (ha : AR i c t n) (ht : 1 ≤ t ∧ t ≤ 9) (k : Bd g y cc nL rt hh d kc ks (putM M o s) (pc + 1) lv (.int (nI n) :: st) Q X) : Bd g y cc nL rt hh d kc ks (putM M o s) pc lv (.ref (o + c) :: st) Q X := r_alen hd (hS.2.2 _ ha.1).2.1 ht (Bd.eqI (show nI (mN M (o + c)) = nI n by rw [(hS.2.2 _ ha.1).2.2]) k)
end RowsM
