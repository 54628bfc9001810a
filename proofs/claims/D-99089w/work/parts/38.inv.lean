set_option maxRecDepth 100000
/-! THE MODEL: the whole object against the whole state -/
def RNf (f : Nat → Int32) (n : Nat) (t : St) : Prop := f 0 = nI (yr t) ∧ (∀ p, p < n → f (1 + 3 * p) = nI (hs t p)) ∧ (∀ p, p < n → f (2 + 3 * p) = nI (lk t p)) ∧ (∀ p, p < n → f (3 + 3 * p) = nI (sp t p)) ∧ ∀ p, p < n → ∀ q, q < n → f (25 + 8 * p + q) = nI (th t p q)
def RKf (f : Nat → Int32) (K : List Ev) : Prop := f 89 = nI K.length ∧ K.length ≤ 40 ∧ ∀ i a b c, K[i]? = some (a, b, c) → f (90 + 3 * i) = nI a ∧ f (91 + 3 * i) = nI b ∧ f (92 + 3 * i) = nI c
theorem RN_f {s : MS} {n : Nat} {t : St} : RN s n t ↔ RNf (mA s 55) n t := Iff.rfl
theorem RK_f {s : MS} {K : List Ev} : RK s K ↔ RKf (mA s 55) K := Iff.rfl
/-- a name as a number, 27 by 27 -/
def nmV : List Nat → Nat → Nat
  | [], v => v
  | c :: cs, v => nmV cs (27 * v + c)
def ITp (s : MS) (q : Sg) : Prop := mF s 1 = nI (gTd q) ∧ ∀ j, j < 1600 → mA s 0 j = nI (gTp q j)
def IFt (s : MS) (q : Sg) : Prop := mF s 7 = nI (gFt q).1 ∧ mF s 8 = oI (gFt q).2
def IRf (s : MS) (q : Sg) : Prop := ∀ i, i < 6 → mA s 9 i = nI (gRf q i)
def ITe (s : MS) (q : Sg) : Prop := RT s (gT q) ∧ mF s 53 = zI (gIt q = true) ∧ ∀ p, p < tn (gT q) → mB s 41 (8 + p) = lI (nmV (nms (gT q) p) 0)
def INw (s : MS) (q : Sg) : Prop := RN s (tn (gT q)) (gS q) ∧ RK s (gK q) ∧ mF s 64 = zI (false = true)
def IUn (s : MS) (q : Sg) : Prop := mF s 73 = nI (gUn q).length ∧ ∃ w, w < 20 ∧ mF s 74 = nI w ∧ ∀ i x, (gUn q)[i]? = some x → RNf (fun j => mA s 72 (210 * ((w + 20 - i) % 20) + j)) (tn (gT q)) x.1 ∧ RKf (fun j => mA s 72 (210 * ((w + 20 - i) % 20) + j)) x.2
def IRw (s : MS) (q : Sg) : Prop := mF s 67 = nI (gRw q).length ∧ ∀ i a b c, (gRw q)[i]? = some (a, b, c) → mA s 68 (3 * i) = nI a ∧ mA s 68 (3 * i + 1) = nI b ∧ mA s 68 (3 * i + 2) = nI c
def ISd (s : MS) (q : Sg) : Prop := mG s 75 = lI (gSd q)
def IOu (s : MS) (q : Sg) : Prop := mF s 112 = nI (gOu q).length ∧ ∀ i, i < (gOu q).length → mA s 111 i = nI ((gOu q).getD i 0)
/-- the words, letter by letter -/
def wdT : List (Nat × List Nat) := [(11, [116, 101, 114, 114, 97, 99, 101]), (12, [115, 111, 117, 108]), (13, [97, 116]), (14, [102, 97, 99, 101]), (15, [107, 105, 110, 100]), (16, [116, 104, 105, 110, 107, 115]), (17, [111, 102]), (18, [112, 97, 105, 110, 116, 115]), (19, [109, 105, 110, 100, 115]), (20, [102, 101, 117, 100]), (21, [115, 108, 105, 112]), (22, [108, 111, 111, 107]), (23, [115, 105, 100, 101]), (24, [103, 97, 105, 110]), (25, [98, 97, 99, 107]), (26, [121, 101, 97, 114]), (27, [110, 117, 109, 98, 101, 114]), (28, [104, 111, 117, 115, 101]), (29, [115, 112, 97, 114, 101, 115]), (30, [111, 114]), (31, [97, 110, 100]), (32, [110, 111, 116]), (33, [97, 108, 108]), (34, [109, 105, 110]), (35, [109, 97, 120]), (76, [102, 105, 114, 115, 116]), (77, [108, 97, 115, 116]), (78, [111, 102, 116, 101, 110]), (79, [116, 111, 116, 97, 108]), (80, [109, 111, 115, 116]), (81, [108, 101, 97, 115, 116]), (82, [110, 111, 116]), (83, [97, 110, 100]), (84, [111, 114]), (85, [97, 108, 108]), (86, [109, 105, 110]), (87, [109, 97, 120]), (88, [102, 97, 99, 101]), (89, [107, 105, 110, 100]), (90, [116, 104, 105, 110, 107, 115]), (91, [121, 101, 97, 114]), (92, [108, 111, 111, 107]), (93, [115, 105, 100, 101]), (94, [103, 97, 105, 110]), (95, [98, 97, 99, 107]), (96, [110, 117, 109, 98, 101, 114]), (97, [104, 111, 117, 115, 101]), (98, [115, 112, 97, 114, 101, 115]), (99, [116, 104, 105, 110, 107, 115]), (100, [98, 97, 99, 107])]
def IWd (s : MS) : Prop := ∀ e ∈ wdT, ∀ j, j < e.2.length → mA s e.1 j = nI (e.2.getD j 0)
def IM (s : MS) (q : Sg) : Prop := ITp s q ∧ IFt s q ∧ IRf s q ∧ ITe s q ∧ INw s q ∧ IUn s q ∧ IRw s q ∧ ISd s q ∧ IOu s q ∧ IWd s
section InvM
variable {fs gs as bs : List Nat} {s s' : MS} {q : Sg}
theorem ITp.fr (h : ITp s q) (hf : Fr fs gs as bs s s') (hd : 1 ∉ fs ∧ 0 ∉ as) : ITp s' q := by
  unfold ITp at *
  rw [hf.1 1 hd.1, hf.2.2.1 0 hd.2]
  exact h
theorem IFt.fr (h : IFt s q) (hf : Fr fs gs as bs s s') (hd : 7 ∉ fs ∧ 8 ∉ fs) : IFt s' q := by
  unfold IFt at *
  rw [hf.1 7 hd.1, hf.1 8 hd.2]
  exact h
theorem IRf.fr (h : IRf s q) (hf : Fr fs gs as bs s s') (hd : 9 ∉ as) : IRf s' q := by
  unfold IRf at *
  rw [hf.2.2.1 9 hd]
  exact h
theorem IUn.fr (h : IUn s q) (hf : Fr fs gs as bs s s') (hd : 73 ∉ fs ∧ 74 ∉ fs ∧ 72 ∉ as) : IUn s' q := by
  unfold IUn at *
  rw [hf.1 73 hd.1, hf.1 74 hd.2.1, hf.2.2.1 72 hd.2.2]
  exact h
theorem IRw.fr (h : IRw s q) (hf : Fr fs gs as bs s s') (hd : 67 ∉ fs ∧ 68 ∉ as) : IRw s' q := by
  unfold IRw at *
  rw [hf.1 67 hd.1, hf.2.2.1 68 hd.2]
  exact h
theorem ISd.fr (h : ISd s q) (hf : Fr fs gs as bs s s') (hd : 75 ∉ gs) : ISd s' q := by
  unfold ISd at *
  rw [hf.2.1 75 hd]
  exact h
theorem IOu.fr (h : IOu s q) (hf : Fr fs gs as bs s s') (hd : 112 ∉ fs ∧ 111 ∉ as) : IOu s' q := by
  unfold IOu at *
  rw [hf.1 112 hd.1, hf.2.2.1 111 hd.2]
  exact h
theorem ITe.fr (h : ITe s q) (hf : Fr fs gs as bs s s') (h1 : 38 ∉ fs ∧ 40 ∉ fs ∧ 47 ∉ fs) (h2 : 43 ∉ as ∧ 44 ∉ as ∧ 48 ∉ as ∧ 49 ∉ as ∧ 50 ∉ as) (h3 : 53 ∉ fs ∧ 41 ∉ bs) : ITe s' q := ⟨h.1.fr hf h1 h2, (hf.1 53 h3.1).trans h.2.1, by rw [hf.2.2.2 41 h3.2]; exact h.2.2⟩
theorem INw.fr (h : INw s q) (hf : Fr fs gs as bs s s') (h1 : 55 ∉ as ∧ 64 ∉ fs) : INw s' q := ⟨h.1.fr hf h1.1, h.2.1.fr hf h1.1, (hf.1 64 h1.2).trans h.2.2⟩
theorem IWd.fr (h : IWd s) (hf : Fr fs gs as bs s s') (h1 : ∀ e ∈ wdT, e.1 ∉ as) : IWd s' := fun e he j hj => by rw [hf.2.2.1 e.1 (h1 e he)]; exact h e he j hj
/-- nothing that is told of has changed -/
theorem IM.fr (h : IM s q) (hf : Fr fs gs as bs s s') (h1 : ∀ i ∈ fs, i ∈ ([2, 3, 4, 5, 6, 10, 36, 37, 39, 46, 51, 52, 54, 57, 58, 59, 60, 61, 62, 63, 65, 71, 102, 104, 105, 106, 108, 110] : List Nat)) (h2 : ∀ i ∈ gs, i = 109) (h3 : ∀ i ∈ as, i ∈ ([42, 45, 56, 66, 69, 70, 101, 103] : List Nat)) (h4 : ∀ i ∈ bs, i = 107) : IM s' q := by
  have F : ∀ i, i ∉ ([2, 3, 4, 5, 6, 10, 36, 37, 39, 46, 51, 52, 54, 57, 58, 59, 60, 61, 62, 63, 65, 71, 102, 104, 105, 106, 108, 110] : List Nat) → i ∉ fs := fun i hi q => hi (h1 i q)
  have A : ∀ i, i ∉ ([42, 45, 56, 66, 69, 70, 101, 103] : List Nat) → i ∉ as := fun i hi q => hi (h3 i q)
  obtain ⟨a1, a2, a3, a4, a5, a6, a7, a8, a9, a10⟩ := h
  exact ⟨a1.fr hf ⟨F 1 (by decide), A 0 (by decide)⟩, a2.fr hf ⟨F 7 (by decide), F 8 (by decide)⟩, a3.fr hf (A 9 (by decide)), a4.fr hf ⟨F 38 (by decide), F 40 (by decide), F 47 (by decide)⟩ ⟨A 43 (by decide), A 44 (by decide), A 48 (by decide), A 49 (by decide), A 50 (by decide)⟩ ⟨F 53 (by decide), fun q => absurd (h4 41 q) (by decide)⟩, a5.fr hf ⟨A 55 (by decide), F 64 (by decide)⟩, a6.fr hf ⟨F 73 (by decide), F 74 (by decide), A 72 (by decide)⟩, a7.fr hf ⟨F 67 (by decide), A 68 (by decide)⟩, a8.fr hf (fun q => absurd (h2 75 q) (by decide)), a9.fr hf ⟨F 112 (by decide), A 111 (by decide)⟩, a10.fr hf (fun e he => A e.1 ((by decide : ∀ e ∈ wdT, e.1 ∉ ([42, 45, 56, 66, 69, 70, 101, 103] : List Nat)) e he))⟩
end InvM
