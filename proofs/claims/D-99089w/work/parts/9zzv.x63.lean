set_option maxRecDepth 100000
/-! THE READER's WORLD: texts of the constant pool by the wide row; what stands while trees are read; costs -/
section Rows63
variable {g : GC} {y : MethodName} {cc : ByteArray} {nL : Nat} {rt : Option FieldType} {hh : List (Nat × Nat × Nat × Nat)} {d kc ks : Nat} {M : MM} {pc : Nat} {lv : List (Option Value)} {st : List Value} {Q : Option Value → MM → Prop} {X : Nat → MM → Prop}
theorem r_ldcwS {idx q : Nat} {tx : String} (hd : decode cc pc = .ok (.ldc_w idx, 3)) (hz : NR g y.cls idx tx q) (k : Bd g y cc nL rt hh d kc ks M (pc + 3) lv (.ref q :: st) Q X) : Bd g y cc nL rt hh d kc ks M pc lv st Q X := by
  intro p e s m args below meth c H locs cells slots mc ms ls hC hH hL h1 h2
  have hZ := hz s H hH.2.2.2.2.2
  have k1 := k p e s m args below meth c H locs cells slots mc ms ls hC hH hL h1 h2
  intro T hT X1
  obtain ⟨t, a1, b1⟩ := k1 T hT X1
  exact ⟨t, X1.ldcStringW hC.1 hC.2.2.2.2.2.2.1 (text := tx) (a := q) hZ.1 hZ.2 (g := F0 m pc ls st) rfl (by rw [hC.2.1]; exact hd) t a1, b1⟩
end Rows63
/-! the texts -/
def askW : List (List Nat) := [wFace, wKind, wThinks, wYear, wLook, wSide, wGain, wBack, wNumber, wHouse, wSpares]
def lookW : List (List Nat) := [wThinks, wBack]
def toldW : List (List Nat) := [wFirst, wLast, wOften, wTotal, wMost, wLeast]
def txT : List (Nat × String × List Nat) := [(116, "terrace", wTerrace), (172, "soul", wSoul), (174, "thinks", wThinks), (176, "paints", wPaints), (178, "minds", wMinds), (180, "feud", wFeud), (182, "slip", wSlip), (144, "at", wAt), (148, "face", wFace), (155, "kind", wKind), (189, "of", wOf), (265, "min", wMin), (267, "max", wMax), (291, "not", wNot), (298, "all", wAll), (289, "and", wAnd), (280, "or", wOr)]
def stT : List (String × List (List Nat)) := [("OWN", ownW), ("ASKED", askW), ("LOOKED", lookW), ("TOLD_OF", toldW)]
def TXT (g : GC) (M : MM) : Prop := ∀ e ∈ txT, ∃ z, NR g "Retouched$Reader" e.1 e.2.1 z ∧ STR M (fun c => c < gb g) z e.2.2
def WST (g : GC) (M : MM) : Prop := ∀ e ∈ stT, ∃ t, NS g "Retouched" e.1 "[Ljava/lang/String;" (.ref t) ∧ t < gb g ∧ WDS M (fun c => c < gb g) t e.2
theorem WDS.fr {M M' : MM} {P P' : Nat → Prop} {t : Nat} {L : List (List Nat)} (h : WDS M P t L) (ht : Sm M M' t) (hS : ∀ c, P c → Sm M M' c) (hP : ∀ c, P c → P' c) : WDS M' P' t L := by
  obtain ⟨h1, h2, h3, h4⟩ := h
  refine ⟨ht.1.trans h1, ht.2.1.trans h2, h3, fun i hi => ?_⟩
  obtain ⟨z, z1, z2⟩ := h4 i hi
  exact ⟨z, by rw [ht.2.2.2.2]; exact z1, z2.fr hS hP⟩
theorem TXT.fr {g : GC} {M M' : MM} (h : TXT g M) (hS : ∀ c, c < gb g → Sm M M' c) : TXT g M' := fun e he => by
  obtain ⟨z, z1, z2⟩ := h e he
  exact ⟨z, z1, z2.fr hS (fun _ q => q)⟩
theorem WST.fr {g : GC} {M M' : MM} (h : WST g M) (hS : ∀ c, c < gb g → Sm M M' c) : WST g M' := fun e he => by
  obtain ⟨t, z1, z2, z3⟩ := h e he
  exact ⟨t, z1, z2, z3.fr (hS t z2) hS (fun _ q => q)⟩
/-- all that stands while o's reader reads trees out of n bytes f -/
def RW (g : GC) (M : MM) (o n : Nat) (f : Nat → Nat) : Prop := RDF g M o n f ∧ n ≤ 1280 ∧ (GO g ∧ CMPS g ∧ ∃ mi, NM g "[Ljava/lang/Object;" mi) ∧ TXT g M ∧ WST g M
/-- what may be asked, by the kind of text -/
def cxN (x : Nat) : Nat := if x = 0 then 63 else if x = 1 then 79 else if x = 2 then 143 else 1819
/-- the reader at a, with oo more brackets to come, in a text of kind x -/
def RWA (g : GC) (M : MM) (o n : Nat) (f : Nat → Nat) (x oo a : Nat) : Prop := RW g M o n f ∧ a ≤ n ∧ mI M (o + 5) 2 = nI a ∧ mI M (o + 5) 4 = nI (6 - oo) ∧ oo ≤ 6 ∧ mI M (o + 5) 5 = nI (cxN x) ∧ x ≤ 3
section Wld
variable {g : GC} {M M1 M2 : MM} {o n x oo a b : Nat} {f : Nat → Nat}
theorem RDF.oz (h : RDF g M o n f) : o + 6 < mZ M := h.2.2.2.2.2.2.2.2.2
theorem RDF.gz (h : RDF g M o n f) : gb g ≤ mZ M := by have := h.oz; have := h.2.1; omega
theorem RFr.lo (h : RDF g M o n f) (hr : RFr o M M1) : ∀ c, c < gb g → Sm M M1 c := fun c hc => by
  have h1 := h.2.1
  have h2 := h.oz
  exact hr.1.2 c (by omega) (fun e => by omega)
theorem RW.fr (h : RW g M o n f) (hr : RFr o M M1) : RW g M1 o n f := ⟨h.1.fr hr, h.2.1, h.2.2.1, h.2.2.2.1.fr (RFr.lo h.1 hr), h.2.2.2.2.fr (RFr.lo h.1 hr)⟩
/-- what is made meanwhile changes nothing that is read from -/
theorem RFr.more (h : RFr o M M1) (hf : FM (fun c => mZ M ≤ c) M1 M2) (ho : o + 6 < mZ M) : RFr o M M2 := by
  have hz := h.1.1
  have s5 := hf.2 (o + 5) (by omega) (fun q => by omega)
  have s6 := hf.2 (o + 6) (by omega) (fun q => by omega)
  obtain ⟨⟨a1, a2⟩, a3, a4, a5, a6, a7⟩ := h
  exact ⟨⟨Nat.le_trans a1 hf.1, fun c hc hn => (a2 c hc hn).trans (hf.2 c (by omega) (fun q => by omega))⟩, s5.1.trans a3, s6.1.trans a4, s5.2.2.2.2.trans a5, by rw [s5.2.2.1]; exact a6, by rw [s5.2.2.1]; exact a7⟩
theorem RO.more (h : RO M o b M1) (hf : FM (fun c => mZ M ≤ c) M1 M2) (ho : o + 6 < mZ M) : RO M o b M2 := by
  have hz := h.1.1.1
  have s5 := hf.2 (o + 5) (by omega) (fun q => by omega)
  exact ⟨h.1.more hf ho, by rw [s5.2.2.1]; exact h.2.1, by rw [s5.2.2.1]; exact h.2.2⟩
theorem RFr.k (h : RFr o M M1) {c : Nat} (hc : c < mZ M) : mK M1 c = mK M c := by
  by_cases e5 : c = o + 5
  · rw [e5]; exact h.2.1
  by_cases e6 : c = o + 6
  · rw [e6]; exact h.2.2.1
  exact (h.1.2 c hc (fun e => by omega)).1
theorem RFr.sm (h : RFr o M M1) {c : Nat} (hc : c < mZ M) (ho : o + 6 < c) : Sm M M1 c := h.1.2 c hc (fun e => by omega)
theorem RO.rf (hA : mI M (o + 5) 2 = nI a) : RO M o a M := ⟨RFr.rf, hA, rfl⟩
theorem RWA.to (h : RWA g M o n f x oo a) (hr : RO M o b M1) (hb : b ≤ n) : RWA g M1 o n f x oo b := ⟨h.1.fr hr.1, hb, hr.2.1, hr.2.2.trans h.2.2.2.1, h.2.2.2.2.1, hr.1.2.2.2.2.2.trans h.2.2.2.2.2.1, h.2.2.2.2.2.2⟩
theorem RWA.rd (h : RWA g M o n f x oo a) : RDF g M o n f := h.1.1
theorem RWA.at (h : RWA g M o n f x oo a) : mI M (o + 5) 2 = nI a := h.2.2.1
theorem RWA.le (h : RWA g M o n f x oo a) : a ≤ n := h.2.1
theorem RW.c (h : RW g M o n f) : CMPS g := h.2.2.1.2.1
theorem RW.O (h : RW g M o n f) : GO g := h.2.2.1.1
theorem RW.tx (h : RW g M o n f) {e : Nat × String × List Nat} (he : e ∈ txT) : ∃ z, NR g "Retouched$Reader" e.1 e.2.1 z ∧ SKP M o z e.2.2 := by
  obtain ⟨z, z1, z2⟩ := h.2.2.2.1 e he
  have h1 := h.1.2.1
  have h2 := h.1.oz
  exact ⟨z, z1, z2.up (fun c hc => ⟨by omega, by omega, by omega⟩)⟩
theorem lookO_eq {f : Nat → Nat} {n a b : Nat} (h : skip f n b = skip f n a) : lookO f n b = lookO f n a := by unfold lookO; rw [h]
end Wld
/-! what a value's reading tells, and costs -/
def RVQ (M : MM) (o D : Nat) (r : Rz) : Option Value → MM → Prop := fun v M' => ∃ y z, r = .ok y ∧ v = some (.ref z) ∧ VAL M' o (fun c => mZ M ≤ c ∧ c < mZ M') D z y.1 ∧ RO M o y.2 M'
def RVX (M : MM) (o : Nat) (r : Rz) : Nat → MM → Prop := fun q M' => ∃ k p, r = .error (k, p) ∧ XE M o k p q M'
def cst (K t F n a : Nat) (r : Rz) : Nat := match r with
  | .ok y => K * (y.2 - a - 1) + t
  | .error _ => K * (n - a) + F
def clp (K t F n a : Nat) (r : Rz) : Nat := match r with
  | .ok y => K * (y.2 - a) + t
  | .error _ => K * (n - a) + F
theorem cst_ok {K t F n a : Nat} {y : List Nat × Nat} : cst K t F n a (.ok y) = K * (y.2 - a - 1) + t := rfl
theorem cst_er {K t F n a : Nat} {e : Nat × Nat} : cst K t F n a (.error e) = K * (n - a) + F := rfl
theorem clp_ok {K t F n a : Nat} {y : List Nat × Nat} : clp K t F n a (.ok y) = K * (y.2 - a) + t := rfl
theorem clp_er {K t F n a : Nat} {e : Nat × Nat} : clp K t F n a (.error e) = K * (n - a) + F := rfl
/-! chains that are being made, with their parts -/
def CHW (g : GC) (M0 M : MM) (o D a l v b u k : Nat) (F : Nat → List Nat) (op : Nat → Nat) : Prop := CHU g M a l v b u k ∧ (mZ M0 ≤ a ∧ mZ M0 ≤ l ∧ mZ M0 ≤ v ∧ mZ M0 ≤ b ∧ mZ M0 ≤ u) ∧ (∀ i, i < k → ∃ e, mR M v i = some e ∧ VAL M o (fun c => mZ M0 ≤ c ∧ c < mZ M ∧ c ≠ l ∧ c ≠ v ∧ c ≠ b ∧ c ≠ u) D e (F i)) ∧ ∀ i, 1 ≤ i → i < k → 1 ≤ op i ∧ op i ≤ 4 ∧ mI M u i = nI (sgC (op i))
section Chw
variable {g : GC} {M0 M M1 M2 : MM} {o D a l v b u k : Nat} {F : Nat → List Nat} {op : Nat → Nat}
theorem CHU.fr (h : CHU g M a l v b u k) (hz : mZ M ≤ mZ M1) (hS : ∀ c, c = a ∨ c = l ∨ c = v ∨ c = b ∨ c = u → Sm M M1 c) (hk : ∀ c, c < mZ M → mK M1 c = mK M c) : CHU g M1 a l v b u k := by
  obtain ⟨h1, h2, h3, h4, h5, ⟨a1, a2, a3, a4, a5⟩, h7, h8, h9, h10⟩ := h
  have sa := hS a (Or.inl rfl)
  have sl := hS l (Or.inr (Or.inl rfl))
  have sv := hS v (Or.inr (Or.inr (Or.inl rfl)))
  have sb := hS b (Or.inr (Or.inr (Or.inr (Or.inl rfl))))
  have su := hS u (Or.inr (Or.inr (Or.inr (Or.inr rfl))))
  refine ⟨sa.1.trans h1, by rw [sa.2.2.2.2]; exact h2, by rw [sa.2.2.2.2]; exact h3, h4.fr sl sv, h5.fr sb su, ⟨by omega, by omega, by omega, by omega, by omega⟩, h7, by rw [sv.2.1]; exact h8, fun i z hz' => ?_, h10⟩
  rw [sv.2.2.2.2] at hz'
  obtain ⟨q1, ci, q2, q3⟩ := h9 i z hz'
  exact ⟨by omega, ci, (hk z q1).trans q2, q3⟩
theorem CHW.fr (h : CHW g M0 M o D a l v b u k F op) (hr : RFr o M M1) (ho : o + 6 < mZ M0) : CHW g M0 M1 o D a l v b u k F op := by
  obtain ⟨h1, h2, h3, h4⟩ := h
  have hz := hr.1.1
  have hcz := h1.2.2.2.2.2.1
  have hS : ∀ c, mZ M0 ≤ c → c < mZ M → Sm M M1 c := fun c hc hc2 => hr.sm hc2 (by omega)
  refine ⟨h1.fr hz (fun c hc => hS c (by omega) (by omega)) (fun c hc => hr.k hc), h2, fun i hi => ?_, fun i q1 q2 => ?_⟩
  · obtain ⟨e, e1, e2⟩ := h3 i hi
    exact ⟨e, by rw [(hS v (by omega) (by omega)).2.2.2.2]; exact e1, VAL.fr (fun c hc => hS c hc.1 hc.2.1) (fun c hc => ⟨hc.1, by omega, hc.2.2⟩) D D e (F i) (Nat.le_refl _) e2⟩
  · obtain ⟨e1, e2, e3⟩ := h4 i q1 q2
    exact ⟨e1, e2, by rw [(hS u (by omega) (by omega)).2.2.1]; exact e3⟩
theorem CHW.mk (h : CNW g M a M1) (h0 : mZ M0 ≤ a) (hz : mZ M0 ≤ mZ M) : CHW g M0 M1 o D a (mZ M) (mZ M + 1) (mZ M + 2) (mZ M + 3) 0 F op := ⟨h.1, ⟨h0, hz, by omega, by omega, by omega⟩, fun i hi => absurd hi (Nat.not_lt_zero i), fun i _ hi => absurd hi (Nat.not_lt_zero i)⟩
def upF (F : Nat → List Nat) (k : Nat) (ds : List Nat) : Nat → List Nat := fun i => if i = k then ds else F i
def upO (op : Nat → Nat) (k c : Nat) : Nat → Nat := fun i => if i = k then c else op i
theorem CHW.add {x c oc : Nat} {ds : List Nat} (h : CHW g M0 M o D a l v b u k F op) (hA : CHA g M a l v b u k x c M2) (hx : VAL M o (fun q => mZ M1 ≤ q ∧ q < mZ M) D x ds) (h01 : mZ M0 ≤ mZ M1) (hch : l < mZ M1 ∧ v < mZ M1 ∧ b < mZ M1 ∧ u < mZ M1) (hc : 1 ≤ k → 1 ≤ oc ∧ oc ≤ 4 ∧ c = sgC oc) :
    ∃ v' u', CHW g M0 M2 o D a l v' b u' (k + 1) (upF F k ds) (upO op k oc) ∧ FM (fun q => mZ M0 ≤ q) M M2 := by
  obtain ⟨h1, ⟨p1, p2, p3, p4, p5⟩, h3, h4⟩ := h
  obtain ⟨v', u', c1, c2, c3, c4, c5, c6, c7, c8, c9⟩ := hA
  have hcz := h1.2.2.2.2.2.1
  have hz := c6.1
  have hS : ∀ q, q < mZ M → q ≠ l → q ≠ v → q ≠ b → q ≠ u → Sm M M2 q := fun q hq e1 e2 e3 e4 => c6.2 q hq (fun e => by omega)
  refine ⟨v', u', ⟨c1, ⟨p1, p2, by omega, p4, by omega⟩, fun i hi => ?_, fun i q1 q2 => ?_⟩, ⟨hz, fun q hq hn => hS q hq (by omega) (by omega) (by omega) (by omega)⟩⟩
  · by_cases e : i = k
    · subst e
      refine ⟨x, c3, ?_⟩
      rw [upF, if_pos rfl]
      exact VAL.fr (fun q hq => hS q hq.2 (by omega) (by omega) (by omega) (by omega)) (fun q hq => ⟨by omega, by omega, by omega, by omega, by omega, by omega⟩) D D x ds (Nat.le_refl _) hx
    · obtain ⟨z, z1, z2⟩ := h3 i (by omega)
      refine ⟨z, (c2 i (by omega)).trans z1, ?_⟩
      rw [upF, if_neg e]
      exact VAL.fr (fun q hq => hS q hq.2.1 hq.2.2.1 hq.2.2.2.1 hq.2.2.2.2.1 hq.2.2.2.2.2) (fun q hq => ⟨hq.1, by omega, by omega, by omega, by omega, by omega⟩) D D z (F i) (Nat.le_refl _) z2
  · by_cases e : i = k
    · subst e
      obtain ⟨e1, e2, e3⟩ := hc q1
      rw [upO, if_pos rfl]
      exact ⟨e1, e2, by rw [c5, e3]⟩
    · rw [upO, if_neg e]
      obtain ⟨e1, e2, e3⟩ := h4 i q1 (by omega)
      exact ⟨e1, e2, (c4 i (by omega)).trans e3⟩
theorem chC_up {ds : List Nat} {oc : Nat} (hk : 1 ≤ k) : chC (upF F k ds) (upO op k oc) (k + 1 - 1) = chC F op (k - 1) ++ (ds ++ [oc]) := by
  obtain ⟨j, rfl⟩ : ∃ j, k = j + 1 := ⟨k - 1, by omega⟩
  rw [Nat.add_sub_cancel, Nat.add_sub_cancel]
  show chC (upF F (j + 1) ds) (upO op (j + 1) oc) j ++ (upF F (j + 1) ds (j + 1) ++ [upO op (j + 1) oc (j + 1)]) = _
  rw [upF, if_pos rfl, upO, if_pos rfl]
  rw [chC_congr (f := upF F (j + 1) ds) (f' := F) (op := upO op (j + 1) oc) (op' := op) j (fun i hi => if_neg (by omega)) (fun i _ hi => if_neg (by omega))]
theorem CHW.val (h : CHW g M0 M o D a l v b u k F op) (hk : 1 ≤ k) : VAL M o (fun c => mZ M0 ≤ c ∧ c < mZ M) (D + 1) a (chC F op (k - 1)) := by
  obtain ⟨⟨h1, h2, h3, h4, h5, ⟨a1, a2, a3, a4, a5⟩, -, -, -, -⟩, ⟨p1, p2, p3, p4, p5⟩, h6, h7⟩ := h
  refine Or.inr (Or.inr (Or.inr (Or.inr ⟨l, v, b, u, k, F, op, ⟨⟨⟨p1, a1⟩, ⟨p2, a2⟩, ⟨p3, a3⟩, ⟨p4, a4⟩, ⟨p5, a5⟩⟩, h1, h2, h3, h4, h5.1, h7⟩, hk, fun i hi => ?_, rfl⟩)))
  obtain ⟨e, e1, e2⟩ := h6 i hi
  exact ⟨e, e1, VAL.fr (fun c _ => Sm.rf) (fun c hc => ⟨hc.1, hc.2.1⟩) D D e (F i) (Nat.le_refl _) e2⟩
/-- a value's own class is an object's -/
theorem VAL.ob {P : Nat → Prop} {x : Nat} {cs : List Nat} (hg : GX g) : ∀ D, VAL M o P D x cs → ∃ ci, mK M x = 20 + ci ∧ NW g (.castable (clT ci).1 "java/lang/Object") ∧ P x
  | 0, h => h.elim
  | D + 1, h => by
    rcases h with ⟨p, h1, -⟩ | ⟨p, h1, -⟩ | ⟨p, h1, -⟩ | ⟨p, h1, -⟩ | ⟨l, v, b, w, n, f, op, h1, -⟩
    · exact ⟨11, h1, hg _ q2518 rfl, p⟩
    · exact ⟨12, h1, hg _ q2519 rfl, p⟩
    · exact ⟨13, h1, hg _ q2520 rfl, p⟩
    · exact ⟨10, h1, hg _ q2517 rfl, p⟩
    · exact ⟨9, h1.2.1, hg _ q2515 rfl, h1.1.1⟩
end Chw
/-! costs: one part more, and a first part -/
theorem itc {K t F F' s n b p : Nat} {r : Rz} {L : List Nat → Nat → Rz} (hb : b < p) (hp : p ≤ n) (hpr : ∀ y, r = .ok y → p < y.2 ∧ y.2 ≤ n) (hL : ∀ y z, r = .ok y → L y.1 y.2 = .ok z → y.2 ≤ z.2) (h1 : s + t ≤ 2 * K) (h2 : F ≤ K + F') :
    cst K t F n p r ≤ clp K 0 F' n b (thn r L) ∧ ∀ y, r = .ok y → s + clp K 0 F' n y.2 (L y.1 y.2) + cst K t F n p r ≤ clp K 0 F' n b (thn r L) := by
  have key : ∀ y, r = .ok y → s + clp K 0 F' n y.2 (L y.1 y.2) + cst K t F n p r ≤ clp K 0 F' n b (thn r L) := by
    intro y hy
    subst hy
    obtain ⟨q1, q2⟩ := hpr y rfl
    have hK : 2 * K ≤ K * (p + 1 - b) := by rw [Nat.mul_comm 2 K]; exact Nat.mul_le_mul_left K (by omega)
    show s + clp K 0 F' n y.2 (L y.1 y.2) + cst K t F n p (.ok y) ≤ clp K 0 F' n b (L y.1 y.2)
    rw [cst_ok]
    cases hq : L y.1 y.2 with
    | ok z =>
      have q3 := hL y z rfl hq
      rw [clp_ok, clp_ok]
      have e : K * (z.2 - b) = K * (z.2 - y.2) + K * (y.2 - p - 1) + K * (p + 1 - b) := by rw [← Nat.mul_add, ← Nat.mul_add]; congr 1; omega
      omega
    | error e0 =>
      rw [clp_er, clp_er]
      have e : K * (n - b) = K * (n - y.2) + K * (y.2 - p - 1) + K * (p + 1 - b) := by rw [← Nat.mul_add, ← Nat.mul_add]; congr 1; omega
      omega
  refine ⟨?_, key⟩
  cases hr : r with
  | ok y => have := key y hr; rw [hr] at this; omega
  | error e0 =>
    show cst K t F n p (.error e0) ≤ clp K 0 F' n b (.error e0)
    rw [cst_er, clp_er]
    have hK : K * (n - p) + K ≤ K * (n - b) := by rw [← Nat.mul_succ]; exact Nat.mul_le_mul_left K (by omega)
    omega
theorem stc {K t F t' F' FL s n a : Nat} {r : Rz} {L : List Nat → Nat → Rz} (hpr : ∀ y, r = .ok y → a < y.2 ∧ y.2 ≤ n) (hL : ∀ y z, r = .ok y → L y.1 y.2 = .ok z → y.2 ≤ z.2) (h1 : s + t ≤ t') (h2 : s + F ≤ F') (h3 : s + t + FL ≤ K + F') :
    s + cst K t F n a r ≤ cst K t' F' n a (thn r L) ∧ ∀ y, r = .ok y → s + clp K 0 FL n y.2 (L y.1 y.2) + cst K t F n a r ≤ cst K t' F' n a (thn r L) := by
  have key : ∀ y, r = .ok y → s + clp K 0 FL n y.2 (L y.1 y.2) + cst K t F n a r ≤ cst K t' F' n a (thn r L) := by
    intro y hy
    subst hy
    obtain ⟨q1, q2⟩ := hpr y rfl
    show s + clp K 0 FL n y.2 (L y.1 y.2) + cst K t F n a (.ok y) ≤ cst K t' F' n a (L y.1 y.2)
    rw [cst_ok]
    cases hq : L y.1 y.2 with
    | ok z =>
      have q3 := hL y z rfl hq
      rw [clp_ok, cst_ok]
      have e : K * (z.2 - a - 1) = K * (z.2 - y.2) + K * (y.2 - a - 1) := by rw [← Nat.mul_add]; congr 1; omega
      omega
    | error e0 =>
      rw [clp_er, cst_er]
      have e : K * (n - a) = K * (n - y.2) + K * (y.2 - a - 1) + K := by rw [← Nat.mul_add, ← Nat.mul_succ]; congr 1; omega
      omega
  refine ⟨?_, key⟩
  cases hr : r with
  | ok y => have := key y hr; rw [hr] at this; omega
  | error e0 =>
    show s + cst K t F n a (.error e0) ≤ cst K t' F' n a (.error e0)
    rw [cst_er, cst_er]
    omega
/-- the contract of a reading of values, wherever it begins -/
def CtV (g : GC) (y : MethodName) (cc : ByteArray) (d tC FC tS FS o n : Nat) (f : Nat → Nat) (x oo D : Nat) (it : Nat → Rz) : Prop := ∀ M a, RWA g M o n f x oo a → Ct g y cc 3 (some (.object "Retouched$Value")) d (cst 60 tC FC n a (it a)) (cst 4000 tS FS n a (it a)) [.ref (o + 5)] M (RVQ M o D (it a)) (RVX M o (it a))
/-- a first part and further ones -/
def ptP (f : Nat → Nat) (n : Nat) (op : Nat → Option (Nat × Nat)) (it : Nat → Rz) (a : Nat) : Rz := thn (it a) (fun cs b => loopP f n it op (n + 1) cs b)
theorem prodP_pt {f : Nat → Nat} {n : Nat} {it : Nat → Rz} : prodP f n it = ptP f n (opM f n) it := rfl
theorem sumP_pt {f : Nat → Nat} {n : Nat} {it : Nat → Rz} : sumP f n it = ptP f n (opA f n) (prodP f n it) := rfl
theorem VAL.rd {M M1 : MM} {o D D' lo lo' z : Nat} {cs : List Nat} (h : VAL M o (fun c => lo ≤ c ∧ c < mZ M) D z cs) (hr : RFr o M M1) (ho : o + 6 < lo) (hl : lo' ≤ lo) (hD : D ≤ D') : VAL M1 o (fun c => lo' ≤ c ∧ c < mZ M1) D' z cs := by
  have hz := hr.1.1
  exact VAL.fr (fun c hc => hr.sm hc.2 (by omega)) (fun c hc => ⟨by omega, by omega⟩) D D' z cs hD h
theorem TST.rd {M M1 : MM} {o D D' lo lo' z : Nat} {cs : List Nat} (h : TST M o (fun c => lo ≤ c ∧ c < mZ M) D z cs) (hr : RFr o M M1) (ho : o + 6 < lo) (hl : lo' ≤ lo) (hD : D ≤ D') : TST M1 o (fun c => lo' ≤ c ∧ c < mZ M1) D' z cs := by
  have hz := hr.1.1
  exact TST.fr (fun c hc => hr.sm hc.2 (by omega)) (fun c hc => ⟨by omega, by omega⟩) D D' z cs hD h
theorem bI_look {f : Nat → Nat} {n a c : Nat} (hc : c < 256) (hf : ∀ j, f j < 256) : bI f n (skip f n a) = nI c ↔ lookO f n a = some c := by
  rw [bI_eq hc hf]
  unfold lookO
  by_cases e : skip f n a < n
  · rw [if_pos e]
    exact ⟨fun q => by rw [q.2], fun q => ⟨e, Option.some.inj q⟩⟩
  · rw [if_neg e]
    exact ⟨fun q => absurd q.1 e, fun q => by cases q⟩
/-- what is read behind a bracket that was opened at a -/
theorem wic {K t F s n a p : Nat} {r : Rz} {L : List Nat → Nat → Rz} (ha : a < p) (hp : p ≤ n) (hpr : ∀ y, r = .ok y → p < y.2 ∧ y.2 ≤ n) (hL : ∀ y z, r = .ok y → L y.1 y.2 = .ok z → y.2 ≤ z.2) (h1 : s + t ≤ K) (h2 : F ≤ K) :
    cst K t F n p r ≤ cst K 0 0 n a (thn r L) ∧ ∀ y, r = .ok y → s + clp K 0 0 n y.2 (L y.1 y.2) + cst K t F n p r ≤ cst K 0 0 n a (thn r L) := by
  have key : ∀ y, r = .ok y → s + clp K 0 0 n y.2 (L y.1 y.2) + cst K t F n p r ≤ cst K 0 0 n a (thn r L) := by
    intro y hy
    subst hy
    obtain ⟨q1, q2⟩ := hpr y rfl
    have hK : K ≤ K * (p - a) := by have := Nat.mul_le_mul_left K (show 1 ≤ p - a by omega); rw [Nat.mul_one] at this; exact this
    show s + clp K 0 0 n y.2 (L y.1 y.2) + cst K t F n p (.ok y) ≤ cst K 0 0 n a (L y.1 y.2)
    rw [cst_ok]
    cases hq : L y.1 y.2 with
    | ok z =>
      have q3 := hL y z rfl hq
      rw [clp_ok, cst_ok]
      have e : K * (z.2 - a - 1) = K * (z.2 - y.2) + K * (y.2 - p - 1) + K * (p - a) := by rw [← Nat.mul_add, ← Nat.mul_add]; congr 1; omega
      omega
    | error e0 =>
      rw [clp_er, cst_er]
      have e : K * (n - a) = K * (n - y.2) + K * (y.2 - p - 1) + K * (p - a) + K := by rw [← Nat.mul_add, ← Nat.mul_add, ← Nat.mul_succ]; congr 1; omega
      omega
  refine ⟨?_, key⟩
  cases hr : r with
  | ok y => have := key y hr; rw [hr] at this; omega
  | error e0 =>
    show cst K t F n p (.error e0) ≤ cst K 0 0 n a (.error e0)
    rw [cst_er, cst_er]
    have hK : K * (n - p) + K ≤ K * (n - a) := by rw [← Nat.mul_succ]; exact Nat.mul_le_mul_left K (by omega)
    omega
