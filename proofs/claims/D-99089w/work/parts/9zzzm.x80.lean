set_option maxRecDepth 100000
/-! THE READER: a terrace that is being told -/
/-- its cells that stay as they are -/
def Pt (M0 M : MM) (ta l v c : Nat) : Prop := mZ M0 ≤ c ∧ c < mZ M ∧ c ≠ ta ∧ c ≠ l ∧ c ≠ v ∧ mK M c ≠ 1
/-- a soul at a, with her thoughts at t -/
def SOL (M : MM) (P : Nat → Prop) (a t : Nat) (e : So) (th : Nat → Nat) : Prop := P a ∧ mK M a = 27 ∧ (∃ z, mR M a 0 = some z ∧ STR M P z (e.1.map (fun c => c + 96))) ∧ (mI M a 1 = nI e.2.1 ∧ mI M a 2 = nI e.2.2.1 ∧ mI M a 3 = nI e.2.2.2) ∧ mR M a 4 = some t ∧ mK M t = 1 ∧ mN M t = 8 ∧ ∀ j, j < 8 → mI M t j = nI (th j)
theorem SOL.fr {M M' : MM} {P P' : Nat → Prop} {a t : Nat} {e : So} {th : Nat → Nat} (h : SOL M P a t e th) (hS : ∀ c, P c → Sm M M' c) (hP : ∀ c, P c → P' c) (ht : Sm M M' t) : SOL M' P' a t e th := by
  obtain ⟨h1, h2, ⟨z, h3, h4⟩, ⟨h5, h6, h7⟩, h8, h9, h10, h11⟩ := h
  have sa := hS a h1
  exact ⟨hP a h1, sa.1.trans h2, ⟨z, by rw [sa.2.2.2.2]; exact h3, h4.fr hS hP⟩, ⟨by rw [sa.2.2.1]; exact h5, by rw [sa.2.2.1]; exact h6, by rw [sa.2.2.1]; exact h7⟩, by rw [sa.2.2.2.2]; exact h8, ht.1.trans h9, ht.2.1.trans h10, fun j hj => by rw [ht.2.2.1]; exact h11 j hj⟩
/-- its trees -/
def TRE (M : MM) (o : Nat) (P : Nat → Prop) (ta : Nat) (T : To) : Prop := (∀ w, w < 2 → (oC T w = none ∧ mR M ta (4 + w) = none) ∨ ∃ cs x, oC T w = some cs ∧ mR M ta (4 + w) = some x ∧ VAL M o P 40 x cs) ∧ ((oC T 2 = none ∧ mR M ta 6 = none) ∨ ∃ cs x, oC T 2 = some cs ∧ mR M ta 6 = some x ∧ TST M o P 40 x cs)
theorem TRE.fr {M M' : MM} {o ta : Nat} {P P' : Nat → Prop} {T : To} (h : TRE M o P ta T) (hS : ∀ c, P c → Sm M M' c) (hP : ∀ c, P c → P' c) (ht : mR M' ta = mR M ta) : TRE M' o P' ta T := by
  obtain ⟨h4, h5⟩ := h
  refine ⟨fun w hw => ?_, ?_⟩
  · rw [ht]
    rcases h4 w hw with q | ⟨cs, x, q1, q2, q3⟩
    · exact Or.inl q
    · exact Or.inr ⟨cs, x, q1, q2, VAL.fr hS hP 40 40 x cs (Nat.le_refl _) q3⟩
  · rw [ht]
    rcases h5 with q | ⟨cs, x, q1, q2, q3⟩
    · exact Or.inl q
    · exact Or.inr ⟨cs, x, q1, q2, TST.fr hS hP 40 40 x cs (Nat.le_refl _) q3⟩
def TLD (g : GC) (M0 M : MM) (o ta l v : Nat) (tA : Nat → Nat) (T : To) (m : Nat) : Prop := (mK M ta = 21 ∧ mI M ta 0 = nI m ∧ mI M ta 1 = nI (oH T) ∧ mI M ta 2 = nI (oL T) ∧ mR M ta 3 = some l) ∧ LsX M l v (oS T).length ∧ (ta < mZ M ∧ l < mZ M ∧ v < mZ M) ∧ (gb g ≤ ta ∧ gb g ≤ l ∧ gb g ≤ v) ∧ (mZ M0 ≤ ta ∧ mZ M0 ≤ l ∧ mZ M0 ≤ v) ∧ 0 < mN M v ∧ (∀ i z, mR M v i = some z → OB g M z) ∧ (∀ i, i < (oS T).length → ∃ a, mR M v i = some a ∧ SOL M (Pt M0 M ta l v) a (tA i) (sAt T i) (oT T i) ∧ mZ M0 ≤ tA i ∧ tA i < mZ M ∧ gb g ≤ tA i) ∧ (∀ i j, i < (oS T).length → j < (oS T).length → tA i = tA j → i = j) ∧ (∀ i, (oS T).length ≤ i → ∀ j, oT T i j = 5) ∧ TRE M o (Pt M0 M ta l v) ta T
section Tld
variable {g : GC} {M0 M M1 M2 : MM} {o ta l v m : Nat} {tA : Nat → Nat} {T : To}
theorem TLD.ne (h : TLD g M0 M o ta l v tA T m) : ta ≠ l ∧ ta ≠ v ∧ l ≠ v ∧ ∀ i, i < (oS T).length → tA i ≠ ta ∧ tA i ≠ l ∧ tA i ≠ v := by
  obtain ⟨⟨h1, -⟩, ⟨h2, -, -, h3, -⟩, -, -, -, -, -, h8, -⟩ := h
  refine ⟨?_, ?_, ?_, fun i hi => ?_⟩
  · intro e; subst e; omega
  · intro e; subst e; omega
  · intro e; subst e; omega
  · obtain ⟨a, -, ⟨-, -, -, -, -, k, -⟩, -⟩ := h8 i hi
    refine ⟨?_, ?_, ?_⟩ <;> (intro e; rw [e] at k; omega)
theorem TLD.mv (h : TLD g M0 M o ta l v tA T m) (hz : mZ M ≤ mZ M1) (hS : ∀ c, mZ M0 ≤ c → c < mZ M → Sm M M1 c) (hk : ∀ c, c < mZ M → mK M1 c = mK M c) : TLD g M0 M1 o ta l v tA T m := by
  obtain ⟨⟨h1, h2, h3, h4, h5⟩, h6, ⟨a1, a2, a3⟩, h8, ⟨p1, p2, p3⟩, h10, h11, h12, h13, h14, h15⟩ := h
  have st := hS ta p1 a1
  have sl := hS l p2 a2
  have sv := hS v p3 a3
  have hP : ∀ c, Pt M0 M ta l v c → Pt M0 M1 ta l v c := fun c hc => ⟨hc.1, by have := hc.2.1; omega, hc.2.2.1, hc.2.2.2.1, hc.2.2.2.2.1, by rw [hk c hc.2.1]; exact hc.2.2.2.2.2⟩
  have hS2 : ∀ c, Pt M0 M ta l v c → Sm M M1 c := fun c hc => hS c hc.1 hc.2.1
  refine ⟨⟨st.1.trans h1, by rw [st.2.2.1]; exact h2, by rw [st.2.2.1]; exact h3, by rw [st.2.2.1]; exact h4, by rw [st.2.2.2.2]; exact h5⟩, h6.fr sl sv, ⟨by omega, by omega, by omega⟩, h8, ⟨p1, p2, p3⟩, by rw [sv.2.1]; exact h10, fun i z q => ?_, fun i hi => ?_, h13, h14, h15.fr hS2 hP st.2.2.2.2⟩
  · rw [sv.2.2.2.2] at q
    obtain ⟨q1, ci, q2, q3⟩ := h11 i z q
    exact ⟨by omega, ci, (hk z q1).trans q2, q3⟩
  · obtain ⟨a, k1, k2, k3, k4, k5⟩ := h12 i hi
    exact ⟨a, by rw [sv.2.2.2.2]; exact k1, k2.fr hS2 hP (hS (tA i) k3 k4), k3, by omega, k5⟩
theorem TLD.fr (h : TLD g M0 M o ta l v tA T m) (hr : RFr o M M1) (ho : o + 6 < mZ M0) : TLD g M0 M1 o ta l v tA T m := h.mv hr.1.1 (fun c h1 h2 => hr.sm h2 (by omega)) (fun c hc => hr.k hc)
/-- only the terrace itself has changed -/
theorem TLD.at {T' : To} {m' : Nat} (h : TLD g M0 M o ta l v tA T m) (hz : mZ M1 = mZ M) (hS : ∀ c, c ≠ ta → Sm M M1 c) (hk : mK M1 ta = mK M ta) (f0 : mI M1 ta 0 = nI m') (f1 : mI M1 ta 1 = nI (oH T')) (f2 : mI M1 ta 2 = nI (oL T')) (f3 : mR M1 ta 3 = mR M ta 3) (eS : oS T' = oS T) (eT : oT T' = oT T) (hT : (∀ c, Pt M0 M ta l v c → Sm M M1 c) → (∀ c, Pt M0 M ta l v c → Pt M0 M1 ta l v c) → TRE M1 o (Pt M0 M1 ta l v) ta T') : TLD g M0 M1 o ta l v tA T' m' := by
  obtain ⟨n1, n2, n3, n4⟩ := h.ne
  obtain ⟨⟨h1, h2, h3, h4, h5⟩, h6, ⟨a1, a2, a3⟩, h8, ⟨p1, p2, p3⟩, h10, h11, h12, h13, h14, h15⟩ := h
  have sl := hS l (Ne.symm n1)
  have sv := hS v (Ne.symm n2)
  have hk2 : ∀ c, mK M1 c = mK M c := fun c => by
    by_cases e : c = ta
    · rw [e]; exact hk
    · exact (hS c e).1
  have hP : ∀ c, Pt M0 M ta l v c → Pt M0 M1 ta l v c := fun c hc => ⟨hc.1, by rw [hz]; exact hc.2.1, hc.2.2.1, hc.2.2.2.1, hc.2.2.2.2.1, by rw [hk2 c]; exact hc.2.2.2.2.2⟩
  have hS2 : ∀ c, Pt M0 M ta l v c → Sm M M1 c := fun c hc => hS c hc.2.2.1
  have eA : ∀ i, sAt T' i = sAt T i := fun i => by unfold sAt; rw [eS]
  refine ⟨⟨hk.trans h1, f0, f1, f2, f3.trans h5⟩, by rw [eS]; exact h6.fr sl sv, by rw [hz]; exact ⟨a1, a2, a3⟩, h8, ⟨p1, p2, p3⟩, by rw [sv.2.1]; exact h10, fun i z q => ?_, fun i hi => ?_, by rw [eS]; exact h13, by rw [eS, eT]; exact h14, hT hS2 hP⟩
  · rw [sv.2.2.2.2] at q
    obtain ⟨q1, ci, q2, q3⟩ := h11 i z q
    exact ⟨by omega, ci, (hk2 z).trans q2, q3⟩
  · rw [eS] at hi
    obtain ⟨a, k1, k2, k3, k4, k5⟩ := h12 i hi
    rw [eA, eT]
    exact ⟨a, by rw [sv.2.2.2.2]; exact k1, k2.fr hS2 hP (hS (tA i) (n4 i hi).1), k3, by omega, k5⟩
theorem TLD.stI {j : Nat} {x : Int32} {T' : To} {m' : Nat} (h : TLD g M0 M o ta l v tA T m) (hj : j < 3) (f0 : mI (sI M ta j x) ta 0 = nI m') (f1 : mI (sI M ta j x) ta 1 = nI (oH T')) (f2 : mI (sI M ta j x) ta 2 = nI (oL T')) (eS : oS T' = oS T) (eT : oT T' = oT T) (eC : oC T' = oC T) : TLD g M0 (sI M ta j x) o ta l v tA T' m' := by
  refine h.at rfl (fun c hc => Sm.sI hc) rfl f0 f1 f2 rfl eS eT (fun h1 h2 => ?_)
  have := h.2.2.2.2.2.2.2.2.2.2.fr h1 h2 rfl
  unfold TRE at this ⊢
  rw [eC]; exact this
/-- a thought is told -/
theorem TLD.think {i j x : Nat} (h : TLD g M0 M o ta l v tA T m) (hi : i < (oS T).length) (hj : j < 8) : TLD g M0 (sI M (tA i) j (nI x)) o ta l v tA (pT T i j x) m := by
  obtain ⟨n1, n2, n3, n4⟩ := h.ne
  obtain ⟨⟨h1, h2, h3, h4, h5⟩, h6, ⟨a1, a2, a3⟩, h8, ⟨p1, p2, p3⟩, h10, h11, h12, h13, h14, h15⟩ := h
  obtain ⟨b, b1, b2, b3, b4, b5⟩ := h12 i hi
  have hS : ∀ c, c ≠ tA i → Sm M (sI M (tA i) j (nI x)) c := fun c hc => Sm.sI hc
  have hS2 : ∀ c, Pt M0 M ta l v c → Sm M (sI M (tA i) j (nI x)) c := fun c hc => hS c (fun e => hc.2.2.2.2.2 (by rw [e]; exact b2.2.2.2.2.2.1))
  have st := hS ta (Ne.symm (n4 i hi).1)
  have sl := hS l (Ne.symm (n4 i hi).2.1)
  have sv := hS v (Ne.symm (n4 i hi).2.2)
  refine ⟨⟨h1, by rw [st.2.2.1]; exact h2, by rw [st.2.2.1]; exact h3, by rw [st.2.2.1]; exact h4, h5⟩, h6.fr sl sv, ⟨a1, a2, a3⟩, h8, ⟨p1, p2, p3⟩, h10, fun i z q => h11 i z q, fun k hk => ?_, h13, fun k hk r => ?_, h15.fr hS2 (fun c hc => hc) rfl⟩
  · obtain ⟨a, k1, k2, k3, k4, k5⟩ := h12 k hk
    refine ⟨a, k1, ?_, k3, k4, k5⟩
    by_cases e : k = i
    · subst e
      obtain ⟨w1, w2, w3, ⟨w4, w5, w6⟩, w7, w8, w9, w10⟩ := k2
      have sa := hS2 a w1
      obtain ⟨z, w11, w12⟩ := w3
      refine ⟨w1, w2, ⟨z, w11, w12.fr hS2 (fun _ q => q)⟩, ⟨by rw [sa.2.2.1]; exact w4, by rw [sa.2.2.1]; exact w5, by rw [sa.2.2.1]; exact w6⟩, w7, w8, w9, fun r hr => ?_⟩
      show mI (sI M (tA k) j (nI x)) (tA k) r = nI (if k = k ∧ r = j then x else oT T k r)
      by_cases e2 : r = j
      · rw [if_pos ⟨rfl, e2⟩, e2, mI_sIs]
      · rw [if_neg (fun q => e2 q.2), mI_sIj e2]; exact w10 r hr
    · have ne : tA k ≠ tA i := fun q => e (h13 k i hk hi q)
      have e3 : oT (pT T i j x) k = oT T k := funext fun r => by show (if k = i ∧ r = j then x else oT T k r) = _; rw [if_neg (fun q => e q.1)]
      rw [e3]
      exact k2.fr hS2 (fun _ q => q) (hS (tA k) ne)
  · show (if k = i ∧ r = j then x else oT T k r) = 5
    have hk : (oS T).length ≤ k := hk
    rw [if_neg (fun q => by omega)]
    exact h14 k hk r
/-- one soul more -/
theorem TLD.add {so t zb : Nat} {e : So} (hT : TLD g M0 M o ta l v tA T m) (hA : LAD M l v (oS T).length so M2) (hgz : gb g ≤ mZ M0) (hzb : ta < zb ∧ l < zb ∧ v < zb ∧ ∀ i, i < (oS T).length → tA i < zb) (h0 : mZ M0 ≤ zb) (hso : SOL M (fun c => zb ≤ c ∧ c < mZ M ∧ mK M c ≠ 1) so t e (fun _ => 5)) (htz : zb ≤ t ∧ t < mZ M) (hca : NW g (.castable (clT 7).1 "java/lang/Object")) :
    ∃ v', TLD g M0 M2 o ta l v' (fun i => if i = (oS T).length then t else tA i) (pS T e) m ∧ FM (fun q => mZ M0 ≤ q) M M2 := by
  obtain ⟨n1, n2, n3, n4⟩ := hT.ne
  obtain ⟨⟨h1, h2, h3, h4, h5⟩, h6, ⟨a1, a2, a3⟩, ⟨g1, g2, g3⟩, ⟨p1, p2, p3⟩, h10, h11, h12, h13, h14, h15⟩ := hT
  obtain ⟨v', c1, c2, c3, c4, c5, c6, c7, c8, c9⟩ := hA
  obtain ⟨z1, z2, z3, z4⟩ := hzb
  have hz := c6.1
  have hS : ∀ q, q < mZ M → q ≠ l → q ≠ v → Sm M M2 q := fun q hq e1 e2 => c6.2 q hq (fun e => by omega)
  have st := hS ta a1 n1 n2
  have hkl : mK M2 l = mK M l := c1.1.trans h6.1.symm
  have hk2 : ∀ q, q < mZ M → q ≠ v → mK M2 q = mK M q := fun q hq e => by
    by_cases e1 : q = l
    · rw [e1]; exact hkl
    · exact (hS q hq e1 e).1
  have hP : ∀ c, Pt M0 M ta l v c → Pt M0 M2 ta l v' c := fun c hc => by
    obtain ⟨q1, q2, q3, q4, q5, q6⟩ := hc
    exact ⟨q1, by omega, q3, q4, by omega, by rw [hk2 c q2 q5]; exact q6⟩
  have hS2 : ∀ c, Pt M0 M ta l v c → Sm M M2 c := fun c hc => hS c hc.2.1 hc.2.2.2.1 hc.2.2.2.2.1
  have hP3 : ∀ c, (zb ≤ c ∧ c < mZ M ∧ mK M c ≠ 1) → Pt M0 M2 ta l v' c := fun c hc => by
    obtain ⟨q1, q2, q3⟩ := hc
    exact ⟨by omega, by omega, by omega, by omega, by omega, by rw [hk2 c q2 (by omega)]; exact q3⟩
  have eL : (oS (pS T e)).length = (oS T).length + 1 := by show (oS T ++ [e]).length = _; rw [List.length_append]; rfl
  have eA : ∀ i, i < (oS T).length → sAt (pS T e) i = sAt T i := fun i hi => by
    show (oS T ++ [e]).getD i ([], 0, 0, 0) = (oS T).getD i ([], 0, 0, 0)
    rw [List.getD_eq_getElem?_getD, List.getD_eq_getElem?_getD, List.getElem?_append_left hi]
  have eB : sAt (pS T e) (oS T).length = e := by
    show (oS T ++ [e]).getD (oS T).length ([], 0, 0, 0) = e
    rw [List.getD_eq_getElem?_getD, List.getElem?_append_right (Nat.le_refl _), Nat.sub_self]; rfl
  have eF1 : (fun i => if i = (oS T).length then t else tA i) (oS T).length = t := if_pos rfl
  have eF2 : ∀ i, ¬ i = (oS T).length → (fun i => if i = (oS T).length then t else tA i) i = tA i := fun i hi => if_neg hi
  have ob : ∀ z, OB g M z → OB g M2 z := fun z hz' => by
    obtain ⟨q1, cj, q2, q3⟩ := hz'
    by_cases e2 : z = v
    · subst e2; rw [h6.2.2.2.1] at q2; omega
    exact ⟨by omega, cj, (hk2 z q1 e2).trans q2, q3⟩
  refine ⟨v', ⟨⟨st.1.trans h1, by rw [st.2.2.1]; exact h2, by rw [st.2.2.1]; exact h3, by rw [st.2.2.1]; exact h4, by rw [st.2.2.2.2]; exact h5⟩, by rw [eL]; exact c1, ⟨by omega, by omega, c9⟩, ⟨g1, g2, by omega⟩, ⟨p1, p2, by omega⟩, ?_, fun i z q => ?_, fun i hi => ?_, fun i j hi hj hij => ?_, fun i hi j => ?_, ?_⟩, ⟨hz, fun q hq hn => hS q hq (by omega) (by omega)⟩⟩
  · have := c1.2.2.2.2.1; omega
  · by_cases e1 : i = (oS T).length
    · subst e1
      rw [c3] at q
      cases q
      exact ob so ⟨hso.1.2.1, 7, hso.2.1, hca⟩
    · by_cases e2 : i < (oS T).length
      · rw [c2 i e2] at q
        exact ob z (h11 i z q)
      · rcases c4 i (by omega) with q' | q'
        · rw [q'] at q
          exact ob z (h11 i z q)
        · rw [q'] at q; cases q
  · rw [eL] at hi
    by_cases e1 : i = (oS T).length
    · subst e1
      refine ⟨so, c3, ?_, ?_⟩
      · rw [eB, eF1]
        have e5 : oT (pS T e) (oS T).length = fun _ => 5 := funext fun j => h14 _ (Nat.le_refl _) j
        rw [e5]
        exact hso.fr (fun c hc => hS c hc.2.1 (by omega) (by omega)) hP3 (hS t htz.2 (by omega) (by omega))
      · rw [eF1]; omega
    · have hi2 : i < (oS T).length := by omega
      obtain ⟨a, k1, k2, k3, k4, k5⟩ := h12 i hi2
      obtain ⟨-, j2, j3⟩ := n4 i hi2
      refine ⟨a, (c2 i hi2).trans k1, ?_, ?_⟩
      · rw [eA i hi2, eF2 i e1]
        exact k2.fr hS2 hP (hS (tA i) k4 j2 j3)
      · rw [eF2 i e1]; omega
  · rw [eL] at hi hj
    have hij : (if i = (oS T).length then t else tA i) = (if j = (oS T).length then t else tA j) := hij
    by_cases e1 : i = (oS T).length
    · by_cases e2 : j = (oS T).length
      · omega
      · rw [if_pos e1, if_neg e2] at hij
        have := z4 j (by omega); omega
    · by_cases e2 : j = (oS T).length
      · rw [if_neg e1, if_pos e2] at hij
        have := z4 i (by omega); omega
      · rw [if_neg e1, if_neg e2] at hij
        exact h13 i j (by omega) (by omega) hij
  · rw [eL] at hi
    exact h14 i (by omega) j
  · have h16 := h15.fr hS2 hP st.2.2.2.2
    exact h16
end Tld
/-! trees hold no int[] -/
section Kd
variable {M : MM} {o : Nat} {P : Nat → Prop}
theorem VAL.nk : ∀ D a cs, VAL M o P D a cs → VAL M o (fun c => P c ∧ mK M c ≠ 1) D a cs
  | 0, _, _, h => h
  | D + 1, a, cs, h => by
    rcases h with ⟨p, h1, v, h2, h3, h4⟩ | ⟨p, h1, k, h2, h3, h4⟩ | ⟨p, h1, h2, k, x, ds, h3, h4, h5, h6, h7⟩ | ⟨p, h1, most, x, z, ds, es, h2, h3, h4, h5, h6, h7⟩ | ⟨l, v, b, w, n, f, op, h1, h2, h3, h4⟩
    · exact Or.inl ⟨⟨p, by omega⟩, h1, v, h2, h3, h4⟩
    · exact Or.inr (Or.inl ⟨⟨p, by omega⟩, h1, k, h2, h3, h4⟩)
    · exact Or.inr (Or.inr (Or.inl ⟨⟨p, by omega⟩, h1, h2, k, x, ds, h3, h4, h5, VAL.nk D x ds h6, h7⟩))
    · exact Or.inr (Or.inr (Or.inr (Or.inl ⟨⟨p, by omega⟩, h1, most, x, z, ds, es, h2, h3, h4, VAL.nk D x ds h5, VAL.nk D z es h6, h7⟩)))
    · obtain ⟨⟨p1, p2, p3, p4, p5⟩, q1, q2, q3, q4, q5, q6⟩ := h1
      refine Or.inr (Or.inr (Or.inr (Or.inr ⟨l, v, b, w, n, f, op, ⟨⟨⟨p1, by omega⟩, ⟨p2, by rw [q4.1]; decide⟩, ⟨p3, by rw [q4.2.2.2.1]; decide⟩, ⟨p4, by rw [q5.1]; decide⟩, ⟨p5, by rw [q5.2.2.2.2.1]; decide⟩⟩, q1, q2, q3, q4, q5, q6⟩, h2, fun i hi => ?_, h4⟩)))
      obtain ⟨e, z1, z2⟩ := h3 i hi
      exact ⟨e, z1, VAL.nk D e (f i) z2⟩
theorem TST.nk : ∀ D a cs, TST M o P D a cs → TST M o (fun c => P c ∧ mK M c ≠ 1) D a cs
  | 0, _, _, h => h
  | D + 1, a, cs, h => by
    rcases h with ⟨p, h1, h2⟩ | ⟨p, h1, x, ds, h2, h3, h4⟩ | ⟨p, h1, op, x, z, ds, es, h2, h3, h4, h5, h6, h7, h8⟩ | ⟨l, v, n, f, all, h1, h2, h3, h4⟩
    · exact Or.inl ⟨⟨p, by omega⟩, h1, h2⟩
    · exact Or.inr (Or.inl ⟨⟨p, by omega⟩, h1, x, ds, h2, TST.nk D x ds h3, h4⟩)
    · exact Or.inr (Or.inr (Or.inl ⟨⟨p, by omega⟩, h1, op, x, z, ds, es, h2, h3, h4, h5, VAL.nk D x ds h6, VAL.nk D z es h7, h8⟩))
    · obtain ⟨⟨p1, p2, p3⟩, q1, q2, q3, q4⟩ := h1
      refine Or.inr (Or.inr (Or.inr ⟨l, v, n, f, all, ⟨⟨⟨p1, by omega⟩, ⟨p2, by rw [q4.1]; decide⟩, ⟨p3, by rw [q4.2.2.2.1]; decide⟩⟩, q1, q2, q3, q4⟩, h2, fun i hi => ?_, h4⟩))
      obtain ⟨e, z1, z2⟩ := h3 i hi
      exact ⟨e, z1, TST.nk D e (f i) z2⟩
theorem STR.nk {z : Nat} {w : List Nat} (h : STR M P z w) : STR M (fun c => P c ∧ mK M c ≠ 1) z w := by
  obtain ⟨h1, h2, h3, v, h4, h5, h6, h7⟩ := h
  exact ⟨⟨h1, by omega⟩, h2, h3, v, h4, ⟨h5, by omega⟩, h6, h7⟩
end Kd
