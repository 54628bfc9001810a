set_option maxRecDepth 100000
/-! THE WHOLE OBJECT, read back out of the memory behind the reader -/
def getX (M : MM) (o : Nat) : XS := ((fun c j => mI M (o + c) j), (fun c j => mL M (o + c) j), (fun c j => mR M (o + c) j))
/-- an object has no length -/
def nrm (M : MM) (o : Nat) : MM := (mZ M, mK M, (fun a => if a = o + 5 ∨ a = o + 6 then 0 else mN M a), mI M, mL M, mR M)
theorem putX_get (M : MM) (o : Nat) : putX M o (getX M o) = M := by
  refine Prod.ext rfl (Prod.ext rfl (Prod.ext rfl (Prod.ext ?_ (Prod.ext ?_ ?_))))
  · funext a j
    show (if a = o ∨ (o + 4 ≤ a ∧ a < o + 1517) then mI M (o + (a - o)) j else mI M a j) = mI M a j
    split
    · rw [show o + (a - o) = a by omega]
    · rfl
  · funext a j
    show (if a = o ∨ (o + 4 ≤ a ∧ a < o + 1517) then mL M (o + (a - o)) j else mL M a j) = mL M a j
    split
    · rw [show o + (a - o) = a by omega]
    · rfl
  · funext a j
    show (if a = o ∨ (o + 4 ≤ a ∧ a < o + 1517) then mR M (o + (a - o)) j else mR M a j) = mR M a j
    split
    · rw [show o + (a - o) = a by omega]
    · rfl
theorem nrm_n {M : MM} {o a : Nat} (h5 : a ≠ o + 5) (h6 : a ≠ o + 6) : mN (nrm M o) a = mN M a := if_neg (fun q => by omega)
theorem nrm_5 {M : MM} {o : Nat} : mN (nrm M o) (o + 5) = 0 := if_pos (Or.inl rfl)
theorem nrm_6 {M : MM} {o : Nat} : mN (nrm M o) (o + 6) = 0 := if_pos (Or.inr rfl)
theorem Hd.nrmz {g : GC} {M : MM} {o : Nat} {H : Heap} (h5 : mK M (o + 5) = 22) (h6 : mK M (o + 6) = 23) (h : Hd g M H) : Hd g (nrm M o) H := by
  refine ⟨h.1, fun a => ⟨fun h1 h2 => ?_, fun ci hc => (h.2 a).2 ci hc⟩⟩
  have h1 : 1 ≤ mK M a := h1
  have h2 : mK M a ≤ 9 := h2
  have e : mN (nrm M o) a = mN M a := nrm_n (by intro q; subst q; omega) (by intro q; subst q; omega)
  have := (h.2 a).1 h1 h2
  rw [← e] at this
  exact this
section Sub
variable {g : GC} {y : MethodName} {cc : ByteArray} {nL : Nat} {rt : Option FieldType} {hh : List (Nat × Nat × Nat × Nat)} {d kc ks : Nat} {M M2 : MM} {pc : Nat} {lv : List (Option Value)} {st : List Value} {Q : Option Value → MM → Prop} {X : Nat → MM → Prop}
theorem Bd.sub (h : ∀ H, Hd g M H → Hd g M2 H) (k : Bd g y cc nL rt hh d kc ks M2 pc lv st Q X) : Bd g y cc nL rt hh d kc ks M pc lv st Q X := fun p e s m args below meth c H locs cells slots mc ms ls hC hH hL h1 h2 => k p e s m args below meth c H locs cells slots mc ms ls hC ⟨h H hH.1, hH.2⟩ hL h1 h2
end Sub
/-- outside o's own cells nothing has changed -/
def FO (o : Nat) (M M2 : MM) : Prop := mZ M ≤ mZ M2 ∧ ∀ c, c < mZ M → ¬ owA o c → Sm M M2 c
section Rd
variable {g : GC} {M M' : MM} {o n ta : Nat} {f : Nat → Nat} {P : Nat → Prop} {s : XS} {q : Sg}
theorem ow_in {c : Nat} (h : ow c) : owA o (o + c) := by unfold ow at h; unfold owA; omega
/-- what the reader leaves, read back -/
theorem rd_back (hS : ShX g M o) (hX : FxX (rX s) o) (hF : FM (fun c => c = o + 5 ∨ c = o + 6) (putX M o s) M') (hR : RDF g M' o n f) : ShX g (nrm M' o) o ∧ FxX (rX (getX M' o)) o ∧ (∀ c, ow c → c ≠ 5 → c ≠ 6 → iX (getX M' o) c = iX s c ∧ lX (getX M' o) c = lX s c ∧ rX (getX M' o) c = rX s c) ∧ FO o M (nrm M' o) ∧ (∀ H, Hd g M' H → Hd g (putX (nrm M' o) o (getX M' o)) H) := by
  obtain ⟨h1, h2, h3⟩ := hS
  have hz : mZ M ≤ mZ M' := hF.1
  have k5 := hR.2.2.2.2.2.2.2.1.1
  have k6 := hR.2.2.2.2.2.2.2.2.1
  have key : ∀ c, ow c → c ≠ 5 → c ≠ 6 → Sm (putX M o s) M' (o + c) := fun c hc e5 e6 => hF.2 (o + c) (by show o + c < mZ M; unfold ow at hc; omega) (fun e => by omega)
  have keq : ∀ c, ow c → c ≠ 5 → c ≠ 6 → iX (getX M' o) c = iX s c ∧ lX (getX M' o) c = lX s c ∧ rX (getX M' o) c = rX s c := fun c hc e5 e6 => by
    obtain ⟨-, -, q3, q4, q5⟩ := key c hc e5 e6
    refine ⟨funext fun j => ?_, funext fun j => ?_, funext fun j => ?_⟩
    · show mI M' (o + c) j = _; rw [q3, mI_putX hc]
    · show mL M' (o + c) j = _; rw [q4, mL_putX hc]
    · show mR M' (o + c) j = _; rw [q5, mR_putX hc]
  refine ⟨⟨h1, by show o + 1517 ≤ mZ M'; omega, fun c hc => ?_⟩, ?_, keq, ⟨hz, fun c hc hn => ?_⟩, fun H hH => ?_⟩
  · by_cases e5 : c = 5
    · subst e5; exact ⟨k5, nrm_5⟩
    by_cases e6 : c = 6
    · subst e6; exact ⟨k6, nrm_6⟩
    obtain ⟨q1, q2, -⟩ := key c hc e5 e6
    exact ⟨q1.trans (h3 c hc).1, (nrm_n (by omega) (by omega)).trans (q2.trans (h3 c hc).2)⟩
  · refine hX.of (fun c j hc => ?_)
    by_cases e5 : c = 5
    · subst e5
      have hj : j = 0 ∨ j = 7 := by
        rcases hc with h | h | h | h | h | h | ⟨b, hb, h⟩
        · omega
        · exact h.2
        · omega
        · omega
        · omega
        · omega
        · have := isS_c hb; omega
      rcases hj with rfl | rfl
      · exact (hR.2.2.2.2.2.2.2.1.2.1).trans (fx_5_0 hX).symm
      · exact (hR.2.2.2.2.2.2.2.1.2.2.1).trans (fx_5_7 hX).symm
    · have hne : c ≠ 6 ∧ ow c := by
        rcases hc with h | h | h | h | h | h | ⟨b, hb, h⟩
        · unfold ow; omega
        · omega
        · unfold ow; omega
        · unfold ow; omega
        · unfold ow; omega
        · unfold ow; omega
        · have := isS_c hb; unfold ow; omega
      rw [(keq c hne.2 e5 hne.1).2.2]
  · have hn5 : c ≠ o + 5 := fun e => hn (by rw [e]; exact ow_in ow_5)
    have hn6 : c ≠ o + 6 := fun e => hn (by rw [e]; exact ow_in (by unfold ow; omega))
    obtain ⟨q1, q2, q3, q4, q5⟩ := hF.2 c hc (fun e => by omega)
    obtain ⟨p1, p2, p3, p4, p5⟩ := Sm.put (s := s) (M := M) hn
    exact ⟨q1.trans p1, (nrm_n hn5 hn6).trans (q2.trans p2), q3.trans p3, q4.trans p4, q5.trans p5⟩
  · have e : putX (nrm M' o) o (getX M' o) = nrm M' o := putX_get (nrm M' o) o
    rw [e]
    exact Hd.nrmz k5 k6 hH
/-- what the reader asks for, of the whole object -/
theorem rd_in (hI : IX g M o P ta s q) (hG : GI q) (hn : gTd q ≤ 1280) (hNM : ∃ mi, NM g "[Ljava/lang/Object;" mi) (hT : TXT g M) (hW : WST g M) {s' : XS} (hr : rX s' = rX s) (h4 : iX s' 4 = iX s 4) : RW g (sI (putX M o s') (o + 5) 1 (nI (gTd q))) o (gTd q) (gTp q) := by
  obtain ⟨w1, w2, ⟨a1, a1b, a1c⟩, -⟩ := hI
  have hS := w1.S
  have hX : FxX (rX s') o := by rw [hr]; exact w1.X
  have hgb := hS.1
  have hoz := hS.2.1
  have i4 : ∀ j, mI (sI (putX M o s') (o + 5) 1 (nI (gTd q))) (o + 4) j = iX s 4 j := fun j => by rw [mI_sIa (by omega), mI_putX (by unfold ow; omega), h4]
  have hS4 : ∀ c, c < gb g → Sm M (sI (putX M o s') (o + 5) 1 (nI (gTd q))) c := fun c hc => (Sm.put (by unfold owA; omega)).trans (Sm.sI (by omega))
  refine ⟨⟨w1.gx, hgb, ⟨hS.k (s := s') ow_0 kd_0, (mR_putX ow_0).trans (fx_0_1 hX)⟩, ⟨hS.k (s := s') ow_4 kd_4, (hS.2.2 4 ow_4).2.trans ln_4⟩, by omega, fun j hj => by rw [i4]; exact a1b j hj, ⟨hG.2.1, fun j hj => by rw [i4]; exact a1c j hj⟩, ⟨hS.k (s := s') ow_5 kd_5, (mR_putX ow_5).trans (fx_5_0 hX), (mR_putX ow_5).trans (fx_5_7 hX), mI_sIs _ _ _ _⟩, hS.k (s := s') (c := 6) (by unfold ow; omega) rfl, by show o + 6 < mZ M; omega⟩, hn, ⟨w1.O, w1.cs, hNM⟩, hT.fr hS4, hW.fr hS4⟩
end Rd
