set_option maxRecDepth 100000
/-! THE OTHER SIDE: the whole object against the whole state -/
/-- a text at z: its bytes -/
def STR (M : MM) (P : Nat → Prop) (z : Nat) (w : List Nat) : Prop := P z ∧ mK M z = 42 ∧ mI M z 1 = nI 0 ∧ ∃ v, mR M z 0 = some v ∧ P v ∧ mK M v = 3 ∧ mN M v = w.length ∧ (∀ j, j < w.length → mI M v j = nI (w.getD j 0)) ∧ (∀ j, j < w.length → w.getD j 0 < 128) ∧ w.length < 100000
theorem STR.fr {M M' : MM} {P P' : Nat → Prop} {z : Nat} {w : List Nat} (h : STR M P z w) (hS : ∀ c, P c → Sm M M' c) (hP : ∀ c, P c → P' c) : STR M' P' z w := by
  obtain ⟨h1, h2, h3, v, h4, h5, h6, h7, h8, h9⟩ := h
  exact ⟨hP _ h1, (hS z h1).1.trans h2, by rw [(hS z h1).2.2.1]; exact h3, v, by rw [(hS z h1).2.2.2.2]; exact h4, hP _ h5, (hS v h5).1.trans h6, (hS v h5).2.1.trans h7, by rw [(hS v h5).2.2.1]; exact h8, h9⟩
/-- a soul's name -/
def NmX (M : MM) (P : Nat → Prop) (a : Nat) (w : List Nat) : Prop := P a ∧ mK M a = 27 ∧ (∀ j, j < w.length → 1 ≤ w.getD j 0 ∧ w.getD j 0 ≤ 26) ∧ ∃ z, mR M a 0 = some z ∧ STR M P z (w.map (fun c => c + 96))
theorem NmX.fr {M M' : MM} {P P' : Nat → Prop} {a : Nat} {w : List Nat} (h : NmX M P a w) (hS : ∀ c, P c → Sm M M' c) (hP : ∀ c, P c → P' c) : NmX M' P' a w := by
  obtain ⟨h1, h2, h3, z, h4, h5⟩ := h
  exact ⟨hP _ h1, (hS a h1).1.trans h2, h3, z, by rw [(hS a h1).2.2.2.2]; exact h4, h5.fr hS hP⟩
/-- the terrace's slip and souls -/
def SoX (M : MM) (P : Nat → Prop) (ta : Nat) (T : Te) : Prop := mI M ta 2 = nI (sl T) ∧ ∃ l v, mR M ta 3 = some l ∧ P l ∧ P v ∧ LsX M l v (tn T) ∧ ∀ p, p < tn T → ∃ a, mR M v p = some a ∧ NmX M P a (nms T p)
theorem SoX.fr {M M' : MM} {P P' : Nat → Prop} {ta : Nat} {T : Te} (h : SoX M P ta T) (ht : P ta) (hS : ∀ c, P c → Sm M M' c) (hP : ∀ c, P c → P' c) : SoX M' P' ta T := by
  obtain ⟨h1, l, v, h2, h3, h4, h5, h6⟩ := h
  refine ⟨by rw [(hS ta ht).2.2.1]; exact h1, l, v, by rw [(hS ta ht).2.2.2.2]; exact h2, hP _ h3, hP _ h4, h5.fr (hS l h3) (hS v h4), fun p hp => ?_⟩
  obtain ⟨a, q1, q2⟩ := h6 p hp
  exact ⟨a, by rw [(hS v h4).2.2.2.2]; exact q1, q2.fr hS hP⟩
/-! its parts -/
/-- a value that a byte may have -/
def bR (x : Int32) : Prop := x.toInt8.toInt32 = x
def cTp (s : XS) (q : Sg) : Prop := iX s 0 2 = nI (gTd q) ∧ (∀ j, j < 1600 → iX s 4 j &&& nI 255 = nI (gTp q j)) ∧ ∀ j, j < 1600 → bR (iX s 4 j)
def cFt (s : XS) (q : Sg) : Prop := iX s 0 3 = nI (gFt q).1 ∧ iX s 0 4 = oI (gFt q).2
def cRf (s : XS) (q : Sg) : Prop := ∀ i, i < 6 → iX s 11 i = nI (gRf q i)
def cNw (s : XS) (o : Nat) (q : Sg) : Prop := SX s 12 (tn (gT q)) (fa (gT q)) (ki (gT q)) (gS q) ∧ RX s o 12 (gK q)
def cUn (s : XS) (o : Nat) (q : Sg) : Prop := iX s 0 18 = nI (gUn q).length ∧ ∃ pk, pkX (rX s) o pk ∧ ∀ i x, (gUn q)[i]? = some x → SX s (396 + 56 * pk ((gUn q).length - 1 - i)) (tn (gT q)) (fa (gT q)) (ki (gT q)) x.1 ∧ RX s o (396 + 56 * pk ((gUn q).length - 1 - i)) x.2
def cPm (s : XS) (o : Nat) : Prop := ∀ b, isS b → ∃ pm, pmX (rX s) o b pm
def cRw (s : XS) (q : Sg) : Prop := iX s 0 15 = nI (gRw q).length ∧ ∀ i a b c, (gRw q)[i]? = some (a, b, c) → iX s 381 i = nI a ∧ iX s 382 i = nI b ∧ iX s 383 i = nI c
def cSd (s : XS) (q : Sg) : Prop := lX s 0 19 = lI (gSd q)
def cOu (s : XS) (q : Sg) : Prop := iX s 0 22 = nI (gOu q).length ∧ ∀ i, i < (gOu q).length → iX s 1516 i &&& nI 255 = nI ((gOu q).getD i 0)
def IX (g : GC) (M : MM) (o : Nat) (P : Nat → Prop) (ta : Nat) (s : XS) (q : Sg) : Prop := WS g M o P ta (gT q) s ∧ SoX M P ta (gT q) ∧ cTp s q ∧ cFt s q ∧ cRf s q ∧ cNw s o q ∧ cUn s o q ∧ cPm s o ∧ cRw s q ∧ cSd s q ∧ cOu s q ∧ MmX s 10
/-- the same ints where R says -/
def Ag (R : Nat → Nat → Prop) (s s' : XS) : Prop := ∀ c j, R c j → iX s' c j = iX s c j
theorem Ag.uI {R : Nat → Nat → Prop} {s : XS} {c j : Nat} {v : Int32} (h : ¬ R c j) : Ag R s (uI s c j v) := fun a b hR => by rw [iX_uI, if_neg (fun q => h (by rw [← q.1, ← q.2]; exact hR))]
theorem Ag.trans {R : Nat → Nat → Prop} {s s1 s2 : XS} (h : Ag R s s1) (h' : Ag R s1 s2) : Ag R s s2 := fun c j hR => (h' c j hR).trans (h c j hR)
theorem Ag.of {R : Nat → Nat → Prop} {P : Nat → Prop} {s s' : XS} (h : FrX P s s') (hR : ∀ c j, R c j → ¬ P c) : Ag R s s' := fun c j q => by rw [h.1 c (hR c j q)]
def rTp (c j : Nat) : Prop := (c = 0 ∧ j = 2) ∨ c = 4
def rFt (c j : Nat) : Prop := c = 0 ∧ (j = 3 ∨ j = 4)
def rRf (c _j : Nat) : Prop := c = 11
def rNw (c _j : Nat) : Prop := 12 ≤ c ∧ c < 68
def rUn (c j : Nat) : Prop := (c = 0 ∧ j = 18) ∨ (396 ≤ c ∧ c < 1516)
def rRw (c j : Nat) : Prop := (c = 0 ∧ j = 15) ∨ (381 ≤ c ∧ c ≤ 383)
def rOu (c j : Nat) : Prop := (c = 0 ∧ j = 22) ∨ c = 1516
section Cmp
variable {s s' : XS} {q : Sg} {o : Nat}
theorem cTp.fr (h : cTp s q) (a : Ag rTp s s') : cTp s' q := ⟨(a 0 2 (Or.inl ⟨rfl, rfl⟩)).trans h.1, fun j hj => by rw [a 4 j (Or.inr rfl)]; exact h.2.1 j hj, fun j hj => by rw [a 4 j (Or.inr rfl)]; exact h.2.2 j hj⟩
theorem cFt.fr (h : cFt s q) (a : Ag rFt s s') : cFt s' q := ⟨(a 0 3 ⟨rfl, Or.inl rfl⟩).trans h.1, (a 0 4 ⟨rfl, Or.inr rfl⟩).trans h.2⟩
theorem cRf.fr (h : cRf s q) (a : Ag rRf s s') : cRf s' q := fun i hi => (a 11 i rfl).trans (h i hi)
theorem cNw.fr (h : cNw s o q) (hn : tn (gT q) ≤ 8) (a : Ag rNw s s') (hr : ∀ j, rX s' 27 j = rX s 27 j) : cNw s' o q := ⟨h.1.fr (fun c h1 h2 j _ => a c j ⟨h1, by omega⟩) hn, h.2.fr (fun c j hc => a c j (by unfold rNw; omega)) hr⟩
theorem cUn.fr (h : cUn s o q) (hn : tn (gT q) ≤ 8) (h20 : (gUn q).length ≤ 20) (a : Ag rUn s s') (hr : ∀ c j, 395 ≤ c → c < 1516 → rX s' c j = rX s c j) : cUn s' o q := by
  obtain ⟨h1, pk, ⟨k1, k2⟩, h2⟩ := h
  refine ⟨(a 0 18 (Or.inl ⟨rfl, rfl⟩)).trans h1, pk, ⟨fun j hj => ⟨(k1 j hj).1, (hr 395 j (by omega) (by omega)).trans (k1 j hj).2⟩, k2⟩, fun i x hx => ?_⟩
  have hl : i < (gUn q).length := (List.getElem?_eq_some_iff.mp hx).1
  have hp := (k1 ((gUn q).length - 1 - i) (by omega)).1
  obtain ⟨q1, q2⟩ := h2 i x hx
  exact ⟨q1.fr (fun c h1 h2 j _ => a c j (Or.inr ⟨by omega, by omega⟩)) hn, q2.fr (fun c j hc => a c j (Or.inr ⟨by omega, by omega⟩)) (fun j => hr _ j (by omega) (by omega))⟩
theorem cRw.fr (h : cRw s q) (a : Ag rRw s s') : cRw s' q := ⟨(a 0 15 (Or.inl ⟨rfl, rfl⟩)).trans h.1, fun i x y z hx => by
  rw [a 381 i (Or.inr ⟨by omega, by omega⟩), a 382 i (Or.inr ⟨by omega, by omega⟩), a 383 i (Or.inr ⟨by omega, by omega⟩)]
  exact h.2 i x y z hx⟩
theorem cOu.fr (h : cOu s q) (a : Ag rOu s s') : cOu s' q := ⟨(a 0 22 (Or.inl ⟨rfl, rfl⟩)).trans h.1, fun i hi => by rw [a 1516 i (Or.inr rfl)]; exact h.2 i hi⟩
theorem cPm.fr (h : cPm s o) (hr : rX s' = rX s) : cPm s' o := by unfold cPm; rw [hr]; exact h
end Cmp
/-- what is only tried out: the state tried, the moment, rows of portraits -/
def scP (c : Nat) : Prop := yP 68 c ∨ (125 ≤ c ∧ c < 381) ∨ (385 ≤ c ∧ c < 395)
section Scr
variable {g : GC} {M : MM} {o ta : Nat} {P : Nat → Prop} {s s' : XS} {q : Sg}
theorem scP_no {c : Nat} (h : scP c) : c = 8 ∨ (68 ≤ c ∧ c < 124) ∨ (125 ≤ c ∧ c < 381) ∨ (385 ≤ c ∧ c < 395) := by unfold scP yP stP at h; omega
theorem isS_c {b : Nat} (h : isS b) : b = 12 ∨ b = 68 ∨ (396 ≤ b ∧ b + 56 ≤ 1516) := by
  rcases h with h | h | ⟨k, h1, h2⟩ <;> omega
/-- what is tried out leaves the whole as it was -/
theorem IX.scr (h : IX g M o P ta s q) (hG : GI q) (hF : FrX scP s s') (hX : FxX (rX s') o) (hp : ∃ pm, pmX (rX s') o 68 pm) (hm : MmX s' 8) : IX g M o P ta s' q := by
  obtain ⟨w1, w2, a1, a2, a3, a4, a5, a6, a7, a8, a9, a10⟩ := h
  have hn : tn (gT q) ≤ 8 := w1.B.1
  have hr : ∀ c, ¬ scP c → rX s' c = rX s c := hF.2.2
  refine ⟨w1.to hX (by rw [hr 0 (fun z => by have := scP_no z; omega)]) hm, w2, a1.fr (Ag.of hF fun c j r z => ?_), a2.fr (Ag.of hF fun c j r z => ?_), a3.fr (Ag.of hF fun c j r z => ?_), a4.fr hn (Ag.of hF fun c j r z => ?_) (fun j => by rw [hr 27 (fun z => by have := scP_no z; omega)]), a5.fr hn ?_ (Ag.of hF fun c j r z => ?_) (fun c j h1 h2 => by rw [hr c (fun z => by have := scP_no z; omega)]), fun b hb => ?_, a7.fr (Ag.of hF fun c j r z => ?_), ?_, a9.fr (Ag.of hF fun c j r z => ?_), fun k hk => ?_⟩
  · have := scP_no z; unfold rTp at r; omega
  · have := scP_no z; unfold rFt at r; omega
  · have := scP_no z; unfold rRf at r; omega
  · have := scP_no z; unfold rNw at r; omega
  · exact hG.2.2.2.2.2.2.2.1
  · have := scP_no z; unfold rUn at r; omega
  · by_cases e : b = 68
    · subst e; exact hp
    · have := isS_c hb
      obtain ⟨pm, p1, p2⟩ := a6 b hb
      exact ⟨pm, fun j hj => ⟨(p1 j hj).1, by rw [hr (b + 15) (fun z => by have := scP_no z; omega)]; exact (p1 j hj).2⟩, p2⟩
  · have := scP_no z; unfold rRw at r; omega
  · unfold cSd; rw [hF.2.1 0 (fun z => by have := scP_no z; omega)]; exact a8
  · have := scP_no z; unfold rOu at r; omega
  · rw [hF.2.1 10 (fun z => by have := scP_no z; omega)]; exact a10 k hk
theorem IX.W (h : IX g M o P ta s q) : WS g M o P ta (gT q) s := h.1
theorem IX.So (h : IX g M o P ta s q) : SoX M P ta (gT q) := h.2.1
end Scr
/-- behind a public method: its answer, the whole as q -/
def QI (g : GC) (M : MM) (o : Nat) (P : Nat → Prop) (ta : Nat) (q : Sg) (v0 : Value) : Option Value → MM → Prop := QX M o (fun v s' => v = some v0 ∧ IX g M o P ta s' q)
section X19
variable {g : GC} {M : MM} {o ta : Nat} {P : Nat → Prop} {T : Te} {s : XS} {q : Sg} {t : St}
theorem ct_X0_is {v a b : Int32} : Ct g yX0_is cX0_is 3 (some Jvm.ClassFile.FieldType.boolean) 0 0 0 [.int v, .int a, .int b] M (PQ M (.int (zI (a.toInt ≤ v.toInt ∧ v.toInt ≤ b.toInt)))) noX := by
  refine Ct.of (by decide) (Nat.le_of_ble_eq_true rfl) rfl ?_
  refine r_ild0 (pc := 0) dX0_is_0 ?_
  refine r_ild1 (pc := 1) dX0_is_1 ?_
  refine r_icmp_lt (pc := 2) (tgt := 14) dX0_is_2 (by decide) (fun h2 => ?_) (fun h2 => ?_)
  · skip
    rw [Int32.lt_iff_toInt_lt] at h2
    refine r_iconst (v := nI 0) (pc := 14) dX0_is_14 (by decide) ?_
    refine r_zret (pc := 15) dX0_is_15 (by first | rfl | exact zI_nar | assumption) ?_
    exact ⟨by first | (rw [zI_t (by omega)]; rfl) | (rw [zI_f (by omega)]; rfl), rfl⟩
  · skip
    rw [Int32.lt_iff_toInt_lt] at h2
    refine r_ild0 (pc := 5) dX0_is_5 ?_
    refine r_ild2 (pc := 6) dX0_is_6 ?_
    refine r_icmp_gt (pc := 7) (tgt := 14) dX0_is_7 (by decide) (fun h7 => ?_) (fun h7 => ?_)
    · skip
      rw [Int32.lt_iff_toInt_lt] at h7
      refine r_iconst (v := nI 0) (pc := 14) dX0_is_14 (by decide) ?_
      refine r_zret (pc := 15) dX0_is_15 (by first | rfl | exact zI_nar | assumption) ?_
      exact ⟨by first | (rw [zI_t (by omega)]; rfl) | (rw [zI_f (by omega)]; rfl), rfl⟩
    · skip
      rw [Int32.lt_iff_toInt_lt] at h7
      refine r_iconst (v := nI 1) (pc := 10) dX0_is_10 (by decide) ?_
      refine r_goto (pc := 11) (tgt := 15) dX0_is_11 (by decide) ?_
      refine r_zret (pc := 15) dX0_is_15 (by first | rfl | exact zI_nar | assumption) ?_
      exact ⟨by first | (rw [zI_t (by omega)]; rfl) | (rw [zI_f (by omega)]; rfl), rfl⟩
theorem ct_X0_people (W : WS g M o P ta T s) (S : SoX M P ta T) : Ct g yX0_people cX0_people 1 (some Jvm.ClassFile.FieldType.int) 3 0 0 [.ref o] (putX M o s) (PQ (putX M o s) (.int (nI (tn T)))) noX := by
  have hg := W.gx
  have hS := W.S
  have hX := W.X
  obtain ⟨t0, t1, -⟩ := W.2.2.2.2.2.1
  have hP := W.2.2.2.1
  obtain ⟨-, l, v, k2, k3, k4, k5, -⟩ := S
  have hL : LsX (putX M o s) l v (tn T) := k5.fr (Sm.put (hP l k3)) (Sm.put (hP v k4))
  refine Ct.of (by decide) (Nat.le_of_ble_eq_true rfl) rfl ?_
  refine r_ald0 (pc := 0) dX0_people_0 ?_
  refine x_getR (c := 0) hS ow_0 kd_0 (pc := 1) dX0_people_1 fl_X0_31 W.ht ?_
  refine r_getRN (pc := 4) dX0_people_4 (fn_X0_149 hg) t1 ((mR_putXn (hP ta t0)).trans k2) ?_
  refine r_cF (pc := 7) dX0_people_7 (cf_X0_153 hg) hL.1 (ct_J2_size hL) rfl rfl (Nat.le_of_ble_eq_true rfl) (by first | decide | omega) ?_
  rintro _ _ ⟨rfl, rfl⟩
  refine r_iret (pc := 12) dX0_people_12 ?_
  exact ⟨rfl, rfl⟩
theorem ct_X0_isPerson {x : Int32} (W : WS g M o P ta T s) (S : SoX M P ta T) : Ct g yX0_isPerson cX0_isPerson 2 (some Jvm.ClassFile.FieldType.boolean) 4 0 0 [.ref o, .int x] (putX M o s) (PQ (putX M o s) (.int (zI (0 ≤ x.toInt ∧ x.toInt < (tn T : Int))))) noX := by
  have hg := W.gx
  have hS := W.S
  have hX := W.X
  have hn8 := W.B.1
  refine Ct.of (by decide) (Nat.le_of_ble_eq_true rfl) rfl ?_
  refine r_ild1 (pc := 0) dX0_isPerson_0 ?_
  refine r_if_lt (pc := 1) (tgt := 16) dX0_isPerson_1 (by decide) (fun h1 => ?_) (fun h1 => ?_)
  · skip
    rw [Int32.lt_iff_toInt_lt, Int32.toInt_zero] at h1
    refine r_iconst (v := nI 0) (pc := 16) dX0_isPerson_16 (by decide) ?_
    refine r_zret (pc := 17) dX0_isPerson_17 (by first | rfl | exact zI_nar | assumption) ?_
    exact ⟨by first | (rw [zI_t (by omega)]; rfl) | (rw [zI_f (by omega)]; rfl), rfl⟩
  · skip
    rw [Int32.lt_iff_toInt_lt, Int32.toInt_zero] at h1
    refine r_ild1 (pc := 4) dX0_isPerson_4 ?_
    refine r_ald0 (pc := 5) dX0_isPerson_5 ?_
    refine r_cV (pc := 6) dX0_isPerson_6 cv_X0_158 (hS.k (c := 0) ow_0 kd_0) (ct_X0_people W S) rfl rfl (Nat.le_of_ble_eq_true rfl) (by first | decide | omega) ?_
    rintro _ _ ⟨rfl, rfl⟩
    refine r_icmp_ge (pc := 9) (tgt := 16) dX0_isPerson_9 (by decide) (fun h9 => ?_) (fun h9 => ?_)
    · skip
      rw [Int32.le_iff_toInt_le, nI_toInt (by omega)] at h9
      refine r_iconst (v := nI 0) (pc := 16) dX0_isPerson_16 (by decide) ?_
      refine r_zret (pc := 17) dX0_isPerson_17 (by first | rfl | exact zI_nar | assumption) ?_
      exact ⟨by first | (rw [zI_t (by omega)]; rfl) | (rw [zI_f (by omega)]; rfl), rfl⟩
    · skip
      rw [Int32.le_iff_toInt_le, nI_toInt (by omega)] at h9
      refine r_iconst (v := nI 1) (pc := 12) dX0_isPerson_12 (by decide) ?_
      refine r_goto (pc := 13) (tgt := 17) dX0_isPerson_13 (by decide) ?_
      refine r_zret (pc := 17) dX0_isPerson_17 (by first | rfl | exact zI_nar | assumption) ?_
      exact ⟨by first | (rw [zI_t (by omega)]; rfl) | (rw [zI_f (by omega)]; rfl), rfl⟩
theorem ct_X0_isHouse {x : Int32} (W : WS g M o P ta T s) : Ct g yX0_isHouse cX0_isHouse 2 (some Jvm.ClassFile.FieldType.boolean) 0 0 0 [.ref o, .int x] (putX M o s) (PQ (putX M o s) (.int (zI (0 ≤ x.toInt ∧ x.toInt < (tH T : Int))))) noX := by
  have hg := W.gx
  have hS := W.S
  have hX := W.X
  have hn8 := W.B.2.1
  obtain ⟨t0, t1, t2, -⟩ := W.2.2.2.2.2.1
  have hI : mI (putX M o s) ta 1 = nI (tH T) := (mI_putXn (W.2.2.2.1 ta t0)).trans t2
  refine Ct.of (by decide) (Nat.le_of_ble_eq_true rfl) rfl ?_
  refine r_ild1 (pc := 0) dX0_isHouse_0 ?_
  refine r_if_lt (pc := 1) (tgt := 19) dX0_isHouse_1 (by decide) (fun h1 => ?_) (fun h1 => ?_)
  · skip
    rw [Int32.lt_iff_toInt_lt, Int32.toInt_zero] at h1
    refine r_iconst (v := nI 0) (pc := 19) dX0_isHouse_19 (by decide) ?_
    refine r_zret (pc := 20) dX0_isHouse_20 (by first | rfl | exact zI_nar | assumption) ?_
    exact ⟨by first | (rw [zI_t (by omega)]; rfl) | (rw [zI_f (by omega)]; rfl), rfl⟩
  · skip
    rw [Int32.lt_iff_toInt_lt, Int32.toInt_zero] at h1
    refine r_ild1 (pc := 4) dX0_isHouse_4 ?_
    refine r_ald0 (pc := 5) dX0_isHouse_5 ?_
    refine x_getR (c := 0) hS ow_0 kd_0 (pc := 6) dX0_isHouse_6 fl_X0_31 W.ht ?_
    refine r_getIN (pc := 9) dX0_isHouse_9 (fn_X0_146 hg) t1 ?_
    rw [hI]
    refine r_icmp_ge (pc := 12) (tgt := 19) dX0_isHouse_12 (by decide) (fun h12 => ?_) (fun h12 => ?_)
    · skip
      rw [Int32.le_iff_toInt_le, nI_toInt (by omega)] at h12
      refine r_iconst (v := nI 0) (pc := 19) dX0_isHouse_19 (by decide) ?_
      refine r_zret (pc := 20) dX0_isHouse_20 (by first | rfl | exact zI_nar | assumption) ?_
      exact ⟨by first | (rw [zI_t (by omega)]; rfl) | (rw [zI_f (by omega)]; rfl), rfl⟩
    · skip
      rw [Int32.le_iff_toInt_le, nI_toInt (by omega)] at h12
      refine r_iconst (v := nI 1) (pc := 15) dX0_isHouse_15 (by decide) ?_
      refine r_goto (pc := 16) (tgt := 20) dX0_isHouse_16 (by decide) ?_
      refine r_zret (pc := 20) dX0_isHouse_20 (by first | rfl | exact zI_nar | assumption) ?_
      exact ⟨by first | (rw [zI_t (by omega)]; rfl) | (rw [zI_f (by omega)]; rfl), rfl⟩
theorem ct_X0_isTerrace (W : WS g M o P ta T s) : Ct g yX0_isTerrace cX0_isTerrace 1 (some Jvm.ClassFile.FieldType.boolean) 0 0 0 [.ref o] (putX M o s) (PQ (putX M o s) (.int (zI (0 < tH T)))) noX := by
  have hg := W.gx
  have hS := W.S
  have hX := W.X
  have hn8 := W.B.2.1
  obtain ⟨t0, t1, t2, -⟩ := W.2.2.2.2.2.1
  have hI : mI (putX M o s) ta 1 = nI (tH T) := (mI_putXn (W.2.2.2.1 ta t0)).trans t2
  refine Ct.of (by decide) (Nat.le_of_ble_eq_true rfl) rfl ?_
  refine r_ald0 (pc := 0) dX0_isTerrace_0 ?_
  refine x_getR (c := 0) hS ow_0 kd_0 (pc := 1) dX0_isTerrace_1 fl_X0_31 W.ht ?_
  refine r_getIN (pc := 4) dX0_isTerrace_4 (fn_X0_146 hg) t1 ?_
  rw [hI]
  refine r_if_leN (pc := 7) (tgt := 14) dX0_isTerrace_7 (by decide) (by omega) (fun h7 => ?_) (fun h7 => ?_)
  · skip
    refine r_iconst (v := nI 0) (pc := 14) dX0_isTerrace_14 (by decide) ?_
    refine r_zret (pc := 15) dX0_isTerrace_15 (by first | rfl | exact zI_nar | assumption) ?_
    exact ⟨by first | (rw [zI_t (by omega)]; rfl) | (rw [zI_f (by omega)]; rfl), rfl⟩
  · skip
    refine r_iconst (v := nI 1) (pc := 10) dX0_isTerrace_10 (by decide) ?_
    refine r_goto (pc := 11) (tgt := 15) dX0_isTerrace_11 (by decide) ?_
    refine r_zret (pc := 15) dX0_isTerrace_15 (by first | rfl | exact zI_nar | assumption) ?_
    exact ⟨by first | (rw [zI_t (by omega)]; rfl) | (rw [zI_f (by omega)]; rfl), rfl⟩
theorem ct_X0_areTwo {x y : Int32} (W : WS g M o P ta T s) (S : SoX M P ta T) : Ct g yX0_areTwo cX0_areTwo 3 (some Jvm.ClassFile.FieldType.boolean) 5 0 0 [.ref o, .int x, .int y] (putX M o s) (PQ (putX M o s) (.int (zI ((0 ≤ x.toInt ∧ x.toInt < (tn T : Int)) ∧ (0 ≤ y.toInt ∧ y.toInt < (tn T : Int)) ∧ y.toInt ≠ x.toInt)))) noX := by
  have hg := W.gx
  have hS := W.S
  have hX := W.X
  have hn8 := W.B.1
  refine Ct.of (by decide) (Nat.le_of_ble_eq_true rfl) rfl ?_
  refine r_ald0 (pc := 0) dX0_areTwo_0 ?_
  refine r_ild1 (pc := 1) dX0_areTwo_1 ?_
  refine r_cV (pc := 2) dX0_areTwo_2 cv_X0_161 (hS.k (c := 0) ow_0 kd_0) (ct_X0_isPerson W S) rfl rfl (Nat.le_of_ble_eq_true rfl) (by first | decide | omega) ?_
  rintro _ _ ⟨rfl, rfl⟩
  first | refine r_if_eqZ (pc := 5) (tgt := 25) dX0_areTwo_5 (by decide) (fun h5 => ?_) (fun h5 => ?_) | refine r_if_eqN (pc := 5) (tgt := 25) dX0_areTwo_5 (by decide) (by omega) (fun h5 => ?_) (fun h5 => ?_) | refine r_if_eq (pc := 5) (tgt := 25) dX0_areTwo_5 (by decide) (fun h5 => ?_) (fun h5 => ?_)
  · skip
    refine r_iconst (v := nI 0) (pc := 25) dX0_areTwo_25 (by decide) ?_
    refine r_zret (pc := 26) dX0_areTwo_26 (by first | rfl | exact zI_nar | assumption) ?_
    exact ⟨by first | (rw [zI_t (by omega)]; rfl) | (rw [zI_f (by omega)]; rfl), rfl⟩
  · skip
    refine r_ald0 (pc := 8) dX0_areTwo_8 ?_
    refine r_ild2 (pc := 9) dX0_areTwo_9 ?_
    refine r_cV (pc := 10) dX0_areTwo_10 cv_X0_161 (hS.k (c := 0) ow_0 kd_0) (ct_X0_isPerson W S) rfl rfl (Nat.le_of_ble_eq_true rfl) (by first | decide | omega) ?_
    rintro _ _ ⟨rfl, rfl⟩
    first | refine r_if_eqZ (pc := 13) (tgt := 25) dX0_areTwo_13 (by decide) (fun h13 => ?_) (fun h13 => ?_) | refine r_if_eqN (pc := 13) (tgt := 25) dX0_areTwo_13 (by decide) (by omega) (fun h13 => ?_) (fun h13 => ?_) | refine r_if_eq (pc := 13) (tgt := 25) dX0_areTwo_13 (by decide) (fun h13 => ?_) (fun h13 => ?_)
    · skip
      refine r_iconst (v := nI 0) (pc := 25) dX0_areTwo_25 (by decide) ?_
      refine r_zret (pc := 26) dX0_areTwo_26 (by first | rfl | exact zI_nar | assumption) ?_
      exact ⟨by first | (rw [zI_t (by omega)]; rfl) | (rw [zI_f (by omega)]; rfl), rfl⟩
    · skip
      refine r_ild1 (pc := 16) dX0_areTwo_16 ?_
      refine r_ild2 (pc := 17) dX0_areTwo_17 ?_
      refine r_icmp_eq (pc := 18) (tgt := 25) dX0_areTwo_18 (by decide) (fun h18 => ?_) (fun h18 => ?_)
      · skip
        have h18 : x.toInt = y.toInt := by rw [h18]
        refine r_iconst (v := nI 0) (pc := 25) dX0_areTwo_25 (by decide) ?_
        refine r_zret (pc := 26) dX0_areTwo_26 (by first | rfl | exact zI_nar | assumption) ?_
        exact ⟨by first | (rw [zI_t (by omega)]; rfl) | (rw [zI_f (by omega)]; rfl), rfl⟩
      · skip
        have h18 : x.toInt ≠ y.toInt := fun z => h18 (Int32.toInt_inj.mp z)
        refine r_iconst (v := nI 1) (pc := 21) dX0_areTwo_21 (by decide) ?_
        refine r_goto (pc := 22) (tgt := 26) dX0_areTwo_22 (by decide) ?_
        refine r_zret (pc := 26) dX0_areTwo_26 (by first | rfl | exact zI_nar | assumption) ?_
        exact ⟨by first | (rw [zI_t (by omega)]; rfl) | (rw [zI_f (by omega)]; rfl), rfl⟩
theorem ct_X0_isAhead {x : Int32} {lo hi : Nat} (W : WS g M o P ta T s) (hy : iX s 12 0 = nI (yr t)) (hy9 : yr t ≤ 2000) (hl : lo < 1000) (hh : hi < 1000) : Ct g yX0_isAhead cX0_isAhead 4 (some Jvm.ClassFile.FieldType.boolean) 1 0 0 [.ref o, .int x, .int (nI lo), .int (nI hi)] (putX M o s) (PQ (putX M o s) (.int (zI (0 < tH T ∧ (lo : Int) ≤ x.toInt ∧ x.toInt ≤ (hi : Int) ∧ (yr t : Int) + x.toInt ≤ 999)))) noX := by
  have hg := W.gx
  have hS := W.S
  have hX := W.X
  refine Ct.of (by decide) (Nat.le_of_ble_eq_true rfl) rfl ?_
  refine r_ald0 (pc := 0) dX0_isAhead_0 ?_
  refine r_cV (pc := 1) dX0_isAhead_1 cv_X0_232 (hS.k (c := 0) ow_0 kd_0) (ct_X0_isTerrace W) rfl rfl (Nat.le_of_ble_eq_true rfl) (by first | decide | omega) ?_
  rintro _ _ ⟨rfl, rfl⟩
  first | refine r_if_eqZ (pc := 4) (tgt := 35) dX0_isAhead_4 (by decide) (fun h4 => ?_) (fun h4 => ?_) | refine r_if_eqN (pc := 4) (tgt := 35) dX0_isAhead_4 (by decide) (by omega) (fun h4 => ?_) (fun h4 => ?_) | refine r_if_eq (pc := 4) (tgt := 35) dX0_isAhead_4 (by decide) (fun h4 => ?_) (fun h4 => ?_)
  · skip
    refine r_iconst (v := nI 0) (pc := 35) dX0_isAhead_35 (by decide) ?_
    refine r_zret (pc := 36) dX0_isAhead_36 (by first | rfl | exact zI_nar | assumption) ?_
    exact ⟨by first | (rw [zI_t (by omega)]; rfl) | (rw [zI_f (by omega)]; rfl), rfl⟩
  · skip
    refine r_ild1 (pc := 7) dX0_isAhead_7 ?_
    refine r_ild2 (pc := 8) dX0_isAhead_8 ?_
    refine r_ild3 (pc := 9) dX0_isAhead_9 ?_
    refine r_cS (pc := 10) dX0_isAhead_10 cs_X0_190 (ct_X0_is (v := x) (a := nI lo) (b := nI hi)) rfl rfl (Nat.le_of_ble_eq_true rfl) (by first | decide | omega) ?_
    rintro _ _ ⟨rfl, rfl⟩
    rw [nI_toInt (n := lo) (by omega), nI_toInt (n := hi) (by omega)]
    first | refine r_if_eqZ (pc := 13) (tgt := 35) dX0_isAhead_13 (by decide) (fun h13 => ?_) (fun h13 => ?_) | refine r_if_eqN (pc := 13) (tgt := 35) dX0_isAhead_13 (by decide) (by omega) (fun h13 => ?_) (fun h13 => ?_) | refine r_if_eq (pc := 13) (tgt := 35) dX0_isAhead_13 (by decide) (fun h13 => ?_) (fun h13 => ?_)
    · skip
      refine r_iconst (v := nI 0) (pc := 35) dX0_isAhead_35 (by decide) ?_
      refine r_zret (pc := 36) dX0_isAhead_36 (by first | rfl | exact zI_nar | assumption) ?_
      exact ⟨by first | (rw [zI_t (by omega)]; rfl) | (rw [zI_f (by omega)]; rfl), rfl⟩
    · skip
      have hx : x = nI x.toInt.toNat := (pidx_some (n := hi + 1) (show pidx x (hi + 1) = some x.toInt.toNat from if_pos ⟨by omega, by omega⟩)).2
      generalize hm : x.toInt.toNat = m at hx
      subst hx
      rw [nI_toInt (by omega)] at h13 ⊢
      refine r_ald0 (pc := 16) dX0_isAhead_16 ?_
      refine x_getR (c := 0) hS ow_0 kd_0 (pc := 17) dX0_isAhead_17 fl_X0_69 (fx_0_9 hX) ?_
      refine x_getIN (c := 12) hS (st_ow isS_12) (st_kd isS_12) (pc := 20) dX0_isAhead_20 (fn_X0_171 hg) ?_
      rw [hy]
      refine r_ild1 (pc := 23) dX0_isAhead_23 ?_
      first | refine r_iaddN (pc := 24) dX0_isAhead_24 ?_ | refine r_iaddJ (pc := 24) dX0_isAhead_24 ?_ | refine r_iadd (pc := 24) dX0_isAhead_24 ?_
      refine r_sipush (v := nI 999) (pc := 25) dX0_isAhead_25 (by decide) ?_
      first | refine r_icmp_gtN (pc := 28) (tgt := 35) dX0_isAhead_28 (by decide) (by omega) (by omega) (fun h28 => ?_) (fun h28 => ?_) | refine r_icmp_gt (pc := 28) (tgt := 35) dX0_isAhead_28 (by decide) (fun h28 => ?_) (fun h28 => ?_)
      · skip
        refine r_iconst (v := nI 0) (pc := 35) dX0_isAhead_35 (by decide) ?_
        refine r_zret (pc := 36) dX0_isAhead_36 (by first | rfl | exact zI_nar | assumption) ?_
        exact ⟨by first | (rw [zI_t (by omega)]; rfl) | (rw [zI_f (by omega)]; rfl), rfl⟩
      · skip
        refine r_iconst (v := nI 1) (pc := 31) dX0_isAhead_31 (by decide) ?_
        refine r_goto (pc := 32) (tgt := 36) dX0_isAhead_32 (by decide) ?_
        refine r_zret (pc := 36) dX0_isAhead_36 (by first | rfl | exact zI_nar | assumption) ?_
        exact ⟨by first | (rw [zI_t (by omega)]; rfl) | (rw [zI_f (by omega)]; rfl), rfl⟩
theorem ct_X0_refuses {i : Nat} (hS : ShX g M o) (hX : FxX (rX s) o) (hi : i < 6) : Ct g yX0_refuses cX0_refuses 2 (some Jvm.ClassFile.FieldType.int) 0 0 0 [.ref o, .int (nI i)] (putX M o s) (fun v M' => v = some (.int (-1)) ∧ M' = putX M o (uI s 11 i (iX s 11 i + nI 1))) noX := by
  refine Ct.of (by decide) (Nat.le_of_ble_eq_true rfl) rfl ?_
  refine r_ald0 (pc := 0) dX0_refuses_0 ?_
  refine x_getR (c := 0) hS ow_0 kd_0 (pc := 1) dX0_refuses_1 fl_X0_62 (fx_0_8 hX) ?_
  refine r_ild1 (pc := 4) dX0_refuses_4 ?_
  refine r_dup2 (pc := 5) dX0_refuses_5 rfl rfl ?_
  refine x_iald (c := 11) hS ow_11 kd_11 ln_11 (pc := 6) dX0_refuses_6 (by omega) (by omega) ?_
  refine r_iconst (v := nI 1) (pc := 7) dX0_refuses_7 (by decide) ?_
  refine r_iadd (pc := 8) dX0_refuses_8 ?_
  refine x_iast (c := 11) hS ow_11 kd_11 ln_11 (pc := 9) dX0_refuses_9 (by omega) (by omega) ?_
  refine r_iconst (v := -1) (pc := 10) dX0_refuses_10 (by decide) ?_
  refine r_iret (pc := 11) dX0_refuses_11 ?_
  exact ⟨rfl, rfl⟩
theorem ct_X0_taken (hS : ShX g M o) (hX : FxX (rX s) o) : Ct g yX0_taken cX0_taken 2 (some Jvm.ClassFile.FieldType.int) 0 0 0 [.ref o] (putX M o s) (fun v M' => v = some (.int (iX s 0 2)) ∧ M' = putX M o (uI s 0 2 (nI 0))) noX := by
  refine Ct.of (by decide) (Nat.le_of_ble_eq_true rfl) rfl ?_
  refine r_ald0 (pc := 0) dX0_taken_0 ?_
  refine x_getI (c := 0) hS ow_0 kd_0 (pc := 1) dX0_taken_1 fl_X0_104 ?_
  refine r_ist1 (pc := 4) dX0_taken_4 ?_
  refine r_ald0 (pc := 5) dX0_taken_5 ?_
  refine r_iconst (v := nI 0) (pc := 6) dX0_taken_6 (by decide) ?_
  refine x_putI (c := 0) hS ow_0 kd_0 (pc := 7) dX0_taken_7 fl_X0_104 fw_X0_2 rfl rfl ?_
  refine r_ild1 (pc := 10) dX0_taken_10 ?_
  refine r_iret (pc := 11) dX0_taken_11 ?_
  exact ⟨rfl, rfl⟩
theorem ct_X0_byteAt {k : Nat} (hS : ShX g M o) (hX : FxX (rX s) o) (hk : k < 1600) : Ct g yX0_byteAt cX0_byteAt 2 (some Jvm.ClassFile.FieldType.int) 0 0 0 [.ref o, .int (nI k)] (putX M o s) (PQ (putX M o s) (.int (iX s 4 k &&& nI 255))) noX := by
  refine Ct.of (by decide) (Nat.le_of_ble_eq_true rfl) rfl ?_
  refine r_ald0 (pc := 0) dX0_byteAt_0 ?_
  refine x_getR (c := 0) hS ow_0 kd_0 (pc := 1) dX0_byteAt_1 fl_X0_35 (fx_0_1 hX) ?_
  refine r_ild1 (pc := 4) dX0_byteAt_4 ?_
  refine x_bald (c := 4) hS ow_4 kd_4 ln_4 (pc := 5) dX0_byteAt_5 (by omega) (by omega) ?_
  refine r_sipush (v := nI 255) (pc := 6) dX0_byteAt_6 (by decide) ?_
  refine r_iand (pc := 9) dX0_byteAt_9 ?_
  refine r_iret (pc := 10) dX0_byteAt_10 ?_
  exact ⟨rfl, rfl⟩
/-- one more of those that are refused -/
theorem IX.ref {i : Nat} (h : IX g M o P ta s q) (hG : GI q) (hi : i < 6) : IX g M o P ta (uI s 11 i (iX s 11 i + nI 1)) (uRf q i) := by
  obtain ⟨w1, w2, a1, a2, a3, a4, a5, a6, a7, a8, a9, a10⟩ := h
  have hn : tn (gT q) ≤ 8 := w1.B.1
  refine ⟨w1.uI, w2, a1.fr (Ag.uI (by unfold rTp; omega)), a2.fr (Ag.uI (by unfold rFt; omega)), fun j hj => ?_, a4.fr hn (Ag.uI (by unfold rNw; omega)) (fun _ => rfl), a5.fr hn hG.2.2.2.2.2.2.2.1 (Ag.uI (by unfold rUn; omega)) (fun _ _ _ _ => rfl), a6, a7.fr (Ag.uI (by unfold rRw; omega)), a8, a9.fr (Ag.uI (by unfold rOu; omega)), a10⟩
  show iX (uI s 11 i (iX s 11 i + nI 1)) 11 j = nI (va_up (gRf q) i (gRf q i + 1) j)
  rw [upN, iX_uI]
  by_cases e : j = i
  · rw [if_pos ⟨rfl, e⟩, if_pos e, a3 i hi]; exact (nI_add _ _)
  · rw [if_neg (fun z => e z.2), if_neg e]; exact a3 j hj
end X19
