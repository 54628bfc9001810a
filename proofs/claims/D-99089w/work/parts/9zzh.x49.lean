set_option maxRecDepth 100000
/-! THE READER: a word (2) -/
theorem RFr.ext {o : Nat} {M M3 M6 : MM} (h : RFr o M M3) (hf : FM (fun _ => False) M3 M6) (ho : o + 6 < mZ M3) : RFr o M M6 := by
  have s5 := hf.2 (o + 5) (by omega) (fun q => q)
  have s6 := hf.2 (o + 6) (by omega) (fun q => q)
  exact h.trans ⟨⟨hf.1, fun c hc _ => hf.2 c hc (fun q => q)⟩, s5.1, s6.1, s5.2.2.2.2, by rw [s5.2.2.1], by rw [s5.2.2.1]⟩
theorem STR.up {M : MM} {P P' : Nat → Prop} {z : Nat} {w : List Nat} (h : STR M P z w) (hP : ∀ c, P c → P' c) : STR M P' z w := by
  obtain ⟨k1, k2, k3, v, k4, k5, k6, k7, k8, k9, k10⟩ := h
  exact ⟨hP _ k1, k2, k3, v, k4, hP _ k5, k6, k7, k8, k9, k10⟩
/-- a word was read from p on -/
def WD (M : MM) (o p : Nat) (w : List Nat) (z : Nat) (M' : MM) : Prop := mZ M ≤ z ∧ STR M' (fun c => mZ M ≤ c ∧ c < mZ M') z w ∧ mI M' z 2 = nI 0 ∧ mI M' z 3 = nI 0 ∧ RO M o (p + w.length) M' ∧ mI M' (o + 5) 3 = nI p
section X49
variable {g : GC} {M : MM} {o n : Nat} {f : Nat → Nat}
/-- from the place where a word begins -/
theorem bd_word {p : Nat} {M2 : MM} (h : RDF g M2 o n f) (hc : CMPS g) (hr : RFr o M M2) (h4 : mI M2 (o + 5) 4 = mI M (o + 5) 4) (hoz : o + 6 < mZ M) (hp : p < n) (hl : ltr (f p) = true) (hA : mI M2 (o + 5) 2 = nI p) (hF : mI M2 (o + 5) 3 = nI p) {X : Nat → MM → Prop} :
    Bd g yX2_word_2 cX2_word_2 3 (some (.object "java/lang/String")) [] 11 3 (2 * (lts f (n - p) p).length + 4) M2 32 [some (.ref (o + 5)), none, none] [] (fun v M' => ∃ z, v = some (.ref z) ∧ WD M o p (lts f (n - p) p) z M') X := by
  have hgb := h.2.1
  have hn := h.2.2.2.2.1
  have hw0 := lts_pos hp hl
  have hwl := lts_le f (n - p) p
  have hwg := fun j => lts_get f (n - p) p j
  have hzz := hr.1.1
  have h9 := lp_wA (kc := 3) (ks := 2 * (lts f (n - p) p).length + 4) (Q := fun v M' => ∃ z, v = some (.ref z) ∧ WD M o p (lts f (n - p) p) z M') (X := X) h (n - p) p (by omega)
  rw [show atM M2 o p = M2 from sI_self hA] at h9
  refine h9 ?_
  generalize hw : lts f (n - p) p = w at *
  have hR3 := h.at (v := nI (p + w.length)) (Nat.le_refl 2)
  have k2 : mI (atM M2 o (p + w.length)) (o + 5) 2 = nI (p + w.length) := mI_sIs _ _ _ _
  have k3 : mI (atM M2 o (p + w.length)) (o + 5) 3 = nI p := (mI_sIj (by decide)).trans hF
  have k4 : mI (atM M2 o (p + w.length)) (o + 5) 4 = mI M (o + 5) 4 := (mI_sIj (by decide)).trans h4
  have kr : RFr o M (atM M2 o (p + w.length)) := hr.trans (RFr.at (Nat.le_refl 2) (by decide))
  have kz : mZ M ≤ mZ (atM M2 o (p + w.length)) := hzz
  have hR3 : RDF g (atM M2 o (p + w.length)) o n f := hR3
  generalize atM M2 o (p + w.length) = M3 at *
  have r7 := hR3.2.2.2.2.2.2.2.1.1
  have hlt : ∀ j, j < w.length → f (p + j) < 128 := fun j hj => by
    have := (hwg j hj).2
    unfold ltr at this
    simp at this
    omega
  refine r_ald0 (pc := 59) dX2_word_2_59 ?_
  refine r_getI' (pc := 60) dX2_word_2_60 fl_X2_36 r7 k2 ?_
  refine r_ald0 (pc := 63) dX2_word_2_63 ?_
  refine r_getI' (pc := 64) dX2_word_2_64 fl_X2_61 r7 k3 ?_
  refine r_isubN (pc := 67) dX2_word_2_67 (by omega) ?_
  rw [show p + w.length - p = w.length by omega]
  refine r_newa (pc := 68) (t := 5) (kc' := 2) (ks' := w.length + 4) dX2_word_2_68 rfl (by decide) q641 (by omega) (by omega) (by omega) ?_
  have f4 : FM (fun _ => False) M3 (nw M3 5 w.length) := FM.nw
  have c5 : mK (nw M3 5 w.length) (mZ M3) = 5 := if_pos rfl
  have c6 : mN (nw M3 5 w.length) (mZ M3) = w.length := if_pos rfl
  have z4 : mZ (nw M3 5 w.length) = mZ M3 + 1 := rfl
  generalize nw M3 5 w.length = M4 at *
  have s5 := f4.2 (o + 5) (by omega) (fun q => q)
  have hR4 := hR3.fr (RFr.rf.ext f4 (by omega))
  have r7' := hR4.2.2.2.2.2.2.2.1.1
  have j2 : mI M4 (o + 5) 2 = nI (p + w.length) := by rw [s5.2.2.1]; exact k2
  have j3 : mI M4 (o + 5) 3 = nI p := by rw [s5.2.2.1]; exact k3
  refine r_ast1 (pc := 70) dX2_word_2_70 ?_
  refine r_ald0 (pc := 71) dX2_word_2_71 ?_
  refine r_getI' (pc := 72) dX2_word_2_72 fl_X2_61 r7' j3 ?_
  refine r_ist2 (pc := 75) dX2_word_2_75 ?_
  have h8 := lp_wB (kc := 2) (ks := w.length + 4) (ca := mZ M3) (p := p) (e := p + w.length) (Q := fun v M' => ∃ z, v = some (.ref z) ∧ WD M o p w z M') (X := X) hR4 c5 (by rw [c6]; omega) (by omega) j2 j3 (by omega) (by omega) (fun j hj => hlt j (by omega))
  rw [show p + w.length - p = w.length by omega] at h8
  have h7 := fun K => h8 K w.length 0 (by omega)
  rw [layB_0] at h7
  refine h7 ?_
  have f5 : FM (fun _ => False) M3 (layB M4 (mZ M3) w.length (fun j => f (p + j))) := f4.trans (T := fun c => c = mZ M3) (FM.sIs fun _ => rfl) (fun _ _ q => q) (fun c hc q => by omega)
  have d5 : mK (layB M4 (mZ M3) w.length (fun j => f (p + j))) (mZ M3) = 5 := c5
  have d6 : mN (layB M4 (mZ M3) w.length (fun j => f (p + j))) (mZ M3) = w.length := c6
  have d7 : ∀ j, j < w.length → mI (layB M4 (mZ M3) w.length (fun j => f (p + j))) (mZ M3) j = nI (w.getD j 0) ∧ w.getD j 0 < 128 := fun j hj => by
    rw [layB, mI_sIf, if_pos rfl, if_pos hj, (hwg j hj).1]
    exact ⟨rfl, hlt j hj⟩
  have z5 : mZ (layB M4 (mZ M3) w.length (fun j => f (p + j))) = mZ M3 + 1 := z4
  generalize layB M4 (mZ M3) w.length (fun j => f (p + j)) = M5 at *
  refine r_ald1 (pc := 108) dX2_word_2_108 ?_
  refine r_cSm (pc := 109) (kc' := 0) (ks' := 0) dX2_word_2_109 cs_X2_64 (ct_J6_valueOf hc (by omega) (by omega) d5 d6 hw0 (by omega) d7) rfl rfl (Nat.le_of_ble_eq_true rfl) (by decide) (by omega) (by omega) ?_
  rintro _ M6 ⟨rfl, s1, s2, s3, s4, s5⟩
  have f6 : FM (fun _ => False) M3 M6 := f5.trans s2 (fun _ _ q => q) (fun _ _ q => q)
  have t5 := f6.2 (o + 5) (by omega) (fun q => q)
  refine r_aretR (pc := 112) dX2_word_2_112 ⟨mZ M5, rfl, by omega, s1.up (fun c hc => ⟨by omega, hc.2⟩), s4, s5, ⟨kr.ext f6 (by omega), by rw [t5.2.2.1]; exact k2, by rw [t5.2.2.1]; exact k4⟩, by rw [t5.2.2.1]; exact k3⟩
end X49
