set_option maxRecDepth 100000
/-! THE READER: a word -/
theorem bR_eq {x : Int32} {c : Nat} (hb : bR x) (hc : c < 128) (h : x &&& nI 255 = nI c) : x = nI c := by
  have key : ∀ v : Fin 256, ∀ c : Fin 128, (Int8.ofBitVec (BitVec.ofFin v)).toInt32 &&& nI 255 = nI c.val → (Int8.ofBitVec (BitVec.ofFin v)).toInt32 = nI c.val := by decide +kernel
  have e : x = (Int8.ofBitVec (BitVec.ofFin x.toInt8.toBitVec.toFin)).toInt32 := hb.symm
  rw [e] at h ⊢
  exact key _ ⟨c, hc⟩ h
section X48
variable {g : GC} {M : MM} {o n : Nat} {f : Nat → Nat}
theorem lp_wA {kc ks : Nat} {Q : Option Value → MM → Prop} {X : Nat → MM → Prop} (h : RDF g M o n f) : ∀ k b, b + k = n → Bd g yX2_word_2 cX2_word_2 3 (some (.object "java/lang/String")) [] 11 kc ks (atM M o (b + (lts f k b).length)) 59 [some (.ref (o + 5)), none, none] [] Q X → Bd g yX2_word_2 cX2_word_2 3 (some (.object "java/lang/String")) [] 11 kc ks (atM M o b) 32 [some (.ref (o + 5)), none, none] [] Q X := by
  have hg := h.1
  have hgb := h.2.1
  have hn := h.2.2.2.2.1
  intro k
  induction k with
  | zero =>
    intro b hb K
    have hR := h.at (v := nI b) (Nat.le_refl 2)
    have r7 := hR.2.2.2.2.2.2.2.1.1
    have ea : mI (atM M o b) (o + 5) 2 = nI b := mI_sIs _ _ _ _
    have eb : bI f n b = iI (-1) := if_neg (by omega)
    have hct := ct_X2_byteAt hR (show b ≤ 1600 by omega)
    rw [eb] at hct
    refine r_ald0 (pc := 32) dX2_word_2_32 ?_
    refine r_ald0 (pc := 33) dX2_word_2_33 ?_
    refine r_getI' (pc := 34) dX2_word_2_34 fl_X2_36 r7 ea ?_
    refine r_cV (ci := 2) (pc := 37) dX2_word_2_37 cv_X2_39 r7 hct rfl rfl (Nat.le_of_ble_eq_true rfl) (by decide) ?_
    rintro _ M9 ⟨rfl, e9⟩
    rw [e9]
    refine r_cSN (pc := 40) dX2_word_2_40 (csn_X2_51 hg) ct_X0_isLetter_neg rfl rfl (Nat.le_of_ble_eq_true rfl) (by decide) ?_
    rintro _ M8 ⟨rfl, e8⟩
    rw [e8]
    first | refine r_if_eqZ (pc := 43) (tgt := 59) dX2_word_2_43 (by decide) (fun h43 => ?_) (fun h43 => ?_) | refine r_if_eqN (pc := 43) (tgt := 59) dX2_word_2_43 (by decide) (by omega) (fun h43 => ?_) (fun h43 => ?_) | refine r_if_eq (pc := 43) (tgt := 59) dX2_word_2_43 (by decide) (fun h43 => ?_) (fun h43 => ?_)
    · skip
      exact K
    · skip
      exact absurd h43 (by decide)
  | succ k ih =>
    intro b hb K
    have hR := h.at (v := nI b) (Nat.le_refl 2)
    have r7 := hR.2.2.2.2.2.2.2.1.1
    have hfa := h.2.2.2.2.2.2.1.1 b
    have ea : mI (atM M o b) (o + 5) 2 = nI b := mI_sIs _ _ _ _
    have eb : bI f n b = nI (f b) := if_pos (by omega)
    have hct := ct_X2_byteAt hR (show b ≤ 1600 by omega)
    rw [eb] at hct
    refine r_ald0 (pc := 32) dX2_word_2_32 ?_
    refine r_ald0 (pc := 33) dX2_word_2_33 ?_
    refine r_getI' (pc := 34) dX2_word_2_34 fl_X2_36 r7 ea ?_
    refine r_cV (ci := 2) (pc := 37) dX2_word_2_37 cv_X2_39 r7 hct rfl rfl (Nat.le_of_ble_eq_true rfl) (by decide) ?_
    rintro _ M9 ⟨rfl, e9⟩
    rw [e9]
    refine r_cSN (pc := 40) dX2_word_2_40 (csn_X2_51 hg) (ct_X0_isLetter hfa) rfl rfl (Nat.le_of_ble_eq_true rfl) (by decide) ?_
    rintro _ M8 ⟨rfl, e8⟩
    rw [e8]
    first | refine r_if_eqZ (pc := 43) (tgt := 59) dX2_word_2_43 (by decide) (fun h43 => ?_) (fun h43 => ?_) | refine r_if_eqN (pc := 43) (tgt := 59) dX2_word_2_43 (by decide) (by omega) (fun h43 => ?_) (fun h43 => ?_) | refine r_if_eq (pc := 43) (tgt := 59) dX2_word_2_43 (by decide) (fun h43 => ?_) (fun h43 => ?_)
    · skip
      rw [show lts f (k + 1) b = [] from if_neg (by assumption)] at K
      exact K
    · skip
      refine r_ald0 (pc := 46) dX2_word_2_46 ?_
      refine r_dup (pc := 47) dX2_word_2_47 rfl ?_
      refine r_getI' (pc := 48) dX2_word_2_48 fl_X2_36 r7 ea ?_
      refine r_iconst (v := nI 1) (pc := 51) dX2_word_2_51 (by decide) ?_
      first | refine r_iaddN (pc := 52) dX2_word_2_52 ?_ | refine r_iaddJ (pc := 52) dX2_word_2_52 ?_ | refine r_iadd (pc := 52) dX2_word_2_52 ?_
      refine r_putI (pc := 53) (ty := .int) dX2_word_2_53 fl_X2_36 ⟨rfl, rfl⟩ rfl rfl r7 (by omega) ?_
      first | rw [sI_sI] | rw [atM, sI_sI]
      refine r_goto (pc := 56) (tgt := 32) dX2_word_2_56 (by decide) ?_
      refine ih (b + 1) (by omega) ?_
      rw [show lts f (k + 1) b = f b :: lts f k (b + 1) from if_pos (by assumption), List.length_cons, show b + ((lts f k (b + 1)).length + 1) = b + 1 + (lts f k (b + 1)).length by omega] at K
      exact K
theorem c16 {c : Nat} (hc : c < 128) : ((nI c).toUInt32 % 65536).toInt32 = nI c := by
  have : ∀ c : Fin 128, ((nI c.val).toUInt32 % 65536).toInt32 = nI c.val := by decide
  exact this ⟨c, hc⟩
theorem n16 {c : Nat} (hc : c < 128) : vp_nar .char (nI c) = nI c := by
  have : ∀ c : Fin 128, vp_nar .char (nI c.val) = nI c.val := by decide
  exact this ⟨c, hc⟩
theorem RDF.lay {ca i : Nat} {φ : Nat → Nat} (h : RDF g M o n f) (hca : ca ≠ o + 4 ∧ ca ≠ o + 5) : RDF g (layB M ca i φ) o n f := by
  obtain ⟨h0, h1, h2, h3, h4, h5, h6, ⟨h7, h8, h9, h10⟩, h11, h12⟩ := h
  have e : ∀ c j, c ≠ ca → mI (layB M ca i φ) c j = mI M c j := fun c j hc => by rw [layB, mI_sIf, if_neg hc]
  exact ⟨h0, h1, h2, h3, h4, fun i hi => by rw [e _ _ (Ne.symm hca.1)]; exact h5 i hi, ⟨h6.1, fun i hi => by rw [e _ _ (Ne.symm hca.1)]; exact h6.2 i hi⟩, ⟨h7, h8, h9, (e _ _ (Ne.symm hca.2)).trans h10⟩, h11, h12⟩
theorem lp_wB {kc ks ca p e : Nat} {Q : Option Value → MM → Prop} {X : Nat → MM → Prop} (h : RDF g M o n f) (hK : mK M ca = 5) (hN : mN M ca = e - p) (hb : gb g ≤ ca) (hE : mI M (o + 5) 2 = nI e) (hF : mI M (o + 5) 3 = nI p) (he : e ≤ n) (hp : p ≤ e) (hl : ∀ j, j < e - p → f (p + j) < 128)
    (K : Bd g yX2_word_2 cX2_word_2 3 (some (.object "java/lang/String")) [] 11 kc ks (layB M ca (e - p) (fun j => f (p + j))) 108 [some (.ref (o + 5)), some (.ref ca), some (.int (nI e))] [] Q X) : ∀ k i, p + i + k = e → Bd g yX2_word_2 cX2_word_2 3 (some (.object "java/lang/String")) [] 11 kc ks (layB M ca i (fun j => f (p + j))) 76 [some (.ref (o + 5)), some (.ref ca), some (.int (nI (p + i)))] [] Q X := by
  have hg := h.1
  have hgb := h.2.1
  have hn := h.2.2.2.2.1
  have hne : ca ≠ o + 4 ∧ ca ≠ o + 5 := by
    constructor
    · intro q; rw [q, h.2.2.2.1.1] at hK; omega
    · intro q; rw [q, h.2.2.2.2.2.2.2.1.1] at hK; omega
  have e0 : ∀ c j i, c ≠ ca → mI (layB M ca i (fun j => f (p + j))) c j = mI M c j := fun c j i hc => by rw [layB, mI_sIf, if_neg hc]
  intro k
  induction k with
  | zero =>
    intro i hi
    have hR := h.lay (i := i) (φ := fun j => f (p + j)) hne
    have r7 := hR.2.2.2.2.2.2.2.1.1
    have k1 := (e0 (o + 5) 2 i (Ne.symm hne.2)).trans hE
    have hpi : p + i = e := by omega
    rw [hpi]
    rw [show e - p = i by omega] at K
    refine r_ild2 (pc := 76) dX2_word_2_76 ?_
    refine r_ald0 (pc := 77) dX2_word_2_77 ?_
    refine r_getI' (pc := 78) dX2_word_2_78 fl_X2_36 r7 k1 ?_
    first | refine r_icmp_geN (pc := 81) (tgt := 108) dX2_word_2_81 (by decide) (by omega) (by omega) (fun h81 => ?_) (fun h81 => ?_) | refine r_icmp_ge (pc := 81) (tgt := 108) dX2_word_2_81 (by decide) (fun h81 => ?_) (fun h81 => ?_)
    · skip
      exact K
    · skip
      exact absurd h81 (by omega)
  | succ k ih =>
    intro i hi
    have hR := h.lay (i := i) (φ := fun j => f (p + j)) hne
    have r7 := hR.2.2.2.2.2.2.2.1.1
    have r9 := hR.2.2.2.2.2.2.2.1.2.2.1
    have r2 := hR.2.2.1
    have r3 := hR.2.2.2.1
    have k1 := (e0 (o + 5) 2 i (Ne.symm hne.2)).trans hE
    have k2 := (e0 (o + 5) 3 i (Ne.symm hne.2)).trans hF
    have kl := hl i (by omega)
    have kb : mI (layB M ca i (fun j => f (p + j))) (o + 4) (p + i) = nI (f (p + i)) := bR_eq (hR.2.2.2.2.2.2.1.2 _ (by omega)) kl (hR.2.2.2.2.2.1 _ (by omega))
    refine r_ild2 (pc := 76) dX2_word_2_76 ?_
    refine r_ald0 (pc := 77) dX2_word_2_77 ?_
    refine r_getI' (pc := 78) dX2_word_2_78 fl_X2_36 r7 k1 ?_
    first | refine r_icmp_geN (pc := 81) (tgt := 108) dX2_word_2_81 (by decide) (by omega) (by omega) (fun h81 => ?_) (fun h81 => ?_) | refine r_icmp_ge (pc := 81) (tgt := 108) dX2_word_2_81 (by decide) (fun h81 => ?_) (fun h81 => ?_)
    · skip
      exact absurd h81 (by omega)
    · skip
      refine r_ald1 (pc := 84) dX2_word_2_84 ?_
      refine r_ild2 (pc := 85) dX2_word_2_85 ?_
      refine r_ald0 (pc := 86) dX2_word_2_86 ?_
      refine r_getI' (pc := 87) dX2_word_2_87 fl_X2_61 r7 k2 ?_
      refine r_isubN (pc := 90) dX2_word_2_90 (by omega) ?_
      rw [show p + i - p = i by omega]
      refine r_ald0 (pc := 91) dX2_word_2_91 ?_
      refine r_getR (pc := 92) dX2_word_2_92 fl_X2_3 r7 r9 ?_
      refine r_getRN (pc := 95) dX2_word_2_95 (fn_X2_32 hg) r2.1 r2.2 ?_
      refine r_ild2 (pc := 98) dX2_word_2_98 ?_
      refine r_bald (pc := 99) dX2_word_2_99 r3.1 (by rw [r3.2]; omega) (by omega) ?_
      rw [kb]
      refine r_i2c (pc := 100) dX2_word_2_100 ?_
      refine Bd.eqI (c16 kl) ?_
      refine r_cast (pc := 101) dX2_word_2_101 hK (by show i < mN M ca; omega) (by omega) hb ?_
      rw [n16 kl, show nI (f (p + i)) = nI ((fun j => f (p + j)) i) from rfl, layB_s]
      first | refine r_iinc2N (j := 1) (pc := 102) dX2_word_2_102 rfl ?_ | refine r_iinc2 (pc := 102) dX2_word_2_102 ?_
      refine r_goto (pc := 105) (tgt := 76) dX2_word_2_105 (by decide) ?_
      exact ih (i + 1) (by omega)
end X48
