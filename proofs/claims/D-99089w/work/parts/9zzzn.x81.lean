set_option maxRecDepth 100000
/-! THE READER: the terrace that is being told, and the reader at b; one of the souls told -/
def TW (g : GC) (M0 M : MM) (o n : Nat) (f : Nat → Nat) (ta l v : Nat) (tA : Nat → Nat) (T : To) (m b : Nat) : Prop := RW g M o n f ∧ FM (fun c => c = o + 5 ∨ c = o + 6) M0 M ∧ o + 6 < mZ M0 ∧ mR M (o + 5) 6 = some ta ∧ mI M (o + 5) 4 = nI 0 ∧ mI M (o + 5) 2 = nI b ∧ b ≤ n ∧ TLD g M0 M o ta l v tA T m ∧ VT T
/-- the fault is thrown: all else as it was at first -/
def XT (g : GC) (M0 : MM) (o n : Nat) (f : Nat → Nat) (k p q : Nat) (M' : MM) : Prop := q = o + 6 ∧ mI M' (o + 6) 6 = nI k ∧ mI M' (o + 6) 7 = nI p ∧ FM (fun c => c = o + 5 ∨ c = o + 6) M0 M' ∧ RDF g M' o n f
section Tw
variable {g : GC} {M0 M M1 : MM} {o n ta l v m a b : Nat} {f : Nat → Nat} {tA : Nat → Nat} {T : To}
theorem TW.w (h : TW g M0 M o n f ta l v tA T m b) : RW g M o n f := h.1
theorem TW.z0 (h : TW g M0 M o n f ta l v tA T m b) : o + 6 < mZ M0 := h.2.2.1
theorem TW.t (h : TW g M0 M o n f ta l v tA T m b) : TLD g M0 M o ta l v tA T m := h.2.2.2.2.2.2.2.1
theorem TW.V (h : TW g M0 M o n f ta l v tA T m b) : VT T := h.2.2.2.2.2.2.2.2
theorem TW.to (h : TW g M0 M o n f ta l v tA T m b) : mR M (o + 5) 6 = some ta := h.2.2.2.1
theorem TW.at (h : TW g M0 M o n f ta l v tA T m b) : mI M (o + 5) 2 = nI b := h.2.2.2.2.2.1
theorem TW.le (h : TW g M0 M o n f ta l v tA T m b) : b ≤ n := h.2.2.2.2.2.2.1
theorem TW.gz (h : TW g M0 M o n f ta l v tA T m b) : gb g ≤ mZ M0 := by have := h.z0; have := h.w.1.2.1; omega
theorem TW.ro (h : TW g M0 M o n f ta l v tA T m a) (hr : RO M o b M1) (hb : b ≤ n) : TW g M0 M1 o n f ta l v tA T m b := ⟨h.w.fr hr.1, h.2.1.trans hr.1.1 (fun _ _ e => e) (fun _ _ e => e), h.z0, by rw [hr.1.2.2.2.1]; exact h.to, hr.2.2.trans h.2.2.2.2.1, hr.2.1, hb, h.t.fr hr.1 h.z0, h.V⟩
theorem XT.of {k p q : Nat} (h : TW g M0 M o n f ta l v tA T m a) (hx : XE M o k p q M1) : XT g M0 o n f k p q M1 := ⟨hx.1, hx.2.1, hx.2.2.1, h.2.1.trans hx.2.2.2.1 (fun _ _ e => e) (fun _ _ e => e), h.w.1.fr hx.2.2.2⟩
/-- cells made since the start have changed, no others -/
theorem RW.sm (h : RW g M o n f) (hz : mZ M ≤ mZ M1) (hS : ∀ c, c ≤ o + 6 → Sm M M1 c) : RW g M1 o n f := by
  obtain ⟨⟨h0, h1, ⟨h2, h2'⟩, ⟨h3, h3'⟩, h4, h5, h6, ⟨h7, h8, h9, h10⟩, h11, h12⟩, k1, k2, k3, k4⟩ := h
  have e0 := hS o (by omega)
  have e4 := hS (o + 4) (by omega)
  have e5 := hS (o + 5) (by omega)
  have e6 := hS (o + 6) (by omega)
  exact ⟨⟨h0, h1, ⟨e0.1.trans h2, by rw [e0.2.2.2.2]; exact h2'⟩, ⟨e4.1.trans h3, e4.2.1.trans h3'⟩, h4, fun j hj => by rw [e4.2.2.1]; exact h5 j hj, ⟨h6.1, fun j hj => by rw [e4.2.2.1]; exact h6.2 j hj⟩, ⟨e5.1.trans h7, by rw [e5.2.2.2.2]; exact h8, by rw [e5.2.2.2.2]; exact h9, by rw [e5.2.2.1]; exact h10⟩, e6.1.trans h11, by omega⟩, k1, k2, k3.fr (fun c hc => hS c (by omega)), k4.fr (fun c hc => hS c (by omega))⟩
theorem TW.sm {l' v' : Nat} {tA' : Nat → Nat} {T' : To} {m' : Nat} (h : TW g M0 M o n f ta l v tA T m a) (hF : FM (fun c => mZ M0 ≤ c) M M1) (hT : TLD g M0 M1 o ta l' v' tA' T' m') (hV : VT T') : TW g M0 M1 o n f ta l' v' tA' T' m' a := by
  have hz := h.2.1.1
  have ho := h.z0
  have e5 := hF.2 (o + 5) (by omega) (fun q => by omega)
  exact ⟨h.w.sm hF.1 (fun c hc => hF.2 c (by omega) (fun q => by omega)), h.2.1.trans hF (fun _ _ e => e) (fun c hc e => by omega), ho, by rw [e5.2.2.2.2]; exact h.to, by rw [e5.2.2.1]; exact h.2.2.2.2.1, by rw [e5.2.2.1]; exact h.at, h.le, hT, hV⟩
theorem TLD.sls (h : TLD g M0 M o ta l v tA T m) (hV : VT T) : SLS M (Pt M0 M ta l v) ta l v ((oS T).map (fun e => e.1.map (fun c => c + 96))) (fun i => (sAt T i).2.1) := by
  obtain ⟨⟨h1, h2, h3, h4, h5⟩, h6, -, -, -, -, -, h12, -⟩ := h
  refine ⟨h1, h5, by rw [List.length_map]; exact h6, by rw [List.length_map]; exact hV.2.2.1, fun i hi => ?_⟩
  rw [List.length_map] at hi
  obtain ⟨a, k1, ⟨-, k3, ⟨z, k4, k5⟩, ⟨k6, -⟩, -⟩, -⟩ := h12 i hi
  have e : ((oS T).map (fun e => e.1.map (fun c => c + 96))).getD i [] = (sAt T i).1.map (fun c => c + 96) := by
    unfold sAt
    rw [List.getD_eq_getElem?_getD, List.getD_eq_getElem?_getD, List.getElem?_map, List.getElem?_eq_getElem hi]; rfl
  have := sAt_ok hV hi
  have h9 := hV.2.1
  exact ⟨a, z, k1, k3, k4, by rw [e]; exact k5, k6, by have q := this.2.2.2.1; show (sAt T i).2.1 < 1000; omega⟩
theorem nmZ_back {p : Nat} {w : List Nat} (hw : word f n p = some w) : (nmZ w).map (fun c => c + 96) = w := by
  have h4 := (word_some hw).2.2.2
  refine list_ext (by unfold nmZ; rw [List.length_map, List.length_map]) (fun j hj => ?_)
  have := lts_get f (n - p) p j (by rw [h4]; exact hj)
  rw [h4] at this
  have hl := this.2
  rw [← this.1] at hl
  unfold ltr at hl
  simp only [Bool.and_eq_true, decide_eq_true_eq] at hl
  unfold nmZ
  rw [List.map_map]
  rw [List.getD_eq_getElem?_getD, List.getElem?_eq_getElem hj] at hl
  have hl1 : 97 ≤ w[j] := hl.1
  rw [List.getD_eq_getElem?_getD, List.getElem?_map, List.getD_eq_getElem?_getD, List.getElem?_eq_getElem hj]
  show w[j] - 96 + 96 = w[j]
  omega
theorem nmZ_inj {w u : List Nat} (h : u.map (fun c => c + 96) = w) : nmZ w = u := by
  rw [← h]
  unfold nmZ
  rw [List.map_map]
  have : ((fun c => c - 96) ∘ fun c => c + 96) = (id : Nat → Nat) := funext fun c => by show c + 96 - 96 = c; omega
  rw [this, List.map_id]
theorem fnd_ff {w : List Nat} (hb : (nmZ w).map (fun c => c + 96) = w) : ∀ k i, i + k ≤ (oS T).length → fndW ((oS T).map (fun e => e.1.map (fun c => c + 96))) w k i = ff (fun k => decide ((sAt T k).1 = nmZ w)) k i
  | 0, i, _ => rfl
  | k + 1, i, h => by
    have e : ((oS T).map (fun e => e.1.map (fun c => c + 96))).getD i [] = (sAt T i).1.map (fun c => c + 96) := by
      unfold sAt
      rw [List.getD_eq_getElem?_getD, List.getD_eq_getElem?_getD, List.getElem?_map, List.getElem?_eq_getElem (by omega)]; rfl
    by_cases q : (sAt T i).1 = nmZ w
    · have q2 : ((oS T).map (fun e => e.1.map (fun c => c + 96))).getD i [] = w := by rw [e, q, hb]
      rw [show fndW ((oS T).map (fun e => e.1.map (fun c => c + 96))) w (k + 1) i = some i from if_pos q2, show ff (fun k => decide ((sAt T k).1 = nmZ w)) (k + 1) i = some i from if_pos (decide_eq_true q)]
    · have q2 : ¬ ((oS T).map (fun e => e.1.map (fun c => c + 96))).getD i [] = w := fun z => q (by rw [e] at z; exact (nmZ_inj z).symm)
      rw [show fndW ((oS T).map (fun e => e.1.map (fun c => c + 96))) w (k + 1) i = fndW ((oS T).map (fun e => e.1.map (fun c => c + 96))) w k (i + 1) from if_neg q2, show ff (fun k => decide ((sAt T k).1 = nmZ w)) (k + 1) i = ff (fun k => decide ((sAt T k).1 = nmZ w)) k (i + 1) from if_neg (by rw [decide_eq_true_eq]; exact q)]
      exact fnd_ff hb k (i + 1) (by omega)
theorem fnd_S {p : Nat} {w : List Nat} (hw : word f n p = some w) : fndW ((oS T).map (fun e => e.1.map (fun c => c + 96))) w ((oS T).map (fun e => e.1.map (fun c => c + 96))).length 0 = fndS T (nmZ w) := by
  rw [List.length_map]
  exact fnd_ff (nmZ_back hw) _ 0 (by omega)
theorem has_full {h : Nat} : ∀ k i, (hasH (fun i => (sAt T i).2.1) h k i = true) ↔ ff (fun k => (sAt T k).2.1 == h) k i ≠ none
  | 0, i => ⟨fun q => (by cases q), fun q => absurd rfl q⟩
  | k + 1, i => by
    by_cases q : (sAt T i).2.1 = h
    · rw [show hasH (fun i => (sAt T i).2.1) h (k + 1) i = true from if_pos q, show ff (fun k => (sAt T k).2.1 == h) (k + 1) i = some i from if_pos (by rw [beq_iff_eq]; exact q)]
      exact ⟨fun _ z => (by cases z), fun _ => rfl⟩
    · rw [show hasH (fun i => (sAt T i).2.1) h (k + 1) i = hasH (fun i => (sAt T i).2.1) h k (i + 1) from if_neg q, show ff (fun k => (sAt T k).2.1 == h) (k + 1) i = ff (fun k => (sAt T k).2.1 == h) k (i + 1) from if_neg (by rw [beq_iff_eq]; exact q)]
      exact has_full k (i + 1)
end Tw
section X81
variable {g : GC} {M0 M : MM} {o n ta l v m a : Nat} {f : Nat → Nat} {tA : Nat → Nat} {T : To}
theorem ct_X2_other {than : Option Nat} (W : TW g M0 M o n f ta l v tA T m a) (ht : ∀ i, than = some i → i < 8) : Ct g yX2_other cX2_other 3 (some Jvm.ClassFile.FieldType.int) 13 (3) (2564) [.ref (o + 5), .int (onI than)] M (fun r M' => ∃ i b, oneP f n T a = .ok (i, b) ∧ i < (oS T).length ∧ than ≠ some i ∧ r = some (.int (nI i)) ∧ RO M o b M' ∧ b ≤ n) (fun q M' => ∃ k p, (oneP f n T a = .error (k, p) ∨ ∃ i b, oneP f n T a = .ok (i, b) ∧ than = some i ∧ k = 3 ∧ p = skip f n a) ∧ XE M o k p q M') := by
  have h := W.w.1
  have hg := h.1
  have hc := W.w.c
  have r7 := h.2.2.2.2.2.2.2.1.1
  have e1 : oneP f n T a = bnd (nmP f n (skip f n a)) (fun y => match fndS T y.1 with
      | none => .error (3, skip f n a)
      | some i => .ok (i, y.2)) := rfl
  have h8 := W.V.2.2.1
  refine Ct.of (by decide) (Nat.le_of_ble_eq_true rfl) rfl ?_
  refine r_ald0 (pc := 0) dX2_other_0 ?_
  refine r_getR (pc := 1) dX2_other_1 fl_X2_100 r7 W.to ?_
  refine r_ald0 (pc := 4) dX2_other_4 ?_
  refine r_cVx (ci := 2) (pc := 5) (kc' := 0) (ks' := 0) dX2_other_5 cv_X2_104 r7 (ct_X2_name W.w W.le W.at) rfl rfl (Nat.le_of_ble_eq_true rfl) (by decide) (by omega) (by omega) (fun q M' hx => ?_) ?_
  · obtain ⟨k, p, x1, x2⟩ := hx
    exact ⟨k, p, Or.inl (by rw [e1, x1]; rfl), x2⟩
  rintro _ M1 ⟨w, z, hw, hw6, hn, rfl, q1, q2, q3, q4, q5, q6⟩
  have hwe := word_end hw
  have W1 := W.ro q5 hwe.1
  have hR := W1.w.1
  have r71 := hR.2.2.2.2.2.2.2.1.1
  have r11 := hR.2.2.2.2.2.2.2.2.1
  have hsl := W1.t.sls W1.V
  have hfd := ct_X1_find (g := g) hg hc hsl q2
  rw [fnd_S hw] at hfd
  have e2 : oneP f n T a = match fndS T (nmZ w) with | none => .error (3, skip f n a) | some i => .ok (i, skip f n a + w.length) := by rw [e1, hn]; rfl
  refine r_cV (ci := 1) (pc := 8) dX2_other_8 cv_X2_107 W1.t.1.1 hfd rfl rfl (Nat.le_of_ble_eq_true rfl) (by decide) ?_
  rintro _ M8 ⟨rfl, e8⟩
  rw [e8]
  refine r_ist2 (pc := 11) dX2_other_11 ?_
  refine r_ild2 (pc := 12) dX2_other_12 ?_
  refine r_iconst (v := -1) (pc := 13) dX2_other_13 (by decide) ?_
  refine r_icmp_eq (pc := 14) (tgt := 22) dX2_other_14 (by decide) (fun h14 => ?_) (fun h14 => ?_)
  · skip
    have e3 : fndS T (nmZ w) = none := by
      cases hf : fndS T (nmZ w) with
      | none => rfl
      | some i => rw [hf] at h14; exact absurd h14 (nI_n1 (by have := (ff_lt hf).2.1; omega))
    have e4 : oneP f n T a = .error (3, skip f n a) := by rw [e2, e3]
    have e5 : ∃ k p, (oneP f n T a = .error (k, p) ∨ ∃ i b, oneP f n T a = .ok (i, b) ∧ than = some i ∧ k = 3 ∧ p = skip f n a) ∧ XE M o k p (o + 6) (flM M1 o 3 (skip f n a)) := ⟨3, skip f n a, Or.inl e4, XE.fl q5.1⟩
    refine r_ald0 (pc := 22) dX2_other_22 ?_
    refine r_iconst (v := nI 3) (pc := 23) dX2_other_23 (by decide) ?_
    refine r_ald0 (pc := 24) dX2_other_24 ?_
    refine r_getI' (pc := 25) dX2_other_25 fl_X2_61 r71 q6 ?_
    refine r_cV (ci := 2) (pc := 28) dX2_other_28 cv_X2_47 r71 (ct_X2_wrong (k := 3) hR) rfl rfl (Nat.le_of_ble_eq_true rfl) (by decide) ?_
    rintro _ M2 ⟨rfl, e9⟩
    rw [e9]
    exact r_athrow (pc := 31) dX2_other_31 r11 e5
  · skip
    obtain ⟨i, hi⟩ : ∃ i, fndS T (nmZ w) = some i := by
      cases hf : fndS T (nmZ w) with
      | none => rw [hf] at h14; exact absurd iI_n1 h14
      | some i => exact ⟨i, rfl⟩
    have hil := (ff_lt hi).2.1
    have e4 : oneP f n T a = .ok (i, skip f n a + w.length) := by rw [e2, hi]
    rw [hi]
    refine r_ild2 (pc := 17) dX2_other_17 ?_
    refine r_ild1 (pc := 18) dX2_other_18 ?_
    refine r_icmp_ne (pc := 19) (tgt := 32) dX2_other_19 (by decide) (fun h19 => ?_) (fun h19 => ?_)
    · skip
      refine r_ild2 (pc := 32) dX2_other_32 ?_
      refine r_iret (pc := 33) dX2_other_33 ?_
      exact ⟨i, _, e4, by omega, fun q => h19 (by rw [q]), rfl, q5, hwe.1⟩
    · skip
      have e6 : than = some i := by
        cases hth : than with
        | none => rw [hth] at h19; exact absurd (show nI i = -1 from h19.trans iI_n1) (nI_n1 (by omega))
        | some j =>
          have hj := ht j hth
          rw [hth] at h19
          have h19 : nI i = nI j := h19
          rw [nI_iI, nI_iI, iI_eq (by constructor <;> omega) (by constructor <;> omega)] at h19
          congr 1; omega
      have e5 : ∃ k p, (oneP f n T a = .error (k, p) ∨ ∃ i b, oneP f n T a = .ok (i, b) ∧ than = some i ∧ k = 3 ∧ p = skip f n a) ∧ XE M o k p (o + 6) (flM M1 o 3 (skip f n a)) := ⟨3, skip f n a, Or.inr ⟨i, _, e4, e6, rfl, rfl⟩, XE.fl q5.1⟩
      refine r_ald0 (pc := 22) dX2_other_22 ?_
      refine r_iconst (v := nI 3) (pc := 23) dX2_other_23 (by decide) ?_
      refine r_ald0 (pc := 24) dX2_other_24 ?_
      refine r_getI' (pc := 25) dX2_other_25 fl_X2_61 r71 q6 ?_
      refine r_cV (ci := 2) (pc := 28) dX2_other_28 cv_X2_47 r71 (ct_X2_wrong (k := 3) hR) rfl rfl (Nat.le_of_ble_eq_true rfl) (by decide) ?_
      rintro _ M2 ⟨rfl, e9⟩
      rw [e9]
      exact r_athrow (pc := 31) dX2_other_31 r11 e5
end X81
