set_option maxRecDepth 100000
/-! THE READER: a name -/
theorem fndW_no {L : List (List Nat)} {w : List Nat} : ∀ k i, fndW L w k i = none → ∀ j, i ≤ j → j < i + k → L.getD j [] ≠ w
  | 0, i, _, j, h1, h2 => by omega
  | k + 1, i, h, j, h1, h2 => by
    by_cases e : L.getD i [] = w
    · rw [show fndW L w (k + 1) i = some i from if_pos e] at h; cases h
    · rw [show fndW L w (k + 1) i = fndW L w k (i + 1) from if_neg e] at h
      by_cases e2 : j = i
      · rw [e2]; exact e
      · exact fndW_no k (i + 1) h j (by omega) (by omega)
theorem fndW_at {L : List (List Nat)} {w : List Nat} : ∀ k i j, fndW L w k i = some j → L.getD j [] = w
  | 0, i, j, h => by cases h
  | k + 1, i, j, h => by
    by_cases e : L.getD i [] = w
    · rw [show fndW L w (k + 1) i = some i from if_pos e] at h; cases h; exact e
    · rw [show fndW L w (k + 1) i = fndW L w k (i + 1) from if_neg e] at h
      exact fndW_at k (i + 1) j h
theorem fndW_mem {L : List (List Nat)} {w : List Nat} : fndW L w L.length 0 = none ↔ w ∉ L := by
  constructor
  · intro h hm
    obtain ⟨j, hj, e⟩ := List.mem_iff_getElem.mp hm
    have := fndW_no L.length 0 h j (Nat.zero_le _) (by omega)
    rw [List.getD_eq_getElem?_getD, List.getElem?_eq_getElem hj] at this
    exact this e
  · intro h
    cases hf : fndW L w L.length 0 with
    | none => rfl
    | some j =>
      exfalso
      have h1 := fndW_at L.length 0 j hf
      have h2 := (fndW_lt L.length 0 j hf).2
      rw [List.getD_eq_getElem?_getD, List.getElem?_eq_getElem (by omega)] at h1
      exact h (h1 ▸ List.getElem_mem _)
/-- a name in letters -/
def nmZ (w : List Nat) : List Nat := w.map (fun c => c - 96)
theorem nmP_w {f : Nat → Nat} {n p : Nat} {w : List Nat} (hw : word f n p = some w) : nmP f n p = if w ∈ ownW then .error (1, p) else if w.length ≤ 6 then .ok (nmZ w, p + w.length) else .error (1, p + 6) := by
  unfold nmP
  rw [hw]
  show (if w ∈ ownW then (.error (1, p) : Pz (List Nat × Nat)) else nmL f (n - p) p []) = _
  by_cases e : w ∈ ownW
  · rw [if_pos e, if_pos e]
  rw [if_neg e, if_neg e, nmL_lts f (n - p) p [] (by decide), (word_some hw).2.2.2]
  simp only [List.length_nil, Nat.zero_add, List.nil_append, Nat.sub_zero]
  rfl
section X79
variable {g : GC} {M : MM} {o n a : Nat} {f : Nat → Nat}
/-- a name was read -/
def NMQ (M : MM) (o p : Nat) (f : Nat → Nat) (n : Nat) : Option Value → MM → Prop := fun v M' => ∃ w z, word f n p = some w ∧ w.length ≤ 6 ∧ nmP f n p = .ok (nmZ w, p + w.length) ∧ v = some (.ref z) ∧ WD M o p w z M'
def NMX (M : MM) (o p : Nat) (f : Nat → Nat) (n : Nat) : Nat → MM → Prop := fun q M' => ∃ k l, nmP f n p = .error (k, l) ∧ XE M o k l q M'
theorem ct_X2_name (W : RW g M o n f) (ha : a ≤ n) (hA : mI M (o + 5) 2 = nI a) : Ct g yX2_name cX2_name 2 (some ((Jvm.ClassFile.FieldType.object "java/lang/String"))) 12 (3) (2564) [.ref (o + 5)] M (NMQ M o (skip f n a) f n) (NMX M o (skip f n a) f n) := by
  have h := W.1
  have hg := h.1
  have hc := W.c
  have hn := W.2.1
  have r7 := h.2.2.2.2.2.2.2.1.1
  have hsl := skip_le (f := f) ha
  have hlw := lts_le f (n - skip f n a) (skip f n a)
  refine Ct.of (by decide) (Nat.le_of_ble_eq_true rfl) rfl ?_
  refine r_ald0 (pc := 0) dX2_name_0 ?_
  refine r_cVx (ci := 2) (pc := 1) (kc' := 0) (ks' := 0) dX2_name_1 cv_X2_70 r7 (ct_X2_word_2 h hc ha hA) rfl rfl (Nat.le_of_ble_eq_true rfl) (by decide) (by omega) (by omega) (fun q M' hx => ⟨1, skip f n a, by unfold nmP; rw [hx.1], hx.2⟩) ?_
  rintro _ M1 ⟨w, z, hw, rfl, q1, q2, q3, q4, q5, q6⟩
  have W1 := W.fr q5.1
  have hR := W1.1
  have r71 := hR.2.2.2.2.2.2.2.1.1
  have r11 := hR.2.2.2.2.2.2.2.2.1
  obtain ⟨t, t1, t2, t3⟩ := W1.2.2.2.2 ("OWN", ownW) (by decide)
  have hfd := ct_X0_find (g := g) hc t3 q2
  have hwe := (word_end hw).1
  have en := nmP_w hw
  refine r_ast1 (pc := 4) dX2_name_4 ?_
  refine r_ald1 (pc := 5) dX2_name_5 ?_
  refine r_getsNn (pc := 6) dX2_name_6 (hg _ q745 rfl) t1 ?_
  refine r_cSN (pc := 9) dX2_name_9 (csn_X2_82 hg) hfd rfl rfl (Nat.le_of_ble_eq_true rfl) (by decide) ?_
  rintro _ M8 ⟨rfl, e8⟩
  rw [e8]
  refine r_iconst (v := -1) (pc := 12) dX2_name_12 (by decide) ?_
  refine r_icmp_eq (pc := 13) (tgt := 26) dX2_name_13 (by decide) (fun h13 => ?_) (fun h13 => ?_)
  · skip
    have hno : w ∉ ownW := by
      refine fndW_mem.1 ?_
      cases hf : fndW ownW w ownW.length 0 with
      | none => rfl
      | some j => rw [hf] at h13; exact absurd h13 (nI_n1 (by have := (fndW_lt _ _ _ hf).2; have e25 : ownW.length = 25 := rfl; omega))
    refine r_ald1 (pc := 26) dX2_name_26 ?_
    refine r_cV (ci := 22) (pc := 27) dX2_name_27 cv_X2_86 q2.k (ct_J6_length hc q2) rfl rfl (Nat.le_of_ble_eq_true rfl) (by decide) ?_
    rintro _ M7 ⟨rfl, e7⟩
    rw [e7]
    refine r_bipush (v := nI 6) (pc := 30) dX2_name_30 (by decide) ?_
    first | refine r_icmp_leN (pc := 32) (tgt := 48) dX2_name_32 (by decide) (by omega) (by omega) (fun h32 => ?_) (fun h32 => ?_) | refine r_icmp_le (pc := 32) (tgt := 48) dX2_name_32 (by decide) (fun h32 => ?_) (fun h32 => ?_)
    · skip
      refine r_ald1 (pc := 48) dX2_name_48 ?_
      refine r_aretR (pc := 49) dX2_name_49 ?_
      exact ⟨w, z, hw, by omega, by rw [en, if_neg hno, if_pos (by omega)], rfl, q1, q2, q3, q4, q5, q6⟩
    · skip
      refine r_ald0 (pc := 35) dX2_name_35 ?_
      refine r_iconst (v := nI 1) (pc := 36) dX2_name_36 (by decide) ?_
      refine r_ald0 (pc := 37) dX2_name_37 ?_
      refine r_getI' (pc := 38) dX2_name_38 fl_X2_61 r71 q6 ?_
      refine r_bipush (v := nI 6) (pc := 41) dX2_name_41 (by decide) ?_
      first | refine r_iaddN (pc := 43) dX2_name_43 ?_ | refine r_iaddJ (pc := 43) dX2_name_43 ?_ | refine r_iadd (pc := 43) dX2_name_43 ?_
      refine r_cV (ci := 2) (pc := 44) dX2_name_44 cv_X2_47 r71 (ct_X2_wrong (k := 1) hR) rfl rfl (Nat.le_of_ble_eq_true rfl) (by decide) ?_
      rintro _ M2 ⟨rfl, e2⟩
      rw [e2]
      exact r_athrow (pc := 47) dX2_name_47 r11 ⟨1, skip f n a + 6, by rw [en, if_neg hno, if_neg (by omega)], XE.fl q5.1⟩
  · skip
    have hin : w ∈ ownW := by
      refine Classical.byContradiction fun q => h13 ?_
      rw [fndW_mem.2 q]; exact iI_n1
    refine r_ald0 (pc := 16) dX2_name_16 ?_
    refine r_iconst (v := nI 1) (pc := 17) dX2_name_17 (by decide) ?_
    refine r_ald0 (pc := 18) dX2_name_18 ?_
    refine r_getI' (pc := 19) dX2_name_19 fl_X2_61 r71 q6 ?_
    refine r_cV (ci := 2) (pc := 22) dX2_name_22 cv_X2_47 r71 (ct_X2_wrong (k := 1) hR) rfl rfl (Nat.le_of_ble_eq_true rfl) (by decide) ?_
    rintro _ M2 ⟨rfl, e2⟩
    rw [e2]
    exact r_athrow (pc := 25) dX2_name_25 r11 ⟨1, skip f n a, by rw [en, if_pos hin], XE.fl q5.1⟩
end X79
