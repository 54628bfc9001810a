set_option maxRecDepth 100000
/-! QUESTIONS: what is found, moment by moment -/
theorem rpn_c3 {env env' : Nat → Int} {ofn : Nat → Int → Int} (he : ∀ k, alwQ 3 k = true → k < 11 → env k = env' k) : ∀ (cs : List Nat) (vs : List Int), okX 3 cs → rpn env ofn cs vs = rpn env' ofn cs vs
  | [], _, _ => rfl
  | c :: cs, vs, h => by
    have h1 : stp env ofn c vs = stp env' ofn c vs := by
      unfold stp
      rcases h c List.mem_cons_self with q | ⟨q1, q2, q3⟩ | ⟨-, q⟩
      · by_cases h1 : 1000 ≤ c
        · rw [if_pos h1, if_pos h1]
        · simp only [if_neg h1, if_neg (show ¬ 60 ≤ c by omega), if_neg (show ¬ 40 ≤ c by omega)]
      · simp only [if_neg (show ¬ 1000 ≤ c by omega), if_neg (show ¬ 60 ≤ c by omega), if_pos q1, he _ q3 (by omega)]
      · simp only [if_neg (show ¬ 1000 ≤ c by omega), if_pos (show 60 ≤ c by omega)]
    show rpn env ofn cs (stp env ofn c vs) = rpn env' ofn cs (stp env' ofn c vs)
    rw [h1]
    exact rpn_c3 he cs _ (fun d hd => h d (List.mem_cons_of_mem _ hd))
/-- what the question holds when the answer so far, behind i moments, is ans -/
def FH (k : Nat) (ans : Int) (i : Nat) (F : Int) (h : Bool) : Prop := (k < 2 ∧ F = ans ∧ (k = 0 → (h = true ↔ ans ≠ -1))) ∨ (k = 2 ∧ ((h = false ∧ ans = 0 ∧ F = -1) ∨ (h = true ∧ 1 ≤ ans ∧ F = ans))) ∨ (3 ≤ k ∧ ((h = false ∧ i = 0 ∧ ans = 0 ∧ F = -1) ∨ (h = true ∧ 0 < i ∧ F = ans)))
theorem FH.zero {k : Nat} : FH k (if k < 2 then -1 else 0) 0 (-1) false := by
  unfold FH
  by_cases h : k < 2
  · rw [if_pos h]; exact Or.inl ⟨h, rfl, fun _ => by simp⟩
  · rw [if_neg h]
    by_cases h2 : k = 2
    · exact Or.inr (Or.inl ⟨h2, Or.inl ⟨rfl, rfl, rfl⟩⟩)
    · exact Or.inr (Or.inr ⟨by omega, Or.inl ⟨rfl, rfl, rfl, rfl⟩⟩)
/-- what a moment that is met makes of it -/
def mtF (k : Nat) (F : Int) (h : Bool) (v : Int) (i : Nat) : Int := if k < 3 then (if v = 1 then (if k = 2 then (if F ≤ 0 then 0 else F) + 1 else if k = 0 ∧ h = true then F else (i : Int)) else F) else if h = false then v else if k = 3 then F + v else if k = 4 then (if v ≤ F then F else v) else (if F ≤ v then F else v)
def mtH (k : Nat) (h : Bool) (v : Int) : Bool := if k < 3 then (if v = 1 then true else h) else true
theorem FH.step {k i : Nat} {ans F v : Int} {h : Bool} (hF : FH k ans i F h) (hk : k < 6) (hv : k < 3 → v = 0 ∨ v = 1) : FH k (stpA1 k ans v i) (i + 1) (mtF k F h v i) (mtH k h v) := by
  unfold FH at hF ⊢
  rcases hF with ⟨h1, h2, h3⟩ | ⟨h1, h2⟩ | ⟨h1, h2⟩
  · refine Or.inl ⟨h1, ?_, ?_⟩
    · unfold mtF stpA1
      have h12 : k = 0 ∨ k = 1 := by omega
      rcases h12 with rfl | rfl
      · have h3 := h3 rfl
        cases h with
        | true => simp at h3; simp [h2, h3]
        | false => simp at h3; simp [h2, h3]
      · simp [h2]
    · intro h0
      subst h0
      have h3 := h3 rfl
      unfold mtH stpA1
      rcases hv (by decide) with rfl | rfl
      · simpa using h3
      · cases h with
        | true => simp at h3; simp [h3]
        | false => simp at h3; simp [h3]
  · subst h1
    refine Or.inr (Or.inl ⟨rfl, ?_⟩)
    unfold mtF mtH stpA1
    rcases hv (by decide) with rfl | rfl
    · rcases h2 with ⟨rfl, rfl, rfl⟩ | ⟨rfl, h3, rfl⟩
      · exact Or.inl ⟨rfl, rfl, rfl⟩
      · refine Or.inr ⟨rfl, ?_, ?_⟩
        · show 1 ≤ F; exact h3
        · rfl
    · rcases h2 with ⟨rfl, rfl, rfl⟩ | ⟨rfl, h3, rfl⟩
      · exact Or.inr ⟨rfl, (by show (1 : Int) ≤ 0 + 1; decide), (by show ((if (-1 : Int) ≤ 0 then 0 else -1) + 1 : Int) = 0 + 1; decide)⟩
      · refine Or.inr ⟨rfl, ?_, ?_⟩
        · show 1 ≤ F + 1; omega
        · show (if F ≤ 0 then 0 else F) + 1 = F + 1
          rw [if_neg (by omega)]
  · refine Or.inr (Or.inr ⟨h1, Or.inr ⟨?_, by omega, ?_⟩⟩)
    · unfold mtH; rw [if_neg (by omega)]
    · have h345 : k = 3 ∨ k = 4 ∨ k = 5 := by omega
      rcases h345 with rfl | rfl | rfl
      · rcases h2 with ⟨rfl, rfl, rfl, rfl⟩ | ⟨rfl, h3, rfl⟩
        · show v = 0 + v; omega
        · rfl
      · rcases h2 with ⟨rfl, rfl, rfl, rfl⟩ | ⟨rfl, h3, rfl⟩
        · show v = (if (0 : Nat) = 0 ∨ (0 : Int) < v then v else 0)
          rw [if_pos (Or.inl rfl)]
        · show (if v ≤ F then F else v) = (if i = 0 ∨ F < v then v else F)
          by_cases e : v ≤ F
          · rw [if_pos e, if_neg (by omega)]
          · rw [if_neg e, if_pos (by omega)]
      · rcases h2 with ⟨rfl, rfl, rfl, rfl⟩ | ⟨rfl, h3, rfl⟩
        · show v = (if (0 : Nat) = 0 ∨ v < (0 : Int) then v else 0)
          rw [if_pos (Or.inl rfl)]
        · show (if F ≤ v then F else v) = (if i = 0 ∨ v < F then v else F)
          by_cases e : F ≤ v
          · rw [if_pos e, if_neg (by omega)]
          · rw [if_neg e, if_pos (by omega)]
theorem FH.ans {k i : Nat} {ans F : Int} {h : Bool} (hF : FH k ans i F h) : (if h = true ∨ k < 2 then F else 0) = ans := by
  rcases hF with ⟨h1, h2, -⟩ | ⟨h1, ⟨h2, h3, h4⟩ | ⟨h2, h3, h4⟩⟩ | ⟨h1, ⟨h2, h3, h4, h5⟩ | ⟨h2, h3, h4⟩⟩
  · rw [if_pos (Or.inr h1)]; exact h2
  · rw [if_neg (by rintro (q | q); rw [h2] at q; cases q; omega)]; exact h3.symm
  · rw [if_pos (Or.inl h2)]; exact h4
  · rw [if_neg (by rintro (q | q); rw [h2] at q; cases q; omega)]; exact h4.symm
  · rw [if_pos (Or.inl h2)]; exact h4
theorem FH.b {k i : Nat} {ans F : Int} {h : Bool} (hF : FH k ans i F h) (hi : i ≤ 8) (hb : -((i : Int) * 1000000) - 1 ≤ ans ∧ ans ≤ (i : Int) * 1000000 + 10) : b62 (F + 2000000000000) ∧ b62 (F - 2000000000000) := by
  have : F = ans ∨ F = -1 := by
    rcases hF with ⟨h1, h2, -⟩ | ⟨h1, ⟨h2, h3, h4⟩ | ⟨h2, h3, h4⟩⟩ | ⟨h1, ⟨h2, h3, h4, h5⟩ | ⟨h2, h3, h4⟩⟩
    · exact Or.inl h2
    · exact Or.inr h4
    · exact Or.inl h4
    · exact Or.inr h5
    · exact Or.inl h4
  constructor <;> constructor <;> omega
/-- the question in the memory: found F, has h -/
def QSF (G : MM) (zq k : Nat) (F : Int) (h : Bool) : Prop := mK G zq = 39 ∧ mI G zq 0 = nI k ∧ k < 6 ∧ mL G zq 3 = lI F ∧ mI G zq 4 = zI (h = true) ∧ b62 (F + 2000000000000) ∧ b62 (F - 2000000000000)
section Mt
variable {k i : Nat} {F v : Int} {h : Bool}
theorem mtT2 (hk : k = 2) (hv : v = 1) : mtF k F h v i = (if F ≤ 0 then 0 else F) + 1 := by subst hk; subst hv; rfl
theorem mtT0 (hk : k = 0) (hh : h = true) (hv : v = 1) : mtF k F h v i = F := by subst hk; subst hv; subst hh; rfl
theorem mtTi (hk : k = 1 ∨ (k = 0 ∧ ¬ h = true)) (hv : v = 1) : mtF k F h v i = (i : Int) := by
  subst hv
  rcases hk with rfl | ⟨rfl, hh⟩
  · rfl
  · cases h with
    | true => exact absurd rfl hh
    | false => rfl
theorem mtV0 (hk : 3 ≤ k) (hh : ¬ h = true) : mtF k F h v i = v := by
  unfold mtF
  rw [if_neg (by omega), if_pos (by cases h with | true => exact absurd rfl hh | false => rfl)]
theorem mtV3 (hk : k = 3) (hh : h = true) : mtF k F h v i = F + v := by subst hk; subst hh; rfl
theorem mtV4 (hk : k = 4) (hh : h = true) : mtF k F h v i = if v ≤ F then F else v := by subst hk; subst hh; rfl
theorem mtV5 (hk : k ≠ 4) (hk3 : 3 ≤ k) (hk2 : k ≠ 3) (hh : h = true) : mtF k F h v i = if F ≤ v then F else v := by
  unfold mtF
  rw [if_neg (by omega), if_neg (by rw [hh]; decide), if_neg hk2, if_neg hk]
end Mt
section X95
variable {g : GC} {G : MM} {zq k i mo t D : Nat} {F v : Int} {h : Bool}
theorem ct_X19_answer (hq : QSF G zq k F h) : Ct g yX19_answer cX19_answer 1 (some Jvm.ClassFile.FieldType.long) 0 0 0 [.ref zq] G (PQ G (.long (lI (if h = true ∨ k < 2 then F else 0)))) noX := by
  obtain ⟨q1, q2, q3, q4, q5, -⟩ := hq
  refine Ct.of (by decide) (Nat.le_of_ble_eq_true rfl) rfl ?_
  refine r_ald0 (pc := 0) dX19_answer_0 ?_
  refine r_getI' (pc := 1) dX19_answer_1 fl_X19_41 q1 q5 ?_
  first | refine r_if_neZ (pc := 4) (tgt := 15) dX19_answer_4 (by decide) (fun h4 => ?_) (fun h4 => ?_) | refine r_if_neN (pc := 4) (tgt := 15) dX19_answer_4 (by decide) (by omega) (fun h4 => ?_) (fun h4 => ?_) | refine r_if_ne (pc := 4) (tgt := 15) dX19_answer_4 (by decide) (fun h4 => ?_) (fun h4 => ?_)
  · skip
    refine r_ald0 (pc := 15) dX19_answer_15 ?_
    refine r_getL (pc := 16) dX19_answer_16 fl_X19_11 q1 ?_
    rw [q4]
    refine r_goto (pc := 19) (tgt := 23) dX19_answer_19 (by decide) ?_
    refine r_lret (pc := 23) dX19_answer_23 ?_
    exact ⟨by first | (rw [if_pos (Or.inl h4)]; done) | (rw [if_pos (Or.inr (by omega))]; done) | rw [if_neg (by rintro (q | q); exact h4 q; omega)], rfl⟩
  · skip
    refine r_ald0 (pc := 7) dX19_answer_7 ?_
    refine r_getI' (pc := 8) dX19_answer_8 fl_X19_17 q1 q2 ?_
    refine r_iconst (v := nI 2) (pc := 11) dX19_answer_11 (by decide) ?_
    first | refine r_icmp_geN (pc := 12) (tgt := 22) dX19_answer_12 (by decide) (by omega) (by omega) (fun h12 => ?_) (fun h12 => ?_) | refine r_icmp_ge (pc := 12) (tgt := 22) dX19_answer_12 (by decide) (fun h12 => ?_) (fun h12 => ?_)
    · skip
      refine r_lconst (v := lI 0) (pc := 22) dX19_answer_22 rfl ?_
      refine r_lret (pc := 23) dX19_answer_23 ?_
      exact ⟨by first | (rw [if_pos (Or.inl h4)]; done) | (rw [if_pos (Or.inr (by omega))]; done) | rw [if_neg (by rintro (q | q); exact h4 q; omega)], rfl⟩
    · skip
      refine r_ald0 (pc := 15) dX19_answer_15 ?_
      refine r_getL (pc := 16) dX19_answer_16 fl_X19_11 q1 ?_
      rw [q4]
      refine r_goto (pc := 19) (tgt := 23) dX19_answer_19 (by decide) ?_
      refine r_lret (pc := 23) dX19_answer_23 ?_
      exact ⟨by first | (rw [if_pos (Or.inl h4)]; done) | (rw [if_pos (Or.inr (by omega))]; done) | rw [if_neg (by rintro (q | q); exact h4 q; omega)], rfl⟩
theorem meetsT (hg : GX g) (hb : gb g ≤ zq) (hq : QSF G zq k F h) (hk : k < 3) (ht : mR G zq 1 = some t) (hH : HO g G D t mo (.int (zI (v = 1)))) (hv : v = 0 ∨ v = 1) (hi : i < 100) (hD : D = 420) : Ct g yX19_meets cX19_meets 5 none 430 0 0 [.ref zq, .int (nI i), .ref mo] G (fun r M' => r = none ∧ ((v = 1 ∧ M' = sI (sL G zq 3 (lI (mtF k F h v i))) zq 4 (nI 1)) ∨ (v = 0 ∧ M' = G))) noX := by
  obtain ⟨q1, q2, q3, q4, q5, q6, q7⟩ := hq
  have hkk : k = 0 ∨ k = 1 ∨ k = 2 := by omega
  refine Ct.of (by decide) (Nat.le_of_ble_eq_true rfl) rfl ?_
  refine r_ald0 (pc := 0) dX19_meets_0 ?_
  refine r_getI' (pc := 1) dX19_meets_1 fl_X19_17 q1 q2 ?_
  refine r_iconst (v := nI 3) (pc := 4) dX19_meets_4 (by decide) ?_
  first | refine r_icmp_geN (pc := 5) (tgt := 74) dX19_meets_5 (by decide) (by omega) (by omega) (fun h5 => ?_) (fun h5 => ?_) | refine r_icmp_ge (pc := 5) (tgt := 74) dX19_meets_5 (by decide) (fun h5 => ?_) (fun h5 => ?_)
  · skip
    exact absurd h5 (by omega)
  · skip
    refine r_ald0 (pc := 8) dX19_meets_8 ?_
    refine r_getR (pc := 9) dX19_meets_9 fl_X19_21 q1 ht ?_
    refine r_ald2 (pc := 12) dX19_meets_12 ?_
    refine r_ho_X19_29 (pc := 13) hg rfl dX19_meets_13 hH (Nat.le_of_ble_eq_true rfl) (by omega) ?_
    first | refine r_if_neZ (pc := 16) (tgt := 20) dX19_meets_16 (by decide) (fun h16 => ?_) (fun h16 => ?_) | refine r_if_neN (pc := 16) (tgt := 20) dX19_meets_16 (by decide) (by omega) (fun h16 => ?_) (fun h16 => ?_) | refine r_if_ne (pc := 16) (tgt := 20) dX19_meets_16 (by decide) (fun h16 => ?_) (fun h16 => ?_)
    · skip
      refine r_ald0 (pc := 20) dX19_meets_20 ?_
      refine r_ald0 (pc := 21) dX19_meets_21 ?_
      refine r_getI' (pc := 22) dX19_meets_22 fl_X19_17 q1 q2 ?_
      refine r_iconst (v := nI 2) (pc := 25) dX19_meets_25 (by decide) ?_
      first | refine r_icmp_neN (pc := 26) (tgt := 42) dX19_meets_26 (by decide) (by omega) (by omega) (fun h26 => ?_) (fun h26 => ?_) | refine r_icmp_ne (pc := 26) (tgt := 42) dX19_meets_26 (by decide) (fun h26 => ?_) (fun h26 => ?_)
      · skip
        refine r_ald0 (pc := 42) dX19_meets_42 ?_
        refine r_getI' (pc := 43) dX19_meets_43 fl_X19_17 q1 q2 ?_
        first | refine r_if_neZ (pc := 46) (tgt := 63) dX19_meets_46 (by decide) (fun h46 => ?_) (fun h46 => ?_) | refine r_if_neN (pc := 46) (tgt := 63) dX19_meets_46 (by decide) (by omega) (fun h46 => ?_) (fun h46 => ?_) | refine r_if_ne (pc := 46) (tgt := 63) dX19_meets_46 (by decide) (fun h46 => ?_) (fun h46 => ?_)
        · skip
          refine r_ild1 (pc := 63) dX19_meets_63 ?_
          first | refine r_i2lM (pc := 64) dX19_meets_64 (by omega) ?_ | refine r_i2lI (pc := 64) dX19_meets_64 (by constructor <;> omega) ?_ | refine r_i2lT (pc := 64) dX19_meets_64 ?_
          refine r_putL (pc := 65) (ty := .long) dX19_meets_65 fl_X19_11 fw_X19_3 rfl rfl q1 hb ?_
          refine r_ald0 (pc := 68) dX19_meets_68 ?_
          refine r_iconst (v := nI 1) (pc := 69) dX19_meets_69 (by decide) ?_
          refine r_putI (pc := 70) (ty := .boolean) dX19_meets_70 fl_X19_41 fw_X19_4 rfl rfl q1 hb ?_
          refine r_vret (pc := 73) dX19_meets_73 ?_
          refine ⟨rfl, Or.inl ⟨by omega, ?_⟩⟩
          first | rw [mtT2 (by omega) (by omega)] | rw [mtT0 (by omega) (by assumption) (by omega)] | rw [mtTi (by first | exact Or.inl (by omega) | exact Or.inr ⟨by omega, by assumption⟩) (by omega)]
        · skip
          refine r_ald0 (pc := 49) dX19_meets_49 ?_
          refine r_getI' (pc := 50) dX19_meets_50 fl_X19_41 q1 q5 ?_
          first | refine r_if_eqZ (pc := 53) (tgt := 63) dX19_meets_53 (by decide) (fun h53 => ?_) (fun h53 => ?_) | refine r_if_eqN (pc := 53) (tgt := 63) dX19_meets_53 (by decide) (by omega) (fun h53 => ?_) (fun h53 => ?_) | refine r_if_eq (pc := 53) (tgt := 63) dX19_meets_53 (by decide) (fun h53 => ?_) (fun h53 => ?_)
          · skip
            refine r_ild1 (pc := 63) dX19_meets_63 ?_
            first | refine r_i2lM (pc := 64) dX19_meets_64 (by omega) ?_ | refine r_i2lI (pc := 64) dX19_meets_64 (by constructor <;> omega) ?_ | refine r_i2lT (pc := 64) dX19_meets_64 ?_
            refine r_putL (pc := 65) (ty := .long) dX19_meets_65 fl_X19_11 fw_X19_3 rfl rfl q1 hb ?_
            refine r_ald0 (pc := 68) dX19_meets_68 ?_
            refine r_iconst (v := nI 1) (pc := 69) dX19_meets_69 (by decide) ?_
            refine r_putI (pc := 70) (ty := .boolean) dX19_meets_70 fl_X19_41 fw_X19_4 rfl rfl q1 hb ?_
            refine r_vret (pc := 73) dX19_meets_73 ?_
            refine ⟨rfl, Or.inl ⟨by omega, ?_⟩⟩
            first | rw [mtT2 (by omega) (by omega)] | rw [mtT0 (by omega) (by assumption) (by omega)] | rw [mtTi (by first | exact Or.inl (by omega) | exact Or.inr ⟨by omega, by assumption⟩) (by omega)]
          · skip
            refine r_ald0 (pc := 56) dX19_meets_56 ?_
            refine r_getL (pc := 57) dX19_meets_57 fl_X19_11 q1 ?_
            rw [q4]
            refine r_goto (pc := 60) (tgt := 65) dX19_meets_60 (by decide) ?_
            refine r_putL (pc := 65) (ty := .long) dX19_meets_65 fl_X19_11 fw_X19_3 rfl rfl q1 hb ?_
            refine r_ald0 (pc := 68) dX19_meets_68 ?_
            refine r_iconst (v := nI 1) (pc := 69) dX19_meets_69 (by decide) ?_
            refine r_putI (pc := 70) (ty := .boolean) dX19_meets_70 fl_X19_41 fw_X19_4 rfl rfl q1 hb ?_
            refine r_vret (pc := 73) dX19_meets_73 ?_
            refine ⟨rfl, Or.inl ⟨by omega, ?_⟩⟩
            first | rw [mtT2 (by omega) (by omega)] | rw [mtT0 (by omega) (by assumption) (by omega)] | rw [mtTi (by first | exact Or.inl (by omega) | exact Or.inr ⟨by omega, by assumption⟩) (by omega)]
      · skip
        refine r_lconst (v := lI 0) (pc := 29) dX19_meets_29 rfl ?_
        refine r_ald0 (pc := 30) dX19_meets_30 ?_
        refine r_getL (pc := 31) dX19_meets_31 fl_X19_11 q1 ?_
        rw [q4]
        refine r_cS (pc := 34) dX19_meets_34 cs_X19_35 (ct_J12_max_2 (a := 0) (b := F) (by constructor <;> decide) (by constructor <;> omega)) rfl rfl (Nat.le_of_ble_eq_true rfl) (by first | decide | omega) ?_
        rintro _ _ ⟨rfl, rfl⟩
        refine r_lconst (v := lI 1) (pc := 37) dX19_meets_37 rfl ?_
        first | refine r_laddI (pc := 38) dX19_meets_38 ?_ | refine r_ladd (pc := 38) dX19_meets_38 ?_
        refine r_goto (pc := 39) (tgt := 65) dX19_meets_39 (by decide) ?_
        refine r_putL (pc := 65) (ty := .long) dX19_meets_65 fl_X19_11 fw_X19_3 rfl rfl q1 hb ?_
        refine r_ald0 (pc := 68) dX19_meets_68 ?_
        refine r_iconst (v := nI 1) (pc := 69) dX19_meets_69 (by decide) ?_
        refine r_putI (pc := 70) (ty := .boolean) dX19_meets_70 fl_X19_41 fw_X19_4 rfl rfl q1 hb ?_
        refine r_vret (pc := 73) dX19_meets_73 ?_
        refine ⟨rfl, Or.inl ⟨by omega, ?_⟩⟩
        first | rw [mtT2 (by omega) (by omega)] | rw [mtT0 (by omega) (by assumption) (by omega)] | rw [mtTi (by first | exact Or.inl (by omega) | exact Or.inr ⟨by omega, by assumption⟩) (by omega)]
    · skip
      refine r_vret (pc := 19) dX19_meets_19 ?_
      exact ⟨rfl, Or.inr ⟨by omega, rfl⟩⟩
theorem meetsV (hg : GX g) (hb : gb g ≤ zq) (hq : QSF G zq k F h) (hk : 3 ≤ k) (ht : mR G zq 2 = some t) (hA : AT g G D t mo (.long (lI v))) (hv : b6 v) (hi : i < 100) (hD : D = 410) : Ct g yX19_meets cX19_meets 5 none 430 0 0 [.ref zq, .int (nI i), .ref mo] G (fun r M' => r = none ∧ M' = sI (sL G zq 3 (lI (mtF k F h v i))) zq 4 (nI 1)) noX := by
  obtain ⟨q1, q2, q3, q4, q5, q6, q7⟩ := hq
  refine Ct.of (by decide) (Nat.le_of_ble_eq_true rfl) rfl ?_
  refine r_ald0 (pc := 0) dX19_meets_0 ?_
  refine r_getI' (pc := 1) dX19_meets_1 fl_X19_17 q1 q2 ?_
  refine r_iconst (v := nI 3) (pc := 4) dX19_meets_4 (by decide) ?_
  first | refine r_icmp_geN (pc := 5) (tgt := 74) dX19_meets_5 (by decide) (by omega) (by omega) (fun h5 => ?_) (fun h5 => ?_) | refine r_icmp_ge (pc := 5) (tgt := 74) dX19_meets_5 (by decide) (fun h5 => ?_) (fun h5 => ?_)
  · skip
    refine r_ald0 (pc := 74) dX19_meets_74 ?_
    refine r_getR (pc := 75) dX19_meets_75 fl_X19_25 q1 ht ?_
    refine r_ald2 (pc := 78) dX19_meets_78 ?_
    refine r_at_X19_45 (pc := 79) hg rfl dX19_meets_79 hA (Nat.le_of_ble_eq_true rfl) (by omega) ?_
    refine r_lst3 (pc := 82) dX19_meets_82 ?_
    refine r_ald0 (pc := 83) dX19_meets_83 ?_
    refine r_ald0 (pc := 84) dX19_meets_84 ?_
    refine r_getI' (pc := 85) dX19_meets_85 fl_X19_41 q1 q5 ?_
    first | refine r_if_neZ (pc := 88) (tgt := 95) dX19_meets_88 (by decide) (fun h88 => ?_) (fun h88 => ?_) | refine r_if_neN (pc := 88) (tgt := 95) dX19_meets_88 (by decide) (by omega) (fun h88 => ?_) (fun h88 => ?_) | refine r_if_ne (pc := 88) (tgt := 95) dX19_meets_88 (by decide) (fun h88 => ?_) (fun h88 => ?_)
    · skip
      refine r_ald0 (pc := 95) dX19_meets_95 ?_
      refine r_getI' (pc := 96) dX19_meets_96 fl_X19_17 q1 q2 ?_
      refine r_iconst (v := nI 3) (pc := 99) dX19_meets_99 (by decide) ?_
      first | refine r_icmp_neN (pc := 100) (tgt := 112) dX19_meets_100 (by decide) (by omega) (by omega) (fun h100 => ?_) (fun h100 => ?_) | refine r_icmp_ne (pc := 100) (tgt := 112) dX19_meets_100 (by decide) (fun h100 => ?_) (fun h100 => ?_)
      · skip
        refine r_ald0 (pc := 112) dX19_meets_112 ?_
        refine r_getI' (pc := 113) dX19_meets_113 fl_X19_17 q1 q2 ?_
        refine r_iconst (v := nI 4) (pc := 116) dX19_meets_116 (by decide) ?_
        first | refine r_icmp_neN (pc := 117) (tgt := 131) dX19_meets_117 (by decide) (by omega) (by omega) (fun h117 => ?_) (fun h117 => ?_) | refine r_icmp_ne (pc := 117) (tgt := 131) dX19_meets_117 (by decide) (fun h117 => ?_) (fun h117 => ?_)
        · skip
          refine r_ald0 (pc := 131) dX19_meets_131 ?_
          refine r_getL (pc := 132) dX19_meets_132 fl_X19_11 q1 ?_
          rw [q4]
          refine r_lld3 (pc := 135) dX19_meets_135 ?_
          refine r_cS (pc := 136) dX19_meets_136 cs_X19_51 (ct_J12_min_2 (a := F) (b := v) (by constructor <;> omega) (by constructor <;> omega)) rfl rfl (Nat.le_of_ble_eq_true rfl) (by first | decide | omega) ?_
          rintro _ _ ⟨rfl, rfl⟩
          refine r_putL (pc := 139) (ty := .long) dX19_meets_139 fl_X19_11 fw_X19_3 rfl rfl q1 hb ?_
          refine r_ald0 (pc := 142) dX19_meets_142 ?_
          refine r_iconst (v := nI 1) (pc := 143) dX19_meets_143 (by decide) ?_
          refine r_putI (pc := 144) (ty := .boolean) dX19_meets_144 fl_X19_41 fw_X19_4 rfl rfl q1 hb ?_
          refine r_vret (pc := 147) dX19_meets_147 ?_
          refine ⟨rfl, ?_⟩
          first | rw [mtV0 hk (by assumption)] | rw [mtV3 (by omega) (by assumption)] | rw [mtV4 (by omega) (by assumption)] | rw [mtV5 (by omega) hk (by omega) (by assumption)]
        · skip
          refine r_ald0 (pc := 120) dX19_meets_120 ?_
          refine r_getL (pc := 121) dX19_meets_121 fl_X19_11 q1 ?_
          rw [q4]
          refine r_lld3 (pc := 124) dX19_meets_124 ?_
          refine r_cS (pc := 125) dX19_meets_125 cs_X19_35 (ct_J12_max_2 (a := F) (b := v) (by constructor <;> omega) (by constructor <;> omega)) rfl rfl (Nat.le_of_ble_eq_true rfl) (by first | decide | omega) ?_
          rintro _ _ ⟨rfl, rfl⟩
          refine r_goto (pc := 128) (tgt := 139) dX19_meets_128 (by decide) ?_
          refine r_putL (pc := 139) (ty := .long) dX19_meets_139 fl_X19_11 fw_X19_3 rfl rfl q1 hb ?_
          refine r_ald0 (pc := 142) dX19_meets_142 ?_
          refine r_iconst (v := nI 1) (pc := 143) dX19_meets_143 (by decide) ?_
          refine r_putI (pc := 144) (ty := .boolean) dX19_meets_144 fl_X19_41 fw_X19_4 rfl rfl q1 hb ?_
          refine r_vret (pc := 147) dX19_meets_147 ?_
          refine ⟨rfl, ?_⟩
          first | rw [mtV0 hk (by assumption)] | rw [mtV3 (by omega) (by assumption)] | rw [mtV4 (by omega) (by assumption)] | rw [mtV5 (by omega) hk (by omega) (by assumption)]
      · skip
        refine r_ald0 (pc := 103) dX19_meets_103 ?_
        refine r_getL (pc := 104) dX19_meets_104 fl_X19_11 q1 ?_
        rw [q4]
        refine r_lld3 (pc := 107) dX19_meets_107 ?_
        first | refine r_laddI (pc := 108) dX19_meets_108 ?_ | refine r_ladd (pc := 108) dX19_meets_108 ?_
        refine r_goto (pc := 109) (tgt := 139) dX19_meets_109 (by decide) ?_
        refine r_putL (pc := 139) (ty := .long) dX19_meets_139 fl_X19_11 fw_X19_3 rfl rfl q1 hb ?_
        refine r_ald0 (pc := 142) dX19_meets_142 ?_
        refine r_iconst (v := nI 1) (pc := 143) dX19_meets_143 (by decide) ?_
        refine r_putI (pc := 144) (ty := .boolean) dX19_meets_144 fl_X19_41 fw_X19_4 rfl rfl q1 hb ?_
        refine r_vret (pc := 147) dX19_meets_147 ?_
        refine ⟨rfl, ?_⟩
        first | rw [mtV0 hk (by assumption)] | rw [mtV3 (by omega) (by assumption)] | rw [mtV4 (by omega) (by assumption)] | rw [mtV5 (by omega) hk (by omega) (by assumption)]
    · skip
      refine r_lld3 (pc := 91) dX19_meets_91 ?_
      refine r_goto (pc := 92) (tgt := 139) dX19_meets_92 (by decide) ?_
      refine r_putL (pc := 139) (ty := .long) dX19_meets_139 fl_X19_11 fw_X19_3 rfl rfl q1 hb ?_
      refine r_ald0 (pc := 142) dX19_meets_142 ?_
      refine r_iconst (v := nI 1) (pc := 143) dX19_meets_143 (by decide) ?_
      refine r_putI (pc := 144) (ty := .boolean) dX19_meets_144 fl_X19_41 fw_X19_4 rfl rfl q1 hb ?_
      refine r_vret (pc := 147) dX19_meets_147 ?_
      refine ⟨rfl, ?_⟩
      first | rw [mtV0 hk (by assumption)] | rw [mtV3 (by omega) (by assumption)] | rw [mtV4 (by omega) (by assumption)] | rw [mtV5 (by omega) hk (by omega) (by assumption)]
  · skip
    exact absurd h5 (by omega)
end X95
section X95b
variable {g : GC} {M : MM} {o ta : Nat} {P : Nat → Prop} {T : Te} {s : XS} {t : St}
theorem ct_X0_looked {i k d : Nat} {r : Int} (W : WS g M o P ta T s) (S : SoX M P ta T) (hN : SX s 12 (tn T) (fa T) (ki T) t) (hB : SB (tn T) t) (hA : iX s 0 20 = nI i) (hi : i < tn T) (hk : k < 2) (hr : b6 r) (hd : 10 ≤ d) : Ct g yX0_looked cX0_looked 4 (some .long) d 0 0 [.ref o, .int (nI k), .long (lI r)] (putX M o s) (PQ (putX M o s) (.long (lI (ofnA T t i k r)))) noX := by
  have hg := W.gx
  have hS := W.S
  have hX := W.X
  have hn8 := W.B.1
  obtain ⟨r1, r2⟩ := hr
  obtain ⟨-, -, -, -, -, -, -, n8⟩ := hN
  by_cases hc : (0 ≤ r ∧ r < (tn T : Int)) ∧ r ≠ (i : Int)
  · obtain ⟨m, rfl⟩ : ∃ m : Nat, r = (m : Int) := ⟨r.toNat, by omega⟩
    have hm : m < tn T := by omega
    have e1 : ofnA T t i k (m : Int) = if k = 0 then (th t i m : Int) else (th t m i : Int) := by unfold ofnA; rw [if_pos hc]; rfl
    have hti := (hB.2 i hi).2.2.2 m hm
    have htm := (hB.2 m hm).2.2.2 i hi
    rw [e1]
    refine Ct.of (by decide) (Nat.le_of_ble_eq_true rfl) rfl ?_
    refine r_lld2 (pc := 0) dX0_looked_0 ?_
    refine r_lconst (v := lI 0) (pc := 1) dX0_looked_1 rfl ?_
    refine r_lcmp (pc := 2) dX0_looked_2 ?_
    first | refine r_if_ltCI (pc := 3) (tgt := 26) dX0_looked_3 (by decide) (by constructor <;> omega) (by constructor <;> omega) (fun h3 => ?_) (fun h3 => ?_) | refine r_if_ltC (pc := 3) (tgt := 26) dX0_looked_3 (by decide) (fun h3 => ?_) (fun h3 => ?_)
    · skip
      exact absurd h3 (by omega)
    · skip
      refine r_lld2 (pc := 6) dX0_looked_6 ?_
      refine r_ald0 (pc := 7) dX0_looked_7 ?_
      refine r_cV (pc := 8) dX0_looked_8 cv_X0_158 (hS.k (c := 0) ow_0 kd_0) (ct_X0_people W S) rfl rfl (Nat.le_of_ble_eq_true rfl) (by first | decide | omega) ?_
      rintro _ _ ⟨rfl, rfl⟩
      first | refine r_i2lM (pc := 11) dX0_looked_11 (by omega) ?_ | refine r_i2lI (pc := 11) dX0_looked_11 (by constructor <;> omega) ?_ | refine r_i2lT (pc := 11) dX0_looked_11 ?_
      refine r_lcmp (pc := 12) dX0_looked_12 ?_
      first | refine r_if_geCI (pc := 13) (tgt := 26) dX0_looked_13 (by decide) (by constructor <;> omega) (by constructor <;> omega) (fun h13 => ?_) (fun h13 => ?_) | refine r_if_geC (pc := 13) (tgt := 26) dX0_looked_13 (by decide) (fun h13 => ?_) (fun h13 => ?_)
      · skip
        exact absurd h13 (by omega)
      · skip
        refine r_lld2 (pc := 16) dX0_looked_16 ?_
        refine r_ald0 (pc := 17) dX0_looked_17 ?_
        refine x_getI (c := 0) hS ow_0 kd_0 (pc := 18) dX0_looked_18 fl_X0_303 ?_
        rw [hA]
        first | refine r_i2lM (pc := 21) dX0_looked_21 (by omega) ?_ | refine r_i2lI (pc := 21) dX0_looked_21 (by constructor <;> omega) ?_ | refine r_i2lT (pc := 21) dX0_looked_21 ?_
        refine r_lcmp (pc := 22) dX0_looked_22 ?_
        first | refine r_if_neCI (pc := 23) (tgt := 28) dX0_looked_23 (by decide) (by constructor <;> omega) (by constructor <;> omega) (fun h23 => ?_) (fun h23 => ?_) | refine r_if_neC (pc := 23) (tgt := 28) dX0_looked_23 (by decide) (fun h23 => ?_) (fun h23 => ?_)
        · skip
          refine r_ild1 (pc := 28) dX0_looked_28 ?_
          first | refine r_if_neZ (pc := 29) (tgt := 51) dX0_looked_29 (by decide) (fun h29 => ?_) (fun h29 => ?_) | refine r_if_neN (pc := 29) (tgt := 51) dX0_looked_29 (by decide) (by omega) (fun h29 => ?_) (fun h29 => ?_) | refine r_if_ne (pc := 29) (tgt := 51) dX0_looked_29 (by decide) (fun h29 => ?_) (fun h29 => ?_)
          · skip
            refine r_ald0 (pc := 51) dX0_looked_51 ?_
            refine x_getR (c := 0) hS ow_0 kd_0 (pc := 52) dX0_looked_52 fl_X0_69 (fx_0_9 hX) ?_
            refine x_getRN (c := 12) hS (st_ow isS_12) (st_kd isS_12) (pc := 55) dX0_looked_55 (fn_X0_223 hg) (fs_8 hX isS_12) ?_
            refine r_lld2 (pc := 58) dX0_looked_58 ?_
            first | refine r_l2iN (pc := 59) dX0_looked_59 ?_ | refine r_l2iI (pc := 59) dX0_looked_59 ?_ | refine r_l2i (pc := 59) dX0_looked_59 ?_
            refine x_aald (c := (12 + 6)) (j := m) hS (st_ow6 isS_12) (st_kd6 isS_12) (by decide) (st_ln6 isS_12) (pc := 60) dX0_looked_60 (by omega) (by omega) (fs_th hX isS_12 (by omega)) ?_
            refine r_ald0 (pc := 61) dX0_looked_61 ?_
            refine x_getI (c := 0) hS ow_0 kd_0 (pc := 62) dX0_looked_62 fl_X0_303 ?_
            rw [hA]
            refine x_iald (c := (12 + (7 + m))) hS (th_ow isS_12 (by omega)) (th_kd isS_12 (by omega)) (th_ln isS_12 (by omega)) (pc := 65) dX0_looked_65 (by omega) (by omega) ?_
            rw [n8 m hm i hi]
            first | refine r_i2lM (pc := 66) dX0_looked_66 (by omega) ?_ | refine r_i2lI (pc := 66) dX0_looked_66 (by constructor <;> omega) ?_ | refine r_i2lT (pc := 66) dX0_looked_66 ?_
            refine r_lret (pc := 67) dX0_looked_67 ?_
            exact ⟨by first | (rw [if_pos (by omega)]; done) | (rw [if_neg (by omega)]; done), rfl⟩
          · skip
            refine r_ald0 (pc := 32) dX0_looked_32 ?_
            refine x_getR (c := 0) hS ow_0 kd_0 (pc := 33) dX0_looked_33 fl_X0_69 (fx_0_9 hX) ?_
            refine x_getRN (c := 12) hS (st_ow isS_12) (st_kd isS_12) (pc := 36) dX0_looked_36 (fn_X0_223 hg) (fs_8 hX isS_12) ?_
            refine r_ald0 (pc := 39) dX0_looked_39 ?_
            refine x_getI (c := 0) hS ow_0 kd_0 (pc := 40) dX0_looked_40 fl_X0_303 ?_
            rw [hA]
            refine x_aald (c := (12 + 6)) (j := i) hS (st_ow6 isS_12) (st_kd6 isS_12) (by decide) (st_ln6 isS_12) (pc := 43) dX0_looked_43 (by omega) (by omega) (fs_th hX isS_12 (by omega)) ?_
            refine r_lld2 (pc := 44) dX0_looked_44 ?_
            first | refine r_l2iN (pc := 45) dX0_looked_45 ?_ | refine r_l2iI (pc := 45) dX0_looked_45 ?_ | refine r_l2i (pc := 45) dX0_looked_45 ?_
            refine x_iald (c := (12 + (7 + i))) hS (th_ow isS_12 (by omega)) (th_kd isS_12 (by omega)) (th_ln isS_12 (by omega)) (pc := 46) dX0_looked_46 (by omega) (by omega) ?_
            rw [n8 i hi m hm]
            first | refine r_i2lM (pc := 47) dX0_looked_47 (by omega) ?_ | refine r_i2lI (pc := 47) dX0_looked_47 (by constructor <;> omega) ?_ | refine r_i2lT (pc := 47) dX0_looked_47 ?_
            refine r_goto (pc := 48) (tgt := 67) dX0_looked_48 (by decide) ?_
            refine r_lret (pc := 67) dX0_looked_67 ?_
            exact ⟨by first | (rw [if_pos (by omega)]; done) | (rw [if_neg (by omega)]; done), rfl⟩
        · skip
          exact absurd h23 (by omega)
  · have e1 : ofnA T t i k r = 0 := by unfold ofnA; rw [if_neg hc]
    rw [e1]
    refine Ct.of (by decide) (Nat.le_of_ble_eq_true rfl) rfl ?_
    refine r_lld2 (pc := 0) dX0_looked_0 ?_
    refine r_lconst (v := lI 0) (pc := 1) dX0_looked_1 rfl ?_
    refine r_lcmp (pc := 2) dX0_looked_2 ?_
    first | refine r_if_ltCI (pc := 3) (tgt := 26) dX0_looked_3 (by decide) (by constructor <;> omega) (by constructor <;> omega) (fun h3 => ?_) (fun h3 => ?_) | refine r_if_ltC (pc := 3) (tgt := 26) dX0_looked_3 (by decide) (fun h3 => ?_) (fun h3 => ?_)
    · skip
      refine r_lconst (v := lI 0) (pc := 26) dX0_looked_26 rfl ?_
      refine r_lret (pc := 27) dX0_looked_27 ?_
      exact ⟨rfl, rfl⟩
    · skip
      refine r_lld2 (pc := 6) dX0_looked_6 ?_
      refine r_ald0 (pc := 7) dX0_looked_7 ?_
      refine r_cV (pc := 8) dX0_looked_8 cv_X0_158 (hS.k (c := 0) ow_0 kd_0) (ct_X0_people W S) rfl rfl (Nat.le_of_ble_eq_true rfl) (by first | decide | omega) ?_
      rintro _ _ ⟨rfl, rfl⟩
      first | refine r_i2lM (pc := 11) dX0_looked_11 (by omega) ?_ | refine r_i2lI (pc := 11) dX0_looked_11 (by constructor <;> omega) ?_ | refine r_i2lT (pc := 11) dX0_looked_11 ?_
      refine r_lcmp (pc := 12) dX0_looked_12 ?_
      first | refine r_if_geCI (pc := 13) (tgt := 26) dX0_looked_13 (by decide) (by constructor <;> omega) (by constructor <;> omega) (fun h13 => ?_) (fun h13 => ?_) | refine r_if_geC (pc := 13) (tgt := 26) dX0_looked_13 (by decide) (fun h13 => ?_) (fun h13 => ?_)
      · skip
        refine r_lconst (v := lI 0) (pc := 26) dX0_looked_26 rfl ?_
        refine r_lret (pc := 27) dX0_looked_27 ?_
        exact ⟨rfl, rfl⟩
      · skip
        refine r_lld2 (pc := 16) dX0_looked_16 ?_
        refine r_ald0 (pc := 17) dX0_looked_17 ?_
        refine x_getI (c := 0) hS ow_0 kd_0 (pc := 18) dX0_looked_18 fl_X0_303 ?_
        rw [hA]
        first | refine r_i2lM (pc := 21) dX0_looked_21 (by omega) ?_ | refine r_i2lI (pc := 21) dX0_looked_21 (by constructor <;> omega) ?_ | refine r_i2lT (pc := 21) dX0_looked_21 ?_
        refine r_lcmp (pc := 22) dX0_looked_22 ?_
        first | refine r_if_neCI (pc := 23) (tgt := 28) dX0_looked_23 (by decide) (by constructor <;> omega) (by constructor <;> omega) (fun h23 => ?_) (fun h23 => ?_) | refine r_if_neC (pc := 23) (tgt := 28) dX0_looked_23 (by decide) (fun h23 => ?_) (fun h23 => ?_)
        · skip
          exact absurd (show (0 ≤ r ∧ r < (tn T : Int)) ∧ r ≠ (i : Int) by omega) hc
        · skip
          refine r_lconst (v := lI 0) (pc := 26) dX0_looked_26 rfl ?_
          refine r_lret (pc := 27) dX0_looked_27 ?_
          exact ⟨rfl, rfl⟩
end X95b
