set_option maxRecDepth 100000
/-! THE MODEL: sets of people -/
section M18
variable {g : GC} {M : MM} {o : Nat} {s : MS} {M1 : MM} {q : Sg} {T : Te} {t : St} {K : List Ev}
theorem bitsLoop {x0 r : Nat} : ∀ (m x c : Nat), x ≤ m → x < 256 → c + bc x = r → Bd g yX6_bits cX6_bits 3 (some Jvm.ClassFile.FieldType.int) [] 0 0 0 M1 4 [some (.int (nI x0)), some (.int (nI c)), some (.int (nI x))] [] (PQ M1 (.int (nI r))) noX := by
  intro m
  induction m with
  | zero =>
    intro x c hx h2 hc
    obtain rfl : x = 0 := by omega
    have : bc 0 = 0 := by decide
    obtain rfl : c = r := by omega
    refine r_ild2 (pc := 4) dX6_bits_4 ?_
    first | refine r_if_eqZ (pc := 5) (tgt := 20) dX6_bits_5 (by decide) (fun h5 => ?_) (fun h5 => ?_) | refine r_if_eqN (pc := 5) (tgt := 20) dX6_bits_5 (by decide) (by omega) (fun h5 => ?_) (fun h5 => ?_) | refine r_if_eq (pc := 5) (tgt := 20) dX6_bits_5 (by decide) (fun h5 => ?_) (fun h5 => ?_)
    · skip
      refine r_ild1 (pc := 20) dX6_bits_20 ?_
      refine r_iret (pc := 21) dX6_bits_21 ?_
      exact ⟨rfl, rfl⟩
    · skip
      exact absurd rfl h5
  | succ m ih =>
    intro x c hx h2 hc
    refine r_ild2 (pc := 4) dX6_bits_4 ?_
    refine r_if_eqN (pc := 5) (tgt := 20) dX6_bits_5 (by decide) (by omega) (fun h5 => ?_) (fun h5 => ?_)
    · skip
      subst h5
      have : bc 0 = 0 := by decide
      obtain rfl : c = r := by omega
      refine r_ild1 (pc := 20) dX6_bits_20 ?_
      refine r_iret (pc := 21) dX6_bits_21 ?_
      exact ⟨rfl, rfl⟩
    · skip
      obtain ⟨d1, d2, d3⟩ := dn_all x h2 h5
      first | refine r_iinc1N (j := 1) (pc := 8) dX6_bits_8 rfl ?_ | refine r_iinc1 (pc := 8) dX6_bits_8 ?_
      refine r_ild2 (pc := 11) dX6_bits_11 ?_
      refine r_ild2 (pc := 12) dX6_bits_12 ?_
      refine r_iconst (v := nI 1) (pc := 13) dX6_bits_13 (by decide) ?_
      first | refine r_isubN (pc := 14) dX6_bits_14 (by omega) ?_ | refine r_isubM (pc := 14) dX6_bits_14 ?_ | refine r_isubJ (pc := 14) dX6_bits_14 ?_ | refine r_isub (pc := 14) dX6_bits_14 ?_
      refine r_iand (pc := 15) dX6_bits_15 ?_
      refine Bd.eqI d3 ?_
      refine r_ist2 (pc := 16) dX6_bits_16 ?_
      refine r_goto (pc := 17) (tgt := 4) dX6_bits_17 (by decide) ?_
      exact ih (dn x) (c + 1) (by omega) (by omega) (by omega)
theorem ct_X6_bits {x : Nat} (hx : x < 256) : Ct g yX6_bits cX6_bits 3 (some Jvm.ClassFile.FieldType.int) 0 0 0 [.int (nI x)] M1 (PQ M1 (.int (nI (bc x)))) noX := by
  refine Ct.of (by decide) (Nat.le_of_ble_eq_true rfl) rfl ?_
  refine r_iconst (v := nI 0) (pc := 0) dX6_bits_0 (by decide) ?_
  refine r_ist1 (pc := 1) dX6_bits_1 ?_
  refine r_ild0 (pc := 2) dX6_bits_2 ?_
  refine r_ist2 (pc := 3) dX6_bits_3 ?_
  exact bitsLoop x x 0 (Nat.le_refl _) hx (by omega)
theorem peaceLoop {x : Nat} (hS : ShM g M o) (hT : RT s T) (hTB : TB T) (hN : RN s (tn T) t) (hB : SB (tn T) t) (hx : x < 256) :
    ∀ (k i : Nat) (s1 : MS), i + k = tH T - 1 → Fr cdF [] [] [107] s s1 → Bd g yX6_isPeace cX6_isPeace 3 (some Jvm.ClassFile.FieldType.boolean) [] 5 0 0 (putM M o s1) 2 [some (.ref o), some (.int (nI x)), some (.int (nI i))] [] (QM M o (fun r s' => r = some (.int (zI (peacesS T t x k i = true))) ∧ Fr cdF [] [] [107] s s')) noX := by
  have hH9 := hTB.2.1
  have hn8 := hTB.1
  intro k
  induction k with
  | zero =>
    intro i s1 hi hf
    have hi : i = tH T - 1 := hi
    have hT1 : RT s1 T := hT.fr hf (by decide) (by decide)
    refine r_ild2 (pc := 2) dX6_isPeace_2 ?_
    refine r_iconst (v := nI 1) (pc := 3) dX6_isPeace_3 (by decide) ?_
    first | refine r_iaddN (pc := 4) dX6_isPeace_4 ?_ | refine r_iaddJ (pc := 4) dX6_isPeace_4 ?_ | refine r_iadd (pc := 4) dX6_isPeace_4 ?_
    refine r_ald0 (pc := 5) dX6_isPeace_5 ?_
    refine m_getI hS (pc := 6) dX6_isPeace_6 fl_X6_379 ?_
    refine Bd.eqI hT1.1 ?_
    first | refine r_icmp_geN (pc := 9) (tgt := 55) dX6_isPeace_9 (by decide) (by omega) (by omega) (fun h9 => ?_) (fun h9 => ?_) | refine r_icmp_ge (pc := 9) (tgt := 55) dX6_isPeace_9 (by decide) (fun h9 => ?_) (fun h9 => ?_)
    · skip
      refine r_iconst (v := nI 1) (pc := 55) dX6_isPeace_55 (by decide) ?_
      refine r_zret (pc := 56) dX6_isPeace_56 (by first | rfl | exact zI_nar | assumption) ?_
      exact ⟨s1, rfl, rfl, hf⟩
    · skip
      exact absurd h9 (by omega)
  | succ k ih =>
    intro i s1 hi hf
    have hT1 : RT s1 T := hT.fr hf (by decide) (by decide)
    have hN1 := hN.fr hf (by decide)
    have hp : peacesS T t x (k + 1) i = (peaceS T t x i && peacesS T t x k (i + 1)) := rfl
    by_cases hft : feudAtS T t i = some true
    · unfold feudAtS at hft
      split at hft
      · next a b ha hb2 =>
        have ha8 := who_lt ha
        have hb8 := who_lt hb2
        have hfe : feudS T t a b = true := Option.some.inj hft
        have hpe : peaceS T t x i = !(hb x a == 0 && hb x b == 0) := by unfold peaceS; rw [ha, hb2]; show (!(_ && _ && _)) = _; rw [hfe, Bool.true_and]
        have hfA : feudAtS T t i = some true := by unfold feudAtS; rw [ha, hb2]; exact hft
        have hax : hb x a < 2 := Nat.mod_lt _ (by decide)
        have hbx : hb x b < 2 := Nat.mod_lt _ (by decide)
        rw [hp, hpe]
        refine r_ild2 (pc := 2) dX6_isPeace_2 ?_
        refine r_iconst (v := nI 1) (pc := 3) dX6_isPeace_3 (by decide) ?_
        first | refine r_iaddN (pc := 4) dX6_isPeace_4 ?_ | refine r_iaddJ (pc := 4) dX6_isPeace_4 ?_ | refine r_iadd (pc := 4) dX6_isPeace_4 ?_
        refine r_ald0 (pc := 5) dX6_isPeace_5 ?_
        refine m_getI hS (pc := 6) dX6_isPeace_6 fl_X6_379 ?_
        refine Bd.eqI hT1.1 ?_
        first | refine r_icmp_geN (pc := 9) (tgt := 55) dX6_isPeace_9 (by decide) (by omega) (by omega) (fun h9 => ?_) (fun h9 => ?_) | refine r_icmp_ge (pc := 9) (tgt := 55) dX6_isPeace_9 (by decide) (fun h9 => ?_) (fun h9 => ?_)
        · skip
          exact absurd h9 (by omega)
        · skip
          refine r_ald0 (pc := 12) dX6_isPeace_12 ?_
          refine r_ild2 (pc := 13) dX6_isPeace_13 ?_
          refine r_cV (pc := 14) dX6_isPeace_14 cv_X6_499 hS.k (ct_X6_feudAt hS hT1 hTB hN1 hB (by omega)) rfl rfl (Nat.le_of_ble_eq_true rfl) (by decide) ?_
          rintro _ _ ⟨s2, rfl, rfl, hf2⟩
          have hih := ih (i + 1) s2 (by omega) (hf.trans hf2)
          refine Bd.eqI (x' := nI 1) (by rw [hfA]; rfl) ?_
          refine r_iconst (v := nI 1) (pc := 17) dX6_isPeace_17 (by decide) ?_
          first | refine r_icmp_neN (pc := 18) (tgt := 49) dX6_isPeace_18 (by decide) (by omega) (by omega) (fun h18 => ?_) (fun h18 => ?_) | refine r_icmp_ne (pc := 18) (tgt := 49) dX6_isPeace_18 (by decide) (fun h18 => ?_) (fun h18 => ?_)
          · skip
            exact absurd rfl h18
          · skip
            refine r_ild1 (pc := 21) dX6_isPeace_21 ?_
            refine r_ald0 (pc := 22) dX6_isPeace_22 ?_
            refine r_ild2 (pc := 23) dX6_isPeace_23 ?_
            refine r_cV (pc := 24) dX6_isPeace_24 cv_X6_406 hS.k (ct_X6_whoIn hS (hT1.fr hf2 (by decide) (by decide)).2.1 hn8 (hN1.fr hf2 (by decide)) hB (by omega)) rfl rfl (Nat.le_of_ble_eq_true rfl) (by decide) ?_
            rintro _ _ ⟨rfl, rfl⟩
            refine Bd.eqI (x' := nI a) (by rw [ha]; rfl) ?_
            refine r_ishr (pc := 27) dX6_isPeace_27 ?_
            refine r_iconst (v := nI 1) (pc := 28) dX6_isPeace_28 (by decide) ?_
            refine r_iand (pc := 29) dX6_isPeace_29 ?_
            refine Bd.eqI (shr_all x hx a (by omega)) ?_
            first | refine r_if_neZ (pc := 30) (tgt := 49) dX6_isPeace_30 (by decide) (fun h30 => ?_) (fun h30 => ?_) | refine r_if_neN (pc := 30) (tgt := 49) dX6_isPeace_30 (by decide) (by omega) (fun h30 => ?_) (fun h30 => ?_) | refine r_if_ne (pc := 30) (tgt := 49) dX6_isPeace_30 (by decide) (fun h30 => ?_) (fun h30 => ?_)
            · skip
              rw [show (!(hb x a == 0 && hb x b == 0)) = true by rw [beq_eq_false_iff_ne.mpr h30]; rfl, Bool.true_and]
              first | refine r_iinc2N (j := 1) (pc := 49) dX6_isPeace_49 rfl ?_ | refine r_iinc2 (pc := 49) dX6_isPeace_49 ?_
              refine r_goto (pc := 52) (tgt := 2) dX6_isPeace_52 (by decide) ?_
              exact hih
            · skip
              refine r_ild1 (pc := 33) dX6_isPeace_33 ?_
              refine r_ald0 (pc := 34) dX6_isPeace_34 ?_
              refine r_ild2 (pc := 35) dX6_isPeace_35 ?_
              refine r_iconst (v := nI 1) (pc := 36) dX6_isPeace_36 (by decide) ?_
              first | refine r_iaddN (pc := 37) dX6_isPeace_37 ?_ | refine r_iaddJ (pc := 37) dX6_isPeace_37 ?_ | refine r_iadd (pc := 37) dX6_isPeace_37 ?_
              refine r_cV (pc := 38) dX6_isPeace_38 cv_X6_406 hS.k (ct_X6_whoIn hS (hT1.fr hf2 (by decide) (by decide)).2.1 hn8 (hN1.fr hf2 (by decide)) hB (by omega)) rfl rfl (Nat.le_of_ble_eq_true rfl) (by decide) ?_
              rintro _ _ ⟨rfl, rfl⟩
              refine Bd.eqI (x' := nI b) (by rw [hb2]; rfl) ?_
              refine r_ishr (pc := 41) dX6_isPeace_41 ?_
              refine r_iconst (v := nI 1) (pc := 42) dX6_isPeace_42 (by decide) ?_
              refine r_iand (pc := 43) dX6_isPeace_43 ?_
              refine Bd.eqI (shr_all x hx b (by omega)) ?_
              first | refine r_if_neZ (pc := 44) (tgt := 49) dX6_isPeace_44 (by decide) (fun h44 => ?_) (fun h44 => ?_) | refine r_if_neN (pc := 44) (tgt := 49) dX6_isPeace_44 (by decide) (by omega) (fun h44 => ?_) (fun h44 => ?_) | refine r_if_ne (pc := 44) (tgt := 49) dX6_isPeace_44 (by decide) (fun h44 => ?_) (fun h44 => ?_)
              · skip
                rw [show (!(hb x a == 0 && hb x b == 0)) = true by rw [beq_eq_false_iff_ne.mpr h44, Bool.and_false]; rfl, Bool.true_and]
                first | refine r_iinc2N (j := 1) (pc := 49) dX6_isPeace_49 rfl ?_ | refine r_iinc2 (pc := 49) dX6_isPeace_49 ?_
                refine r_goto (pc := 52) (tgt := 2) dX6_isPeace_52 (by decide) ?_
                exact hih
              · skip
                rw [show (!(hb x a == 0 && hb x b == 0)) = false by rw [h30, h44]; rfl, Bool.false_and]
                refine r_iconst (v := nI 0) (pc := 47) dX6_isPeace_47 (by decide) ?_
                refine r_zret (pc := 48) dX6_isPeace_48 (by first | rfl | exact zI_nar | assumption) ?_
                exact ⟨s2, rfl, rfl, hf.trans hf2⟩
      · cases hft
    · have hpe : peaceS T t x i = true := by
        unfold feudAtS at hft; unfold peaceS
        split at hft
        · next a b ha hb2 =>
          rw [ha, hb2]
          show (!(_ && _ && _)) = _
          rw [show feudS T t a b = false by cases h : feudS T t a b with | false => rfl | true => exact absurd (by rw [h]) hft]
          rfl
        · next hno =>
          split
          · next a b ha hb2 => exact absurd hb2 (hno a b ha)
          · rfl
      rw [hp, hpe, Bool.true_and]
      refine r_ild2 (pc := 2) dX6_isPeace_2 ?_
      refine r_iconst (v := nI 1) (pc := 3) dX6_isPeace_3 (by decide) ?_
      first | refine r_iaddN (pc := 4) dX6_isPeace_4 ?_ | refine r_iaddJ (pc := 4) dX6_isPeace_4 ?_ | refine r_iadd (pc := 4) dX6_isPeace_4 ?_
      refine r_ald0 (pc := 5) dX6_isPeace_5 ?_
      refine m_getI hS (pc := 6) dX6_isPeace_6 fl_X6_379 ?_
      refine Bd.eqI hT1.1 ?_
      first | refine r_icmp_geN (pc := 9) (tgt := 55) dX6_isPeace_9 (by decide) (by omega) (by omega) (fun h9 => ?_) (fun h9 => ?_) | refine r_icmp_ge (pc := 9) (tgt := 55) dX6_isPeace_9 (by decide) (fun h9 => ?_) (fun h9 => ?_)
      · skip
        exact absurd h9 (by omega)
      · skip
        refine r_ald0 (pc := 12) dX6_isPeace_12 ?_
        refine r_ild2 (pc := 13) dX6_isPeace_13 ?_
        refine r_cV (pc := 14) dX6_isPeace_14 cv_X6_499 hS.k (ct_X6_feudAt hS hT1 hTB hN1 hB (by omega)) rfl rfl (Nat.le_of_ble_eq_true rfl) (by decide) ?_
        rintro _ _ ⟨s2, rfl, rfl, hf2⟩
        refine r_iconst (v := nI 1) (pc := 17) dX6_isPeace_17 (by decide) ?_
        refine r_icmp_ne (pc := 18) (tgt := 49) dX6_isPeace_18 (by decide) (fun h18 => ?_) (fun h18 => ?_)
        · skip
          first | refine r_iinc2N (j := 1) (pc := 49) dX6_isPeace_49 rfl ?_ | refine r_iinc2 (pc := 49) dX6_isPeace_49 ?_
          refine r_goto (pc := 52) (tgt := 2) dX6_isPeace_52 (by decide) ?_
          exact ih (i + 1) s2 (by omega) (hf.trans hf2)
        · skip
          exact absurd (fI_1.mp h18) hft
theorem ct_X6_isPeace {x : Nat} (hS : ShM g M o) (hT : RT s T) (hTB : TB T) (hN : RN s (tn T) t) (hB : SB (tn T) t) (hx : x < 256) : Ct g yX6_isPeace cX6_isPeace 3 (some Jvm.ClassFile.FieldType.boolean) 5 0 0 [.ref o, .int (nI x)] (putM M o s) (QM M o (fun r s' => r = some (.int (zI (peacesS T t x (tH T - 1) 0 = true))) ∧ Fr cdF [] [] [107] s s')) noX := by
  refine Ct.of (by decide) (Nat.le_of_ble_eq_true rfl) rfl ?_
  refine r_iconst (v := nI 0) (pc := 0) dX6_isPeace_0 (by decide) ?_
  refine r_ist2 (pc := 1) dX6_isPeace_1 ?_
  exact peaceLoop hS hT hTB hN hB hx _ 0 s (by omega) Fr.rf
theorem fewS_lt {f : Nat → Bool} {m : Nat} : ∀ (k x : Nat) (b : Option Nat), x + k ≤ m → (∀ y, b = some y → y < m) → ∀ y, fewS f k x b = some y → y < m
  | 0, _, _, _, h => h
  | k + 1, x, b, hx, h => fewS_lt k (x + 1) _ (by omega) (by
    intro y hy
    cases b with
    | none =>
      have hy : (if f x then some x else none) = some y := hy
      split at hy
      · cases hy; omega
      · cases hy
    | some z =>
      have hy : (if bc x < bc z ∧ f x then some x else some z) = some y := hy
      split at hy
      · cases hy; omega
      · cases hy; exact h _ rfl)
theorem oI_ne {n : Nat} (h : n < 256) : oI (some n) ≠ -1 := nI_m1 (by omega)
theorem partedLoop (hS : ShM g M o) (hI : IM s q) (hG : GI q) :
    ∀ (k x : Nat) (s1 : MS) (b : Option Nat), x + k = 2 ^ tn (gT q) → Fr cdF [] [] [107] s s1 → (∀ y, b = some y → y < 256) → Bd g yX6_parted cX6_parted 3 (some Jvm.ClassFile.FieldType.int) [] 6 0 0 (putM M o s1) 4 [some (.ref o), some (.int (oI b)), some (.int (nI x))] [] (PM M o q (.int (oI (fewS (fun x => peacesS (gT q) (gS q) x (tH (gT q) - 1) 0) k x b)))) noX := by
  have hTB := hG.2.2.1
  have hn8 := hTB.1
  have hB : SB (tn (gT q)) (gS q) := hG.2.2.2.2.2.1.1
  have hp2 := pow_le (tn (gT q)) (by omega)
  intro k
  induction k with
  | zero =>
    intro x s1 b hx hf hb
    have hT1 : RT s1 (gT q) := hI.2.2.2.1.1.fr hf (by decide) (by decide)
    refine r_ild2 (pc := 4) dX6_parted_4 ?_
    refine r_iconst (v := nI 1) (pc := 5) dX6_parted_5 (by decide) ?_
    refine r_ald0 (pc := 6) dX6_parted_6 ?_
    refine m_getI hS (pc := 7) dX6_parted_7 fl_X6_382 ?_
    refine Bd.eqI hT1.2.1 ?_
    refine r_ishl (pc := 10) dX6_parted_10 ?_
    refine Bd.eqI (shl_all (tn (gT q)) (by omega)) ?_
    first | refine r_icmp_geN (pc := 11) (tgt := 46) dX6_parted_11 (by decide) (by omega) (by omega) (fun h11 => ?_) (fun h11 => ?_) | refine r_icmp_ge (pc := 11) (tgt := 46) dX6_parted_11 (by decide) (fun h11 => ?_) (fun h11 => ?_)
    · skip
      refine r_ild1 (pc := 46) dX6_parted_46 ?_
      refine r_iret (pc := 47) dX6_parted_47 ?_
      exact ⟨s1, rfl, rfl, hI.fr hf (by decide) (by decide) (by decide) (by decide)⟩
    · skip
      exact absurd h11 (by omega)
  | succ k ih =>
    intro x s1 b hx hf hb
    have hT1 : RT s1 (gT q) := hI.2.2.2.1.1.fr hf (by decide) (by decide)
    have hN1 := hI.2.2.2.2.1.1.fr hf (by decide)
    have hbx := bc_le x (by omega)
    cases b with
    | none =>
      rw [show fewS (fun x => peacesS (gT q) (gS q) x (tH (gT q) - 1) 0) (k + 1) x none = fewS (fun x => peacesS (gT q) (gS q) x (tH (gT q) - 1) 0) k (x + 1) (if peacesS (gT q) (gS q) x (tH (gT q) - 1) 0 then some x else none) from rfl]
      refine r_ild2 (pc := 4) dX6_parted_4 ?_
      refine r_iconst (v := nI 1) (pc := 5) dX6_parted_5 (by decide) ?_
      refine r_ald0 (pc := 6) dX6_parted_6 ?_
      refine m_getI hS (pc := 7) dX6_parted_7 fl_X6_382 ?_
      refine Bd.eqI hT1.2.1 ?_
      refine r_ishl (pc := 10) dX6_parted_10 ?_
      refine Bd.eqI (shl_all (tn (gT q)) (by omega)) ?_
      first | refine r_icmp_geN (pc := 11) (tgt := 46) dX6_parted_11 (by decide) (by omega) (by omega) (fun h11 => ?_) (fun h11 => ?_) | refine r_icmp_ge (pc := 11) (tgt := 46) dX6_parted_11 (by decide) (fun h11 => ?_) (fun h11 => ?_)
      · skip
        exact absurd h11 (by omega)
      · skip
        refine r_ild1 (pc := 14) dX6_parted_14 ?_
        refine r_iconst (v := -1) (pc := 15) dX6_parted_15 (by decide) ?_
        refine r_icmp_eq (pc := 16) (tgt := 30) dX6_parted_16 (by decide) (fun h16 => ?_) (fun h16 => ?_)
        · skip
          refine r_ald0 (pc := 30) dX6_parted_30 ?_
          refine r_ild2 (pc := 31) dX6_parted_31 ?_
          refine r_cV (pc := 32) dX6_parted_32 cv_X6_549 hS.k (ct_X6_isPeace (T := gT q) (t := gS q) hS hT1 hTB hN1 hB (by omega)) rfl rfl (Nat.le_of_ble_eq_true rfl) (by decide) ?_
          rintro _ _ ⟨s2, rfl, rfl, hf2⟩
          first | refine r_if_eqZ (pc := 35) (tgt := 40) dX6_parted_35 (by decide) (fun h35 => ?_) (fun h35 => ?_) | refine r_if_eqN (pc := 35) (tgt := 40) dX6_parted_35 (by decide) (by omega) (fun h35 => ?_) (fun h35 => ?_) | refine r_if_eq (pc := 35) (tgt := 40) dX6_parted_35 (by decide) (fun h35 => ?_) (fun h35 => ?_)
          · skip
            rw [if_neg h35]
            first | refine r_iinc2N (j := 1) (pc := 40) dX6_parted_40 rfl ?_ | refine r_iinc2 (pc := 40) dX6_parted_40 ?_
            refine r_goto (pc := 43) (tgt := 4) dX6_parted_43 (by decide) ?_
            first | exact ih (x + 1) s2 (some x) (by omega) (hf.trans hf2) (by rintro y ⟨⟩; omega) | exact ih (x + 1) s2 none (by omega) (hf.trans hf2) hb
          · skip
            rw [if_pos h35]
            refine r_ild2 (pc := 38) dX6_parted_38 ?_
            refine r_ist1 (pc := 39) dX6_parted_39 ?_
            first | refine r_iinc2N (j := 1) (pc := 40) dX6_parted_40 rfl ?_ | refine r_iinc2 (pc := 40) dX6_parted_40 ?_
            refine r_goto (pc := 43) (tgt := 4) dX6_parted_43 (by decide) ?_
            first | exact ih (x + 1) s2 (some x) (by omega) (hf.trans hf2) (by rintro y ⟨⟩; omega) | exact ih (x + 1) s2 none (by omega) (hf.trans hf2) hb
        · skip
          exact absurd rfl h16
    | some y =>
      have hy := hb y rfl
      have hby := bc_le y hy
      rw [show fewS (fun x => peacesS (gT q) (gS q) x (tH (gT q) - 1) 0) (k + 1) x (some y) = fewS (fun x => peacesS (gT q) (gS q) x (tH (gT q) - 1) 0) k (x + 1) (if bc x < bc y ∧ peacesS (gT q) (gS q) x (tH (gT q) - 1) 0 then some x else some y) from rfl]
      refine r_ild2 (pc := 4) dX6_parted_4 ?_
      refine r_iconst (v := nI 1) (pc := 5) dX6_parted_5 (by decide) ?_
      refine r_ald0 (pc := 6) dX6_parted_6 ?_
      refine m_getI hS (pc := 7) dX6_parted_7 fl_X6_382 ?_
      refine Bd.eqI hT1.2.1 ?_
      refine r_ishl (pc := 10) dX6_parted_10 ?_
      refine Bd.eqI (shl_all (tn (gT q)) (by omega)) ?_
      first | refine r_icmp_geN (pc := 11) (tgt := 46) dX6_parted_11 (by decide) (by omega) (by omega) (fun h11 => ?_) (fun h11 => ?_) | refine r_icmp_ge (pc := 11) (tgt := 46) dX6_parted_11 (by decide) (fun h11 => ?_) (fun h11 => ?_)
      · skip
        exact absurd h11 (by omega)
      · skip
        refine r_ild1 (pc := 14) dX6_parted_14 ?_
        refine r_iconst (v := -1) (pc := 15) dX6_parted_15 (by decide) ?_
        refine r_icmp_eq (pc := 16) (tgt := 30) dX6_parted_16 (by decide) (fun h16 => ?_) (fun h16 => ?_)
        · skip
          exact absurd h16 (oI_ne hy)
        · skip
          refine r_ild2 (pc := 19) dX6_parted_19 ?_
          refine r_cS (pc := 20) dX6_parted_20 cs_X6_546 (ct_X6_bits (by omega)) rfl rfl (Nat.le_of_ble_eq_true rfl) (by decide) ?_
          rintro _ _ ⟨rfl, rfl⟩
          refine r_ild1 (pc := 23) dX6_parted_23 ?_
          refine r_cS (pc := 24) dX6_parted_24 cs_X6_546 (ct_X6_bits (x := y) hy) rfl rfl (Nat.le_of_ble_eq_true rfl) (by decide) ?_
          rintro _ _ ⟨rfl, rfl⟩
          first | refine r_icmp_geN (pc := 27) (tgt := 40) dX6_parted_27 (by decide) (by omega) (by omega) (fun h27 => ?_) (fun h27 => ?_) | refine r_icmp_ge (pc := 27) (tgt := 40) dX6_parted_27 (by decide) (fun h27 => ?_) (fun h27 => ?_)
          · skip
            rw [if_neg (by omega)]
            first | refine r_iinc2N (j := 1) (pc := 40) dX6_parted_40 rfl ?_ | refine r_iinc2 (pc := 40) dX6_parted_40 ?_
            refine r_goto (pc := 43) (tgt := 4) dX6_parted_43 (by decide) ?_
            first | exact ih (x + 1) s1 (some y) (by omega) hf hb | exact ih (x + 1) s2 (some x) (by omega) (hf.trans hf2) (by rintro y ⟨⟩; omega) | exact ih (x + 1) s2 (some y) (by omega) (hf.trans hf2) hb
          · skip
            refine r_ald0 (pc := 30) dX6_parted_30 ?_
            refine r_ild2 (pc := 31) dX6_parted_31 ?_
            refine r_cV (pc := 32) dX6_parted_32 cv_X6_549 hS.k (ct_X6_isPeace (T := gT q) (t := gS q) hS hT1 hTB hN1 hB (by omega)) rfl rfl (Nat.le_of_ble_eq_true rfl) (by decide) ?_
            rintro _ _ ⟨s2, rfl, rfl, hf2⟩
            first | refine r_if_eqZ (pc := 35) (tgt := 40) dX6_parted_35 (by decide) (fun h35 => ?_) (fun h35 => ?_) | refine r_if_eqN (pc := 35) (tgt := 40) dX6_parted_35 (by decide) (by omega) (fun h35 => ?_) (fun h35 => ?_) | refine r_if_eq (pc := 35) (tgt := 40) dX6_parted_35 (by decide) (fun h35 => ?_) (fun h35 => ?_)
            · skip
              rw [if_neg (fun h => h35 h.2)]
              first | refine r_iinc2N (j := 1) (pc := 40) dX6_parted_40 rfl ?_ | refine r_iinc2 (pc := 40) dX6_parted_40 ?_
              refine r_goto (pc := 43) (tgt := 4) dX6_parted_43 (by decide) ?_
              first | exact ih (x + 1) s1 (some y) (by omega) hf hb | exact ih (x + 1) s2 (some x) (by omega) (hf.trans hf2) (by rintro y ⟨⟩; omega) | exact ih (x + 1) s2 (some y) (by omega) (hf.trans hf2) hb
            · skip
              rw [if_pos ⟨by omega, h35⟩]
              refine r_ild2 (pc := 38) dX6_parted_38 ?_
              refine r_ist1 (pc := 39) dX6_parted_39 ?_
              first | refine r_iinc2N (j := 1) (pc := 40) dX6_parted_40 rfl ?_ | refine r_iinc2 (pc := 40) dX6_parted_40 ?_
              refine r_goto (pc := 43) (tgt := 4) dX6_parted_43 (by decide) ?_
              first | exact ih (x + 1) s1 (some y) (by omega) hf hb | exact ih (x + 1) s2 (some x) (by omega) (hf.trans hf2) (by rintro y ⟨⟩; omega) | exact ih (x + 1) s2 (some y) (by omega) (hf.trans hf2) hb
theorem pm_parted (hS : ShM g M o) (hI : IM s q) (hG : GI q) : Ct g yX6_parted cX6_parted 3 (some Jvm.ClassFile.FieldType.int) 6 0 0 [.ref o] (putM M o s) (PM M o q (.int (partedQ q))) noX := by
  refine Ct.of (by decide) (Nat.le_of_ble_eq_true rfl) rfl ?_
  refine r_iconst (v := -1) (pc := 0) dX6_parted_0 (by decide) ?_
  refine r_ist1 (pc := 1) dX6_parted_1 ?_
  refine r_iconst (v := nI 0) (pc := 2) dX6_parted_2 (by decide) ?_
  refine r_ist2 (pc := 3) dX6_parted_3 ?_
  exact partedLoop hS hI hG _ 0 s none (by omega) Fr.rf (fun _ h => by cases h)
end M18
