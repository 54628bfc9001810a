set_option maxRecDepth 100000
/-! RETOUCHED: sets of people -/
section X27
variable {g : GC} {M : MM} {o ta : Nat} {P : Nat → Prop} {s : XS} {q : Sg}
def ush (x : Int32) (k : Int32) : Int32 := (x.toUInt32 >>> (k.toUInt32 &&& Int32.toUInt32 31)).toInt32
def bcE (x : Int32) : Int32 :=
  let a := x - (ush x (nI 1) &&& 1431655765)
  let b := (a &&& 858993459) + (ush a (nI 2) &&& 858993459)
  let c := (b + ush b (nI 4)) &&& 252645135
  let d := c + ush c (nI 8)
  let e := d + ush d (nI 16)
  e &&& nI 63
theorem bcE_all : ∀ x, x < 256 → bcE (nI x) = nI (bc x) := by decide +kernel
theorem pf_J16_bitCount : plainFor yJ16_bitCount = true := by decide +kernel
theorem ct_J16_bitCount {x : Nat} (hx : x < 256) : Ct g yJ16_bitCount cJ16_bitCount 1 (some Jvm.ClassFile.FieldType.int) 0 0 0 [.int (nI x)] M (PQ M (.int (nI (bc x)))) noX := by
  rw [← bcE_all x hx]
  refine Ct.ofF pf_J16_bitCount (Nat.le_of_ble_eq_true rfl) rfl ?_
  generalize nI x = z
  refine r_ild0 (pc := 0) dJ16_bitCount_0 ?_
  refine r_ild0 (pc := 1) dJ16_bitCount_1 ?_
  refine r_iconst (v := nI 1) (pc := 2) dJ16_bitCount_2 (by decide) ?_
  refine r_iushr (pc := 3) dJ16_bitCount_3 ?_
  refine r_ldcw (pc := 4) dJ16_bitCount_4 q1442 ?_
  refine r_iand (pc := 7) dJ16_bitCount_7 ?_
  refine r_isub (pc := 8) dJ16_bitCount_8 ?_
  refine r_ist0 (pc := 9) dJ16_bitCount_9 ?_
  refine r_ild0 (pc := 10) dJ16_bitCount_10 ?_
  refine r_ldcw (pc := 11) dJ16_bitCount_11 q1443 ?_
  refine r_iand (pc := 14) dJ16_bitCount_14 ?_
  refine r_ild0 (pc := 15) dJ16_bitCount_15 ?_
  refine r_iconst (v := nI 2) (pc := 16) dJ16_bitCount_16 (by decide) ?_
  refine r_iushr (pc := 17) dJ16_bitCount_17 ?_
  refine r_ldcw (pc := 18) dJ16_bitCount_18 q1443 ?_
  refine r_iand (pc := 21) dJ16_bitCount_21 ?_
  refine r_iadd (pc := 22) dJ16_bitCount_22 ?_
  refine r_ist0 (pc := 23) dJ16_bitCount_23 ?_
  refine r_ild0 (pc := 24) dJ16_bitCount_24 ?_
  refine r_ild0 (pc := 25) dJ16_bitCount_25 ?_
  refine r_iconst (v := nI 4) (pc := 26) dJ16_bitCount_26 (by decide) ?_
  refine r_iushr (pc := 27) dJ16_bitCount_27 ?_
  refine r_iadd (pc := 28) dJ16_bitCount_28 ?_
  refine r_ldcw (pc := 29) dJ16_bitCount_29 q1444 ?_
  refine r_iand (pc := 32) dJ16_bitCount_32 ?_
  refine r_ist0 (pc := 33) dJ16_bitCount_33 ?_
  refine r_ild0 (pc := 34) dJ16_bitCount_34 ?_
  refine r_ild0 (pc := 35) dJ16_bitCount_35 ?_
  refine r_bipush (v := nI 8) (pc := 36) dJ16_bitCount_36 (by decide) ?_
  refine r_iushr (pc := 38) dJ16_bitCount_38 ?_
  refine r_iadd (pc := 39) dJ16_bitCount_39 ?_
  refine r_ist0 (pc := 40) dJ16_bitCount_40 ?_
  refine r_ild0 (pc := 41) dJ16_bitCount_41 ?_
  refine r_ild0 (pc := 42) dJ16_bitCount_42 ?_
  refine r_bipush (v := nI 16) (pc := 43) dJ16_bitCount_43 (by decide) ?_
  refine r_iushr (pc := 45) dJ16_bitCount_45 ?_
  refine r_iadd (pc := 46) dJ16_bitCount_46 ?_
  refine r_ist0 (pc := 47) dJ16_bitCount_47 ?_
  refine r_ild0 (pc := 48) dJ16_bitCount_48 ?_
  refine r_bipush (v := nI 63) (pc := 49) dJ16_bitCount_49 (by decide) ?_
  refine r_iand (pc := 51) dJ16_bitCount_51 ?_
  refine r_iret (pc := 52) dJ16_bitCount_52 ?_
  exact ⟨rfl, rfl⟩
theorem ct_X0_has {x p : Nat} (hx : x < 256) (hp : p < 8) : Ct g yX0_has cX0_has 2 (some Jvm.ClassFile.FieldType.boolean) 0 0 0 [.int (nI x), .int (nI p)] M (PQ M (.int (zI (hb x p = 1)))) noX := by
  have h2 : hb x p < 2 := Nat.mod_lt _ (by decide)
  refine Ct.of (by decide) (Nat.le_of_ble_eq_true rfl) rfl ?_
  refine r_ild0 (pc := 0) dX0_has_0 ?_
  refine r_ild1 (pc := 1) dX0_has_1 ?_
  refine r_ishr (pc := 2) dX0_has_2 ?_
  refine r_iconst (v := nI 1) (pc := 3) dX0_has_3 (by decide) ?_
  refine r_iand (pc := 4) dX0_has_4 ?_
  refine Bd.eqI (shr_all x hx p hp) ?_
  refine r_iconst (v := nI 1) (pc := 5) dX0_has_5 (by decide) ?_
  first | refine r_icmp_neN (pc := 6) (tgt := 13) dX0_has_6 (by decide) (by omega) (by omega) (fun h6 => ?_) (fun h6 => ?_) | refine r_icmp_ne (pc := 6) (tgt := 13) dX0_has_6 (by decide) (fun h6 => ?_) (fun h6 => ?_)
  · skip
    refine r_iconst (v := nI 0) (pc := 13) dX0_has_13 (by decide) ?_
    refine r_zret (pc := 14) dX0_has_14 (by first | rfl | exact zI_nar | assumption) ?_
    exact ⟨by first | (rw [zI_t h6]; rfl) | (rw [zI_f h6]; rfl), rfl⟩
  · skip
    refine r_iconst (v := nI 1) (pc := 9) dX0_has_9 (by decide) ?_
    refine r_goto (pc := 10) (tgt := 14) dX0_has_10 (by decide) ?_
    refine r_zret (pc := 14) dX0_has_14 (by first | rfl | exact zI_nar | assumption) ?_
    exact ⟨by first | (rw [zI_t h6]; rfl) | (rw [zI_f h6]; rfl), rfl⟩
/-- fewer than the best so far -/
def fewB (x : Nat) : Option Nat → Bool
  | none => true
  | some y => decide (bc x < bc y)
theorem ct_X0_isFewer {x : Nat} {b : Option Nat} (hx : x < 256) (hb : ∀ y, b = some y → y < 256) : Ct g yX0_isFewer cX0_isFewer 2 (some Jvm.ClassFile.FieldType.boolean) 1 0 0 [.int (nI x), .int (oI b)] M (PQ M (.int (zI (fewB x b = true)))) noX := by
  have hc := bc_le x hx
  refine Ct.of (by decide) (Nat.le_of_ble_eq_true rfl) rfl ?_
  cases b with
  | none =>
    refine r_ild1 (pc := 0) dX0_isFewer_0 ?_
    refine r_iconst (v := -1) (pc := 1) dX0_isFewer_1 (by decide) ?_
    refine r_icmp_eq (pc := 2) (tgt := 16) dX0_isFewer_2 (by decide) (fun h2 => ?_) (fun h2 => ?_)
    · skip
      refine r_iconst (v := nI 1) (pc := 16) dX0_isFewer_16 (by decide) ?_
      refine r_goto (pc := 17) (tgt := 21) dX0_isFewer_17 (by decide) ?_
      refine r_zret (pc := 21) dX0_isFewer_21 (by first | rfl | exact zI_nar | assumption) ?_
      exact ⟨by rw [zI_t (show fewB x none = true from rfl)]; rfl, rfl⟩
    · skip
      exact absurd rfl h2
  | some y =>
    have hy := hb y rfl
    have hcy := bc_le y hy
    rw [oI_some]
    refine r_ild1 (pc := 0) dX0_isFewer_0 ?_
    refine r_iconst (v := -1) (pc := 1) dX0_isFewer_1 (by decide) ?_
    refine r_icmp_eq (pc := 2) (tgt := 16) dX0_isFewer_2 (by decide) (fun h2 => ?_) (fun h2 => ?_)
    · skip
      exact absurd h2 (nI_m1 (by omega))
    · skip
      refine r_ild0 (pc := 5) dX0_isFewer_5 ?_
      refine r_cS (pc := 6) dX0_isFewer_6 cs_X0_261 (ct_J16_bitCount hx) rfl rfl (Nat.le_of_ble_eq_true rfl) (by first | decide | omega) ?_
      rintro _ _ ⟨rfl, rfl⟩
      refine r_ild1 (pc := 9) dX0_isFewer_9 ?_
      refine r_cS (pc := 10) dX0_isFewer_10 cs_X0_261 (ct_J16_bitCount hy) rfl rfl (Nat.le_of_ble_eq_true rfl) (by first | decide | omega) ?_
      rintro _ _ ⟨rfl, rfl⟩
      first | refine r_icmp_geN (pc := 13) (tgt := 20) dX0_isFewer_13 (by decide) (by omega) (by omega) (fun h13 => ?_) (fun h13 => ?_) | refine r_icmp_ge (pc := 13) (tgt := 20) dX0_isFewer_13 (by decide) (fun h13 => ?_) (fun h13 => ?_)
      · skip
        refine r_iconst (v := nI 0) (pc := 20) dX0_isFewer_20 (by decide) ?_
        refine r_zret (pc := 21) dX0_isFewer_21 (by first | rfl | exact zI_nar | assumption) ?_
        exact ⟨by first | (rw [zI_f (show ¬ fewB x (some y) = true by show ¬ decide _ = true; simpa using h13)]; rfl) | (rw [zI_t (show fewB x (some y) = true by show decide _ = true; simpa using h13)]; rfl), rfl⟩
      · skip
        refine r_iconst (v := nI 1) (pc := 16) dX0_isFewer_16 (by decide) ?_
        refine r_goto (pc := 17) (tgt := 21) dX0_isFewer_17 (by decide) ?_
        refine r_zret (pc := 21) dX0_isFewer_21 (by first | rfl | exact zI_nar | assumption) ?_
        exact ⟨by first | (rw [zI_f (show ¬ fewB x (some y) = true by show ¬ decide _ = true; simpa using h13)]; rfl) | (rw [zI_t (show fewB x (some y) = true by show decide _ = true; simpa using h13)]; rfl), rfl⟩
theorem fewS_s {f : Nat → Bool} {k x : Nat} {b : Option Nat} : fewS f (k + 1) x b = fewS f k (x + 1) (if fewB x b = true ∧ f x = true then some x else b) := by
  show fewS f k (x + 1) (match b with | none => if f x then some x else none | some y => if bc x < bc y ∧ f x then some x else some y) = _
  congr 1
  cases b with
  | none => by_cases h : f x = true <;> simp [fewB, h]
  | some y => by_cases h : bc x < bc y <;> by_cases h2 : f x = true <;> simp [fewB, h, h2]
theorem peacesS_snoc {T : Te} {t : St} {x : Nat} : ∀ k h, peacesS T t x (k + 1) h = (peacesS T t x k h && peaceS T t x (h + k))
  | 0, h => by show (peaceS T t x h && true) = (true && peaceS T t x (h + 0)); simp
  | k + 1, h => by
    show (peaceS T t x h && peacesS T t x (k + 1) (h + 1)) = ((peaceS T t x h && peacesS T t x k (h + 1)) && peaceS T t x (h + (k + 1)))
    rw [peacesS_snoc k (h + 1), show h + 1 + k = h + (k + 1) by omega, Bool.and_assoc]
theorem xpartLoop {x : Nat} {r : Bool} (hG : GI q) (hx : x < 256) : ∀ k h s1, h + k = tH (gT q) → IX g M o P ta s1 q → peacesS (gT q) (gS q) x k h = r →
    Bd g yX0_isParted cX0_isParted 3 (some Jvm.ClassFile.FieldType.boolean) [] 431 0 0 (putX M o s1) 2 [some (.ref o), some (.int (nI x)), some (.int (nI h))] [] (QI g M o P ta q (.int (zI (r = true)))) noX := by
  intro k
  induction k with
  | zero =>
    intro h s1 hk hI hr
    have W := hI.W
    have S := hI.So
    have hg := W.gx
    have hS := W.S
    have hX := W.X
    have hTB := W.B
    have hn8 := hTB.1
    have hH9 := hTB.2.1
    have hN := hI.nw.1
    have hR := hI.nw.2
    have hB : SB (tn (gT q)) (gS q) := hG.2.2.2.2.2.1.1
    obtain ⟨t0, t1, t2, -⟩ := W.2.2.2.2.2.1
    have hIH : mI (putX M o s1) ta 1 = nI (tH (gT q)) := (mI_putXn (W.2.2.2.1 ta t0)).trans t2
    refine r_ild2 (pc := 2) dX0_isParted_2 ?_
    refine r_ald0 (pc := 3) dX0_isParted_3 ?_
    refine x_getR (c := 0) hS ow_0 kd_0 (pc := 4) dX0_isParted_4 fl_X0_31 W.ht ?_
    refine r_getIN (pc := 7) dX0_isParted_7 (fn_X0_146 hg) t1 ?_
    rw [hIH]
    first | refine r_icmp_geN (pc := 10) (tgt := 64) dX0_isParted_10 (by decide) (by omega) (by omega) (fun h10 => ?_) (fun h10 => ?_) | refine r_icmp_ge (pc := 10) (tgt := 64) dX0_isParted_10 (by decide) (fun h10 => ?_) (fun h10 => ?_)
    · skip
      refine r_iconst (v := nI 1) (pc := 64) dX0_isParted_64 (by decide) ?_
      refine r_zret (pc := 65) dX0_isParted_65 (by first | rfl | exact zI_nar | assumption) ?_
      exact ⟨s1, rfl, by rw [← hr, zI_t (show peacesS (gT q) (gS q) x 0 h = true from rfl)]; rfl, hI⟩
    · skip
      exact absurd h10 (by omega)
  | succ k ih =>
    intro h s1 hk hI hr
    have W := hI.W
    have S := hI.So
    have hg := W.gx
    have hS := W.S
    have hX := W.X
    have hTB := W.B
    have hn8 := hTB.1
    have hH9 := hTB.2.1
    have hN := hI.nw.1
    have hR := hI.nw.2
    have hB : SB (tn (gT q)) (gS q) := hG.2.2.2.2.2.1.1
    obtain ⟨t0, t1, t2, -⟩ := W.2.2.2.2.2.1
    have hIH : mI (putX M o s1) ta 1 = nI (tH (gT q)) := (mI_putXn (W.2.2.2.1 ta t0)).trans t2
    have hr : (peaceS (gT q) (gS q) x h && peacesS (gT q) (gS q) x k (h + 1)) = r := hr
    have hgo : ∀ s2, IX g M o P ta s2 q → peaceS (gT q) (gS q) x h = true → Bd g yX0_isParted cX0_isParted 3 (some Jvm.ClassFile.FieldType.boolean) [] 431 0 0 (putX M o s2) 2 [some (.ref o), some (.int (nI x)), some (.int (nI (h + 1)))] [] (QI g M o P ta q (.int (zI (r = true)))) noX := by
      intro s2 hI2 hp
      rw [hp, Bool.true_and] at hr
      exact ih (h + 1) s2 (by omega) hI2 hr
    by_cases hf : feudAtS (gT q) (gS q) h = some true
    · have hf' := hf
      unfold feudAtS at hf
      cases e1 : who (gS q) (tn (gT q)) h with
      | none => rw [e1] at hf; cases hf
      | some a =>
        cases e2 : who (gS q) (tn (gT q)) (h + 1) with
        | none => rw [e1, e2] at hf; cases hf
        | some b =>
          rw [e1, e2] at hf
          have ha := who_lt e1
          have hb' := who_lt e2
          have hfe : feudS (gT q) (gS q) a b = true := Option.some.inj hf
          have hpe : peaceS (gT q) (gS q) x h = !(hb x a == 0 && hb x b == 0) := by unfold peaceS; rw [e1, e2]; show (!(feudS (gT q) (gS q) a b && hb x a == 0 && hb x b == 0)) = _; rw [hfe, Bool.true_and]
          have z1 : hb x a < 2 := Nat.mod_lt _ (by decide)
          have z2 : hb x b < 2 := Nat.mod_lt _ (by decide)
          refine r_ild2 (pc := 2) dX0_isParted_2 ?_
          refine r_ald0 (pc := 3) dX0_isParted_3 ?_
          refine x_getR (c := 0) hS ow_0 kd_0 (pc := 4) dX0_isParted_4 fl_X0_31 W.ht ?_
          refine r_getIN (pc := 7) dX0_isParted_7 (fn_X0_146 hg) t1 ?_
          rw [hIH]
          first | refine r_icmp_geN (pc := 10) (tgt := 64) dX0_isParted_10 (by decide) (by omega) (by omega) (fun h10 => ?_) (fun h10 => ?_) | refine r_icmp_ge (pc := 10) (tgt := 64) dX0_isParted_10 (by decide) (fun h10 => ?_) (fun h10 => ?_)
          · skip
            exact absurd h10 (by omega)
          · skip
            refine r_ald0 (pc := 13) dX0_isParted_13 ?_
            refine x_getR (c := 0) hS ow_0 kd_0 (pc := 14) dX0_isParted_14 fl_X0_69 (fx_0_9 hX) ?_
            refine r_ild2 (pc := 17) dX0_isParted_17 ?_
            refine r_cV (pc := 18) dX0_isParted_18 cv_X0_181 (hS.k (c := 12) (st_ow isS_12) (st_kd isS_12)) (ct_X5_feud W isS_12 hN hB (by omega)) rfl rfl (Nat.le_of_ble_eq_true rfl) (by first | decide | omega) ?_
            rintro _ _ ⟨s2, rfl, rfl, hM2⟩
            have hI2 := hM2.I hI hG
            have hX := hI2.W.X
            have hN2 : SX s2 12 (tn (gT q)) (fa (gT q)) (ki (gT q)) (gS q) := hI2.nw.1
            refine r_if_eqZ (pc := 21) (tgt := 58) dX0_isParted_21 (by decide) (fun h21 => ?_) (fun h21 => ?_)
            · skip
              exact absurd hf' h21
            · skip
              refine r_ild1 (pc := 24) dX0_isParted_24 ?_
              refine r_ald0 (pc := 25) dX0_isParted_25 ?_
              refine x_getR (c := 0) hS ow_0 kd_0 (pc := 26) dX0_isParted_26 fl_X0_69 (fx_0_9 hX) ?_
              refine r_ild2 (pc := 29) dX0_isParted_29 ?_
              refine r_cV (pc := 30) dX0_isParted_30 cv_X0_204 (hS.k (c := 12) (st_ow isS_12) (st_kd isS_12)) (ct_X5_who hS hX isS_12 hN2 hB hn8 (by omega)) rfl rfl (Nat.le_of_ble_eq_true rfl) (by first | decide | omega) ?_
              rintro _ _ ⟨rfl, rfl⟩
              rw [e1, oI_some]
              refine r_cS (pc := 33) dX0_isParted_33 cs_X0_258 (ct_X0_has hx (by omega)) rfl rfl (Nat.le_of_ble_eq_true rfl) (by first | decide | omega) ?_
              rintro _ _ ⟨rfl, rfl⟩
              refine r_if_neZ (pc := 36) (tgt := 58) dX0_isParted_36 (by decide) (fun h36 => ?_) (fun h36 => ?_)
              · skip
                first | refine r_iinc2N (j := 1) (pc := 58) dX0_isParted_58 rfl ?_ | refine r_iinc2 (pc := 58) dX0_isParted_58 ?_
                refine r_goto (pc := 61) (tgt := 2) dX0_isParted_61 (by decide) ?_
                first | exact hgo s2 hI2 (by rw [hpe, h36]; rfl) | exact hgo s2 hI2 (by rw [hpe, h53]; simp)
              · skip
                refine r_ild1 (pc := 39) dX0_isParted_39 ?_
                refine r_ald0 (pc := 40) dX0_isParted_40 ?_
                refine x_getR (c := 0) hS ow_0 kd_0 (pc := 41) dX0_isParted_41 fl_X0_69 (fx_0_9 hX) ?_
                refine r_ild2 (pc := 44) dX0_isParted_44 ?_
                refine r_iconst (v := nI 1) (pc := 45) dX0_isParted_45 (by decide) ?_
                first | refine r_iaddN (pc := 46) dX0_isParted_46 ?_ | refine r_iaddJ (pc := 46) dX0_isParted_46 ?_ | refine r_iadd (pc := 46) dX0_isParted_46 ?_
                refine r_cV (pc := 47) dX0_isParted_47 cv_X0_204 (hS.k (c := 12) (st_ow isS_12) (st_kd isS_12)) (ct_X5_who hS hX isS_12 hN2 hB hn8 (by omega)) rfl rfl (Nat.le_of_ble_eq_true rfl) (by first | decide | omega) ?_
                rintro _ _ ⟨rfl, rfl⟩
                rw [e2, oI_some]
                refine r_cS (pc := 50) dX0_isParted_50 cs_X0_258 (ct_X0_has hx (by omega)) rfl rfl (Nat.le_of_ble_eq_true rfl) (by first | decide | omega) ?_
                rintro _ _ ⟨rfl, rfl⟩
                refine r_if_neZ (pc := 53) (tgt := 58) dX0_isParted_53 (by decide) (fun h53 => ?_) (fun h53 => ?_)
                · skip
                  first | refine r_iinc2N (j := 1) (pc := 58) dX0_isParted_58 rfl ?_ | refine r_iinc2 (pc := 58) dX0_isParted_58 ?_
                  refine r_goto (pc := 61) (tgt := 2) dX0_isParted_61 (by decide) ?_
                  first | exact hgo s2 hI2 (by rw [hpe, h36]; rfl) | exact hgo s2 hI2 (by rw [hpe, h53]; simp)
                · skip
                  refine r_iconst (v := nI 0) (pc := 56) dX0_isParted_56 (by decide) ?_
                  refine r_zret (pc := 57) dX0_isParted_57 (by first | rfl | exact zI_nar | assumption) ?_
                  exact ⟨s2, rfl, by rw [← hr, hpe, show hb x a = 0 by omega, show hb x b = 0 by omega]; rfl, hI2⟩
    · have hpe : peaceS (gT q) (gS q) x h = true := by
        unfold peaceS
        unfold feudAtS at hf
        cases e1 : who (gS q) (tn (gT q)) h with
        | none => rfl
        | some a =>
          cases e2 : who (gS q) (tn (gT q)) (h + 1) with
          | none => rfl
          | some b =>
            rw [e1, e2] at hf
            have hfe : feudS (gT q) (gS q) a b = false := by cases hz : feudS (gT q) (gS q) a b with | false => rfl | true => exact absurd (by show some (feudS (gT q) (gS q) a b) = some true; rw [hz]) hf
            show (!(feudS (gT q) (gS q) a b && hb x a == 0 && hb x b == 0)) = true
            rw [hfe]; rfl
      refine r_ild2 (pc := 2) dX0_isParted_2 ?_
      refine r_ald0 (pc := 3) dX0_isParted_3 ?_
      refine x_getR (c := 0) hS ow_0 kd_0 (pc := 4) dX0_isParted_4 fl_X0_31 W.ht ?_
      refine r_getIN (pc := 7) dX0_isParted_7 (fn_X0_146 hg) t1 ?_
      rw [hIH]
      first | refine r_icmp_geN (pc := 10) (tgt := 64) dX0_isParted_10 (by decide) (by omega) (by omega) (fun h10 => ?_) (fun h10 => ?_) | refine r_icmp_ge (pc := 10) (tgt := 64) dX0_isParted_10 (by decide) (fun h10 => ?_) (fun h10 => ?_)
      · skip
        exact absurd h10 (by omega)
      · skip
        refine r_ald0 (pc := 13) dX0_isParted_13 ?_
        refine x_getR (c := 0) hS ow_0 kd_0 (pc := 14) dX0_isParted_14 fl_X0_69 (fx_0_9 hX) ?_
        refine r_ild2 (pc := 17) dX0_isParted_17 ?_
        refine r_cV (pc := 18) dX0_isParted_18 cv_X0_181 (hS.k (c := 12) (st_ow isS_12) (st_kd isS_12)) (ct_X5_feud W isS_12 hN hB (by omega)) rfl rfl (Nat.le_of_ble_eq_true rfl) (by first | decide | omega) ?_
        rintro _ _ ⟨s2, rfl, rfl, hM2⟩
        have hI2 := hM2.I hI hG
        refine r_if_eqZ (pc := 21) (tgt := 58) dX0_isParted_21 (by decide) (fun h21 => ?_) (fun h21 => ?_)
        · skip
          first | refine r_iinc2N (j := 1) (pc := 58) dX0_isParted_58 rfl ?_ | refine r_iinc2 (pc := 58) dX0_isParted_58 ?_
          refine r_goto (pc := 61) (tgt := 2) dX0_isParted_61 (by decide) ?_
          exact hgo s2 hI2 hpe
        · skip
          exact absurd h21 hf
theorem who_outX {t : St} {n h : Nat} (hh : ∀ p, p < n → hs t p < h) : who t n h = none := ff_none n 0 (fun j _ hj => by have := hh j (by omega); exact beq_eq_false_iff_ne.mpr (by omega))
theorem ct_X0_isParted {x : Nat} (hI : IX g M o P ta s q) (hG : GI q) (hx : x < 256) : Ct g yX0_isParted cX0_isParted 3 (some Jvm.ClassFile.FieldType.boolean) 431 0 0 [.ref o, .int (nI x)] (putX M o s) (QI g M o P ta q (.int (zI (peacesS (gT q) (gS q) x (tH (gT q) - 1) 0 = true)))) noX := by
  have he : peacesS (gT q) (gS q) x (tH (gT q)) 0 = peacesS (gT q) (gS q) x (tH (gT q) - 1) 0 := by
    by_cases h0 : tH (gT q) = 0
    · rw [h0]
    · obtain ⟨k, hk⟩ : ∃ k, tH (gT q) = k + 1 := ⟨tH (gT q) - 1, by omega⟩
      have hw : who (gS q) (tn (gT q)) (k + 1) = none := who_outX (fun p hp => by have := hG.2.2.2.2.2.1.2.2.1 p hp; have : hs (gS q) p < tH (gT q) := this; omega)
      rw [hk, peacesS_snoc, Nat.zero_add, show k + 1 - 1 = k by omega]
      have : peaceS (gT q) (gS q) x k = true := by
        unfold peaceS; rw [hw]
        cases who (gS q) (tn (gT q)) k <;> rfl
      rw [this, Bool.and_true]
  refine Ct.of (by decide) (Nat.le_of_ble_eq_true rfl) rfl ?_
  refine r_iconst (v := nI 0) (pc := 0) dX0_isParted_0 (by decide) ?_
  refine r_ist2 (pc := 1) dX0_isParted_1 ?_
  exact xpartLoop hG hx (tH (gT q)) 0 s (by omega) hI he
theorem xpartedLoop {r : Option Nat} (hG : GI q) : ∀ k x s1 b, x + k = 2 ^ tn (gT q) → IX g M o P ta s1 q → (∀ y, b = some y → y < 256) → fewS (fun x => peacesS (gT q) (gS q) x (tH (gT q) - 1) 0) k x b = r →
    Bd g yX0_parted cX0_parted 3 (some Jvm.ClassFile.FieldType.int) [] 432 0 0 (putX M o s1) 4 [some (.ref o), some (.int (oI b)), some (.int (nI x))] [] (QI g M o P ta q (.int (oI r))) noX := by
  intro k
  induction k with
  | zero =>
    intro x s1 b hk hI hb hr
    have W := hI.W
    have S := hI.So
    have hg := W.gx
    have hS := W.S
    have hX := W.X
    have hTB := W.B
    have hn8 := hTB.1
    have hH9 := hTB.2.1
    have hN := hI.nw.1
    have hR := hI.nw.2
    have hB : SB (tn (gT q)) (gS q) := hG.2.2.2.2.2.1.1
    have hpw := pow_le (tn (gT q)) (by omega)
    refine r_ild2 (pc := 4) dX0_parted_4 ?_
    refine r_iconst (v := nI 1) (pc := 5) dX0_parted_5 (by decide) ?_
    refine r_ald0 (pc := 6) dX0_parted_6 ?_
    refine r_cV (pc := 7) dX0_parted_7 cv_X0_158 (hS.k (c := 0) ow_0 kd_0) (ct_X0_people W S) rfl rfl (Nat.le_of_ble_eq_true rfl) (by first | decide | omega) ?_
    rintro _ _ ⟨rfl, rfl⟩
    refine r_ishl (pc := 10) dX0_parted_10 ?_
    refine Bd.eqI (shl_all (tn (gT q)) (by omega)) ?_
    first | refine r_icmp_geN (pc := 11) (tgt := 38) dX0_parted_11 (by decide) (by omega) (by omega) (fun h11 => ?_) (fun h11 => ?_) | refine r_icmp_ge (pc := 11) (tgt := 38) dX0_parted_11 (by decide) (fun h11 => ?_) (fun h11 => ?_)
    · skip
      refine r_ild1 (pc := 38) dX0_parted_38 ?_
      refine r_iret (pc := 39) dX0_parted_39 ?_
      exact ⟨s1, rfl, by rw [← hr]; rfl, hI⟩
    · skip
      exact absurd h11 (by omega)
  | succ k ih =>
    intro x s1 b hk hI hb hr
    have W := hI.W
    have S := hI.So
    have hg := W.gx
    have hS := W.S
    have hX := W.X
    have hTB := W.B
    have hn8 := hTB.1
    have hH9 := hTB.2.1
    have hN := hI.nw.1
    have hR := hI.nw.2
    have hB : SB (tn (gT q)) (gS q) := hG.2.2.2.2.2.1.1
    have hpw := pow_le (tn (gT q)) (by omega)
    rw [fewS_s] at hr
    have hgo : ∀ s2 b', IX g M o P ta s2 q → (if fewB x b = true ∧ peacesS (gT q) (gS q) x (tH (gT q) - 1) 0 = true then some x else b) = b' → Bd g yX0_parted cX0_parted 3 (some Jvm.ClassFile.FieldType.int) [] 432 0 0 (putX M o s2) 4 [some (.ref o), some (.int (oI b')), some (.int (nI (x + 1)))] [] (QI g M o P ta q (.int (oI r))) noX := by
      intro s2 b' hI2 hb'
      rw [hb'] at hr
      refine ih (x + 1) s2 b' (by omega) hI2 (fun y hy => ?_) hr
      rw [hy] at hb'
      split at hb'
      · cases hb'; omega
      · exact hb y hb'
    refine r_ild2 (pc := 4) dX0_parted_4 ?_
    refine r_iconst (v := nI 1) (pc := 5) dX0_parted_5 (by decide) ?_
    refine r_ald0 (pc := 6) dX0_parted_6 ?_
    refine r_cV (pc := 7) dX0_parted_7 cv_X0_158 (hS.k (c := 0) ow_0 kd_0) (ct_X0_people W S) rfl rfl (Nat.le_of_ble_eq_true rfl) (by first | decide | omega) ?_
    rintro _ _ ⟨rfl, rfl⟩
    refine r_ishl (pc := 10) dX0_parted_10 ?_
    refine Bd.eqI (shl_all (tn (gT q)) (by omega)) ?_
    first | refine r_icmp_geN (pc := 11) (tgt := 38) dX0_parted_11 (by decide) (by omega) (by omega) (fun h11 => ?_) (fun h11 => ?_) | refine r_icmp_ge (pc := 11) (tgt := 38) dX0_parted_11 (by decide) (fun h11 => ?_) (fun h11 => ?_)
    · skip
      exact absurd h11 (by omega)
    · skip
      refine r_ild2 (pc := 14) dX0_parted_14 ?_
      refine r_ild1 (pc := 15) dX0_parted_15 ?_
      refine r_cS (pc := 16) dX0_parted_16 cs_X0_266 (ct_X0_isFewer (by omega) hb) rfl rfl (Nat.le_of_ble_eq_true rfl) (by first | decide | omega) ?_
      rintro _ _ ⟨rfl, rfl⟩
      refine r_if_eqZ (pc := 19) (tgt := 32) dX0_parted_19 (by decide) (fun h19 => ?_) (fun h19 => ?_)
      · skip
        first | refine r_iinc2N (j := 1) (pc := 32) dX0_parted_32 rfl ?_ | refine r_iinc2 (pc := 32) dX0_parted_32 ?_
        refine r_goto (pc := 35) (tgt := 4) dX0_parted_35 (by decide) ?_
        first | exact hgo s1 b hI (if_neg (fun z => h19 z.1)) | exact hgo s2 b hI2 (if_neg (fun z => h27 z.2)) | exact hgo s2 (some x) hI2 (if_pos ⟨h19, h27⟩)
      · skip
        refine r_ald0 (pc := 22) dX0_parted_22 ?_
        refine r_ild2 (pc := 23) dX0_parted_23 ?_
        refine r_cV (pc := 24) dX0_parted_24 cv_X0_269 (hS.k (c := 0) ow_0 kd_0) (ct_X0_isParted hI hG (by omega)) rfl rfl (Nat.le_of_ble_eq_true rfl) (by first | decide | omega) ?_
        rintro _ _ ⟨s2, rfl, rfl, hI2⟩
        refine r_if_eqZ (pc := 27) (tgt := 32) dX0_parted_27 (by decide) (fun h27 => ?_) (fun h27 => ?_)
        · skip
          first | refine r_iinc2N (j := 1) (pc := 32) dX0_parted_32 rfl ?_ | refine r_iinc2 (pc := 32) dX0_parted_32 ?_
          refine r_goto (pc := 35) (tgt := 4) dX0_parted_35 (by decide) ?_
          first | exact hgo s1 b hI (if_neg (fun z => h19 z.1)) | exact hgo s2 b hI2 (if_neg (fun z => h27 z.2)) | exact hgo s2 (some x) hI2 (if_pos ⟨h19, h27⟩)
        · skip
          refine r_ild2 (pc := 30) dX0_parted_30 ?_
          refine r_ist1 (pc := 31) dX0_parted_31 ?_
          first | refine r_iinc2N (j := 1) (pc := 32) dX0_parted_32 rfl ?_ | refine r_iinc2 (pc := 32) dX0_parted_32 ?_
          refine r_goto (pc := 35) (tgt := 4) dX0_parted_35 (by decide) ?_
          first | exact hgo s1 b hI (if_neg (fun z => h19 z.1)) | exact hgo s2 b hI2 (if_neg (fun z => h27 z.2)) | exact hgo s2 (some x) hI2 (if_pos ⟨h19, h27⟩)
theorem px_parted (hI : IX g M o P ta s q) (hG : GI q) : Ct g yX0_parted cX0_parted 3 (some Jvm.ClassFile.FieldType.int) 432 0 0 [.ref o] (putX M o s) (QI g M o P ta q (.int (partedQ q))) noX := by
  refine Ct.of (by decide) (Nat.le_of_ble_eq_true rfl) rfl ?_
  refine r_iconst (v := -1) (pc := 0) dX0_parted_0 (by decide) ?_
  refine r_ist1 (pc := 1) dX0_parted_1 ?_
  refine r_iconst (v := nI 0) (pc := 2) dX0_parted_2 (by decide) ?_
  refine r_ist2 (pc := 3) dX0_parted_3 ?_
  exact xpartedLoop hG (2 ^ tn (gT q)) 0 s none (by omega) hI (fun y h => by cases h) rfl
/-- portraits are laid for the sets below x -/
def LbX (s : XS) (n : Nat) (f : Nat → Nat → Nat) (x : Nat) : Prop := ∀ y, y < x → ∀ p, p < n → iX s (125 + y) p = nI (f y p)
theorem xrestLoop {x : Nat} {f : Nat → Nat → Nat} (hI : IX g M o P ta s q) (hL : LbX s (tn (gT q)) f (2 ^ tn (gT q))) (hf : ∀ y p, y < 2 ^ tn (gT q) → p < tn (gT q) → f y p ≤ 99) (hx : x < 2 ^ tn (gT q)) : ∀ k p, p + k = tn (gT q) →
    Bd g yX0_isRest cX0_isRest 3 (some Jvm.ClassFile.FieldType.boolean) [] 4 0 0 (putX M o s) 2 [some (.ref o), some (.int (nI x)), some (.int (nI p))] [] (PQ (putX M o s) (.int (zI (allR (fun p => decide (f (flp x p) p ≤ f x p)) k p = true)))) noX := by
  have W := hI.W
  have S := hI.So
  have hg := W.gx
  have hS := W.S
  have hX := W.X
  have hn8 := W.B.1
  have hpw := pow_le (tn (gT q)) (by omega)
  intro k
  induction k with
  | zero =>
    intro p hk
    refine r_ild2 (pc := 2) dX0_isRest_2 ?_
    refine r_ald0 (pc := 3) dX0_isRest_3 ?_
    refine r_cV (pc := 4) dX0_isRest_4 cv_X0_158 (hS.k (c := 0) ow_0 kd_0) (ct_X0_people W S) rfl rfl (Nat.le_of_ble_eq_true rfl) (by first | decide | omega) ?_
    rintro _ _ ⟨rfl, rfl⟩
    first | refine r_icmp_geN (pc := 7) (tgt := 41) dX0_isRest_7 (by decide) (by omega) (by omega) (fun h7 => ?_) (fun h7 => ?_) | refine r_icmp_ge (pc := 7) (tgt := 41) dX0_isRest_7 (by decide) (fun h7 => ?_) (fun h7 => ?_)
    · skip
      refine r_iconst (v := nI 1) (pc := 41) dX0_isRest_41 (by decide) ?_
      refine r_zret (pc := 42) dX0_isRest_42 (by first | rfl | exact zI_nar | assumption) ?_
      exact ⟨by rw [zI_t (show allR _ 0 p = true from rfl)]; rfl, rfl⟩
    · skip
      exact absurd h7 (by omega)
  | succ k ih =>
    intro p hk
    have hfl := flp_lt (tn (gT q)) (by omega) x hx p (by omega)
    have f1 := hf (flp x p) p hfl (by omega)
    have f2 := hf x p hx (by omega)
    refine r_ild2 (pc := 2) dX0_isRest_2 ?_
    refine r_ald0 (pc := 3) dX0_isRest_3 ?_
    refine r_cV (pc := 4) dX0_isRest_4 cv_X0_158 (hS.k (c := 0) ow_0 kd_0) (ct_X0_people W S) rfl rfl (Nat.le_of_ble_eq_true rfl) (by first | decide | omega) ?_
    rintro _ _ ⟨rfl, rfl⟩
    first | refine r_icmp_geN (pc := 7) (tgt := 41) dX0_isRest_7 (by decide) (by omega) (by omega) (fun h7 => ?_) (fun h7 => ?_) | refine r_icmp_ge (pc := 7) (tgt := 41) dX0_isRest_7 (by decide) (fun h7 => ?_) (fun h7 => ?_)
    · skip
      exact absurd h7 (by omega)
    · skip
      refine r_ald0 (pc := 10) dX0_isRest_10 ?_
      refine x_getR (c := 0) hS ow_0 kd_0 (pc := 11) dX0_isRest_11 fl_X0_78 (fx_0_11 hX) ?_
      refine r_ild1 (pc := 14) dX0_isRest_14 ?_
      refine r_iconst (v := nI 1) (pc := 15) dX0_isRest_15 (by decide) ?_
      refine r_ild2 (pc := 16) dX0_isRest_16 ?_
      refine r_ishl (pc := 17) dX0_isRest_17 ?_
      refine Bd.eqI (shl_all p (by omega)) ?_
      refine r_ixor (pc := 18) dX0_isRest_18 ?_
      refine Bd.eqI (xor_all x (by omega) p (by omega)) ?_
      refine x_aald (c := 124) (j := flp x p) hS ow_124 kd_124 (by decide) ln_124 (pc := 19) dX0_isRest_19 (by omega) (by omega) (fx_lb hX (by omega)) ?_
      refine r_ild2 (pc := 20) dX0_isRest_20 ?_
      refine x_iald (c := (125 + flp x p)) hS (lb_ow (by omega)) (lb_kd (by omega)) (lb_ln (by omega)) (pc := 21) dX0_isRest_21 (by omega) (by omega) ?_
      refine Bd.eqI (hL (flp x p) hfl p (by omega)) ?_
      refine r_ald0 (pc := 22) dX0_isRest_22 ?_
      refine x_getR (c := 0) hS ow_0 kd_0 (pc := 23) dX0_isRest_23 fl_X0_78 (fx_0_11 hX) ?_
      refine r_ild1 (pc := 26) dX0_isRest_26 ?_
      refine x_aald (c := 124) (j := x) hS ow_124 kd_124 (by decide) ln_124 (pc := 27) dX0_isRest_27 (by omega) (by omega) (fx_lb hX (by omega)) ?_
      refine r_ild2 (pc := 28) dX0_isRest_28 ?_
      refine x_iald (c := (125 + x)) hS (lb_ow (by omega)) (lb_kd (by omega)) (lb_ln (by omega)) (pc := 29) dX0_isRest_29 (by omega) (by omega) ?_
      refine Bd.eqI (hL x hx p (by omega)) ?_
      first | refine r_icmp_leN (pc := 30) (tgt := 35) dX0_isRest_30 (by decide) (by omega) (by omega) (fun h30 => ?_) (fun h30 => ?_) | refine r_icmp_le (pc := 30) (tgt := 35) dX0_isRest_30 (by decide) (fun h30 => ?_) (fun h30 => ?_)
      · skip
        first | refine r_iinc2N (j := 1) (pc := 35) dX0_isRest_35 rfl ?_ | refine r_iinc2 (pc := 35) dX0_isRest_35 ?_
        refine r_goto (pc := 38) (tgt := 2) dX0_isRest_38 (by decide) ?_
        rw [show allR (fun p => decide (f (flp x p) p ≤ f x p)) (k + 1) p = allR (fun p => decide (f (flp x p) p ≤ f x p)) k (p + 1) by simp only [allR]; rw [decide_eq_true (by omega), Bool.true_and]]
        exact ih (p + 1) (by omega)
      · skip
        refine r_iconst (v := nI 0) (pc := 33) dX0_isRest_33 (by decide) ?_
        refine r_zret (pc := 34) dX0_isRest_34 (by first | rfl | exact zI_nar | assumption) ?_
        exact ⟨by rw [zI_f (by simp only [allR]; rw [decide_eq_false (by omega), Bool.false_and]; decide)]; rfl, rfl⟩
theorem restS_all {f : Nat → Nat → Nat} {n x : Nat} : restS f n x = allR (fun p => decide (f (flp x p) p ≤ f x p)) n 0 := by
  unfold restS
  apply Bool.eq_iff_iff.mpr
  rw [List.all_eq_true, allR_iff]
  constructor
  · intro h j _ hj; exact h j (List.mem_range.mpr (by omega))
  · intro h p hp; exact h p (Nat.zero_le p) (by have := List.mem_range.mp hp; omega)
theorem ct_X0_isRest {x : Nat} {f : Nat → Nat → Nat} (hI : IX g M o P ta s q) (hL : LbX s (tn (gT q)) f (2 ^ tn (gT q))) (hf : ∀ y p, y < 2 ^ tn (gT q) → p < tn (gT q) → f y p ≤ 99) (hx : x < 2 ^ tn (gT q)) : Ct g yX0_isRest cX0_isRest 3 (some Jvm.ClassFile.FieldType.boolean) 4 0 0 [.ref o, .int (nI x)] (putX M o s) (PQ (putX M o s) (.int (zI (restS f (tn (gT q)) x = true)))) noX := by
  rw [restS_all]
  refine Ct.of (by decide) (Nat.le_of_ble_eq_true rfl) rfl ?_
  refine r_iconst (v := nI 0) (pc := 0) dX0_isRest_0 (by decide) ?_
  refine r_ist2 (pc := 1) dX0_isRest_1 ?_
  exact xrestLoop hI hL hf hx (tn (gT q)) 0 (by omega)
theorem xrest2 {m : Nat} {f : Nat → Nat → Nat} {r : Option Nat} (hI : IX g M o P ta s q) (hL : LbX s (tn (gT q)) f (2 ^ tn (gT q))) (hf : ∀ y p, y < 2 ^ tn (gT q) → p < tn (gT q) → f y p ≤ 99) : ∀ k x b, x + k = 2 ^ tn (gT q) → (∀ y, b = some y → y < 256) → fewS (restS f (tn (gT q))) k x b = r →
    Bd g yX0_rest cX0_rest 4 (some Jvm.ClassFile.FieldType.int) [] 434 0 0 (putX M o s) 119 [some (.ref o), some (.int (nI m)), some (.int (oI b)), some (.int (nI x))] [] (QI g M o P ta q (.int (oI r))) noX := by
  have W := hI.W
  have S := hI.So
  have hg := W.gx
  have hS := W.S
  have hX := W.X
  have hn8 := W.B.1
  have hpw := pow_le (tn (gT q)) (by omega)
  intro k
  induction k with
  | zero =>
    intro x b hk hb hr
    refine r_ild3 (pc := 119) dX0_rest_119 ?_
    refine r_iconst (v := nI 1) (pc := 120) dX0_rest_120 (by decide) ?_
    refine r_ald0 (pc := 121) dX0_rest_121 ?_
    refine r_cV (pc := 122) dX0_rest_122 cv_X0_158 (hS.k (c := 0) ow_0 kd_0) (ct_X0_people W S) rfl rfl (Nat.le_of_ble_eq_true rfl) (by first | decide | omega) ?_
    rintro _ _ ⟨rfl, rfl⟩
    refine r_ishl (pc := 125) dX0_rest_125 ?_
    refine Bd.eqI (shl_all (tn (gT q)) (by omega)) ?_
    first | refine r_icmp_geN (pc := 126) (tgt := 153) dX0_rest_126 (by decide) (by omega) (by omega) (fun h126 => ?_) (fun h126 => ?_) | refine r_icmp_ge (pc := 126) (tgt := 153) dX0_rest_126 (by decide) (fun h126 => ?_) (fun h126 => ?_)
    · skip
      refine r_ild2 (pc := 153) dX0_rest_153 ?_
      refine r_iret (pc := 154) dX0_rest_154 ?_
      exact ⟨s, rfl, by rw [← hr]; rfl, hI⟩
    · skip
      exact absurd h126 (by omega)
  | succ k ih =>
    intro x b hk hb hr
    rw [fewS_s] at hr
    have hgo : ∀ b', (if fewB x b = true ∧ restS f (tn (gT q)) x = true then some x else b) = b' → Bd g yX0_rest cX0_rest 4 (some Jvm.ClassFile.FieldType.int) [] 434 0 0 (putX M o s) 119 [some (.ref o), some (.int (nI m)), some (.int (oI b')), some (.int (nI (x + 1)))] [] (QI g M o P ta q (.int (oI r))) noX := by
      intro b' hb'
      rw [hb'] at hr
      refine ih (x + 1) b' (by omega) (fun y hy => ?_) hr
      rw [hy] at hb'
      split at hb'
      · cases hb'; omega
      · exact hb y hb'
    refine r_ild3 (pc := 119) dX0_rest_119 ?_
    refine r_iconst (v := nI 1) (pc := 120) dX0_rest_120 (by decide) ?_
    refine r_ald0 (pc := 121) dX0_rest_121 ?_
    refine r_cV (pc := 122) dX0_rest_122 cv_X0_158 (hS.k (c := 0) ow_0 kd_0) (ct_X0_people W S) rfl rfl (Nat.le_of_ble_eq_true rfl) (by first | decide | omega) ?_
    rintro _ _ ⟨rfl, rfl⟩
    refine r_ishl (pc := 125) dX0_rest_125 ?_
    refine Bd.eqI (shl_all (tn (gT q)) (by omega)) ?_
    first | refine r_icmp_geN (pc := 126) (tgt := 153) dX0_rest_126 (by decide) (by omega) (by omega) (fun h126 => ?_) (fun h126 => ?_) | refine r_icmp_ge (pc := 126) (tgt := 153) dX0_rest_126 (by decide) (fun h126 => ?_) (fun h126 => ?_)
    · skip
      exact absurd h126 (by omega)
    · skip
      refine r_ild3 (pc := 129) dX0_rest_129 ?_
      refine r_ild2 (pc := 130) dX0_rest_130 ?_
      refine r_cS (pc := 131) dX0_rest_131 cs_X0_266 (ct_X0_isFewer (by omega) hb) rfl rfl (Nat.le_of_ble_eq_true rfl) (by first | decide | omega) ?_
      rintro _ _ ⟨rfl, rfl⟩
      refine r_if_eqZ (pc := 134) (tgt := 147) dX0_rest_134 (by decide) (fun h134 => ?_) (fun h134 => ?_)
      · skip
        first | refine r_iinc3N (j := 1) (pc := 147) dX0_rest_147 rfl ?_ | refine r_iinc3 (pc := 147) dX0_rest_147 ?_
        refine r_goto (pc := 150) (tgt := 119) dX0_rest_150 (by decide) ?_
        first | exact hgo b (if_neg (fun z => h134 z.1)) | exact hgo b (if_neg (fun z => h142 z.2)) | exact hgo (some x) (if_pos ⟨h134, h142⟩)
      · skip
        refine r_ald0 (pc := 137) dX0_rest_137 ?_
        refine r_ild3 (pc := 138) dX0_rest_138 ?_
        refine r_cV (pc := 139) dX0_rest_139 cv_X0_272 (hS.k (c := 0) ow_0 kd_0) (ct_X0_isRest hI hL hf (by omega)) rfl rfl (Nat.le_of_ble_eq_true rfl) (by first | decide | omega) ?_
        rintro _ _ ⟨rfl, rfl⟩
        refine r_if_eqZ (pc := 142) (tgt := 147) dX0_rest_142 (by decide) (fun h142 => ?_) (fun h142 => ?_)
        · skip
          first | refine r_iinc3N (j := 1) (pc := 147) dX0_rest_147 rfl ?_ | refine r_iinc3 (pc := 147) dX0_rest_147 ?_
          refine r_goto (pc := 150) (tgt := 119) dX0_rest_150 (by decide) ?_
          first | exact hgo b (if_neg (fun z => h134 z.1)) | exact hgo b (if_neg (fun z => h142 z.2)) | exact hgo (some x) (if_pos ⟨h134, h142⟩)
        · skip
          refine r_ild3 (pc := 145) dX0_rest_145 ?_
          refine r_ist2 (pc := 146) dX0_rest_146 ?_
          first | refine r_iinc3N (j := 1) (pc := 147) dX0_rest_147 rfl ?_ | refine r_iinc3 (pc := 147) dX0_rest_147 ?_
          refine r_goto (pc := 150) (tgt := 119) dX0_rest_150 (by decide) ?_
          first | exact hgo b (if_neg (fun z => h134 z.1)) | exact hgo b (if_neg (fun z => h142 z.2)) | exact hgo (some x) (if_pos ⟨h134, h142⟩)
/-- the spares are set below i -/
def mxS (t : St) (x i : Nat) : St := (yr t, hs t, lk t, fun p => if p < i then hb x p else sp t p, th t)
theorem mxS_s {t : St} {x i : Nat} : sSp (mxS t x i) i (hb x i) = mxS t x (i + 1) := by
  unfold sSp mxS
  refine Prod.ext rfl (Prod.ext rfl (Prod.ext rfl (Prod.ext ?_ rfl)))
  funext p
  show va_up (fun p => if p < i then hb x p else sp t p) i (hb x i) p = if p < i + 1 then hb x p else sp t p
  unfold va_up
  by_cases e : p = i
  · rw [if_pos e, e, if_pos (by omega)]
  · rw [if_neg e]
    show (if p < i then hb x p else sp t p) = _
    by_cases e2 : p < i
    · rw [if_pos e2, if_pos (by omega)]
    · rw [if_neg e2, if_neg (by omega)]
theorem SX.mx {b n x : Nat} {F K : Nat → Nat} {t : St} (h : SX s b n F K (mxS t x n)) : SX s b n F K (spsS t x) := by
  obtain ⟨h1, h2, h3, h4, h5, h6, h7, h8⟩ := h
  refine ⟨h1, h2, h3, h4, h5, h6, fun p hp => ?_, h8⟩
  have := h7 p hp
  rw [this]
  exact zI_congr (by show (if p < n then hb x p else sp t p) = 1 ↔ hb x p = 1; rw [if_pos hp])
theorem SX.mx0 {b n x : Nat} {F K : Nat → Nat} {t : St} (h : SX s b n F K t) : SX s b n F K (mxS t x 0) := h
theorem xspsLoop {m x : Nat} {s0 : XS} {Q : Option Value → MM → Prop} (hG : GI q) (hx : x < 256) (hI0 : IX g M o P ta s0 q) : ∀ k p s1, p + k = tn (gT q) → SX s1 68 (tn (gT q)) (fa (gT q)) (ki (gT q)) (mxS (gS q) x p) → RX s1 o 68 (gK q) → rX s1 = rX s0 → FrX (stP 68) s0 s1 →
    (∀ s2 x3, SX s2 68 (tn (gT q)) (fa (gT q)) (ki (gT q)) (spsS (gS q) x) → RX s2 o 68 (gK q) → rX s2 = rX s0 → FrX (stP 68) s0 s2 → Bd g yX0_rest cX0_rest 4 (some Jvm.ClassFile.FieldType.int) [] 434 0 0 (putX M o s2) 67 [some (.ref o), some (.int (nI m)), some (.int (nI x)), x3] [] Q noX) →
    Bd g yX0_rest cX0_rest 4 (some Jvm.ClassFile.FieldType.int) [] 434 0 0 (putX M o s1) 39 [some (.ref o), some (.int (nI m)), some (.int (nI x)), some (.int (nI p))] [] Q noX := by
  intro k
  induction k with
  | zero =>
    intro p s1 hk hN hR hr hF K
    obtain rfl : p = tn (gT q) := by omega
    have W := hI0.copyd hr hF
    have S := hI0.So
    have hg := W.gx
    have hS := W.S
    have hX := W.X
    have hn8 := W.B.1
    refine r_ild3 (pc := 39) dX0_rest_39 ?_
    refine r_ald0 (pc := 40) dX0_rest_40 ?_
    refine r_cV (pc := 41) dX0_rest_41 cv_X0_158 (hS.k (c := 0) ow_0 kd_0) (ct_X0_people W S) rfl rfl (Nat.le_of_ble_eq_true rfl) (by first | decide | omega) ?_
    rintro _ _ ⟨rfl, rfl⟩
    first | refine r_icmp_geN (pc := 44) (tgt := 67) dX0_rest_44 (by decide) (by omega) (by omega) (fun h44 => ?_) (fun h44 => ?_) | refine r_icmp_ge (pc := 44) (tgt := 67) dX0_rest_44 (by decide) (fun h44 => ?_) (fun h44 => ?_)
    · skip
      exact K s1 _ hN.mx hR hr hF
    · skip
      exact absurd h44 (by omega)
  | succ k ih =>
    intro p s1 hk hN hR hr hF K
    have W := hI0.copyd hr hF
    have S := hI0.So
    have hg := W.gx
    have hS := W.S
    have hX := W.X
    have hn8 := W.B.1
    have z1 : hb x p < 2 := Nat.mod_lt _ (by decide)
    have hz : zI (hb x p = 1) = nI (hb x p) := by
      have : hb x p = 0 ∨ hb x p = 1 := by omega
      rcases this with e | e <;> rw [e] <;> rfl
    refine r_ild3 (pc := 39) dX0_rest_39 ?_
    refine r_ald0 (pc := 40) dX0_rest_40 ?_
    refine r_cV (pc := 41) dX0_rest_41 cv_X0_158 (hS.k (c := 0) ow_0 kd_0) (ct_X0_people W S) rfl rfl (Nat.le_of_ble_eq_true rfl) (by first | decide | omega) ?_
    rintro _ _ ⟨rfl, rfl⟩
    first | refine r_icmp_geN (pc := 44) (tgt := 67) dX0_rest_44 (by decide) (by omega) (by omega) (fun h44 => ?_) (fun h44 => ?_) | refine r_icmp_ge (pc := 44) (tgt := 67) dX0_rest_44 (by decide) (fun h44 => ?_) (fun h44 => ?_)
    · skip
      exact absurd h44 (by omega)
    · skip
      refine r_ald0 (pc := 47) dX0_rest_47 ?_
      refine x_getR (c := 0) hS ow_0 kd_0 (pc := 48) dX0_rest_48 fl_X0_73 (fx_0_10 hX) ?_
      refine x_getRN (c := 68) hS (st_ow isS_68) (st_kd isS_68) (pc := 51) dX0_rest_51 (fn_X0_177 hg) (fs_7 hX isS_68) ?_
      refine r_ild3 (pc := 54) dX0_rest_54 ?_
      refine r_ild2 (pc := 55) dX0_rest_55 ?_
      refine r_ild3 (pc := 56) dX0_rest_56 ?_
      refine r_cS (pc := 57) dX0_rest_57 cs_X0_258 (ct_X0_has hx (by omega)) rfl rfl (Nat.le_of_ble_eq_true rfl) (by first | decide | omega) ?_
      rintro _ _ ⟨rfl, rfl⟩
      rw [hz]
      refine x_zast (c := (68 + 5)) hS (st_ow5 isS_68) (st_kd5 isS_68) (st_ln5 isS_68) (pc := 60) dX0_rest_60 (by omega) (by omega) ?_
      have hnb : ∀ v' : Nat, v' < 2 → vp_nar .boolean (nI v') = nI v' := by decide
      rw [hnb _ z1]
      first | refine r_iinc3N (j := 1) (pc := 61) dX0_rest_61 rfl ?_ | refine r_iinc3 (pc := 61) dX0_rest_61 ?_
      refine r_goto (pc := 64) (tgt := 39) dX0_rest_64 (by decide) ?_
      refine ih (p + 1) _ (by omega) (by rw [← mxS_s]; exact hN.spare z1) (hR.uI (by omega)) hr (hF.uI ⟨by omega, by omega⟩) K
theorem xlbLoop {m x : Nat} {f : Nat → Nat → Nat} {s0 : XS} {t : St} {Q : Option Value → MM → Prop} (hG : GI q) (hx : x < 256) (hI0 : IX g M o P ta s0 q) (hL0 : LbX s0 (tn (gT q)) f x) (hft : ∀ p, p < tn (gT q) → lk t p = f x p) : ∀ k p s1, p + k = tn (gT q) → IX g M o P ta s1 q → SX s1 68 (tn (gT q)) (fa (gT q)) (ki (gT q)) t → LbX s1 (tn (gT q)) f x → (∀ r, r < p → iX s1 (125 + x) r = nI (f x r)) →
    (∀ s2 x3, IX g M o P ta s2 q → LbX s2 (tn (gT q)) f (x + 1) → Bd g yX0_rest cX0_rest 4 (some Jvm.ClassFile.FieldType.int) [] 434 0 0 (putX M o s2) 109 [some (.ref o), some (.int (nI m)), some (.int (nI x)), x3] [] Q noX) →
    Bd g yX0_rest cX0_rest 4 (some Jvm.ClassFile.FieldType.int) [] 434 0 0 (putX M o s1) 78 [some (.ref o), some (.int (nI m)), some (.int (nI x)), some (.int (nI p))] [] Q noX := by
  intro k
  induction k with
  | zero =>
    intro p s1 hk hI hN hL hr K
    have W := hI.W
    have S := hI.So
    have hg := W.gx
    have hS := W.S
    have hX := W.X
    have hn8 := W.B.1
    refine r_ild3 (pc := 78) dX0_rest_78 ?_
    refine r_ald0 (pc := 79) dX0_rest_79 ?_
    refine r_cV (pc := 80) dX0_rest_80 cv_X0_158 (hS.k (c := 0) ow_0 kd_0) (ct_X0_people W S) rfl rfl (Nat.le_of_ble_eq_true rfl) (by first | decide | omega) ?_
    rintro _ _ ⟨rfl, rfl⟩
    first | refine r_icmp_geN (pc := 83) (tgt := 109) dX0_rest_83 (by decide) (by omega) (by omega) (fun h83 => ?_) (fun h83 => ?_) | refine r_icmp_ge (pc := 83) (tgt := 109) dX0_rest_83 (by decide) (fun h83 => ?_) (fun h83 => ?_)
    · skip
      refine K s1 _ hI (fun y hy r hr2 => ?_)
      by_cases e : y = x
      · rw [e]; exact hr r (by omega)
      · exact hL y (by omega) r hr2
    · skip
      exact absurd h83 (by omega)
  | succ k ih =>
    intro p s1 hk hI hN hL hr K
    have W := hI.W
    have S := hI.So
    have hg := W.gx
    have hS := W.S
    have hX := W.X
    have hn8 := W.B.1
    refine r_ild3 (pc := 78) dX0_rest_78 ?_
    refine r_ald0 (pc := 79) dX0_rest_79 ?_
    refine r_cV (pc := 80) dX0_rest_80 cv_X0_158 (hS.k (c := 0) ow_0 kd_0) (ct_X0_people W S) rfl rfl (Nat.le_of_ble_eq_true rfl) (by first | decide | omega) ?_
    rintro _ _ ⟨rfl, rfl⟩
    first | refine r_icmp_geN (pc := 83) (tgt := 109) dX0_rest_83 (by decide) (by omega) (by omega) (fun h83 => ?_) (fun h83 => ?_) | refine r_icmp_ge (pc := 83) (tgt := 109) dX0_rest_83 (by decide) (fun h83 => ?_) (fun h83 => ?_)
    · skip
      exact absurd h83 (by omega)
    · skip
      refine r_ald0 (pc := 86) dX0_rest_86 ?_
      refine x_getR (c := 0) hS ow_0 kd_0 (pc := 87) dX0_rest_87 fl_X0_78 (fx_0_11 hX) ?_
      refine r_ild2 (pc := 90) dX0_rest_90 ?_
      refine x_aald (c := 124) (j := x) hS ow_124 kd_124 (by decide) ln_124 (pc := 91) dX0_rest_91 (by omega) (by omega) (fx_lb hX (by omega)) ?_
      refine r_ild3 (pc := 92) dX0_rest_92 ?_
      refine r_ald0 (pc := 93) dX0_rest_93 ?_
      refine x_getR (c := 0) hS ow_0 kd_0 (pc := 94) dX0_rest_94 fl_X0_73 (fx_0_10 hX) ?_
      refine x_getRN (c := 68) hS (st_ow isS_68) (st_kd isS_68) (pc := 97) dX0_rest_97 (fn_X0_174 hg) (fs_4 hX isS_68) ?_
      refine r_ild3 (pc := 100) dX0_rest_100 ?_
      refine x_iald (c := (68 + 2)) hS (st_ow2 isS_68) (st_kd2 isS_68) (st_ln2 isS_68) (pc := 101) dX0_rest_101 (by omega) (by omega) ?_
      refine Bd.eqI (hN.2.2.2.1 p (by omega)) ?_
      rw [hft p (by omega)]
      refine x_iast (c := (125 + x)) hS (lb_ow (by omega)) (lb_kd (by omega)) (lb_ln (by omega)) (pc := 102) dX0_rest_102 (by omega) (by omega) ?_
      first | refine r_iinc3N (j := 1) (pc := 103) dX0_rest_103 rfl ?_ | refine r_iinc3 (pc := 103) dX0_rest_103 ?_
      refine r_goto (pc := 106) (tgt := 78) dX0_rest_106 (by decide) ?_
      refine ih (p + 1) _ (by omega) (hI.scr hG (FrX.uI FrX.rf (Or.inr (Or.inl ⟨by omega, by omega⟩))) hX (hI.pm 68 isS_68) hI.W.m) (hN.fr (fun c h1 h2 j _ => by rw [iX_c (by omega)]) hn8) (fun y hy r hr2 => by rw [iX_c (by omega)]; exact hL y hy r hr2) (fun r hr2 => ?_) K
      rw [iX_uI]
      by_cases e : r = p
      · rw [if_pos ⟨rfl, e⟩, e]
      · rw [if_neg (fun z => e z.2)]; exact hr r (by omega)
theorem xrest1 {m : Nat} {Q : Option Value → MM → Prop} (hG : GI q) (hm : m ≤ 20) (hy0 : yr (gS q) ≤ 999) : ∀ k x s1 x3, x + k = 2 ^ tn (gT q) → IX g M o P ta s1 q → LbX s1 (tn (gT q)) (thenS (gT q) (gS q) m) x →
    (∀ s2 x2 x3, IX g M o P ta s2 q → LbX s2 (tn (gT q)) (thenS (gT q) (gS q) m) (2 ^ tn (gT q)) → Bd g yX0_rest cX0_rest 4 (some Jvm.ClassFile.FieldType.int) [] 434 0 0 (putX M o s2) 115 [some (.ref o), some (.int (nI m)), x2, x3] [] Q noX) →
    Bd g yX0_rest cX0_rest 4 (some Jvm.ClassFile.FieldType.int) [] 434 0 0 (putX M o s1) 15 [some (.ref o), some (.int (nI m)), some (.int (nI x)), x3] [] Q noX := by
  intro k
  induction k with
  | zero =>
    intro x s1 x3 hk hI hL K
    have W := hI.W
    have S := hI.So
    have hg := W.gx
    have hS := W.S
    have hX := W.X
    have hTB := W.B
    have hn8 := hTB.1
    have hH9 := hTB.2.1
    have hN := hI.nw.1
    have hR := hI.nw.2
    have hB : SB (tn (gT q)) (gS q) := hG.2.2.2.2.2.1.1
    have hpw := pow_le (tn (gT q)) (by omega)
    obtain rfl : x = 2 ^ tn (gT q) := by omega
    refine r_ild2 (pc := 15) dX0_rest_15 ?_
    refine r_iconst (v := nI 1) (pc := 16) dX0_rest_16 (by decide) ?_
    refine r_ald0 (pc := 17) dX0_rest_17 ?_
    refine r_cV (pc := 18) dX0_rest_18 cv_X0_158 (hS.k (c := 0) ow_0 kd_0) (ct_X0_people W S) rfl rfl (Nat.le_of_ble_eq_true rfl) (by first | decide | omega) ?_
    rintro _ _ ⟨rfl, rfl⟩
    refine r_ishl (pc := 21) dX0_rest_21 ?_
    refine Bd.eqI (shl_all (tn (gT q)) (by omega)) ?_
    first | refine r_icmp_geN (pc := 22) (tgt := 115) dX0_rest_22 (by decide) (by omega) (by omega) (fun h22 => ?_) (fun h22 => ?_) | refine r_icmp_ge (pc := 22) (tgt := 115) dX0_rest_22 (by decide) (fun h22 => ?_) (fun h22 => ?_)
    · skip
      exact K s1 _ _ hI hL
    · skip
      exact absurd h22 (by omega)
  | succ k ih =>
    intro x s1 x3 hk hI hL K
    have W := hI.W
    have S := hI.So
    have hg := W.gx
    have hS := W.S
    have hX := W.X
    have hTB := W.B
    have hn8 := hTB.1
    have hH9 := hTB.2.1
    have hN := hI.nw.1
    have hR := hI.nw.2
    have hB : SB (tn (gT q)) (gS q) := hG.2.2.2.2.2.1.1
    have hpw := pow_le (tn (gT q)) (by omega)
    obtain ⟨pm, hpm⟩ := hI.pm 68 isS_68
    refine r_ild2 (pc := 15) dX0_rest_15 ?_
    refine r_iconst (v := nI 1) (pc := 16) dX0_rest_16 (by decide) ?_
    refine r_ald0 (pc := 17) dX0_rest_17 ?_
    refine r_cV (pc := 18) dX0_rest_18 cv_X0_158 (hS.k (c := 0) ow_0 kd_0) (ct_X0_people W S) rfl rfl (Nat.le_of_ble_eq_true rfl) (by first | decide | omega) ?_
    rintro _ _ ⟨rfl, rfl⟩
    refine r_ishl (pc := 21) dX0_rest_21 ?_
    refine Bd.eqI (shl_all (tn (gT q)) (by omega)) ?_
    first | refine r_icmp_geN (pc := 22) (tgt := 115) dX0_rest_22 (by decide) (by omega) (by omega) (fun h22 => ?_) (fun h22 => ?_) | refine r_icmp_ge (pc := 22) (tgt := 115) dX0_rest_22 (by decide) (fun h22 => ?_) (fun h22 => ?_)
    · skip
      exact absurd h22 (by omega)
    · skip
      refine r_ald0 (pc := 25) dX0_rest_25 ?_
      refine x_getR (c := 0) hS ow_0 kd_0 (pc := 26) dX0_rest_26 fl_X0_73 (fx_0_10 hX) ?_
      refine r_ald0 (pc := 29) dX0_rest_29 ?_
      refine x_getR (c := 0) hS ow_0 kd_0 (pc := 30) dX0_rest_30 fl_X0_69 (fx_0_9 hX) ?_
      refine r_cV (pc := 33) dX0_rest_33 cv_X0_239 (hS.k (c := 68) (st_ow isS_68) (st_kd isS_68)) (ct_X5_copy hS hX isS_68 isS_12 (by decide) hN hn8 hR hpm) rfl rfl (Nat.le_of_ble_eq_true rfl) (by first | decide | omega) ?_
      rintro _ _ ⟨s2, rfl, rfl, hN1, hR1, hr1, hF1⟩
      refine r_pop (pc := 36) dX0_rest_36 rfl ?_
      refine r_iconst (v := nI 0) (pc := 37) dX0_rest_37 (by decide) ?_
      refine r_ist3 (pc := 38) dX0_rest_38 ?_
      refine xspsLoop (m := m) (x := x) hG (by omega) hI (tn (gT q)) 0 s2 (by omega) hN1.mx0 hR1 hr1 hF1 (fun s3 x3 hN3 hR3 hr3 hF3 => ?_)
      have W3 := hI.copyd hr3 hF3
      have hX := W3.X
      refine r_ald0 (pc := 67) dX0_rest_67 ?_
      refine x_getR (c := 0) hS ow_0 kd_0 (pc := 68) dX0_rest_68 fl_X0_73 (fx_0_10 hX) ?_
      refine r_ild1 (pc := 71) dX0_rest_71 ?_
      refine r_cV (pc := 72) dX0_rest_72 cv_X0_243 (hS.k (c := 68) (st_ow isS_68) (st_kd isS_68)) (ct_X5_years W3 isS_68 hN3 hR3 (spsS_SB hB) (by omega) (by show yr (gS q) + m ≤ 2000; omega)) rfl rfl (Nat.le_of_ble_eq_true rfl) (by decide) ?_
      rintro _ _ ⟨s4, rfl, rfl, hQ⟩
      have hI4 := tryYears hI hG hF3 hQ
      have hF4 := hQ.2.2.2
      refine r_pop (pc := 75) dX0_rest_75 rfl ?_
      refine r_iconst (v := nI 0) (pc := 76) dX0_rest_76 (by decide) ?_
      refine r_ist3 (pc := 77) dX0_rest_77 ?_
      refine xlbLoop (m := m) (x := x) (f := thenS (gT q) (gS q) m) hG (by omega) hI hL (fun p hp => rfl) (tn (gT q)) 0 s4 (by omega) hI4 hQ.2.1 (fun y hy r hr2 => ?_) (fun r hr2 => absurd hr2 (Nat.not_lt_zero r)) (fun s5 x3 hI5 hL5 => ?_)
      · rw [hF4.1 _ (by unfold yP stP; omega), hF3.1 _ (by unfold stP; omega)]; exact hL y hy r hr2
      · refine r_iinc2N (j := 1) (pc := 109) dX0_rest_109 rfl ?_
        refine r_goto (pc := 112) (tgt := 15) dX0_rest_112 (by decide) ?_
        exact ih (x + 1) s5 _ (by omega) hI5 hL5 K
theorem px_rest {x : Int32} (hI : IX g M o P ta s q) (hG : GI q) : Ct g yX0_rest cX0_rest 4 (some Jvm.ClassFile.FieldType.int) 434 0 0 [.ref o, .int x] (putX M o s) (QI g M o P ta q (.int (restQ q x))) noX := by
  have W := hI.W
  have S := hI.So
  have hg := W.gx
  have hS := W.S
  have hX := W.X
  have hTB := W.B
  have hn8 := hTB.1
  have hH9 := hTB.2.1
  have hN := hI.nw.1
  have hR := hI.nw.2
  have hB : SB (tn (gT q)) (gS q) := hG.2.2.2.2.2.1.1
  have hy0 : yr (gS q) ≤ 999 := hG.2.2.2.2.2.1.2.1
  refine Ct.of (by decide) (Nat.le_of_ble_eq_true rfl) rfl ?_
  unfold restQ
  by_cases hit : gIt q = true
  · have hH : 0 < tH (gT q) := by have := hG.2.2.2.2.1 hit; omega
    simp only [if_pos hit]
    cases hr : ahd (gS q) x 1 20 with
    | none =>
      have hr := ahd_none hr
      refine r_ald0 (pc := 0) dX0_rest_0 ?_
      refine r_ild1 (pc := 1) dX0_rest_1 ?_
      refine r_iconst (v := nI 1) (pc := 2) dX0_rest_2 (by decide) ?_
      refine r_bipush (v := nI 20) (pc := 3) dX0_rest_3 (by decide) ?_
      refine r_cV (pc := 5) dX0_rest_5 cv_X0_236 (hS.k (c := 0) ow_0 kd_0) (ct_X0_isAhead W hN.1 hB.1 (by decide) (by decide)) rfl rfl (Nat.le_of_ble_eq_true rfl) (by first | decide | omega) ?_
      rintro _ _ ⟨rfl, rfl⟩
      first | refine r_if_neZ (pc := 8) (tgt := 13) dX0_rest_8 (by decide) (fun h8 => ?_) (fun h8 => ?_) | refine r_if_neN (pc := 8) (tgt := 13) dX0_rest_8 (by decide) (by omega) (fun h8 => ?_) (fun h8 => ?_) | refine r_if_ne (pc := 8) (tgt := 13) dX0_rest_8 (by decide) (fun h8 => ?_) (fun h8 => ?_)
      · skip
        exact absurd h8.2 hr
      · skip
        refine r_iconst (v := -1) (pc := 11) dX0_rest_11 (by decide) ?_
        refine r_iret (pc := 12) dX0_rest_12 ?_
        exact ⟨s, rfl, rfl, hI⟩
    | some m =>
      obtain ⟨n1, n2, n3, rfl⟩ := ahd_some hr
      refine r_ald0 (pc := 0) dX0_rest_0 ?_
      refine r_ild1 (pc := 1) dX0_rest_1 ?_
      refine r_iconst (v := nI 1) (pc := 2) dX0_rest_2 (by decide) ?_
      refine r_bipush (v := nI 20) (pc := 3) dX0_rest_3 (by decide) ?_
      refine r_cV (pc := 5) dX0_rest_5 cv_X0_236 (hS.k (c := 0) ow_0 kd_0) (ct_X0_isAhead W hN.1 hB.1 (by decide) (by decide)) rfl rfl (Nat.le_of_ble_eq_true rfl) (by first | decide | omega) ?_
      rintro _ _ ⟨rfl, rfl⟩
      first | refine r_if_neZ (pc := 8) (tgt := 13) dX0_rest_8 (by decide) (fun h8 => ?_) (fun h8 => ?_) | refine r_if_neN (pc := 8) (tgt := 13) dX0_rest_8 (by decide) (by omega) (fun h8 => ?_) (fun h8 => ?_) | refine r_if_ne (pc := 8) (tgt := 13) dX0_rest_8 (by decide) (fun h8 => ?_) (fun h8 => ?_)
      · skip
        refine r_iconst (v := nI 0) (pc := 13) dX0_rest_13 (by decide) ?_
        refine r_ist2 (pc := 14) dX0_rest_14 ?_
        refine xrest1 hG n2 hy0 (2 ^ tn (gT q)) 0 s none (by omega) hI (fun y hy => absurd hy (Nat.not_lt_zero y)) (fun s2 x2 x3 hI2 hL2 => ?_)
        refine r_iconst (v := -1) (pc := 115) dX0_rest_115 (by decide) ?_
        refine r_ist2 (pc := 116) dX0_rest_116 ?_
        refine r_iconst (v := nI 0) (pc := 117) dX0_rest_117 (by decide) ?_
        refine r_ist3 (pc := 118) dX0_rest_118 ?_
        exact xrest2 hI2 hL2 (fun y p hy hp => ((yearsS_SB m (gT q) (spsS (gS q) y) (spsS_SB hB) (by show yr (gS q) + m ≤ 2000; omega)).2 p hp).2.1) (2 ^ tn (gT q)) 0 none (by omega) (fun y h => by cases h) rfl
      · skip
        exact absurd (by rw [nI_toInt (by omega)]; omega) h8
  · have hH : tH (gT q) = 0 := (hG.2.2.2.1 (by simpa using hit)).1
    simp only [if_neg hit]
    refine r_ald0 (pc := 0) dX0_rest_0 ?_
    refine r_ild1 (pc := 1) dX0_rest_1 ?_
    refine r_iconst (v := nI 1) (pc := 2) dX0_rest_2 (by decide) ?_
    refine r_bipush (v := nI 20) (pc := 3) dX0_rest_3 (by decide) ?_
    refine r_cV (pc := 5) dX0_rest_5 cv_X0_236 (hS.k (c := 0) ow_0 kd_0) (ct_X0_isAhead W hN.1 hB.1 (by decide) (by decide)) rfl rfl (Nat.le_of_ble_eq_true rfl) (by first | decide | omega) ?_
    rintro _ _ ⟨rfl, rfl⟩
    first | refine r_if_neZ (pc := 8) (tgt := 13) dX0_rest_8 (by decide) (fun h8 => ?_) (fun h8 => ?_) | refine r_if_neN (pc := 8) (tgt := 13) dX0_rest_8 (by decide) (by omega) (fun h8 => ?_) (fun h8 => ?_) | refine r_if_ne (pc := 8) (tgt := 13) dX0_rest_8 (by decide) (fun h8 => ?_) (fun h8 => ?_)
    · skip
      exact absurd h8.1 (by omega)
    · skip
      refine r_iconst (v := -1) (pc := 11) dX0_rest_11 (by decide) ?_
      refine r_iret (pc := 12) dX0_rest_12 ?_
      exact ⟨s, rfl, rfl, hI⟩
end X27
