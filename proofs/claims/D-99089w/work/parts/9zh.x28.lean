set_option maxRecDepth 100000
/-! RETOUCHED: what is seen -/
/-- a row is as it was seen -/
def okRw (T : Te) (t : St) (e : Ev) : Bool := lk (yearsS T e.1 t).1 e.2.1 == e.2.2
def mtN (T : Te) (t : St) (rw : List Ev) (k : Nat) : Nat := rw.countP (fun e => decide (e.1 < k) && okRw T t e)
def mtK (T : Te) (t : St) (rw : List Ev) (k : Nat) : Nat := rw.countP (fun e => decide (e.1 = k) && okRw T t e)
theorem mtN_s {T : Te} {t : St} {k : Nat} : ∀ rw : List Ev, mtN T t rw (k + 1) = mtN T t rw k + mtK T t rw k
  | [] => rfl
  | e :: rw => by
    have ih := mtN_s (T := T) (t := t) (k := k) rw
    unfold mtN mtK at ih ⊢
    rw [List.countP_cons, List.countP_cons, List.countP_cons, ih]
    by_cases h : okRw T t e = true
    · by_cases h1 : e.1 < k
      · simp [h, h1, show e.1 < k + 1 by omega, show ¬ e.1 = k by omega]; omega
      · by_cases h2 : e.1 = k
        · simp [h, h2]; omega
        · simp [h, h1, h2, show ¬ e.1 < k + 1 by omega]
    · simp [h]
theorem mtN_le {T : Te} {t : St} {rw : List Ev} {k : Nat} : mtN T t rw k ≤ rw.length := List.countP_le_length
/-- all rows are met: all is as seen -/
theorem mt_seen {T : Te} {t : St} {rw : List Ev} (hr : ∀ e ∈ rw, e.1 ≤ 30) (hy : yr t ≤ 999) : mtN T t rw (min 31 (1000 - yr t)) = rw.length ↔ seenN rw T t 31 = true := by
  have h1 : mtN T t rw (min 31 (1000 - yr t)) = rw.length ↔ ∀ e ∈ rw, yr t + e.1 ≤ 999 ∧ okRw T t e = true := by
    unfold mtN
    rw [List.countP_eq_length]
    constructor
    · intro h e he
      have := h e he
      rw [Bool.and_eq_true] at this
      have h3 := of_decide_eq_true this.1
      exact ⟨by omega, this.2⟩
    · intro h e he
      have h3 := hr e he
      rw [Bool.and_eq_true]
      exact ⟨decide_eq_true (by have := (h e he).1; omega), (h e he).2⟩
  have h2 : ∀ n, seenN rw T t n = true ↔ ∀ y, y < n → ∀ e ∈ rw, e.1 = y → yr t + y ≤ 999 ∧ okRw T t e = true := by
    intro n
    induction n with
    | zero => exact ⟨fun _ y hy => absurd hy (Nat.not_lt_zero y), fun _ => rfl⟩
    | succ n ih =>
      show (seenN rw T t n && asSeen rw (yearsS T n t).1 n) = true ↔ _
      rw [Bool.and_eq_true, ih]
      have ha : asSeen rw (yearsS T n t).1 n = true ↔ ∀ e ∈ rw, e.1 = n → yr t + n ≤ 999 ∧ okRw T t e = true := by
        unfold asSeen
        rw [List.all_eq_true]
        constructor
        · intro h e he hn
          have h3 := h e he
          unfold asE at h3
          rw [yearsS_yr, hn] at h3
          simp only [beq_self_eq_true, Bool.true_and, Bool.not_eq_true', Bool.or_eq_false_iff, decide_eq_false_iff_not] at h3
          refine ⟨by omega, ?_⟩
          unfold okRw
          rw [hn]
          have h4 := h3.2
          simpa using h4
        · intro h e he
          unfold asE
          rw [yearsS_yr]
          by_cases hn : e.1 = n
          · obtain ⟨q1, q2⟩ := h e he hn
            unfold okRw at q2
            rw [hn] at q2
            rw [show (e.1 == n) = true by simpa using hn, show decide (999 < yr t + n) = false by simpa using q1]
            simp at q2
            simp [q2]
          · rw [show (e.1 == n) = false by simpa using hn]; rfl
      rw [ha]
      constructor
      · intro ⟨a1, a2⟩ y hy e he hn
        by_cases e2 : y = n
        · subst e2; exact a2 e he hn
        · exact a1 y (by omega) e he hn
      · intro h
        exact ⟨fun y hy => h y (by omega), h n (by omega)⟩
  rw [h1, h2]
  constructor
  · intro h y _ e he hn
    have := h e he
    rw [hn] at this
    exact this
  · intro h e he
    exact h e.1 (by have := hr e he; omega) e he rfl
section X28
variable {g : GC} {M : MM} {o ta : Nat} {P : Nat → Prop} {s : XS} {q : Sg} {T : Te} {t : St}
theorem xseenIn {v f k y0 : Nat} {y : Nat} {Q : Option Value → MM → Prop} (hI : IX g M o P ta s q) (hG : GI q) (hN : SX s 68 (tn (gT q)) (fa T) (ki T) (yearsS T k t).1) (hBk : SB (tn (gT q)) (yearsS T k t).1) (hk : k < 31) : ∀ m i c, i + m = (gRw q).length → c + m ≤ 100 →
    (∀ x5, Bd g yX0_isSeen cX0_isSeen 6 (some Jvm.ClassFile.FieldType.boolean) [] 433 0 0 (putX M o s) 98 [some (.ref o), some (.int (nI v)), some (.int (nI f)), some (.int (nI (c + mtK T t ((gRw q).drop i) k))), some (.int (nI k)), x5] [] Q noX) →
    Bd g yX0_isSeen cX0_isSeen 6 (some Jvm.ClassFile.FieldType.boolean) [] 433 0 0 (putX M o s) 38 [some (.ref o), some (.int (nI v)), some (.int (nI f)), some (.int (nI c)), some (.int (nI k)), some (.int (nI i))] [] Q noX := by
  have W := hI.W
  have hg := W.gx
  have hS := W.S
  have hX := W.X
  have hn8 := W.B.1
  have h16 : (gRw q).length ≤ 16 := hG.2.2.2.2.2.2.2.2.1
  intro m
  induction m with
  | zero =>
    intro i c hi hc K
    have hd : (gRw q).drop i = [] := List.drop_of_length_le (by omega)
    rw [hd] at K
    refine r_ild5 (pc := 38) dX0_isSeen_38 ?_
    refine r_ald0 (pc := 40) dX0_isSeen_40 ?_
    refine x_getI (c := 0) hS ow_0 kd_0 (pc := 41) dX0_isSeen_41 fl_X0_140 ?_
    rw [hI.rw.1]
    first | refine r_icmp_geN (pc := 44) (tgt := 98) dX0_isSeen_44 (by decide) (by omega) (by omega) (fun h44 => ?_) (fun h44 => ?_) | refine r_icmp_ge (pc := 44) (tgt := 98) dX0_isSeen_44 (by decide) (fun h44 => ?_) (fun h44 => ?_)
    · skip
      exact K _
    · skip
      exact absurd h44 (by omega)
  | succ m ih =>
    intro i c hi hc K
    have hlt : i < (gRw q).length := by omega
    have hd : (gRw q).drop i = (gRw q)[i] :: (gRw q).drop (i + 1) := List.drop_eq_getElem_cons hlt
    have hge := List.getElem?_eq_getElem hlt
    have hmem : (gRw q)[i] ∈ gRw q := List.getElem_mem hlt
    generalize (gRw q)[i] = e at hd hge hmem
    obtain ⟨a, b, c'⟩ := e
    obtain ⟨p1, p2, p3⟩ := hI.rw.2 i a b c' hge
    obtain ⟨r1, r2, r3⟩ := hG.2.2.2.2.2.2.2.2.2.1 (a, b, c') hmem
    have r1 : a ≤ 30 := r1
    have r2 : b < tn (gT q) := r2
    have r3 : c' ≤ 99 := r3
    have hl := (hBk.2 b r2).2.1
    have hct : mtK T t ((gRw q).drop i) k = (if a = k ∧ lk (yearsS T k t).1 b = c' then 1 else 0) + mtK T t ((gRw q).drop (i + 1)) k := by
      rw [hd]
      unfold mtK
      rw [List.countP_cons, Nat.add_comm]
      congr 1
      by_cases e1 : a = k
      · subst e1
        by_cases e2 : lk (yearsS T a t).1 b = c' <;> simp [okRw, e2]
      · simp [e1]
    have hgo : ∀ d, (if a = k ∧ lk (yearsS T k t).1 b = c' then 1 else 0) = d → d ≤ 1 → Bd g yX0_isSeen cX0_isSeen 6 (some Jvm.ClassFile.FieldType.boolean) [] 433 0 0 (putX M o s) 38 [some (.ref o), some (.int (nI v)), some (.int (nI f)), some (.int (nI (c + d))), some (.int (nI k)), some (.int (nI (i + 1)))] [] Q noX := by
      intro d hd2 hd1
      refine ih (i + 1) (c + d) (by omega) (by omega) (fun x5 => ?_)
      have := K x5
      rw [hct, hd2, ← Nat.add_assoc] at this
      exact this
    clear ih
    refine r_ild5 (pc := 38) dX0_isSeen_38 ?_
    refine r_ald0 (pc := 40) dX0_isSeen_40 ?_
    refine x_getI (c := 0) hS ow_0 kd_0 (pc := 41) dX0_isSeen_41 fl_X0_140 ?_
    rw [hI.rw.1]
    first | refine r_icmp_geN (pc := 44) (tgt := 98) dX0_isSeen_44 (by decide) (by omega) (by omega) (fun h44 => ?_) (fun h44 => ?_) | refine r_icmp_ge (pc := 44) (tgt := 98) dX0_isSeen_44 (by decide) (fun h44 => ?_) (fun h44 => ?_)
    · skip
      exact absurd h44 (by omega)
    · skip
      refine r_ild3 (pc := 47) dX0_isSeen_47 ?_
      refine r_ald0 (pc := 48) dX0_isSeen_48 ?_
      refine x_getR (c := 0) hS ow_0 kd_0 (pc := 49) dX0_isSeen_49 fl_X0_81 (fx_0_12 hX) ?_
      refine r_ild5 (pc := 52) dX0_isSeen_52 ?_
      refine x_iald (c := 381) hS ow_381 kd_381 ln_381 (pc := 54) dX0_isSeen_54 (by omega) (by omega) ?_
      refine Bd.eqI p1 ?_
      refine r_ild4 (pc := 55) dX0_isSeen_55 ?_
      first | refine r_icmp_neN (pc := 57) (tgt := 89) dX0_isSeen_57 (by decide) (by omega) (by omega) (fun h57 => ?_) (fun h57 => ?_) | refine r_icmp_ne (pc := 57) (tgt := 89) dX0_isSeen_57 (by decide) (fun h57 => ?_) (fun h57 => ?_)
      · skip
        refine r_iconst (v := nI 0) (pc := 89) dX0_isSeen_89 (by decide) ?_
        first | refine r_iaddN (pc := 90) dX0_isSeen_90 ?_ | refine r_iaddJ (pc := 90) dX0_isSeen_90 ?_ | refine r_iadd (pc := 90) dX0_isSeen_90 ?_
        refine r_ist3 (pc := 91) dX0_isSeen_91 ?_
        first | refine r_iinc5N (j := 1) (pc := 92) dX0_isSeen_92 rfl ?_ | refine r_iinc5 (pc := 92) dX0_isSeen_92 ?_
        refine r_goto (pc := 95) (tgt := 38) dX0_isSeen_95 (by decide) ?_
        first | exact hgo 0 (if_neg (fun z => h57 z.1)) (by decide) | exact hgo 0 (if_neg (fun z => h82 z.2)) (by decide) | exact hgo 1 (if_pos ⟨h57, h82⟩) (by decide)
      · skip
        refine r_ald0 (pc := 60) dX0_isSeen_60 ?_
        refine x_getR (c := 0) hS ow_0 kd_0 (pc := 61) dX0_isSeen_61 fl_X0_73 (fx_0_10 hX) ?_
        refine x_getRN (c := 68) hS (st_ow isS_68) (st_kd isS_68) (pc := 64) dX0_isSeen_64 (fn_X0_174 hg) (fs_4 hX isS_68) ?_
        refine r_ald0 (pc := 67) dX0_isSeen_67 ?_
        refine x_getR (c := 0) hS ow_0 kd_0 (pc := 68) dX0_isSeen_68 fl_X0_84 (fx_0_13 hX) ?_
        refine r_ild5 (pc := 71) dX0_isSeen_71 ?_
        refine x_iald (c := 382) hS ow_382 kd_382 ln_382 (pc := 73) dX0_isSeen_73 (by omega) (by omega) ?_
        refine Bd.eqI p2 ?_
        refine x_iald (c := (68 + 2)) hS (st_ow2 isS_68) (st_kd2 isS_68) (st_ln2 isS_68) (pc := 74) dX0_isSeen_74 (by omega) (by omega) ?_
        refine Bd.eqI (hN.2.2.2.1 b r2) ?_
        refine r_ald0 (pc := 75) dX0_isSeen_75 ?_
        refine x_getR (c := 0) hS ow_0 kd_0 (pc := 76) dX0_isSeen_76 fl_X0_87 (fx_0_14 hX) ?_
        refine r_ild5 (pc := 79) dX0_isSeen_79 ?_
        refine x_iald (c := 383) hS ow_383 kd_383 ln_383 (pc := 81) dX0_isSeen_81 (by omega) (by omega) ?_
        refine Bd.eqI p3 ?_
        first | refine r_icmp_neN (pc := 82) (tgt := 89) dX0_isSeen_82 (by decide) (by omega) (by omega) (fun h82 => ?_) (fun h82 => ?_) | refine r_icmp_ne (pc := 82) (tgt := 89) dX0_isSeen_82 (by decide) (fun h82 => ?_) (fun h82 => ?_)
        · skip
          refine r_iconst (v := nI 0) (pc := 89) dX0_isSeen_89 (by decide) ?_
          first | refine r_iaddN (pc := 90) dX0_isSeen_90 ?_ | refine r_iaddJ (pc := 90) dX0_isSeen_90 ?_ | refine r_iadd (pc := 90) dX0_isSeen_90 ?_
          refine r_ist3 (pc := 91) dX0_isSeen_91 ?_
          first | refine r_iinc5N (j := 1) (pc := 92) dX0_isSeen_92 rfl ?_ | refine r_iinc5 (pc := 92) dX0_isSeen_92 ?_
          refine r_goto (pc := 95) (tgt := 38) dX0_isSeen_95 (by decide) ?_
          first | exact hgo 0 (if_neg (fun z => h57 z.1)) (by decide) | exact hgo 0 (if_neg (fun z => h82 z.2)) (by decide) | exact hgo 1 (if_pos ⟨h57, h82⟩) (by decide)
        · skip
          refine r_iconst (v := nI 1) (pc := 85) dX0_isSeen_85 (by decide) ?_
          refine r_goto (pc := 86) (tgt := 90) dX0_isSeen_86 (by decide) ?_
          first | refine r_iaddN (pc := 90) dX0_isSeen_90 ?_ | refine r_iaddJ (pc := 90) dX0_isSeen_90 ?_ | refine r_iadd (pc := 90) dX0_isSeen_90 ?_
          refine r_ist3 (pc := 91) dX0_isSeen_91 ?_
          first | refine r_iinc5N (j := 1) (pc := 92) dX0_isSeen_92 rfl ?_ | refine r_iinc5 (pc := 92) dX0_isSeen_92 ?_
          refine r_goto (pc := 95) (tgt := 38) dX0_isSeen_95 (by decide) ?_
          first | exact hgo 0 (if_neg (fun z => h57 z.1)) (by decide) | exact hgo 0 (if_neg (fun z => h82 z.2)) (by decide) | exact hgo 1 (if_pos ⟨h57, h82⟩) (by decide)
/-- the portraits of one, year by year, so far -/
def WyX (s : XS) (T : Te) (t : St) (v f k : Nat) : Prop := ∀ y, y < k → iX s (385 + v) y = nI (lk (yearsS T y t).1 f)
/-- what a look ahead may change -/
def snP (v c : Nat) : Prop := yP 68 c ∨ c = 385 + v
theorem snP_sc {v c : Nat} (hv : v < 10) (h : snP v c) : scP c := by unfold snP at h; unfold scP; rcases h with h | h; exact Or.inl h; exact Or.inr (Or.inr ⟨by omega, by omega⟩)
theorem xseenLoop {v f : Nat} {s0 : XS} (hG : GI q) (hI0 : IX g M o P ta s0 q) (h1 : tH T = tH (gT q)) (h2 : cd T = cd (gT q)) (h3 : tn T = tn (gT q)) (hT : TB T) (hH : 0 < tH (gT q)) (hyt : yr t = yr (gS q)) (hBt : SB (tn T) t) (hv : v < 10) (hf : f < tn (gT q)) : ∀ m k s1 L, k + m = min 31 (1000 - yr (gS q)) → SX s1 68 (tn T) (fa T) (ki T) (yearsS T k t).1 → RX s1 o 68 L → WS g M o P ta (gT q) s1 → FrX (snP v) s0 s1 → WyX s1 T t v f k → ∀ x5,
    Bd g yX0_isSeen cX0_isSeen 6 (some Jvm.ClassFile.FieldType.boolean) [] 433 0 0 (putX M o s1) 5 [some (.ref o), some (.int (nI v)), some (.int (nI f)), some (.int (nI (mtN T t (gRw q) k))), some (.int (nI k)), x5] [] (QX M o (fun r s' => r = some (.int (zI (mtN T t (gRw q) (min 31 (1000 - yr (gS q))) = (gRw q).length))) ∧ IX g M o P ta s' q ∧ FrX (snP v) s0 s' ∧ WyX s' T t v f (min 31 (1000 - yr (gS q))))) noX := by
  have hy9 : yr (gS q) ≤ 999 := hG.2.2.2.2.2.1.2.1
  have h16 : (gRw q).length ≤ 16 := hG.2.2.2.2.2.2.2.2.1
  intro m
  induction m with
  | zero =>
    intro k s1 L hk hN hR W1 hF hW x5
    have hI := hI0.scr hG (hF.mono (fun c hc => snP_sc hv hc)) W1.X (by obtain ⟨pm, hp, -⟩ := hR; exact ⟨pm, hp⟩) W1.m
    have hm1 := mtN_le (T := T) (t := t) (rw := gRw q) (k := k)
    have hm2 := mtN_le (T := T) (t := t) (rw := gRw q) (k := min 31 (1000 - yr (gS q)))
    have hk' : k = min 31 (1000 - yr (gS q)) := by omega
    rw [← hk'] at hm2 ⊢
    have W := hI.W
    have hS := W.S
    have hX := W.X
    refine r_ald0 (pc := 5) dX0_isSeen_5 ?_
    refine r_ild4 (pc := 6) dX0_isSeen_6 ?_
    refine r_iconst (v := nI 0) (pc := 8) dX0_isSeen_8 (by decide) ?_
    refine r_bipush (v := nI 30) (pc := 9) dX0_isSeen_9 (by decide) ?_
    refine r_cV (pc := 11) dX0_isSeen_11 cv_X0_236 (hS.k (c := 0) ow_0 kd_0) (ct_X0_isAhead W hI.nw.1.1 (by omega) (by decide) (by decide)) rfl rfl (Nat.le_of_ble_eq_true rfl) (by first | decide | omega) ?_
    rintro _ _ ⟨rfl, rfl⟩
    first | refine r_if_eqZ (pc := 14) (tgt := 112) dX0_isSeen_14 (by decide) (fun h14 => ?_) (fun h14 => ?_) | refine r_if_eqN (pc := 14) (tgt := 112) dX0_isSeen_14 (by decide) (by omega) (fun h14 => ?_) (fun h14 => ?_) | refine r_if_eq (pc := 14) (tgt := 112) dX0_isSeen_14 (by decide) (fun h14 => ?_) (fun h14 => ?_)
    · skip
      refine r_ild3 (pc := 112) dX0_isSeen_112 ?_
      refine r_ald0 (pc := 113) dX0_isSeen_113 ?_
      refine x_getI (c := 0) hS ow_0 kd_0 (pc := 114) dX0_isSeen_114 fl_X0_140 ?_
      rw [hI.rw.1]
      first | refine r_icmp_neN (pc := 117) (tgt := 124) dX0_isSeen_117 (by decide) (by omega) (by omega) (fun h117 => ?_) (fun h117 => ?_) | refine r_icmp_ne (pc := 117) (tgt := 124) dX0_isSeen_117 (by decide) (fun h117 => ?_) (fun h117 => ?_)
      · skip
        refine r_iconst (v := nI 0) (pc := 124) dX0_isSeen_124 (by decide) ?_
        refine r_zret (pc := 125) dX0_isSeen_125 (by first | rfl | exact zI_nar | assumption) ?_
        exact ⟨s1, rfl, by first | (rw [zI_t h117]; rfl) | (rw [zI_f h117]; rfl), hI, hF, hW⟩
      · skip
        refine r_iconst (v := nI 1) (pc := 120) dX0_isSeen_120 (by decide) ?_
        refine r_goto (pc := 121) (tgt := 125) dX0_isSeen_121 (by decide) ?_
        refine r_zret (pc := 125) dX0_isSeen_125 (by first | rfl | exact zI_nar | assumption) ?_
        exact ⟨s1, rfl, by first | (rw [zI_t h117]; rfl) | (rw [zI_f h117]; rfl), hI, hF, hW⟩
    · skip
      exfalso
      rw [nI_toInt (by omega)] at h14
      omega
  | succ m ih =>
    intro k s1 L hk hN hR W1 hF hW x5
    have hI := hI0.scr hG (hF.mono (fun c hc => snP_sc hv hc)) W1.X (by obtain ⟨pm, hp, -⟩ := hR; exact ⟨pm, hp⟩) W1.m
    have hm1 := mtN_le (T := T) (t := t) (rw := gRw q) (k := k)
    have W := hI.W
    have hg := W.gx
    have hS := W.S
    have hX := W.X
    have hn8 := W.B.1
    have hBk := yearsS_SB k T t hBt (by rw [hyt]; omega)
    have hyk := yearsS_yr k T t
    have hlf := (hBk.2 f (by omega)).2.1
    have hI2 : ∀ v2, IX g M o P ta (uI s1 (385 + v) k v2) q := fun v2 => hI.scr hG (FrX.uI FrX.rf (Or.inr (Or.inr ⟨by omega, by omega⟩))) hX (hI.pm 68 isS_68) hI.W.m
    have hN2 : ∀ v2, SX (uI s1 (385 + v) k v2) 68 (tn T) (fa T) (ki T) (yearsS T k t).1 := fun v2 => hN.fr (fun c a1 a2 j _ => by rw [iX_c (by omega)]) (by omega)
    have hR2 : ∀ v2, RX (uI s1 (385 + v) k v2) o 68 L := fun v2 => hR.uI (by omega)
    refine r_ald0 (pc := 5) dX0_isSeen_5 ?_
    refine r_ild4 (pc := 6) dX0_isSeen_6 ?_
    refine r_iconst (v := nI 0) (pc := 8) dX0_isSeen_8 (by decide) ?_
    refine r_bipush (v := nI 30) (pc := 9) dX0_isSeen_9 (by decide) ?_
    refine r_cV (pc := 11) dX0_isSeen_11 cv_X0_236 (hS.k (c := 0) ow_0 kd_0) (ct_X0_isAhead W hI.nw.1.1 (by omega) (by decide) (by decide)) rfl rfl (Nat.le_of_ble_eq_true rfl) (by first | decide | omega) ?_
    rintro _ _ ⟨rfl, rfl⟩
    first | refine r_if_eqZ (pc := 14) (tgt := 112) dX0_isSeen_14 (by decide) (fun h14 => ?_) (fun h14 => ?_) | refine r_if_eqN (pc := 14) (tgt := 112) dX0_isSeen_14 (by decide) (by omega) (fun h14 => ?_) (fun h14 => ?_) | refine r_if_eq (pc := 14) (tgt := 112) dX0_isSeen_14 (by decide) (fun h14 => ?_) (fun h14 => ?_)
    · skip
      exfalso
      rw [nI_toInt (by omega)] at h14
      omega
    · skip
      refine r_ald0 (pc := 17) dX0_isSeen_17 ?_
      refine x_getR (c := 0) hS ow_0 kd_0 (pc := 18) dX0_isSeen_18 fl_X0_90 (fx_0_16 hX) ?_
      refine r_ild1 (pc := 21) dX0_isSeen_21 ?_
      refine x_aald (c := 384) (j := v) hS ow_384 kd_384 (by decide) ln_384 (pc := 22) dX0_isSeen_22 (by omega) (by omega) (fx_lo hX (by omega)) ?_
      refine r_ild4 (pc := 23) dX0_isSeen_23 ?_
      refine r_ald0 (pc := 25) dX0_isSeen_25 ?_
      refine x_getR (c := 0) hS ow_0 kd_0 (pc := 26) dX0_isSeen_26 fl_X0_73 (fx_0_10 hX) ?_
      refine x_getRN (c := 68) hS (st_ow isS_68) (st_kd isS_68) (pc := 29) dX0_isSeen_29 (fn_X0_174 hg) (fs_4 hX isS_68) ?_
      refine r_ild2 (pc := 32) dX0_isSeen_32 ?_
      refine x_iald (c := (68 + 2)) hS (st_ow2 isS_68) (st_kd2 isS_68) (st_ln2 isS_68) (pc := 33) dX0_isSeen_33 (by omega) (by omega) ?_
      refine Bd.eqI (hN.2.2.2.1 f (by omega)) ?_
      refine x_iast (c := (385 + v)) hS (lo_ow (by omega)) (lo_kd (by omega)) (lo_ln (by omega)) (pc := 34) dX0_isSeen_34 (by omega) (by omega) ?_
      refine r_iconst (v := nI 0) (pc := 35) dX0_isSeen_35 (by decide) ?_
      refine r_ist5 (pc := 36) dX0_isSeen_36 ?_
      refine xseenIn (T := T) (t := t) (y := 0) (y0 := 0) (hI2 _) hG (by rw [← h3]; exact hN2 _) (by rw [← h3]; exact hBk) (by omega) (gRw q).length 0 (mtN T t (gRw q) k) (by omega) (by omega) (fun x5 => ?_)
      rw [List.drop_zero, ← mtN_s]
      have Wt := ((hI2 (nI (lk (yearsS T k t).1 f))).W).te h1 h2 hT
      have hX := Wt.X
      refine r_ald0 (pc := 98) dX0_isSeen_98 ?_
      refine x_getR (c := 0) hS ow_0 kd_0 (pc := 99) dX0_isSeen_99 fl_X0_73 (fx_0_10 hX) ?_
      refine r_cV (pc := 102) dX0_isSeen_102 cv_X0_247 (hS.k (c := 68) (st_ow isS_68) (st_kd isS_68)) (ct_X5_passes Wt isS_68 (hN2 _) (hR2 _) hBk (by omega)) rfl rfl (Nat.le_of_ble_eq_true rfl) (by decide) ?_
      rintro _ _ ⟨s2, rfl, rfl, hQ⟩
      refine r_pop (pc := 105) dX0_isSeen_105 rfl ?_
      refine r_iinc4N (j := 1) (pc := 106) dX0_isSeen_106 rfl ?_
      refine r_goto (pc := 109) (tgt := 5) dX0_isSeen_109 (by decide) ?_
      have hF2 : FrX (snP v) s0 s2 := (hF.uI (Or.inr rfl)).trans (hQ.2.2.2.mono (fun c hc => Or.inl hc))
      refine ih (k + 1) s2 _ (by omega) (by rw [yearsS_succ]; exact hQ.2.1) hQ.2.2.1 (hQ.1.te h1.symm h2.symm hI.W.B) hF2 (fun y hy => ?_) _
      rw [hQ.2.2.2.1 _ (by unfold yP stP; omega), iX_uI]
      by_cases e : y = k
      · rw [if_pos ⟨rfl, e⟩, e]
      · rw [if_neg (fun z => e z.2)]; exact hW y (by omega)
theorem ct_X0_isSeen {v f : Nat} {L : List Ev} (hG : GI q) (hI : IX g M o P ta s q) (hr : ∀ e ∈ gRw q, e.1 ≤ 30) (h1 : tH T = tH (gT q)) (h2 : cd T = cd (gT q)) (h3 : tn T = tn (gT q)) (hT : TB T) (hH : 0 < tH (gT q)) (hyt : yr t = yr (gS q)) (hBt : SB (tn T) t) (hv : v < 10) (hf : f < tn (gT q)) (hN : SX s 68 (tn T) (fa T) (ki T) t) (hR : RX s o 68 L) :
    Ct g yX0_isSeen cX0_isSeen 6 (some Jvm.ClassFile.FieldType.boolean) 433 0 0 [.ref o, .int (nI v), .int (nI f)] (putX M o s) (QX M o (fun r s' => r = some (.int (zI (seenN (gRw q) T t 31 = true))) ∧ IX g M o P ta s' q ∧ FrX (snP v) s s' ∧ WyX s' T t v f (min 31 (1000 - yr (gS q))))) noX := by
  have hy9 : yr (gS q) ≤ 999 := hG.2.2.2.2.2.1.2.1
  have hz : zI (seenN (gRw q) T t 31 = true) = zI (mtN T t (gRw q) (min 31 (1000 - yr (gS q))) = (gRw q).length) := zI_congr (by rw [← hyt]; exact (mt_seen hr (by omega)).symm)
  have h0 : mtN T t (gRw q) 0 = 0 := by unfold mtN; simp
  have := xseenLoop (T := T) (t := t) hG hI h1 h2 h3 hT hH hyt hBt hv hf (min 31 (1000 - yr (gS q))) 0 s L (by omega) hN hR hI.W FrX.rf (fun y hy => absurd hy (Nat.not_lt_zero y)) none
  rw [h0] at this
  rw [hz]
  refine Ct.of (by decide) (Nat.le_of_ble_eq_true rfl) rfl ?_
  refine r_iconst (v := nI 0) (pc := 0) dX0_isSeen_0 (by decide) ?_
  refine r_ist3 (pc := 1) dX0_isSeen_1 ?_
  refine r_iconst (v := nI 0) (pc := 2) dX0_isSeen_2 (by decide) ?_
  refine r_ist4 (pc := 3) dX0_isSeen_3 ?_
  exact this
theorem sFx_TB {p v : Nat} (h : TB T) (hv : v ≤ 9) : TB (sFa T p v) := by
  obtain ⟨h1, h2, h3, h4, h5⟩ := h
  refine ⟨h1, h2, fun r hr => ⟨?_, (h3 r hr).2⟩, h4, h5⟩
  show va_up (fa T) p v r ≤ 9
  unfold va_up; split
  · exact hv
  · exact (h3 r hr).1
theorem SX.face {b n p v : Nat} {F K : Nat → Nat} (h : SX s b n F K t) : SX (uI s (b + 3) p (nI v)) b n (va_up F p v) K t := by
  obtain ⟨h1, h2, h3, h4, h5, h6, h7, h8⟩ := h
  refine ⟨?_, ?_, fun q hq => ?_, fun q hq => ?_, fun q hq => ?_, fun q hq => ?_, fun q hq => ?_, fun q hq r hr => ?_⟩
  · rw [iX_c (by omega)]; exact h1
  · rw [iX_c (by omega)]; exact h2
  · rw [iX_c (by omega)]; exact h3 q hq
  · rw [iX_c (by omega)]; exact h4 q hq
  · rw [upN, iX_uI]
    by_cases e : q = p
    · rw [if_pos ⟨rfl, e⟩, if_pos e]
    · rw [if_neg (fun z => e z.2), if_neg e]; exact h5 q hq
  · rw [iX_c (by omega)]; exact h6 q hq
  · rw [iX_c (by omega)]; exact h7 q hq
  · rw [iX_c (by omega)]; exact h8 q hq r hr
/-- portraits by number, year by year -/
def WaX (s : XS) (q : Sg) (p f v : Nat) : Prop := ∀ w, w < v → ∀ y, y < min 31 (1000 - yr (gS q)) → iX s (385 + w) y = nI (thW q p f w y)
theorem xthLoop {p f : Nat} (hG : GI q) (hr : ∀ e ∈ gRw q, e.1 ≤ 30) (hp : p < tn (gT q)) (hf : f < tn (gT q)) (hH : 0 < tH (gT q)) : ∀ k v s1, v + k = 10 → IX g M o P ta s1 q → WaX s1 q p f v →
    Bd g yX0_thoughts cX0_thoughts 5 (some Jvm.ClassFile.FieldType.int) [] 434 0 0 (putX M o s1) 16 [some (.ref o), some (.int (nI p)), some (.int (nI f)), some (.int (nI (setS (thF q p f) v))), some (.int (nI v))] [] (QX M o (fun r s' => r = some (.int (nI (setS (thF q p f) 10))) ∧ IX g M o P ta s' q ∧ WaX s' q p f 10)) noX := by
  intro k
  induction k with
  | zero =>
    intro v s1 hk hI hW
    obtain rfl : v = 10 := by omega
    have hS := hI.W.S
    refine r_ild4 (pc := 16) dX0_thoughts_16 ?_
    refine r_bipush (v := nI 10) (pc := 18) dX0_thoughts_18 (by decide) ?_
    first | refine r_icmp_geN (pc := 20) (tgt := 70) dX0_thoughts_20 (by decide) (by omega) (by omega) (fun h20 => ?_) (fun h20 => ?_) | refine r_icmp_ge (pc := 20) (tgt := 70) dX0_thoughts_20 (by decide) (fun h20 => ?_) (fun h20 => ?_)
    · skip
      refine r_ild3 (pc := 70) dX0_thoughts_70 ?_
      refine r_iret (pc := 71) dX0_thoughts_71 ?_
      exact ⟨s1, rfl, rfl, hI, hW⟩
    · skip
      exact absurd h20 (by decide)
  | succ k ih =>
    intro v s1 hk hI hW
    have W := hI.W
    have S := hI.So
    have hg := W.gx
    have hS := W.S
    have hX := W.X
    have hTB := W.B
    have hn8 := hTB.1
    have hH9 := hTB.2.1
    have hN := hI.nw.1
    have hR := hI.nw.2
    have hB : SB (tn (gT q)) (gS q) := hG.2.2.2.2.2.1.1
    obtain ⟨pm, hpm⟩ := hI.pm 68 isS_68
    have hsl := setS_lt (thF q p f) v
    have hpw := pow_le2 v (by omega)
    have hst : setS (thF q p f) (v + 1) = setS (thF q p f) v + if thF q p f v = true then 2 ^ v else 0 := rfl
    refine r_ild4 (pc := 16) dX0_thoughts_16 ?_
    refine r_bipush (v := nI 10) (pc := 18) dX0_thoughts_18 (by decide) ?_
    first | refine r_icmp_geN (pc := 20) (tgt := 70) dX0_thoughts_20 (by decide) (by omega) (by omega) (fun h20 => ?_) (fun h20 => ?_) | refine r_icmp_ge (pc := 20) (tgt := 70) dX0_thoughts_20 (by decide) (fun h20 => ?_) (fun h20 => ?_)
    · skip
      exact absurd h20 (by omega)
    · skip
      refine r_ald0 (pc := 23) dX0_thoughts_23 ?_
      refine x_getR (c := 0) hS ow_0 kd_0 (pc := 24) dX0_thoughts_24 fl_X0_73 (fx_0_10 hX) ?_
      refine r_ald0 (pc := 27) dX0_thoughts_27 ?_
      refine x_getR (c := 0) hS ow_0 kd_0 (pc := 28) dX0_thoughts_28 fl_X0_69 (fx_0_9 hX) ?_
      refine r_cV (pc := 31) dX0_thoughts_31 cv_X0_239 (hS.k (c := 68) (st_ow isS_68) (st_kd isS_68)) (ct_X5_copy hS hX isS_68 isS_12 (by decide) hN hn8 hR hpm) rfl rfl (Nat.le_of_ble_eq_true rfl) (by first | decide | omega) ?_
      rintro _ _ ⟨s2, rfl, rfl, hN1, hR1, hr1, hF1⟩
      have W1 := hI.copyd hr1 hF1
      have hX := W1.X
      refine x_getRN (c := 68) hS (st_ow isS_68) (st_kd isS_68) (pc := 34) dX0_thoughts_34 (fn_X0_223 hg) (fs_8 hX isS_68) ?_
      refine r_ild1 (pc := 37) dX0_thoughts_37 ?_
      refine x_aald (c := (68 + 6)) (j := p) hS (st_ow6 isS_68) (st_kd6 isS_68) (by decide) (st_ln6 isS_68) (pc := 38) dX0_thoughts_38 (by omega) (by omega) (fs_th hX isS_68 (by omega)) ?_
      refine r_ild2 (pc := 39) dX0_thoughts_39 ?_
      refine r_ild4 (pc := 40) dX0_thoughts_40 ?_
      refine x_iast (c := (68 + (7 + p))) hS (th_ow isS_68 (by omega)) (th_kd isS_68 (by omega)) (th_ln isS_68 (by omega)) (pc := 42) dX0_thoughts_42 (by omega) (by omega) ?_
      have hN2 := hN1.think (p := p) (w := f) (v := v)
      have hR2 := hR1.uI (c := 68 + (7 + p)) (j := f) (v := nI v) (by omega)
      have hF2 : FrX (stP 68) s1 (uI s2 (68 + (7 + p)) f (nI v)) := hF1.uI ⟨by omega, by omega⟩
      have hI2 : IX g M o P ta (uI s2 (68 + (7 + p)) f (nI v)) q := hI.scr hG (hF2.mono (fun c hc => Or.inl (Or.inl hc))) (by rw [rX_uI, hr1]; exact hI.W.X) (by obtain ⟨pm, h, -⟩ := hR2; exact ⟨pm, h⟩) W1.m
      refine r_ild3 (pc := 43) dX0_thoughts_43 ?_
      refine r_ald0 (pc := 44) dX0_thoughts_44 ?_
      refine r_ild4 (pc := 45) dX0_thoughts_45 ?_
      refine r_ild2 (pc := 47) dX0_thoughts_47 ?_
      refine r_cV (pc := 48) dX0_thoughts_48 cv_X0_278 (hS.k (c := 0) ow_0 kd_0) (ct_X0_isSeen (T := gT q) (t := sTh (gS q) p f v) hG hI2 hr rfl rfl rfl hTB hH rfl (sTh_SB' hB (by omega)) (by omega) hf hN2 hR2) rfl rfl (Nat.le_of_ble_eq_true rfl) (by first | decide | omega) ?_
      rintro _ _ ⟨s3, rfl, rfl, hI3, hF3, hW3⟩
      have hWa : WaX s3 q p f (v + 1) := fun w hw y hy => by
        by_cases e : w = v
        · rw [e]; exact hW3 y hy
        · rw [hF3.1 _ (by unfold snP yP stP; omega), hF2.1 _ (by unfold stP; omega)]; exact hW w (by omega) y hy
      refine r_if_eqZ (pc := 51) (tgt := 61) dX0_thoughts_51 (by decide) (fun h51 => ?_) (fun h51 => ?_)
      · skip
        have hs2 : setS (thF q p f) (v + 1) = setS (thF q p f) v := by rw [hst, if_neg (show ¬ thF q p f v = true from h51), Nat.add_zero]
        refine r_iconst (v := nI 0) (pc := 61) dX0_thoughts_61 (by decide) ?_
        refine r_ior (pc := 62) dX0_thoughts_62 ?_
        first | refine Bd.eqI (x' := nI (setS (thF q p f) (v + 1))) (by rw [hs2]; exact ior_all v (by omega) _ hsl) ?_ | refine Bd.eqI (x' := nI (setS (thF q p f) (v + 1))) (by rw [hs2]; exact Int32.or_zero) ?_
        refine r_ist3 (pc := 63) dX0_thoughts_63 ?_
        first | refine r_iinc4N (j := 1) (pc := 64) dX0_thoughts_64 rfl ?_ | refine r_iinc4 (pc := 64) dX0_thoughts_64 ?_
        refine r_goto (pc := 67) (tgt := 16) dX0_thoughts_67 (by decide) ?_
        exact ih (v + 1) s3 (by omega) hI3 hWa
      · skip
        have hs2 : setS (thF q p f) (v + 1) = setS (thF q p f) v + 2 ^ v := by rw [hst]; congr 1; exact if_pos h51
        refine r_iconst (v := nI 1) (pc := 54) dX0_thoughts_54 (by decide) ?_
        refine r_ild4 (pc := 55) dX0_thoughts_55 ?_
        refine r_ishl (pc := 57) dX0_thoughts_57 ?_
        refine Bd.eqI (shl_all2 v (by omega)) ?_
        refine r_goto (pc := 58) (tgt := 62) dX0_thoughts_58 (by decide) ?_
        refine r_ior (pc := 62) dX0_thoughts_62 ?_
        first | refine Bd.eqI (x' := nI (setS (thF q p f) (v + 1))) (by rw [hs2]; exact ior_all v (by omega) _ hsl) ?_ | refine Bd.eqI (x' := nI (setS (thF q p f) (v + 1))) (by rw [hs2]; exact Int32.or_zero) ?_
        refine r_ist3 (pc := 63) dX0_thoughts_63 ?_
        first | refine r_iinc4N (j := 1) (pc := 64) dX0_thoughts_64 rfl ?_ | refine r_iinc4 (pc := 64) dX0_thoughts_64 ?_
        refine r_goto (pc := 67) (tgt := 16) dX0_thoughts_67 (by decide) ?_
        exact ih (v + 1) s3 (by omega) hI3 hWa
theorem ct_X0_thoughts {p f : Nat} (hI : IX g M o P ta s q) (hG : GI q) (hr : ∀ e ∈ gRw q, e.1 ≤ 30) (hp : p < tn (gT q)) (hf : f < tn (gT q)) (hpf : p ≠ f) : Ct g yX0_thoughts cX0_thoughts 5 (some Jvm.ClassFile.FieldType.int) 434 0 0 [.ref o, .int (nI p), .int (nI f)] (putX M o s) (QX M o (fun r s' => r = some (.int (nI (setS (thF q p f) 10))) ∧ IX g M o P ta s' q ∧ WaX s' q p f 10)) noX := by
  have W := hI.W
  have S := hI.So
  have hg := W.gx
  have hS := W.S
  have hX := W.X
  have hTB := W.B
  have hn8 := hTB.1
  have hH9 := hTB.2.1
  have hN := hI.nw.1
  have hR := hI.nw.2
  have hB : SB (tn (gT q)) (gS q) := hG.2.2.2.2.2.1.1
  have hH : 0 < tH (gT q) := by have := hG.2.2.2.2.2.1.2.2.1 p hp; omega
  refine Ct.of (by decide) (Nat.le_of_ble_eq_true rfl) rfl ?_
  refine r_ald0 (pc := 0) dX0_thoughts_0 ?_
  refine r_ild1 (pc := 1) dX0_thoughts_1 ?_
  refine r_ild2 (pc := 2) dX0_thoughts_2 ?_
  refine r_cV (pc := 3) dX0_thoughts_3 cv_X0_219 (hS.k (c := 0) ow_0 kd_0) (ct_X0_areTwo W S) rfl rfl (Nat.le_of_ble_eq_true rfl) (by first | decide | omega) ?_
  rintro _ _ ⟨rfl, rfl⟩
  first | refine r_if_neZ (pc := 6) (tgt := 11) dX0_thoughts_6 (by decide) (fun h6 => ?_) (fun h6 => ?_) | refine r_if_neN (pc := 6) (tgt := 11) dX0_thoughts_6 (by decide) (by omega) (fun h6 => ?_) (fun h6 => ?_) | refine r_if_ne (pc := 6) (tgt := 11) dX0_thoughts_6 (by decide) (fun h6 => ?_) (fun h6 => ?_)
  · skip
    refine r_iconst (v := nI 0) (pc := 11) dX0_thoughts_11 (by decide) ?_
    refine r_ist3 (pc := 12) dX0_thoughts_12 ?_
    refine r_iconst (v := nI 0) (pc := 13) dX0_thoughts_13 (by decide) ?_
    refine r_ist4 (pc := 14) dX0_thoughts_14 ?_
    exact xthLoop hG hr hp hf hH 10 0 s (by omega) hI (fun w hw => absurd hw (Nat.not_lt_zero w))
  · skip
    exact absurd (by rw [nI_toInt (by omega), nI_toInt (by omega)]; omega) h6
theorem px_thoughts {x y : Int32} (hI : IX g M o P ta s q) (hG : GI q) : Ct g yX0_thoughts cX0_thoughts 5 (some Jvm.ClassFile.FieldType.int) 434 0 0 [.ref o, .int x, .int y] (putX M o s) (QI g M o P ta q (.int (thoughtsQ q x y))) noX := by
  have W := hI.W
  have S := hI.So
  have hg := W.gx
  have hS := W.S
  have hX := W.X
  have hTB := W.B
  have hn8 := hTB.1
  have hH9 := hTB.2.1
  have hN := hI.nw.1
  have hR := hI.nw.2
  have hB : SB (tn (gT q)) (gS q) := hG.2.2.2.2.2.1.1
  have hr : ∀ e ∈ gRw q, e.1 ≤ 30 := fun e he => (hG.2.2.2.2.2.2.2.2.2.1 e he).1
  unfold thoughtsQ
  cases hp : twoS (tn (gT q)) x y with
  | none =>
    have hp : ¬ ∃ z, twoS (tn (gT q)) x y = some z := by rw [hp]; rintro ⟨z, h⟩; cases h
    rw [twoS_iff (by omega)] at hp
    refine Ct.of (by decide) (Nat.le_of_ble_eq_true rfl) rfl ?_
    refine r_ald0 (pc := 0) dX0_thoughts_0 ?_
    refine r_ild1 (pc := 1) dX0_thoughts_1 ?_
    refine r_ild2 (pc := 2) dX0_thoughts_2 ?_
    refine r_cV (pc := 3) dX0_thoughts_3 cv_X0_219 (hS.k (c := 0) ow_0 kd_0) (ct_X0_areTwo W S) rfl rfl (Nat.le_of_ble_eq_true rfl) (by first | decide | omega) ?_
    rintro _ _ ⟨rfl, rfl⟩
    first | refine r_if_neZ (pc := 6) (tgt := 11) dX0_thoughts_6 (by decide) (fun h6 => ?_) (fun h6 => ?_) | refine r_if_neN (pc := 6) (tgt := 11) dX0_thoughts_6 (by decide) (by omega) (fun h6 => ?_) (fun h6 => ?_) | refine r_if_ne (pc := 6) (tgt := 11) dX0_thoughts_6 (by decide) (fun h6 => ?_) (fun h6 => ?_)
    · skip
      exact absurd h6 hp
    · skip
      refine r_iconst (v := -1) (pc := 9) dX0_thoughts_9 (by decide) ?_
      refine r_iret (pc := 10) dX0_thoughts_10 ?_
      exact ⟨s, rfl, rfl, hI⟩
  | some z =>
    obtain ⟨h1, h2, h3, h4, h5⟩ := twoS_some hp
    subst h4
    subst h5
    refine Ct.post ?_ (fun _ _ h => h) (ct_X0_thoughts hI hG hr h1 h2 h3)
    rintro _ _ ⟨s', rfl, rfl, hI', -⟩
    exact ⟨s', rfl, rfl, hI'⟩
theorem xfaLoop {p : Nat} (hG : GI q) (hr : ∀ e ∈ gRw q, e.1 ≤ 30) (hp : p < tn (gT q)) (hH : 0 < tH (gT q)) : ∀ k v s1, v + k = 10 → IX g M o P ta s1 q →
    Bd g yX0_faces cX0_faces 4 (some Jvm.ClassFile.FieldType.int) [] 434 0 0 (putX M o s1) 14 [some (.ref o), some (.int (nI p)), some (.int (nI (setS (faF q p) v))), some (.int (nI v))] [] (QI g M o P ta q (.int (nI (setS (faF q p) 10)))) noX := by
  intro k
  induction k with
  | zero =>
    intro v s1 hk hI
    obtain rfl : v = 10 := by omega
    have hS := hI.W.S
    refine r_ild3 (pc := 14) dX0_faces_14 ?_
    refine r_bipush (v := nI 10) (pc := 15) dX0_faces_15 (by decide) ?_
    first | refine r_icmp_geN (pc := 17) (tgt := 62) dX0_faces_17 (by decide) (by omega) (by omega) (fun h17 => ?_) (fun h17 => ?_) | refine r_icmp_ge (pc := 17) (tgt := 62) dX0_faces_17 (by decide) (fun h17 => ?_) (fun h17 => ?_)
    · skip
      refine r_ild2 (pc := 62) dX0_faces_62 ?_
      refine r_iret (pc := 63) dX0_faces_63 ?_
      exact ⟨s1, rfl, rfl, hI⟩
    · skip
      exact absurd h17 (by decide)
  | succ k ih =>
    intro v s1 hk hI
    have W := hI.W
    have S := hI.So
    have hg := W.gx
    have hS := W.S
    have hX := W.X
    have hTB := W.B
    have hn8 := hTB.1
    have hH9 := hTB.2.1
    have hN := hI.nw.1
    have hR := hI.nw.2
    have hB : SB (tn (gT q)) (gS q) := hG.2.2.2.2.2.1.1
    obtain ⟨pm, hpm⟩ := hI.pm 68 isS_68
    have hsl := setS_lt (faF q p) v
    have hpw := pow_le2 v (by omega)
    have hst : setS (faF q p) (v + 1) = setS (faF q p) v + if faF q p v = true then 2 ^ v else 0 := rfl
    refine r_ild3 (pc := 14) dX0_faces_14 ?_
    refine r_bipush (v := nI 10) (pc := 15) dX0_faces_15 (by decide) ?_
    first | refine r_icmp_geN (pc := 17) (tgt := 62) dX0_faces_17 (by decide) (by omega) (by omega) (fun h17 => ?_) (fun h17 => ?_) | refine r_icmp_ge (pc := 17) (tgt := 62) dX0_faces_17 (by decide) (fun h17 => ?_) (fun h17 => ?_)
    · skip
      exact absurd h17 (by omega)
    · skip
      refine r_ald0 (pc := 20) dX0_faces_20 ?_
      refine x_getR (c := 0) hS ow_0 kd_0 (pc := 21) dX0_faces_21 fl_X0_73 (fx_0_10 hX) ?_
      refine r_ald0 (pc := 24) dX0_faces_24 ?_
      refine x_getR (c := 0) hS ow_0 kd_0 (pc := 25) dX0_faces_25 fl_X0_69 (fx_0_9 hX) ?_
      refine r_cV (pc := 28) dX0_faces_28 cv_X0_239 (hS.k (c := 68) (st_ow isS_68) (st_kd isS_68)) (ct_X5_copy hS hX isS_68 isS_12 (by decide) hN hn8 hR hpm) rfl rfl (Nat.le_of_ble_eq_true rfl) (by first | decide | omega) ?_
      rintro _ _ ⟨s2, rfl, rfl, hN1, hR1, hr1, hF1⟩
      have W1 := hI.copyd hr1 hF1
      have hX := W1.X
      refine x_getRN (c := 68) hS (st_ow isS_68) (st_kd isS_68) (pc := 31) dX0_faces_31 (fn_X0_210 hg) (fs_5 hX isS_68) ?_
      refine r_ild1 (pc := 34) dX0_faces_34 ?_
      refine r_ild3 (pc := 35) dX0_faces_35 ?_
      refine x_iast (c := (68 + 3)) hS (st_ow3 isS_68) (st_kd3 isS_68) (st_ln3 isS_68) (pc := 36) dX0_faces_36 (by omega) (by omega) ?_
      have hN2 := hN1.face (p := p) (v := v)
      have hR2 := hR1.uI (c := 68 + 3) (j := p) (v := nI v) (by omega)
      have hF2 : FrX (stP 68) s1 (uI s2 (68 + 3) p (nI v)) := hF1.uI ⟨by omega, by omega⟩
      have hI2 : IX g M o P ta (uI s2 (68 + 3) p (nI v)) q := hI.scr hG (hF2.mono (fun c hc => Or.inl (Or.inl hc))) (by rw [rX_uI, hr1]; exact hI.W.X) (by obtain ⟨pm, h, -⟩ := hR2; exact ⟨pm, h⟩) W1.m
      refine r_ild2 (pc := 37) dX0_faces_37 ?_
      refine r_ald0 (pc := 38) dX0_faces_38 ?_
      refine r_ild3 (pc := 39) dX0_faces_39 ?_
      refine r_ild1 (pc := 40) dX0_faces_40 ?_
      refine r_cV (pc := 41) dX0_faces_41 cv_X0_278 (hS.k (c := 0) ow_0 kd_0) (ct_X0_isSeen (T := sFa (gT q) p v) (t := gS q) hG hI2 hr rfl rfl rfl (sFx_TB hTB (by omega)) hH rfl hB (by omega) hp hN2 hR2) rfl rfl (Nat.le_of_ble_eq_true rfl) (by first | decide | omega) ?_
      rintro _ _ ⟨s3, rfl, rfl, hI3, -, -⟩
      refine r_if_eqZ (pc := 44) (tgt := 53) dX0_faces_44 (by decide) (fun h44 => ?_) (fun h44 => ?_)
      · skip
        have hs2 : setS (faF q p) (v + 1) = setS (faF q p) v := by rw [hst, if_neg (show ¬ faF q p v = true from h44), Nat.add_zero]
        refine r_iconst (v := nI 0) (pc := 53) dX0_faces_53 (by decide) ?_
        refine r_ior (pc := 54) dX0_faces_54 ?_
        first | refine Bd.eqI (x' := nI (setS (faF q p) (v + 1))) (by rw [hs2]; exact ior_all v (by omega) _ hsl) ?_ | refine Bd.eqI (x' := nI (setS (faF q p) (v + 1))) (by rw [hs2]; exact Int32.or_zero) ?_
        refine r_ist2 (pc := 55) dX0_faces_55 ?_
        first | refine r_iinc3N (j := 1) (pc := 56) dX0_faces_56 rfl ?_ | refine r_iinc3 (pc := 56) dX0_faces_56 ?_
        refine r_goto (pc := 59) (tgt := 14) dX0_faces_59 (by decide) ?_
        exact ih (v + 1) s3 (by omega) hI3
      · skip
        have hs2 : setS (faF q p) (v + 1) = setS (faF q p) v + 2 ^ v := by rw [hst]; congr 1; exact if_pos h44
        refine r_iconst (v := nI 1) (pc := 47) dX0_faces_47 (by decide) ?_
        refine r_ild3 (pc := 48) dX0_faces_48 ?_
        refine r_ishl (pc := 49) dX0_faces_49 ?_
        refine Bd.eqI (shl_all2 v (by omega)) ?_
        refine r_goto (pc := 50) (tgt := 54) dX0_faces_50 (by decide) ?_
        refine r_ior (pc := 54) dX0_faces_54 ?_
        first | refine Bd.eqI (x' := nI (setS (faF q p) (v + 1))) (by rw [hs2]; exact ior_all v (by omega) _ hsl) ?_ | refine Bd.eqI (x' := nI (setS (faF q p) (v + 1))) (by rw [hs2]; exact Int32.or_zero) ?_
        refine r_ist2 (pc := 55) dX0_faces_55 ?_
        first | refine r_iinc3N (j := 1) (pc := 56) dX0_faces_56 rfl ?_ | refine r_iinc3 (pc := 56) dX0_faces_56 ?_
        refine r_goto (pc := 59) (tgt := 14) dX0_faces_59 (by decide) ?_
        exact ih (v + 1) s3 (by omega) hI3
theorem px_faces {x : Int32} (hI : IX g M o P ta s q) (hG : GI q) : Ct g yX0_faces cX0_faces 4 (some Jvm.ClassFile.FieldType.int) 434 0 0 [.ref o, .int x] (putX M o s) (QI g M o P ta q (.int (facesQ q x))) noX := by
  have W := hI.W
  have S := hI.So
  have hg := W.gx
  have hS := W.S
  have hX := W.X
  have hTB := W.B
  have hn8 := hTB.1
  have hH9 := hTB.2.1
  have hN := hI.nw.1
  have hR := hI.nw.2
  have hB : SB (tn (gT q)) (gS q) := hG.2.2.2.2.2.1.1
  have hr : ∀ e ∈ gRw q, e.1 ≤ 30 := fun e he => (hG.2.2.2.2.2.2.2.2.2.1 e he).1
  refine Ct.of (by decide) (Nat.le_of_ble_eq_true rfl) rfl ?_
  unfold facesQ
  cases hp : pidx x (tn (gT q)) with
  | none =>
    have hp := pidx_none hp
    refine r_ald0 (pc := 0) dX0_faces_0 ?_
    refine r_ild1 (pc := 1) dX0_faces_1 ?_
    refine r_cV (pc := 2) dX0_faces_2 cv_X0_161 (hS.k (c := 0) ow_0 kd_0) (ct_X0_isPerson W S) rfl rfl (Nat.le_of_ble_eq_true rfl) (by first | decide | omega) ?_
    rintro _ _ ⟨rfl, rfl⟩
    first | refine r_if_neZ (pc := 5) (tgt := 10) dX0_faces_5 (by decide) (fun h5 => ?_) (fun h5 => ?_) | refine r_if_neN (pc := 5) (tgt := 10) dX0_faces_5 (by decide) (by omega) (fun h5 => ?_) (fun h5 => ?_) | refine r_if_ne (pc := 5) (tgt := 10) dX0_faces_5 (by decide) (fun h5 => ?_) (fun h5 => ?_)
    · skip
      exact absurd h5 hp
    · skip
      refine r_iconst (v := -1) (pc := 8) dX0_faces_8 (by decide) ?_
      refine r_iret (pc := 9) dX0_faces_9 ?_
      exact ⟨s, rfl, rfl, hI⟩
  | some p =>
    obtain ⟨hp1, rfl⟩ := pidx_some hp
    have hH : 0 < tH (gT q) := by have := hG.2.2.2.2.2.1.2.2.1 p hp1; omega
    refine r_ald0 (pc := 0) dX0_faces_0 ?_
    refine r_ild1 (pc := 1) dX0_faces_1 ?_
    refine r_cV (pc := 2) dX0_faces_2 cv_X0_161 (hS.k (c := 0) ow_0 kd_0) (ct_X0_isPerson W S) rfl rfl (Nat.le_of_ble_eq_true rfl) (by first | decide | omega) ?_
    rintro _ _ ⟨rfl, rfl⟩
    first | refine r_if_neZ (pc := 5) (tgt := 10) dX0_faces_5 (by decide) (fun h5 => ?_) (fun h5 => ?_) | refine r_if_neN (pc := 5) (tgt := 10) dX0_faces_5 (by decide) (by omega) (fun h5 => ?_) (fun h5 => ?_) | refine r_if_ne (pc := 5) (tgt := 10) dX0_faces_5 (by decide) (fun h5 => ?_) (fun h5 => ?_)
    · skip
      refine r_iconst (v := nI 0) (pc := 10) dX0_faces_10 (by decide) ?_
      refine r_ist2 (pc := 11) dX0_faces_11 ?_
      refine r_iconst (v := nI 0) (pc := 12) dX0_faces_12 (by decide) ?_
      refine r_ist3 (pc := 13) dX0_faces_13 ?_
      exact xfaLoop hG hr hp1 hH 10 0 s (by omega) hI
    · skip
      exact absurd (by rw [nI_toInt (by omega)]; omega) h5
end X28
