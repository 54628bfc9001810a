set_option maxRecDepth 100000
/-! THE MODEL: what tells most; what is seen -/
section M22
variable {g : GC} {M : MM} {o : Nat} {s sB : MS} {M1 : MM} {q : Sg} {T : Te} {t : St} {K : List Ev}
theorem alikeLoop {f : Nat → Bool} {w : Nat → Nat → Nat} {y a m : Nat} {Q : Option Value → MM → Prop} (hS : ShM g M o) (hL : LF f w s 10) (hw : ∀ v, v < 10 → ∀ y, y < 31 → w v y ≤ 99) (hy : y < 31) (ha : a < 10)
    (hk : ∀ w5, Bd g yX6_mostAlike cX6_mostAlike 6 (some Jvm.ClassFile.FieldType.int) [] 0 0 0 (putM M o s) 80 [some (.ref o), some (.int (nI y)), some (.int (nI m)), some (.int (nI a)), some (.int (nI (alikeS f w y a))), w5] [] Q noX) :
    ∀ (k b : Nat), b + k = 10 → Bd g yX6_mostAlike cX6_mostAlike 6 (some Jvm.ClassFile.FieldType.int) [] 0 0 0 (putM M o s) 28 [some (.ref o), some (.int (nI y)), some (.int (nI m)), some (.int (nI a)), some (.int (nI (cnt (fun b => f b && w a y == w b y) b))), some (.int (nI b))] [] Q noX := by
  intro k
  induction k with
  | zero =>
    intro b hb
    obtain rfl : b = 10 := by omega
    refine r_ild5 (pc := 28) dX6_mostAlike_28 ?_
    refine r_bipush (v := nI 10) (pc := 30) dX6_mostAlike_30 (by decide) ?_
    first | refine r_icmp_geN (pc := 32) (tgt := 80) dX6_mostAlike_32 (by decide) (by omega) (by omega) (fun h32 => ?_) (fun h32 => ?_) | refine r_icmp_ge (pc := 32) (tgt := 80) dX6_mostAlike_32 (by decide) (fun h32 => ?_) (fun h32 => ?_)
    · skip
      exact hk _
    · skip
      exact absurd h32 (by omega)
  | succ k ih =>
    intro b hb
    have h1 := hw a ha y hy
    have h2 := hw b (by omega) y hy
    have hc := cnt_le (fun b => f b && w a y == w b y) b
    have hih := ih (b + 1) (by omega)
    refine r_ild5 (pc := 28) dX6_mostAlike_28 ?_
    refine r_bipush (v := nI 10) (pc := 30) dX6_mostAlike_30 (by decide) ?_
    first | refine r_icmp_geN (pc := 32) (tgt := 80) dX6_mostAlike_32 (by decide) (by omega) (by omega) (fun h32 => ?_) (fun h32 => ?_) | refine r_icmp_ge (pc := 32) (tgt := 80) dX6_mostAlike_32 (by decide) (fun h32 => ?_) (fun h32 => ?_)
    · skip
      exact absurd h32 (by omega)
    · skip
      refine r_ald0 (pc := 35) dX6_mostAlike_35 ?_
      refine m_getR hS (pc := 36) dX6_mostAlike_36 fl_X6_136 ar70 ?_
      refine r_ild5 (pc := 39) dX6_mostAlike_39 ?_
      refine m_zald hS (pc := 41) dX6_mostAlike_41 ar70 (by omega) (by omega) ?_
      refine Bd.eqI (hL.2.1 b (by omega)) ?_
      first | refine r_if_eqZ (pc := 42) (tgt := 74) dX6_mostAlike_42 (by decide) (fun h42 => ?_) (fun h42 => ?_) | refine r_if_eqN (pc := 42) (tgt := 74) dX6_mostAlike_42 (by decide) (by omega) (fun h42 => ?_) (fun h42 => ?_) | refine r_if_eq (pc := 42) (tgt := 74) dX6_mostAlike_42 (by decide) (fun h42 => ?_) (fun h42 => ?_)
      · skip
        rw [cnt_f (f := fun b => f b && w a y == w b y) (n := b) (by rw [Bool.eq_false_iff.mpr h42]; rfl)] at hih
        first | refine r_iinc5N (j := 1) (pc := 74) dX6_mostAlike_74 rfl ?_ | refine r_iinc5 (pc := 74) dX6_mostAlike_74 ?_
        refine r_goto (pc := 77) (tgt := 28) dX6_mostAlike_77 (by decide) ?_
        exact hih
      · skip
        refine r_ald0 (pc := 45) dX6_mostAlike_45 ?_
        refine m_getR hS (pc := 46) dX6_mostAlike_46 fl_X6_133 ar69 ?_
        refine r_bipush (v := nI 31) (pc := 49) dX6_mostAlike_49 (by decide) ?_
        refine r_ild3 (pc := 51) dX6_mostAlike_51 ?_
        first | refine r_imulN (pc := 52) dX6_mostAlike_52 ?_ | refine r_imulJ (pc := 52) dX6_mostAlike_52 ?_ | refine r_imul (pc := 52) dX6_mostAlike_52 ?_
        refine r_ild1 (pc := 53) dX6_mostAlike_53 ?_
        first | refine r_iaddN (pc := 54) dX6_mostAlike_54 ?_ | refine r_iaddJ (pc := 54) dX6_mostAlike_54 ?_ | refine r_iadd (pc := 54) dX6_mostAlike_54 ?_
        refine m_iald hS (pc := 55) dX6_mostAlike_55 ar69 (by omega) (by omega) ?_
        refine Bd.eqI (hL.1 a ha y hy) ?_
        refine r_ald0 (pc := 56) dX6_mostAlike_56 ?_
        refine m_getR hS (pc := 57) dX6_mostAlike_57 fl_X6_133 ar69 ?_
        refine r_bipush (v := nI 31) (pc := 60) dX6_mostAlike_60 (by decide) ?_
        refine r_ild5 (pc := 62) dX6_mostAlike_62 ?_
        first | refine r_imulN (pc := 64) dX6_mostAlike_64 ?_ | refine r_imulJ (pc := 64) dX6_mostAlike_64 ?_ | refine r_imul (pc := 64) dX6_mostAlike_64 ?_
        refine r_ild1 (pc := 65) dX6_mostAlike_65 ?_
        first | refine r_iaddN (pc := 66) dX6_mostAlike_66 ?_ | refine r_iaddJ (pc := 66) dX6_mostAlike_66 ?_ | refine r_iadd (pc := 66) dX6_mostAlike_66 ?_
        refine m_iald hS (pc := 67) dX6_mostAlike_67 ar69 (by omega) (by omega) ?_
        refine Bd.eqI (hL.1 b (by omega) y hy) ?_
        first | refine r_icmp_neN (pc := 68) (tgt := 74) dX6_mostAlike_68 (by decide) (by omega) (by omega) (fun h68 => ?_) (fun h68 => ?_) | refine r_icmp_ne (pc := 68) (tgt := 74) dX6_mostAlike_68 (by decide) (fun h68 => ?_) (fun h68 => ?_)
        · skip
          rw [cnt_f (f := fun b => f b && w a y == w b y) (n := b) (by rw [beq_eq_false_iff_ne.mpr h68, Bool.and_false])] at hih
          first | refine r_iinc5N (j := 1) (pc := 74) dX6_mostAlike_74 rfl ?_ | refine r_iinc5 (pc := 74) dX6_mostAlike_74 ?_
          refine r_goto (pc := 77) (tgt := 28) dX6_mostAlike_77 (by decide) ?_
          exact hih
        · skip
          rw [cnt_t (f := fun b => f b && w a y == w b y) (n := b) (by rw [h42, h68, beq_self_eq_true]; rfl)] at hih
          first | refine r_iinc4N (j := 1) (pc := 71) dX6_mostAlike_71 rfl ?_ | refine r_iinc4 (pc := 71) dX6_mostAlike_71 ?_
          first | refine r_iinc5N (j := 1) (pc := 74) dX6_mostAlike_74 rfl ?_ | refine r_iinc5 (pc := 74) dX6_mostAlike_74 ?_
          refine r_goto (pc := 77) (tgt := 28) dX6_mostAlike_77 (by decide) ?_
          exact hih
theorem mostLoop {f : Nat → Bool} {w : Nat → Nat → Nat} {y : Nat} (hS : ShM g M o) (hL : LF f w s 10) (hw : ∀ v, v < 10 → ∀ y, y < 31 → w v y ≤ 99) (hy : y < 31) :
    ∀ (k a : Nat) (w4 w5 : Option Value), a + k = 10 → Bd g yX6_mostAlike cX6_mostAlike 6 (some Jvm.ClassFile.FieldType.int) [] 0 0 0 (putM M o s) 4 [some (.ref o), some (.int (nI y)), some (.int (nI (mostS f w y a))), some (.int (nI a)), w4, w5] [] (PQ (putM M o s) (.int (nI (mostS f w y 10)))) noX := by
  intro k
  induction k with
  | zero =>
    intro a w4 w5 ha
    obtain rfl : a = 10 := by omega
    refine r_ild3 (pc := 4) dX6_mostAlike_4 ?_
    refine r_bipush (v := nI 10) (pc := 5) dX6_mostAlike_5 (by decide) ?_
    first | refine r_icmp_geN (pc := 7) (tgt := 95) dX6_mostAlike_7 (by decide) (by omega) (by omega) (fun h7 => ?_) (fun h7 => ?_) | refine r_icmp_ge (pc := 7) (tgt := 95) dX6_mostAlike_7 (by decide) (fun h7 => ?_) (fun h7 => ?_)
    · skip
      refine r_ild2 (pc := 95) dX6_mostAlike_95 ?_
      refine r_iret (pc := 96) dX6_mostAlike_96 ?_
      exact ⟨rfl, rfl⟩
    · skip
      exact absurd h7 (by omega)
  | succ k ih =>
    intro a w4 w5 ha
    have hm := mostS_le (f := f) (w := w) (y := y) a
    have hal : alikeS f w y a ≤ 10 := cnt_le _ 10
    have hih := fun w4 w5 => ih (a + 1) w4 w5 (by omega)
    have hms : mostS f w y (a + 1) = if f a = true ∧ mostS f w y a < alikeS f w y a then alikeS f w y a else mostS f w y a := rfl
    have hc : f a = true → ∀ w5, Bd g yX6_mostAlike cX6_mostAlike 6 (some Jvm.ClassFile.FieldType.int) [] 0 0 0 (putM M o s) 80 [some (.ref o), some (.int (nI y)), some (.int (nI (mostS f w y a))), some (.int (nI a)), some (.int (nI (alikeS f w y a))), w5] [] (PQ (putM M o s) (.int (nI (mostS f w y 10)))) noX := by
      intro hfa w5
      refine r_ild4 (pc := 80) dX6_mostAlike_80 ?_
      refine r_ild2 (pc := 82) dX6_mostAlike_82 ?_
      first | refine r_icmp_leN (pc := 83) (tgt := 89) dX6_mostAlike_83 (by decide) (by omega) (by omega) (fun h83 => ?_) (fun h83 => ?_) | refine r_icmp_le (pc := 83) (tgt := 89) dX6_mostAlike_83 (by decide) (fun h83 => ?_) (fun h83 => ?_)
      · skip
        rw [if_neg (by omega)] at hms
        first | refine r_iinc3N (j := 1) (pc := 89) dX6_mostAlike_89 rfl ?_ | refine r_iinc3 (pc := 89) dX6_mostAlike_89 ?_
        refine r_goto (pc := 92) (tgt := 4) dX6_mostAlike_92 (by decide) ?_
        rw [hms] at hih
        exact hih _ w5
      · skip
        rw [if_pos ⟨hfa, by omega⟩] at hms
        refine r_ild4 (pc := 86) dX6_mostAlike_86 ?_
        refine r_ist2 (pc := 88) dX6_mostAlike_88 ?_
        first | refine r_iinc3N (j := 1) (pc := 89) dX6_mostAlike_89 rfl ?_ | refine r_iinc3 (pc := 89) dX6_mostAlike_89 ?_
        refine r_goto (pc := 92) (tgt := 4) dX6_mostAlike_92 (by decide) ?_
        rw [hms] at hih
        exact hih _ w5
    refine r_ild3 (pc := 4) dX6_mostAlike_4 ?_
    refine r_bipush (v := nI 10) (pc := 5) dX6_mostAlike_5 (by decide) ?_
    first | refine r_icmp_geN (pc := 7) (tgt := 95) dX6_mostAlike_7 (by decide) (by omega) (by omega) (fun h7 => ?_) (fun h7 => ?_) | refine r_icmp_ge (pc := 7) (tgt := 95) dX6_mostAlike_7 (by decide) (fun h7 => ?_) (fun h7 => ?_)
    · skip
      exact absurd h7 (by omega)
    · skip
      refine r_ald0 (pc := 10) dX6_mostAlike_10 ?_
      refine m_getR hS (pc := 11) dX6_mostAlike_11 fl_X6_136 ar70 ?_
      refine r_ild3 (pc := 14) dX6_mostAlike_14 ?_
      refine m_zald hS (pc := 15) dX6_mostAlike_15 ar70 (by omega) (by omega) ?_
      refine Bd.eqI (hL.2.1 a (by omega)) ?_
      first | refine r_if_neZ (pc := 16) (tgt := 22) dX6_mostAlike_16 (by decide) (fun h16 => ?_) (fun h16 => ?_) | refine r_if_neN (pc := 16) (tgt := 22) dX6_mostAlike_16 (by decide) (by omega) (fun h16 => ?_) (fun h16 => ?_) | refine r_if_ne (pc := 16) (tgt := 22) dX6_mostAlike_16 (by decide) (fun h16 => ?_) (fun h16 => ?_)
      · skip
        refine r_iconst (v := nI 0) (pc := 22) dX6_mostAlike_22 (by decide) ?_
        refine r_ist4 (pc := 23) dX6_mostAlike_23 ?_
        refine r_iconst (v := nI 0) (pc := 25) dX6_mostAlike_25 (by decide) ?_
        refine r_ist5 (pc := 26) dX6_mostAlike_26 ?_
        exact alikeLoop hS hL hw hy (by omega) (hc h16) 10 0 (by omega)
      · skip
        rw [if_neg (fun h => h16 h.1)] at hms
        rw [hms] at hih
        refine r_goto (pc := 19) (tgt := 89) dX6_mostAlike_19 (by decide) ?_
        first | refine r_iinc3N (j := 1) (pc := 89) dX6_mostAlike_89 rfl ?_ | refine r_iinc3 (pc := 89) dX6_mostAlike_89 ?_
        refine r_goto (pc := 92) (tgt := 4) dX6_mostAlike_92 (by decide) ?_
        exact hih w4 w5
theorem ct_X6_mostAlike {f : Nat → Bool} {w : Nat → Nat → Nat} {y : Nat} (hS : ShM g M o) (hL : LF f w s 10) (hw : ∀ v, v < 10 → ∀ y, y < 31 → w v y ≤ 99) (hy : y < 31) :
    Ct g yX6_mostAlike cX6_mostAlike 6 (some Jvm.ClassFile.FieldType.int) 0 0 0 [.ref o, .int (nI y)] (putM M o s) (PQ (putM M o s) (.int (nI (mostS f w y 10)))) noX := by
  refine Ct.of (by decide) (Nat.le_of_ble_eq_true rfl) rfl ?_
  refine r_iconst (v := nI 0) (pc := 0) dX6_mostAlike_0 (by decide) ?_
  refine r_ist2 (pc := 1) dX6_mostAlike_1 ?_
  refine r_iconst (v := nI 0) (pc := 2) dX6_mostAlike_2 (by decide) ?_
  refine r_ist3 (pc := 3) dX6_mostAlike_3 ?_
  exact mostLoop hS hL hw hy 10 0 _ _ (by omega)
theorem tellsEnd {p r v : Nat} {x : Option (Nat × Nat)} {w6 w7 : Option Value} (hS : ShM g M o) (hI : IM s q) (hv : v < 2) (hz : ∀ z, x = some z → z.1 ≤ 100 ∧ z.2 ≤ 100) :
    Bd g yX6_tells cX6_tells 8 (some Jvm.ClassFile.FieldType.int) [] 8 0 0 (putM M o s) 93 [some (.ref o), some (.int (nI p)), some (.int (nI r)), some (.int (nI v)), some (.int (oI (x.map Prod.fst))), some (.int (nI ((x.map Prod.snd).getD 0))), w6, w7] [] (PM M o q (.int (strR v x))) noX := by
  cases x with
  | none =>
    refine r_ild4 (pc := 93) dX6_tells_93 ?_
    refine r_iconst (v := -1) (pc := 95) dX6_tells_95 (by decide) ?_
    refine r_icmp_ne (pc := 96) (tgt := 103) dX6_tells_96 (by decide) (fun h96 => ?_) (fun h96 => ?_)
    · skip
      exact absurd rfl h96
    · skip
      refine r_iconst (v := -1) (pc := 99) dX6_tells_99 (by decide) ?_
      refine r_goto (pc := 100) (tgt := 114) dX6_tells_100 (by decide) ?_
      refine r_iret (pc := 114) dX6_tells_114 ?_
      exact ⟨s, rfl, rfl, hI⟩
  | some z =>
    obtain ⟨hz1, hz2⟩ := hz z rfl
    refine r_ild4 (pc := 93) dX6_tells_93 ?_
    refine r_iconst (v := -1) (pc := 95) dX6_tells_95 (by decide) ?_
    refine r_icmp_ne (pc := 96) (tgt := 103) dX6_tells_96 (by decide) (fun h96 => ?_) (fun h96 => ?_)
    · skip
      refine r_ild3 (pc := 103) dX6_tells_103 ?_
      first | refine r_if_neZ (pc := 104) (tgt := 112) dX6_tells_104 (by decide) (fun h104 => ?_) (fun h104 => ?_) | refine r_if_neN (pc := 104) (tgt := 112) dX6_tells_104 (by decide) (by omega) (fun h104 => ?_) (fun h104 => ?_) | refine r_if_ne (pc := 104) (tgt := 112) dX6_tells_104 (by decide) (fun h104 => ?_) (fun h104 => ?_)
      · skip
        rw [show strR v (some z) = nI z.2 from if_neg h104]
        refine r_ild5 (pc := 112) dX6_tells_112 ?_
        refine r_iret (pc := 114) dX6_tells_114 ?_
        exact ⟨s, rfl, rfl, hI⟩
      · skip
        rw [show strR v (some z) = nI z.1 from if_pos h104]
        refine r_ild4 (pc := 107) dX6_tells_107 ?_
        refine r_goto (pc := 109) (tgt := 114) dX6_tells_109 (by decide) ?_
        refine r_iret (pc := 114) dX6_tells_114 ?_
        exact ⟨s, rfl, rfl, hI⟩
    · skip
      exact absurd h96 (nI_m1 (by omega))
theorem tellsZero {p r v : Nat} {w6 w7 : Option Value} (hS : ShM g M o) (hI : IM s q) (hv : v < 2) (h0 : mF s 71 = nI 0) :
    Bd g yX6_tells cX6_tells 8 (some Jvm.ClassFile.FieldType.int) [] 8 0 0 (putM M o s) 36 [some (.ref o), some (.int (nI p)), some (.int (nI r)), some (.int (nI v)), some (.int (-1)), some (.int (nI 0)), w6, w7] [] (PM M o q (.int (-1))) noX := by
  refine r_ald0 (pc := 36) dX6_tells_36 ?_
  refine m_getI hS (pc := 37) dX6_tells_37 fl_X6_564 ?_
  refine Bd.eqI h0 ?_
  first | refine r_if_leN (pc := 40) (tgt := 93) dX6_tells_40 (by decide) (by omega) (fun h40 => ?_) (fun h40 => ?_) | refine r_if_le (pc := 40) (tgt := 93) dX6_tells_40 (by decide) (fun h40 => ?_) (fun h40 => ?_)
  · skip
    exact tellsEnd (x := none) hS hI hv (fun _ h => by cases h)
  · skip
    exact absurd h40 (by omega)
theorem tellsLoop {p r v : Nat} {f : Nat → Bool} {w : Nat → Nat → Nat} (hS : ShM g M o) (hI : IM s q) (hG : GI q) (hL : LF f w s 10) (hw : ∀ v, v < 10 → ∀ y, y < 31 → w v y ≤ 99) (hv : v < 2) (hc : 0 < cnt f 10) :
    ∀ (k y : Nat) (x : Option (Nat × Nat)) (w7 : Option Value), 1 ≤ y → y + k = min 30 (999 - yr (gS q)) + 1 → (∀ z, x = some z → z.1 ≤ 100 ∧ z.2 ≤ 100) →
    Bd g yX6_tells cX6_tells 8 (some Jvm.ClassFile.FieldType.int) [] 8 0 0 (putM M o s) 36 [some (.ref o), some (.int (nI p)), some (.int (nI r)), some (.int (nI v)), some (.int (oI (x.map Prod.fst))), some (.int (nI ((x.map Prod.snd).getD 0))), some (.int (nI y)), w7] [] (PM M o q (.int (strR v (tellS (fun y => mostS f w y 10) k y x)))) noX := by
  have hyr : yr (gS q) ≤ 999 := hG.2.2.2.2.2.1.2.1
  have hN := hI.2.2.2.2.1.1
  have hc10 := cnt_le f 10
  intro k
  induction k with
  | zero =>
    intro y x w7 hy1 hy hx
    have hy : y = min 30 (999 - yr (gS q)) + 1 := hy
    refine r_ald0 (pc := 36) dX6_tells_36 ?_
    refine m_getI hS (pc := 37) dX6_tells_37 fl_X6_564 ?_
    refine Bd.eqI hL.2.2 ?_
    first | refine r_if_leN (pc := 40) (tgt := 93) dX6_tells_40 (by decide) (by omega) (fun h40 => ?_) (fun h40 => ?_) | refine r_if_le (pc := 40) (tgt := 93) dX6_tells_40 (by decide) (fun h40 => ?_) (fun h40 => ?_)
    · skip
      exact absurd h40 (by omega)
    · skip
      refine r_ald0 (pc := 43) dX6_tells_43 ?_
      refine r_ild6 (pc := 44) dX6_tells_44 ?_
      refine r_iconst (v := nI 1) (pc := 46) dX6_tells_46 (by decide) ?_
      refine r_bipush (v := nI 30) (pc := 47) dX6_tells_47 (by decide) ?_
      refine r_cV (pc := 49) dX6_tells_49 cv_X6_524 hS.k (ct_X6_isAhead hS hN.1 (by omega) (by decide) (by decide)) rfl rfl (Nat.le_of_ble_eq_true rfl) (by decide) ?_
      rintro _ _ ⟨rfl, rfl⟩
      first | refine r_if_eqZ (pc := 52) (tgt := 93) dX6_tells_52 (by decide) (fun h52 => ?_) (fun h52 => ?_) | refine r_if_eqN (pc := 52) (tgt := 93) dX6_tells_52 (by decide) (by omega) (fun h52 => ?_) (fun h52 => ?_) | refine r_if_eq (pc := 52) (tgt := 93) dX6_tells_52 (by decide) (fun h52 => ?_) (fun h52 => ?_)
      · skip
        exact tellsEnd hS hI hv hx
      · skip
        exact absurd h52 (by rw [nI_toInt (by omega)]; omega)
  | succ k ih =>
    intro y x w7 hy1 hy hx
    have hm := mostS_le (f := f) (w := w) (y := y) 10
    cases x with
    | none =>
      rw [show tellS (fun y => mostS f w y 10) (k + 1) y none = tellS (fun y => mostS f w y 10) k (y + 1) (some (y, mostS f w y 10)) from rfl]
      refine r_ald0 (pc := 36) dX6_tells_36 ?_
      refine m_getI hS (pc := 37) dX6_tells_37 fl_X6_564 ?_
      refine Bd.eqI hL.2.2 ?_
      first | refine r_if_leN (pc := 40) (tgt := 93) dX6_tells_40 (by decide) (by omega) (fun h40 => ?_) (fun h40 => ?_) | refine r_if_le (pc := 40) (tgt := 93) dX6_tells_40 (by decide) (fun h40 => ?_) (fun h40 => ?_)
      · skip
        exact absurd h40 (by omega)
      · skip
        refine r_ald0 (pc := 43) dX6_tells_43 ?_
        refine r_ild6 (pc := 44) dX6_tells_44 ?_
        refine r_iconst (v := nI 1) (pc := 46) dX6_tells_46 (by decide) ?_
        refine r_bipush (v := nI 30) (pc := 47) dX6_tells_47 (by decide) ?_
        refine r_cV (pc := 49) dX6_tells_49 cv_X6_524 hS.k (ct_X6_isAhead hS hN.1 (by omega) (by decide) (by decide)) rfl rfl (Nat.le_of_ble_eq_true rfl) (by decide) ?_
        rintro _ _ ⟨rfl, rfl⟩
        first | refine r_if_eqZ (pc := 52) (tgt := 93) dX6_tells_52 (by decide) (fun h52 => ?_) (fun h52 => ?_) | refine r_if_eqN (pc := 52) (tgt := 93) dX6_tells_52 (by decide) (by omega) (fun h52 => ?_) (fun h52 => ?_) | refine r_if_eq (pc := 52) (tgt := 93) dX6_tells_52 (by decide) (fun h52 => ?_) (fun h52 => ?_)
        · skip
          exact absurd (by rw [nI_toInt (by omega)]; omega) h52
        · skip
          refine r_ald0 (pc := 55) dX6_tells_55 ?_
          refine r_ild6 (pc := 56) dX6_tells_56 ?_
          refine r_cV (pc := 58) dX6_tells_58 cv_X6_576 hS.k (ct_X6_mostAlike hS hL hw (by omega)) rfl rfl (Nat.le_of_ble_eq_true rfl) (by decide) ?_
          rintro _ _ ⟨rfl, rfl⟩
          refine r_ist7 (pc := 61) dX6_tells_61 ?_
          refine r_ild4 (pc := 63) dX6_tells_63 ?_
          refine r_iconst (v := -1) (pc := 65) dX6_tells_65 (by decide) ?_
          refine r_icmp_eq (pc := 66) (tgt := 79) dX6_tells_66 (by decide) (fun h66 => ?_) (fun h66 => ?_)
          · skip
            refine r_ild6 (pc := 79) dX6_tells_79 ?_
            refine r_ist4 (pc := 81) dX6_tells_81 ?_
            refine r_ild7 (pc := 83) dX6_tells_83 ?_
            refine r_ist5 (pc := 85) dX6_tells_85 ?_
            first | refine r_iinc6N (j := 1) (pc := 87) dX6_tells_87 rfl ?_ | refine r_iinc6 (pc := 87) dX6_tells_87 ?_
            refine r_goto (pc := 90) (tgt := 36) dX6_tells_90 (by decide) ?_
            exact ih (y + 1) (some (y, mostS f w y 10)) _ (by omega) (by omega) (by rintro z ⟨⟩; exact ⟨by show y ≤ 100; omega, by show mostS f w y 10 ≤ 100; omega⟩)
          · skip
            exact absurd rfl h66
    | some z =>
      obtain ⟨hz1, hz2⟩ := hx z rfl
      rw [show tellS (fun y => mostS f w y 10) (k + 1) y (some z) = tellS (fun y => mostS f w y 10) k (y + 1) (if mostS f w y 10 < z.2 then some (y, mostS f w y 10) else some z) from rfl]
      refine r_ald0 (pc := 36) dX6_tells_36 ?_
      refine m_getI hS (pc := 37) dX6_tells_37 fl_X6_564 ?_
      refine Bd.eqI hL.2.2 ?_
      first | refine r_if_leN (pc := 40) (tgt := 93) dX6_tells_40 (by decide) (by omega) (fun h40 => ?_) (fun h40 => ?_) | refine r_if_le (pc := 40) (tgt := 93) dX6_tells_40 (by decide) (fun h40 => ?_) (fun h40 => ?_)
      · skip
        exact absurd h40 (by omega)
      · skip
        refine r_ald0 (pc := 43) dX6_tells_43 ?_
        refine r_ild6 (pc := 44) dX6_tells_44 ?_
        refine r_iconst (v := nI 1) (pc := 46) dX6_tells_46 (by decide) ?_
        refine r_bipush (v := nI 30) (pc := 47) dX6_tells_47 (by decide) ?_
        refine r_cV (pc := 49) dX6_tells_49 cv_X6_524 hS.k (ct_X6_isAhead hS hN.1 (by omega) (by decide) (by decide)) rfl rfl (Nat.le_of_ble_eq_true rfl) (by decide) ?_
        rintro _ _ ⟨rfl, rfl⟩
        first | refine r_if_eqZ (pc := 52) (tgt := 93) dX6_tells_52 (by decide) (fun h52 => ?_) (fun h52 => ?_) | refine r_if_eqN (pc := 52) (tgt := 93) dX6_tells_52 (by decide) (by omega) (fun h52 => ?_) (fun h52 => ?_) | refine r_if_eq (pc := 52) (tgt := 93) dX6_tells_52 (by decide) (fun h52 => ?_) (fun h52 => ?_)
        · skip
          exact absurd (by rw [nI_toInt (by omega)]; omega) h52
        · skip
          refine r_ald0 (pc := 55) dX6_tells_55 ?_
          refine r_ild6 (pc := 56) dX6_tells_56 ?_
          refine r_cV (pc := 58) dX6_tells_58 cv_X6_576 hS.k (ct_X6_mostAlike hS hL hw (by omega)) rfl rfl (Nat.le_of_ble_eq_true rfl) (by decide) ?_
          rintro _ _ ⟨rfl, rfl⟩
          refine r_ist7 (pc := 61) dX6_tells_61 ?_
          refine r_ild4 (pc := 63) dX6_tells_63 ?_
          refine r_iconst (v := -1) (pc := 65) dX6_tells_65 (by decide) ?_
          refine r_icmp_eq (pc := 66) (tgt := 79) dX6_tells_66 (by decide) (fun h66 => ?_) (fun h66 => ?_)
          · skip
            exact absurd h66 (nI_m1 (by omega))
          · skip
            have hz2b : ((Option.map Prod.snd (some z)).getD 0) ≤ 100 := hz2
            refine r_ild7 (pc := 69) dX6_tells_69 ?_
            refine r_ild5 (pc := 71) dX6_tells_71 ?_
            first | refine r_icmp_ltN (pc := 73) (tgt := 79) dX6_tells_73 (by decide) (by omega) (by omega) (fun h73 => ?_) (fun h73 => ?_) | refine r_icmp_lt (pc := 73) (tgt := 79) dX6_tells_73 (by decide) (fun h73 => ?_) (fun h73 => ?_)
            · skip
              have h73 : mostS f w y 10 < z.2 := h73
              rw [if_pos h73]
              refine r_ild6 (pc := 79) dX6_tells_79 ?_
              refine r_ist4 (pc := 81) dX6_tells_81 ?_
              refine r_ild7 (pc := 83) dX6_tells_83 ?_
              refine r_ist5 (pc := 85) dX6_tells_85 ?_
              first | refine r_iinc6N (j := 1) (pc := 87) dX6_tells_87 rfl ?_ | refine r_iinc6 (pc := 87) dX6_tells_87 ?_
              refine r_goto (pc := 90) (tgt := 36) dX6_tells_90 (by decide) ?_
              first | exact ih (y + 1) (some (y, mostS f w y 10)) _ (by omega) (by omega) (by rintro z ⟨⟩; exact ⟨by show y ≤ 100; omega, by show mostS f w y 10 ≤ 100; omega⟩) | exact ih (y + 1) (some z) _ (by omega) (by omega) hx
            · skip
              have h73 : ¬ mostS f w y 10 < z.2 := h73
              rw [if_neg h73]
              refine r_goto (pc := 76) (tgt := 87) dX6_tells_76 (by decide) ?_
              first | refine r_iinc6N (j := 1) (pc := 87) dX6_tells_87 rfl ?_ | refine r_iinc6 (pc := 87) dX6_tells_87 ?_
              refine r_goto (pc := 90) (tgt := 36) dX6_tells_90 (by decide) ?_
              first | exact ih (y + 1) (some (y, mostS f w y 10)) _ (by omega) (by omega) (by rintro z ⟨⟩; exact ⟨by show y ≤ 100; omega, by show mostS f w y 10 ≤ 100; omega⟩) | exact ih (y + 1) (some z) _ (by omega) (by omega) hx
theorem pm_tells {a b c : Int32} (hS : ShM g M o) (hI : IM s q) (hG : GI q) : Ct g yX6_tells cX6_tells 8 (some Jvm.ClassFile.FieldType.int) 8 0 0 [.ref o, .int a, .int b, .int c] (putM M o s) (PM M o q (.int (tellsQ q a b c))) noX := by
  have hT := hI.2.2.2.1.1
  have hn8 := hG.2.2.1.1
  have hB : SB (tn (gT q)) (gS q) := hG.2.2.2.2.2.1.1
  have hyr : yr (gS q) ≤ 999 := hG.2.2.2.2.2.1.2.1
  obtain ⟨ha1, ha2⟩ := b31_of c
  refine Ct.of (by decide) (Nat.le_of_ble_eq_true rfl) rfl ?_
  unfold tellsQ
  cases hp : twoS (tn (gT q)) a b with
  | none =>
    have hno := mt (twoS_iff (a := a) (b := b) (by omega : tn (gT q) ≤ 100)).mpr (by rintro ⟨x, hx⟩; rw [hp] at hx; cases hx)
    refine r_ald0 (pc := 0) dX6_tells_0 ?_
    refine r_ild1 (pc := 1) dX6_tells_1 ?_
    refine r_ild2 (pc := 2) dX6_tells_2 ?_
    refine r_cV (pc := 3) dX6_tells_3 cv_X6_519 hS.k (ct_X6_areTwo hS hT.2.1 hn8) rfl rfl (Nat.le_of_ble_eq_true rfl) (by decide) ?_
    rintro _ _ ⟨rfl, rfl⟩
    first | refine r_if_eqZ (pc := 6) (tgt := 19) dX6_tells_6 (by decide) (fun h6 => ?_) (fun h6 => ?_) | refine r_if_eqN (pc := 6) (tgt := 19) dX6_tells_6 (by decide) (by omega) (fun h6 => ?_) (fun h6 => ?_) | refine r_if_eq (pc := 6) (tgt := 19) dX6_tells_6 (by decide) (fun h6 => ?_) (fun h6 => ?_)
    · skip
      refine r_iconst (v := -1) (pc := 19) dX6_tells_19 (by decide) ?_
      refine r_iret (pc := 20) dX6_tells_20 ?_
      exact ⟨s, rfl, rfl, hI⟩
    · skip
      exact absurd h6 hno
  | some z =>
    have hyes := (twoS_iff (a := a) (b := b) (by omega : tn (gT q) ≤ 100)).mp ⟨z, hp⟩
    obtain ⟨h1, h2, h3, rfl, rfl⟩ := twoS_some hp
    cases hr : pidx c 2 with
    | none =>
      have hr := pidx_none hr
      refine r_ald0 (pc := 0) dX6_tells_0 ?_
      refine r_ild1 (pc := 1) dX6_tells_1 ?_
      refine r_ild2 (pc := 2) dX6_tells_2 ?_
      refine r_cV (pc := 3) dX6_tells_3 cv_X6_519 hS.k (ct_X6_areTwo hS hT.2.1 hn8) rfl rfl (Nat.le_of_ble_eq_true rfl) (by decide) ?_
      rintro _ _ ⟨rfl, rfl⟩
      first | refine r_if_eqZ (pc := 6) (tgt := 19) dX6_tells_6 (by decide) (fun h6 => ?_) (fun h6 => ?_) | refine r_if_eqN (pc := 6) (tgt := 19) dX6_tells_6 (by decide) (by omega) (fun h6 => ?_) (fun h6 => ?_) | refine r_if_eq (pc := 6) (tgt := 19) dX6_tells_6 (by decide) (fun h6 => ?_) (fun h6 => ?_)
      · skip
        exact absurd hyes h6
      · skip
        refine r_ild3 (pc := 9) dX6_tells_9 ?_
        refine r_i2lT (pc := 10) dX6_tells_10 ?_
        refine r_lconst (v := lI 0) (pc := 11) dX6_tells_11 rfl ?_
        refine r_lconst (v := lI 1) (pc := 12) dX6_tells_12 rfl ?_
        refine r_cS (pc := 13) dX6_tells_13 cs_X6_280 (ct_X6_isInI (by constructor <;> omega) (by constructor <;> omega) (by constructor <;> omega)) rfl rfl (Nat.le_of_ble_eq_true rfl) (by decide) ?_
        rintro _ _ ⟨rfl, rfl⟩
        first | refine r_if_neZ (pc := 16) (tgt := 21) dX6_tells_16 (by decide) (fun h16 => ?_) (fun h16 => ?_) | refine r_if_neN (pc := 16) (tgt := 21) dX6_tells_16 (by decide) (by omega) (fun h16 => ?_) (fun h16 => ?_) | refine r_if_ne (pc := 16) (tgt := 21) dX6_tells_16 (by decide) (fun h16 => ?_) (fun h16 => ?_)
        · skip
          exact absurd h16 (by omega)
        · skip
          refine r_iconst (v := -1) (pc := 19) dX6_tells_19 (by decide) ?_
          refine r_iret (pc := 20) dX6_tells_20 ?_
          exact ⟨s, rfl, rfl, hI⟩
    | some v =>
      obtain ⟨hv, rfl⟩ := pidx_some hr
      show Bd g yX6_tells cX6_tells 8 (some Jvm.ClassFile.FieldType.int) [] 8 0 0 _ _ _ _ (PM M o q (.int (if cnt (thF q z.1 z.2) 10 = 0 then -1 else strR v (tellS (fun y => mostS (thF q z.1 z.2) (thW q z.1 z.2) y 10) (min 30 (999 - yr (gS q))) 1 none)))) noX
      have hc10 := cnt_le (thF q z.1 z.2) 10
      refine r_ald0 (pc := 0) dX6_tells_0 ?_
      refine r_ild1 (pc := 1) dX6_tells_1 ?_
      refine r_ild2 (pc := 2) dX6_tells_2 ?_
      refine r_cV (pc := 3) dX6_tells_3 cv_X6_519 hS.k (ct_X6_areTwo hS hT.2.1 hn8) rfl rfl (Nat.le_of_ble_eq_true rfl) (by decide) ?_
      rintro _ _ ⟨rfl, rfl⟩
      first | refine r_if_eqZ (pc := 6) (tgt := 19) dX6_tells_6 (by decide) (fun h6 => ?_) (fun h6 => ?_) | refine r_if_eqN (pc := 6) (tgt := 19) dX6_tells_6 (by decide) (by omega) (fun h6 => ?_) (fun h6 => ?_) | refine r_if_eq (pc := 6) (tgt := 19) dX6_tells_6 (by decide) (fun h6 => ?_) (fun h6 => ?_)
      · skip
        exact absurd hyes h6
      · skip
        refine r_ild3 (pc := 9) dX6_tells_9 ?_
        first | refine r_i2lM (pc := 10) dX6_tells_10 (by omega) ?_ | refine r_i2lI (pc := 10) dX6_tells_10 (by constructor <;> omega) ?_ | refine r_i2lT (pc := 10) dX6_tells_10 ?_
        refine r_lconst (v := lI 0) (pc := 11) dX6_tells_11 rfl ?_
        refine r_lconst (v := lI 1) (pc := 12) dX6_tells_12 rfl ?_
        refine r_cS (pc := 13) dX6_tells_13 cs_X6_280 (ct_X6_isInI (by constructor <;> omega) (by constructor <;> omega) (by constructor <;> omega)) rfl rfl (Nat.le_of_ble_eq_true rfl) (by decide) ?_
        rintro _ _ ⟨rfl, rfl⟩
        first | refine r_if_neZ (pc := 16) (tgt := 21) dX6_tells_16 (by decide) (fun h16 => ?_) (fun h16 => ?_) | refine r_if_neN (pc := 16) (tgt := 21) dX6_tells_16 (by decide) (by omega) (fun h16 => ?_) (fun h16 => ?_) | refine r_if_ne (pc := 16) (tgt := 21) dX6_tells_16 (by decide) (fun h16 => ?_) (fun h16 => ?_)
        · skip
          refine r_ald0 (pc := 21) dX6_tells_21 ?_
          refine r_ild1 (pc := 22) dX6_tells_22 ?_
          refine r_ild2 (pc := 23) dX6_tells_23 ?_
          refine r_cV (pc := 24) dX6_tells_24 cv_X6_570 hS.k (ct_X6_laysThoughts hS hI hG h1 h2) rfl rfl (Nat.le_of_ble_eq_true rfl) (by decide) ?_
          rintro _ _ ⟨s1, rfl, rfl, hI1, hL⟩
          refine r_iconst (v := -1) (pc := 27) dX6_tells_27 (by decide) ?_
          refine r_ist4 (pc := 28) dX6_tells_28 ?_
          refine r_iconst (v := nI 0) (pc := 30) dX6_tells_30 (by decide) ?_
          refine r_ist5 (pc := 31) dX6_tells_31 ?_
          refine r_iconst (v := nI 1) (pc := 33) dX6_tells_33 (by decide) ?_
          refine r_ist6 (pc := 34) dX6_tells_34 ?_
          by_cases hc0 : cnt (thF q z.1 z.2) 10 = 0
          · rw [if_pos hc0]
            exact tellsZero hS hI1 hv (hL.2.2.trans (congrArg nI hc0))
          · rw [if_neg hc0]
            exact tellsLoop hS hI1 hG hL (fun v hv y hy => ((yearsS_SB y (gT q) _ (sTh_SB' (p := z.1) (r := z.2) hB (by omega)) (by show yr (gS q) + y ≤ 2000; omega)).2 z.2 h2).2.1) hv (by omega) _ 1 none _ (by omega) (Nat.add_comm _ _) (fun _ h => by cases h)
        · skip
          exact absurd (by omega) h16
end M22
