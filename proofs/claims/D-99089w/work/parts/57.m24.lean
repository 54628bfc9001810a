set_option maxRecDepth 100000
/-! THE MODEL: letters -/
theorem nmV_snoc : ∀ (cs : List Nat) (c v : Nat), nmV (cs ++ [c]) v = 27 * nmV cs v + c
  | [], _, _ => rfl
  | d :: cs, c, v => nmV_snoc cs c (27 * v + d)
def nt (cs : List Nat) (i : Nat) : Nat := nmV (cs.take i) 0
theorem nt_succ {cs : List Nat} {i : Nat} (h : i < cs.length) : nt cs (i + 1) = 27 * nt cs i + cs.getD i 0 := by
  unfold nt
  rw [← List.take_append_getElem h, nmV_snoc]
  rw [List.getD_eq_getElem?_getD, List.getElem?_eq_getElem h]; rfl
theorem nt_full {cs : List Nat} : nt cs cs.length = nmV cs 0 := by unfold nt; rw [List.take_length]
theorem getD_ok {cs : List Nat} (h : ∀ c ∈ cs, 1 ≤ c ∧ c ≤ 26) {i : Nat} (hi : i < cs.length) : 1 ≤ cs.getD i 0 ∧ cs.getD i 0 ≤ 26 := by
  rw [List.getD_eq_getElem?_getD, List.getElem?_eq_getElem hi]; exact h _ (List.getElem_mem hi)
theorem nt_lt {cs : List Nat} (h : ∀ c ∈ cs, 1 ≤ c ∧ c ≤ 26) : ∀ i, i ≤ cs.length → nt cs i < 27 ^ i
  | 0, _ => Nat.one_pos
  | i + 1, hi => by
    have := nt_lt h i (by omega)
    have := getD_ok h (show i < cs.length by omega)
    rw [nt_succ (by omega), Nat.pow_succ]; omega
theorem pow27 : ∀ i, i < 7 → 27 ^ i ≤ 387420489 := by decide
theorem td27 (n : Nat) : ((n : Nat) : Int).tdiv 27 = ((n / 27 : Nat) : Int) := by rw [show (27 : Int) = ((27 : Nat) : Int) from rfl, ← Int.ofNat_tdiv]
theorem tm27 (n : Nat) : ((n : Nat) : Int).tmod 27 = ((n % 27 : Nat) : Int) := by rw [show (27 : Int) = ((27 : Nat) : Int) from rfl, ← Int.ofNat_tmod]
theorem iinc_m1 (i : Nat) : nI (i + 1) + Int32.ofInt (-1) = nI i := by
  rw [nI_iI, nI_iI]
  show Int32.ofInt ((i + 1 : Nat) : Int) + Int32.ofInt (-1) = Int32.ofInt (i : Int)
  rw [← Int32.ofInt_add]
  exact congrArg Int32.ofInt (by omega)
section M24
variable {g : GC} {M : MM} {o : Nat} {s sB : MS} {M1 : MM} {q : Sg} {T : Te} {t : St} {K : List Ev}
theorem letterB {cs : List Nat} {p k : Nat} {w7 : Option Value} (hS : ShM g M o) (hI : IM s q) (hc : ∀ c ∈ cs, 1 ≤ c ∧ c ≤ 26) (hl : cs.length ≤ 6) (hk : k < cs.length) :
    ∀ (m j : Nat), j = k + m → j < cs.length → Bd g yX6_letter cX6_letter 8 (some Jvm.ClassFile.FieldType.int) [] 2 0 0 (putM M o s) 74 [some (.ref o), some (.int (nI p)), some (.int (nI k)), some (.long (lI (nt cs (j + 1)))), none, some (.int (nI cs.length)), some (.int (nI j)), w7] [] (PM M o q (.int (nI (cs.getD k 0)))) noX := by
  intro m
  induction m with
  | zero =>
    intro j hj hl2
    have hj : j = k := hj
    subst hj
    have h1 := nt_succ hl2
    have h2 := getD_ok hc hl2
    have h3 := nt_lt hc (j + 1) (by omega)
    have h4 := pow27 (j + 1) (by omega)
    refine r_ild6 (pc := 74) dX6_letter_74 ?_
    refine r_ild2 (pc := 76) dX6_letter_76 ?_
    first | refine r_icmp_leN (pc := 77) (tgt := 92) dX6_letter_77 (by decide) (by omega) (by omega) (fun h77 => ?_) (fun h77 => ?_) | refine r_icmp_le (pc := 77) (tgt := 92) dX6_letter_77 (by decide) (fun h77 => ?_) (fun h77 => ?_)
    · skip
      refine r_lld3 (pc := 92) dX6_letter_92 ?_
      refine r_ldc2 (v := lI (27)) (pc := 93) dX6_letter_93 q2021 ?_
      first | refine r_lremI (pc := 96) dX6_letter_96 (by omega) (by constructor <;> omega) (by constructor <;> omega) ?_ | refine r_lrem (pc := 96) dX6_letter_96 (by first | assumption | decide) ?_
      refine Bd.eqL (x' := lI ((cs.getD j 0 : Nat) : Int)) (by rw [tm27, show nt cs (j + 1) % 27 = cs.getD j 0 by omega]) ?_
      first | refine r_l2iN (pc := 97) dX6_letter_97 ?_ | refine r_l2iI (pc := 97) dX6_letter_97 ?_ | refine r_l2i (pc := 97) dX6_letter_97 ?_
      refine r_iret (pc := 98) dX6_letter_98 ?_
      exact ⟨s, rfl, rfl, hI⟩
    · skip
      exact absurd h77 (by omega)
  | succ m ih =>
    intro j hj hl2
    have h1 := nt_succ hl2
    have h2 := getD_ok hc hl2
    have h3 := nt_lt hc (j + 1) (by omega)
    have h4 := pow27 (j + 1) (by omega)
    obtain ⟨i, rfl⟩ : ∃ i, j = i + 1 := ⟨j - 1, by omega⟩
    refine r_ild6 (pc := 74) dX6_letter_74 ?_
    refine r_ild2 (pc := 76) dX6_letter_76 ?_
    first | refine r_icmp_leN (pc := 77) (tgt := 92) dX6_letter_77 (by decide) (by omega) (by omega) (fun h77 => ?_) (fun h77 => ?_) | refine r_icmp_le (pc := 77) (tgt := 92) dX6_letter_77 (by decide) (fun h77 => ?_) (fun h77 => ?_)
    · skip
      exact absurd h77 (by omega)
    · skip
      refine r_lld3 (pc := 80) dX6_letter_80 ?_
      refine r_ldc2 (v := lI (27)) (pc := 81) dX6_letter_81 q2021 ?_
      first | refine r_ldivI (pc := 84) dX6_letter_84 (by omega) (by constructor <;> omega) (by constructor <;> omega) ?_ | refine r_ldiv (pc := 84) dX6_letter_84 (by first | assumption | decide) ?_
      refine Bd.eqL (x' := lI ((nt cs (i + 1) : Nat) : Int)) (by rw [td27, show nt cs (i + 1 + 1) / 27 = nt cs (i + 1) by omega]) ?_
      refine r_lst3 (pc := 85) dX6_letter_85 ?_
      refine r_iinc6 (pc := 86) dX6_letter_86 ?_
      rw [show nI (i + 1) + Int32.ofInt (-1) = nI i from iinc_m1 i]
      refine r_goto (pc := 89) (tgt := 74) dX6_letter_89 (by decide) ?_
      exact ih i (by omega) (by omega)
theorem letterA {cs : List Nat} {p k : Nat} (hS : ShM g M o) (hI : IM s q) (hc : ∀ c ∈ cs, 1 ≤ c ∧ c ≤ 26) (hl : cs.length ≤ 6) (hk6 : k < 6) :
    ∀ (m n : Nat), n + m = cs.length → Bd g yX6_letter cX6_letter 8 (some Jvm.ClassFile.FieldType.int) [] 2 0 0 (putM M o s) 39 [some (.ref o), some (.int (nI p)), some (.int (nI k)), some (.long (lI (nt cs cs.length))), none, some (.int (nI n)), some (.long (lI (nt cs m))), none] [] (PM M o q (.int (nI (cs.getD k 0)))) noX := by
  intro m
  induction m with
  | zero =>
    intro n hn
    have hn : n = cs.length := hn
    subst hn
    have h0 : nt cs 0 = 0 := rfl
    by_cases hk : k < cs.length
    · have hb := letterB (g := g) (M := M) (o := o) (s := s) (q := q) (p := p) (k := k) (w7 := none) hS hI hc hl hk (cs.length - 1 - k) (cs.length - 1) (by omega) (by omega)
      rw [show cs.length - 1 + 1 = cs.length by omega] at hb
      refine r_lld6 (pc := 39) dX6_letter_39 ?_
      refine r_lconst (v := lI 0) (pc := 41) dX6_letter_41 rfl ?_
      refine r_lcmp (pc := 42) dX6_letter_42 ?_
      first | refine r_if_leCI (pc := 43) (tgt := 60) dX6_letter_43 (by decide) (by constructor <;> omega) (by constructor <;> omega) (fun h43 => ?_) (fun h43 => ?_) | refine r_if_leC (pc := 43) (tgt := 60) dX6_letter_43 (by decide) (fun h43 => ?_) (fun h43 => ?_)
      · skip
        refine r_ild2 (pc := 60) dX6_letter_60 ?_
        refine r_ild5 (pc := 61) dX6_letter_61 ?_
        first | refine r_icmp_ltN (pc := 63) (tgt := 68) dX6_letter_63 (by decide) (by omega) (by omega) (fun h63 => ?_) (fun h63 => ?_) | refine r_icmp_lt (pc := 63) (tgt := 68) dX6_letter_63 (by decide) (fun h63 => ?_) (fun h63 => ?_)
        · skip
          refine r_ild5 (pc := 68) dX6_letter_68 ?_
          refine r_iconst (v := nI 1) (pc := 70) dX6_letter_70 (by decide) ?_
          first | refine r_isubN (pc := 71) dX6_letter_71 (by omega) ?_ | refine r_isubM (pc := 71) dX6_letter_71 ?_ | refine r_isubJ (pc := 71) dX6_letter_71 ?_ | refine r_isub (pc := 71) dX6_letter_71 ?_
          refine r_ist6 (pc := 72) dX6_letter_72 ?_
          exact hb
        · skip
          exact absurd h63 (by omega)
      · skip
        exact absurd h43 (by omega)
    · rw [show cs.getD k 0 = 0 by rw [List.getD_eq_getElem?_getD, List.getElem?_eq_none (by omega)]; rfl]
      refine r_lld6 (pc := 39) dX6_letter_39 ?_
      refine r_lconst (v := lI 0) (pc := 41) dX6_letter_41 rfl ?_
      refine r_lcmp (pc := 42) dX6_letter_42 ?_
      first | refine r_if_leCI (pc := 43) (tgt := 60) dX6_letter_43 (by decide) (by constructor <;> omega) (by constructor <;> omega) (fun h43 => ?_) (fun h43 => ?_) | refine r_if_leC (pc := 43) (tgt := 60) dX6_letter_43 (by decide) (fun h43 => ?_) (fun h43 => ?_)
      · skip
        refine r_ild2 (pc := 60) dX6_letter_60 ?_
        refine r_ild5 (pc := 61) dX6_letter_61 ?_
        first | refine r_icmp_ltN (pc := 63) (tgt := 68) dX6_letter_63 (by decide) (by omega) (by omega) (fun h63 => ?_) (fun h63 => ?_) | refine r_icmp_lt (pc := 63) (tgt := 68) dX6_letter_63 (by decide) (fun h63 => ?_) (fun h63 => ?_)
        · skip
          exact absurd h63 (by omega)
        · skip
          refine r_iconst (v := nI 0) (pc := 66) dX6_letter_66 (by decide) ?_
          refine r_iret (pc := 67) dX6_letter_67 ?_
          exact ⟨s, rfl, rfl, hI⟩
      · skip
        exact absurd h43 (by omega)
  | succ m ih =>
    intro n hn
    have h1 := nt_succ (cs := cs) (i := m) (by omega)
    have h2 := getD_ok hc (show m < cs.length by omega)
    have h3 := nt_lt hc (m + 1) (by omega)
    have h4 := pow27 (m + 1) (by omega)
    refine r_lld6 (pc := 39) dX6_letter_39 ?_
    refine r_lconst (v := lI 0) (pc := 41) dX6_letter_41 rfl ?_
    refine r_lcmp (pc := 42) dX6_letter_42 ?_
    first | refine r_if_leCI (pc := 43) (tgt := 60) dX6_letter_43 (by decide) (by constructor <;> omega) (by constructor <;> omega) (fun h43 => ?_) (fun h43 => ?_) | refine r_if_leC (pc := 43) (tgt := 60) dX6_letter_43 (by decide) (fun h43 => ?_) (fun h43 => ?_)
    · skip
      exact absurd h43 (by omega)
    · skip
      first | refine r_iinc5N (j := 1) (pc := 46) dX6_letter_46 rfl ?_ | refine r_iinc5 (pc := 46) dX6_letter_46 ?_
      refine r_lld6 (pc := 49) dX6_letter_49 ?_
      refine r_ldc2 (v := lI (27)) (pc := 51) dX6_letter_51 q2021 ?_
      first | refine r_ldivI (pc := 54) dX6_letter_54 (by omega) (by constructor <;> omega) (by constructor <;> omega) ?_ | refine r_ldiv (pc := 54) dX6_letter_54 (by first | assumption | decide) ?_
      refine Bd.eqL (x' := lI ((nt cs m : Nat) : Int)) (by rw [td27, show nt cs (m + 1) / 27 = nt cs m by omega]) ?_
      refine r_lst6 (pc := 55) dX6_letter_55 ?_
      refine r_goto (pc := 57) (tgt := 39) dX6_letter_57 (by decide) ?_
      exact ih (n + 1) (by omega)
theorem pm_letter {x y : Int32} (hS : ShM g M o) (hI : IM s q) (hG : GI q) : Ct g yX6_letter cX6_letter 8 (some Jvm.ClassFile.FieldType.int) 2 0 0 [.ref o, .int x, .int y] (putM M o s) (PM M o q (.int (letterS q x y))) noX := by
  have hT := hI.2.2.2.1.1
  have hnm := hI.2.2.2.1.2.2
  have hn8 := hG.2.2.1.1
  have hgn := hG.2.2.2.2.2.2.2.2.2.2.2.2.2
  obtain ⟨ha1, ha2⟩ := b31_of x
  obtain ⟨hb1, hb2⟩ := b31_of y
  refine Ct.of (by decide) (Nat.le_of_ble_eq_true rfl) rfl ?_
  unfold letterS
  cases hp : pidx x (tn (gT q)) with
  | none =>
    have hp := pidx_none hp
    refine r_ald0 (pc := 0) dX6_letter_0 ?_
    refine r_ild1 (pc := 1) dX6_letter_1 ?_
    refine r_i2lT (pc := 2) dX6_letter_2 ?_
    refine r_cV (pc := 3) dX6_letter_3 cv_X6_394 hS.k (ct_X6_isPerson hS hT.2.1 hn8 (by constructor <;> omega)) rfl rfl (Nat.le_of_ble_eq_true rfl) (by decide) ?_
    rintro _ _ ⟨rfl, rfl⟩
    first | refine r_if_eqZ (pc := 6) (tgt := 21) dX6_letter_6 (by decide) (fun h6 => ?_) (fun h6 => ?_) | refine r_if_eqN (pc := 6) (tgt := 21) dX6_letter_6 (by decide) (by omega) (fun h6 => ?_) (fun h6 => ?_) | refine r_if_eq (pc := 6) (tgt := 21) dX6_letter_6 (by decide) (fun h6 => ?_) (fun h6 => ?_)
    · skip
      refine r_iconst (v := -1) (pc := 21) dX6_letter_21 (by decide) ?_
      refine r_iret (pc := 22) dX6_letter_22 ?_
      exact ⟨s, rfl, rfl, hI⟩
    · skip
      exact absurd h6 hp
  | some p =>
    obtain ⟨h1, rfl⟩ := pidx_some hp
    cases hr : pidx y 6 with
    | none =>
      have hr := pidx_none hr
      refine r_ald0 (pc := 0) dX6_letter_0 ?_
      refine r_ild1 (pc := 1) dX6_letter_1 ?_
      first | refine r_i2lM (pc := 2) dX6_letter_2 (by omega) ?_ | refine r_i2lI (pc := 2) dX6_letter_2 (by constructor <;> omega) ?_ | refine r_i2lT (pc := 2) dX6_letter_2 ?_
      refine r_cV (pc := 3) dX6_letter_3 cv_X6_394 hS.k (ct_X6_isPerson hS hT.2.1 hn8 (by constructor <;> omega)) rfl rfl (Nat.le_of_ble_eq_true rfl) (by decide) ?_
      rintro _ _ ⟨rfl, rfl⟩
      first | refine r_if_eqZ (pc := 6) (tgt := 21) dX6_letter_6 (by decide) (fun h6 => ?_) (fun h6 => ?_) | refine r_if_eqN (pc := 6) (tgt := 21) dX6_letter_6 (by decide) (by omega) (fun h6 => ?_) (fun h6 => ?_) | refine r_if_eq (pc := 6) (tgt := 21) dX6_letter_6 (by decide) (fun h6 => ?_) (fun h6 => ?_)
      · skip
        exact absurd (by omega) h6
      · skip
        refine r_ild2 (pc := 9) dX6_letter_9 ?_
        refine r_i2lT (pc := 10) dX6_letter_10 ?_
        refine r_lconst (v := lI 0) (pc := 11) dX6_letter_11 rfl ?_
        refine r_ldc2 (v := lI (5)) (pc := 12) dX6_letter_12 q2214 ?_
        refine r_cS (pc := 15) dX6_letter_15 cs_X6_280 (ct_X6_isInI (by constructor <;> omega) (by constructor <;> omega) (by constructor <;> omega)) rfl rfl (Nat.le_of_ble_eq_true rfl) (by decide) ?_
        rintro _ _ ⟨rfl, rfl⟩
        first | refine r_if_neZ (pc := 18) (tgt := 23) dX6_letter_18 (by decide) (fun h18 => ?_) (fun h18 => ?_) | refine r_if_neN (pc := 18) (tgt := 23) dX6_letter_18 (by decide) (by omega) (fun h18 => ?_) (fun h18 => ?_) | refine r_if_ne (pc := 18) (tgt := 23) dX6_letter_18 (by decide) (fun h18 => ?_) (fun h18 => ?_)
        · skip
          exact absurd h18 (by omega)
        · skip
          refine r_iconst (v := -1) (pc := 21) dX6_letter_21 (by decide) ?_
          refine r_iret (pc := 22) dX6_letter_22 ?_
          exact ⟨s, rfl, rfl, hI⟩
    | some k =>
      obtain ⟨h2, rfl⟩ := pidx_some hr
      obtain ⟨g1, g2, g3⟩ := hgn p h1
      show Bd g yX6_letter cX6_letter 8 (some Jvm.ClassFile.FieldType.int) [] 2 0 0 _ _ _ _ (PM M o q (.int (nI ((nms (gT q) p).getD k 0)))) noX
      refine r_ald0 (pc := 0) dX6_letter_0 ?_
      refine r_ild1 (pc := 1) dX6_letter_1 ?_
      first | refine r_i2lM (pc := 2) dX6_letter_2 (by omega) ?_ | refine r_i2lI (pc := 2) dX6_letter_2 (by constructor <;> omega) ?_ | refine r_i2lT (pc := 2) dX6_letter_2 ?_
      refine r_cV (pc := 3) dX6_letter_3 cv_X6_394 hS.k (ct_X6_isPerson hS hT.2.1 hn8 (by constructor <;> omega)) rfl rfl (Nat.le_of_ble_eq_true rfl) (by decide) ?_
      rintro _ _ ⟨rfl, rfl⟩
      first | refine r_if_eqZ (pc := 6) (tgt := 21) dX6_letter_6 (by decide) (fun h6 => ?_) (fun h6 => ?_) | refine r_if_eqN (pc := 6) (tgt := 21) dX6_letter_6 (by decide) (by omega) (fun h6 => ?_) (fun h6 => ?_) | refine r_if_eq (pc := 6) (tgt := 21) dX6_letter_6 (by decide) (fun h6 => ?_) (fun h6 => ?_)
      · skip
        exact absurd (by omega) h6
      · skip
        refine r_ild2 (pc := 9) dX6_letter_9 ?_
        first | refine r_i2lM (pc := 10) dX6_letter_10 (by omega) ?_ | refine r_i2lI (pc := 10) dX6_letter_10 (by constructor <;> omega) ?_ | refine r_i2lT (pc := 10) dX6_letter_10 ?_
        refine r_lconst (v := lI 0) (pc := 11) dX6_letter_11 rfl ?_
        refine r_ldc2 (v := lI (5)) (pc := 12) dX6_letter_12 q2214 ?_
        refine r_cS (pc := 15) dX6_letter_15 cs_X6_280 (ct_X6_isInI (by constructor <;> omega) (by constructor <;> omega) (by constructor <;> omega)) rfl rfl (Nat.le_of_ble_eq_true rfl) (by decide) ?_
        rintro _ _ ⟨rfl, rfl⟩
        first | refine r_if_neZ (pc := 18) (tgt := 23) dX6_letter_18 (by decide) (fun h18 => ?_) (fun h18 => ?_) | refine r_if_neN (pc := 18) (tgt := 23) dX6_letter_18 (by decide) (by omega) (fun h18 => ?_) (fun h18 => ?_) | refine r_if_ne (pc := 18) (tgt := 23) dX6_letter_18 (by decide) (fun h18 => ?_) (fun h18 => ?_)
        · skip
          refine r_ald0 (pc := 23) dX6_letter_23 ?_
          refine m_getR hS (pc := 24) dX6_letter_24 fl_X6_96 ar41 ?_
          refine r_bipush (v := nI 8) (pc := 27) dX6_letter_27 (by decide) ?_
          refine r_ild1 (pc := 29) dX6_letter_29 ?_
          first | refine r_iaddN (pc := 30) dX6_letter_30 ?_ | refine r_iaddJ (pc := 30) dX6_letter_30 ?_ | refine r_iadd (pc := 30) dX6_letter_30 ?_
          refine m_lald hS (pc := 31) dX6_letter_31 ar41 (by omega) (by omega) ?_
          refine Bd.eqL (x' := lI (nt (nms (gT q) p) (nms (gT q) p).length)) (by rw [nt_full]; exact hnm p h1) ?_
          refine r_lst3 (pc := 32) dX6_letter_32 ?_
          refine r_iconst (v := nI 0) (pc := 33) dX6_letter_33 (by decide) ?_
          refine r_ist5 (pc := 34) dX6_letter_34 ?_
          refine r_lld3 (pc := 36) dX6_letter_36 ?_
          refine r_lst6 (pc := 37) dX6_letter_37 ?_
          exact letterA hS hI g3 g1 h2 (nms (gT q) p).length 0 (by omega)
        · skip
          exact absurd (by omega) h18
end M24
