set_option maxRecDepth 100000
/-! THE MODEL: words and signs -/
section M29
variable {g : GC} {M : MM} {o : Nat} {s s' sB : MS} {M1 : MM} {q : Sg} {f : Nat → Nat} {n a : Nat}
/-- where the last word or number has ended, against what stands before -/
def EN (s : MS) (f : Nat → Nat) (a : Nat) : Prop := ∃ e : Option Nat, mF s 4 = oI e ∧ (∀ x, e = some x → x ≤ a) ∧ (e = some a ↔ ptd f a = true)
theorem EN.cmp (h : EN s f a) (ha : a < 2147483648) : nI a = mF s 4 ↔ ptd f a = true := by
  obtain ⟨e, h1, h2, h3⟩ := h
  rw [h1, ← h3]
  cases e with
  | none => exact ⟨fun q => absurd q (nI_m1 ha), fun q => by cases q⟩
  | some x =>
    have hx := h2 x rfl
    constructor
    · intro q; rw [(nI_eq ha (by omega)).mp q]
    · intro q; cases q; rfl
theorem EN.skp (h : EN s f a) (h4 : mF s' 4 = mF s 4) : EN s' f (skip f n a) := by
  obtain ⟨e, h1, h2, h3⟩ := h
  by_cases hs : skip f n a = a
  · rw [hs]; exact ⟨e, h4.trans h1, h2, h3⟩
  · have hg := skip_ge f n a
    refine ⟨e, h4.trans h1, fun x hx => by have := h2 x hx; omega, ?_⟩
    constructor
    · intro q; have := h2 _ q; omega
    · intro q; rw [skip_ptd hs] at q; cases q
theorem EN.here {b : Nat} (h4 : mF s' 4 = nI b) (hp : ptd f b = true) : EN s' f b := ⟨some b, h4, fun x hx => by cases hx; exact Nat.le_refl _, ⟨fun _ => hp, fun _ => rfl⟩⟩
theorem EN.sign {b : Nat} (h : EN s f a) (h4 : mF s' 4 = mF s 4) (hb : a < b) (hp : ptd f b = false) : EN s' f b := by
  obtain ⟨e, h1, h2, h3⟩ := h
  refine ⟨e, h4.trans h1, fun x hx => by have := h2 x hx; omega, ?_⟩
  constructor
  · intro q; have := h2 _ q; omega
  · intro q; rw [hp] at q; cases q
/-- the words stand, no place of a fault -/
def IW6 (s : MS) : Prop := IWd s ∧ mF s 6 = -1
theorem IW6.fr {fs gs as bs : List Nat} (h : IW6 s) (hf : Fr fs gs as bs s s') (h1 : ∀ e ∈ wdT, e.1 ∉ as) (h2 : 6 ∉ fs) : IW6 s' := ⟨h.1.fr hf h1, (hf.1 6 h2).trans h.2⟩
/-- reading, no fault so far -/
def RP (s : MS) (f : Nat → Nat) (n a : Nat) : Prop := RD s f n a ∧ mF s 5 = nI 0 ∧ EN s f a ∧ IW6 s
/-- a fault -/
def BD (s : MS) (e : Nat × Nat) : Prop := mF s 5 = nI e.1 ∧ mF s 6 = nI e.2 ∧ 1 ≤ e.1 ∧ e.1 ≤ 5 ∧ e.2 ≤ 1600
def RZ (s : MS) (f : Nat → Nat) (n : Nat) : Pz Nat → Prop
  | .ok a => RP s f n a
  | .error e => BD s e
theorem RP.mv {b : Nat} (h : RP s f n a) (hb : b ≤ n) (h2 : mF s' 2 = nI b) (hf : ∀ i, i = 3 ∨ i = 5 ∨ i = 6 → mF s' i = mF s i) (ha : mA s' = mA s) (he : EN s' f b) : RP s' f n b := by
  obtain ⟨⟨r1, r2, r3, r4, r5, r6⟩, b1, e1, w1⟩ := h
  refine ⟨⟨(hf 3 (Or.inl rfl)).trans r1, h2, hb, r4, by rw [ha]; exact r5, r6⟩, (hf 5 (Or.inr (Or.inl rfl))).trans b1, he, ?_, (hf 6 (Or.inr (Or.inr rfl))).trans w1.2⟩
  intro e he j hj; rw [ha]; exact w1.1 e he j hj
theorem RP.fr {fs gs as bs : List Nat} (h : RP s f n a) (hf : Fr fs gs as bs s s') (h1 : 2 ∉ fs ∧ 3 ∉ fs ∧ 4 ∉ fs ∧ 5 ∉ fs ∧ 6 ∉ fs) (h2 : 0 ∉ as ∧ ∀ e ∈ wdT, e.1 ∉ as) : RP s' f n a := by
  obtain ⟨⟨r1, r2, r3, r4, r5, r6⟩, b1, ⟨e, e1, e2, e3⟩, w1⟩ := h
  exact ⟨⟨(hf.1 3 h1.2.1).trans r1, (hf.1 2 h1.1).trans r2, r3, r4, by rw [hf.2.2.1 0 h2.1]; exact r5, r6⟩, (hf.1 5 h1.2.2.2.1).trans b1, ⟨e, (hf.1 4 h1.2.2.1).trans e1, e2, e3⟩, w1.fr hf h2.2 h1.2.2.2.2⟩
theorem ct_X6_lookP (hS : ShM g M o) (hR : RP s f n a) : Ct g yX6_look cX6_look 1 (some Jvm.ClassFile.FieldType.int) 0 0 0 [.ref o] (putM M o s) (QM M o (fun r s' => r = some (.int (oI (lookO f n a))) ∧ RP s' f n (skip f n a) ∧ Fr [2] [] [] [] s s')) noX := by
  refine Ct.post ?_ (fun _ _ h => h) (ct_X6_look hS hR.1)
  rintro v M' ⟨s1, rfl, h1, h2, h3⟩
  exact ⟨s1, rfl, h1, ⟨h2, (h3.1 5 (by decide)).trans hR.2.1, hR.2.2.1.skp (h3.1 4 (by decide)), hR.2.2.2.fr h3 (by decide) (by decide)⟩, h3⟩
theorem oI_inj {r : Option Nat} {c : Nat} (hr : ∀ x, r = some x → x < 2147483648) (hc : c < 2147483648) (h : oI r = nI c) : r = some c := by
  cases r with
  | none => exact absurd h.symm (nI_m1 hc)
  | some x => rw [(nI_eq (hr x rfl) hc).mp h]
theorem lookO_lt {c : Nat} (hR : RP s f n a) (h : lookO f n a = some c) : c < 256 ∧ skip f n a < n ∧ f (skip f n a) = c := by
  unfold lookO at h
  split at h
  · next hc => cases h; exact ⟨hR.1.2.2.2.2.2 _, hc, rfl⟩
  · cases h
theorem ct_X6_isLetterO {r : Option Nat} (hc : ∀ c, r = some c → c < 256) : Ct g yX6_isLetter cX6_isLetter 1 (some Jvm.ClassFile.FieldType.boolean) 0 0 0 [.int (oI r)] M1 (PQ M1 (.int (zI (ltrO r = true)))) noX := by
  cases r with
  | some c => exact ct_X6_isLetter (hc c rfl)
  | none =>
    refine Ct.of (by decide) (Nat.le_of_ble_eq_true rfl) rfl ?_
    refine r_ild0 (pc := 0) dX6_isLetter_0 ?_
    refine r_bipush (v := nI 97) (pc := 1) dX6_isLetter_1 (by decide) ?_
    refine r_icmp_lt (pc := 3) (tgt := 16) dX6_isLetter_3 (by decide) (fun h3 => ?_) (fun h3 => ?_)
    · skip
      refine r_iconst (v := nI 0) (pc := 16) dX6_isLetter_16 (by decide) ?_
      refine r_zret (pc := 17) dX6_isLetter_17 (by first | rfl | exact zI_nar | assumption) ?_
      exact ⟨rfl, rfl⟩
    · skip
      exact absurd (by decide : oI none < nI 97) h3
theorem ct_X6_isDigitO {r : Option Nat} (hc : ∀ c, r = some c → c < 256) : Ct g yX6_isDigit cX6_isDigit 1 (some Jvm.ClassFile.FieldType.boolean) 0 0 0 [.int (oI r)] M1 (PQ M1 (.int (zI (dgtO r = true)))) noX := by
  cases r with
  | some c => exact ct_X6_isDigit (hc c rfl)
  | none =>
    refine Ct.of (by decide) (Nat.le_of_ble_eq_true rfl) rfl ?_
    refine r_ild0 (pc := 0) dX6_isDigit_0 ?_
    refine r_bipush (v := nI 48) (pc := 1) dX6_isDigit_1 (by decide) ?_
    refine r_icmp_lt (pc := 3) (tgt := 16) dX6_isDigit_3 (by decide) (fun h3 => ?_) (fun h3 => ?_)
    · skip
      refine r_iconst (v := nI 0) (pc := 16) dX6_isDigit_16 (by decide) ?_
      refine r_zret (pc := 17) dX6_isDigit_17 (by first | rfl | exact zI_nar | assumption) ?_
      exact ⟨rfl, rfl⟩
    · skip
      exact absurd (by decide : oI none < nI 48) h3
theorem word_none {p : Nat} (h : ¬ (p < n ∧ ltr (f p) = true ∧ ptd f p = false)) : word f n p = none := if_neg h
theorem lookO_ltr : ltrO (lookO f n a) = true ↔ skip f n a < n ∧ ltr (f (skip f n a)) = true := by
  unfold lookO
  split
  · next h => exact ⟨fun q => ⟨h, q⟩, fun q => q.2⟩
  · next h => exact ⟨fun q => (by cases q), fun q => absurd q.1 h⟩
theorem lookO_dgt : dgtO (lookO f n a) = true ↔ skip f n a < n ∧ dgt (f (skip f n a)) = true := by
  unfold lookO
  split
  · next h => exact ⟨fun q => ⟨h, q⟩, fun q => q.2⟩
  · next h => exact ⟨fun q => (by cases q), fun q => absurd q.1 h⟩
theorem isHereB {i c p : Nat} {w : List Nat} (hS : ShM g M o) (hR : RP s f n p) (ha : AR i c 5 w.length) (hw : ∀ j, j < w.length → mA s i j = nI (w.getD j 0)) (hw2 : ∀ j, w.getD j 0 < 256) (hw9 : w.length ≤ 9) (hL : (lts f (n - p) p).length = w.length) :
    ∀ (m j : Nat), j + m = w.length → (∀ x, x < j → (lts f (n - p) p).getD x 0 = w.getD x 0) → Bd g yX6_isHere cX6_isHere 4 (some Jvm.ClassFile.FieldType.boolean) [] 1 0 0 (putM M o s) 76 [some (.ref o), some (.ref (o + c)), some (.int (nI (p + w.length))), some (.int (nI j))] [] (PQ (putM M o s) (.int (zI (some (lts f (n - p) p) = some w)))) noX := by
  have hn := hR.1.2.2.2.1
  have hpn := hR.1.2.2.1
  have hle := lts_le f (n - p) p
  intro m
  induction m with
  | zero =>
    intro j hj hh
    have hj : j = w.length := hj
    have e : some (lts f (n - p) p) = some w := congrArg some (list_ext hL (fun x hx => hh x (by omega)))
    refine r_ild3 (pc := 76) dX6_isHere_76 ?_
    refine r_ald1 (pc := 77) dX6_isHere_77 ?_
    refine m_alen hS (pc := 78) dX6_isHere_78 ha (by decide) ?_
    first | refine r_icmp_geN (pc := 79) (tgt := 107) dX6_isHere_79 (by decide) (by omega) (by omega) (fun h79 => ?_) (fun h79 => ?_) | refine r_icmp_ge (pc := 79) (tgt := 107) dX6_isHere_79 (by decide) (fun h79 => ?_) (fun h79 => ?_)
    · skip
      refine r_iconst (v := nI 1) (pc := 107) dX6_isHere_107 (by decide) ?_
      refine r_zret (pc := 108) dX6_isHere_108 (by first | rfl | exact zI_nar | assumption) ?_
      exact ⟨by rw [zI_t e]; rfl, rfl⟩
    · skip
      exact absurd h79 (by omega)
  | succ m ih =>
    intro j hj hh
    have hg := lts_get f (n - p) p j (by omega)
    have hf1 := hR.1.2.2.2.2.2 (p + j)
    have hf2 := hw2 j
    refine r_ild3 (pc := 76) dX6_isHere_76 ?_
    refine r_ald1 (pc := 77) dX6_isHere_77 ?_
    refine m_alen hS (pc := 78) dX6_isHere_78 ha (by decide) ?_
    first | refine r_icmp_geN (pc := 79) (tgt := 107) dX6_isHere_79 (by decide) (by omega) (by omega) (fun h79 => ?_) (fun h79 => ?_) | refine r_icmp_ge (pc := 79) (tgt := 107) dX6_isHere_79 (by decide) (fun h79 => ?_) (fun h79 => ?_)
    · skip
      exact absurd h79 (by omega)
    · skip
      refine r_ald0 (pc := 82) dX6_isHere_82 ?_
      refine m_getR hS (pc := 83) dX6_isHere_83 fl_X6_7 ar0 ?_
      refine r_ald0 (pc := 86) dX6_isHere_86 ?_
      refine m_getI hS (pc := 87) dX6_isHere_87 fl_X6_243 ?_
      refine Bd.eqI hR.1.2.1 ?_
      refine r_ild3 (pc := 90) dX6_isHere_90 ?_
      first | refine r_iaddN (pc := 91) dX6_isHere_91 ?_ | refine r_iaddJ (pc := 91) dX6_isHere_91 ?_ | refine r_iadd (pc := 91) dX6_isHere_91 ?_
      refine m_iald hS (pc := 92) dX6_isHere_92 ar0 (by omega) (by omega) ?_
      refine Bd.eqI (hR.1.2.2.2.2.1 _ (by omega)) ?_
      refine r_ald1 (pc := 93) dX6_isHere_93 ?_
      refine r_ild3 (pc := 94) dX6_isHere_94 ?_
      refine m_cald hS (pc := 95) dX6_isHere_95 ha (by omega) (by omega) ?_
      refine Bd.eqI (hw j (by omega)) ?_
      first | refine r_icmp_eqN (pc := 96) (tgt := 101) dX6_isHere_96 (by decide) (by omega) (by omega) (fun h96 => ?_) (fun h96 => ?_) | refine r_icmp_eq (pc := 96) (tgt := 101) dX6_isHere_96 (by decide) (fun h96 => ?_) (fun h96 => ?_)
      · skip
        first | refine r_iinc3N (j := 1) (pc := 101) dX6_isHere_101 rfl ?_ | refine r_iinc3 (pc := 101) dX6_isHere_101 ?_
        refine r_goto (pc := 104) (tgt := 76) dX6_isHere_104 (by decide) ?_
        exact ih (j + 1) (by omega) (fun x hx => by rcases Nat.lt_or_ge x j with h | h; exact hh x h; (obtain rfl : x = j := by omega); rw [hg.1, h96])
      · skip
        refine r_iconst (v := nI 0) (pc := 99) dX6_isHere_99 (by decide) ?_
        refine r_zret (pc := 100) dX6_isHere_100 (by first | rfl | exact zI_nar | assumption) ?_
        exact ⟨by rw [zI_f (fun q => h96 (by rw [← hg.1, Option.some.inj q]))]; rfl, rfl⟩
theorem isHereA {i c p : Nat} {w : List Nat} (hS : ShM g M o) (hR : RP s f n p) (ha : AR i c 5 w.length) (hw : ∀ j, j < w.length → mA s i j = nI (w.getD j 0)) (hw2 : ∀ j, w.getD j 0 < 256) (hw9 : w.length ≤ 9) :
    ∀ (m k : Nat), k + m = n → p ≤ k → k + (lts f m k).length = p + (lts f (n - p) p).length → Bd g yX6_isHere cX6_isHere 4 (some Jvm.ClassFile.FieldType.boolean) [] 1 0 0 (putM M o s) 35 [some (.ref o), some (.ref (o + c)), some (.int (nI k)), none] [] (PQ (putM M o s) (.int (zI (some (lts f (n - p) p) = some w)))) noX := by
  have hn := hR.1.2.2.2.1
  have hle := lts_le f (n - p) p
  have hpn := hR.1.2.2.1
  have key : Bd g yX6_isHere cX6_isHere 4 (some Jvm.ClassFile.FieldType.boolean) [] 1 0 0 (putM M o s) 61 [some (.ref o), some (.ref (o + c)), some (.int (nI (p + (lts f (n - p) p).length))), none] [] (PQ (putM M o s) (.int (zI (some (lts f (n - p) p) = some w)))) noX := by
    by_cases hL : (lts f (n - p) p).length = w.length
    · have hb := isHereB hS hR ha hw hw2 hw9 hL w.length 0 (by omega) (fun x hx => absurd hx (Nat.not_lt_zero x))
      rw [← hL] at hb
      refine r_ild2 (pc := 61) dX6_isHere_61 ?_
      refine r_ald0 (pc := 62) dX6_isHere_62 ?_
      refine m_getI hS (pc := 63) dX6_isHere_63 fl_X6_243 ?_
      refine Bd.eqI hR.1.2.1 ?_
      refine r_isubN (pc := 66) dX6_isHere_66 (by omega) ?_
      rw [Nat.add_sub_cancel_left]
      refine r_ald1 (pc := 67) dX6_isHere_67 ?_
      refine m_alen hS (pc := 68) dX6_isHere_68 ha (by decide) ?_
      first | refine r_icmp_eqN (pc := 69) (tgt := 74) dX6_isHere_69 (by decide) (by omega) (by omega) (fun h69 => ?_) (fun h69 => ?_) | refine r_icmp_eq (pc := 69) (tgt := 74) dX6_isHere_69 (by decide) (fun h69 => ?_) (fun h69 => ?_)
      · skip
        refine r_iconst (v := nI 0) (pc := 74) dX6_isHere_74 (by decide) ?_
        refine r_ist3 (pc := 75) dX6_isHere_75 ?_
        exact hb
      · skip
        exact absurd hL h69
    · skip
      refine r_ild2 (pc := 61) dX6_isHere_61 ?_
      refine r_ald0 (pc := 62) dX6_isHere_62 ?_
      refine m_getI hS (pc := 63) dX6_isHere_63 fl_X6_243 ?_
      refine Bd.eqI hR.1.2.1 ?_
      refine r_isubN (pc := 66) dX6_isHere_66 (by omega) ?_
      rw [Nat.add_sub_cancel_left]
      refine r_ald1 (pc := 67) dX6_isHere_67 ?_
      refine m_alen hS (pc := 68) dX6_isHere_68 ha (by decide) ?_
      first | refine r_icmp_eqN (pc := 69) (tgt := 74) dX6_isHere_69 (by decide) (by omega) (by omega) (fun h69 => ?_) (fun h69 => ?_) | refine r_icmp_eq (pc := 69) (tgt := 74) dX6_isHere_69 (by decide) (fun h69 => ?_) (fun h69 => ?_)
      · skip
        exact absurd h69 hL
      · skip
        refine r_iconst (v := nI 0) (pc := 72) dX6_isHere_72 (by decide) ?_
        refine r_zret (pc := 73) dX6_isHere_73 (by first | rfl | exact zI_nar | assumption) ?_
        exact ⟨by rw [zI_f (fun q => hL (by rw [Option.some.inj q]))]; rfl, rfl⟩
  intro m
  induction m with
  | zero =>
    intro k hk hpk he
    have he : k = p + (lts f (n - p) p).length := he
    refine r_ild2 (pc := 35) dX6_isHere_35 ?_
    refine r_ald0 (pc := 36) dX6_isHere_36 ?_
    refine m_getI hS (pc := 37) dX6_isHere_37 fl_X6_246 ?_
    refine Bd.eqI hR.1.1 ?_
    first | refine r_icmp_geN (pc := 40) (tgt := 61) dX6_isHere_40 (by decide) (by omega) (by omega) (fun h40 => ?_) (fun h40 => ?_) | refine r_icmp_ge (pc := 40) (tgt := 61) dX6_isHere_40 (by decide) (fun h40 => ?_) (fun h40 => ?_)
    · skip
      rw [he]; exact key
    · skip
      exact absurd h40 (by omega)
  | succ m ih =>
    intro k hk hpk he
    have hfk := hR.1.2.2.2.2.2 k
    rw [show lts f (m + 1) k = if ltr (f k) then f k :: lts f m (k + 1) else [] from rfl] at he
    by_cases hl : ltr (f k) = true
    · rw [if_pos hl] at he
      refine r_ild2 (pc := 35) dX6_isHere_35 ?_
      refine r_ald0 (pc := 36) dX6_isHere_36 ?_
      refine m_getI hS (pc := 37) dX6_isHere_37 fl_X6_246 ?_
      refine Bd.eqI hR.1.1 ?_
      first | refine r_icmp_geN (pc := 40) (tgt := 61) dX6_isHere_40 (by decide) (by omega) (by omega) (fun h40 => ?_) (fun h40 => ?_) | refine r_icmp_ge (pc := 40) (tgt := 61) dX6_isHere_40 (by decide) (fun h40 => ?_) (fun h40 => ?_)
      · skip
        exact absurd h40 (by omega)
      · skip
        refine r_ald0 (pc := 43) dX6_isHere_43 ?_
        refine m_getR hS (pc := 44) dX6_isHere_44 fl_X6_7 ar0 ?_
        refine r_ild2 (pc := 47) dX6_isHere_47 ?_
        refine m_iald hS (pc := 48) dX6_isHere_48 ar0 (by omega) (by omega) ?_
        refine Bd.eqI (hR.1.2.2.2.2.1 _ (by omega)) ?_
        refine r_cS (pc := 49) dX6_isHere_49 cs_X6_253 (ct_X6_isLetter hfk) rfl rfl (Nat.le_of_ble_eq_true rfl) (by decide) ?_
        rintro _ _ ⟨rfl, rfl⟩
        first | refine r_if_eqZ (pc := 52) (tgt := 61) dX6_isHere_52 (by decide) (fun h52 => ?_) (fun h52 => ?_) | refine r_if_eqN (pc := 52) (tgt := 61) dX6_isHere_52 (by decide) (by omega) (fun h52 => ?_) (fun h52 => ?_) | refine r_if_eq (pc := 52) (tgt := 61) dX6_isHere_52 (by decide) (fun h52 => ?_) (fun h52 => ?_)
        · skip
          exact absurd hl h52
        · skip
          first | refine r_iinc2N (j := 1) (pc := 55) dX6_isHere_55 rfl ?_ | refine r_iinc2 (pc := 55) dX6_isHere_55 ?_
          refine r_goto (pc := 58) (tgt := 35) dX6_isHere_58 (by decide) ?_
          exact ih (k + 1) (by omega) (by omega) (by rw [← he]; simp; omega)
    · rw [if_neg hl] at he
      have he : k = p + (lts f (n - p) p).length := he
      refine r_ild2 (pc := 35) dX6_isHere_35 ?_
      refine r_ald0 (pc := 36) dX6_isHere_36 ?_
      refine m_getI hS (pc := 37) dX6_isHere_37 fl_X6_246 ?_
      refine Bd.eqI hR.1.1 ?_
      first | refine r_icmp_geN (pc := 40) (tgt := 61) dX6_isHere_40 (by decide) (by omega) (by omega) (fun h40 => ?_) (fun h40 => ?_) | refine r_icmp_ge (pc := 40) (tgt := 61) dX6_isHere_40 (by decide) (fun h40 => ?_) (fun h40 => ?_)
      · skip
        exact absurd h40 (by omega)
      · skip
        refine r_ald0 (pc := 43) dX6_isHere_43 ?_
        refine m_getR hS (pc := 44) dX6_isHere_44 fl_X6_7 ar0 ?_
        refine r_ild2 (pc := 47) dX6_isHere_47 ?_
        refine m_iald hS (pc := 48) dX6_isHere_48 ar0 (by omega) (by omega) ?_
        refine Bd.eqI (hR.1.2.2.2.2.1 _ (by omega)) ?_
        refine r_cS (pc := 49) dX6_isHere_49 cs_X6_253 (ct_X6_isLetter hfk) rfl rfl (Nat.le_of_ble_eq_true rfl) (by decide) ?_
        rintro _ _ ⟨rfl, rfl⟩
        first | refine r_if_eqZ (pc := 52) (tgt := 61) dX6_isHere_52 (by decide) (fun h52 => ?_) (fun h52 => ?_) | refine r_if_eqN (pc := 52) (tgt := 61) dX6_isHere_52 (by decide) (by omega) (fun h52 => ?_) (fun h52 => ?_) | refine r_if_eq (pc := 52) (tgt := 61) dX6_isHere_52 (by decide) (fun h52 => ?_) (fun h52 => ?_)
        · skip
          rw [he]; exact key
        · skip
          exact absurd h52 hl
theorem wd_lt : ∀ e ∈ wdT, e.2.length ≤ 9 ∧ ∀ c ∈ e.2, c < 256 := by decide
theorem getD_lt2 {w : List Nat} (h : ∀ c ∈ w, c < 256) (j : Nat) : w.getD j 0 < 256 := by
  rw [List.getD_eq_getElem?_getD]
  by_cases hj : j < w.length
  · rw [List.getElem?_eq_getElem hj]; exact h _ (List.getElem_mem hj)
  · rw [List.getElem?_eq_none (by omega)]; decide
theorem ct_X6_isHere {i c : Nat} {w : List Nat} (hS : ShM g M o) (hR : RP s f n a) (ha : AR i c 5 w.length) (hm : (i, w) ∈ wdT) :
    Ct g yX6_isHere cX6_isHere 4 (some Jvm.ClassFile.FieldType.boolean) 1 0 0 [.ref o, .ref (o + c)] (putM M o s) (QM M o (fun r s' => r = some (.int (zI (word f n (skip f n a) = some w))) ∧ RP s' f n (skip f n a) ∧ Fr [2] [] [] [] s s')) noX := by
  have hwl := (wd_lt _ hm).1
  have hw2 : ∀ j, w.getD j 0 < 256 := fun j => getD_lt2 (wd_lt _ hm).2 j
  have hn := hR.1.2.2.2.1
  refine Ct.of (by decide) (Nat.le_of_ble_eq_true rfl) rfl ?_
  by_cases hc : skip f n a < n ∧ ltr (f (skip f n a)) = true
  · by_cases hp : ptd f (skip f n a) = true
    · rw [zI_f (show ¬ word f n (skip f n a) = some w by rw [word_none (fun q => by rw [hp] at q; cases q.2.2)]; intro q; cases q)]
      refine r_ald0 (pc := 0) dX6_isHere_0 ?_
      refine m_getI hS (pc := 1) dX6_isHere_1 fl_X6_237 ?_
      refine Bd.eqI hR.2.1 ?_
      first | refine r_if_neZ (pc := 4) (tgt := 28) dX6_isHere_4 (by decide) (fun h4 => ?_) (fun h4 => ?_) | refine r_if_neN (pc := 4) (tgt := 28) dX6_isHere_4 (by decide) (by omega) (fun h4 => ?_) (fun h4 => ?_) | refine r_if_ne (pc := 4) (tgt := 28) dX6_isHere_4 (by decide) (fun h4 => ?_) (fun h4 => ?_)
      · skip
        exact absurd rfl h4
      · skip
        refine r_ald0 (pc := 7) dX6_isHere_7 ?_
        refine r_cV (pc := 8) dX6_isHere_8 cv_X6_249 hS.k (ct_X6_lookP hS hR) rfl rfl (Nat.le_of_ble_eq_true rfl) (by decide) ?_
        rintro _ _ ⟨s1, rfl, rfl, hR1, hf1⟩
        refine r_cS (pc := 11) dX6_isHere_11 cs_X6_253 (ct_X6_isLetterO (fun c hc => (lookO_lt hR hc).1)) rfl rfl (Nat.le_of_ble_eq_true rfl) (by decide) ?_
        rintro _ _ ⟨rfl, rfl⟩
        first | refine r_if_eqZ (pc := 14) (tgt := 28) dX6_isHere_14 (by decide) (fun h14 => ?_) (fun h14 => ?_) | refine r_if_eqN (pc := 14) (tgt := 28) dX6_isHere_14 (by decide) (by omega) (fun h14 => ?_) (fun h14 => ?_) | refine r_if_eq (pc := 14) (tgt := 28) dX6_isHere_14 (by decide) (fun h14 => ?_) (fun h14 => ?_)
        · skip
          exact absurd (lookO_ltr.mpr hc) h14
        · skip
          refine r_ald0 (pc := 17) dX6_isHere_17 ?_
          refine m_getI hS (pc := 18) dX6_isHere_18 fl_X6_243 ?_
          refine Bd.eqI hR1.1.2.1 ?_
          refine r_ald0 (pc := 21) dX6_isHere_21 ?_
          refine m_getI hS (pc := 22) dX6_isHere_22 fl_X6_257 ?_
          first | refine r_icmp_neN (pc := 25) (tgt := 30) dX6_isHere_25 (by decide) (by omega) (by omega) (fun h25 => ?_) (fun h25 => ?_) | refine r_icmp_ne (pc := 25) (tgt := 30) dX6_isHere_25 (by decide) (fun h25 => ?_) (fun h25 => ?_)
          · skip
            exact absurd ((hR1.2.2.1.cmp (by omega)).mpr hp) h25
          · skip
            refine r_iconst (v := nI 0) (pc := 28) dX6_isHere_28 (by decide) ?_
            refine r_zret (pc := 29) dX6_isHere_29 (by first | rfl | exact zI_nar | assumption) ?_
            exact ⟨s1, rfl, rfl, hR1, hf1⟩
    · have hp2 : ptd f (skip f n a) = false := by simpa using hp
      rw [show word f n (skip f n a) = some (lts f (n - skip f n a) (skip f n a)) from if_pos ⟨hc.1, hc.2, hp2⟩]
      refine r_ald0 (pc := 0) dX6_isHere_0 ?_
      refine m_getI hS (pc := 1) dX6_isHere_1 fl_X6_237 ?_
      refine Bd.eqI hR.2.1 ?_
      first | refine r_if_neZ (pc := 4) (tgt := 28) dX6_isHere_4 (by decide) (fun h4 => ?_) (fun h4 => ?_) | refine r_if_neN (pc := 4) (tgt := 28) dX6_isHere_4 (by decide) (by omega) (fun h4 => ?_) (fun h4 => ?_) | refine r_if_ne (pc := 4) (tgt := 28) dX6_isHere_4 (by decide) (fun h4 => ?_) (fun h4 => ?_)
      · skip
        exact absurd rfl h4
      · skip
        refine r_ald0 (pc := 7) dX6_isHere_7 ?_
        refine r_cV (pc := 8) dX6_isHere_8 cv_X6_249 hS.k (ct_X6_lookP hS hR) rfl rfl (Nat.le_of_ble_eq_true rfl) (by decide) ?_
        rintro _ _ ⟨s1, rfl, rfl, hR1, hf1⟩
        refine r_cS (pc := 11) dX6_isHere_11 cs_X6_253 (ct_X6_isLetterO (fun c hc => (lookO_lt hR hc).1)) rfl rfl (Nat.le_of_ble_eq_true rfl) (by decide) ?_
        rintro _ _ ⟨rfl, rfl⟩
        first | refine r_if_eqZ (pc := 14) (tgt := 28) dX6_isHere_14 (by decide) (fun h14 => ?_) (fun h14 => ?_) | refine r_if_eqN (pc := 14) (tgt := 28) dX6_isHere_14 (by decide) (by omega) (fun h14 => ?_) (fun h14 => ?_) | refine r_if_eq (pc := 14) (tgt := 28) dX6_isHere_14 (by decide) (fun h14 => ?_) (fun h14 => ?_)
        · skip
          exact absurd (lookO_ltr.mpr hc) h14
        · skip
          refine r_ald0 (pc := 17) dX6_isHere_17 ?_
          refine m_getI hS (pc := 18) dX6_isHere_18 fl_X6_243 ?_
          refine Bd.eqI hR1.1.2.1 ?_
          refine r_ald0 (pc := 21) dX6_isHere_21 ?_
          refine m_getI hS (pc := 22) dX6_isHere_22 fl_X6_257 ?_
          first | refine r_icmp_neN (pc := 25) (tgt := 30) dX6_isHere_25 (by decide) (by omega) (by omega) (fun h25 => ?_) (fun h25 => ?_) | refine r_icmp_ne (pc := 25) (tgt := 30) dX6_isHere_25 (by decide) (fun h25 => ?_) (fun h25 => ?_)
          · skip
            refine r_ald0 (pc := 30) dX6_isHere_30 ?_
            refine m_getI hS (pc := 31) dX6_isHere_31 fl_X6_243 ?_
            refine Bd.eqI hR1.1.2.1 ?_
            refine r_ist2 (pc := 34) dX6_isHere_34 ?_
            refine Bd.post ?_ (fun _ _ h => h) (isHereA hS hR1 ha (fun j hj => hR1.2.2.2.1 _ hm j hj) hw2 hwl (n - skip f n a) (skip f n a) (by omega) (Nat.le_refl _) rfl)
            rintro _ _ ⟨rfl, rfl⟩; exact ⟨s1, rfl, rfl, hR1, hf1⟩
          · skip
            exact absurd ((hR1.2.2.1.cmp (by omega)).mp h25) hp
  · rw [zI_f (show ¬ word f n (skip f n a) = some w by rw [word_none (fun q => hc ⟨q.1, q.2.1⟩)]; intro q; cases q)]
    refine r_ald0 (pc := 0) dX6_isHere_0 ?_
    refine m_getI hS (pc := 1) dX6_isHere_1 fl_X6_237 ?_
    refine Bd.eqI hR.2.1 ?_
    first | refine r_if_neZ (pc := 4) (tgt := 28) dX6_isHere_4 (by decide) (fun h4 => ?_) (fun h4 => ?_) | refine r_if_neN (pc := 4) (tgt := 28) dX6_isHere_4 (by decide) (by omega) (fun h4 => ?_) (fun h4 => ?_) | refine r_if_ne (pc := 4) (tgt := 28) dX6_isHere_4 (by decide) (fun h4 => ?_) (fun h4 => ?_)
    · skip
      exact absurd rfl h4
    · skip
      refine r_ald0 (pc := 7) dX6_isHere_7 ?_
      refine r_cV (pc := 8) dX6_isHere_8 cv_X6_249 hS.k (ct_X6_lookP hS hR) rfl rfl (Nat.le_of_ble_eq_true rfl) (by decide) ?_
      rintro _ _ ⟨s1, rfl, rfl, hR1, hf1⟩
      refine r_cS (pc := 11) dX6_isHere_11 cs_X6_253 (ct_X6_isLetterO (fun c hc => (lookO_lt hR hc).1)) rfl rfl (Nat.le_of_ble_eq_true rfl) (by decide) ?_
      rintro _ _ ⟨rfl, rfl⟩
      first | refine r_if_eqZ (pc := 14) (tgt := 28) dX6_isHere_14 (by decide) (fun h14 => ?_) (fun h14 => ?_) | refine r_if_eqN (pc := 14) (tgt := 28) dX6_isHere_14 (by decide) (by omega) (fun h14 => ?_) (fun h14 => ?_) | refine r_if_eq (pc := 14) (tgt := 28) dX6_isHere_14 (by decide) (fun h14 => ?_) (fun h14 => ?_)
      · skip
        refine r_iconst (v := nI 0) (pc := 28) dX6_isHere_28 (by decide) ?_
        refine r_zret (pc := 29) dX6_isHere_29 (by first | rfl | exact zI_nar | assumption) ?_
        exact ⟨s1, rfl, rfl, hR1, hf1⟩
      · skip
        exact absurd (lookO_ltr.mp h14) hc
theorem RP.word {p : Nat} {w : List Nat} (h : RP s f n p) (hw : word f n p = some w) : RP (tF (tF s 2 (nI (p + w.length))) 4 (nI (p + w.length))) f n (p + w.length) := by
  obtain ⟨h1, h2, h3⟩ := word_end hw
  exact h.mv h1 rfl (by rintro i (rfl | rfl | rfl) <;> rfl) rfl (EN.here rfl h3)
theorem ct_X6_takes {i c : Nat} {w : List Nat} (hS : ShM g M o) (hR : RP s f n a) (ha : AR i c 5 w.length) (hm : (i, w) ∈ wdT) :
    Ct g yX6_takes cX6_takes 2 (some Jvm.ClassFile.FieldType.boolean) 2 0 0 [.ref o, .ref (o + c)] (putM M o s) (QM M o (fun r s' => r = some (.int (zI (word f n (skip f n a) = some w))) ∧ RP s' f n (if word f n (skip f n a) = some w then skip f n a + w.length else skip f n a) ∧ Fr [2, 4] [] [] [] s s')) noX := by
  refine Ct.of (by decide) (Nat.le_of_ble_eq_true rfl) rfl ?_
  by_cases hw : word f n (skip f n a) = some w
  · rw [if_pos hw]
    refine r_ald0 (pc := 0) dX6_takes_0 ?_
    refine r_ald1 (pc := 1) dX6_takes_1 ?_
    refine r_cV (pc := 2) dX6_takes_2 cv_X6_260 hS.k (ct_X6_isHere hS hR ha hm) rfl rfl (Nat.le_of_ble_eq_true rfl) (by decide) ?_
    rintro _ _ ⟨s1, rfl, rfl, hR1, hf1⟩
    first | refine r_if_neZ (pc := 5) (tgt := 10) dX6_takes_5 (by decide) (fun h5 => ?_) (fun h5 => ?_) | refine r_if_neN (pc := 5) (tgt := 10) dX6_takes_5 (by decide) (by omega) (fun h5 => ?_) (fun h5 => ?_) | refine r_if_ne (pc := 5) (tgt := 10) dX6_takes_5 (by decide) (fun h5 => ?_) (fun h5 => ?_)
    · skip
      refine r_ald0 (pc := 10) dX6_takes_10 ?_
      refine r_dup (pc := 11) dX6_takes_11 rfl ?_
      refine m_getI hS (pc := 12) dX6_takes_12 fl_X6_243 ?_
      refine Bd.eqI hR1.1.2.1 ?_
      refine r_ald1 (pc := 15) dX6_takes_15 ?_
      refine m_alen hS (pc := 16) dX6_takes_16 ha (by decide) ?_
      first | refine r_iaddN (pc := 17) dX6_takes_17 ?_ | refine r_iaddJ (pc := 17) dX6_takes_17 ?_ | refine r_iadd (pc := 17) dX6_takes_17 ?_
      refine m_putI hS (pc := 18) dX6_takes_18 fl_X6_243 fw_X6_2 rfl rfl ?_
      refine r_ald0 (pc := 21) dX6_takes_21 ?_
      refine r_ald0 (pc := 22) dX6_takes_22 ?_
      refine m_getI hS (pc := 23) dX6_takes_23 fl_X6_243 ?_
      refine Bd.eqI (x' := nI (skip f n a + w.length)) rfl ?_
      refine m_putI hS (pc := 26) dX6_takes_26 fl_X6_257 fw_X6_4 rfl rfl ?_
      refine r_iconst (v := nI 1) (pc := 29) dX6_takes_29 (by decide) ?_
      refine r_zret (pc := 30) dX6_takes_30 (by first | rfl | exact zI_nar | assumption) ?_
      exact ⟨_, rfl, by rw [zI_t hw]; rfl, hR1.word hw, (Fr.tF (Fr.tF (hf1.mono (by decide) (by decide) (by decide) (by decide)) (by decide)) (by decide))⟩
    · skip
      exact absurd hw h5
  · rw [if_neg hw]
    refine r_ald0 (pc := 0) dX6_takes_0 ?_
    refine r_ald1 (pc := 1) dX6_takes_1 ?_
    refine r_cV (pc := 2) dX6_takes_2 cv_X6_260 hS.k (ct_X6_isHere hS hR ha hm) rfl rfl (Nat.le_of_ble_eq_true rfl) (by decide) ?_
    rintro _ _ ⟨s1, rfl, rfl, hR1, hf1⟩
    first | refine r_if_neZ (pc := 5) (tgt := 10) dX6_takes_5 (by decide) (fun h5 => ?_) (fun h5 => ?_) | refine r_if_neN (pc := 5) (tgt := 10) dX6_takes_5 (by decide) (by omega) (fun h5 => ?_) (fun h5 => ?_) | refine r_if_ne (pc := 5) (tgt := 10) dX6_takes_5 (by decide) (fun h5 => ?_) (fun h5 => ?_)
    · skip
      exact absurd h5 hw
    · skip
      refine r_iconst (v := nI 0) (pc := 8) dX6_takes_8 (by decide) ?_
      refine r_zret (pc := 9) dX6_takes_9 (by first | rfl | exact zI_nar | assumption) ?_
      exact ⟨_, rfl, by rw [zI_f hw]; rfl, hR1, hf1.mono (by decide) (by decide) (by decide) (by decide)⟩
theorem ct_X6_failP {k p : Nat} (hS : ShM g M o) (hb : mF s 5 = nI 0) (hk : 1 ≤ k ∧ k ≤ 5) (hp : p ≤ 1600) : Ct g yX6_fail cX6_fail 3 none 0 0 0 [.ref o, .int (nI k), .int (nI p)] (putM M o s) (QM M o (fun r s' => r = none ∧ BD s' (k, p) ∧ Fr [5, 6] [] [] [] s s')) noX := by
  refine Ct.post ?_ (fun _ _ h => h) (ct_X6_fail hS hb)
  rintro v M' ⟨s1, rfl, h1, rfl⟩
  exact ⟨_, rfl, h1, ⟨rfl, rfl, hk.1, hk.2, hp⟩, Fr.tF (Fr.tF Fr.rf (by decide)) (by decide)⟩
theorem ct_X6_asks {i c : Nat} {w : List Nat} (hS : ShM g M o) (hR : RP s f n a) (ha : AR i c 5 w.length) (hm : (i, w) ∈ wdT) :
    Ct g yX6_asks cX6_asks 2 none 3 0 0 [.ref o, .ref (o + c)] (putM M o s) (QM M o (fun r s' => r = none ∧ RZ s' f n (kwP f n w a) ∧ Fr [2, 4, 5, 6] [] [] [] s s')) noX := by
  have hn := hR.1.2.2.2.1
  have hsl := skip_le (f := f) hR.1.2.2.1
  refine Ct.of (by decide) (Nat.le_of_ble_eq_true rfl) rfl ?_
  unfold kwP
  by_cases hw : word f n (skip f n a) = some w
  · rw [if_pos hw]
    refine r_ald0 (pc := 0) dX6_asks_0 ?_
    refine m_getI hS (pc := 1) dX6_asks_1 fl_X6_237 ?_
    refine Bd.eqI hR.2.1 ?_
    first | refine r_if_neZ (pc := 4) (tgt := 24) dX6_asks_4 (by decide) (fun h4 => ?_) (fun h4 => ?_) | refine r_if_neN (pc := 4) (tgt := 24) dX6_asks_4 (by decide) (by omega) (fun h4 => ?_) (fun h4 => ?_) | refine r_if_ne (pc := 4) (tgt := 24) dX6_asks_4 (by decide) (fun h4 => ?_) (fun h4 => ?_)
    · skip
      exact absurd rfl h4
    · skip
      refine r_ald0 (pc := 7) dX6_asks_7 ?_
      refine r_ald1 (pc := 8) dX6_asks_8 ?_
      refine r_cV (pc := 9) dX6_asks_9 cv_X6_264 hS.k (ct_X6_takes hS hR ha hm) rfl rfl (Nat.le_of_ble_eq_true rfl) (by decide) ?_
      rintro _ _ ⟨s1, rfl, rfl, hR1, hf1⟩
      rw [if_pos hw] at hR1
      first | refine r_if_neZ (pc := 12) (tgt := 24) dX6_asks_12 (by decide) (fun h12 => ?_) (fun h12 => ?_) | refine r_if_neN (pc := 12) (tgt := 24) dX6_asks_12 (by decide) (by omega) (fun h12 => ?_) (fun h12 => ?_) | refine r_if_ne (pc := 12) (tgt := 24) dX6_asks_12 (by decide) (fun h12 => ?_) (fun h12 => ?_)
      · skip
        refine r_vret (pc := 24) dX6_asks_24 ?_
        exact ⟨_, rfl, rfl, hR1, hf1.mono (by decide) (by decide) (by decide) (by decide)⟩
      · skip
        exact absurd hw h12
  · rw [if_neg hw]
    refine r_ald0 (pc := 0) dX6_asks_0 ?_
    refine m_getI hS (pc := 1) dX6_asks_1 fl_X6_237 ?_
    refine Bd.eqI hR.2.1 ?_
    first | refine r_if_neZ (pc := 4) (tgt := 24) dX6_asks_4 (by decide) (fun h4 => ?_) (fun h4 => ?_) | refine r_if_neN (pc := 4) (tgt := 24) dX6_asks_4 (by decide) (by omega) (fun h4 => ?_) (fun h4 => ?_) | refine r_if_ne (pc := 4) (tgt := 24) dX6_asks_4 (by decide) (fun h4 => ?_) (fun h4 => ?_)
    · skip
      exact absurd rfl h4
    · skip
      refine r_ald0 (pc := 7) dX6_asks_7 ?_
      refine r_ald1 (pc := 8) dX6_asks_8 ?_
      refine r_cV (pc := 9) dX6_asks_9 cv_X6_264 hS.k (ct_X6_takes hS hR ha hm) rfl rfl (Nat.le_of_ble_eq_true rfl) (by decide) ?_
      rintro _ _ ⟨s1, rfl, rfl, hR1, hf1⟩
      rw [if_neg hw] at hR1
      first | refine r_if_neZ (pc := 12) (tgt := 24) dX6_asks_12 (by decide) (fun h12 => ?_) (fun h12 => ?_) | refine r_if_neN (pc := 12) (tgt := 24) dX6_asks_12 (by decide) (by omega) (fun h12 => ?_) (fun h12 => ?_) | refine r_if_ne (pc := 12) (tgt := 24) dX6_asks_12 (by decide) (fun h12 => ?_) (fun h12 => ?_)
      · skip
        exact absurd h12 hw
      · skip
        refine r_ald0 (pc := 15) dX6_asks_15 ?_
        refine r_iconst (v := nI 1) (pc := 16) dX6_asks_16 (by decide) ?_
        refine r_ald0 (pc := 17) dX6_asks_17 ?_
        refine m_getI hS (pc := 18) dX6_asks_18 fl_X6_243 ?_
        refine Bd.eqI hR1.1.2.1 ?_
        refine r_cV (pc := 21) dX6_asks_21 cv_X6_267 hS.k (ct_X6_failP hS hR1.2.1 (by decide) (by omega)) rfl rfl (Nat.le_of_ble_eq_true rfl) (by decide) ?_
        rintro _ _ ⟨s2, rfl, rfl, hB, hf2⟩
        refine r_vret (pc := 24) dX6_asks_24 ?_
        exact ⟨_, rfl, rfl, hB, (hf1.mono (by decide) (by decide) (by decide) (by decide)).trans (hf2.mono (by decide) (by decide) (by decide) (by decide))⟩
theorem BD.ne {e : Nat × Nat} (h : BD s e) : mF s 5 ≠ nI 0 := by
  rw [h.1]; intro q
  have := (nI_eq (by have := h.2.2.2.1; omega) (by decide)).mp q
  have := h.2.2.1; omega
theorem ct_X6_asksB {i c : Nat} (hS : ShM g M o) (hb : mF s 5 ≠ nI 0) : Ct g yX6_asks cX6_asks 2 none 3 0 0 [.ref o, .ref (o + c)] (putM M o s) (VQ (putM M o s)) noX := by
  refine Ct.of (by decide) (Nat.le_of_ble_eq_true rfl) rfl ?_
  refine r_ald0 (pc := 0) dX6_asks_0 ?_
  refine m_getI hS (pc := 1) dX6_asks_1 fl_X6_237 ?_
  refine r_if_ne (pc := 4) (tgt := 24) dX6_asks_4 (by decide) (fun h4 => ?_) (fun h4 => ?_)
  · skip
    refine r_vret (pc := 24) dX6_asks_24 ?_
    exact ⟨rfl, rfl⟩
  · skip
    exact absurd h4 (fun q => hb q)
/-- signs that part what they stand between -/
def sgOk (c : Nat) : Prop := ltr c = false ∧ dgt c = false ∧ c < 256
theorem ct_X6_takesSign {c : Nat} (hS : ShM g M o) (hR : RP s f n a) (hc : sgOk c) :
    Ct g yX6_takesSign cX6_takesSign 2 (some Jvm.ClassFile.FieldType.boolean) 1 0 0 [.ref o, .int (nI c)] (putM M o s) (QM M o (fun r s' => r = some (.int (zI (lookO f n a = some c))) ∧ RP s' f n (if lookO f n a = some c then skip f n a + 1 else skip f n a) ∧ Fr [2] [] [] [] s s')) noX := by
  obtain ⟨hc1, hc2, hc3⟩ := hc
  refine Ct.of (by decide) (Nat.le_of_ble_eq_true rfl) rfl ?_
  by_cases hw : lookO f n a = some c
  · obtain ⟨l1, l2, l3⟩ := lookO_lt hR hw
    rw [if_pos hw]
    have hlk := ct_X6_lookP hS hR
    rw [hw] at hlk
    refine r_ald0 (pc := 0) dX6_takesSign_0 ?_
    refine m_getI hS (pc := 1) dX6_takesSign_1 fl_X6_237 ?_
    refine Bd.eqI hR.2.1 ?_
    first | refine r_if_neZ (pc := 4) (tgt := 15) dX6_takesSign_4 (by decide) (fun h4 => ?_) (fun h4 => ?_) | refine r_if_neN (pc := 4) (tgt := 15) dX6_takesSign_4 (by decide) (by omega) (fun h4 => ?_) (fun h4 => ?_) | refine r_if_ne (pc := 4) (tgt := 15) dX6_takesSign_4 (by decide) (fun h4 => ?_) (fun h4 => ?_)
    · skip
      exact absurd rfl h4
    · skip
      refine r_ald0 (pc := 7) dX6_takesSign_7 ?_
      refine r_cV (pc := 8) dX6_takesSign_8 cv_X6_249 hS.k hlk rfl rfl (Nat.le_of_ble_eq_true rfl) (by decide) ?_
      rintro _ _ ⟨s1, rfl, rfl, hR1, hf1⟩
      refine Bd.eqI (x' := nI c) rfl ?_
      refine r_ild1 (pc := 11) dX6_takesSign_11 ?_
      first | refine r_icmp_eqN (pc := 12) (tgt := 17) dX6_takesSign_12 (by decide) (by omega) (by omega) (fun h12 => ?_) (fun h12 => ?_) | refine r_icmp_eq (pc := 12) (tgt := 17) dX6_takesSign_12 (by decide) (fun h12 => ?_) (fun h12 => ?_)
      · skip
        refine r_ald0 (pc := 17) dX6_takesSign_17 ?_
        refine r_dup (pc := 18) dX6_takesSign_18 rfl ?_
        refine m_getI hS (pc := 19) dX6_takesSign_19 fl_X6_243 ?_
        refine Bd.eqI hR1.1.2.1 ?_
        refine r_iconst (v := nI 1) (pc := 22) dX6_takesSign_22 (by decide) ?_
        first | refine r_iaddN (pc := 23) dX6_takesSign_23 ?_ | refine r_iaddJ (pc := 23) dX6_takesSign_23 ?_ | refine r_iadd (pc := 23) dX6_takesSign_23 ?_
        refine m_putI hS (pc := 24) dX6_takesSign_24 fl_X6_243 fw_X6_2 rfl rfl ?_
        refine r_iconst (v := nI 1) (pc := 27) dX6_takesSign_27 (by decide) ?_
        refine r_zret (pc := 28) dX6_takesSign_28 (by first | rfl | exact zI_nar | assumption) ?_
        exact ⟨_, rfl, by rw [zI_t hw]; rfl, hR1.mv (by omega) rfl (by rintro i (rfl | rfl | rfl) <;> rfl) rfl (hR1.2.2.1.sign rfl (Nat.lt_succ_self _) (ptd_sign (by rw [l3]; exact hc1) (by rw [l3]; exact hc2))), Fr.tF hf1 (by decide)⟩
      · skip
        exact absurd rfl h12
  · rw [if_neg hw]
    refine r_ald0 (pc := 0) dX6_takesSign_0 ?_
    refine m_getI hS (pc := 1) dX6_takesSign_1 fl_X6_237 ?_
    refine Bd.eqI hR.2.1 ?_
    first | refine r_if_neZ (pc := 4) (tgt := 15) dX6_takesSign_4 (by decide) (fun h4 => ?_) (fun h4 => ?_) | refine r_if_neN (pc := 4) (tgt := 15) dX6_takesSign_4 (by decide) (by omega) (fun h4 => ?_) (fun h4 => ?_) | refine r_if_ne (pc := 4) (tgt := 15) dX6_takesSign_4 (by decide) (fun h4 => ?_) (fun h4 => ?_)
    · skip
      exact absurd rfl h4
    · skip
      refine r_ald0 (pc := 7) dX6_takesSign_7 ?_
      refine r_cV (pc := 8) dX6_takesSign_8 cv_X6_249 hS.k (ct_X6_lookP hS hR) rfl rfl (Nat.le_of_ble_eq_true rfl) (by decide) ?_
      rintro _ _ ⟨s1, rfl, rfl, hR1, hf1⟩
      refine r_ild1 (pc := 11) dX6_takesSign_11 ?_
      refine r_icmp_eq (pc := 12) (tgt := 17) dX6_takesSign_12 (by decide) (fun h12 => ?_) (fun h12 => ?_)
      · skip
        exact absurd (oI_inj (fun c hc => by have := (lookO_lt hR hc).1; omega) (by omega) h12) hw
      · skip
        refine r_iconst (v := nI 0) (pc := 15) dX6_takesSign_15 (by decide) ?_
        refine r_zret (pc := 16) dX6_takesSign_16 (by first | rfl | exact zI_nar | assumption) ?_
        exact ⟨_, rfl, by rw [zI_f hw]; rfl, hR1, hf1⟩
theorem ct_X6_asksSign {c : Nat} (hS : ShM g M o) (hR : RP s f n a) (hc : sgOk c) :
    Ct g yX6_asksSign cX6_asksSign 2 none 2 0 0 [.ref o, .int (nI c)] (putM M o s) (QM M o (fun r s' => r = none ∧ RZ s' f n (sgP f n c a) ∧ Fr [2, 5, 6] [] [] [] s s')) noX := by
  have hn := hR.1.2.2.2.1
  have hsl := skip_le (f := f) hR.1.2.2.1
  refine Ct.of (by decide) (Nat.le_of_ble_eq_true rfl) rfl ?_
  unfold sgP
  by_cases hw : lookO f n a = some c
  · rw [if_pos hw]
    refine r_ald0 (pc := 0) dX6_asksSign_0 ?_
    refine m_getI hS (pc := 1) dX6_asksSign_1 fl_X6_237 ?_
    refine Bd.eqI hR.2.1 ?_
    first | refine r_if_neZ (pc := 4) (tgt := 24) dX6_asksSign_4 (by decide) (fun h4 => ?_) (fun h4 => ?_) | refine r_if_neN (pc := 4) (tgt := 24) dX6_asksSign_4 (by decide) (by omega) (fun h4 => ?_) (fun h4 => ?_) | refine r_if_ne (pc := 4) (tgt := 24) dX6_asksSign_4 (by decide) (fun h4 => ?_) (fun h4 => ?_)
    · skip
      exact absurd rfl h4
    · skip
      refine r_ald0 (pc := 7) dX6_asksSign_7 ?_
      refine r_ild1 (pc := 8) dX6_asksSign_8 ?_
      refine r_cV (pc := 9) dX6_asksSign_9 cv_X6_271 hS.k (ct_X6_takesSign hS hR hc) rfl rfl (Nat.le_of_ble_eq_true rfl) (by decide) ?_
      rintro _ _ ⟨s1, rfl, rfl, hR1, hf1⟩
      rw [if_pos hw] at hR1
      first | refine r_if_neZ (pc := 12) (tgt := 24) dX6_asksSign_12 (by decide) (fun h12 => ?_) (fun h12 => ?_) | refine r_if_neN (pc := 12) (tgt := 24) dX6_asksSign_12 (by decide) (by omega) (fun h12 => ?_) (fun h12 => ?_) | refine r_if_ne (pc := 12) (tgt := 24) dX6_asksSign_12 (by decide) (fun h12 => ?_) (fun h12 => ?_)
      · skip
        refine r_vret (pc := 24) dX6_asksSign_24 ?_
        exact ⟨_, rfl, rfl, hR1, hf1.mono (by decide) (by decide) (by decide) (by decide)⟩
      · skip
        exact absurd hw h12
  · rw [if_neg hw]
    refine r_ald0 (pc := 0) dX6_asksSign_0 ?_
    refine m_getI hS (pc := 1) dX6_asksSign_1 fl_X6_237 ?_
    refine Bd.eqI hR.2.1 ?_
    first | refine r_if_neZ (pc := 4) (tgt := 24) dX6_asksSign_4 (by decide) (fun h4 => ?_) (fun h4 => ?_) | refine r_if_neN (pc := 4) (tgt := 24) dX6_asksSign_4 (by decide) (by omega) (fun h4 => ?_) (fun h4 => ?_) | refine r_if_ne (pc := 4) (tgt := 24) dX6_asksSign_4 (by decide) (fun h4 => ?_) (fun h4 => ?_)
    · skip
      exact absurd rfl h4
    · skip
      refine r_ald0 (pc := 7) dX6_asksSign_7 ?_
      refine r_ild1 (pc := 8) dX6_asksSign_8 ?_
      refine r_cV (pc := 9) dX6_asksSign_9 cv_X6_271 hS.k (ct_X6_takesSign hS hR hc) rfl rfl (Nat.le_of_ble_eq_true rfl) (by decide) ?_
      rintro _ _ ⟨s1, rfl, rfl, hR1, hf1⟩
      rw [if_neg hw] at hR1
      first | refine r_if_neZ (pc := 12) (tgt := 24) dX6_asksSign_12 (by decide) (fun h12 => ?_) (fun h12 => ?_) | refine r_if_neN (pc := 12) (tgt := 24) dX6_asksSign_12 (by decide) (by omega) (fun h12 => ?_) (fun h12 => ?_) | refine r_if_ne (pc := 12) (tgt := 24) dX6_asksSign_12 (by decide) (fun h12 => ?_) (fun h12 => ?_)
      · skip
        exact absurd h12 hw
      · skip
        refine r_ald0 (pc := 15) dX6_asksSign_15 ?_
        refine r_iconst (v := nI 1) (pc := 16) dX6_asksSign_16 (by decide) ?_
        refine r_ald0 (pc := 17) dX6_asksSign_17 ?_
        refine m_getI hS (pc := 18) dX6_asksSign_18 fl_X6_243 ?_
        refine Bd.eqI hR1.1.2.1 ?_
        refine r_cV (pc := 21) dX6_asksSign_21 cv_X6_267 hS.k (ct_X6_failP hS hR1.2.1 (by decide) (by omega)) rfl rfl (Nat.le_of_ble_eq_true rfl) (by decide) ?_
        rintro _ _ ⟨s2, rfl, rfl, hB, hf2⟩
        refine r_vret (pc := 24) dX6_asksSign_24 ?_
        exact ⟨_, rfl, rfl, hB, (hf1.mono (by decide) (by decide) (by decide) (by decide)).trans (hf2.mono (by decide) (by decide) (by decide) (by decide))⟩
theorem ct_X6_asksSignB {c : Int32} (hS : ShM g M o) (hb : mF s 5 ≠ nI 0) : Ct g yX6_asksSign cX6_asksSign 2 none 2 0 0 [.ref o, .int c] (putM M o s) (VQ (putM M o s)) noX := by
  refine Ct.of (by decide) (Nat.le_of_ble_eq_true rfl) rfl ?_
  refine r_ald0 (pc := 0) dX6_asksSign_0 ?_
  refine m_getI hS (pc := 1) dX6_asksSign_1 fl_X6_237 ?_
  refine r_if_ne (pc := 4) (tgt := 24) dX6_asksSign_4 (by decide) (fun h4 => ?_) (fun h4 => ?_)
  · skip
    refine r_vret (pc := 24) dX6_asksSign_24 ?_
    exact ⟨rfl, rfl⟩
  · skip
    exact absurd h4 (fun q => hb q)
end M29
