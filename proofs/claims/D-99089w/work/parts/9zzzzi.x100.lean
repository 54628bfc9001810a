set_option maxRecDepth 100000
/-! CONSTRUCTORS: the whole object -/
/-- the references inside, k states kept so far -/
def xR (o k d i : Nat) : Option Nat := if d = 5 then (if i = 0 then some (o + 5 + 1) else if i = 7 then some o else none) else if d = 7 then (if i = 0 then some (o + 7 + 1) else none) else if d = 9 then (if i = 0 then some (o + 9 + 1) else none) else if 12 ≤ d ∧ d < 68 then stR o (o + 12) (d - 12) i else if 68 ≤ d ∧ d < 124 then stR o (o + 68) (d - 68) i else if d = 124 then some (o + 124 + 1 + i) else if d = 384 then some (o + 384 + 1 + i) else if d = 395 then (if i < k then some (o + (396 + 56 * i)) else none) else if 396 ≤ d ∧ d < 1516 then stR o (o + (396 + 56 * ((d - 396) / 56))) ((d - 396) % 56) i else none
theorem xR_st {o k b e i : Nat} (h : isS b) (he : e < 56) : xR o k (b + e) i = stR o (o + b) e i := by
  unfold xR
  rcases h with h | h | ⟨j, hj, h⟩
  · subst h
    rw [if_neg (by omega), if_neg (by omega), if_neg (by omega), if_pos (by omega), Nat.add_sub_cancel_left]
  · subst h
    rw [if_neg (by omega), if_neg (by omega), if_neg (by omega), if_neg (by omega), if_pos (by omega), Nat.add_sub_cancel_left]
  · subst h
    have e1 : (396 + 56 * j + e - 396) / 56 = j := by omega
    have e2 : (396 + 56 * j + e - 396) % 56 = e := by omega
    rw [if_neg (by omega), if_neg (by omega), if_neg (by omega), if_neg (by omega), if_neg (by omega), if_neg (by omega), if_neg (by omega), if_neg (by omega), if_pos (by omega), e1, e2]
theorem xR_k {o k k' d i : Nat} (h : d ≠ 395) : xR o k d i = xR o k' d i := by
  unfold xR
  rw [if_neg h, if_neg h]
theorem xR_lo {o k d i : Nat} (h : 125 ≤ d ∧ d < 384 ∨ 385 ≤ d ∧ d < 395) : xR o k d i = none := by
  unfold xR
  rw [if_neg (by omega), if_neg (by omega), if_neg (by omega), if_neg (by omega), if_neg (by omega), if_neg (by omega), if_neg (by omega), if_neg (by omega), if_neg (by omega)]
theorem kd_lo {d : Nat} (h : 125 ≤ d ∧ d < 384 ∨ 385 ≤ d ∧ d < 395) : kd d = 1 := by
  unfold kd
  rw [if_neg (by omega), if_neg (by omega), if_neg (by omega), if_neg (by omega), if_neg (by omega), if_neg (by omega), if_neg (by omega), if_neg (by omega), if_neg (by omega), if_neg (by omega)]
  by_cases e : d < 384
  · rw [if_pos e]
  · rw [if_neg e, if_neg (by omega), if_pos (by omega)]
theorem ln_g8 {d : Nat} (h : 125 ≤ d ∧ d < 381) : ln d = 8 := by
  unfold ln
  rw [if_neg (by omega), if_neg (by omega), if_neg (by omega), if_neg (by omega), if_neg (by omega), if_neg (by omega), if_neg (by omega), if_pos (by omega)]
theorem ln_31 {d : Nat} (h : 385 ≤ d ∧ d < 395) : ln d = 31 := by
  unfold ln
  rw [if_neg (by omega), if_neg (by omega), if_neg (by omega), if_neg (by omega), if_neg (by omega), if_neg (by omega), if_neg (by omega), if_neg (by omega), if_neg (by omega), if_neg (by omega), if_pos (by omega)]
theorem BLD.seat {M0 M : MM} {a lo n kind : Nat} {eI : Nat → Int32} {eL : Nat → Int64} {r : Nat → Option Nat} {K N : Nat → Nat} {I : Nat → Nat → Int32} {R R' : Nat → Nat → Option Nat} (h : BLD M0 M a lo n kind eI eL r K N I R) {d0 j : Nat} {x : Option Nat} (hl : 1 ≤ lo) (hd : lo ≤ d0) (h1 : ∀ i, R' d0 i = if i = j then x else R d0 i) (h2 : ∀ d, d ≠ d0 → ∀ i, R' d i = R d i) : BLD M0 (sR M (a + d0) j x) a lo n kind eI eL r K N I R' := by
  obtain ⟨g1, g2, ⟨k1, k2, k3, k4, k5⟩, g4⟩ := h
  refine ⟨g1, fun c hc hne => (g2 c hc hne).trans (Sm.sR (by omega)), ⟨k1, k2, k3, k4, fun i => by rw [mR_sRa (show a ≠ a + d0 by omega)]; exact k5 i⟩, fun d q1 q2 => ?_⟩
  by_cases e : d = d0
  · subst e
    exact ((g4 d q1 q2).put j x).cg rfl rfl (fun _ => rfl) h1
  · exact ((g4 d q1 q2).sm (Sm.sR (by omega))).cg rfl rfl (fun _ => rfl) (h2 d e)
theorem BLD.state {M0 M M' : MM} {o n k : Nat} {eI : Nat → Int32} {eL : Nat → Int64} {r : Nat → Option Nat} (h : BLD M0 M o 4 n 20 eI eL r kd ln (fun _ _ => 0) (xR o k)) (hn : isS n) (hz : mZ M' = o + n + 56) (hs : ∀ c, c < o + n → Sm M M' c) (hc : ∀ d, d < 56 → ZC M' (o + n + d) (stk d) (stl d) (fun _ => 0) (stR o (o + n) d)) : BLD M0 M' o 4 (n + 56) 20 eI eL r kd ln (fun _ _ => 0) (xR o k) := by
  refine h.sub ⟨by decide, by rcases hn with e | e | ⟨j, hj, e⟩ <;> omega⟩ hs (by omega) fun d q1 q2 => ?_
  obtain ⟨e, rfl⟩ : ∃ e, d = n + e := ⟨d - n, by omega⟩
  have he : e < 56 := by omega
  have h1 := hc e he
  rw [Nat.add_assoc] at h1
  exact h1.cg (isS_kd hn he).1 (isS_kd hn he).2 (fun _ => rfl) (fun i => xR_st hn he)
/-- the terrace that nobody told -/
def T0X (M : MM) (o : Nat) : Prop := LsX M (o + 2) (o + 3) 0 ∧ mN M (o + 3) = 4 ∧ (∀ i, mR M (o + 3) i = none) ∧ mK M (o + 1) = 21 ∧ (∀ i, mI M (o + 1) i = 0) ∧ ∀ i, mR M (o + 1) i = if i = 3 then some (o + 2) else none
def xE (i : Nat) : Int32 := if i = 4 then -1 else 0
def xF (i : Nat) : Int64 := if i = 19 then lI 1 else 0

def xO (o i : Nat) : Option Nat := if i = 17 then some (o + 395) else if i = 16 then some (o + 384) else if i = 14 then some (o + 383) else if i = 13 then some (o + 382) else if i = 12 then some (o + 381) else if i = 11 then some (o + 124) else if i = 10 then some (o + 68) else if i = 9 then some (o + 12) else if i = 8 then some (o + 11) else if i = 7 then some (o + 9) else if i = 6 then some (o + 7) else if i = 5 then some (o + 5) else if i = 1 then some (o + 4) else if i = 0 then some (o + 1) else none
def xO1 (o i : Nat) : Option Nat := if i = 21 then some (o + 1516) else if i = 17 then some (o + 395) else if i = 16 then some (o + 384) else if i = 14 then some (o + 383) else if i = 13 then some (o + 382) else if i = 12 then some (o + 381) else if i = 11 then some (o + 124) else if i = 10 then some (o + 68) else if i = 9 then some (o + 12) else if i = 8 then some (o + 11) else if i = 7 then some (o + 9) else if i = 6 then some (o + 7) else if i = 5 then some (o + 5) else if i = 1 then some (o + 4) else if i = 0 then some (o + 1) else none
/-- a whole object anew -/
def XNW (M0 : MM) (o : Nat) (M' : MM) : Prop := ∃ M2, T0X M2 o ∧ (∀ c, c < o → Sm M0 M2 c) ∧ BLD M2 M' o 4 1517 20 xE xF (xO1 o) kd ln (fun _ _ => 0) (xR o 20)
theorem xR_395 {o : Nat} (k i : Nat) : xR o (k + 1) 395 i = if i = k then some (o + (396 + 56 * k)) else xR o k 395 i := by
  show (if i < k + 1 then some (o + (396 + 56 * i)) else none) = if i = k then some (o + (396 + 56 * k)) else (if i < k then some (o + (396 + 56 * i)) else none)
  by_cases e : i = k
  · subst e; rw [if_pos rfl, if_pos (by omega)]
  · rw [if_neg e]
    by_cases e2 : i < k
    · rw [if_pos e2, if_pos (by omega)]
    · rw [if_neg e2, if_neg (by omega)]
section X100
variable {g : GC} {M : MM} {o : Nat}
theorem x0_loop {M0 M2 : MM} (hg : GX g) (hO : GO g) (hb : gb g ≤ o) (hT : T0X M2 o) (hs : ∀ c, c < o → Sm M0 M2 c) : ∀ m k M, k + m = 20 → BLD M2 M o 4 (396 + 56 * k) 20 xE (fun _ => 0) (xO o) kd ln (fun _ _ => 0) (xR o k) → Bd g yX0_init cX0_init 2 none [] 8 (56 * m + 1) (283 * m + 83) M 155 [some (.ref o), some (.int (nI k))] [] (fun v M' => v = none ∧ XNW M0 o M') noX := by
  intro m
  induction m with
  | zero =>
    intro k M hk B
    have e : k = 20 := by omega
    subst e
    refine r_ild1 (pc := 155) dX0_init_155 ?_
    refine r_bipush (v := nI 20) (pc := 156) dX0_init_156 (by decide) ?_
    first | refine r_icmp_geN (pc := 158) (tgt := 181) dX0_init_158 (by decide) (by omega) (by omega) (fun h158 => ?_) (fun h158 => ?_) | refine r_icmp_ge (pc := 158) (tgt := 181) dX0_init_158 (by decide) (fun h158 => ?_) (fun h158 => ?_)
    · skip
      refine r_ald0 (pc := 181) dX0_init_181 ?_
      refine r_lconst (v := lI 1) (pc := 182) dX0_init_182 rfl ?_
      refine r_putL (pc := 183) dX0_init_183 fl_X0_97 fw_X0_19 rfl rfl B.2.2.1.1 hb ?_
      have B1 := B.l0 (by decide) 19 (lI 1)
      clear B
      generalize sL M o 19 (lI 1) = M3 at *
      refine r_ald0 (pc := 186) dX0_init_186 ?_
      refine r_bipush (v := nI 83) (pc := 187) dX0_init_187 (by decide) ?_
      refine r_newa (pc := 189) (t := 3) (n := 83) (kc' := 0) (ks' := 0) dX0_init_189 rfl ⟨by decide, by decide⟩ q334 (by omega) (by omega) (by omega) ?_
      have B2 := B1.nw (t := 3) (m := 83) ⟨by decide, by decide⟩ rfl rfl (fun _ => rfl) (fun _ => rfl)
      rw [B1.1]
      generalize nw M3 3 83 = M4 at *
      refine r_putFQ (pc := 191) (x := some (o + (396 + 56 * 20))) dX0_init_191 fl_X0_101 ff_X0_21 rfl rfl rfl B2.2.2.1.1 hb ?_
      refine r_vret (pc := 194) dX0_init_194 ?_
      exact ⟨rfl, M2, hT, hs, B2.r0 (by decide) 21 (some (o + (396 + 56 * 20)))⟩
    · skip
      exact absurd h158 (by omega)
  | succ m ih =>
    intro k M hk B
    have hS : isS (396 + 56 * k) := Or.inr (Or.inr ⟨k, by omega, rfl⟩)
    refine r_ild1 (pc := 155) dX0_init_155 ?_
    refine r_bipush (v := nI 20) (pc := 156) dX0_init_156 (by decide) ?_
    first | refine r_icmp_geN (pc := 158) (tgt := 181) dX0_init_158 (by decide) (by omega) (by omega) (fun h158 => ?_) (fun h158 => ?_) | refine r_icmp_ge (pc := 158) (tgt := 181) dX0_init_158 (by decide) (fun h158 => ?_) (fun h158 => ?_)
    · skip
      exact absurd h158 (by omega)
    · skip
      refine r_ald0 (pc := 161) dX0_init_161 ?_
      refine r_getR (pc := 162) dX0_init_162 fl_X0_93 B.2.2.1.1 (B.2.2.1.2.2.2.2 17) ?_
      refine r_ild1 (pc := 165) dX0_init_165 ?_
      refine r_new (pc := 166) (ci := 5) (kc' := 56 * m + 56) (ks' := 283 * m + 355) dX0_init_166 q374 q375 q156 (by decide) (by omega) (by omega) ?_
      have c1 : ZC (nw M (20 + 5) 0) (o + (396 + 56 * k)) 25 0 (fun _ => 0) (fun _ => none) := by rw [← B.1]; exact ZC.nw
      have c2 : ∀ c, c < o + (396 + 56 * k) → Sm M (nw M (20 + 5) 0) c := fun c hc => Sm.nw (by rw [B.1]; omega)
      have c3 : mZ (nw M (20 + 5) 0) = o + (396 + 56 * k) + 1 := by rw [mZ_nw, B.1]
      rw [B.1]
      generalize nw M (20 + 5) 0 = M3 at *
      refine r_dup (pc := 169) dX0_init_169 rfl ?_
      refine r_ald0 (pc := 170) dX0_init_170 ?_
      refine r_cINm (pc := 171) (kc' := 56 * m + 1) (ks' := 283 * m + 83) dX0_init_171 (cin_X0_68 hg) (ct_X5_init (o := o) hO (by omega) c3 c1) rfl rfl (Nat.le_of_ble_eq_true rfl) (by decide) (by omega) (by omega) ?_
      rintro _ M4 ⟨rfl, e1, e2, e3⟩
      have B1 := B.state hS e1 (fun c hc => (c2 c hc).trans (e2 c hc)) e3
      have k1 := B1.2.2.2 395 (by decide) (by omega)
      refine r_aast8 (pc := 174) dX0_init_174 k1.1 (e3 0 (by decide)).1 (by rw [k1.2.1]; exact (show k < 20 by omega)) (by omega) (by omega) ?_
      have B2 := B1.seat (R' := xR o (k + 1)) (d0 := 395) (j := k) (x := some (o + (396 + 56 * k))) (by decide) (by decide) (xR_395 k) (fun d hd i => xR_k hd)
      generalize sR M4 (o + 395) k (some (o + (396 + 56 * k))) = M5 at *
      first | refine r_iinc1N (j := 1) (pc := 175) dX0_init_175 rfl ?_ | refine r_iinc1 (pc := 175) dX0_init_175 ?_
      refine r_goto (pc := 178) (tgt := 155) dX0_init_178 (by decide) ?_
      exact ih (k + 1) M5 (by omega) (by rw [show 396 + 56 * (k + 1) = 396 + 56 * k + 56 by omega]; exact B2)

theorem ct_X0_init (hg : GX g) (hO : GO g) (hU : UNST g) (hV : SUPS g) (hb : gb g ≤ o) (hz : mZ M = o + 1) (hF : ZC M o 20 0 (fun _ => 0) (fun _ => none)) : Ct g yX0_init cX0_init 2 none 8 (1516) (10661) [.ref o] M (fun v M' => v = none ∧ XNW M o M') noX := by
  refine Ct.of (by decide) (Nat.le_of_ble_eq_true rfl) rfl ?_
  refine r_ald0 (pc := 0) dX0_init_0 ?_
  refine r_objInit (pc := 1) dX0_init_1 q188 q189 q190 (by decide) (Nat.le_of_ble_eq_true rfl) ?_
  refine r_ald0 (pc := 4) dX0_init_4 ?_
  refine r_new (pc := 5) (ci := 1) (kc' := 1515) (ks' := 10654) dX0_init_5 q191 q192 q146 (by decide) (by omega) (by omega) ?_
  have c1 : ZC (nw M (20 + 1) 0) (o + 1) 21 0 (fun _ => 0) (fun _ => none) := by rw [← hz]; exact ZC.nw
  have c2 : ∀ c, c < o + 1 → Sm M (nw M (20 + 1) 0) c := fun c hc => Sm.nw (by omega)
  have c3 : mZ (nw M (20 + 1) 0) = o + 2 := by rw [mZ_nw, hz]
  rw [hz]
  generalize nw M (20 + 1) 0 = M1 at *
  refine r_dup (pc := 8) dX0_init_8 rfl ?_
  refine r_cINm (pc := 9) (kc' := 1513) (ks' := 10647) dX0_init_9 (cin_X0_30 hg) (ct_X1_init hO (by omega) (by omega) c1.1) rfl rfl (Nat.le_of_ble_eq_true rfl) (by decide) (by omega) (by omega) ?_
  rintro _ M2 ⟨rfl, e1, e2, e3, e4, e5, e6, e7, e8, e9⟩
  rw [c3] at e1 e2 e3 e4 e8
  have hT : T0X M2 o := ⟨e1, e2, e3, e7.trans c1.1, fun i => (e6 i).trans (c1.2.2.1 i), fun i => by
    by_cases e : i = 3
    · rw [if_pos e, e]; exact e4
    · rw [if_neg e, e5 i e]; exact c1.2.2.2.2 i⟩
  have hs : ∀ c, c < o → Sm M M2 c := fun c hc => (c2 c (by omega)).trans (e9.2 c (by omega) (show ¬ c = o + 1 by omega))
  have B : BLD M2 M2 o 4 4 20 (fun _ => 0) (fun _ => 0) (fun _ => none) kd ln (fun _ _ => 0) (xR o 0) := ⟨e8, fun _ _ _ => Sm.rf, hF.sm ((c2 o (by omega)).trans (e9.2 o (by omega) (show ¬ o = o + 1 by omega))), fun d q1 q2 => absurd q1 (by omega)⟩
  clear e1 e2 e3 e4 e5 e6 e7 e8 e9 c1 c2 c3 hz hF
  refine r_putQ (pc := 12) (x := some (o + 1)) dX0_init_12 fl_X0_31 fw_X0_0 rfl rfl B.2.2.1.1 hb ?_
  have B1 := B.r0 (by decide) 0 (some (o + 1))
  generalize sR M2 o 0 (some (o + 1)) = M3 at *
  clear B
  refine r_ald0 (pc := 15) dX0_init_15 ?_
  refine r_sipush (v := nI 1600) (pc := 16) dX0_init_16 (by decide) ?_
  refine r_newa (pc := 19) (t := 3) (n := 1600) (kc' := 1512) (ks' := 9047) dX0_init_19 rfl ⟨by decide, by decide⟩ q334 (by omega) (by omega) (by omega) ?_
  have C4 := B1.nw (t := 3) (m := 1600) ⟨by decide, by decide⟩ rfl rfl (fun _ => rfl) (fun _ => rfl)
  rw [B1.1]
  generalize nw M3 3 1600 = N4 at *
  refine r_putFQ (pc := 21) (x := some (o + 4)) dX0_init_21 fl_X0_35 ff_X0_1 rfl rfl rfl C4.2.2.1.1 hb ?_
  have B4 := C4.r0 (by decide) 1 (some (o + 4))
  generalize sR N4 o 1 (some (o + 4)) = M4 at *
  clear C4 B1
  refine r_ald0 (pc := 24) dX0_init_24 ?_
  refine r_iconst (v := -1) (pc := 25) dX0_init_25 (by decide) ?_
  refine r_putI (pc := 26) dX0_init_26 fl_X0_39 fw_X0_4 rfl rfl B4.2.2.1.1 hb ?_
  have B5 := B4.i0 (by decide) 4 (-1)
  generalize sI M4 o 4 (-1) = M5 at *
  clear B4
  refine r_ald0 (pc := 29) dX0_init_29 ?_
  refine r_new (pc := 30) (ci := 2) (kc' := 1511) (ks' := 9039) dX0_init_30 q256 q257 q150 (by decide) (by omega) (by omega) ?_
  have c1 : ZC (nw M5 (20 + 2) 0) (o + 5) 22 0 (fun _ => 0) (fun _ => none) := by rw [← B5.1]; exact ZC.nw
  have c2 : ∀ c, c < o + 5 → Sm M5 (nw M5 (20 + 2) 0) c := fun c hc => Sm.nw (by rw [B5.1]; omega)
  have c3 : mZ (nw M5 (20 + 2) 0) = o + 5 + 1 := by rw [mZ_nw, B5.1]
  rw [B5.1]
  generalize nw M5 (20 + 2) 0 = P6 at *
  refine r_dup (pc := 33) dX0_init_33 rfl ?_
  refine r_ald0 (pc := 34) dX0_init_34 ?_
  refine r_cINm (pc := 35) (kc' := 1510) (ks' := 9031) dX0_init_35 (cin_X0_45 hg) (ct_X2_init (o := o) hU hV (by omega) c3 c1) rfl rfl (Nat.le_of_ble_eq_true rfl) (by decide) (by omega) (by omega) ?_
  rintro _ N6 ⟨rfl, e1, e2, e3⟩
  have C6 := (B5).sub (n' := 7) ⟨by decide, by decide⟩ (fun c hc => (c2 c hc).trans (e2 c hc)) e1 (fun d q1 q2 => by rcases (show d = 5 ∨ d = 6 by omega) with e | e <;> subst e; exact e3.1.cg rfl rfl (fun _ => rfl) (fun _ => rfl); exact e3.2.cg rfl rfl (fun _ => rfl) (fun _ => rfl))
  clear e1 e2 e3 c1 c2 c3
  refine r_putFQ (pc := 38) (x := some (o + 5)) dX0_init_38 fl_X0_48 ff_X0_5 rfl rfl rfl C6.2.2.1.1 hb ?_
  have B6 := C6.r0 (by decide) 5 (some (o + 5))
  generalize sR N6 o 5 (some (o + 5)) = M6 at *
  clear C6 B5
  refine r_ald0 (pc := 41) dX0_init_41 ?_
  refine r_new (pc := 42) (ci := 4) (kc' := 1509) (ks' := 9030) dX0_init_42 q360 q361 q155 (by decide) (by omega) (by omega) ?_
  have c1 : ZC (nw M6 (20 + 4) 0) (o + 7) 24 0 (fun _ => 0) (fun _ => none) := by rw [← B6.1]; exact ZC.nw
  have c2 : ∀ c, c < o + 7 → Sm M6 (nw M6 (20 + 4) 0) c := fun c hc => Sm.nw (by rw [B6.1]; omega)
  have c3 : mZ (nw M6 (20 + 4) 0) = o + 7 + 1 := by rw [mZ_nw, B6.1]
  rw [B6.1]
  generalize nw M6 (20 + 4) 0 = P7 at *
  refine r_dup (pc := 45) dX0_init_45 rfl ?_
  refine r_cINm (pc := 46) (kc' := 1508) (ks' := 9019) dX0_init_46 (cin_X0_54 hg) (ct_X4_init (by omega) c3 c1) rfl rfl (Nat.le_of_ble_eq_true rfl) (by decide) (by omega) (by omega) ?_
  rintro _ N7 ⟨rfl, e1, e2, e3⟩
  have C7 := (B6).sub (n' := 9) ⟨by decide, by decide⟩ (fun c hc => (c2 c hc).trans (e2 c hc)) e1 (fun d q1 q2 => by rcases (show d = 7 ∨ d = 8 by omega) with e | e <;> subst e; exact e3.1.cg rfl rfl (fun _ => rfl) (fun _ => rfl); exact e3.2.cg rfl rfl (fun _ => rfl) (fun _ => rfl))
  clear e1 e2 e3 c1 c2 c3
  refine r_putFQ (pc := 49) (x := some (o + 7)) dX0_init_49 fl_X0_55 ff_X0_6 rfl rfl rfl C7.2.2.1.1 hb ?_
  have B7 := C7.r0 (by decide) 6 (some (o + 7))
  generalize sR N7 o 6 (some (o + 7)) = M7 at *
  clear C7 B6
  refine r_ald0 (pc := 52) dX0_init_52 ?_
  refine r_new (pc := 53) (ci := 4) (kc' := 1507) (ks' := 9018) dX0_init_53 q360 q361 q155 (by decide) (by omega) (by omega) ?_
  have c1 : ZC (nw M7 (20 + 4) 0) (o + 9) 24 0 (fun _ => 0) (fun _ => none) := by rw [← B7.1]; exact ZC.nw
  have c2 : ∀ c, c < o + 9 → Sm M7 (nw M7 (20 + 4) 0) c := fun c hc => Sm.nw (by rw [B7.1]; omega)
  have c3 : mZ (nw M7 (20 + 4) 0) = o + 9 + 1 := by rw [mZ_nw, B7.1]
  rw [B7.1]
  generalize nw M7 (20 + 4) 0 = P8 at *
  refine r_dup (pc := 56) dX0_init_56 rfl ?_
  refine r_cINm (pc := 57) (kc' := 1506) (ks' := 9007) dX0_init_57 (cin_X0_54 hg) (ct_X4_init (by omega) c3 c1) rfl rfl (Nat.le_of_ble_eq_true rfl) (by decide) (by omega) (by omega) ?_
  rintro _ N8 ⟨rfl, e1, e2, e3⟩
  have C8 := (B7).sub (n' := 11) ⟨by decide, by decide⟩ (fun c hc => (c2 c hc).trans (e2 c hc)) e1 (fun d q1 q2 => by rcases (show d = 9 ∨ d = 10 by omega) with e | e <;> subst e; exact e3.1.cg rfl rfl (fun _ => rfl) (fun _ => rfl); exact e3.2.cg rfl rfl (fun _ => rfl) (fun _ => rfl))
  clear e1 e2 e3 c1 c2 c3
  refine r_putFQ (pc := 60) (x := some (o + 9)) dX0_init_60 fl_X0_59 ff_X0_7 rfl rfl rfl C8.2.2.1.1 hb ?_
  have B8 := C8.r0 (by decide) 7 (some (o + 9))
  generalize sR N8 o 7 (some (o + 9)) = M8 at *
  clear C8 B7
  refine r_ald0 (pc := 63) dX0_init_63 ?_
  refine r_bipush (v := nI 6) (pc := 64) dX0_init_64 (by decide) ?_
  refine r_newa (pc := 66) (t := 1) (n := 6) (kc' := 1505) (ks' := 9001) dX0_init_66 rfl ⟨by decide, by decide⟩ q425 (by omega) (by omega) (by omega) ?_
  have C9 := B8.nw (t := 1) (m := 6) ⟨by decide, by decide⟩ rfl rfl (fun _ => rfl) (fun _ => rfl)
  rw [B8.1]
  generalize nw M8 1 6 = N9 at *
  refine r_putFQ (pc := 68) (x := some (o + 11)) dX0_init_68 fl_X0_62 ff_X0_8 rfl rfl rfl C9.2.2.1.1 hb ?_
  have B9 := C9.r0 (by decide) 8 (some (o + 11))
  generalize sR N9 o 8 (some (o + 11)) = M9 at *
  clear C9 B8
  refine r_ald0 (pc := 71) dX0_init_71 ?_
  refine r_new (pc := 72) (ci := 5) (kc' := 1504) (ks' := 8990) dX0_init_72 q374 q375 q156 (by decide) (by omega) (by omega) ?_
  have c1 : ZC (nw M9 (20 + 5) 0) (o + 12) 25 0 (fun _ => 0) (fun _ => none) := by rw [← B9.1]; exact ZC.nw
  have c2 : ∀ c, c < o + 12 → Sm M9 (nw M9 (20 + 5) 0) c := fun c hc => Sm.nw (by rw [B9.1]; omega)
  have c3 : mZ (nw M9 (20 + 5) 0) = o + 12 + 1 := by rw [mZ_nw, B9.1]
  rw [B9.1]
  generalize nw M9 (20 + 5) 0 = P10 at *
  refine r_dup (pc := 75) dX0_init_75 rfl ?_
  refine r_ald0 (pc := 76) dX0_init_76 ?_
  refine r_cINm (pc := 77) (kc' := 1449) (ks' := 8718) dX0_init_77 (cin_X0_68 hg) (ct_X5_init (o := o) hO (by omega) c3 c1) rfl rfl (Nat.le_of_ble_eq_true rfl) (by decide) (by omega) (by omega) ?_
  rintro _ N10 ⟨rfl, e1, e2, e3⟩
  have C10 := (B9).state (Or.inl rfl) e1 (fun c hc => (c2 c hc).trans (e2 c hc)) e3
  clear e1 e2 e3 c1 c2 c3
  refine r_putFQ (pc := 80) (x := some (o + 12)) dX0_init_80 fl_X0_69 ff_X0_9 rfl rfl rfl C10.2.2.1.1 hb ?_
  have B10 := C10.r0 (by decide) 9 (some (o + 12))
  generalize sR N10 o 9 (some (o + 12)) = M10 at *
  clear C10 B9
  refine r_ald0 (pc := 83) dX0_init_83 ?_
  refine r_new (pc := 84) (ci := 5) (kc' := 1448) (ks' := 8707) dX0_init_84 q374 q375 q156 (by decide) (by omega) (by omega) ?_
  have c1 : ZC (nw M10 (20 + 5) 0) (o + 68) 25 0 (fun _ => 0) (fun _ => none) := by rw [← B10.1]; exact ZC.nw
  have c2 : ∀ c, c < o + 68 → Sm M10 (nw M10 (20 + 5) 0) c := fun c hc => Sm.nw (by rw [B10.1]; omega)
  have c3 : mZ (nw M10 (20 + 5) 0) = o + 68 + 1 := by rw [mZ_nw, B10.1]
  rw [B10.1]
  generalize nw M10 (20 + 5) 0 = P11 at *
  refine r_dup (pc := 87) dX0_init_87 rfl ?_
  refine r_ald0 (pc := 88) dX0_init_88 ?_
  refine r_cINm (pc := 89) (kc' := 1393) (ks' := 8435) dX0_init_89 (cin_X0_68 hg) (ct_X5_init (o := o) hO (by omega) c3 c1) rfl rfl (Nat.le_of_ble_eq_true rfl) (by decide) (by omega) (by omega) ?_
  rintro _ N11 ⟨rfl, e1, e2, e3⟩
  have C11 := (B10).state (Or.inr (Or.inl rfl)) e1 (fun c hc => (c2 c hc).trans (e2 c hc)) e3
  clear e1 e2 e3 c1 c2 c3
  refine r_putFQ (pc := 92) (x := some (o + 68)) dX0_init_92 fl_X0_73 ff_X0_10 rfl rfl rfl C11.2.2.1.1 hb ?_
  have B11 := C11.r0 (by decide) 10 (some (o + 68))
  generalize sR N11 o 10 (some (o + 68)) = M11 at *
  clear C11 B10
  refine r_ald0 (pc := 95) dX0_init_95 ?_
  refine r_sipush (v := nI 256) (pc := 96) dX0_init_96 (by decide) ?_
  refine r_bipush (v := nI 8) (pc := 99) dX0_init_99 (by decide) ?_
  refine r_grid (pc := 101) (n := 256) (k := 8) (kc' := 1136) (ks' := 6131) hO dX0_init_101 q427 (by omega) (by omega) (by omega) (by omega) ?_
  have C12 := B11.grid (m := 256) (k := 8) ⟨by decide, by decide⟩ rfl rfl (fun _ => rfl) (fun _ => rfl) (fun d q1 q2 => ⟨kd_lo (by omega), ln_g8 (by omega), fun _ => rfl, fun _ => xR_lo (by omega)⟩)
  rw [B11.1]
  generalize mw M11 256 8 = N12 at *
  refine r_putFQ (pc := 105) (x := some (o + 124)) dX0_init_105 fl_X0_78 ff_X0_11 rfl rfl rfl C12.2.2.1.1 hb ?_
  have B12 := C12.r0 (by decide) 11 (some (o + 124))
  generalize sR N12 o 11 (some (o + 124)) = M12 at *
  clear C12 B11
  refine r_ald0 (pc := 108) dX0_init_108 ?_
  refine r_bipush (v := nI 16) (pc := 109) dX0_init_109 (by decide) ?_
  refine r_newa (pc := 111) (t := 1) (n := 16) (kc' := 1135) (ks' := 6115) dX0_init_111 rfl ⟨by decide, by decide⟩ q425 (by omega) (by omega) (by omega) ?_
  have C13 := B12.nw (t := 1) (m := 16) ⟨by decide, by decide⟩ rfl rfl (fun _ => rfl) (fun _ => rfl)
  rw [B12.1]
  generalize nw M12 1 16 = N13 at *
  refine r_putFQ (pc := 113) (x := some (o + 381)) dX0_init_113 fl_X0_81 ff_X0_12 rfl rfl rfl C13.2.2.1.1 hb ?_
  have B13 := C13.r0 (by decide) 12 (some (o + 381))
  generalize sR N13 o 12 (some (o + 381)) = M13 at *
  clear C13 B12
  refine r_ald0 (pc := 116) dX0_init_116 ?_
  refine r_bipush (v := nI 16) (pc := 117) dX0_init_117 (by decide) ?_
  refine r_newa (pc := 119) (t := 1) (n := 16) (kc' := 1134) (ks' := 6099) dX0_init_119 rfl ⟨by decide, by decide⟩ q425 (by omega) (by omega) (by omega) ?_
  have C14 := B13.nw (t := 1) (m := 16) ⟨by decide, by decide⟩ rfl rfl (fun _ => rfl) (fun _ => rfl)
  rw [B13.1]
  generalize nw M13 1 16 = N14 at *
  refine r_putFQ (pc := 121) (x := some (o + 382)) dX0_init_121 fl_X0_84 ff_X0_13 rfl rfl rfl C14.2.2.1.1 hb ?_
  have B14 := C14.r0 (by decide) 13 (some (o + 382))
  generalize sR N14 o 13 (some (o + 382)) = M14 at *
  clear C14 B13
  refine r_ald0 (pc := 124) dX0_init_124 ?_
  refine r_bipush (v := nI 16) (pc := 125) dX0_init_125 (by decide) ?_
  refine r_newa (pc := 127) (t := 1) (n := 16) (kc' := 1133) (ks' := 6083) dX0_init_127 rfl ⟨by decide, by decide⟩ q425 (by omega) (by omega) (by omega) ?_
  have C15 := B14.nw (t := 1) (m := 16) ⟨by decide, by decide⟩ rfl rfl (fun _ => rfl) (fun _ => rfl)
  rw [B14.1]
  generalize nw M14 1 16 = N15 at *
  refine r_putFQ (pc := 129) (x := some (o + 383)) dX0_init_129 fl_X0_87 ff_X0_14 rfl rfl rfl C15.2.2.1.1 hb ?_
  have B15 := C15.r0 (by decide) 14 (some (o + 383))
  generalize sR N15 o 14 (some (o + 383)) = M15 at *
  clear C15 B14
  refine r_ald0 (pc := 132) dX0_init_132 ?_
  refine r_bipush (v := nI 10) (pc := 133) dX0_init_133 (by decide) ?_
  refine r_bipush (v := nI 31) (pc := 135) dX0_init_135 (by decide) ?_
  refine r_grid (pc := 137) (n := 10) (k := 31) (kc' := 1122) (ks' := 5763) hO dX0_init_137 q427 (by omega) (by omega) (by omega) (by omega) ?_
  have C16 := B15.grid (m := 10) (k := 31) ⟨by decide, by decide⟩ rfl rfl (fun _ => rfl) (fun _ => rfl) (fun d q1 q2 => ⟨kd_lo (by omega), ln_31 (by omega), fun _ => rfl, fun _ => xR_lo (by omega)⟩)
  rw [B15.1]
  generalize mw M15 10 31 = N16 at *
  refine r_putFQ (pc := 141) (x := some (o + 384)) dX0_init_141 fl_X0_90 ff_X0_16 rfl rfl rfl C16.2.2.1.1 hb ?_
  have B16 := C16.r0 (by decide) 16 (some (o + 384))
  generalize sR N16 o 16 (some (o + 384)) = M16 at *
  clear C16 B15
  refine r_ald0 (pc := 144) dX0_init_144 ?_
  refine r_bipush (v := nI 20) (pc := 145) dX0_init_145 (by decide) ?_
  refine r_anew (pc := 147) (t := 8) (n := 20) (kc' := 1121) (ks' := 5743) (C := "Retouched$State") hO (Or.inr rfl) rfl q428 dX0_init_147 q374 (by omega) (by omega) (by omega) ?_
  have C17 := B16.nw (t := 8) (m := 20) ⟨by decide, by decide⟩ rfl rfl (fun _ => rfl) (fun _ => rfl)
  rw [B16.1]
  generalize nw M16 8 20 = N17 at *
  refine r_putFQ (pc := 150) (x := some (o + 395)) dX0_init_150 fl_X0_93 ff_X0_17 rfl rfl rfl C17.2.2.1.1 hb ?_
  have B17 := C17.r0 (by decide) 17 (some (o + 395))
  generalize sR N17 o 17 (some (o + 395)) = M17 at *
  clear C17 B16
  refine r_iconst (v := nI 0) (pc := 153) dX0_init_153 (by decide) ?_
  refine r_ist1 (pc := 154) dX0_init_154 ?_
  exact x0_loop hg hO hb hT hs 20 0 M17 rfl B17
end X100
