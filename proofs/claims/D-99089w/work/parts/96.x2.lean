set_option maxRecDepth 100000
/-! THE OTHER SIDE: a state tells a curtain (its kept rows are turned round) -/
def fxc (c j : Nat) : Prop := (c = 0 ∧ j ≠ 0) ∨ (c = 5 ∧ (j = 0 ∨ j = 7)) ∨ c = 7 ∨ c = 9 ∨ c = 124 ∨ c = 384 ∨ ∃ b, isS b ∧ (c = b ∨ c = b + 6)
theorem FxX.of {r r' : Nat → Nat → Option Nat} {o : Nat} (h : FxX r o) (hc : ∀ c j, fxc c j → r' c j = r c j) : FxX r' o := by
  obtain ⟨⟨a1, a2, a3, a4, a5, a6, a7, a8, a9, a10, a11, a12, a13, a14⟩, ⟨b1, b2, b3, b4⟩, c1, c2, c3⟩ := h
  have z : ∀ j, j ≠ 0 → r' 0 j = r 0 j := fun j hj => hc 0 j (Or.inl ⟨rfl, hj⟩)
  have s1 : ∀ b j, isS b → r' b j = r b j := fun b j hb => hc b j (Or.inr (Or.inr (Or.inr (Or.inr (Or.inr (Or.inr ⟨b, hb, Or.inl rfl⟩))))))
  have s2 : ∀ b j, isS b → r' (b + 6) j = r (b + 6) j := fun b j hb => hc (b + 6) j (Or.inr (Or.inr (Or.inr (Or.inr (Or.inr (Or.inr ⟨b, hb, Or.inr rfl⟩))))))
  refine ⟨⟨?_, ?_, ?_, ?_, ?_, ?_, ?_, ?_, ?_, ?_, ?_, ?_, ?_, ?_⟩, ⟨?_, ?_, ?_, ?_⟩, fun b hb => ?_, fun j hj => ?_, fun j hj => ?_⟩
  · rw [z _ (by decide)]; exact a1
  · rw [z _ (by decide)]; exact a2
  · rw [z _ (by decide)]; exact a3
  · rw [z _ (by decide)]; exact a4
  · rw [z _ (by decide)]; exact a5
  · rw [z _ (by decide)]; exact a6
  · rw [z _ (by decide)]; exact a7
  · rw [z _ (by decide)]; exact a8
  · rw [z _ (by decide)]; exact a9
  · rw [z _ (by decide)]; exact a10
  · rw [z _ (by decide)]; exact a11
  · rw [z _ (by decide)]; exact a12
  · rw [z _ (by decide)]; exact a13
  · rw [z _ (by decide)]; exact a14
  · rw [hc 5 0 (Or.inr (Or.inl ⟨rfl, Or.inl rfl⟩))]; exact b1
  · rw [hc 5 7 (Or.inr (Or.inl ⟨rfl, Or.inr rfl⟩))]; exact b2
  · rw [hc 7 0 (Or.inr (Or.inr (Or.inl rfl)))]; exact b3
  · rw [hc 9 0 (Or.inr (Or.inr (Or.inr (Or.inl rfl))))]; exact b4
  · obtain ⟨d1, d2, d3, d4, d5, d6, d7, d8, d9⟩ := c1 b hb
    refine ⟨?_, ?_, ?_, ?_, ?_, ?_, ?_, ?_, fun j hj => ?_⟩
    · rw [s1 _ _ hb]; exact d1
    · rw [s1 _ _ hb]; exact d2
    · rw [s1 _ _ hb]; exact d3
    · rw [s1 _ _ hb]; exact d4
    · rw [s1 _ _ hb]; exact d5
    · rw [s1 _ _ hb]; exact d6
    · rw [s1 _ _ hb]; exact d7
    · rw [s1 _ _ hb]; exact d8
    · rw [s2 _ _ hb]; exact d9 j hj
  · rw [hc 124 j (Or.inr (Or.inr (Or.inr (Or.inr (Or.inl rfl)))))]; exact c2 j hj
  · rw [hc 384 j (Or.inr (Or.inr (Or.inr (Or.inr (Or.inr (Or.inl rfl))))))]; exact c3 j hj
theorem fxc_row {b c j : Nat} (hb : isS b) (h : fxc c j) : c ≠ b + 15 := by
  intro e
  have hb0 : ∀ x, isS x → x = 12 ∨ x = 68 ∨ ∃ k, k < 20 ∧ x = 396 + 56 * k := fun x h => h
  rcases h with h | h | h | h | h | h | ⟨b', hb', h⟩
  all_goals rcases hb0 b hb with q | q | ⟨k, hk, q⟩
  all_goals try omega
  all_goals rcases hb0 b' hb' with q' | q' | ⟨k', hk', q'⟩
  all_goals omega
theorem FxX.row {s : XS} {o b j : Nat} {v : Option Nat} (hb : isS b) (h : FxX (rX s) o) : FxX (rX (uR s (b + 15) j v)) o :=
  h.of (fun c i hc => by rw [rX_uR, if_neg (fun q => fxc_row hb hc q.1)])
section X2
variable {g : GC} {M : MM} {o b : Nat} {s : XS}
/-- a row is written behind the others -/
def tellX (s : XS) (b r n y p w : Nat) : XS := uI (uI (uI (uI s (b + (16 + r)) 0 (nI y)) (b + (16 + r)) 1 (nI p)) (b + (16 + r)) 2 (nI w)) b 2 (nI (n + 1))
theorem xtellsTail {n y p w : Nat} {x3 x4 : Option Value} {pm : Nat → Nat} (hS : ShX g M o) (hX : FxX (rX s) o) (hb : isS b) (hy : iX s b 0 = nI y) (hn : iX s b 2 = nI n) (hn40 : n < 40) (hpm : pmX (rX s) o b pm) :
    Bd g yX5_tells cX5_tells 5 none [] 0 0 0 (putX M o s) 66 [some (.ref (o + b)), some (.int (nI p)), some (.int (nI w)), x3, x4] [] (fun v M' => v = none ∧ M' = putX M o (tellX s b (pm n) n y p w)) noX := by
  obtain ⟨h1, h2⟩ := hpm.1 n hn40
  refine r_ald0 (pc := 66) dX5_tells_66 ?_
  refine x_getR (c := b) hS (st_ow hb) (st_kd hb) (pc := 67) dX5_tells_67 fl_X5_37 (fs_9 hX hb) ?_
  refine r_ald0 (pc := 70) dX5_tells_70 ?_
  refine x_getI (c := b) hS (st_ow hb) (st_kd hb) (pc := 71) dX5_tells_71 fl_X5_44 ?_
  rw [hn]
  refine x_aald (c := (b + 15)) (j := n) hS (st_ow15 hb) (st_kd15 hb) (by decide) (st_ln15 hb) (pc := 74) dX5_tells_74 (by omega) (by omega) h2 ?_
  refine r_iconst (v := nI 0) (pc := 75) dX5_tells_75 (by decide) ?_
  refine r_ald0 (pc := 76) dX5_tells_76 ?_
  refine x_getI (c := b) hS (st_ow hb) (st_kd hb) (pc := 77) dX5_tells_77 fl_X5_40 ?_
  rw [hy]
  refine x_iast (c := (b + (16 + pm n))) hS (rw_ow hb (by omega)) (rw_kd hb (by omega)) (rw_ln hb (by omega)) (pc := 80) dX5_tells_80 (by omega) (by omega) ?_
  refine r_ald0 (pc := 81) dX5_tells_81 ?_
  refine x_getR (c := b) hS (st_ow hb) (st_kd hb) (pc := 82) dX5_tells_82 fl_X5_37 (fs_9 hX hb) ?_
  refine r_ald0 (pc := 85) dX5_tells_85 ?_
  refine x_getI (c := b) hS (st_ow hb) (st_kd hb) (pc := 86) dX5_tells_86 fl_X5_44 ?_
  refine Bd.eqI ((iX_c (by omega)).trans hn) ?_
  refine x_aald (c := (b + 15)) (j := n) hS (st_ow15 hb) (st_kd15 hb) (by decide) (st_ln15 hb) (pc := 89) dX5_tells_89 (by omega) (by omega) h2 ?_
  refine r_iconst (v := nI 1) (pc := 90) dX5_tells_90 (by decide) ?_
  refine r_ild1 (pc := 91) dX5_tells_91 ?_
  refine x_iast (c := (b + (16 + pm n))) hS (rw_ow hb (by omega)) (rw_kd hb (by omega)) (rw_ln hb (by omega)) (pc := 92) dX5_tells_92 (by omega) (by omega) ?_
  refine r_ald0 (pc := 93) dX5_tells_93 ?_
  refine x_getR (c := b) hS (st_ow hb) (st_kd hb) (pc := 94) dX5_tells_94 fl_X5_37 (fs_9 hX hb) ?_
  refine r_ald0 (pc := 97) dX5_tells_97 ?_
  refine x_getI (c := b) hS (st_ow hb) (st_kd hb) (pc := 98) dX5_tells_98 fl_X5_44 ?_
  refine Bd.eqI ((iX_c (by omega)).trans ((iX_c (by omega)).trans hn)) ?_
  refine x_aald (c := (b + 15)) (j := n) hS (st_ow15 hb) (st_kd15 hb) (by decide) (st_ln15 hb) (pc := 101) dX5_tells_101 (by omega) (by omega) h2 ?_
  refine r_iconst (v := nI 2) (pc := 102) dX5_tells_102 (by decide) ?_
  refine r_ild2 (pc := 103) dX5_tells_103 ?_
  refine x_iast (c := (b + (16 + pm n))) hS (rw_ow hb (by omega)) (rw_kd hb (by omega)) (rw_ln hb (by omega)) (pc := 104) dX5_tells_104 (by omega) (by omega) ?_
  refine r_ald0 (pc := 105) dX5_tells_105 ?_
  refine r_dup (pc := 106) dX5_tells_106 rfl ?_
  refine x_getI (c := b) hS (st_ow hb) (st_kd hb) (pc := 107) dX5_tells_107 fl_X5_44 ?_
  refine Bd.eqI ((iX_c (by omega)).trans ((iX_c (by omega)).trans ((iX_c (by omega)).trans hn))) ?_
  refine r_iconst (v := nI 1) (pc := 110) dX5_tells_110 (by decide) ?_
  first | refine r_iaddN (pc := 111) dX5_tells_111 ?_ | refine r_iaddJ (pc := 111) dX5_tells_111 ?_ | refine r_iadd (pc := 111) dX5_tells_111 ?_
  refine x_putI (c := b) hS (st_ow hb) (st_kd hb) (pc := 112) dX5_tells_112 fl_X5_44 fw_X5_2 rfl rfl ?_
  refine r_vret (pc := 115) dX5_tells_115 ?_
  exact ⟨rfl, rfl⟩
/-- the rows of a state by a given turn -/
def RXp (s : XS) (o b : Nat) (pm : Nat → Nat) (L : List Ev) : Prop := pmX (rX s) o b pm ∧ iX s b 2 = nI L.length ∧ L.length ≤ 40 ∧ ∀ i a c e, L[i]? = some (a, c, e) → iX s (b + (16 + pm i)) 0 = nI a ∧ iX s (b + (16 + pm i)) 1 = nI c ∧ iX s (b + (16 + pm i)) 2 = nI e
theorem RXp.tell {L : List Ev} {pm : Nat → Nat} {y p w : Nat} (h : RXp s o b pm L) (hl : L.length < 40) : RXp (tellX s b (pm L.length) L.length y p w) o b pm (L ++ [(y, p, w)]) := by
  obtain ⟨h1, h2, h3, h4⟩ := h
  refine ⟨h1, ?_, by simp; omega, fun i a c e he => ?_⟩
  · unfold tellX
    rw [iX_s]; simp
  · unfold tellX
    by_cases hi : i < L.length
    · rw [List.getElem?_append_left hi] at he
      have hne : pm i ≠ pm L.length := fun q => absurd (h1.2 i L.length (by omega) hl q) (by omega)
      obtain ⟨e1, e2, e3⟩ := h4 i a c e he
      refine ⟨?_, ?_, ?_⟩
      · rw [iX_c (by omega), iX_c (by omega), iX_c (by omega), iX_c (by omega)]; exact e1
      · rw [iX_c (by omega), iX_c (by omega), iX_c (by omega), iX_c (by omega)]; exact e2
      · rw [iX_c (by omega), iX_c (by omega), iX_c (by omega), iX_c (by omega)]; exact e3
    · rw [List.getElem?_append_right (by omega)] at he
      have hz : i - L.length < 1 := (List.getElem?_eq_some_iff.mp he).1
      obtain rfl : i = L.length := by omega
      simp only [Nat.sub_self, List.getElem?_cons_zero, Option.some.injEq, Prod.mk.injEq] at he
      obtain ⟨rfl, rfl, rfl⟩ := he
      refine ⟨?_, ?_, ?_⟩
      · rw [iX_c (by omega), iX_j (by decide), iX_j (by decide), iX_s]
      · rw [iX_c (by omega), iX_j (by decide), iX_s]
      · rw [iX_c (by omega), iX_s]
/-- half turned: places below i - 1 hold the next ones -/
def RotX (s s' : XS) (b i : Nat) : Prop := iX s' = iX s ∧ lX s' = lX s ∧ (∀ c, c ≠ b + 15 → rX s' c = rX s c) ∧ (∀ j, j + 1 < i → rX s' (b + 15) j = rX s (b + 15) (j + 1)) ∧ ∀ j, i ≤ j + 1 → rX s' (b + 15) j = rX s (b + 15) j
theorem RotX.step {s' : XS} {i : Nat} (h : RotX s s' b i) (hi : 1 ≤ i) : RotX s (uR s' (b + 15) (i - 1) (rX s (b + 15) i)) b (i + 1) := by
  obtain ⟨h1, h2, h3, h4, h5⟩ := h
  refine ⟨h1, h2, fun c hc => ?_, fun j hj => ?_, fun j hj => ?_⟩
  · funext k; rw [rX_uR, if_neg (fun q => hc q.1), h3 c hc]
  · rw [rX_uR]
    by_cases e : j = i - 1
    · rw [if_pos ⟨rfl, e⟩, e, Nat.sub_add_cancel hi]
    · rw [if_neg (fun q => e q.2)]; exact h4 j (by omega)
  · rw [rX_uR, if_neg (fun q => absurd q.2 (by omega))]; exact h5 j (by omega)
theorem RotX.fx {s' : XS} {i : Nat} (hb : isS b) (h : RotX s s' b i) (hX : FxX (rX s) o) : FxX (rX s') o := hX.of (fun c j hc => by rw [h.2.2.1 c (fxc_row hb hc)])
theorem xtellsLoop {pm : Nat → Nat} {x1 x2 : Option Value} {v3 : Nat} {Q : Option Value → MM → Prop} (hO : GO g) (hS : ShX g M o) (hX : FxX (rX s) o) (hb : isS b) (hpm : pmX (rX s) o b pm)
    (K : ∀ s', RotX s s' b 40 → Bd g yX5_tells cX5_tells 5 none [] 0 0 0 (putX M o s') 48 [some (.ref (o + b)), x1, x2, some (.ref v3), some (.int (nI 40))] [] Q noX) : ∀ k i s', i + k = 40 → 1 ≤ i → RotX s s' b i →
    Bd g yX5_tells cX5_tells 5 none [] 0 0 0 (putX M o s') 19 [some (.ref (o + b)), x1, x2, some (.ref v3), some (.int (nI i))] [] Q noX := by
  intro k
  induction k with
  | zero =>
    intro i s' hi h1 hR
    obtain rfl : i = 40 := by omega
    have hX' := hR.fx hb hX
    refine r_ild4 (pc := 19) dX5_tells_19 ?_
    refine r_bipush (v := nI 40) (pc := 21) dX5_tells_21 (by decide) ?_
    first | refine r_icmp_geN (pc := 23) (tgt := 48) dX5_tells_23 (by decide) (by omega) (by omega) (fun h23 => ?_) (fun h23 => ?_) | refine r_icmp_ge (pc := 23) (tgt := 48) dX5_tells_23 (by decide) (fun h23 => ?_) (fun h23 => ?_)
    · skip
      exact K s' hR
    · skip
      exact absurd h23 (by omega)
  | succ k ih =>
    intro i s' hi h1 hR
    have hX' := hR.fx hb hX
    obtain ⟨p1, p2⟩ := hpm.1 i (by omega)
    refine r_ild4 (pc := 19) dX5_tells_19 ?_
    refine r_bipush (v := nI 40) (pc := 21) dX5_tells_21 (by decide) ?_
    first | refine r_icmp_geN (pc := 23) (tgt := 48) dX5_tells_23 (by decide) (by omega) (by omega) (fun h23 => ?_) (fun h23 => ?_) | refine r_icmp_ge (pc := 23) (tgt := 48) dX5_tells_23 (by decide) (fun h23 => ?_) (fun h23 => ?_)
    · skip
      exact absurd h23 (by omega)
    · skip
      refine r_ald0 (pc := 26) dX5_tells_26 ?_
      refine x_getR (c := b) hS (st_ow hb) (st_kd hb) (pc := 27) dX5_tells_27 fl_X5_37 (fs_9 hX' hb) ?_
      refine r_ild4 (pc := 30) dX5_tells_30 ?_
      refine r_iconst (v := nI 1) (pc := 32) dX5_tells_32 (by decide) ?_
      first | refine r_isubN (pc := 33) dX5_tells_33 (by omega) ?_ | refine r_isubM (pc := 33) dX5_tells_33 ?_ | refine r_isubJ (pc := 33) dX5_tells_33 ?_ | refine r_isub (pc := 33) dX5_tells_33 ?_
      refine r_ald0 (pc := 34) dX5_tells_34 ?_
      refine x_getR (c := b) hS (st_ow hb) (st_kd hb) (pc := 35) dX5_tells_35 fl_X5_37 (fs_9 hX' hb) ?_
      refine r_ild4 (pc := 38) dX5_tells_38 ?_
      refine x_aald (c := (b + 15)) (j := i) hS (st_ow15 hb) (st_kd15 hb) (by decide) (st_ln15 hb) (pc := 40) dX5_tells_40 (by omega) (by omega) ((hR.2.2.2.2 i (by omega)).trans p2) ?_
      refine x_aast7 (c := b + 15) (v := b + (16 + pm i)) hO hS (st_ow15 hb) (st_kd15 hb) (st_ln15 hb) (pc := 41) dX5_tells_41 (by omega) (by omega) (rw_ow hb (by omega)) (rw_kd hb (by omega)) ?_
      rw [← p2]
      first | refine r_iinc4N (j := 1) (pc := 42) dX5_tells_42 rfl ?_ | refine r_iinc4 (pc := 42) dX5_tells_42 ?_
      refine r_goto (pc := 45) (tgt := 19) dX5_tells_45 (by decide) ?_
      exact ih (i + 1) _ (by omega) (by omega) (hR.step h1)
theorem pmX.turn {pm : Nat → Nat} {s' : XS} (hpm : pmX (rX s) o b pm) (hR : RotX s s' b 40) : pmX (rX (uR s' (b + 15) 39 (rX s (b + 15) 0))) o b (fun j => pm ((j + 1) % 40)) := by
  refine ⟨fun j hj => ?_, fun i j hi hj e => ?_⟩
  · obtain ⟨p1, p2⟩ := hpm.1 ((j + 1) % 40) (by omega)
    refine ⟨p1, ?_⟩
    rw [rX_uR]
    by_cases e : j = 39
    · subst e; rw [if_pos ⟨rfl, rfl⟩]; exact p2
    · rw [if_neg (fun q => e q.2), hR.2.2.2.1 j (by omega)]
      show rX s (b + 15) (j + 1) = some (o + (b + (16 + pm ((j + 1) % 40))))
      rw [Nat.mod_eq_of_lt (show j + 1 < 40 by omega)] at p2 ⊢
      exact p2
  · have := hpm.2 _ _ (Nat.mod_lt _ (by decide)) (Nat.mod_lt _ (by decide)) e
    omega
/-- what telling may change -/
def tlP (b c : Nat) : Prop := c = b ∨ c = b + 15 ∨ (b + 16 ≤ c ∧ c < b + 56)
theorem tellX_fr {r n y p w : Nat} {s0 : XS} (h : FrX (tlP b) s0 s) (hr : r < 40) : FrX (tlP b) s0 (tellX s b r n y p w) :=
  (((h.uI (Or.inr (Or.inr (by omega)))).uI (Or.inr (Or.inr (by omega)))).uI (Or.inr (Or.inr (by omega)))).uI (Or.inl rfl)
theorem tellX_b {r n y p w j : Nat} (hj : j ≠ 2) : iX (tellX s b r n y p w) b j = iX s b j := by
  unfold tellX
  rw [iX_j hj, iX_c (by omega), iX_c (by omega), iX_c (by omega)]
theorem xtells48 {y p w : Nat} {L : List Ev} {pm : Nat → Nat} {s' : XS} (hO : GO g) (hS : ShX g M o) (hX : FxX (rX s) o) (hb : isS b) (hy : iX s b 0 = nI y) (hP : RXp s o b pm L) (h40 : L.length = 40) (hR : RotX s s' b 40) :
    Bd g yX5_tells cX5_tells 5 none [] 0 0 0 (putX M o s') 48 [some (.ref (o + b)), some (.int (nI p)), some (.int (nI w)), some (.ref (o + (b + (16 + pm 0)))), some (.int (nI 40))] [] (QX M o (fun v s' => v = none ∧ RX s' o b (pushK L (y, p, w)) ∧ FxX (rX s') o ∧ FrX (tlP b) s s' ∧ ∀ j, j ≠ 2 → iX s' b j = iX s b j)) noX := by
  have hX' := hR.fx hb hX
  obtain ⟨hp, hn, hl, hE⟩ := hP
  obtain ⟨p1, p2⟩ := hp.1 0 (by decide)
  have hpt := pmX.turn hp hR
  have hn' : iX s' b 2 = nI 40 := by rw [hR.1, hn, h40]
  refine r_ald0 (pc := 48) dX5_tells_48 ?_
  refine x_getR (c := b) hS (st_ow hb) (st_kd hb) (pc := 49) dX5_tells_49 fl_X5_37 (fs_9 hX' hb) ?_
  refine r_bipush (v := nI 39) (pc := 52) dX5_tells_52 (by decide) ?_
  refine r_ald3 (pc := 54) dX5_tells_54 ?_
  refine x_aast7 (c := b + 15) (v := b + (16 + pm 0)) hO hS (st_ow15 hb) (st_kd15 hb) (st_ln15 hb) (pc := 55) dX5_tells_55 (by omega) (by omega) (rw_ow hb (by omega)) (rw_kd hb (by omega)) ?_
  rw [← p2]
  refine r_ald0 (pc := 56) dX5_tells_56 ?_
  refine r_dup (pc := 57) dX5_tells_57 rfl ?_
  refine x_getI (c := b) hS (st_ow hb) (st_kd hb) (pc := 58) dX5_tells_58 fl_X5_44 ?_
  refine Bd.eqI hn' ?_
  refine r_iconst (v := nI 1) (pc := 61) dX5_tells_61 (by decide) ?_
  first | refine r_isubN (pc := 62) dX5_tells_62 (by omega) ?_ | refine r_isubM (pc := 62) dX5_tells_62 ?_ | refine r_isubJ (pc := 62) dX5_tells_62 ?_ | refine r_isub (pc := 62) dX5_tells_62 ?_
  refine x_putI (c := b) hS (st_ow hb) (st_kd hb) (pc := 63) dX5_tells_63 fl_X5_44 fw_X5_2 rfl rfl ?_
  have hY : iX (uI (uR s' (b + 15) 39 (rX s (b + 15) 0)) b 2 (nI 39)) b 0 = nI y := by rw [iX_j (by decide)]; show iX s' b 0 = _; rw [hR.1]; exact hy
  have hT : RXp (uI (uR s' (b + 15) 39 (rX s (b + 15) 0)) b 2 (nI 39)) o b (fun j => pm ((j + 1) % 40)) L.tail := by
    refine ⟨hpt, by rw [iX_s]; simp [h40], by simp; omega, fun i a c e he => ?_⟩
    have hi : i < 39 := by have := (List.getElem?_eq_some_iff.mp he).1; simp at this; omega
    rw [List.getElem?_tail] at he
    have z := hE (i + 1) a c e he
    show iX _ (b + (16 + pm ((i + 1) % 40))) 0 = _ ∧ iX _ (b + (16 + pm ((i + 1) % 40))) 1 = _ ∧ iX _ (b + (16 + pm ((i + 1) % 40))) 2 = _
    rw [Nat.mod_eq_of_lt (show i + 1 < 40 by omega), iX_c (by omega), iX_c (by omega), iX_c (by omega)]
    show iX s' _ 0 = _ ∧ iX s' _ 1 = _ ∧ iX s' _ 2 = _
    rw [hR.1]; exact z
  have hL39 : L.tail.length = 39 := by simp [h40]
  refine Bd.post ?_ (fun _ _ h => h) (xtellsTail (n := 39) (pm := fun j => pm ((j + 1) % 40)) hS (FxX.row hb hX') hb hY iX_s (by decide) hpt)
  rintro _ _ ⟨rfl, rfl⟩
  have hz := RXp.tell (y := y) (p := p) (w := w) hT (by omega)
  rw [hL39] at hz
  refine ⟨_, rfl, rfl, ⟨_, by rw [show pushK L (y, p, w) = L.tail ++ [(y, p, w)] from if_pos h40]; exact hz⟩, FxX.row hb hX', tellX_fr (FrX.uI (FrX.uR ⟨fun c _ => by rw [hR.1], fun c _ => by rw [hR.2.1], fun c hc => hR.2.2.1 c (fun q => hc (Or.inr (Or.inl q)))⟩ (Or.inr (Or.inl rfl))) (Or.inl rfl)) (hpt.1 39 (by decide)).1, fun j hj => ?_⟩
  rw [tellX_b hj, iX_j hj]
  show iX s' b j = _
  rw [hR.1]
theorem ct_X5_tells {y p w : Nat} {L : List Ev} (hO : GO g) (hS : ShX g M o) (hX : FxX (rX s) o) (hb : isS b) (hy : iX s b 0 = nI y) (hR : RX s o b L) :
    Ct g yX5_tells cX5_tells 5 none 0 0 0 [.ref (o + b), .int (nI p), .int (nI w)] (putX M o s) (QX M o (fun v s' => v = none ∧ RX s' o b (pushK L (y, p, w)) ∧ FxX (rX s') o ∧ FrX (tlP b) s s' ∧ ∀ j, j ≠ 2 → iX s' b j = iX s b j)) noX := by
  obtain ⟨pm, hp, hn, hl, hE⟩ := hR
  obtain ⟨p01, p02⟩ := hp.1 0 (by decide)
  refine Ct.of (by decide) (Nat.le_of_ble_eq_true rfl) rfl ?_
  refine r_ald0 (pc := 0) dX5_tells_0 ?_
  refine x_getI (c := b) hS (st_ow hb) (st_kd hb) (pc := 1) dX5_tells_1 fl_X5_44 ?_
  rw [hn]
  refine r_bipush (v := nI 40) (pc := 4) dX5_tells_4 (by decide) ?_
  first | refine r_icmp_neN (pc := 6) (tgt := 66) dX5_tells_6 (by decide) (by omega) (by omega) (fun h6 => ?_) (fun h6 => ?_) | refine r_icmp_ne (pc := 6) (tgt := 66) dX5_tells_6 (by decide) (fun h6 => ?_) (fun h6 => ?_)
  · skip
    have hlt : L.length < 40 := by omega
    refine Bd.post ?_ (fun _ _ h => h) (xtellsTail hS hX hb hy hn hlt hp)
    rintro _ _ ⟨rfl, rfl⟩
    have hz := RXp.tell (y := y) (p := p) (w := w) ⟨hp, hn, hl, hE⟩ hlt
    exact ⟨_, rfl, rfl, ⟨pm, by rw [show pushK L (y, p, w) = L ++ [(y, p, w)] from if_neg (by omega)]; exact hz⟩, hX, tellX_fr FrX.rf (hp.1 _ hlt).1, fun j hj => tellX_b hj⟩
  · skip
    have h40 : L.length = 40 := by omega
    refine r_ald0 (pc := 9) dX5_tells_9 ?_
    refine x_getR (c := b) hS (st_ow hb) (st_kd hb) (pc := 10) dX5_tells_10 fl_X5_37 (fs_9 hX hb) ?_
    refine r_iconst (v := nI 0) (pc := 13) dX5_tells_13 (by decide) ?_
    refine x_aald (c := (b + 15)) (j := 0) hS (st_ow15 hb) (st_kd15 hb) (by decide) (st_ln15 hb) (pc := 14) dX5_tells_14 (by omega) (by omega) p02 ?_
    refine r_ast3 (pc := 15) dX5_tells_15 ?_
    refine r_iconst (v := nI 1) (pc := 16) dX5_tells_16 (by decide) ?_
    refine r_ist4 (pc := 17) dX5_tells_17 ?_
    refine xtellsLoop hO hS hX hb hp (fun s' hR => ?_) 39 1 s (by decide) (by decide) ⟨rfl, rfl, fun _ _ => rfl, fun j hj => absurd hj (by omega), fun _ _ => rfl⟩
    exact xtells48 hO hS hX hb hy ⟨hp, hn, hl, hE⟩ h40 hR
end X2
