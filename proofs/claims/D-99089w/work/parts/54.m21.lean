set_option maxRecDepth 100000
/-! THE MODEL: thoughts, faces, what tells -/
section M21
variable {g : GC} {M : MM} {o : Nat} {s sB : MS} {M1 : MM} {q : Sg} {T : Te} {t : St} {K : List Ev}
/-- the ways below m -/
def LF (f : Nat → Bool) (w : Nat → Nat → Nat) (s : MS) (m : Nat) : Prop := (∀ v, v < m → ∀ y, y < 31 → mA s 69 (31 * v + y) = nI (w v y)) ∧ (∀ v, v < m → mA s 70 v = zI (f v = true)) ∧ mF s 71 = nI (cnt f m)
theorem LF.fr {f : Nat → Bool} {w : Nat → Nat → Nat} {m : Nat} {s' : MS} {fs gs as bs : List Nat} (h : LF f w s m) (hf : Fr fs gs as bs s s') (hd : 71 ∉ fs ∧ 69 ∉ as ∧ 70 ∉ as) : LF f w s' m := by
  unfold LF
  rw [hf.1 71 hd.1, hf.2.2.1 69 hd.2.1, hf.2.2.1 70 hd.2.2]
  exact h
theorem LF.step {f : Nat → Bool} {w : Nat → Nat → Nat} {v r : Nat} {s' : MS} (h : LF f w s v) (hf : f v = seenN (gRw q) T t 31) (hw : ∀ y, w v y = lk (yearsS T y t).1 r) (hW : WQ sB q T t v r (cnt f v) s s') : LF f w s' (v + 1) := by
  obtain ⟨h1, h2, h3⟩ := h
  obtain ⟨_, _, w1, w2, w3, w4, w5, _⟩ := hW
  refine ⟨fun a ha y hy => ?_, fun a ha => ?_, ?_⟩
  · by_cases e : a = v
    · subst e; rw [hw]; exact w1 y hy
    · rw [w2 _ (by omega)]; exact h1 a (by omega) y hy
  · by_cases e : a = v
    · subst e; rw [hf]; exact w3
    · rw [w4 _ (by omega)]; exact h2 a (by omega)
  · rw [w5]; show _ = nI (cnt f v + if f v then 1 else 0); rw [hf]
theorem sTh_SB' {n p r v : Nat} (h : SB n t) (hv : v ≤ 9) : SB n (sTh t p r v) := by
  refine ⟨h.1, fun a ha => ⟨(h.2 a ha).1, (h.2 a ha).2.1, (h.2 a ha).2.2.1, fun b hb => ?_⟩⟩
  show va_up (th t) p (va_up (th t p) r v) a b ≤ 9
  unfold va_up
  split
  · next e =>
    show (if b = r then v else th t p b) ≤ 9
    split
    · exact hv
    · subst e; exact (h.2 _ ha).2.2.2 b hb
  · exact (h.2 a ha).2.2.2 b hb
theorem laysThLoop {p r : Nat} (hS : ShM g M o) (hI : IM s q) (hG : GI q) (hp : p < tn (gT q)) (hr : r < tn (gT q)) :
    ∀ (k v : Nat) (s1 : MS), v + k = 10 → TR s q s1 → (∀ j, j < 89 → mA s1 55 j = mA s 55 j) → LF (thF q p r) (thW q p r) s1 v →
    Bd g yX6_laysThoughts cX6_laysThoughts 4 none [] 7 0 0 (putM M o s1) 11 [some (.ref o), some (.int (nI p)), some (.int (nI r)), some (.int (nI v))] [] (QM M o (fun x s' => x = none ∧ IM s' q ∧ LF (thF q p r) (thW q p r) s' 10)) noX := by
  have hTB := hG.2.2.1
  have hn8 := hTB.1
  have hB : SB (tn (gT q)) (gS q) := hG.2.2.2.2.2.1.1
  have hy : yr (gS q) ≤ 999 := hG.2.2.2.2.2.1.2.1
  have hN := hI.2.2.2.2.1.1
  intro k
  induction k with
  | zero =>
    intro v s1 hk hR hj hL
    obtain rfl : v = 10 := by omega
    refine r_ild3 (pc := 11) dX6_laysThoughts_11 ?_
    refine r_bipush (v := nI 10) (pc := 12) dX6_laysThoughts_12 (by decide) ?_
    first | refine r_icmp_geN (pc := 14) (tgt := 44) dX6_laysThoughts_14 (by decide) (by omega) (by omega) (fun h14 => ?_) (fun h14 => ?_) | refine r_icmp_ge (pc := 14) (tgt := 44) dX6_laysThoughts_14 (by decide) (fun h14 => ?_) (fun h14 => ?_)
    · skip
      refine r_ald0 (pc := 44) dX6_laysThoughts_44 ?_
      refine r_cV (pc := 45) dX6_laysThoughts_45 cv_X6_534 hS.k (ct_X6_takesBack hS) rfl rfl (Nat.le_of_ble_eq_true rfl) (by decide) ?_
      rintro _ _ ⟨s3, rfl, rfl, hj3, h643, hf3⟩
      refine r_vret (pc := 48) dX6_laysThoughts_48 ?_
      exact ⟨s3, rfl, rfl, TR.back hI hG hR hj3 h643 hf3, hL.fr hf3 (by decide)⟩
    · skip
      exact absurd h14 (by omega)
  | succ k ih =>
    intro v s1 hk hR hj hL
    have hf2 : Fr [] [] [55] [] s1 (tA s1 55 (25 + 8 * p + r) (nI v)) := Fr.tA Fr.rf (by decide)
    have hR2 : TR s q (tA s1 55 (25 + 8 * p + r) (nI v)) := hR.high hf2 (fun j hj => tA_ne (by omega)) (by decide)
    have hN2 : RN (tA s1 55 (25 + 8 * p + r) (nI v)) (tn (gT q)) (sTh (gS q) p r v) := RN.setTh hn8 hp hr (RN.low hn8 hN hj)
    have hc := cnt_le (thF q p r) v
    refine r_ild3 (pc := 11) dX6_laysThoughts_11 ?_
    refine r_bipush (v := nI 10) (pc := 12) dX6_laysThoughts_12 (by decide) ?_
    first | refine r_icmp_geN (pc := 14) (tgt := 44) dX6_laysThoughts_14 (by decide) (by omega) (by omega) (fun h14 => ?_) (fun h14 => ?_) | refine r_icmp_ge (pc := 14) (tgt := 44) dX6_laysThoughts_14 (by decide) (fun h14 => ?_) (fun h14 => ?_)
    · skip
      exact absurd h14 (by omega)
    · skip
      refine r_ald0 (pc := 17) dX6_laysThoughts_17 ?_
      refine m_getR hS (pc := 18) dX6_laysThoughts_18 fl_X6_121 ar55 ?_
      refine r_bipush (v := nI 25) (pc := 21) dX6_laysThoughts_21 (by decide) ?_
      refine r_bipush (v := nI 8) (pc := 23) dX6_laysThoughts_23 (by decide) ?_
      refine r_ild1 (pc := 25) dX6_laysThoughts_25 ?_
      first | refine r_imulN (pc := 26) dX6_laysThoughts_26 ?_ | refine r_imulJ (pc := 26) dX6_laysThoughts_26 ?_ | refine r_imul (pc := 26) dX6_laysThoughts_26 ?_
      first | refine r_iaddN (pc := 27) dX6_laysThoughts_27 ?_ | refine r_iaddJ (pc := 27) dX6_laysThoughts_27 ?_ | refine r_iadd (pc := 27) dX6_laysThoughts_27 ?_
      refine r_ild2 (pc := 28) dX6_laysThoughts_28 ?_
      first | refine r_iaddN (pc := 29) dX6_laysThoughts_29 ?_ | refine r_iaddJ (pc := 29) dX6_laysThoughts_29 ?_ | refine r_iadd (pc := 29) dX6_laysThoughts_29 ?_
      refine r_ild3 (pc := 30) dX6_laysThoughts_30 ?_
      refine m_iast hS (pc := 31) dX6_laysThoughts_31 ar55 (by omega) (by omega) ?_
      refine r_ald0 (pc := 32) dX6_laysThoughts_32 ?_
      refine r_ild3 (pc := 33) dX6_laysThoughts_33 ?_
      refine r_ild2 (pc := 34) dX6_laysThoughts_34 ?_
      refine r_cV (pc := 35) dX6_laysThoughts_35 cv_X6_567 hS.k (ct_X6_laysWay (T := gT q) (t := sTh (gS q) p r v) (c := cnt (thF q p r) v) hS hR2 hG (hI.2.2.2.2.2.2.1.fr hR2.2.2.2 (by decide)) (hR2.rt hI) hTB rfl hN2 (sTh_SB' hB (by omega)) hy hr (by omega) hL.2.2 (by omega)) rfl rfl (Nat.le_of_ble_eq_true rfl) (by decide) ?_
      rintro _ _ ⟨s3, rfl, rfl, hW⟩
      first | refine r_iinc3N (j := 1) (pc := 38) dX6_laysThoughts_38 rfl ?_ | refine r_iinc3 (pc := 38) dX6_laysThoughts_38 ?_
      refine r_goto (pc := 41) (tgt := 11) dX6_laysThoughts_41 (by decide) ?_
      exact ih (v + 1) s3 (by omega) hW.1 hW.2.1 ((hL.fr hf2 (by decide)).step rfl (fun _ => rfl) hW)
theorem ct_X6_laysThoughts {p r : Nat} (hS : ShM g M o) (hI : IM s q) (hG : GI q) (hp : p < tn (gT q)) (hr : r < tn (gT q)) :
    Ct g yX6_laysThoughts cX6_laysThoughts 4 none 7 0 0 [.ref o, .int (nI p), .int (nI r)] (putM M o s) (QM M o (fun x s' => x = none ∧ IM s' q ∧ LF (thF q p r) (thW q p r) s' 10)) noX := by
  refine Ct.of (by decide) (Nat.le_of_ble_eq_true rfl) rfl ?_
  refine r_ald0 (pc := 0) dX6_laysThoughts_0 ?_
  refine r_cV (pc := 1) dX6_laysThoughts_1 cv_X6_528 hS.k (ct_X6_putsAside hS) rfl rfl (Nat.le_of_ble_eq_true rfl) (by decide) ?_
  rintro _ _ ⟨s1, rfl, rfl, hj1, h64, hf1⟩
  have hR1 := TR.start hI hj1 h64 hf1
  refine r_ald0 (pc := 4) dX6_laysThoughts_4 ?_
  refine r_iconst (v := nI 0) (pc := 5) dX6_laysThoughts_5 (by decide) ?_
  refine m_putI hS (pc := 6) dX6_laysThoughts_6 fl_X6_564 fw_X6_71 rfl rfl ?_
  refine r_iconst (v := nI 0) (pc := 9) dX6_laysThoughts_9 (by decide) ?_
  refine r_ist3 (pc := 10) dX6_laysThoughts_10 ?_
  exact laysThLoop hS hI hG hp hr 10 0 _ (by omega) (hR1.fr (Fr.tF (fs := [71]) (gs := []) (as := []) (bs := []) Fr.rf (by decide)) (by decide)) (fun j _ => congrFun (hf1.2.2.1 55 (by decide)) j) ⟨fun v hv => absurd hv (by omega), fun v hv => absurd hv (by omega), rfl⟩
theorem fitLoop {f : Nat → Bool} {w : Nat → Nat → Nat} (hS : ShM g M o) (hL : LF f w s 10) :
    ∀ (k v : Nat), v + k = 10 → Bd g yX6_fitSet cX6_fitSet 3 (some Jvm.ClassFile.FieldType.int) [] 0 0 0 (putM M o s) 4 [some (.ref o), some (.int (nI (setS f v))), some (.int (nI v))] [] (PQ (putM M o s) (.int (nI (setS f 10)))) noX := by
  intro k
  induction k with
  | zero =>
    intro v hk
    obtain rfl : v = 10 := by omega
    refine r_ild2 (pc := 4) dX6_fitSet_4 ?_
    refine r_bipush (v := nI 10) (pc := 5) dX6_fitSet_5 (by decide) ?_
    first | refine r_icmp_geN (pc := 7) (tgt := 31) dX6_fitSet_7 (by decide) (by omega) (by omega) (fun h7 => ?_) (fun h7 => ?_) | refine r_icmp_ge (pc := 7) (tgt := 31) dX6_fitSet_7 (by decide) (fun h7 => ?_) (fun h7 => ?_)
    · skip
      refine r_ild1 (pc := 31) dX6_fitSet_31 ?_
      refine r_iret (pc := 32) dX6_fitSet_32 ?_
      exact ⟨rfl, rfl⟩
    · skip
      exact absurd h7 (by omega)
  | succ k ih =>
    intro v hk
    have hlt := setS_lt f v
    have h1024 := pow_le2 v (by omega)
    refine r_ild2 (pc := 4) dX6_fitSet_4 ?_
    refine r_bipush (v := nI 10) (pc := 5) dX6_fitSet_5 (by decide) ?_
    first | refine r_icmp_geN (pc := 7) (tgt := 31) dX6_fitSet_7 (by decide) (by omega) (by omega) (fun h7 => ?_) (fun h7 => ?_) | refine r_icmp_ge (pc := 7) (tgt := 31) dX6_fitSet_7 (by decide) (fun h7 => ?_) (fun h7 => ?_)
    · skip
      exact absurd h7 (by omega)
    · skip
      refine r_ald0 (pc := 10) dX6_fitSet_10 ?_
      refine m_getR hS (pc := 11) dX6_fitSet_11 fl_X6_136 ar70 ?_
      refine r_ild2 (pc := 14) dX6_fitSet_14 ?_
      refine m_zald hS (pc := 15) dX6_fitSet_15 ar70 (by omega) (by omega) ?_
      refine Bd.eqI (hL.2.1 v (by omega)) ?_
      first | refine r_if_eqZ (pc := 16) (tgt := 25) dX6_fitSet_16 (by decide) (fun h16 => ?_) (fun h16 => ?_) | refine r_if_eqN (pc := 16) (tgt := 25) dX6_fitSet_16 (by decide) (by omega) (fun h16 => ?_) (fun h16 => ?_) | refine r_if_eq (pc := 16) (tgt := 25) dX6_fitSet_16 (by decide) (fun h16 => ?_) (fun h16 => ?_)
      · skip
        have e : setS f (v + 1) = setS f v := by show _ + _ = _; rw [if_neg h16]; rfl
        first | refine r_iinc2N (j := 1) (pc := 25) dX6_fitSet_25 rfl ?_ | refine r_iinc2 (pc := 25) dX6_fitSet_25 ?_
        refine r_goto (pc := 28) (tgt := 4) dX6_fitSet_28 (by decide) ?_
        rw [← e]
        exact ih (v + 1) (by omega)
      · skip
        have e : setS f (v + 1) = setS f v + 2 ^ v := by show _ + _ = _; rw [if_pos h16]
        refine r_ild1 (pc := 19) dX6_fitSet_19 ?_
        refine r_iconst (v := nI 1) (pc := 20) dX6_fitSet_20 (by decide) ?_
        refine r_ild2 (pc := 21) dX6_fitSet_21 ?_
        refine r_ishl (pc := 22) dX6_fitSet_22 ?_
        refine Bd.eqI (shl_all2 v (by omega)) ?_
        refine r_ior (pc := 23) dX6_fitSet_23 ?_
        refine Bd.eqI (ior_all v (by omega) _ hlt) ?_
        refine r_ist1 (pc := 24) dX6_fitSet_24 ?_
        first | refine r_iinc2N (j := 1) (pc := 25) dX6_fitSet_25 rfl ?_ | refine r_iinc2 (pc := 25) dX6_fitSet_25 ?_
        refine r_goto (pc := 28) (tgt := 4) dX6_fitSet_28 (by decide) ?_
        rw [← e]
        exact ih (v + 1) (by omega)
theorem ct_X6_fitSet {f : Nat → Bool} {w : Nat → Nat → Nat} (hS : ShM g M o) (hL : LF f w s 10) : Ct g yX6_fitSet cX6_fitSet 3 (some Jvm.ClassFile.FieldType.int) 0 0 0 [.ref o] (putM M o s) (PQ (putM M o s) (.int (nI (setS f 10)))) noX := by
  refine Ct.of (by decide) (Nat.le_of_ble_eq_true rfl) rfl ?_
  refine r_iconst (v := nI 0) (pc := 0) dX6_fitSet_0 (by decide) ?_
  refine r_ist1 (pc := 1) dX6_fitSet_1 ?_
  refine r_iconst (v := nI 0) (pc := 2) dX6_fitSet_2 (by decide) ?_
  refine r_ist2 (pc := 3) dX6_fitSet_3 ?_
  exact fitLoop hS hL 10 0 (by omega)
theorem pm_thoughts {a b : Int32} (hS : ShM g M o) (hI : IM s q) (hG : GI q) : Ct g yX6_thoughts cX6_thoughts 3 (some Jvm.ClassFile.FieldType.int) 8 0 0 [.ref o, .int a, .int b] (putM M o s) (PM M o q (.int (thoughtsQ q a b))) noX := by
  have hT := hI.2.2.2.1.1
  have hn8 := hG.2.2.1.1
  refine Ct.of (by decide) (Nat.le_of_ble_eq_true rfl) rfl ?_
  unfold thoughtsQ
  cases hp : twoS (tn (gT q)) a b with
  | none =>
    have hno := mt (twoS_iff (a := a) (b := b) (by omega : tn (gT q) ≤ 100)).mpr (by rintro ⟨x, hx⟩; rw [hp] at hx; cases hx)
    refine r_ald0 (pc := 0) dX6_thoughts_0 ?_
    refine r_ild1 (pc := 1) dX6_thoughts_1 ?_
    refine r_ild2 (pc := 2) dX6_thoughts_2 ?_
    refine r_cV (pc := 3) dX6_thoughts_3 cv_X6_519 hS.k (ct_X6_areTwo hS hT.2.1 hn8) rfl rfl (Nat.le_of_ble_eq_true rfl) (by decide) ?_
    rintro _ _ ⟨rfl, rfl⟩
    first | refine r_if_neZ (pc := 6) (tgt := 11) dX6_thoughts_6 (by decide) (fun h6 => ?_) (fun h6 => ?_) | refine r_if_neN (pc := 6) (tgt := 11) dX6_thoughts_6 (by decide) (by omega) (fun h6 => ?_) (fun h6 => ?_) | refine r_if_ne (pc := 6) (tgt := 11) dX6_thoughts_6 (by decide) (fun h6 => ?_) (fun h6 => ?_)
    · skip
      exact absurd h6 hno
    · skip
      refine r_iconst (v := -1) (pc := 9) dX6_thoughts_9 (by decide) ?_
      refine r_iret (pc := 10) dX6_thoughts_10 ?_
      exact ⟨s, rfl, rfl, hI⟩
  | some z =>
    have hyes := (twoS_iff (a := a) (b := b) (by omega : tn (gT q) ≤ 100)).mp ⟨z, hp⟩
    obtain ⟨h1, h2, h3, rfl, rfl⟩ := twoS_some hp
    refine r_ald0 (pc := 0) dX6_thoughts_0 ?_
    refine r_ild1 (pc := 1) dX6_thoughts_1 ?_
    refine r_ild2 (pc := 2) dX6_thoughts_2 ?_
    refine r_cV (pc := 3) dX6_thoughts_3 cv_X6_519 hS.k (ct_X6_areTwo hS hT.2.1 hn8) rfl rfl (Nat.le_of_ble_eq_true rfl) (by decide) ?_
    rintro _ _ ⟨rfl, rfl⟩
    first | refine r_if_neZ (pc := 6) (tgt := 11) dX6_thoughts_6 (by decide) (fun h6 => ?_) (fun h6 => ?_) | refine r_if_neN (pc := 6) (tgt := 11) dX6_thoughts_6 (by decide) (by omega) (fun h6 => ?_) (fun h6 => ?_) | refine r_if_ne (pc := 6) (tgt := 11) dX6_thoughts_6 (by decide) (fun h6 => ?_) (fun h6 => ?_)
    · skip
      refine r_ald0 (pc := 11) dX6_thoughts_11 ?_
      refine r_ild1 (pc := 12) dX6_thoughts_12 ?_
      refine r_ild2 (pc := 13) dX6_thoughts_13 ?_
      refine r_cV (pc := 14) dX6_thoughts_14 cv_X6_570 hS.k (ct_X6_laysThoughts hS hI hG h1 h2) rfl rfl (Nat.le_of_ble_eq_true rfl) (by decide) ?_
      rintro _ _ ⟨s1, rfl, rfl, hI1, hL⟩
      refine r_ald0 (pc := 17) dX6_thoughts_17 ?_
      refine r_cV (pc := 18) dX6_thoughts_18 cv_X6_573 hS.k (ct_X6_fitSet hS hL) rfl rfl (Nat.le_of_ble_eq_true rfl) (by decide) ?_
      rintro _ _ ⟨rfl, rfl⟩
      refine r_iret (pc := 21) dX6_thoughts_21 ?_
      exact ⟨s1, rfl, rfl, hI1⟩
    · skip
      exact absurd hyes h6
theorem tA_id {i j : Nat} : tA s i j (mA s i j) = s := by
  show (mF s, mG s, (fun a b => if a = i ∧ b = j then mA s i j else mA s a b), mB s) = (s.1, s.2.1, s.2.2.1, s.2.2.2)
  refine congrArg (fun f => (mF s, mG s, f, mB s)) (funext fun a => funext fun b => ?_)
  split
  · next h => rw [h.1, h.2]; rfl
  · rfl
theorem TR.face {s1 : MS} {j : Nat} {x y : Int32} (h : TR (tA s 43 j x) q s1) : TR (tA s 43 j y) q (tA s1 43 j y) := by
  have hR := h.2.2.2
  have hf : Fr [] [] [43] [] s1 (tA s1 43 j y) := Fr.tA Fr.rf (by decide)
  refine ⟨fun i hi => ?_, h.2.1, h.2.2.1.fr hf (by decide), hR.1, hR.2.1, fun i hi => ?_, hR.2.2.2⟩
  · rw [hf.2.2.1 56 (by decide)]; exact h.1 i hi
  · by_cases e : i = 43
    · subst e; funext a
      by_cases e2 : a = j
      · subst e2; rw [tA_eq, tA_eq]
      · rw [tA_ne e2, tA_ne e2, hR.2.2.1 43 (by decide), tA_ne e2]
    · rw [hf.2.2.1 i (by simp; exact e), hR.2.2.1 i hi]
      funext a
      rw [mA_tA, mA_tA, if_neg (fun q => e q.1), if_neg (fun q => e q.1)]
theorem RT.face {p v : Nat} (h : RT s T) : RT (tA s 43 (8 + p) (nI v)) (sFa T p v) := by
  have hf : Fr [] [] [43] [] s (tA s 43 (8 + p) (nI v)) := Fr.tA Fr.rf (by decide)
  refine ⟨h.1, h.2.1, fun r hr => ?_, h.2.2.2.1, ?_, ?_, ?_, h.2.2.2.2.2.2.2⟩
  · show _ = nI (va_up (fa T) p v r)
    unfold va_up
    by_cases e : r = p
    · subst e; rw [if_pos rfl, tA_eq]
    · rw [if_neg e, tA_ne (by omega)]; exact h.2.2.1 r hr
  · have := h.2.2.2.2.1; unfold RC at this ⊢; rw [hf.2.2.1 48 (by decide), hf.2.2.1 49 (by decide), hf.2.2.1 50 (by decide)]; exact this
  · have := h.2.2.2.2.2.1; unfold RC at this ⊢; rw [hf.2.2.1 48 (by decide), hf.2.2.1 49 (by decide), hf.2.2.1 50 (by decide)]; exact this
  · have := h.2.2.2.2.2.2.1; unfold RC at this ⊢; rw [hf.2.2.1 48 (by decide), hf.2.2.1 49 (by decide), hf.2.2.1 50 (by decide)]; exact this
theorem sFa_TB {p v : Nat} (h : TB T) (hv : v ≤ 9) : TB (sFa T p v) := by
  refine ⟨h.1, h.2.1, fun r hr => ⟨?_, (h.2.2.1 r hr).2⟩, h.2.2.2.1, h.2.2.2.2⟩
  show va_up (fa T) p v r ≤ 9
  unfold va_up
  split
  · exact hv
  · exact (h.2.2.1 r hr).1
def faW (q : Sg) (p v y : Nat) : Nat := lk (yearsS (sFa (gT q) p v) y (gS q)).1 p
theorem facesLoop {p : Nat} (hS : ShM g M o) (hI : IM s q) (hG : GI q) (hp : p < tn (gT q)) :
    ∀ (k v : Nat) (x : Int32) (s1 : MS), v + k = 10 → TR (tA s 43 (8 + p) x) q s1 → (∀ j, j < 89 → mA s1 55 j = mA s 55 j) → LF (faF q p) (faW q p) s1 v →
    Bd g yX6_faces cX6_faces 4 (some Jvm.ClassFile.FieldType.int) [] 7 0 0 (putM M o s1) 28 [some (.ref o), some (.int (nI p)), some (.int (nI (fa (gT q) p))), some (.int (nI v))] [] (PM M o q (.int (nI (setS (faF q p) 10)))) noX := by
  have hTB := hG.2.2.1
  have hn8 := hTB.1
  have hB : SB (tn (gT q)) (gS q) := hG.2.2.2.2.2.1.1
  have hy : yr (gS q) ≤ 999 := hG.2.2.2.2.2.1.2.1
  have hN := hI.2.2.2.2.1.1
  have hfa := hI.2.2.2.1.1.2.2.1 p hp
  intro k
  induction k with
  | zero =>
    intro v x s1 hk hR hj hL
    obtain rfl : v = 10 := by omega
    have hR2 : TR s q (tA s1 43 (8 + p) (nI (fa (gT q) p))) := by
      have := hR.face (y := nI (fa (gT q) p))
      rw [show tA s 43 (8 + p) (nI (fa (gT q) p)) = s by rw [← hfa]; exact tA_id] at this
      exact this
    have hf2 : Fr [] [] [43] [] s1 (tA s1 43 (8 + p) (nI (fa (gT q) p))) := Fr.tA Fr.rf (by decide)
    refine r_ild3 (pc := 28) dX6_faces_28 ?_
    refine r_bipush (v := nI 10) (pc := 29) dX6_faces_29 (by decide) ?_
    first | refine r_icmp_geN (pc := 31) (tgt := 56) dX6_faces_31 (by decide) (by omega) (by omega) (fun h31 => ?_) (fun h31 => ?_) | refine r_icmp_ge (pc := 31) (tgt := 56) dX6_faces_31 (by decide) (fun h31 => ?_) (fun h31 => ?_)
    · skip
      refine r_ald0 (pc := 56) dX6_faces_56 ?_
      refine m_getR hS (pc := 57) dX6_faces_57 fl_X6_103 ar43 ?_
      refine r_bipush (v := nI 8) (pc := 60) dX6_faces_60 (by decide) ?_
      refine r_ild1 (pc := 62) dX6_faces_62 ?_
      first | refine r_iaddN (pc := 63) dX6_faces_63 ?_ | refine r_iaddJ (pc := 63) dX6_faces_63 ?_ | refine r_iadd (pc := 63) dX6_faces_63 ?_
      refine r_ild2 (pc := 64) dX6_faces_64 ?_
      refine m_iast hS (pc := 65) dX6_faces_65 ar43 (by omega) (by omega) ?_
      refine r_ald0 (pc := 66) dX6_faces_66 ?_
      refine r_cV (pc := 67) dX6_faces_67 cv_X6_534 hS.k (ct_X6_takesBack hS) rfl rfl (Nat.le_of_ble_eq_true rfl) (by decide) ?_
      rintro _ _ ⟨s3, rfl, rfl, hj3, h643, hf3⟩
      refine r_ald0 (pc := 70) dX6_faces_70 ?_
      refine r_cV (pc := 71) dX6_faces_71 cv_X6_573 hS.k (ct_X6_fitSet hS ((hL.fr hf2 (by decide)).fr hf3 (by decide))) rfl rfl (Nat.le_of_ble_eq_true rfl) (by decide) ?_
      rintro _ _ ⟨rfl, rfl⟩
      refine r_iret (pc := 74) dX6_faces_74 ?_
      exact ⟨s3, rfl, rfl, TR.back hI hG hR2 hj3 h643 hf3⟩
    · skip
      exact absurd h31 (by omega)
  | succ k ih =>
    intro v x s1 hk hR hj hL
    have hf2 : Fr [] [] [43] [] s1 (tA s1 43 (8 + p) (nI v)) := Fr.tA Fr.rf (by decide)
    have hR2 := hR.face (y := nI v)
    have hT2 : RT (tA s1 43 (8 + p) (nI v)) (sFa (gT q) p v) := (hI.2.2.2.1.1.face (p := p) (v := v)).fr hR2.2.2.2 (by decide) (by decide)
    have hN2 : RN (tA s1 43 (8 + p) (nI v)) (tn (gT q)) (gS q) := (RN.low hn8 hN hj).fr hf2 (by decide)
    have hW2 : IRw (tA s1 43 (8 + p) (nI v)) q := (hI.2.2.2.2.2.2.1.fr (Fr.tA (fs := []) (gs := []) (as := [43]) (bs := []) Fr.rf (by decide)) (by decide)).fr hR2.2.2.2 (by decide)
    have hc := cnt_le (faF q p) v
    refine r_ild3 (pc := 28) dX6_faces_28 ?_
    refine r_bipush (v := nI 10) (pc := 29) dX6_faces_29 (by decide) ?_
    first | refine r_icmp_geN (pc := 31) (tgt := 56) dX6_faces_31 (by decide) (by omega) (by omega) (fun h31 => ?_) (fun h31 => ?_) | refine r_icmp_ge (pc := 31) (tgt := 56) dX6_faces_31 (by decide) (fun h31 => ?_) (fun h31 => ?_)
    · skip
      exact absurd h31 (by omega)
    · skip
      refine r_ald0 (pc := 34) dX6_faces_34 ?_
      refine m_getR hS (pc := 35) dX6_faces_35 fl_X6_103 ar43 ?_
      refine r_bipush (v := nI 8) (pc := 38) dX6_faces_38 (by decide) ?_
      refine r_ild1 (pc := 40) dX6_faces_40 ?_
      first | refine r_iaddN (pc := 41) dX6_faces_41 ?_ | refine r_iaddJ (pc := 41) dX6_faces_41 ?_ | refine r_iadd (pc := 41) dX6_faces_41 ?_
      refine r_ild3 (pc := 42) dX6_faces_42 ?_
      refine m_iast hS (pc := 43) dX6_faces_43 ar43 (by omega) (by omega) ?_
      refine r_ald0 (pc := 44) dX6_faces_44 ?_
      refine r_ild3 (pc := 45) dX6_faces_45 ?_
      refine r_ild1 (pc := 46) dX6_faces_46 ?_
      refine r_cV (pc := 47) dX6_faces_47 cv_X6_567 hS.k (ct_X6_laysWay (T := sFa (gT q) p v) (t := gS q) (c := cnt (faF q p) v) hS hR2 hG hW2 hT2 (sFa_TB hTB (by omega)) rfl hN2 hB hy hp (by omega) hL.2.2 (by omega)) rfl rfl (Nat.le_of_ble_eq_true rfl) (by decide) ?_
      rintro _ _ ⟨s3, rfl, rfl, hW⟩
      first | refine r_iinc3N (j := 1) (pc := 50) dX6_faces_50 rfl ?_ | refine r_iinc3 (pc := 50) dX6_faces_50 ?_
      refine r_goto (pc := 53) (tgt := 28) dX6_faces_53 (by decide) ?_
      exact ih (v + 1) (nI v) s3 (by omega) hW.1 hW.2.1 ((hL.fr hf2 (by decide)).step rfl (fun _ => rfl) hW)
theorem pm_faces {a : Int32} (hS : ShM g M o) (hI : IM s q) (hG : GI q) : Ct g yX6_faces cX6_faces 4 (some Jvm.ClassFile.FieldType.int) 7 0 0 [.ref o, .int a] (putM M o s) (PM M o q (.int (facesQ q a))) noX := by
  have hT := hI.2.2.2.1.1
  have hn8 := hG.2.2.1.1
  obtain ⟨ha1, ha2⟩ := b31_of a
  refine Ct.of (by decide) (Nat.le_of_ble_eq_true rfl) rfl ?_
  unfold facesQ
  cases hp : pidx a (tn (gT q)) with
  | none =>
    have hp := pidx_none hp
    refine r_ald0 (pc := 0) dX6_faces_0 ?_
    refine r_ild1 (pc := 1) dX6_faces_1 ?_
    refine r_i2lT (pc := 2) dX6_faces_2 ?_
    refine r_cV (pc := 3) dX6_faces_3 cv_X6_394 hS.k (ct_X6_isPerson hS hT.2.1 hn8 (by constructor <;> omega)) rfl rfl (Nat.le_of_ble_eq_true rfl) (by decide) ?_
    rintro _ _ ⟨rfl, rfl⟩
    first | refine r_if_neZ (pc := 6) (tgt := 11) dX6_faces_6 (by decide) (fun h6 => ?_) (fun h6 => ?_) | refine r_if_neN (pc := 6) (tgt := 11) dX6_faces_6 (by decide) (by omega) (fun h6 => ?_) (fun h6 => ?_) | refine r_if_ne (pc := 6) (tgt := 11) dX6_faces_6 (by decide) (fun h6 => ?_) (fun h6 => ?_)
    · skip
      exact absurd h6 hp
    · skip
      refine r_iconst (v := -1) (pc := 9) dX6_faces_9 (by decide) ?_
      refine r_iret (pc := 10) dX6_faces_10 ?_
      exact ⟨s, rfl, rfl, hI⟩
  | some p =>
    obtain ⟨h1, rfl⟩ := pidx_some hp
    refine r_ald0 (pc := 0) dX6_faces_0 ?_
    refine r_ild1 (pc := 1) dX6_faces_1 ?_
    first | refine r_i2lM (pc := 2) dX6_faces_2 (by omega) ?_ | refine r_i2lI (pc := 2) dX6_faces_2 (by constructor <;> omega) ?_ | refine r_i2lT (pc := 2) dX6_faces_2 ?_
    refine r_cV (pc := 3) dX6_faces_3 cv_X6_394 hS.k (ct_X6_isPerson hS hT.2.1 hn8 (by constructor <;> omega)) rfl rfl (Nat.le_of_ble_eq_true rfl) (by decide) ?_
    rintro _ _ ⟨rfl, rfl⟩
    first | refine r_if_neZ (pc := 6) (tgt := 11) dX6_faces_6 (by decide) (fun h6 => ?_) (fun h6 => ?_) | refine r_if_neN (pc := 6) (tgt := 11) dX6_faces_6 (by decide) (by omega) (fun h6 => ?_) (fun h6 => ?_) | refine r_if_ne (pc := 6) (tgt := 11) dX6_faces_6 (by decide) (fun h6 => ?_) (fun h6 => ?_)
    · skip
      refine r_ald0 (pc := 11) dX6_faces_11 ?_
      refine r_ild1 (pc := 12) dX6_faces_12 ?_
      refine r_cV (pc := 13) dX6_faces_13 cv_X6_426 hS.k (ct_X6_faceOf hS (by omega)) rfl rfl (Nat.le_of_ble_eq_true rfl) (by decide) ?_
      rintro _ _ ⟨rfl, rfl⟩
      refine Bd.eqI (hT.2.2.1 p h1) ?_
      refine r_ist2 (pc := 16) dX6_faces_16 ?_
      refine r_ald0 (pc := 17) dX6_faces_17 ?_
      refine r_cV (pc := 18) dX6_faces_18 cv_X6_528 hS.k (ct_X6_putsAside hS) rfl rfl (Nat.le_of_ble_eq_true rfl) (by decide) ?_
      rintro _ _ ⟨s1, rfl, rfl, hj1, h64, hf1⟩
      have hR1 := TR.start hI hj1 h64 hf1
      refine r_ald0 (pc := 21) dX6_faces_21 ?_
      refine r_iconst (v := nI 0) (pc := 22) dX6_faces_22 (by decide) ?_
      refine m_putI hS (pc := 23) dX6_faces_23 fl_X6_564 fw_X6_71 rfl rfl ?_
      refine r_iconst (v := nI 0) (pc := 26) dX6_faces_26 (by decide) ?_
      refine r_ist3 (pc := 27) dX6_faces_27 ?_
      exact facesLoop hS hI hG h1 10 0 (mA s 43 (8 + p)) _ (by omega) (by rw [tA_id]; exact hR1.fr (Fr.tF (fs := [71]) (gs := []) (as := []) (bs := []) Fr.rf (by decide)) (by decide)) (fun j _ => congrFun (hf1.2.2.1 55 (by decide)) j) ⟨fun v hv => absurd hv (by omega), fun v hv => absurd hv (by omega), rfl⟩
    · skip
      exact absurd (by omega) h6
end M21
