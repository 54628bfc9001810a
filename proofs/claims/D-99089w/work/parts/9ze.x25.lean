set_option maxRecDepth 100000
/-! RETOUCHED: chance, feed -/
theorem byte_and (x : Int32) : x.toInt8.toInt32 &&& nI 255 = x &&& nI 255 := by
  apply Int32.toBitVec_inj.mp
  rw [Int32.toBitVec_and, Int32.toBitVec_and]
  have h255 : (nI 255).toBitVec = 255#32 := by decide
  rw [h255, Int8.toBitVec_toInt32, Int32.toBitVec_toInt8]
  apply BitVec.eq_of_getLsbD_eq
  intro i hi
  rw [BitVec.getLsbD_and, BitVec.getLsbD_and]
  by_cases h : i < 8
  · have e : (BitVec.signExtend 32 (BitVec.signExtend 8 x.toBitVec)).getLsbD i = x.toBitVec.getLsbD i := by
      rw [BitVec.getLsbD_signExtend]
      simp only [hi, h, decide_true, Bool.true_and, if_true]
      rw [BitVec.getLsbD_signExtend]
      simp [hi, h]
    rw [e]
  · have : ∀ i : Fin 32, 8 ≤ i.val → (255#32).getLsbD i.val = false := by decide
    have hz := this ⟨i, hi⟩ (by show 8 ≤ i; omega)
    have hz : (255#32).getLsbD i = false := hz
    rw [hz, Bool.and_false, Bool.and_false]
section X25
variable {g : GC} {M : MM} {o ta : Nat} {P : Nat → Prop} {s : XS} {q : Sg} {T : Te}
theorem ct_X0_draw {d m : Nat} (hS : ShX g M o) (hd : lX s 0 19 = lI d) (hd2 : d < 2147483648) (hm : 0 < m ∧ m ≤ 100) : Ct g yX0_draw cX0_draw 2 (some Jvm.ClassFile.FieldType.int) 0 0 0 [.ref o, .int (nI m)] (putX M o s) (PQ (putX M o (uL s 0 19 (lI (lcg d)))) (.int (nI (lcg d / 64 % m)))) noX := by
  have h1 : ((1103515245 : Int) * (d : Int) + 12345).tmod 2147483648 = ((lcg d : Nat) : Int) := by
    rw [show (1103515245 : Int) * (d : Int) + 12345 = ((1103515245 * d + 12345 : Nat) : Int) by omega]
    exact (Int.ofNat_tmod _ _).symm
  have h2 : (((lcg d : Nat) : Int).tdiv 64).tmod (m : Int) = ((lcg d / 64 % m : Nat) : Int) := by
    rw [show (64 : Int) = ((64 : Nat) : Int) from rfl, ← Int.ofNat_tdiv, ← Int.ofNat_tmod]
  have hl : lcg d < 2147483648 := Nat.mod_lt _ (by decide)
  have hb : b62 (((lcg d : Nat) : Int).tdiv 64) := tdiv_b ⟨by omega, by omega⟩
  refine Ct.of (by decide) (Nat.le_of_ble_eq_true rfl) rfl ?_
  refine r_ald0 (pc := 0) dX0_draw_0 ?_
  refine r_ldc2 (v := lI (1103515245)) (pc := 1) dX0_draw_1 q1517 ?_
  refine r_ald0 (pc := 4) dX0_draw_4 ?_
  refine x_getL (c := 0) hS ow_0 kd_0 (pc := 5) dX0_draw_5 fl_X0_97 ?_
  refine Bd.eqL hd ?_
  first | refine r_lmulI (pc := 8) dX0_draw_8 ?_ | refine r_lmul (pc := 8) dX0_draw_8 ?_
  refine r_ldc2 (v := lI (12345)) (pc := 9) dX0_draw_9 q1518 ?_
  first | refine r_laddI (pc := 12) dX0_draw_12 ?_ | refine r_ladd (pc := 12) dX0_draw_12 ?_
  refine r_ldc2 (v := lI (2147483648)) (pc := 13) dX0_draw_13 q1519 ?_
  first | refine r_lremI (pc := 16) dX0_draw_16 (by omega) (by constructor <;> omega) (by constructor <;> omega) ?_ | refine r_lrem (pc := 16) dX0_draw_16 (by first | assumption | decide) ?_
  refine Bd.eqL (x' := lI (lcg d : Int)) (by rw [h1]) ?_
  refine x_putL (c := 0) hS ow_0 kd_0 (pc := 17) dX0_draw_17 fl_X0_97 fw_X0_19 ?_
  refine r_ald0 (pc := 20) dX0_draw_20 ?_
  refine x_getL (c := 0) hS ow_0 kd_0 (pc := 21) dX0_draw_21 fl_X0_97 ?_
  refine Bd.eqL (x' := lI (lcg d : Int)) lX_uLs ?_
  refine r_ldc2 (v := lI (64)) (pc := 24) dX0_draw_24 q1520 ?_
  first | refine r_ldivI (pc := 27) dX0_draw_27 (by omega) (by constructor <;> omega) (by constructor <;> omega) ?_ | refine r_ldiv (pc := 27) dX0_draw_27 (by first | assumption | decide) ?_
  refine r_ild1 (pc := 28) dX0_draw_28 ?_
  first | refine r_i2lM (pc := 29) dX0_draw_29 (by omega) ?_ | refine r_i2lI (pc := 29) dX0_draw_29 (by constructor <;> omega) ?_ | refine r_i2lT (pc := 29) dX0_draw_29 ?_
  refine r_lremI (pc := 30) dX0_draw_30 (by omega) hb (by constructor <;> omega) ?_
  rw [h2]
  first | refine r_l2iN (pc := 31) dX0_draw_31 ?_ | refine r_l2iI (pc := 31) dX0_draw_31 ?_ | refine r_l2i (pc := 31) dX0_draw_31 ?_
  refine r_iret (pc := 32) dX0_draw_32 ?_
  exact ⟨rfl, rfl⟩
/-- what chance has done so far -/
def CPX (g : GC) (M : MM) (o : Nat) (P : Nat → Prop) (ta : Nat) (T : Te) (s : XS) (x : St × List Ev × Nat × Nat) (s' : XS) : Prop := WS g M o P ta T s' ∧ SX s' 12 (tn T) (fa T) (ki T) x.1 ∧ RX s' o 12 x.2.1 ∧ lX s' 0 19 = lI x.2.2.1 ∧ FrX (fun c => yP 12 c ∨ c = 0) s s' ∧ iX s' 0 = iX s 0 ∧ rX s' 0 = rX s 0
theorem slipX_1 {x : St × List Ev × Nat × Nat} (h : lcg x.2.2.1 / 64 % 100 < sl T ∧ 0 < tn T) : slipS T x = ((yearS T (sLk x.1 (lcg (lcg x.2.2.1) / 64 % tn T) (lcg (lcg (lcg x.2.2.1)) / 64 % 100))).1, pushes x.2.1 (yearS T (sLk x.1 (lcg (lcg x.2.2.1) / 64 % tn T) (lcg (lcg (lcg x.2.2.1)) / 64 % 100))).2, lcg (lcg (lcg x.2.2.1)), x.2.2.2 + 1) := if_pos h

theorem slipX_0 {x : St × List Ev × Nat × Nat} (h : ¬ (lcg x.2.2.1 / 64 % 100 < sl T ∧ 0 < tn T)) : slipS T x = ((yearS T x.1).1, pushes x.2.1 (yearS T x.1).2, lcg x.2.2.1, x.2.2.2) := if_neg h
theorem CPX.pass {s1 s2 : XS} {t : St} {L : List Ev} {d c : Nat} (h : FrX (fun c => yP 12 c ∨ c = 0) s s1) (hi : iX s1 0 = iX s 0) (hr : rX s1 0 = rX s 0) (hl : lX s1 0 19 = lI d) (hQ : YrQ g M o P ta T 12 s1 t L s2) : CPX g M o P ta T s (t, L, d, c) s2 := by
  have h0 : ¬ yP 12 0 := by unfold yP stP; omega
  exact ⟨hQ.1, hQ.2.1, hQ.2.2.1, by rw [hQ.2.2.2.2.1 0 h0]; exact hl, h.trans (hQ.2.2.2.mono (fun c hc => Or.inl hc)), by rw [hQ.2.2.2.1 0 h0]; exact hi, by rw [hQ.2.2.2.2.2 0 h0]; exact hr⟩
theorem xslipLoop {res : St × List Ev × Nat × Nat} {m : Nat} (S : SoX M P ta T) (hm : m ≤ 1000) :
    ∀ (k i : Nat) (s1 : XS) (x : St × List Ev × Nat × Nat) (x4 : Option Value), i + k = m → CPX g M o P ta T s x s1 → SB (tn T) x.1 → x.2.2.1 < 2147483648 → yr x.1 + k ≤ 2000 → slipsS T k x = res →
    Bd g yX0_chance cX0_chance 5 (some Jvm.ClassFile.FieldType.int) [] 433 0 0 (putX M o s1) 25 [some (.ref o), some (.int (nI m)), some (.int (nI x.2.2.2)), some (.int (nI i)), x4] [] (QX M o (fun v s' => v = some (.int (nI res.2.2.2)) ∧ CPX g M o P ta T s res s')) noX := by
  intro k
  induction k with
  | zero =>
    intro i s1 x x4 hi hC hB hsd hy hr
    have hr : x = res := hr
    subst hr
    have hS := hC.1.S
    refine r_ild3 (pc := 25) dX0_chance_25 ?_
    refine r_ild1 (pc := 26) dX0_chance_26 ?_
    first | refine r_icmp_geN (pc := 27) (tgt := 96) dX0_chance_27 (by decide) (by omega) (by omega) (fun h27 => ?_) (fun h27 => ?_) | refine r_icmp_ge (pc := 27) (tgt := 96) dX0_chance_27 (by decide) (fun h27 => ?_) (fun h27 => ?_)
    · skip
      refine r_ild2 (pc := 96) dX0_chance_96 ?_
      refine r_iret (pc := 97) dX0_chance_97 ?_
      exact ⟨s1, rfl, rfl, hC⟩
    · skip
      exact absurd h27 (by omega)
  | succ k ih =>
    intro i s1 x x4 hi hC hB hsd hy hr
    have hr : slipsS T k (slipS T x) = res := hr
    obtain ⟨W, hN, hR, hl, hF, hi0, hr0⟩ := hC
    have hg := W.gx
    have hS := W.S
    have hX := W.X
    have hn8 := W.B.1
    have hsl := W.B.2.2.2.2
    obtain ⟨t0, t1, t2, -⟩ := W.2.2.2.2.2.1
    have hmod1 : lcg x.2.2.1 / 64 % 100 < 100 := Nat.mod_lt _ (by decide)
    have hIs : ∀ s', mI (putX M o s') ta 2 = nI (sl T) := fun s' => (mI_putXn (W.2.2.2.1 ta t0)).trans S.1
    have W1 : WS g M o P ta T (uL s1 0 19 (lI (lcg x.2.2.1))) := W.rx rfl (W.m.upc (by decide))
    have hN1 : SX (uL s1 0 19 (lI (lcg x.2.2.1))) 12 (tn T) (fa T) (ki T) x.1 := hN
    have hR1 : RX (uL s1 0 19 (lI (lcg x.2.2.1))) o 12 x.2.1 := hR
    have hF1 : FrX (fun c => yP 12 c ∨ c = 0) s (uL s1 0 19 (lI (lcg x.2.2.1))) := hF.uL (Or.inr rfl)
    have hno : ∀ x4, ¬ (lcg x.2.2.1 / 64 % 100 < sl T ∧ 0 < tn T) → Bd g yX0_chance cX0_chance 5 (some Jvm.ClassFile.FieldType.int) [] 433 0 0 (putX M o (uL s1 0 19 (lI (lcg x.2.2.1)))) 82 [some (.ref o), some (.int (nI m)), some (.int (nI x.2.2.2)), some (.int (nI i)), x4] [] (QX M o (fun v s' => v = some (.int (nI res.2.2.2)) ∧ CPX g M o P ta T s res s')) noX := by
      intro x4 hne
      rw [slipX_0 hne] at hr
      refine r_ald0 (pc := 82) dX0_chance_82 ?_
      refine x_getR (c := 0) hS ow_0 kd_0 (pc := 83) dX0_chance_83 fl_X0_69 (fx_0_9 hX) ?_
      refine r_cV (pc := 86) dX0_chance_86 cv_X0_247 (hS.k (c := 12) (st_ow isS_12) (st_kd isS_12)) (ct_X5_passes W1 isS_12 hN1 hR1 hB (by omega)) rfl rfl (Nat.le_of_ble_eq_true rfl) (by first | decide | omega) ?_
      rintro _ _ ⟨s2, rfl, rfl, hQ⟩
      refine r_pop (pc := 89) dX0_chance_89 rfl ?_
      first | refine r_iinc3N (j := 1) (pc := 90) dX0_chance_90 rfl ?_ | refine r_iinc3 (pc := 90) dX0_chance_90 ?_
      refine r_goto (pc := 93) (tgt := 25) dX0_chance_93 (by decide) ?_
      exact ih (i + 1) s2 ((yearS T x.1).1, pushes x.2.1 (yearS T x.1).2, lcg x.2.2.1, x.2.2.2) _ (by omega) (CPX.pass hF1 hi0 hr0 lX_uLs hQ) (yearS_SB hB (by omega)) (lcg_lt _) (by show yr (yearS T x.1).1 + k ≤ 2000; rw [yearS_yr]; omega) hr
    refine r_ild3 (pc := 25) dX0_chance_25 ?_
    refine r_ild1 (pc := 26) dX0_chance_26 ?_
    first | refine r_icmp_geN (pc := 27) (tgt := 96) dX0_chance_27 (by decide) (by omega) (by omega) (fun h27 => ?_) (fun h27 => ?_) | refine r_icmp_ge (pc := 27) (tgt := 96) dX0_chance_27 (by decide) (fun h27 => ?_) (fun h27 => ?_)
    · skip
      exact absurd h27 (by omega)
    · skip
      refine r_ald0 (pc := 30) dX0_chance_30 ?_
      refine r_bipush (v := nI 100) (pc := 31) dX0_chance_31 (by decide) ?_
      refine r_cV (pc := 33) dX0_chance_33 cv_X0_297 (hS.k (c := 0) ow_0 kd_0) (ct_X0_draw hS hl hsd (by decide)) rfl rfl (Nat.le_of_ble_eq_true rfl) (by first | decide | omega) ?_
      rintro _ _ ⟨rfl, rfl⟩
      refine r_ald0 (pc := 36) dX0_chance_36 ?_
      refine x_getR (c := 0) hS ow_0 kd_0 (pc := 37) dX0_chance_37 fl_X0_31 W1.ht ?_
      refine r_getIN (pc := 40) dX0_chance_40 (fn_X0_300 hg) t1 ?_
      refine Bd.eqI (hIs _) ?_
      first | refine r_icmp_geN (pc := 43) (tgt := 82) dX0_chance_43 (by decide) (by omega) (by omega) (fun h43 => ?_) (fun h43 => ?_) | refine r_icmp_ge (pc := 43) (tgt := 82) dX0_chance_43 (by decide) (fun h43 => ?_) (fun h43 => ?_)
      · skip
        exact hno _ (fun h => absurd h.1 (by omega))
        skip
      · skip
        refine r_ald0 (pc := 46) dX0_chance_46 ?_
        refine r_cV (pc := 47) dX0_chance_47 cv_X0_158 (hS.k (c := 0) ow_0 kd_0) (ct_X0_people W1 S) rfl rfl (Nat.le_of_ble_eq_true rfl) (by first | decide | omega) ?_
        rintro _ _ ⟨rfl, rfl⟩
        refine r_if_leN (pc := 50) (tgt := 82) dX0_chance_50 (by decide) (by omega) (fun h50 => ?_) (fun h50 => ?_)
        · skip
          exact hno _ (fun h => absurd h.2 (by omega))
          skip
        · skip
          have hmod : lcg (lcg x.2.2.1) / 64 % tn T < tn T := Nat.mod_lt _ (by omega)
          have hmod2 : lcg (lcg (lcg x.2.2.1)) / 64 % 100 < 100 := Nat.mod_lt _ (by omega)
          rw [slipX_1 ⟨by omega, by omega⟩] at hr
          refine r_ald0 (pc := 53) dX0_chance_53 ?_
          refine r_ald0 (pc := 54) dX0_chance_54 ?_
          refine r_cV (pc := 55) dX0_chance_55 cv_X0_158 (hS.k (c := 0) ow_0 kd_0) (ct_X0_people W1 S) rfl rfl (Nat.le_of_ble_eq_true rfl) (by first | decide | omega) ?_
          rintro _ _ ⟨rfl, rfl⟩
          refine r_cV (pc := 58) dX0_chance_58 cv_X0_297 (hS.k (c := 0) ow_0 kd_0) (ct_X0_draw (d := lcg x.2.2.1) hS lX_uLs (lcg_lt _) ⟨by omega, by omega⟩) rfl rfl (Nat.le_of_ble_eq_true rfl) (by first | decide | omega) ?_
          rintro _ _ ⟨rfl, rfl⟩
          refine r_ist4 (pc := 61) dX0_chance_61 ?_
          refine r_ald0 (pc := 63) dX0_chance_63 ?_
          refine x_getR (c := 0) hS ow_0 kd_0 (pc := 64) dX0_chance_64 fl_X0_69 (fx_0_9 hX) ?_
          refine x_getRN (c := 12) hS (st_ow isS_12) (st_kd isS_12) (pc := 67) dX0_chance_67 (fn_X0_174 hg) (fs_4 hX isS_12) ?_
          refine r_ild4 (pc := 70) dX0_chance_70 ?_
          refine r_ald0 (pc := 72) dX0_chance_72 ?_
          refine r_bipush (v := nI 100) (pc := 73) dX0_chance_73 (by decide) ?_
          refine r_cV (pc := 75) dX0_chance_75 cv_X0_297 (hS.k (c := 0) ow_0 kd_0) (ct_X0_draw (d := lcg (lcg x.2.2.1)) hS lX_uLs (lcg_lt _) (by decide)) rfl rfl (Nat.le_of_ble_eq_true rfl) (by first | decide | omega) ?_
          rintro _ _ ⟨rfl, rfl⟩
          refine x_iast (c := (12 + 2)) hS (st_ow2 isS_12) (st_kd2 isS_12) (st_ln2 isS_12) (pc := 78) dX0_chance_78 (by omega) (by omega) ?_
          first | refine r_iinc2N (j := 1) (pc := 79) dX0_chance_79 rfl ?_ | refine r_iinc2 (pc := 79) dX0_chance_79 ?_
          have hB3 : SB (tn T) (sLk x.1 (lcg (lcg x.2.2.1) / 64 % tn T) (lcg (lcg (lcg x.2.2.1)) / 64 % 100)) := sLk_SB hB (by omega)
          have m1 := W.m.upc (c' := 0) (k := 19) (v := lI (lcg x.2.2.1)) (by decide)
          have m2 := m1.upc (c' := 0) (k := 19) (v := lI (lcg (lcg x.2.2.1))) (by decide)
          have m3 := m2.upc (c' := 0) (k := 19) (v := lI (lcg (lcg (lcg x.2.2.1)))) (by decide)
          have W3 : WS g M o P ta T (uI (uL (uL (uL s1 0 19 (lI (lcg x.2.2.1))) 0 19 (lI (lcg (lcg x.2.2.1)))) 0 19 (lI (lcg (lcg (lcg x.2.2.1))))) (12 + 2) (lcg (lcg x.2.2.1) / 64 % tn T) (nI (lcg (lcg (lcg x.2.2.1)) / 64 % 100))) := (W.rx (s' := uL (uL (uL s1 0 19 (lI (lcg x.2.2.1))) 0 19 (lI (lcg (lcg x.2.2.1)))) 0 19 (lI (lcg (lcg (lcg x.2.2.1))))) rfl m3).uI
          have hN3 := SX.look (p := lcg (lcg x.2.2.1) / 64 % tn T) (v := lcg (lcg (lcg x.2.2.1)) / 64 % 100) (show SX (uL (uL (uL s1 0 19 (lI (lcg x.2.2.1))) 0 19 (lI (lcg (lcg x.2.2.1)))) 0 19 (lI (lcg (lcg (lcg x.2.2.1))))) 12 (tn T) (fa T) (ki T) x.1 from hN)
          have hR3 : RX (uI (uL (uL (uL s1 0 19 (lI (lcg x.2.2.1))) 0 19 (lI (lcg (lcg x.2.2.1)))) 0 19 (lI (lcg (lcg (lcg x.2.2.1))))) (12 + 2) (lcg (lcg x.2.2.1) / 64 % tn T) (nI (lcg (lcg (lcg x.2.2.1)) / 64 % 100))) o 12 x.2.1 := RX.uI (s := uL (uL (uL s1 0 19 (lI (lcg x.2.2.1))) 0 19 (lI (lcg (lcg x.2.2.1)))) 0 19 (lI (lcg (lcg (lcg x.2.2.1))))) hR (by omega)
          have hF3 : FrX (fun c => yP 12 c ∨ c = 0) s (uI (uL (uL (uL s1 0 19 (lI (lcg x.2.2.1))) 0 19 (lI (lcg (lcg x.2.2.1)))) 0 19 (lI (lcg (lcg (lcg x.2.2.1))))) (12 + 2) (lcg (lcg x.2.2.1) / 64 % tn T) (nI (lcg (lcg (lcg x.2.2.1)) / 64 % 100))) := (((hF.uL (Or.inr rfl)).uL (Or.inr rfl)).uL (Or.inr rfl)).uI (Or.inl (Or.inl ⟨by omega, by omega⟩))
          refine r_ald0 (pc := 82) dX0_chance_82 ?_
          refine x_getR (c := 0) hS ow_0 kd_0 (pc := 83) dX0_chance_83 fl_X0_69 (fx_0_9 hX) ?_
          refine r_cV (pc := 86) dX0_chance_86 cv_X0_247 (hS.k (c := 12) (st_ow isS_12) (st_kd isS_12)) (ct_X5_passes W3 isS_12 hN3 hR3 hB3 (by show yr x.1 < 2000; omega)) rfl rfl (Nat.le_of_ble_eq_true rfl) (by decide) ?_
          rintro _ _ ⟨s2, rfl, rfl, hQ⟩
          refine r_pop (pc := 89) dX0_chance_89 rfl ?_
          refine r_iinc3N (j := 1) (pc := 90) dX0_chance_90 rfl ?_
          refine r_goto (pc := 93) (tgt := 25) dX0_chance_93 (by decide) ?_
          exact ih (i + 1) s2 ((yearS T (sLk x.1 (lcg (lcg x.2.2.1) / 64 % tn T) (lcg (lcg (lcg x.2.2.1)) / 64 % 100))).1, pushes x.2.1 (yearS T (sLk x.1 (lcg (lcg x.2.2.1) / 64 % tn T) (lcg (lcg (lcg x.2.2.1)) / 64 % 100))).2, lcg (lcg (lcg x.2.2.1)), x.2.2.2 + 1) _ (by omega) (CPX.pass hF3 (by rw [← hi0]; funext j; rw [iX_c (by omega)]; rfl) hr0 (by rw [lX_uI]; exact lX_uLs) hQ) (yearS_SB hB3 (by show yr x.1 < 2000; omega)) (lcg_lt _) (by show yr (yearS T _).1 + k ≤ 2000; rw [yearS_yr]; show yr x.1 + 1 + k ≤ 2000; omega) hr
theorem CPX.I {s1 : XS} {x : St × List Ev × Nat × Nat} (h : CPX g M o P ta (gT q) s x s1) (hI : IX g M o P ta s (keepU q)) (hG : GI (keepU q)) : IX g M o P ta s1 (uSd (uNw (keepU q) (x.1, x.2.1)) x.2.2.1) := by
  obtain ⟨W, hN, hR, hl, hF, hi0, hr0⟩ := h
  have hI2 : IX g M o P ta (uL s 0 19 (lI x.2.2.1)) (uSd (keepU q) x.2.2.1) := by
    obtain ⟨w1, w2, a1, a2, a3, a4, a5, a6, a7, a8, a9, a10⟩ := hI
    exact ⟨w1.rx rfl (w1.m.upc (by decide)), w2, a1, a2, a3, a4, a5, a6, a7, lX_uLs, a9, a10.upc (by decide)⟩
  have hG2 : GI (uSd (keepU q) x.2.2.1) ∨ True := Or.inr trivial
  have hF2 : FrX (fun c => yP 12 c ∨ c = 0) (uL s 0 19 (lI x.2.2.1)) s1 := ⟨hF.1, fun c hc => by rw [hF.2.1 c hc]; funext j; rw [lX_uLc (fun z => hc (Or.inr z))], hF.2.2⟩
  obtain ⟨w1, w2, a1, a2, a3, a4, a5, a6, a7, a8, a9, a10⟩ := hI2
  have hn : tn (gT q) ≤ 8 := w1.B.1
  have hy : ∀ c, (yP 12 c ∨ c = 0) → c = 0 ∨ c = 8 ∨ (12 ≤ c ∧ c < 68) := fun c hc => by unfold yP stP at hc; omega
  have ri : ∀ R : Nat → Nat → Prop, (∀ c j, R c j → ¬ (c = 8 ∨ (12 ≤ c ∧ c < 68))) → Ag R (uL s 0 19 (lI x.2.2.1)) s1 := fun R hR c j r => by
    by_cases e : c = 0
    · subst e; rw [hi0]; rfl
    · rw [hF2.1 c (fun z => by have := hy c z; have := hR c j r; omega)]
  have hr : ∀ c, ¬ (c = 8 ∨ (12 ≤ c ∧ c < 68)) → rX s1 c = rX s c := fun c hc => by
    by_cases e : c = 0
    · subst e; exact hr0
    · exact hF2.2.2 c (fun z => by have := hy c z; omega)
  refine ⟨W, w2, a1.fr (ri _ (by unfold rTp; intros; omega)), a2.fr (ri _ (by unfold rFt; intros; omega)), a3.fr (ri _ (by unfold rRf; intros; omega)), ⟨hN, hR⟩, a5.fr hn hG.2.2.2.2.2.2.2.1 (ri _ (by unfold rUn; intros; omega)) (fun c j h1 h2 => by rw [hr c (by omega)]; rfl), fun b hb => ?_, a7.fr (ri _ (by unfold rRw; intros; omega)), hl, a9.fr (ri _ (by unfold rOu; intros; omega)), fun k hk => ?_⟩
  · by_cases e : b = 12
    · subst e; obtain ⟨pm, hp, -⟩ := hR; exact ⟨pm, hp⟩
    · have := isS_c hb
      obtain ⟨pm, p1, p2⟩ := a6 b hb
      exact ⟨pm, fun j hj => ⟨(p1 j hj).1, by rw [hr (b + 15) (by omega)]; exact (p1 j hj).2⟩, p2⟩
  · rw [hF2.2.1 10 (fun z => by have := hy _ z; omega)]; exact a10 k hk
theorem px_chance {x : Int32} (hI : IX g M o P ta s q) (hG : GI q) (hGk : GI (keepU q)) : Ct g yX0_chance cX0_chance 5 (some Jvm.ClassFile.FieldType.int) 433 0 0 [.ref o, .int x] (putX M o s) (QI g M o P ta (chanceQ q x).2 (.int (chanceQ q x).1)) noX := by
  have W := hI.W
  have S := hI.So
  have hg := W.gx
  have hS := W.S
  have hX := W.X
  have hTB := W.B
  have hn8 := hTB.1
  have hH9 := hTB.2.1
  have hN := hI.nw.1
  have hR := hI.nw.2
  have hB : SB (tn (gT q)) (gS q) := hG.2.2.2.2.2.1.1
  have hy : yr (gS q) ≤ 999 := hG.2.2.2.2.2.1.2.1
  have hsd : gSd q < 2147483648 := hG.2.2.2.2.2.2.2.2.2.2.1
  refine Ct.of (by decide) (Nat.le_of_ble_eq_true rfl) rfl ?_
  unfold chanceQ
  by_cases hit : gIt q = true
  · have hH : 0 < tH (gT q) := by have := hG.2.2.2.2.1 hit; omega
    simp only [if_pos hit]
    cases hr : ahd (gS q) x 1 100 with
    | none =>
      have hr := ahd_none hr
      refine r_ald0 (pc := 0) dX0_chance_0 ?_
      refine r_ild1 (pc := 1) dX0_chance_1 ?_
      refine r_iconst (v := nI 1) (pc := 2) dX0_chance_2 (by decide) ?_
      refine r_bipush (v := nI 100) (pc := 3) dX0_chance_3 (by decide) ?_
      refine r_cV (pc := 5) dX0_chance_5 cv_X0_236 (hS.k (c := 0) ow_0 kd_0) (ct_X0_isAhead W hN.1 hB.1 (by decide) (by decide)) rfl rfl (Nat.le_of_ble_eq_true rfl) (by first | decide | omega) ?_
      rintro _ _ ⟨rfl, rfl⟩
      first | refine r_if_neZ (pc := 8) (tgt := 17) dX0_chance_8 (by decide) (fun h8 => ?_) (fun h8 => ?_) | refine r_if_neN (pc := 8) (tgt := 17) dX0_chance_8 (by decide) (by omega) (fun h8 => ?_) (fun h8 => ?_) | refine r_if_ne (pc := 8) (tgt := 17) dX0_chance_8 (by decide) (fun h8 => ?_) (fun h8 => ?_)
      · skip
        exact absurd h8.2 hr
      · skip
        refine r_ald0 (pc := 11) dX0_chance_11 ?_
        refine r_iconst (v := nI 3) (pc := 12) dX0_chance_12 (by decide) ?_
        refine r_cV (pc := 13) dX0_chance_13 cv_X0_107 (hS.k (c := 0) ow_0 kd_0) (ct_X0_refuses hS hX (by decide)) rfl rfl (Nat.le_of_ble_eq_true rfl) (by first | decide | omega) ?_
        rintro _ _ ⟨rfl, rfl⟩
        refine r_iret (pc := 16) dX0_chance_16 ?_
        exact ⟨_, rfl, rfl, hI.ref hG (by decide)⟩
    | some n =>
      obtain ⟨n1, n2, n3, rfl⟩ := ahd_some hr
      refine r_ald0 (pc := 0) dX0_chance_0 ?_
      refine r_ild1 (pc := 1) dX0_chance_1 ?_
      refine r_iconst (v := nI 1) (pc := 2) dX0_chance_2 (by decide) ?_
      refine r_bipush (v := nI 100) (pc := 3) dX0_chance_3 (by decide) ?_
      refine r_cV (pc := 5) dX0_chance_5 cv_X0_236 (hS.k (c := 0) ow_0 kd_0) (ct_X0_isAhead W hN.1 hB.1 (by decide) (by decide)) rfl rfl (Nat.le_of_ble_eq_true rfl) (by first | decide | omega) ?_
      rintro _ _ ⟨rfl, rfl⟩
      first | refine r_if_neZ (pc := 8) (tgt := 17) dX0_chance_8 (by decide) (fun h8 => ?_) (fun h8 => ?_) | refine r_if_neN (pc := 8) (tgt := 17) dX0_chance_8 (by decide) (by omega) (fun h8 => ?_) (fun h8 => ?_) | refine r_if_ne (pc := 8) (tgt := 17) dX0_chance_8 (by decide) (fun h8 => ?_) (fun h8 => ?_)
      · skip
        refine r_ald0 (pc := 17) dX0_chance_17 ?_
        refine r_cV (pc := 18) dX0_chance_18 cv_X0_287 (hS.k (c := 0) ow_0 kd_0) (ct_X0_keeps hI hG) rfl rfl (Nat.le_of_ble_eq_true rfl) (by first | decide | omega) ?_
        rintro _ _ ⟨s1, rfl, rfl, hI1⟩
        refine r_iconst (v := nI 0) (pc := 21) dX0_chance_21 (by decide) ?_
        refine r_ist2 (pc := 22) dX0_chance_22 ?_
        refine r_iconst (v := nI 0) (pc := 23) dX0_chance_23 (by decide) ?_
        refine r_ist3 (pc := 24) dX0_chance_24 ?_
        refine Bd.post ?_ (fun _ _ h => h) (xslipLoop (s := s1) (T := gT q) hI1.So (by omega) n 0 s1 (gS q, gK q, gSd q, 0) none (by omega) ⟨hI1.W, hI1.nw.1, hI1.nw.2, hI1.sd, FrX.rf, rfl, rfl⟩ hB hsd (by show yr (gS q) + n ≤ 2000; omega) rfl)
        rintro _ _ ⟨s2, rfl, rfl, hC⟩
        exact ⟨s2, rfl, rfl, hC.I hI1 hGk⟩
      · skip
        exact absurd (by rw [nI_toInt (by omega)]; omega) h8
  · have hH : tH (gT q) = 0 := (hG.2.2.2.1 (by simpa using hit)).1
    simp only [if_neg hit]
    refine r_ald0 (pc := 0) dX0_chance_0 ?_
    refine r_ild1 (pc := 1) dX0_chance_1 ?_
    refine r_iconst (v := nI 1) (pc := 2) dX0_chance_2 (by decide) ?_
    refine r_bipush (v := nI 100) (pc := 3) dX0_chance_3 (by decide) ?_
    refine r_cV (pc := 5) dX0_chance_5 cv_X0_236 (hS.k (c := 0) ow_0 kd_0) (ct_X0_isAhead W hN.1 hB.1 (by decide) (by decide)) rfl rfl (Nat.le_of_ble_eq_true rfl) (by first | decide | omega) ?_
    rintro _ _ ⟨rfl, rfl⟩
    first | refine r_if_neZ (pc := 8) (tgt := 17) dX0_chance_8 (by decide) (fun h8 => ?_) (fun h8 => ?_) | refine r_if_neN (pc := 8) (tgt := 17) dX0_chance_8 (by decide) (by omega) (fun h8 => ?_) (fun h8 => ?_) | refine r_if_ne (pc := 8) (tgt := 17) dX0_chance_8 (by decide) (fun h8 => ?_) (fun h8 => ?_)
    · skip
      exact absurd h8.1 (by omega)
    · skip
      refine r_ald0 (pc := 11) dX0_chance_11 ?_
      refine r_iconst (v := nI 3) (pc := 12) dX0_chance_12 (by decide) ?_
      refine r_cV (pc := 13) dX0_chance_13 cv_X0_107 (hS.k (c := 0) ow_0 kd_0) (ct_X0_refuses hS hX (by decide)) rfl rfl (Nat.le_of_ble_eq_true rfl) (by first | decide | omega) ?_
      rintro _ _ ⟨rfl, rfl⟩
      refine r_iret (pc := 16) dX0_chance_16 ?_
      exact ⟨_, rfl, rfl, hI.ref hG (by decide)⟩
/-- bytes put behind the tape's end -/
def PtX (s : XS) (td k : Nat) (f : Nat → Nat) (s' : XS) : Prop := iX s' 0 2 = nI (td + k) ∧ (∀ j, iX s' 4 j &&& nI 255 = if td ≤ j ∧ j < td + k then nI (f (j - td)) else iX s 4 j &&& nI 255) ∧ rX s' = rX s ∧ lX s' = lX s ∧ (∀ c j, ¬ (c = 0 ∧ j = 2) → c ≠ 4 → iX s' c j = iX s c j) ∧ ∀ j, bR (iX s 4 j) → bR (iX s' 4 j)
theorem bR_nar (x : Int32) : bR (x.toInt8.toInt32) := by unfold bR; simp
theorem xputOne {w : Int32} {td j : Nat} {y : Int32} {s1 : XS} {Q : Option Value → MM → Prop} (hS : ShX g M o) (hX : FxX (rX s) o) (hj : j < 4) (htd : td + 4 ≤ 1600) (hP : PtX s td j (bytN w) s1) (hy : nI (8 * (3 - j)) + Int32.ofInt (-8) = y) (K : ∀ s2, PtX s td (j + 1) (bytN w) s2 → Bd g yX0_put cX0_put 3 none [] 0 0 0 (putX M o s2) 3 [some (.ref o), some (.int w), some (.int y)] [] Q noX) :
    Bd g yX0_put cX0_put 3 none [] 0 0 0 (putX M o s1) 3 [some (.ref o), some (.int w), some (.int (nI (8 * (3 - j))))] [] Q noX := by
  obtain ⟨h1, h2, h3, h4, h5, hB⟩ := hP
  have hX : FxX (rX s1) o := by rw [h3]; exact hX
  refine r_ild2 (pc := 3) dX0_put_3 ?_
  refine r_if_lt (pc := 4) (tgt := 33) dX0_put_4 (by decide) (fun h4 => ?_) (fun h4 => ?_)
  · skip
    exact absurd h4 (fun z => nI_in' (n := 8 * (3 - j) + 1) (j := 8 * (3 - j)) (by omega) (by omega) (Or.inl z))
  · skip
    refine r_ald0 (pc := 7) dX0_put_7 ?_
    refine x_getR (c := 0) hS ow_0 kd_0 (pc := 8) dX0_put_8 fl_X0_35 (fx_0_1 hX) ?_
    refine r_ald0 (pc := 11) dX0_put_11 ?_
    refine r_dup (pc := 12) dX0_put_12 rfl ?_
    refine x_getI (c := 0) hS ow_0 kd_0 (pc := 13) dX0_put_13 fl_X0_104 ?_
    rw [h1]
    refine r_dup_x1 (pc := 16) dX0_put_16 rfl rfl ?_
    refine r_iconst (v := nI 1) (pc := 17) dX0_put_17 (by decide) ?_
    first | refine r_iaddN (pc := 18) dX0_put_18 ?_ | refine r_iaddJ (pc := 18) dX0_put_18 ?_ | refine r_iadd (pc := 18) dX0_put_18 ?_
    refine x_putI (c := 0) hS ow_0 kd_0 (pc := 19) dX0_put_19 fl_X0_104 fw_X0_2 rfl rfl ?_
    refine r_ild1 (pc := 22) dX0_put_22 ?_
    refine r_ild2 (pc := 23) dX0_put_23 ?_
    refine r_ishr (pc := 24) dX0_put_24 ?_
    refine r_i2b (pc := 25) dX0_put_25 ?_
    refine x_bast (c := 4) hS ow_4 kd_4 ln_4 (pc := 26) dX0_put_26 (by omega) (by omega) ?_
    refine r_iinc2 (pc := 27) dX0_put_27 ?_
    refine r_goto (pc := 30) (tgt := 3) dX0_put_30 (by decide) ?_
    refine Bd.eqlv (lv' := [some (.ref o), some (.int w), some (.int y)]) (by rw [← hy]) ?_
    refine K _ ⟨?_, fun i => ?_, h3, by assumption, fun c i hc1 hc2 => ?_, fun i hi => ?_⟩
    · rw [iX_c (by decide), iX_s]; rfl
    · rw [iX_uI]
      by_cases e : i = td + j
      · rw [if_pos ⟨rfl, e⟩, if_pos (by omega), vp_nar_byte, byte_and, byte_and, byt_ok w hj, show i - td = j by omega]
      · rw [if_neg (fun z => e z.2), iX_c (by decide), h2 i]
        by_cases e2 : td ≤ i ∧ i < td + j
        · rw [if_pos e2, if_pos (by omega)]
        · rw [if_neg e2, if_neg (by omega)]
    · rw [iX_c hc2, iX_uI, if_neg hc1]; exact h5 c i hc1 hc2
    · rw [iX_uI]
      by_cases e : i = td + j
      · rw [if_pos ⟨rfl, e⟩, vp_nar_byte]; exact bR_nar _
      · rw [if_neg (fun z => e z.2), iX_c (by decide)]; exact hB i hi
theorem ct_X0_put {w : Int32} {td : Nat} (hS : ShX g M o) (hX : FxX (rX s) o) (htd : td + 4 ≤ 1600) (h1 : iX s 0 2 = nI td) : Ct g yX0_put cX0_put 3 none 0 0 0 [.ref o, .int w] (putX M o s) (QX M o (fun v s' => v = none ∧ PtX s td 4 (bytN w) s')) noX := by
  refine Ct.of (by decide) (Nat.le_of_ble_eq_true rfl) rfl ?_
  refine r_bipush (v := nI 24) (pc := 0) dX0_put_0 (by decide) ?_
  refine r_ist2 (pc := 2) dX0_put_2 ?_
  refine xputOne (j := 0) hS hX (by decide) htd ⟨h1, fun i => by rw [if_neg (by omega)], rfl, rfl, fun _ _ _ _ => rfl, fun _ h => h⟩ (y := nI (8 * (3 - 1))) (by decide) (fun s1 p1 => ?_)
  refine xputOne (j := 1) hS hX (by decide) htd p1 (y := nI (8 * (3 - 2))) (by decide) (fun s2 p2 => ?_)
  refine xputOne (j := 2) hS hX (by decide) htd p2 (y := nI (8 * (3 - 3))) (by decide) (fun s3 p3 => ?_)
  refine xputOne (j := 3) hS hX (by decide) htd p3 (y := -8) (by decide) (fun s4 p4 => ?_)
  refine r_ild2 (pc := 3) dX0_put_3 ?_
  refine r_if_lt (pc := 4) (tgt := 33) dX0_put_4 (by decide) (fun h4 => ?_) (fun h4 => absurd (by decide) h4)
  exact r_vret (pc := 33) dX0_put_33 ⟨s4, rfl, rfl, p4⟩
theorem PtX.app {td k : Nat} {f : Nat → Nat} {w : Int32} {s1 s2 : XS} (h : PtX s td k f s1) (h' : PtX s1 (td + k) 4 (bytN w) s2) : PtX s td (k + 4) (fun i => if i < k then f i else bytN w (i - k)) s2 := by
  obtain ⟨a1, a2, a3, a4, a5, a6⟩ := h
  obtain ⟨b1, b2, b3, b4, b5, b6⟩ := h'
  refine ⟨by rw [b1, Nat.add_assoc], fun j => ?_, b3.trans a3, b4.trans a4, fun c j h1 h2 => (b5 c j h1 h2).trans (a5 c j h1 h2), fun j h => b6 j (a6 j h)⟩
  rw [b2 j, a2 j]
  by_cases e1 : td + k ≤ j ∧ j < td + k + 4
  · rw [if_pos e1, if_pos (by omega)]
    show _ = nI (if j - td < k then _ else _)
    rw [if_neg (by omega), show j - td - k = j - (td + k) by omega]
  · rw [if_neg e1]
    by_cases e2 : td ≤ j ∧ j < td + k
    · rw [if_pos e2, if_pos (by omega)]
      show _ = nI (if j - td < k then _ else _)
      rw [if_pos (by omega)]
    · rw [if_neg e2, if_neg (by omega)]
theorem feed_all {a b c d e : Int32} {i : Nat} (hi : i < 20) : (if i < 4 + 4 + 4 + 4 then (if i < 4 + 4 + 4 then (if i < 4 + 4 then (if i < 4 then bytN a i else bytN b (i - 4)) else bytN c (i - (4 + 4))) else bytN d (i - (4 + 4 + 4))) else bytN e (i - (4 + 4 + 4 + 4))) = feedB a b c d e i := by
  unfold feedB
  by_cases h1 : i < 4
  · rw [if_pos (by omega), if_pos (by omega), if_pos (by omega), if_pos h1, if_pos h1, show i % 4 = i by omega]
  · by_cases h2 : i < 8
    · rw [if_pos (by omega), if_pos (by omega), if_pos (by omega), if_neg h1, if_neg h1, if_pos h2, show i % 4 = i - 4 by omega]
    · by_cases h3 : i < 12
      · rw [if_pos (by omega), if_pos (by omega), if_neg (by omega), if_neg h1, if_neg h2, if_pos h3, show i % 4 = i - (4 + 4) by omega]
      · by_cases h4 : i < 16
        · rw [if_pos (by omega), if_neg (by omega), if_neg h1, if_neg h2, if_neg h3, if_pos h4, show i % 4 = i - (4 + 4 + 4) by omega]
        · rw [if_neg (by omega), if_neg h1, if_neg h2, if_neg h3, if_neg h4, show i % 4 = i - (4 + 4 + 4 + 4) by omega]
theorem px_feed {a b c d e : Int32} (hI : IX g M o P ta s q) (hG : GI q) : Ct g yX0_feed cX0_feed 6 (some Jvm.ClassFile.FieldType.int) 1 0 0 [.ref o, .int a, .int b, .int c, .int d, .int e] (putX M o s) (QI g M o P ta (feedS q a b c d e).2 (.int (feedS q a b c d e).1)) noX := by
  have W := hI.W
  have S := hI.So
  have hg := W.gx
  have hS := W.S
  have hX := W.X
  have hTB := W.B
  have hn8 := hTB.1
  have hH9 := hTB.2.1
  have hN := hI.nw.1
  have hR := hI.nw.2
  have hB : SB (tn (gT q)) (gS q) := hG.2.2.2.2.2.1.1
  have hd : gTd q ≤ 1600 := hG.1
  refine Ct.of (by decide) (Nat.le_of_ble_eq_true rfl) rfl ?_
  unfold feedS
  refine r_ald0 (pc := 0) dX0_feed_0 ?_
  refine x_getI (c := 0) hS ow_0 kd_0 (pc := 1) dX0_feed_1 fl_X0_104 ?_
  rw [hI.tp.1]
  refine r_bipush (v := nI 20) (pc := 4) dX0_feed_4 (by decide) ?_
  first | refine r_iaddN (pc := 6) dX0_feed_6 ?_ | refine r_iaddJ (pc := 6) dX0_feed_6 ?_ | refine r_iadd (pc := 6) dX0_feed_6 ?_
  refine r_sipush (v := nI 1600) (pc := 7) dX0_feed_7 (by decide) ?_
  first | refine r_icmp_leN (pc := 10) (tgt := 19) dX0_feed_10 (by decide) (by omega) (by omega) (fun h10 => ?_) (fun h10 => ?_) | refine r_icmp_le (pc := 10) (tgt := 19) dX0_feed_10 (by decide) (fun h10 => ?_) (fun h10 => ?_)
  · skip
    rw [if_neg (by omega)]
    refine r_ald0 (pc := 19) dX0_feed_19 ?_
    refine r_ild1 (pc := 20) dX0_feed_20 ?_
    refine r_cV (pc := 21) dX0_feed_21 cv_X0_111 (hS.k (c := 0) ow_0 kd_0) (ct_X0_put (td := gTd q) hS hX (by omega) hI.tp.1) rfl rfl (Nat.le_of_ble_eq_true rfl) (by first | decide | omega) ?_
    rintro _ _ ⟨s1, rfl, rfl, p1⟩
    have hX := (show FxX (rX s1) o by rw [p1.2.2.1]; exact hX)
    refine r_ald0 (pc := 24) dX0_feed_24 ?_
    refine r_ild2 (pc := 25) dX0_feed_25 ?_
    refine r_cV (pc := 26) dX0_feed_26 cv_X0_111 (hS.k (c := 0) ow_0 kd_0) (ct_X0_put (td := gTd q + 4) hS hX (by omega) p1.1) rfl rfl (Nat.le_of_ble_eq_true rfl) (by first | decide | omega) ?_
    rintro _ _ ⟨s2, rfl, rfl, p2⟩
    have p2 := p1.app p2
    have hX := (show FxX (rX s2) o by rw [p2.2.2.1]; exact W.X)
    refine r_ald0 (pc := 29) dX0_feed_29 ?_
    refine r_ild3 (pc := 30) dX0_feed_30 ?_
    refine r_cV (pc := 31) dX0_feed_31 cv_X0_111 (hS.k (c := 0) ow_0 kd_0) (ct_X0_put (td := gTd q + (4 + 4)) hS hX (by omega) p2.1) rfl rfl (Nat.le_of_ble_eq_true rfl) (by first | decide | omega) ?_
    rintro _ _ ⟨s3, rfl, rfl, p3⟩
    have p3 := p2.app p3
    have hX := (show FxX (rX s3) o by rw [p3.2.2.1]; exact W.X)
    refine r_ald0 (pc := 34) dX0_feed_34 ?_
    refine r_ild4 (pc := 35) dX0_feed_35 ?_
    refine r_cV (pc := 37) dX0_feed_37 cv_X0_111 (hS.k (c := 0) ow_0 kd_0) (ct_X0_put (td := gTd q + (4 + 4 + 4)) hS hX (by omega) p3.1) rfl rfl (Nat.le_of_ble_eq_true rfl) (by first | decide | omega) ?_
    rintro _ _ ⟨s4, rfl, rfl, p4⟩
    have p4 := p3.app p4
    have hX := (show FxX (rX s4) o by rw [p4.2.2.1]; exact W.X)
    refine r_ald0 (pc := 40) dX0_feed_40 ?_
    refine r_ild5 (pc := 41) dX0_feed_41 ?_
    refine r_cV (pc := 43) dX0_feed_43 cv_X0_111 (hS.k (c := 0) ow_0 kd_0) (ct_X0_put (td := gTd q + (4 + 4 + 4 + 4)) hS hX (by omega) p4.1) rfl rfl (Nat.le_of_ble_eq_true rfl) (by first | decide | omega) ?_
    rintro _ _ ⟨s5, rfl, rfl, p5⟩
    have p5 := p4.app p5
    refine r_ald0 (pc := 46) dX0_feed_46 ?_
    refine x_getI (c := 0) hS ow_0 kd_0 (pc := 47) dX0_feed_47 fl_X0_104 ?_
    rw [p5.1]
    refine r_iret (pc := 50) dX0_feed_50 ?_
    obtain ⟨c1, c2, c3, c4, c5, c6⟩ := p5
    obtain ⟨w1, w2, a1, a2, a3, a4, a5, a6, a7, a8, a9, a10⟩ := hI
    have ag : ∀ R : Nat → Nat → Prop, ¬ R 0 2 → (∀ j, ¬ R 4 j) → Ag R s s5 := fun R r1 r2 c j r => c5 c j (fun z => r1 (by rw [← z.1, ← z.2]; exact r)) (fun z => r2 j (by rw [← z]; exact r))
    refine ⟨s5, rfl, rfl, w1.rx c3 (fun k hk => by rw [c4]; exact w1.m k hk), w2, ⟨c1, fun j hj => ?_, fun j hj => c6 j (a1.2.2 j hj)⟩, a2.fr (ag _ (by unfold rFt; omega) (by unfold rFt; intros; omega)), a3.fr (ag _ (by unfold rRf; omega) (by unfold rRf; intros; omega)), a4.fr hn8 (ag _ (by unfold rNw; omega) (by unfold rNw; intros; omega)) (fun _ => by rw [c3]), a5.fr hn8 hG.2.2.2.2.2.2.2.1 (ag _ (by unfold rUn; omega) (by unfold rUn; intros; omega)) (fun _ _ _ _ => by rw [c3]), a6.fr c3, a7.fr (ag _ (by unfold rRw; omega) (by unfold rRw; intros; omega)), (by unfold cSd; rw [c4]; exact a8), a9.fr (ag _ (by unfold rOu; omega) (by unfold rOu; intros; omega)), fun k hk => by rw [c4]; exact a10 k hk⟩
    rw [c2 j]
    show _ = nI (if gTd q ≤ j ∧ j < gTd q + 20 then feedB a b c d e (j - gTd q) else gTp q j)
    by_cases e2 : gTd q ≤ j ∧ j < gTd q + 20
    · rw [if_pos e2, if_pos e2]
      congr 1
      exact feed_all (by omega)
    · rw [if_neg e2, if_neg e2]; exact a1.2.1 j hj
  · skip
    rw [if_pos (by omega)]
    refine r_ald0 (pc := 13) dX0_feed_13 ?_
    refine r_iconst (v := nI 0) (pc := 14) dX0_feed_14 (by decide) ?_
    refine r_cV (pc := 15) dX0_feed_15 cv_X0_107 (hS.k (c := 0) ow_0 kd_0) (ct_X0_refuses hS hX (by decide)) rfl rfl (Nat.le_of_ble_eq_true rfl) (by first | decide | omega) ?_
    rintro _ _ ⟨rfl, rfl⟩
    refine r_iret (pc := 18) dX0_feed_18 ?_
    exact ⟨_, rfl, rfl, hI.ref hG (by decide)⟩
end X25
