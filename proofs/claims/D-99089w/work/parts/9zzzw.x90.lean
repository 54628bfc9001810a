set_option maxRecDepth 100000
/-! A STATE BEGINS, as the terrace tells -/
/-- the souls at ta, with all that is told of them -/
def SoB (M : MM) (P : Nat → Prop) (ta : Nat) (T : To) : Prop := ∃ l v, mR M ta 3 = some l ∧ P l ∧ P v ∧ LsX M l v (oS T).length ∧ ∀ p, p < (oS T).length → ∃ a t, mR M v p = some a ∧ P a ∧ P t ∧ mK M a = 27 ∧ (mI M a 1 = nI (sAt T p).2.1 ∧ mI M a 2 = nI (sAt T p).2.2.1 ∧ mI M a 3 = nI (sAt T p).2.2.2) ∧ mR M a 4 = some t ∧ mK M t = 1 ∧ mN M t = 8 ∧ ∀ j, j < 8 → mI M t j = nI (oT T p j)
/-- who was begun: p -/
def BGp (s : XS) (b : Nat) (T : To) (p : Nat) : Prop := iX s (b + 1) p = nI (sAt T p).2.1 ∧ iX s (b + 2) p = nI (10 * (sAt T p).2.2.1) ∧ iX s (b + 3) p = nI (sAt T p).2.2.1 ∧ iX s (b + 4) p = nI (sAt T p).2.2.2 ∧ iX s (b + 5) p = nI 0
def BG (s s' : XS) (b : Nat) (T : To) (i : Nat) : Prop := lX s' = lX s ∧ rX s' = rX s ∧ (∀ c, ¬ (b ≤ c ∧ c < b + 15) → iX s' c = iX s c) ∧ (iX s' b 0 = nI 0 ∧ iX s' b 1 = nI (oS T).length ∧ iX s' b 2 = nI 0) ∧ ∀ p, p < i → BGp s' b T p ∧ ∀ r, r < 8 → iX s' (b + (7 + p)) r = nI (oT T p r)
def BGi (s s' : XS) (b : Nat) (T : To) (i j : Nat) : Prop := BG s s' b T i ∧ BGp s' b T i ∧ ∀ r, r < j → iX s' (b + (7 + i)) r = nI (oT T i r)
section X90
variable {g : GC} {M : MM} {o ta b : Nat} {P : Nat → Prop} {s s' : XS} {T : To} {i j : Nat}
theorem BG.five (h : BG s s' b T i) : BGi s (uI (uI (uI (uI (uI s' (b + 1) i (nI (sAt T i).2.1)) (b + 3) i (nI (sAt T i).2.2.1)) (b + 4) i (nI (sAt T i).2.2.2)) (b + 2) i (nI (10 * (sAt T i).2.2.1))) (b + 5) i (nI 0)) b T i 0 := by
  obtain ⟨h1, h2, h3, ⟨h4, h5, h6⟩, h7⟩ := h
  refine ⟨⟨h1, h2, fun c hc => ?_, ⟨?_, ?_, ?_⟩, fun p hp => ?_⟩, ?_, fun r hr => absurd hr (Nat.not_lt_zero r)⟩
  · funext jj; rw [iX_c (by omega), iX_c (by omega), iX_c (by omega), iX_c (by omega), iX_c (by omega)]; exact congrFun (h3 c hc) jj
  · rw [iX_c (by omega), iX_c (by omega), iX_c (by omega), iX_c (by omega), iX_c (by omega)]; exact h4
  · rw [iX_c (by omega), iX_c (by omega), iX_c (by omega), iX_c (by omega), iX_c (by omega)]; exact h5
  · rw [iX_c (by omega), iX_c (by omega), iX_c (by omega), iX_c (by omega), iX_c (by omega)]; exact h6
  · obtain ⟨⟨k1, k2, k3, k4, k5⟩, k6⟩ := h7 p hp
    refine ⟨⟨?_, ?_, ?_, ?_, ?_⟩, fun r hr => ?_⟩
    · rw [iX_c (by omega), iX_c (by omega), iX_c (by omega), iX_c (by omega), iX_uI, if_neg (by omega)]; exact k1
    · rw [iX_c (by omega), iX_uI, if_neg (by omega), iX_c (by omega), iX_c (by omega), iX_c (by omega)]; exact k2
    · rw [iX_c (by omega), iX_c (by omega), iX_c (by omega), iX_uI, if_neg (by omega), iX_c (by omega)]; exact k3
    · rw [iX_c (by omega), iX_c (by omega), iX_uI, if_neg (by omega), iX_c (by omega), iX_c (by omega)]; exact k4
    · rw [iX_uI, if_neg (by omega), iX_c (by omega), iX_c (by omega), iX_c (by omega), iX_c (by omega)]; exact k5
    · rw [iX_c (by omega), iX_c (by omega), iX_c (by omega), iX_c (by omega), iX_c (by omega)]; exact k6 r hr
  · refine ⟨?_, ?_, ?_, ?_, ?_⟩
    · rw [iX_c (by omega), iX_c (by omega), iX_c (by omega), iX_c (by omega), iX_uI, if_pos ⟨rfl, rfl⟩]
    · rw [iX_c (by omega), iX_uI, if_pos ⟨rfl, rfl⟩]
    · rw [iX_c (by omega), iX_c (by omega), iX_c (by omega), iX_uI, if_pos ⟨rfl, rfl⟩]
    · rw [iX_c (by omega), iX_c (by omega), iX_uI, if_pos ⟨rfl, rfl⟩]
    · rw [iX_uI, if_pos ⟨rfl, rfl⟩]
theorem BGi.step (h : BGi s s' b T i j) (hi : i < 8) : BGi s (uI s' (b + (7 + i)) j (nI (oT T i j))) b T i (j + 1) := by
  obtain ⟨⟨h1, h2, h3, ⟨h4, h5, h6⟩, h7⟩, ⟨k1, k2, k3, k4, k5⟩, k6⟩ := h
  refine ⟨⟨h1, h2, fun c hc => ?_, ⟨?_, ?_, ?_⟩, fun p hp => ?_⟩, ⟨?_, ?_, ?_, ?_, ?_⟩, fun r hr => ?_⟩
  · funext jj; rw [iX_c (by omega)]; exact congrFun (h3 c hc) jj
  · rw [iX_c (by omega)]; exact h4
  · rw [iX_c (by omega)]; exact h5
  · rw [iX_c (by omega)]; exact h6
  · obtain ⟨⟨l1, l2, l3, l4, l5⟩, l6⟩ := h7 p hp
    refine ⟨⟨?_, ?_, ?_, ?_, ?_⟩, fun r hr => ?_⟩
    · rw [iX_c (by omega)]; exact l1
    · rw [iX_c (by omega)]; exact l2
    · rw [iX_c (by omega)]; exact l3
    · rw [iX_c (by omega)]; exact l4
    · rw [iX_c (by omega)]; exact l5
    · rw [iX_c (by omega)]; exact l6 r hr
  · rw [iX_c (by omega)]; exact k1
  · rw [iX_c (by omega)]; exact k2
  · rw [iX_c (by omega)]; exact k3
  · rw [iX_c (by omega)]; exact k4
  · rw [iX_c (by omega)]; exact k5
  · rw [iX_uI]
    by_cases e : r = j
    · rw [if_pos ⟨rfl, e⟩, e]
    · rw [if_neg (fun q => e q.2)]; exact k6 r (by omega)
theorem BGi.next (h : BGi s s' b T i 8) : BG s s' b T (i + 1) := by
  obtain ⟨⟨h1, h2, h3, h4, h7⟩, k, k6⟩ := h
  refine ⟨h1, h2, h3, h4, fun p hp => ?_⟩
  by_cases e : p = i
  · subst e; exact ⟨k, k6⟩
  · exact h7 p (by omega)
/-- all that begins needs -/
def WB (g : GC) (M : MM) (o : Nat) (P : Nat → Prop) (ta : Nat) (T : To) (s : XS) : Prop := GX g ∧ ShX g M o ∧ FxX (rX s) o ∧ (∀ c, P c → ¬ owA o c) ∧ rX s 0 0 = some ta ∧ (P ta ∧ mK M ta = 21) ∧ SoB M P ta T ∧ VT T
theorem WB.to (h : WB g M o P ta T s) (hr : rX s' = rX s) : WB g M o P ta T s' := by
  obtain ⟨h1, h2, h3, h4, h5, h6⟩ := h
  exact ⟨h1, h2, by rw [hr]; exact h3, h4, by rw [hr]; exact h5, h6⟩
theorem ct_peopleB (W : WB g M o P ta T s) : Ct g yX0_people cX0_people 1 (some Jvm.ClassFile.FieldType.int) 3 0 0 [.ref o] (putX M o s) (PQ (putX M o s) (.int (nI (oS T).length))) noX := by
  obtain ⟨hg, hS, hX, hP, ht, ⟨t0, t1⟩, ⟨l, v, k2, k3, k4, k5, -⟩, -⟩ := W
  have hL : LsX (putX M o s) l v (oS T).length := k5.fr (Sm.put (hP l k3)) (Sm.put (hP v k4))
  refine Ct.of (by decide) (Nat.le_of_ble_eq_true rfl) rfl ?_
  refine r_ald0 (pc := 0) dX0_people_0 ?_
  refine x_getR (c := 0) hS ow_0 kd_0 (pc := 1) dX0_people_1 fl_X0_31 ht ?_
  refine r_getRN (pc := 4) dX0_people_4 (fn_X0_149 hg) t1 ((mR_putXn (hP ta t0)).trans k2) ?_
  refine r_cF (pc := 7) dX0_people_7 (cf_X0_153 hg) hL.1 (ct_J2_size hL) rfl rfl (Nat.le_of_ble_eq_true rfl) (by first | decide | omega) ?_
  rintro _ _ ⟨rfl, rfl⟩
  refine r_iret (pc := 12) dX0_people_12 ?_
  exact ⟨rfl, rfl⟩
/-- what soulOf answers -/
def SoA (M : MM) (P : Nat → Prop) (T : To) (p : Nat) (v : Option Value) : Prop := ∃ a t, v = some (.ref a) ∧ P a ∧ P t ∧ mK M a = 27 ∧ (mI M a 1 = nI (sAt T p).2.1 ∧ mI M a 2 = nI (sAt T p).2.2.1 ∧ mI M a 3 = nI (sAt T p).2.2.2) ∧ mR M a 4 = some t ∧ mK M t = 1 ∧ mN M t = 8 ∧ ∀ j, j < 8 → mI M t j = nI (oT T p j)
theorem ct_soulB {p : Nat} (W : WB g M o P ta T s) (hp : p < (oS T).length) : Ct g yX0_soulOf cX0_soulOf 2 (some ((Jvm.ClassFile.FieldType.object "Retouched$Soul"))) 6 0 0 [.ref o, .int (nI p)] (putX M o s) (fun v M' => SoA (putX M o s) P T p v ∧ M' = putX M o s) noX := by
  obtain ⟨hg, hS, hX, hP, ht, ⟨t0, t1⟩, ⟨l, v, k2, k3, k4, k5, k6⟩, hV⟩ := W
  have hL : LsX (putX M o s) l v (oS T).length := k5.fr (Sm.put (hP l k3)) (Sm.put (hP v k4))
  obtain ⟨a, t, a1, a2, a3, a4, ⟨a5, a6, a7⟩, a8, a9, a10, a11⟩ := k6 p hp
  have h8 := hV.2.2.1
  have sa : Sm M (putX M o s) a := Sm.put (hP a a2)
  have st : Sm M (putX M o s) t := Sm.put (hP t a3)
  refine Ct.of (by decide) (Nat.le_of_ble_eq_true rfl) rfl ?_
  refine r_ald0 (pc := 0) dX0_soulOf_0 ?_
  refine x_getR (c := 0) hS ow_0 kd_0 (pc := 1) dX0_soulOf_1 fl_X0_31 ht ?_
  refine r_getRN (pc := 4) dX0_soulOf_4 (fn_X0_149 hg) t1 ((mR_putXn (hP ta t0)).trans k2) ?_
  refine r_ild1 (pc := 7) dX0_soulOf_7 ?_
  refine r_cF (pc := 8) dX0_soulOf_8 (cf_X0_165 hg) hL.1 (ct_J2_get hL hp ((mR_putXn (hP v k4)).trans a1)) rfl rfl (Nat.le_of_ble_eq_true rfl) (by first | decide | omega) ?_
  rintro _ _ ⟨rfl, rfl⟩
  refine r_castE (ci := 7) (pc := 13) dX0_soulOf_13 q1190 a4 ?_
  refine r_aretR (pc := 16) dX0_soulOf_16 ?_
  exact ⟨⟨a, t, rfl, a2, a3, a4, ⟨by rw [sa.2.2.1]; exact a5, by rw [sa.2.2.1]; exact a6, by rw [sa.2.2.1]; exact a7⟩, by rw [sa.2.2.2.2]; exact a8, a9, a10, fun j hj => by rw [st.2.2.1]; exact a11 j hj⟩, rfl⟩
theorem bg_in (W : WB g M o P ta T s) (hb : isS b) (hi : i < (oS T).length) {Q : Option Value → MM → Prop} (Kk : ∀ s', BGi s s' b T i 8 → Bd g yX5_begins cX5_begins 3 none [] 7 0 0 (putX M o s') 139 [some (.ref (o + b)), some (.int (nI i)), some (.int (nI 8))] [] Q noX) : ∀ k j s', j + k = 8 → BGi s s' b T i j → Bd g yX5_begins cX5_begins 3 none [] 7 0 0 (putX M o s') 106 [some (.ref (o + b)), some (.int (nI i)), some (.int (nI j))] [] Q noX := by
  have hg := W.1
  have hS := W.2.1
  have hV := W.2.2.2.2.2.2.2
  have h8 := hV.2.2.1
  intro k
  induction k with
  | zero =>
    intro j s' hj hR
    obtain rfl : j = 8 := by omega
    refine r_ild2 (pc := 106) dX5_begins_106 ?_
    refine r_bipush (v := nI 8) (pc := 107) dX5_begins_107 (by decide) ?_
    first | refine r_icmp_geN (pc := 109) (tgt := 139) dX5_begins_109 (by decide) (by omega) (by omega) (fun h109 => ?_) (fun h109 => ?_) | refine r_icmp_ge (pc := 109) (tgt := 139) dX5_begins_109 (by decide) (fun h109 => ?_) (fun h109 => ?_)
    · skip
      exact Kk _ hR
    · skip
      exact absurd h109 (by omega)
  | succ k ih =>
    intro j s' hj hR
    have W' : WB g M o P ta T s' := W.to hR.1.2.1
    have hX' := W'.2.2.1
    refine r_ild2 (pc := 106) dX5_begins_106 ?_
    refine r_bipush (v := nI 8) (pc := 107) dX5_begins_107 (by decide) ?_
    first | refine r_icmp_geN (pc := 109) (tgt := 139) dX5_begins_109 (by decide) (by omega) (by omega) (fun h109 => ?_) (fun h109 => ?_) | refine r_icmp_ge (pc := 109) (tgt := 139) dX5_begins_109 (by decide) (fun h109 => ?_) (fun h109 => ?_)
    · skip
      exact absurd h109 (by omega)
    · skip
      refine r_ald0 (pc := 112) dX5_begins_112 ?_
      refine x_getR (c := b) hS (st_ow hb) (st_kd hb) (pc := 113) dX5_begins_113 fl_X5_34 (fs_8 hX' hb) ?_
      refine r_ild1 (pc := 116) dX5_begins_116 ?_
      refine x_aald (c := (b + 6)) (j := i) hS (st_ow6 hb) (st_kd6 hb) (by decide) (st_ln6 hb) (pc := 117) dX5_begins_117 (by omega) (by omega) (fs_th hX' hb (by omega)) ?_
      refine r_ild2 (pc := 118) dX5_begins_118 ?_
      refine r_ald0 (pc := 119) dX5_begins_119 ?_
      refine x_getR (c := b) hS (st_ow hb) (st_kd hb) (pc := 120) dX5_begins_120 fl_X5_3 (fs_10 hX' hb) ?_
      refine r_ild1 (pc := 123) dX5_begins_123 ?_
      refine r_cVN (pc := 124) dX5_begins_124 (cvn_X5_54 hg) (hS.k (c := 0) ow_0 kd_0) (ct_soulB W' hi) rfl rfl (Nat.le_of_ble_eq_true rfl) (by first | decide | omega) ?_
      rintro _ _ ⟨⟨a, t, rfl, p1, p2, p3, p4, p5, p6, p7, p8⟩, rfl⟩
      refine r_getRN (pc := 127) dX5_begins_127 (fn_X5_66 hg) p3 p5 ?_
      refine r_ild2 (pc := 130) dX5_begins_130 ?_
      refine r_iald (pc := 131) dX5_begins_131 p6 (by rw [p7]; omega) (by omega) ?_
      rw [p8 j (by omega)]
      refine x_iast (c := (b + (7 + i))) hS (th_ow hb (by omega)) (th_kd hb (by omega)) (th_ln hb (by omega)) (pc := 132) dX5_begins_132 (by omega) (by omega) ?_
      first | refine r_iinc2N (j := 1) (pc := 133) dX5_begins_133 rfl ?_ | refine r_iinc2 (pc := 133) dX5_begins_133 ?_
      refine r_goto (pc := 136) (tgt := 106) dX5_begins_136 (by decide) ?_
      exact ih (j + 1) _ (by omega) (hR.step (by omega))
theorem bg_out (W : WB g M o P ta T s) (hb : isS b) : ∀ k i s', i + k = (oS T).length → BG s s' b T i → Bd g yX5_begins cX5_begins 3 none [] 7 0 0 (putX M o s') 23 [some (.ref (o + b)), some (.int (nI i)), none] [] (QX M o (fun v s' => v = none ∧ BG s s' b T (oS T).length)) noX := by
  have hg := W.1
  have hS := W.2.1
  have hV := W.2.2.2.2.2.2.2
  have h8 := hV.2.2.1
  intro k
  induction k with
  | zero =>
    intro i s' hk hR
    obtain rfl : i = (oS T).length := by omega
    have W' : WB g M o P ta T s' := W.to hR.2.1
    have hX' := W'.2.2.1
    refine r_ild1 (pc := 23) dX5_begins_23 ?_
    refine r_ald0 (pc := 24) dX5_begins_24 ?_
    refine x_getI (c := b) hS (st_ow hb) (st_kd hb) (pc := 25) dX5_begins_25 fl_X5_51 ?_
    rw [hR.2.2.2.1.2.1]
    first | refine r_icmp_geN (pc := 28) (tgt := 145) dX5_begins_28 (by decide) (by omega) (by omega) (fun h28 => ?_) (fun h28 => ?_) | refine r_icmp_ge (pc := 28) (tgt := 145) dX5_begins_28 (by decide) (fun h28 => ?_) (fun h28 => ?_)
    · skip
      refine r_vret (pc := 145) dX5_begins_145 ?_
      exact ⟨s', rfl, rfl, hR⟩
    · skip
      exact absurd h28 (by omega)
  | succ k ih =>
    intro i s' hk hR
    have W' : ∀ s2, rX s2 = rX s → WB g M o P ta T s2 := fun s2 q => W.to q
    have hX' := (W' s' hR.2.1).2.2.1
    have hf := (sAt_ok hV (show i < (oS T).length by omega)).2.2.2.2.1
    refine r_ild1 (pc := 23) dX5_begins_23 ?_
    refine r_ald0 (pc := 24) dX5_begins_24 ?_
    refine x_getI (c := b) hS (st_ow hb) (st_kd hb) (pc := 25) dX5_begins_25 fl_X5_51 ?_
    rw [hR.2.2.2.1.2.1]
    first | refine r_icmp_geN (pc := 28) (tgt := 145) dX5_begins_28 (by decide) (by omega) (by omega) (fun h28 => ?_) (fun h28 => ?_) | refine r_icmp_ge (pc := 28) (tgt := 145) dX5_begins_28 (by decide) (fun h28 => ?_) (fun h28 => ?_)
    · skip
      exact absurd h28 (by omega)
    · skip
      refine r_ald0 (pc := 31) dX5_begins_31 ?_
      refine x_getR (c := b) hS (st_ow hb) (st_kd hb) (pc := 32) dX5_begins_32 fl_X5_15 (fs_3 hX' hb) ?_
      refine r_ild1 (pc := 35) dX5_begins_35 ?_
      refine r_ald0 (pc := 36) dX5_begins_36 ?_
      refine x_getR (c := b) hS (st_ow hb) (st_kd hb) (pc := 37) dX5_begins_37 fl_X5_3 (fs_10 hX' hb) ?_
      refine r_ild1 (pc := 40) dX5_begins_40 ?_
      refine r_cVN (pc := 41) dX5_begins_41 (cvn_X5_54 hg) (hS.k (c := 0) ow_0 kd_0) (ct_soulB (W' _ hR.2.1) (by omega)) rfl rfl (Nat.le_of_ble_eq_true rfl) (by first | decide | omega) ?_
      rintro _ _ ⟨⟨a, t, rfl, p1, p2, p3, ⟨p4, p4b, p4c⟩, p5, p6, p7, p8⟩, rfl⟩
      refine r_getIN (pc := 44) dX5_begins_44 (fn_X5_58 hg) p3 ?_
      rw [p4]
      refine x_iast (c := (b + 1)) hS (st_ow1 hb) (st_kd1 hb) (st_ln1 hb) (pc := 47) dX5_begins_47 (by omega) (by omega) ?_
      refine r_ald0 (pc := 48) dX5_begins_48 ?_
      refine x_getR (c := b) hS (st_ow hb) (st_kd hb) (pc := 49) dX5_begins_49 fl_X5_22 (fs_5 hX' hb) ?_
      refine r_ild1 (pc := 52) dX5_begins_52 ?_
      refine r_ald0 (pc := 53) dX5_begins_53 ?_
      refine x_getR (c := b) hS (st_ow hb) (st_kd hb) (pc := 54) dX5_begins_54 fl_X5_3 (fs_10 hX' hb) ?_
      refine r_ild1 (pc := 57) dX5_begins_57 ?_
      refine r_cVN (pc := 58) dX5_begins_58 (cvn_X5_54 hg) (hS.k (c := 0) ow_0 kd_0) (ct_soulB (W' _ hR.2.1) (by omega)) rfl rfl (Nat.le_of_ble_eq_true rfl) (by first | decide | omega) ?_
      rintro _ _ ⟨⟨a2, t2, rfl, q1, q2, q3, ⟨q4, q4b, q4c⟩, q5, q6, q7, q8⟩, rfl⟩
      refine r_getIN (pc := 61) dX5_begins_61 (fn_X5_62 hg) q3 ?_
      rw [q4b]
      refine x_iast (c := (b + 3)) hS (st_ow3 hb) (st_kd3 hb) (st_ln3 hb) (pc := 64) dX5_begins_64 (by omega) (by omega) ?_
      refine r_ald0 (pc := 65) dX5_begins_65 ?_
      refine x_getR (c := b) hS (st_ow hb) (st_kd hb) (pc := 66) dX5_begins_66 fl_X5_25 (fs_6 hX' hb) ?_
      refine r_ild1 (pc := 69) dX5_begins_69 ?_
      refine r_ald0 (pc := 70) dX5_begins_70 ?_
      refine x_getR (c := b) hS (st_ow hb) (st_kd hb) (pc := 71) dX5_begins_71 fl_X5_3 (fs_10 hX' hb) ?_
      refine r_ild1 (pc := 74) dX5_begins_74 ?_
      refine r_cVN (pc := 75) dX5_begins_75 (cvn_X5_54 hg) (hS.k (c := 0) ow_0 kd_0) (ct_soulB (W' _ hR.2.1) (by omega)) rfl rfl (Nat.le_of_ble_eq_true rfl) (by first | decide | omega) ?_
      rintro _ _ ⟨⟨a3, t3, rfl, r1, r2, r3, ⟨r4, r4b, r4c⟩, r5, r6, r7, r8⟩, rfl⟩
      refine r_getIN (pc := 78) dX5_begins_78 (fn_X5_64 hg) r3 ?_
      rw [r4c]
      refine x_iast (c := (b + 4)) hS (st_ow4 hb) (st_kd4 hb) (st_ln4 hb) (pc := 81) dX5_begins_81 (by omega) (by omega) ?_
      refine r_ald0 (pc := 82) dX5_begins_82 ?_
      refine x_getR (c := b) hS (st_ow hb) (st_kd hb) (pc := 83) dX5_begins_83 fl_X5_19 (fs_4 hX' hb) ?_
      refine r_ild1 (pc := 86) dX5_begins_86 ?_
      refine r_bipush (v := nI 10) (pc := 87) dX5_begins_87 (by decide) ?_
      refine r_ald0 (pc := 89) dX5_begins_89 ?_
      refine x_getR (c := b) hS (st_ow hb) (st_kd hb) (pc := 90) dX5_begins_90 fl_X5_22 (fs_5 hX' hb) ?_
      refine r_ild1 (pc := 93) dX5_begins_93 ?_
      refine x_iald (c := (b + 3)) hS (st_ow3 hb) (st_kd3 hb) (st_ln3 hb) (pc := 94) dX5_begins_94 (by omega) (by omega) ?_
      refine Bd.eqI (show _ = nI (sAt T i).2.2.1 by rw [iX_c (by omega), iX_uI, if_pos ⟨rfl, rfl⟩]) ?_
      first | refine r_imulN (pc := 95) dX5_begins_95 ?_ | refine r_imulJ (pc := 95) dX5_begins_95 ?_ | refine r_imul (pc := 95) dX5_begins_95 ?_
      refine x_iast (c := (b + 2)) hS (st_ow2 hb) (st_kd2 hb) (st_ln2 hb) (pc := 96) dX5_begins_96 (by omega) (by omega) ?_
      refine r_ald0 (pc := 97) dX5_begins_97 ?_
      refine x_getR (c := b) hS (st_ow hb) (st_kd hb) (pc := 98) dX5_begins_98 fl_X5_28 (fs_7 hX' hb) ?_
      refine r_ild1 (pc := 101) dX5_begins_101 ?_
      refine r_iconst (v := nI 0) (pc := 102) dX5_begins_102 (by decide) ?_
      refine x_zast (c := (b + 5)) hS (st_ow5 hb) (st_kd5 hb) (st_ln5 hb) (pc := 103) dX5_begins_103 (by omega) (by omega) ?_
      refine r_iconst (v := nI 0) (pc := 104) dX5_begins_104 (by decide) ?_
      refine r_ist2 (pc := 105) dX5_begins_105 ?_
      refine bg_in W hb (by omega) (fun s2 h2 => ?_) 8 0 _ (by omega) hR.five
      refine r_iinc1N (j := 1) (pc := 139) dX5_begins_139 rfl ?_
      refine r_goto (pc := 142) (tgt := 23) dX5_begins_142 (by decide) ?_
      exact Bd.kill 2 (ih (i + 1) s2 (by omega) h2.next)
theorem ct_X5_begins (W : WB g M o P ta T s) (hb : isS b) : Ct g yX5_begins cX5_begins 3 none 7 0 0 [.ref (o + b)] (putX M o s) (QX M o (fun v s' => v = none ∧ BG s s' b T (oS T).length)) noX := by
  have hg := W.1
  have hS := W.2.1
  have hX := W.2.2.1
  refine Ct.of (by decide) (Nat.le_of_ble_eq_true rfl) rfl ?_
  refine r_ald0 (pc := 0) dX5_begins_0 ?_
  refine r_iconst (v := nI 0) (pc := 1) dX5_begins_1 (by decide) ?_
  refine x_putI (c := b) hS (st_ow hb) (st_kd hb) (pc := 2) dX5_begins_2 fl_X5_40 fw_X5_0 rfl rfl ?_
  refine r_ald0 (pc := 5) dX5_begins_5 ?_
  refine r_iconst (v := nI 0) (pc := 6) dX5_begins_6 (by decide) ?_
  refine x_putI (c := b) hS (st_ow hb) (st_kd hb) (pc := 7) dX5_begins_7 fl_X5_44 fw_X5_2 rfl rfl ?_
  refine r_ald0 (pc := 10) dX5_begins_10 ?_
  refine r_ald0 (pc := 11) dX5_begins_11 ?_
  refine x_getR (c := b) hS (st_ow hb) (st_kd hb) (pc := 12) dX5_begins_12 fl_X5_3 (fs_10 hX hb) ?_
  refine r_cVN (pc := 15) dX5_begins_15 (cvn_X5_47 hg) (hS.k (c := 0) ow_0 kd_0) (ct_peopleB (W.to rfl)) rfl rfl (Nat.le_of_ble_eq_true rfl) (by first | decide | omega) ?_
  rintro _ _ ⟨rfl, rfl⟩
  refine x_putI (c := b) hS (st_ow hb) (st_kd hb) (pc := 18) dX5_begins_18 fl_X5_51 fw_X5_1 rfl rfl ?_
  refine r_iconst (v := nI 0) (pc := 21) dX5_begins_21 (by decide) ?_
  refine r_ist1 (pc := 22) dX5_begins_22 ?_
  refine bg_out W hb (oS T).length 0 _ (by omega) ⟨rfl, rfl, fun c hc => ?_, ⟨?_, ?_, ?_⟩, fun p hp => absurd hp (Nat.not_lt_zero p)⟩
  · funext jj; rw [iX_c (by omega), iX_c (by omega), iX_c (by omega)]
  · rw [iX_uI, if_neg (by omega), iX_uI, if_neg (by omega), iX_uI, if_pos ⟨rfl, rfl⟩]
  · rw [iX_uI, if_pos ⟨rfl, rfl⟩]
  · rw [iX_uI, if_neg (by omega), iX_uI, if_pos ⟨rfl, rfl⟩]
end X90
