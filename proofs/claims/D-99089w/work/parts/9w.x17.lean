set_option maxRecDepth 100000
/-! A STATE: what a painter paints, a sitter minds; feuds -/
abbrev SIOF (g : GC) : Prop := NSq g "jdk/internal/util/Preconditions" "SIOOBE_FORMATTER" "Ljava/util/function/BiFunction;"
/-- texts are compact -/
abbrev CMPS (g : GC) : Prop := NS g "java/lang/String" "COMPACT_STRINGS" "Z" (.int 1)
/-- the terrace's houses and trees at ta -/
def TrX (M : MM) (o : Nat) (P : Nat → Prop) (ta : Nat) (T : Te) : Prop := P ta ∧ mK M ta = 21 ∧ mI M ta 1 = nI (tH T) ∧ (∀ w, w < 2 → (cd T w = none ∧ mR M ta (4 + w) = none) ∨ ∃ cs x, cd T w = some cs ∧ mR M ta (4 + w) = some x ∧ VAL M o P 40 x cs) ∧ ((cd T 2 = none ∧ mR M ta 6 = none) ∨ ∃ cs x, cd T 2 = some cs ∧ mR M ta 6 = some x ∧ TST M o P 40 x cs)
theorem TrX.fr {M M' : MM} {o ta : Nat} {P P' : Nat → Prop} {T : Te} (h : TrX M o P ta T) (hS : ∀ c, P c → Sm M M' c) (hP : ∀ c, P c → P' c) : TrX M' o P' ta T := by
  obtain ⟨h1, h2, h3, h4, h5⟩ := h
  have e := hS ta h1
  refine ⟨hP _ h1, e.1.trans h2, by rw [e.2.2.1]; exact h3, fun w hw => ?_, ?_⟩
  · rw [e.2.2.2.2]
    rcases h4 w hw with q | ⟨cs, x, q1, q2, q3⟩
    · exact Or.inl q
    · exact Or.inr ⟨cs, x, q1, q2, VAL.fr hS hP 40 40 x cs (Nat.le_refl _) q3⟩
  · rw [e.2.2.2.2]
    rcases h5 with q | ⟨cs, x, q1, q2, q3⟩
    · exact Or.inl q
    · exact Or.inr ⟨cs, x, q1, q2, TST.fr hS hP 40 40 x cs (Nat.le_refl _) q3⟩
/-- a moment's longs are small -/
def MmX (s : XS) (c : Nat) : Prop := ∀ k, k < 11 → ∃ v, lX s c k = lI v ∧ b31 v
theorem MmX.up {s : XS} {c k : Nat} {v : Int} (h : MmX s c) (hv : b31 v) : MmX (uL s c k (lI v)) c := by
  intro j hj
  rw [lX_uL]
  by_cases e : j = k
  · rw [if_pos ⟨rfl, e⟩]; exact ⟨v, rfl, hv⟩
  · rw [if_neg (fun q => e q.2)]; exact h j hj
theorem MmX.upc {s : XS} {c c' k : Nat} {v : Int64} (h : MmX s c) (hc : c ≠ c') : MmX (uL s c' k v) c := by
  intro j hj
  rw [lX_uL, if_neg (fun q => hc q.1)]; exact h j hj
/-- the world of a state's methods -/
def WS (g : GC) (M : MM) (o : Nat) (P : Nat → Prop) (ta : Nat) (T : Te) (s : XS) : Prop := (GX g ∧ GO g ∧ SIOF g ∧ CMPS g) ∧ ShX g M o ∧ FxX (rX s) o ∧ (∀ c, P c → ¬ owA o c) ∧ rX s 0 0 = some ta ∧ TrX M o P ta T ∧ TB T ∧ MmX s 8
section WS
variable {g : GC} {M : MM} {o ta : Nat} {P : Nat → Prop} {T : Te} {s s' : XS}
theorem WS.gx (h : WS g M o P ta T s) : GX g := h.1.1
theorem WS.O (h : WS g M o P ta T s) : GO g := h.1.2.1
theorem WS.z (h : WS g M o P ta T s) : SIOF g := h.1.2.2.1
theorem WS.cs (h : WS g M o P ta T s) : CMPS g := h.1.2.2.2
theorem WS.S (h : WS g M o P ta T s) : ShX g M o := h.2.1
theorem WS.X (h : WS g M o P ta T s) : FxX (rX s) o := h.2.2.1
theorem WS.ht (h : WS g M o P ta T s) : rX s 0 0 = some ta := h.2.2.2.2.1
theorem WS.tt (h : WS g M o P ta T s) : TrX (putX M o s') o P ta T := h.2.2.2.2.2.1.fr (fun c hc => Sm.put (h.2.2.2.1 c hc)) (fun _ q => q)
theorem WS.B (h : WS g M o P ta T s) : TB T := h.2.2.2.2.2.2.1
theorem WS.m (h : WS g M o P ta T s) : MmX s 8 := h.2.2.2.2.2.2.2
theorem WS.to (h : WS g M o P ta T s) (hX : FxX (rX s') o) (ht : rX s' 0 0 = rX s 0 0) (hm : MmX s' 8) : WS g M o P ta T s' := ⟨h.1, h.2.1, hX, h.2.2.2.1, ht.trans h.ht, h.2.2.2.2.2.1, h.B, hm⟩
theorem WS.rx (h : WS g M o P ta T s) (hr : rX s' = rX s) (hm : MmX s' 8) : WS g M o P ta T s' := h.to (by rw [hr]; exact h.X) (by rw [hr]) hm
theorem WS.uI {c j : Nat} {v : Int32} (h : WS g M o P ta T s) : WS g M o P ta T (uI s c j v) := h.rx rfl h.m
theorem WS.te {T' : Te} (h : WS g M o P ta T s) (h1 : tH T' = tH T) (h2 : cd T' = cd T) (hB : TB T') : WS g M o P ta T' s := by
  obtain ⟨a1, a2, a3, a4, a5, a6, a7, a8⟩ := h
  refine ⟨a1, a2, a3, a4, a5, ?_, hB, a8⟩
  unfold TrX at a6 ⊢
  rw [h1, h2]; exact a6
theorem MoX.of {env : Nat → Int} (hS : ShX g M o) (hX : FxX (rX s) o) (he : ∀ k, k < 11 → lX s 8 k = lI (env k) ∧ b31 (env k)) : MoX (putX M o s) (o + 7) (o + 8) env := by
  refine ⟨hS.k ow_7 kd_7, (mR_putX ow_7).trans (fx_7_0 hX), hS.k ow_8 kd_8, ((hS.2.2 8 ow_8).2).trans ln_8, fun k hk => ?_⟩
  rw [mL_putX ow_8]; exact he k hk
theorem MoX.of9 {env : Nat → Int} (hS : ShX g M o) (hX : FxX (rX s) o) (he : ∀ k, k < 11 → lX s 10 k = lI (env k) ∧ b31 (env k)) : MoX (putX M o s) (o + 9) (o + 10) env := by
  refine ⟨hS.k ow_9 kd_9, (mR_putX ow_9).trans (fx_9_0 hX), hS.k ow_10 kd_10, ((hS.2.2 10 ow_10).2).trans ln_10, fun k hk => ?_⟩
  rw [mL_putX ow_10]; exact he k hk
theorem okC_60 {w k : Nat} {cs : List Nat} (h : okC (alw w) cs) (hk : 60 + k ∈ cs) (hk2 : k < 2) : False := by
  have := h (60 + k) hk
  omega
/-- what is told at a moment that agrees with env' where it may be asked -/
theorem ev_val {w x m v : Nat} {cs : List Nat} {env env' : Nat → Int} (hg : GX g) (hz : SIOF g) (hV : VAL M o P 40 x cs) (hm : MoX M m v env) (hok : okC (alw w) cs) (he : ∀ k, alw w k = true → env k = env' k) : b6 (evS cs env') ∧ ∀ d, 410 ≤ d → AT g M d x m (.long (lI (evS cs env'))) := by
  obtain ⟨r, r1, r2, r3⟩ := VAL.at (ofn := ofn0) hg hz hm 40 x cs (fun k hk hk2 => (okC_60 hok hk hk2).elim) hV
  have e : evS cs env' = r := by
    unfold evS
    rw [← rpn_congr (ofn := ofn0) he cs [] hok, r2]; rfl
  rw [e]; exact ⟨r1, fun d hd => r3 d (by omega)⟩
theorem ev_tst {w x m v : Nat} {cs : List Nat} {env env' : Nat → Int} (hg : GX g) (hz : SIOF g) (hV : TST M o P 40 x cs) (hm : MoX M m v env) (hok : okC (alw w) cs) (he : ∀ k, alw w k = true → env k = env' k) : ∀ d, 420 ≤ d → HO g M d x m (.int (zI (evS cs env' = 1))) := by
  obtain ⟨r, r1, r2, r3⟩ := TST.ho (ofn := ofn0) hg hz hm 40 x cs (fun k hk hk2 => (okC_60 hok hk hk2).elim) hV
  have e : evS cs env' = r := by
    unfold evS
    rw [← rpn_congr (ofn := ofn0) he cs [] hok, r2]; rfl
  rw [e]; exact fun d hd => r3 d (by omega)
/-- only the moment's longs have changed -/
def MoC (s s' : XS) : Prop := iX s' = iX s ∧ rX s' = rX s ∧ (∀ c, c ≠ 8 → lX s' c = lX s c) ∧ MmX s' 8
theorem MoC.rf (h : MmX s 8) : MoC s s := ⟨rfl, rfl, fun _ _ => rfl, h⟩
theorem MoC.W (h : MoC s s') (W : WS g M o P ta T s) : WS g M o P ta T s' := W.rx h.2.1 h.2.2.2
theorem MoC.sx {b n : Nat} {F K : Nat → Nat} {t : St} (h : MoC s s') (hN : SX s b n F K t) : SX s' b n F K t := by
  unfold SX at hN ⊢; rw [h.1]; exact hN
theorem MoC.rx {b : Nat} {L : List Ev} (h : MoC s s') (hN : RX s o b L) : RX s' o b L := by
  unfold RX at hN ⊢; rw [h.1, h.2.1]; exact hN
theorem MoC.trans {s2 : XS} (h : MoC s s') (h' : MoC s' s2) : MoC s s2 := ⟨h'.1.trans h.1, h'.2.1.trans h.2.1, fun c hc => (h'.2.2.1 c hc).trans (h.2.2.1 c hc), h'.2.2.2⟩
theorem MmX.ask {x1 x2 x3 x4 : Int} (h : MmX s 8) (h1 : b31 x1) (h2 : b31 x2) (h3 : b31 x3) (h4 : b31 x4) : MmX (askX s x1 x2 x3 x4) 8 := (((h.up h1).up h2).up h3).up h4
theorem askX_l {x1 x2 x3 x4 : Int} {c : Nat} (hc : c ≠ 8) : lX (askX s x1 x2 x3 x4) c = lX s c := by
  funext j
  unfold askX
  rw [lX_uL, if_neg (fun q => hc q.1), lX_uL, if_neg (fun q => hc q.1), lX_uL, if_neg (fun q => hc q.1), lX_uL, if_neg (fun q => hc q.1)]
theorem lX_uLj {c j k : Nat} {v : Int64} (h : k ≠ j) : lX (uL s c j v) c k = lX s c k := by rw [lX_uL, if_neg (fun q => h q.2)]
theorem lX_uLs {c j : Nat} {v : Int64} : lX (uL s c j v) c j = v := by rw [lX_uL, if_pos ⟨rfl, rfl⟩]
theorem lX_uLc {c c' j k : Nat} {v : Int64} (h : c' ≠ c) : lX (uL s c j v) c' k = lX s c' k := by rw [lX_uL, if_neg (fun q => h q.1)]
theorem cut_of {m : Nat} {v : Int} (hm : m < 1000) : (if (if (m : Int) ≤ v then (m : Int) else v) ≤ 0 then (0 : Int) else (if (m : Int) ≤ v then (m : Int) else v)) = (cutN m v : Int) := by
  unfold cutN
  repeat' split
  all_goals omega
end WS
theorem moU {s : XS} {c j : Nat} {x : Int} {E : Nat → Int} (h : ∀ k, k < 11 → lX s c k = lI (E k) ∧ b31 (E k)) (hx : b31 x) : ∀ k, k < 11 → lX (uL s c j (lI x)) c k = lI (if k = j then x else E k) ∧ b31 (if k = j then x else E k) := by
  intro k hk
  by_cases e : k = j
  · subst e; rw [lX_uLs, if_pos rfl]; exact ⟨rfl, hx⟩
  · rw [lX_uLj e, if_neg e]; exact h k hk
theorem MmX.ch {s : XS} {c : Nat} (h : MmX s c) : ∃ E : Nat → Int, ∀ k, k < 11 → lX s c k = lI (E k) ∧ b31 (E k) := by
  have : ∀ k : Nat, ∃ v : Int, k < 11 → lX s c k = lI v ∧ b31 v := by
    intro k
    by_cases q : k < 11
    · obtain ⟨v, z⟩ := h k q; exact ⟨v, fun _ => z⟩
    · exact ⟨0, fun z => absurd z q⟩
  exact Classical.axiomOfChoice this
theorem b31N {a : Nat} (h : a < 2147483648) : b31 (a : Int) := by constructor <;> omega
section X17
variable {g : GC} {M : MM} {o ta b : Nat} {P : Nat → Prop} {T : Te} {s : XS} {t : St}
theorem ct_X5_paints {p w e : Nat} (W : WS g M o P ta T s) (hb : isS b) (hN : SX s b (tn T) (fa T) (ki T) t) (hB : SB (tn T) t) (hp : p < tn T) (hw : w < tn T) (he : e < 2) :
    Ct g yX5_paints cX5_paints 4 (some Jvm.ClassFile.FieldType.int) 430 0 0 [.ref (o + b), .int (nI p), .int (nI w), .int (nI e)] (putX M o s) (QX M o (fun v s' => v = some (.int (nI (paintS T t p w e))) ∧ MoC s s')) noX := by
  have hg := W.gx
  have hS := W.S
  have hX := W.X
  have hn8 := W.B.1
  obtain ⟨t0, t1, t2, t3, t4⟩ := W.2.2.2.2.2.1
  have hR : ∀ s' j, mR (putX M o s') ta j = mR M ta j := fun s' j => mR_putXn (W.2.2.2.1 ta t0)
  have hlk := (hB.2 p hp).2.1
  refine Ct.of (by decide) (Nat.le_of_ble_eq_true rfl) rfl ?_
  rcases t3 0 (by decide) with ⟨c1, c2⟩ | ⟨cs, x, c1, c2, c3⟩
  · have hp0 : paintS T t p w e = lk t p := by unfold paintS; rw [c1]
    rw [hp0]
    refine r_ald0 (pc := 0) dX5_paints_0 ?_
    refine x_getR (c := b) hS (st_ow hb) (st_kd hb) (pc := 1) dX5_paints_1 fl_X5_3 (fs_10 hX hb) ?_
    refine x_getRN (c := 0) hS ow_0 kd_0 (pc := 4) dX5_paints_4 (fn_X5_82 hg) W.ht ?_
    refine r_getQN (pc := 7) dX5_paints_7 (fn_X5_86 hg) t1 ?_
    rw [(hR _ 4).trans c2]
    refine r_ifnonnull (r := none) (pc := 10) (tgt := 20) dX5_paints_10 (by decide) (fun _ h10 => ?_) (fun h10 => ?_)
    · skip
      cases h10
    · skip
      refine r_ald0 (pc := 13) dX5_paints_13 ?_
      refine x_getR (c := b) hS (st_ow hb) (st_kd hb) (pc := 14) dX5_paints_14 fl_X5_19 (fs_4 hX hb) ?_
      refine r_ild1 (pc := 17) dX5_paints_17 ?_
      refine x_iald (c := (b + 2)) hS (st_ow2 hb) (st_kd2 hb) (st_ln2 hb) (pc := 18) dX5_paints_18 (by omega) (by omega) ?_
      refine Bd.eqI (hN.2.2.2.1 p hp) ?_
      refine r_iret (pc := 19) dX5_paints_19 ?_
      exact ⟨s, rfl, rfl, MoC.rf W.m⟩
  · have hp0 : paintS T t p w e = cutN 99 (evS cs (envP T t p w e)) := by unfold paintS; rw [c1]
    rw [hp0]
    have hok := (W.B.2.2.2.1 0 cs (by decide) c1).1
    have hF := W.B.2.2.1
    have q1 := hF p hp
    have q2 := hF w hw
    have q3 := (hB.2 w hw).2.2.2 p hp
    have q4 := hB.1
    obtain ⟨v, hv⟩ := W.m.ch
    have hE := moU (j := 5) (x := (e : Int)) (moU (j := 4) (x := (lk t p : Int)) (moU (j := 3) (x := (yr t : Int)) (moU (j := 2) (x := (th t w p : Int)) (moU (j := 1) (x := (ki T w : Int)) (moU (j := 0) (x := (fa T p : Int)) hv (b31N (by omega))) (b31N (by omega))) (b31N (by omega))) (b31N (by omega))) (b31N (by omega))) (b31N (by omega))
    have hev := ev_val (w := 0) (env' := envP T t p w e) hg W.z (VAL.fr (fun c hc => Sm.put (W.2.2.2.1 c hc)) (fun _ q => q) 40 40 x cs (Nat.le_refl _) c3) (MoX.of (M := M) (o := o) (s := uL (uL (askX s (fa T p) (ki T w) (th t w p) (yr t)) 8 4 (lI (lk t p : Int))) 8 5 (lI (e : Int))) hS hX hE) hok (fun k hk => by
      have hk6 : k < 6 := by simpa [alw] using hk
      have : k = 0 ∨ k = 1 ∨ k = 2 ∨ k = 3 ∨ k = 4 ∨ k = 5 := by omega
      rcases this with rfl | rfl | rfl | rfl | rfl | rfl <;> rfl)
    have hM6 : MoC s (uL (uL (askX s (fa T p) (ki T w) (th t w p) (yr t)) 8 4 (lI (lk t p : Int))) 8 5 (lI (e : Int))) := ⟨rfl, rfl, fun c hc => by funext j; rw [lX_uLc hc, lX_uLc hc, askX_l hc], fun k hk => ⟨_, hE k hk⟩⟩
    refine r_ald0 (pc := 0) dX5_paints_0 ?_
    refine x_getR (c := b) hS (st_ow hb) (st_kd hb) (pc := 1) dX5_paints_1 fl_X5_3 (fs_10 hX hb) ?_
    refine x_getRN (c := 0) hS ow_0 kd_0 (pc := 4) dX5_paints_4 (fn_X5_82 hg) W.ht ?_
    refine r_getQN (pc := 7) dX5_paints_7 (fn_X5_86 hg) t1 ?_
    rw [(hR _ 4).trans c2]
    refine r_ifnonnull (r := some x) (pc := 10) (tgt := 20) dX5_paints_10 (by decide) (fun _ h10 => ?_) (fun h10 => ?_)
    · skip
      refine r_ald0 (pc := 20) dX5_paints_20 ?_
      refine r_ild1 (pc := 21) dX5_paints_21 ?_
      refine r_ild2 (pc := 22) dX5_paints_22 ?_
      refine r_ild2 (pc := 23) dX5_paints_23 ?_
      refine r_ild1 (pc := 24) dX5_paints_24 ?_
      refine r_cV (pc := 25) dX5_paints_25 cv_X5_92 (hS.k (c := b) (st_ow hb) (st_kd hb)) (ct_X5_asks hg hS hX hb hN hB hF hn8 hp hw hw hp) rfl rfl (Nat.le_of_ble_eq_true rfl) (by first | decide | omega) ?_
      rintro _ _ ⟨rfl, rfl⟩
      refine r_ald0 (pc := 28) dX5_paints_28 ?_
      refine x_getR (c := b) hS (st_ow hb) (st_kd hb) (pc := 29) dX5_paints_29 fl_X5_3 (fs_10 hX hb) ?_
      refine x_getRN (c := 0) hS ow_0 kd_0 (pc := 32) dX5_paints_32 (fn_X5_72 hg) (fx_0_6 hX) ?_
      refine x_getRN (c := 7) hS ow_7 kd_7 (pc := 35) dX5_paints_35 (fn_X5_76 hg) (fx_7_0 hX) ?_
      refine r_iconst (v := nI 4) (pc := 38) dX5_paints_38 (by decide) ?_
      refine r_ald0 (pc := 39) dX5_paints_39 ?_
      refine x_getR (c := b) hS (st_ow hb) (st_kd hb) (pc := 40) dX5_paints_40 fl_X5_19 (fs_4 hX hb) ?_
      refine r_ild1 (pc := 43) dX5_paints_43 ?_
      refine x_iald (c := (b + 2)) hS (st_ow2 hb) (st_kd2 hb) (st_ln2 hb) (pc := 44) dX5_paints_44 (by omega) (by omega) ?_
      refine Bd.eqI (hN.2.2.2.1 p hp) ?_
      first | refine r_i2lM (pc := 45) dX5_paints_45 (by omega) ?_ | refine r_i2lI (pc := 45) dX5_paints_45 (by constructor <;> omega) ?_ | refine r_i2lT (pc := 45) dX5_paints_45 ?_
      refine x_last (c := 8) hS ow_8 kd_8 ln_8 (pc := 46) dX5_paints_46 (by omega) (by omega) ?_
      refine r_ald0 (pc := 47) dX5_paints_47 ?_
      refine x_getR (c := b) hS (st_ow hb) (st_kd hb) (pc := 48) dX5_paints_48 fl_X5_3 (fs_10 hX hb) ?_
      refine x_getRN (c := 0) hS ow_0 kd_0 (pc := 51) dX5_paints_51 (fn_X5_72 hg) (fx_0_6 hX) ?_
      refine x_getRN (c := 7) hS ow_7 kd_7 (pc := 54) dX5_paints_54 (fn_X5_76 hg) (fx_7_0 hX) ?_
      refine r_iconst (v := nI 5) (pc := 57) dX5_paints_57 (by decide) ?_
      refine r_ild3 (pc := 58) dX5_paints_58 ?_
      first | refine r_i2lM (pc := 59) dX5_paints_59 (by omega) ?_ | refine r_i2lI (pc := 59) dX5_paints_59 (by constructor <;> omega) ?_ | refine r_i2lT (pc := 59) dX5_paints_59 ?_
      refine x_last (c := 8) hS ow_8 kd_8 ln_8 (pc := 60) dX5_paints_60 (by omega) (by omega) ?_
      refine r_lconst (v := lI 0) (pc := 61) dX5_paints_61 rfl ?_
      refine r_ldc2 (v := lI (99)) (pc := 62) dX5_paints_62 q1356 ?_
      refine r_ald0 (pc := 65) dX5_paints_65 ?_
      refine x_getR (c := b) hS (st_ow hb) (st_kd hb) (pc := 66) dX5_paints_66 fl_X5_3 (fs_10 hX hb) ?_
      refine x_getRN (c := 0) hS ow_0 kd_0 (pc := 69) dX5_paints_69 (fn_X5_82 hg) W.ht ?_
      refine r_getRN (pc := 72) dX5_paints_72 (fn_X5_86 hg) t1 ((hR _ 4).trans c2) ?_
      refine r_ald0 (pc := 75) dX5_paints_75 ?_
      refine x_getR (c := b) hS (st_ow hb) (st_kd hb) (pc := 76) dX5_paints_76 fl_X5_3 (fs_10 hX hb) ?_
      refine x_getRN (c := 0) hS ow_0 kd_0 (pc := 79) dX5_paints_79 (fn_X5_72 hg) (fx_0_6 hX) ?_
      refine r_at_X5_98 hg rfl (pc := 82) dX5_paints_82 (hev.2 429 (by decide)) (Nat.le_of_ble_eq_true rfl) (by decide) ?_
      refine r_cS (pc := 85) dX5_paints_85 cs_X5_104 (ct_J12_min_2 (by constructor <;> decide) (by obtain ⟨z1, z2⟩ := hev.1; constructor <;> omega)) rfl rfl (Nat.le_of_ble_eq_true rfl) (by first | decide | omega) ?_
      rintro _ _ ⟨rfl, rfl⟩
      refine r_cS (pc := 88) dX5_paints_88 cs_X5_110 (ct_J12_max_2 (by constructor <;> decide) (by obtain ⟨z1, z2⟩ := hev.1; split <;> (constructor <;> omega))) rfl rfl (Nat.le_of_ble_eq_true rfl) (by first | decide | omega) ?_
      rintro _ _ ⟨rfl, rfl⟩
      refine Bd.eqL (x' := lI ((cutN 99 (evS cs (envP T t p w e)) : Nat) : Int)) (congrArg lI (cut_of (m := 99) (by decide))) ?_
      first | refine r_l2iN (pc := 91) dX5_paints_91 ?_ | refine r_l2iI (pc := 91) dX5_paints_91 ?_ | refine r_l2i (pc := 91) dX5_paints_91 ?_
      refine r_iret (pc := 92) dX5_paints_92 ?_
      exact ⟨_, rfl, rfl, hM6⟩
    · skip
      cases h10
theorem ct_X5_minds {p w : Nat} {gain : Int} (W : WS g M o P ta T s) (hb : isS b) (hN : SX s b (tn T) (fa T) (ki T) t) (hB : SB (tn T) t) (hp : p < tn T) (hw : w < tn T) (hg1 : -99 ≤ gain) (hg2 : gain ≤ 99) :
    Ct g yX5_minds cX5_minds 4 (some Jvm.ClassFile.FieldType.int) 430 0 0 [.ref (o + b), .int (nI p), .int (nI w), .int (iI gain)] (putX M o s) (QX M o (fun v s' => v = some (.int (nI (mindS T t p w gain))) ∧ MoC s s')) noX := by
  have hg := W.gx
  have hS := W.S
  have hX := W.X
  have hn8 := W.B.1
  obtain ⟨t0, t1, t2, t3, t4⟩ := W.2.2.2.2.2.1
  have hR : ∀ s' j, mR (putX M o s') ta j = mR M ta j := fun s' j => mR_putXn (W.2.2.2.1 ta t0)
  refine Ct.of (by decide) (Nat.le_of_ble_eq_true rfl) rfl ?_
  rcases t3 1 (by decide) with ⟨c1, c2⟩ | ⟨cs, x, c1, c2, c3⟩
  · have hp0 : mindS T t p w gain = th t p w := by unfold mindS; rw [c1]
    rw [hp0]
    refine r_ald0 (pc := 0) dX5_minds_0 ?_
    refine x_getR (c := b) hS (st_ow hb) (st_kd hb) (pc := 1) dX5_minds_1 fl_X5_3 (fs_10 hX hb) ?_
    refine x_getRN (c := 0) hS ow_0 kd_0 (pc := 4) dX5_minds_4 (fn_X5_82 hg) W.ht ?_
    refine r_getQN (pc := 7) dX5_minds_7 (fn_X5_113 hg) t1 ?_
    rw [(hR _ 5).trans c2]
    refine r_ifnonnull (r := none) (pc := 10) (tgt := 22) dX5_minds_10 (by decide) (fun _ h10 => ?_) (fun h10 => ?_)
    · skip
      cases h10
    · skip
      refine r_ald0 (pc := 13) dX5_minds_13 ?_
      refine x_getR (c := b) hS (st_ow hb) (st_kd hb) (pc := 14) dX5_minds_14 fl_X5_34 (fs_8 hX hb) ?_
      refine r_ild1 (pc := 17) dX5_minds_17 ?_
      refine x_aald (c := (b + 6)) (j := p) hS (st_ow6 hb) (st_kd6 hb) (by decide) (st_ln6 hb) (pc := 18) dX5_minds_18 (by omega) (by omega) (fs_th hX hb (by omega)) ?_
      refine r_ild2 (pc := 19) dX5_minds_19 ?_
      refine x_iald (c := (b + (7 + p))) hS (th_ow hb (by omega)) (th_kd hb (by omega)) (th_ln hb (by omega)) (pc := 20) dX5_minds_20 (by omega) (by omega) ?_
      refine Bd.eqI (hN.2.2.2.2.2.2.2 p hp w hw) ?_
      refine r_iret (pc := 21) dX5_minds_21 ?_
      exact ⟨s, rfl, rfl, MoC.rf W.m⟩
  · have hp0 : mindS T t p w gain = cutN 9 (evS cs (envM T t p w gain)) := by unfold mindS; rw [c1]
    rw [hp0]
    have hok := (W.B.2.2.2.1 1 cs (by decide) c1).1
    have hF := W.B.2.2.1
    have q1 := hF p hp
    have q2 := hF w hw
    have q3 := (hB.2 p hp).2.2.2 w hw
    have q4 := hB.1
    obtain ⟨v, hv⟩ := W.m.ch
    have hE := moU (j := 6) (x := gain) (moU (j := 3) (x := (yr t : Int)) (moU (j := 2) (x := (th t p w : Int)) (moU (j := 1) (x := (ki T p : Int)) (moU (j := 0) (x := (fa T w : Int)) hv (b31N (by omega))) (b31N (by omega))) (b31N (by omega))) (b31N (by omega))) (by constructor <;> omega)
    have hev := ev_val (w := 1) (env' := envM T t p w gain) hg W.z (VAL.fr (fun c hc => Sm.put (W.2.2.2.1 c hc)) (fun _ q => q) 40 40 x cs (Nat.le_refl _) c3) (MoX.of (M := M) (o := o) (s := uL (askX s (fa T w) (ki T p) (th t p w) (yr t)) 8 6 (lI gain)) hS hX hE) hok (fun k hk => by
      have hk6 : k < 4 ∨ k = 6 := by simpa [alw] using hk
      have : k = 0 ∨ k = 1 ∨ k = 2 ∨ k = 3 ∨ k = 6 := by omega
      rcases this with rfl | rfl | rfl | rfl | rfl <;> rfl)
    have hM6 : MoC s (uL (askX s (fa T w) (ki T p) (th t p w) (yr t)) 8 6 (lI gain)) := ⟨rfl, rfl, fun c hc => by funext j; rw [lX_uLc hc, askX_l hc], fun k hk => ⟨_, hE k hk⟩⟩
    refine r_ald0 (pc := 0) dX5_minds_0 ?_
    refine x_getR (c := b) hS (st_ow hb) (st_kd hb) (pc := 1) dX5_minds_1 fl_X5_3 (fs_10 hX hb) ?_
    refine x_getRN (c := 0) hS ow_0 kd_0 (pc := 4) dX5_minds_4 (fn_X5_82 hg) W.ht ?_
    refine r_getQN (pc := 7) dX5_minds_7 (fn_X5_113 hg) t1 ?_
    rw [(hR _ 5).trans c2]
    refine r_ifnonnull (r := some x) (pc := 10) (tgt := 22) dX5_minds_10 (by decide) (fun _ h10 => ?_) (fun h10 => ?_)
    · skip
      refine r_ald0 (pc := 22) dX5_minds_22 ?_
      refine r_ild2 (pc := 23) dX5_minds_23 ?_
      refine r_ild1 (pc := 24) dX5_minds_24 ?_
      refine r_ild1 (pc := 25) dX5_minds_25 ?_
      refine r_ild2 (pc := 26) dX5_minds_26 ?_
      refine r_cV (pc := 27) dX5_minds_27 cv_X5_92 (hS.k (c := b) (st_ow hb) (st_kd hb)) (ct_X5_asks hg hS hX hb hN hB hF hn8 hw hp hp hw) rfl rfl (Nat.le_of_ble_eq_true rfl) (by first | decide | omega) ?_
      rintro _ _ ⟨rfl, rfl⟩
      refine r_ald0 (pc := 30) dX5_minds_30 ?_
      refine x_getR (c := b) hS (st_ow hb) (st_kd hb) (pc := 31) dX5_minds_31 fl_X5_3 (fs_10 hX hb) ?_
      refine x_getRN (c := 0) hS ow_0 kd_0 (pc := 34) dX5_minds_34 (fn_X5_72 hg) (fx_0_6 hX) ?_
      refine x_getRN (c := 7) hS ow_7 kd_7 (pc := 37) dX5_minds_37 (fn_X5_76 hg) (fx_7_0 hX) ?_
      refine r_bipush (v := nI 6) (pc := 40) dX5_minds_40 (by decide) ?_
      refine r_ild3 (pc := 42) dX5_minds_42 ?_
      first | refine r_i2lM (pc := 43) dX5_minds_43 (by omega) ?_ | refine r_i2lI (pc := 43) dX5_minds_43 (by constructor <;> omega) ?_ | refine r_i2lT (pc := 43) dX5_minds_43 ?_
      refine x_last (c := 8) hS ow_8 kd_8 ln_8 (pc := 44) dX5_minds_44 (by omega) (by omega) ?_
      refine r_lconst (v := lI 0) (pc := 45) dX5_minds_45 rfl ?_
      refine r_ldc2 (v := lI (9)) (pc := 46) dX5_minds_46 q1402 ?_
      refine r_ald0 (pc := 49) dX5_minds_49 ?_
      refine x_getR (c := b) hS (st_ow hb) (st_kd hb) (pc := 50) dX5_minds_50 fl_X5_3 (fs_10 hX hb) ?_
      refine x_getRN (c := 0) hS ow_0 kd_0 (pc := 53) dX5_minds_53 (fn_X5_82 hg) W.ht ?_
      refine r_getRN (pc := 56) dX5_minds_56 (fn_X5_113 hg) t1 ((hR _ 5).trans c2) ?_
      refine r_ald0 (pc := 59) dX5_minds_59 ?_
      refine x_getR (c := b) hS (st_ow hb) (st_kd hb) (pc := 60) dX5_minds_60 fl_X5_3 (fs_10 hX hb) ?_
      refine x_getRN (c := 0) hS ow_0 kd_0 (pc := 63) dX5_minds_63 (fn_X5_72 hg) (fx_0_6 hX) ?_
      refine r_at_X5_98 hg rfl (pc := 66) dX5_minds_66 (hev.2 429 (by decide)) (Nat.le_of_ble_eq_true rfl) (by decide) ?_
      refine r_cS (pc := 69) dX5_minds_69 cs_X5_104 (ct_J12_min_2 (by constructor <;> decide) (by obtain ⟨z1, z2⟩ := hev.1; constructor <;> omega)) rfl rfl (Nat.le_of_ble_eq_true rfl) (by first | decide | omega) ?_
      rintro _ _ ⟨rfl, rfl⟩
      refine r_cS (pc := 72) dX5_minds_72 cs_X5_110 (ct_J12_max_2 (by constructor <;> decide) (by obtain ⟨z1, z2⟩ := hev.1; split <;> (constructor <;> omega))) rfl rfl (Nat.le_of_ble_eq_true rfl) (by first | decide | omega) ?_
      rintro _ _ ⟨rfl, rfl⟩
      refine Bd.eqL (x' := lI ((cutN 9 (evS cs (envM T t p w gain)) : Nat) : Int)) (congrArg lI (cut_of (m := 9) (by decide))) ?_
      first | refine r_l2iN (pc := 75) dX5_minds_75 ?_ | refine r_l2iI (pc := 75) dX5_minds_75 ?_ | refine r_l2i (pc := 75) dX5_minds_75 ?_
      refine r_iret (pc := 76) dX5_minds_76 ?_
      exact ⟨_, rfl, rfl, hM6⟩
    · skip
      cases h10
theorem ct_X5_feud {h : Nat} (W : WS g M o P ta T s) (hb : isS b) (hN : SX s b (tn T) (fa T) (ki T) t) (hB : SB (tn T) t) (hh : h < 90) :
    Ct g yX5_feud cX5_feud 4 (some Jvm.ClassFile.FieldType.boolean) 430 0 0 [.ref (o + b), .int (nI h)] (putX M o s) (QX M o (fun v s' => v = some (.int (zI (feudAtS T t h = some true))) ∧ MoC s s')) noX := by
  have hg := W.gx
  have hS := W.S
  have hX := W.X
  have hn8 := W.B.1
  obtain ⟨t0, t1, t2, t3, t4⟩ := W.2.2.2.2.2.1
  have hR : ∀ s' j, mR (putX M o s') ta j = mR M ta j := fun s' j => mR_putXn (W.2.2.2.1 ta t0)
  refine Ct.of (by decide) (Nat.le_of_ble_eq_true rfl) rfl ?_
  cases e1 : who t (tn T) h with
  | none =>
    have hp0 : ¬ (feudAtS T t h = some true) := by unfold feudAtS; rw [e1]; intro q; cases q
    refine r_ald0 (pc := 0) dX5_feud_0 ?_
    refine r_ild1 (pc := 1) dX5_feud_1 ?_
    refine r_cV (pc := 2) dX5_feud_2 cv_X5_68 (hS.k (c := b) (st_ow hb) (st_kd hb)) (ct_X5_who hS hX hb hN hB hn8 (by omega)) rfl rfl (Nat.le_of_ble_eq_true rfl) (by first | decide | omega) ?_
    rintro _ _ ⟨rfl, rfl⟩
    rw [e1, oI_none]
    refine r_ist2 (pc := 5) dX5_feud_5 ?_
    refine r_ald0 (pc := 6) dX5_feud_6 ?_
    refine r_ild1 (pc := 7) dX5_feud_7 ?_
    refine r_iconst (v := nI 1) (pc := 8) dX5_feud_8 (by decide) ?_
    first | refine r_iaddN (pc := 9) dX5_feud_9 ?_ | refine r_iaddJ (pc := 9) dX5_feud_9 ?_ | refine r_iadd (pc := 9) dX5_feud_9 ?_
    refine r_cV (pc := 10) dX5_feud_10 cv_X5_68 (hS.k (c := b) (st_ow hb) (st_kd hb)) (ct_X5_who hS hX hb hN hB hn8 (by omega)) rfl rfl (Nat.le_of_ble_eq_true rfl) (by first | decide | omega) ?_
    rintro _ _ ⟨rfl, rfl⟩
    refine r_ist3 (pc := 13) dX5_feud_13 ?_
    refine r_ild2 (pc := 14) dX5_feud_14 ?_
    refine r_iconst (v := -1) (pc := 15) dX5_feud_15 (by decide) ?_
    first | refine r_icmp_eqN (pc := 16) (tgt := 24) dX5_feud_16 (by decide) (by omega) (by omega) (fun h16 => ?_) (fun h16 => ?_) | refine r_icmp_eq (pc := 16) (tgt := 24) dX5_feud_16 (by decide) (fun h16 => ?_) (fun h16 => ?_)
    · skip
      refine r_iconst (v := nI 0) (pc := 24) dX5_feud_24 (by decide) ?_
      refine r_zret (pc := 25) dX5_feud_25 (by first | rfl | exact zI_nar | assumption) ?_
      exact ⟨s, rfl, by rw [zI_f hp0]; rfl, MoC.rf W.m⟩
    · skip
      exact absurd rfl h16
  | some p =>
    have hp := who_lt e1
    cases e2 : who t (tn T) (h + 1) with
    | none =>
      have hp0 : ¬ (feudAtS T t h = some true) := by unfold feudAtS; rw [e1, e2]; intro q; cases q
      refine r_ald0 (pc := 0) dX5_feud_0 ?_
      refine r_ild1 (pc := 1) dX5_feud_1 ?_
      refine r_cV (pc := 2) dX5_feud_2 cv_X5_68 (hS.k (c := b) (st_ow hb) (st_kd hb)) (ct_X5_who hS hX hb hN hB hn8 (by omega)) rfl rfl (Nat.le_of_ble_eq_true rfl) (by first | decide | omega) ?_
      rintro _ _ ⟨rfl, rfl⟩
      rw [e1, oI_some]
      refine r_ist2 (pc := 5) dX5_feud_5 ?_
      refine r_ald0 (pc := 6) dX5_feud_6 ?_
      refine r_ild1 (pc := 7) dX5_feud_7 ?_
      refine r_iconst (v := nI 1) (pc := 8) dX5_feud_8 (by decide) ?_
      first | refine r_iaddN (pc := 9) dX5_feud_9 ?_ | refine r_iaddJ (pc := 9) dX5_feud_9 ?_ | refine r_iadd (pc := 9) dX5_feud_9 ?_
      refine r_cV (pc := 10) dX5_feud_10 cv_X5_68 (hS.k (c := b) (st_ow hb) (st_kd hb)) (ct_X5_who hS hX hb hN hB hn8 (by omega)) rfl rfl (Nat.le_of_ble_eq_true rfl) (by first | decide | omega) ?_
      rintro _ _ ⟨rfl, rfl⟩
      rw [e2, oI_none]
      refine r_ist3 (pc := 13) dX5_feud_13 ?_
      refine r_ild2 (pc := 14) dX5_feud_14 ?_
      refine r_iconst (v := -1) (pc := 15) dX5_feud_15 (by decide) ?_
      first | refine r_icmp_eqN (pc := 16) (tgt := 24) dX5_feud_16 (by decide) (by omega) (by omega) (fun h16 => ?_) (fun h16 => ?_) | refine r_icmp_eq (pc := 16) (tgt := 24) dX5_feud_16 (by decide) (fun h16 => ?_) (fun h16 => ?_)
      · skip
        exact absurd h16 (nI_m1 (by omega))
      · skip
        refine r_ild3 (pc := 19) dX5_feud_19 ?_
        refine r_iconst (v := -1) (pc := 20) dX5_feud_20 (by decide) ?_
        first | refine r_icmp_neN (pc := 21) (tgt := 26) dX5_feud_21 (by decide) (by omega) (by omega) (fun h21 => ?_) (fun h21 => ?_) | refine r_icmp_ne (pc := 21) (tgt := 26) dX5_feud_21 (by decide) (fun h21 => ?_) (fun h21 => ?_)
        · skip
          exact absurd rfl h21
        · skip
          refine r_iconst (v := nI 0) (pc := 24) dX5_feud_24 (by decide) ?_
          refine r_zret (pc := 25) dX5_feud_25 (by first | rfl | exact zI_nar | assumption) ?_
          exact ⟨s, rfl, by rw [zI_f hp0]; rfl, MoC.rf W.m⟩
    | some w =>
      have hw := who_lt e2
      have hp0 : feudAtS T t h = some (feudS T t p w) := by unfold feudAtS; rw [e1, e2]
      rw [hp0]
      have q3 := (hB.2 p hp).2.2.2 w hw
      have q5 := (hB.2 w hw).2.2.2 p hp
      rcases t4 with ⟨c1, c2⟩ | ⟨cs, x, c1, c2, c3⟩
      · have hf : feudS T t p w = decide (th t p w + th t w p < 6) := by unfold feudS; rw [c1]
        refine r_ald0 (pc := 0) dX5_feud_0 ?_
        refine r_ild1 (pc := 1) dX5_feud_1 ?_
        refine r_cV (pc := 2) dX5_feud_2 cv_X5_68 (hS.k (c := b) (st_ow hb) (st_kd hb)) (ct_X5_who hS hX hb hN hB hn8 (by omega)) rfl rfl (Nat.le_of_ble_eq_true rfl) (by first | decide | omega) ?_
        rintro _ _ ⟨rfl, rfl⟩
        rw [e1, oI_some]
        refine r_ist2 (pc := 5) dX5_feud_5 ?_
        refine r_ald0 (pc := 6) dX5_feud_6 ?_
        refine r_ild1 (pc := 7) dX5_feud_7 ?_
        refine r_iconst (v := nI 1) (pc := 8) dX5_feud_8 (by decide) ?_
        first | refine r_iaddN (pc := 9) dX5_feud_9 ?_ | refine r_iaddJ (pc := 9) dX5_feud_9 ?_ | refine r_iadd (pc := 9) dX5_feud_9 ?_
        refine r_cV (pc := 10) dX5_feud_10 cv_X5_68 (hS.k (c := b) (st_ow hb) (st_kd hb)) (ct_X5_who hS hX hb hN hB hn8 (by omega)) rfl rfl (Nat.le_of_ble_eq_true rfl) (by first | decide | omega) ?_
        rintro _ _ ⟨rfl, rfl⟩
        rw [e2, oI_some]
        refine r_ist3 (pc := 13) dX5_feud_13 ?_
        refine r_ild2 (pc := 14) dX5_feud_14 ?_
        refine r_iconst (v := -1) (pc := 15) dX5_feud_15 (by decide) ?_
        first | refine r_icmp_eqN (pc := 16) (tgt := 24) dX5_feud_16 (by decide) (by omega) (by omega) (fun h16 => ?_) (fun h16 => ?_) | refine r_icmp_eq (pc := 16) (tgt := 24) dX5_feud_16 (by decide) (fun h16 => ?_) (fun h16 => ?_)
        · skip
          exact absurd h16 (nI_m1 (by omega))
        · skip
          refine r_ild3 (pc := 19) dX5_feud_19 ?_
          refine r_iconst (v := -1) (pc := 20) dX5_feud_20 (by decide) ?_
          first | refine r_icmp_neN (pc := 21) (tgt := 26) dX5_feud_21 (by decide) (by omega) (by omega) (fun h21 => ?_) (fun h21 => ?_) | refine r_icmp_ne (pc := 21) (tgt := 26) dX5_feud_21 (by decide) (fun h21 => ?_) (fun h21 => ?_)
          · skip
            refine r_ald0 (pc := 26) dX5_feud_26 ?_
            refine x_getR (c := b) hS (st_ow hb) (st_kd hb) (pc := 27) dX5_feud_27 fl_X5_3 (fs_10 hX hb) ?_
            refine x_getRN (c := 0) hS ow_0 kd_0 (pc := 30) dX5_feud_30 (fn_X5_82 hg) W.ht ?_
            refine r_getQN (pc := 33) dX5_feud_33 (fn_X5_141 hg) t1 ?_
            rw [(hR _ 6).trans c2]
            refine r_ifnonnull (r := none) (pc := 36) (tgt := 67) dX5_feud_36 (by decide) (fun _ h36 => ?_) (fun h36 => ?_)
            · skip
              cases h36
            · skip
              refine r_ald0 (pc := 39) dX5_feud_39 ?_
              refine x_getR (c := b) hS (st_ow hb) (st_kd hb) (pc := 40) dX5_feud_40 fl_X5_34 (fs_8 hX hb) ?_
              refine r_ild2 (pc := 43) dX5_feud_43 ?_
              refine x_aald (c := (b + 6)) (j := p) hS (st_ow6 hb) (st_kd6 hb) (by decide) (st_ln6 hb) (pc := 44) dX5_feud_44 (by omega) (by omega) (fs_th hX hb (by omega)) ?_
              refine r_ild3 (pc := 45) dX5_feud_45 ?_
              refine x_iald (c := (b + (7 + p))) hS (th_ow hb (by omega)) (th_kd hb (by omega)) (th_ln hb (by omega)) (pc := 46) dX5_feud_46 (by omega) (by omega) ?_
              refine Bd.eqI (hN.2.2.2.2.2.2.2 p hp w hw) ?_
              refine r_ald0 (pc := 47) dX5_feud_47 ?_
              refine x_getR (c := b) hS (st_ow hb) (st_kd hb) (pc := 48) dX5_feud_48 fl_X5_34 (fs_8 hX hb) ?_
              refine r_ild3 (pc := 51) dX5_feud_51 ?_
              refine x_aald (c := (b + 6)) (j := w) hS (st_ow6 hb) (st_kd6 hb) (by decide) (st_ln6 hb) (pc := 52) dX5_feud_52 (by omega) (by omega) (fs_th hX hb (by omega)) ?_
              refine r_ild2 (pc := 53) dX5_feud_53 ?_
              refine x_iald (c := (b + (7 + w))) hS (th_ow hb (by omega)) (th_kd hb (by omega)) (th_ln hb (by omega)) (pc := 54) dX5_feud_54 (by omega) (by omega) ?_
              refine Bd.eqI (hN.2.2.2.2.2.2.2 w hw p hp) ?_
              first | refine r_iaddN (pc := 55) dX5_feud_55 ?_ | refine r_iaddJ (pc := 55) dX5_feud_55 ?_ | refine r_iadd (pc := 55) dX5_feud_55 ?_
              refine r_bipush (v := nI 6) (pc := 56) dX5_feud_56 (by decide) ?_
              first | refine r_icmp_geN (pc := 58) (tgt := 65) dX5_feud_58 (by decide) (by omega) (by omega) (fun h58 => ?_) (fun h58 => ?_) | refine r_icmp_ge (pc := 58) (tgt := 65) dX5_feud_58 (by decide) (fun h58 => ?_) (fun h58 => ?_)
              · skip
                refine r_iconst (v := nI 0) (pc := 65) dX5_feud_65 (by decide) ?_
                refine r_zret (pc := 66) dX5_feud_66 (by first | rfl | exact zI_nar | assumption) ?_
                exact ⟨s, rfl, by rw [hf]; first | (rw [zI_t (by simp; omega)]; rfl) | (rw [zI_f (by simp; omega)]; rfl), MoC.rf W.m⟩
              · skip
                refine r_iconst (v := nI 1) (pc := 61) dX5_feud_61 (by decide) ?_
                refine r_goto (pc := 62) (tgt := 66) dX5_feud_62 (by decide) ?_
                refine r_zret (pc := 66) dX5_feud_66 (by first | rfl | exact zI_nar | assumption) ?_
                exact ⟨s, rfl, by rw [hf]; first | (rw [zI_t (by simp; omega)]; rfl) | (rw [zI_f (by simp; omega)]; rfl), MoC.rf W.m⟩
          · skip
            exact absurd h21 (nI_m1 (by omega))
      · have hf : feudS T t p w = decide (evS cs (envF T t p w) = 1) := by unfold feudS; rw [c1]
        have hok := (W.B.2.2.2.1 2 cs (by decide) c1).1
        have hF := W.B.2.2.1
        have q1 := hF p hp
        have q2 := hF w hw
        have q4 := hB.1
        obtain ⟨v, hv⟩ := W.m.ch
        have hE := moU (j := 7) (x := (th t w p : Int)) (moU (j := 3) (x := (yr t : Int)) (moU (j := 2) (x := (th t p w : Int)) (moU (j := 1) (x := (ki T p : Int)) (moU (j := 0) (x := (fa T w : Int)) hv (b31N (by omega))) (b31N (by omega))) (b31N (by omega))) (b31N (by omega))) (b31N (by omega))
        have hev := ev_tst (w := 2) (env' := envF T t p w) hg W.z (TST.fr (fun c hc => Sm.put (W.2.2.2.1 c hc)) (fun _ q => q) 40 40 x cs (Nat.le_refl _) c3) (MoX.of (M := M) (o := o) (s := uL (askX s (fa T w) (ki T p) (th t p w) (yr t)) 8 7 (lI (th t w p : Int))) hS hX hE) hok (fun k hk => by
          have hk6 : k < 4 ∨ k = 7 := by simpa [alw] using hk
          have : k = 0 ∨ k = 1 ∨ k = 2 ∨ k = 3 ∨ k = 7 := by omega
          rcases this with rfl | rfl | rfl | rfl | rfl <;> rfl)
        have hM6 : MoC s (uL (askX s (fa T w) (ki T p) (th t p w) (yr t)) 8 7 (lI (th t w p : Int))) := ⟨rfl, rfl, fun c hc => by funext j; rw [lX_uLc hc, askX_l hc], fun k hk => ⟨_, hE k hk⟩⟩
        refine r_ald0 (pc := 0) dX5_feud_0 ?_
        refine r_ild1 (pc := 1) dX5_feud_1 ?_
        refine r_cV (pc := 2) dX5_feud_2 cv_X5_68 (hS.k (c := b) (st_ow hb) (st_kd hb)) (ct_X5_who hS hX hb hN hB hn8 (by omega)) rfl rfl (Nat.le_of_ble_eq_true rfl) (by first | decide | omega) ?_
        rintro _ _ ⟨rfl, rfl⟩
        rw [e1, oI_some]
        refine r_ist2 (pc := 5) dX5_feud_5 ?_
        refine r_ald0 (pc := 6) dX5_feud_6 ?_
        refine r_ild1 (pc := 7) dX5_feud_7 ?_
        refine r_iconst (v := nI 1) (pc := 8) dX5_feud_8 (by decide) ?_
        first | refine r_iaddN (pc := 9) dX5_feud_9 ?_ | refine r_iaddJ (pc := 9) dX5_feud_9 ?_ | refine r_iadd (pc := 9) dX5_feud_9 ?_
        refine r_cV (pc := 10) dX5_feud_10 cv_X5_68 (hS.k (c := b) (st_ow hb) (st_kd hb)) (ct_X5_who hS hX hb hN hB hn8 (by omega)) rfl rfl (Nat.le_of_ble_eq_true rfl) (by first | decide | omega) ?_
        rintro _ _ ⟨rfl, rfl⟩
        rw [e2, oI_some]
        refine r_ist3 (pc := 13) dX5_feud_13 ?_
        refine r_ild2 (pc := 14) dX5_feud_14 ?_
        refine r_iconst (v := -1) (pc := 15) dX5_feud_15 (by decide) ?_
        first | refine r_icmp_eqN (pc := 16) (tgt := 24) dX5_feud_16 (by decide) (by omega) (by omega) (fun h16 => ?_) (fun h16 => ?_) | refine r_icmp_eq (pc := 16) (tgt := 24) dX5_feud_16 (by decide) (fun h16 => ?_) (fun h16 => ?_)
        · skip
          exact absurd h16 (nI_m1 (by omega))
        · skip
          refine r_ild3 (pc := 19) dX5_feud_19 ?_
          refine r_iconst (v := -1) (pc := 20) dX5_feud_20 (by decide) ?_
          first | refine r_icmp_neN (pc := 21) (tgt := 26) dX5_feud_21 (by decide) (by omega) (by omega) (fun h21 => ?_) (fun h21 => ?_) | refine r_icmp_ne (pc := 21) (tgt := 26) dX5_feud_21 (by decide) (fun h21 => ?_) (fun h21 => ?_)
          · skip
            refine r_ald0 (pc := 26) dX5_feud_26 ?_
            refine x_getR (c := b) hS (st_ow hb) (st_kd hb) (pc := 27) dX5_feud_27 fl_X5_3 (fs_10 hX hb) ?_
            refine x_getRN (c := 0) hS ow_0 kd_0 (pc := 30) dX5_feud_30 (fn_X5_82 hg) W.ht ?_
            refine r_getQN (pc := 33) dX5_feud_33 (fn_X5_141 hg) t1 ?_
            rw [(hR _ 6).trans c2]
            refine r_ifnonnull (r := some x) (pc := 36) (tgt := 67) dX5_feud_36 (by decide) (fun _ h36 => ?_) (fun h36 => ?_)
            · skip
              refine r_ald0 (pc := 67) dX5_feud_67 ?_
              refine r_ild3 (pc := 68) dX5_feud_68 ?_
              refine r_ild2 (pc := 69) dX5_feud_69 ?_
              refine r_ild2 (pc := 70) dX5_feud_70 ?_
              refine r_ild3 (pc := 71) dX5_feud_71 ?_
              refine r_cV (pc := 72) dX5_feud_72 cv_X5_92 (hS.k (c := b) (st_ow hb) (st_kd hb)) (ct_X5_asks hg hS hX hb hN hB hF hn8 hw hp hp hw) rfl rfl (Nat.le_of_ble_eq_true rfl) (by first | decide | omega) ?_
              rintro _ _ ⟨rfl, rfl⟩
              refine r_ald0 (pc := 75) dX5_feud_75 ?_
              refine x_getR (c := b) hS (st_ow hb) (st_kd hb) (pc := 76) dX5_feud_76 fl_X5_3 (fs_10 hX hb) ?_
              refine x_getRN (c := 0) hS ow_0 kd_0 (pc := 79) dX5_feud_79 (fn_X5_72 hg) (fx_0_6 hX) ?_
              refine x_getRN (c := 7) hS ow_7 kd_7 (pc := 82) dX5_feud_82 (fn_X5_76 hg) (fx_7_0 hX) ?_
              refine r_bipush (v := nI 7) (pc := 85) dX5_feud_85 (by decide) ?_
              refine r_ald0 (pc := 87) dX5_feud_87 ?_
              refine x_getR (c := b) hS (st_ow hb) (st_kd hb) (pc := 88) dX5_feud_88 fl_X5_34 (fs_8 hX hb) ?_
              refine r_ild3 (pc := 91) dX5_feud_91 ?_
              refine x_aald (c := (b + 6)) (j := w) hS (st_ow6 hb) (st_kd6 hb) (by decide) (st_ln6 hb) (pc := 92) dX5_feud_92 (by omega) (by omega) (fs_th hX hb (by omega)) ?_
              refine r_ild2 (pc := 93) dX5_feud_93 ?_
              refine x_iald (c := (b + (7 + w))) hS (th_ow hb (by omega)) (th_kd hb (by omega)) (th_ln hb (by omega)) (pc := 94) dX5_feud_94 (by omega) (by omega) ?_
              refine Bd.eqI (hN.2.2.2.2.2.2.2 w hw p hp) ?_
              first | refine r_i2lM (pc := 95) dX5_feud_95 (by omega) ?_ | refine r_i2lI (pc := 95) dX5_feud_95 (by constructor <;> omega) ?_ | refine r_i2lT (pc := 95) dX5_feud_95 ?_
              refine x_last (c := 8) hS ow_8 kd_8 ln_8 (pc := 96) dX5_feud_96 (by omega) (by omega) ?_
              refine r_ald0 (pc := 97) dX5_feud_97 ?_
              refine x_getR (c := b) hS (st_ow hb) (st_kd hb) (pc := 98) dX5_feud_98 fl_X5_3 (fs_10 hX hb) ?_
              refine x_getRN (c := 0) hS ow_0 kd_0 (pc := 101) dX5_feud_101 (fn_X5_82 hg) W.ht ?_
              refine r_getRN (pc := 104) dX5_feud_104 (fn_X5_141 hg) t1 ((hR _ 6).trans c2) ?_
              refine r_ald0 (pc := 107) dX5_feud_107 ?_
              refine x_getR (c := b) hS (st_ow hb) (st_kd hb) (pc := 108) dX5_feud_108 fl_X5_3 (fs_10 hX hb) ?_
              refine x_getRN (c := 0) hS ow_0 kd_0 (pc := 111) dX5_feud_111 (fn_X5_72 hg) (fx_0_6 hX) ?_
              refine r_ho_X5_145 hg rfl (pc := 114) dX5_feud_114 (hev 429 (by decide)) (Nat.le_of_ble_eq_true rfl) (by decide) ?_
              refine r_zret (pc := 117) dX5_feud_117 (by first | rfl | exact zI_nar | assumption) ?_
              exact ⟨_, rfl, by rw [hf]; exact congrArg (fun z => some (Value.int z)) (zI_congr (by simp)), hM6⟩
            · skip
              cases h36
          · skip
            exact absurd h21 (nI_m1 (by omega))
end X17
