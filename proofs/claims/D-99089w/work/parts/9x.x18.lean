set_option maxRecDepth 100000
/-! A STATE: strokes, years -/
/-- what a state's year may change: its own cells, the moment's longs -/
def yP (b c : Nat) : Prop := stP b c ∨ c = 8
theorem MoC.fr {s s' : XS} {b : Nat} (h : MoC s s') : FrX (yP b) s s' := ⟨fun c _ => by rw [h.1], fun c hc => h.2.2.1 c (fun q => hc (Or.inr q)), fun c _ => by rw [h.2.1]⟩
theorem RX.fr {s s' : XS} {o b : Nat} {L : List Ev} (h : RX s o b L) (hi : ∀ c j, ((c = b ∧ j = 2) ∨ (b + 16 ≤ c ∧ c < b + 56)) → iX s' c j = iX s c j) (hr : ∀ j, rX s' (b + 15) j = rX s (b + 15) j) : RX s' o b L := by
  obtain ⟨pm, ⟨p1, p2⟩, h1, h2, h3⟩ := h
  refine ⟨pm, ⟨fun j hj => ⟨(p1 j hj).1, by rw [hr]; exact (p1 j hj).2⟩, p2⟩, by rw [hi b 2 (Or.inl ⟨rfl, rfl⟩)]; exact h1, h2, fun i a c e he => ?_⟩
  have hl : i < L.length := (List.getElem?_eq_some_iff.mp he).1
  have := (p1 i (by omega)).1
  rw [hi _ 0 (Or.inr ⟨by omega, by omega⟩), hi _ 1 (Or.inr ⟨by omega, by omega⟩), hi _ 2 (Or.inr ⟨by omega, by omega⟩)]
  exact h3 i a c e he
theorem RX.uI {s : XS} {o b c j : Nat} {v : Int32} {L : List Ev} (h : RX s o b L) (hc : ¬ ((c = b ∧ j = 2) ∨ (b + 16 ≤ c ∧ c < b + 56))) : RX (uI s c j v) o b L := by
  refine h.fr (fun c' j' hq => ?_) (fun _ => rfl)
  rw [iX_uI, if_neg (fun z => hc (by rw [← z.1, ← z.2]; exact hq))]
section X18
variable {g : GC} {M : MM} {o ta b : Nat} {P : Nat → Prop} {T : Te} {s : XS} {t : St} {L : List Ev}
/-- what stands behind a state's method: the state t, what it keeps -/
def YrQ (g : GC) (M : MM) (o : Nat) (P : Nat → Prop) (ta : Nat) (T : Te) (b : Nat) (s0 : XS) (t : St) (L : List Ev) (s : XS) : Prop := WS g M o P ta T s ∧ SX s b (tn T) (fa T) (ki T) t ∧ RX s o b L ∧ FrX (yP b) s0 s
theorem strTail {s4 s5 : XS} {L' : List Ev} (W3 : WS g M o P ta T s4) (hb : isS b) (hN3 : SX s4 b (tn T) (fa T) (ki T) t) (hF3 : FrX (yP b) s s4) (hR5 : RX s5 o b L') (hX5 : FxX (rX s5) o) (hF5 : FrX (tlP b) s4 s5) (hE5 : ∀ j, j ≠ 2 → iX s5 b j = iX s4 b j) : YrQ g M o P ta T b s t L' s5 := by
  have hb0 : 12 ≤ b := by rcases hb with h | h | ⟨k, _, h⟩ <;> omega
  have htl : ∀ c, tlP b c → stP b c := fun c hc => by unfold tlP at hc; unfold stP; omega
  refine ⟨W3.to hX5 (by rw [hF5.2.2 0 (fun q => by unfold tlP at q; omega)]) ?_, ?_, hR5, hF3.trans (hF5.mono (fun c hc => Or.inl (htl c hc)))⟩
  · intro k hk
    rw [hF5.2.1 8 (fun q => by unfold tlP at q; omega)]
    exact W3.m k hk
  · refine hN3.fr (fun c h1 h2 j hj => ?_) W3.B.1
    by_cases e : c = b
    · subst e; exact hE5 j (by have := hj rfl; omega)
    · rw [hF5.1 c (fun q => by unfold tlP at q; omega)]
theorem ct_X5_strokes {p e : Nat} (W : WS g M o P ta T s) (hb : isS b) (hN : SX s b (tn T) (fa T) (ki T) t) (hR : RX s o b L) (hB : SB (tn T) t) (hp : p < tn T) (he : e < 2) :
    Ct g yX5_strokes cX5_strokes 6 (some Jvm.ClassFile.FieldType.boolean) 431 0 0 [.ref (o + b), .int (nI p), .int (nI e)] (putX M o s) (QX M o (fun v s' => v = some (.int (zI ((strokeS T t p e).2.length = 1))) ∧ (strokeS T t p e).2.length ≤ 1 ∧ YrQ g M o P ta T b s (strokeS T t p e).1 (pushes L (strokeS T t p e).2) s')) noX := by
  have hg := W.gx
  have hS := W.S
  have hX := W.X
  have hn8 := W.B.1
  refine Ct.of (by decide) (Nat.le_of_ble_eq_true rfl) rfl ?_
  cases e1 : nb t (tn T) p e with
  | none =>
    have h0 : strokeS T t p e = (t, []) := by unfold strokeS; rw [e1]
    rw [h0]
    refine r_ald0 (pc := 0) dX5_strokes_0 ?_
    refine r_ild1 (pc := 1) dX5_strokes_1 ?_
    refine r_ild2 (pc := 2) dX5_strokes_2 ?_
    refine r_cV (pc := 3) dX5_strokes_3 cv_X5_118 (hS.k (c := b) (st_ow hb) (st_kd hb)) (ct_X5_beside hS hX hb hN hB hn8 hp he) rfl rfl (Nat.le_of_ble_eq_true rfl) (by first | decide | omega) ?_
    rintro _ _ ⟨rfl, rfl⟩
    rw [e1, oI_none]
    refine r_ist3 (pc := 6) dX5_strokes_6 ?_
    refine r_ild3 (pc := 7) dX5_strokes_7 ?_
    refine r_iconst (v := -1) (pc := 8) dX5_strokes_8 (by decide) ?_
    first | refine r_icmp_eqN (pc := 9) (tgt := 21) dX5_strokes_9 (by decide) (by omega) (by omega) (fun h9 => ?_) (fun h9 => ?_) | refine r_icmp_eq (pc := 9) (tgt := 21) dX5_strokes_9 (by decide) (fun h9 => ?_) (fun h9 => ?_)
    · skip
      refine r_iconst (v := nI 0) (pc := 21) dX5_strokes_21 (by decide) ?_
      refine r_zret (pc := 22) dX5_strokes_22 (by first | rfl | exact zI_nar | assumption) ?_
      exact ⟨s, rfl, rfl, Nat.zero_le _, W, hN, hR, FrX.rf⟩
    · skip
      exact absurd rfl h9
  | some w =>
    have hw := nb_lt e1
    have hsp := (hB.2 w hw).2.2.1
    have hlk := (hB.2 p hp).2.1
    have hth := (hB.2 p hp).2.2.2 w hw
    have hv9 := paintS_le (T := T) (t := t) (sit := p) (pai := w) (side := e) hlk
    by_cases hs1 : sp t w = 1
    · have h0 : strokeS T t p e = (t, []) := by unfold strokeS; rw [e1]; exact if_pos hs1
      rw [h0]
      refine r_ald0 (pc := 0) dX5_strokes_0 ?_
      refine r_ild1 (pc := 1) dX5_strokes_1 ?_
      refine r_ild2 (pc := 2) dX5_strokes_2 ?_
      refine r_cV (pc := 3) dX5_strokes_3 cv_X5_118 (hS.k (c := b) (st_ow hb) (st_kd hb)) (ct_X5_beside hS hX hb hN hB hn8 hp he) rfl rfl (Nat.le_of_ble_eq_true rfl) (by first | decide | omega) ?_
      rintro _ _ ⟨rfl, rfl⟩
      rw [e1, oI_some]
      refine r_ist3 (pc := 6) dX5_strokes_6 ?_
      refine r_ild3 (pc := 7) dX5_strokes_7 ?_
      refine r_iconst (v := -1) (pc := 8) dX5_strokes_8 (by decide) ?_
      first | refine r_icmp_eqN (pc := 9) (tgt := 21) dX5_strokes_9 (by decide) (by omega) (by omega) (fun h9 => ?_) (fun h9 => ?_) | refine r_icmp_eq (pc := 9) (tgt := 21) dX5_strokes_9 (by decide) (fun h9 => ?_) (fun h9 => ?_)
      · skip
        exact absurd h9 (nI_m1 (by omega))
      · skip
        refine r_ald0 (pc := 12) dX5_strokes_12 ?_
        refine x_getR (c := b) hS (st_ow hb) (st_kd hb) (pc := 13) dX5_strokes_13 fl_X5_28 (fs_7 hX hb) ?_
        refine r_ild3 (pc := 16) dX5_strokes_16 ?_
        refine x_zald (c := (b + 5)) hS (st_ow5 hb) (st_kd5 hb) (st_ln5 hb) (pc := 17) dX5_strokes_17 (by omega) (by omega) ?_
        refine Bd.eqI (hN.2.2.2.2.2.2.1 w hw) ?_
        first | refine r_if_eqZ (pc := 18) (tgt := 23) dX5_strokes_18 (by decide) (fun h18 => ?_) (fun h18 => ?_) | refine r_if_eqN (pc := 18) (tgt := 23) dX5_strokes_18 (by decide) (by omega) (fun h18 => ?_) (fun h18 => ?_) | refine r_if_eq (pc := 18) (tgt := 23) dX5_strokes_18 (by decide) (fun h18 => ?_) (fun h18 => ?_)
        · skip
          exact absurd hs1 h18
        · skip
          refine r_iconst (v := nI 0) (pc := 21) dX5_strokes_21 (by decide) ?_
          refine r_zret (pc := 22) dX5_strokes_22 (by first | rfl | exact zI_nar | assumption) ?_
          exact ⟨s, rfl, rfl, Nat.zero_le _, W, hN, hR, FrX.rf⟩
    · have h0 : strokeS T t p e = (sTh (sLk t p (paintS T t p w e)) p w (mindS T t p w ((paintS T t p w e : Int) - (lk t p : Int))), if paintS T t p w e = 0 ∧ 0 < lk t p then [(yr t, p, w)] else []) := by unfold strokeS; rw [e1]; exact if_neg hs1
      rw [h0]
      generalize hv : paintS T t p w e = v at hv9 ⊢
      have hB1 : SB (tn T) (sLk t p v) := sLk_SB hB hv9
      have hm : mindS T (sLk t p v) p w ((v : Int) - (lk t p : Int)) = mindS T t p w ((v : Int) - (lk t p : Int)) := rfl
      generalize hmi : mindS T t p w ((v : Int) - (lk t p : Int)) = mi at hm ⊢
      refine r_ald0 (pc := 0) dX5_strokes_0 ?_
      refine r_ild1 (pc := 1) dX5_strokes_1 ?_
      refine r_ild2 (pc := 2) dX5_strokes_2 ?_
      refine r_cV (pc := 3) dX5_strokes_3 cv_X5_118 (hS.k (c := b) (st_ow hb) (st_kd hb)) (ct_X5_beside hS hX hb hN hB hn8 hp he) rfl rfl (Nat.le_of_ble_eq_true rfl) (by first | decide | omega) ?_
      rintro _ _ ⟨rfl, rfl⟩
      rw [e1, oI_some]
      refine r_ist3 (pc := 6) dX5_strokes_6 ?_
      refine r_ild3 (pc := 7) dX5_strokes_7 ?_
      refine r_iconst (v := -1) (pc := 8) dX5_strokes_8 (by decide) ?_
      first | refine r_icmp_eqN (pc := 9) (tgt := 21) dX5_strokes_9 (by decide) (by omega) (by omega) (fun h9 => ?_) (fun h9 => ?_) | refine r_icmp_eq (pc := 9) (tgt := 21) dX5_strokes_9 (by decide) (fun h9 => ?_) (fun h9 => ?_)
      · skip
        exact absurd h9 (nI_m1 (by omega))
      · skip
        refine r_ald0 (pc := 12) dX5_strokes_12 ?_
        refine x_getR (c := b) hS (st_ow hb) (st_kd hb) (pc := 13) dX5_strokes_13 fl_X5_28 (fs_7 hX hb) ?_
        refine r_ild3 (pc := 16) dX5_strokes_16 ?_
        refine x_zald (c := (b + 5)) hS (st_ow5 hb) (st_kd5 hb) (st_ln5 hb) (pc := 17) dX5_strokes_17 (by omega) (by omega) ?_
        refine Bd.eqI (hN.2.2.2.2.2.2.1 w hw) ?_
        first | refine r_if_eqZ (pc := 18) (tgt := 23) dX5_strokes_18 (by decide) (fun h18 => ?_) (fun h18 => ?_) | refine r_if_eqN (pc := 18) (tgt := 23) dX5_strokes_18 (by decide) (by omega) (fun h18 => ?_) (fun h18 => ?_) | refine r_if_eq (pc := 18) (tgt := 23) dX5_strokes_18 (by decide) (fun h18 => ?_) (fun h18 => ?_)
        · skip
          refine r_ald0 (pc := 23) dX5_strokes_23 ?_
          refine x_getR (c := b) hS (st_ow hb) (st_kd hb) (pc := 24) dX5_strokes_24 fl_X5_19 (fs_4 hX hb) ?_
          refine r_ild1 (pc := 27) dX5_strokes_27 ?_
          refine x_iald (c := (b + 2)) hS (st_ow2 hb) (st_kd2 hb) (st_ln2 hb) (pc := 28) dX5_strokes_28 (by omega) (by omega) ?_
          refine Bd.eqI (hN.2.2.2.1 p hp) ?_
          refine r_ist4 (pc := 29) dX5_strokes_29 ?_
          refine r_ald0 (pc := 31) dX5_strokes_31 ?_
          refine x_getR (c := b) hS (st_ow hb) (st_kd hb) (pc := 32) dX5_strokes_32 fl_X5_19 (fs_4 hX hb) ?_
          refine r_ild1 (pc := 35) dX5_strokes_35 ?_
          refine r_ald0 (pc := 36) dX5_strokes_36 ?_
          refine r_ild1 (pc := 37) dX5_strokes_37 ?_
          refine r_ild3 (pc := 38) dX5_strokes_38 ?_
          refine r_ild2 (pc := 39) dX5_strokes_39 ?_
          refine r_cV (pc := 40) dX5_strokes_40 cv_X5_122 (hS.k (c := b) (st_ow hb) (st_kd hb)) (ct_X5_paints W hb hN hB hp hw he) rfl rfl (Nat.le_of_ble_eq_true rfl) (by first | decide | omega) ?_
          rintro _ _ ⟨s1, rfl, rfl, hM1⟩
          rw [hv]
          have W1 := hM1.W W
          have hX := W1.X
          have hN1 := (hM1.sx hN).look (p := p) (v := v)
          have hR1 := hM1.rx hR
          refine x_iast (c := (b + 2)) hS (st_ow2 hb) (st_kd2 hb) (st_ln2 hb) (pc := 43) dX5_strokes_43 (by omega) (by omega) ?_
          refine r_ald0 (pc := 44) dX5_strokes_44 ?_
          refine x_getR (c := b) hS (st_ow hb) (st_kd hb) (pc := 45) dX5_strokes_45 fl_X5_34 (fs_8 hX hb) ?_
          refine r_ild1 (pc := 48) dX5_strokes_48 ?_
          refine x_aald (c := (b + 6)) (j := p) hS (st_ow6 hb) (st_kd6 hb) (by decide) (st_ln6 hb) (pc := 49) dX5_strokes_49 (by omega) (by omega) (fs_th hX hb (by omega)) ?_
          refine r_ild3 (pc := 50) dX5_strokes_50 ?_
          refine r_ald0 (pc := 51) dX5_strokes_51 ?_
          refine r_ild1 (pc := 52) dX5_strokes_52 ?_
          refine r_ild3 (pc := 53) dX5_strokes_53 ?_
          refine r_ald0 (pc := 54) dX5_strokes_54 ?_
          refine x_getR (c := b) hS (st_ow hb) (st_kd hb) (pc := 55) dX5_strokes_55 fl_X5_19 (fs_4 hX hb) ?_
          refine r_ild1 (pc := 58) dX5_strokes_58 ?_
          refine x_iald (c := (b + 2)) hS (st_ow2 hb) (st_kd2 hb) (st_ln2 hb) (pc := 59) dX5_strokes_59 (by omega) (by omega) ?_
          refine Bd.eqI iX_s ?_
          refine r_ild4 (pc := 60) dX5_strokes_60 ?_
          refine r_isubM (pc := 62) dX5_strokes_62 ?_
          refine r_cV (pc := 63) dX5_strokes_63 cv_X5_125 (hS.k (c := b) (st_ow hb) (st_kd hb)) (ct_X5_minds W1.uI hb hN1 hB1 hp hw (by omega) (by omega)) rfl rfl (Nat.le_of_ble_eq_true rfl) (by first | decide | omega) ?_
          rintro _ _ ⟨s3, rfl, rfl, hM3⟩
          rw [hm]
          have W3 := (hM3.W W1.uI).uI (c := b + (7 + p)) (j := w) (v := nI mi)
          have hX := W3.X
          have hN3 := (hM3.sx hN1).think (p := p) (w := w) (v := mi)
          have hR3 := (hM3.rx (hR1.uI (c := b + 2) (j := p) (v := nI v) (by omega))).uI (c := b + (7 + p)) (j := w) (v := nI mi) (by omega)
          have hF3 : FrX (yP b) s (uI s3 (b + (7 + p)) w (nI mi)) := ((hM1.fr.uI (Or.inl ⟨by omega, by omega⟩)).trans hM3.fr).uI (Or.inl ⟨by omega, by omega⟩)
          have hX := (hM3.W W1.uI).X
          refine x_iast (c := (b + (7 + p))) hS (th_ow hb (by omega)) (th_kd hb (by omega)) (th_ln hb (by omega)) (pc := 66) dX5_strokes_66 (by omega) (by omega) ?_
          refine r_ild4 (pc := 67) dX5_strokes_67 ?_
          refine r_if_leN (pc := 69) (tgt := 85) dX5_strokes_69 (by decide) (by omega) (fun h69 => ?_) (fun h69 => ?_)
          · skip
            have hc0 : ¬ (v = 0 ∧ 0 < lk t p) := by omega
            rw [if_neg hc0]
            refine r_iconst (v := nI 0) (pc := 85) dX5_strokes_85 (by decide) ?_
            refine r_ist5 (pc := 86) dX5_strokes_86 ?_
            refine r_ild5 (pc := 88) dX5_strokes_88 ?_
            refine r_if_eqN (pc := 90) (tgt := 99) dX5_strokes_90 (by decide) (by omega) (fun h90 => ?_) (fun h90 => ?_)
            · skip
              refine r_ild5 (pc := 99) dX5_strokes_99 ?_
              refine r_zret (pc := 101) dX5_strokes_101 (by first | rfl | exact zI_nar | assumption) ?_
              first | exact ⟨_, rfl, rfl, Nat.zero_le _, W3, hN3, hR3, hF3⟩ | exact ⟨_, rfl, rfl, Nat.le_refl _, strTail W3 hb hN3 hF3 hR5 hX5 hF5 hE5⟩
            · skip
              first | exact absurd h90 (by decide) | exact absurd rfl h90 | (exfalso; revert h90; decide)
          · skip
            refine r_ald0 (pc := 72) dX5_strokes_72 ?_
            refine x_getR (c := b) hS (st_ow hb) (st_kd hb) (pc := 73) dX5_strokes_73 fl_X5_19 (fs_4 hX hb) ?_
            refine r_ild1 (pc := 76) dX5_strokes_76 ?_
            refine x_iald (c := (b + 2)) hS (st_ow2 hb) (st_kd2 hb) (st_ln2 hb) (pc := 77) dX5_strokes_77 (by omega) (by omega) ?_
            refine Bd.eqI ((hN3.2.2.2.1 p hp).trans (by show nI (va_up (lk t) p v p) = nI v; rw [upN, if_pos rfl])) ?_
            refine r_if_neN (pc := 78) (tgt := 85) dX5_strokes_78 (by decide) (by omega) (fun h78 => ?_) (fun h78 => ?_)
            · skip
              have hc0 : ¬ (v = 0 ∧ 0 < lk t p) := by omega
              rw [if_neg hc0]
              refine r_iconst (v := nI 0) (pc := 85) dX5_strokes_85 (by decide) ?_
              refine r_ist5 (pc := 86) dX5_strokes_86 ?_
              refine r_ild5 (pc := 88) dX5_strokes_88 ?_
              refine r_if_eqN (pc := 90) (tgt := 99) dX5_strokes_90 (by decide) (by omega) (fun h90 => ?_) (fun h90 => ?_)
              · skip
                refine r_ild5 (pc := 99) dX5_strokes_99 ?_
                refine r_zret (pc := 101) dX5_strokes_101 (by first | rfl | exact zI_nar | assumption) ?_
                first | exact ⟨_, rfl, rfl, Nat.zero_le _, W3, hN3, hR3, hF3⟩ | exact ⟨_, rfl, rfl, Nat.le_refl _, strTail W3 hb hN3 hF3 hR5 hX5 hF5 hE5⟩
              · skip
                first | exact absurd h90 (by decide) | exact absurd rfl h90 | (exfalso; revert h90; decide)
            · skip
              have hc0 : (v = 0 ∧ 0 < lk t p) := by omega
              rw [if_pos hc0]
              refine r_iconst (v := nI 1) (pc := 81) dX5_strokes_81 (by decide) ?_
              refine r_goto (pc := 82) (tgt := 86) dX5_strokes_82 (by decide) ?_
              refine r_ist5 (pc := 86) dX5_strokes_86 ?_
              refine r_ild5 (pc := 88) dX5_strokes_88 ?_
              refine r_if_eqN (pc := 90) (tgt := 99) dX5_strokes_90 (by decide) (by omega) (fun h90 => ?_) (fun h90 => ?_)
              · skip
                first | exact absurd h90 (by decide) | exact absurd rfl h90 | (exfalso; revert h90; decide)
              · skip
                refine r_ald0 (pc := 93) dX5_strokes_93 ?_
                refine r_ild1 (pc := 94) dX5_strokes_94 ?_
                refine r_ild3 (pc := 95) dX5_strokes_95 ?_
                refine r_cV (pc := 96) dX5_strokes_96 cv_X5_127 (hS.k (c := b) (st_ow hb) (st_kd hb)) (ct_X5_tells W3.O hS hX hb hN3.1 hR3) rfl rfl (Nat.le_of_ble_eq_true rfl) (by first | decide | omega) ?_
                rintro _ _ ⟨s5, rfl, rfl, hR5, hX5, hF5, hE5⟩
                refine r_ild5 (pc := 99) dX5_strokes_99 ?_
                refine r_zret (pc := 101) dX5_strokes_101 (by first | rfl | exact zI_nar | assumption) ?_
                first | exact ⟨_, rfl, rfl, Nat.zero_le _, W3, hN3, hR3, hF3⟩ | exact ⟨_, rfl, rfl, Nat.le_refl _, strTail W3 hb hN3 hF3 hR5 hX5 hF5 hE5⟩
        · skip
          exact absurd h18 hs1
theorem YrQ.from {s0 s1 : XS} (h : YrQ g M o P ta T b s t L s1) (hF : FrX (yP b) s0 s) : YrQ g M o P ta T b s0 t L s1 := ⟨h.1, h.2.1, h.2.2.1, hF.trans h.2.2.2⟩
theorem xpassOne {h p e c : Nat} {Q : Option Value → MM → Prop} (W : WS g M o P ta T s) (hb : isS b) (hN : SX s b (tn T) (fa T) (ki T) t) (hR : RX s o b L) (hB : SB (tn T) t) (hp : p < tn T) (he : e < 2) (hk : ∀ s2 l, (strokeS T t p e).2.length = l → l ≤ 1 → YrQ g M o P ta T b s (strokeS T t p e).1 (pushes L (strokeS T t p e).2) s2 → Bd g yX5_passes cX5_passes 5 (some Jvm.ClassFile.FieldType.int) [] 432 0 0 (putX M o s2) 27 [some (.ref (o + b)), some (.int (nI (c + l))), some (.int (nI h)), some (.int (nI p)), some (.int (nI (e + 1)))] [] Q noX) :
    Bd g yX5_passes cX5_passes 5 (some Jvm.ClassFile.FieldType.int) [] 432 0 0 (putX M o s) 27 [some (.ref (o + b)), some (.int (nI c)), some (.int (nI h)), some (.int (nI p)), some (.int (nI e))] [] Q noX := by
  have hg := W.gx
  have hS := W.S
  have hX := W.X
  have hn8 := W.B.1
  refine r_ild4 (pc := 27) dX5_passes_27 ?_
  refine r_iconst (v := nI 2) (pc := 29) dX5_passes_29 (by decide) ?_
  first | refine r_icmp_geN (pc := 30) (tgt := 62) dX5_passes_30 (by decide) (by omega) (by omega) (fun h30 => ?_) (fun h30 => ?_) | refine r_icmp_ge (pc := 30) (tgt := 62) dX5_passes_30 (by decide) (fun h30 => ?_) (fun h30 => ?_)
  · skip
    exact absurd h30 (by omega)
  · skip
    refine r_ild3 (pc := 33) dX5_passes_33 ?_
    refine r_iconst (v := -1) (pc := 34) dX5_passes_34 (by decide) ?_
    first | refine r_icmp_eqN (pc := 35) (tgt := 62) dX5_passes_35 (by decide) (by omega) (by omega) (fun h35 => ?_) (fun h35 => ?_) | refine r_icmp_eq (pc := 35) (tgt := 62) dX5_passes_35 (by decide) (fun h35 => ?_) (fun h35 => ?_)
    · skip
      exact absurd h35 (nI_m1 (by omega))
    · skip
      refine r_ild1 (pc := 38) dX5_passes_38 ?_
      refine r_ald0 (pc := 39) dX5_passes_39 ?_
      refine r_ild3 (pc := 40) dX5_passes_40 ?_
      refine r_ild4 (pc := 41) dX5_passes_41 ?_
      refine r_cV (pc := 43) dX5_passes_43 cv_X5_134 (hS.k (c := b) (st_ow hb) (st_kd hb)) (ct_X5_strokes W hb hN hR hB hp he) rfl rfl (Nat.le_of_ble_eq_true rfl) (by first | decide | omega) ?_
      rintro _ _ ⟨s2, rfl, rfl, hl, hQ⟩
      refine r_if_eqZ (pc := 46) (tgt := 53) dX5_passes_46 (by decide) (fun h46 => ?_) (fun h46 => ?_)
      · skip
        refine r_iconst (v := nI 0) (pc := 53) dX5_passes_53 (by decide) ?_
        first | refine r_iaddN (pc := 54) dX5_passes_54 ?_ | refine r_iaddJ (pc := 54) dX5_passes_54 ?_ | refine r_iadd (pc := 54) dX5_passes_54 ?_
        refine r_ist1 (pc := 55) dX5_passes_55 ?_
        first | refine r_iinc4N (j := 1) (pc := 56) dX5_passes_56 rfl ?_ | refine r_iinc4 (pc := 56) dX5_passes_56 ?_
        refine r_goto (pc := 59) (tgt := 27) dX5_passes_59 (by decide) ?_
        first | exact hk s2 1 h46 (Nat.le_refl 1) hQ | exact hk s2 0 (by omega) (Nat.zero_le 1) hQ
      · skip
        refine r_iconst (v := nI 1) (pc := 49) dX5_passes_49 (by decide) ?_
        refine r_goto (pc := 50) (tgt := 54) dX5_passes_50 (by decide) ?_
        first | refine r_iaddN (pc := 54) dX5_passes_54 ?_ | refine r_iaddJ (pc := 54) dX5_passes_54 ?_ | refine r_iadd (pc := 54) dX5_passes_54 ?_
        refine r_ist1 (pc := 55) dX5_passes_55 ?_
        first | refine r_iinc4N (j := 1) (pc := 56) dX5_passes_56 rfl ?_ | refine r_iinc4 (pc := 56) dX5_passes_56 ?_
        refine r_goto (pc := 59) (tgt := 27) dX5_passes_59 (by decide) ?_
        first | exact hk s2 1 h46 (Nat.le_refl 1) hQ | exact hk s2 0 (by omega) (Nat.zero_le 1) hQ
theorem xpassIn {h p c : Nat} {s0 : XS} {Q : Option Value → MM → Prop} (W : WS g M o P ta T s) (hb : isS b) (hN : SX s b (tn T) (fa T) (ki T) t) (hR : RX s o b L) (hB : SB (tn T) t) (hp : p < tn T) (hF : FrX (yP b) s0 s) (hc : h < 10)
    (hfin : ∀ s2 (l1 l2 : Nat) (F1 F2 : Option Value), (strokeS T t p 0).2.length = l1 → (strokeS T (strokeS T t p 0).1 p 1).2.length = l2 → l1 ≤ 1 → l2 ≤ 1 → YrQ g M o P ta T b s0 (strokeS T (strokeS T t p 0).1 p 1).1 (pushes (pushes L (strokeS T t p 0).2) (strokeS T (strokeS T t p 0).1 p 1).2) s2 → Bd g yX5_passes cX5_passes 5 (some Jvm.ClassFile.FieldType.int) [] 432 0 0 (putX M o s2) 4 [some (.ref (o + b)), some (.int (nI (c + l1 + l2))), some (.int (nI (h + 1))), F1, F2] [] Q noX) :
    Bd g yX5_passes cX5_passes 5 (some Jvm.ClassFile.FieldType.int) [] 432 0 0 (putX M o s) 27 [some (.ref (o + b)), some (.int (nI c)), some (.int (nI h)), some (.int (nI p)), some (.int (nI 0))] [] Q noX := by
  have hB1 := strokeS_SB (side := 0) hB hp
  refine xpassOne W hb hN hR hB hp (by decide) (fun s1 l1 e1 b1 h1 => ?_)
  refine xpassOne (e := 1) h1.1 hb h1.2.1 h1.2.2.1 hB1 hp (by decide) (fun s2 l2 e2 b2 h2 => ?_)
  have hS := h2.1.S
  refine r_ild4 (pc := 27) dX5_passes_27 ?_
  refine r_iconst (v := nI 2) (pc := 29) dX5_passes_29 (by decide) ?_
  first | refine r_icmp_geN (pc := 30) (tgt := 62) dX5_passes_30 (by decide) (by omega) (by omega) (fun h30 => ?_) (fun h30 => ?_) | refine r_icmp_ge (pc := 30) (tgt := 62) dX5_passes_30 (by decide) (fun h30 => ?_) (fun h30 => ?_)
  · skip
    first | refine r_iinc2N (j := 1) (pc := 62) dX5_passes_62 rfl ?_ | refine r_iinc2 (pc := 62) dX5_passes_62 ?_
    refine r_goto (pc := 65) (tgt := 4) dX5_passes_65 (by decide) ?_
    exact hfin s2 l1 l2 _ _ e1 e2 b1 b2 (h2.from (hF.trans h1.2.2.2))
  · skip
    exact absurd h30 (by decide)
theorem xpassLoop {s0 : XS} : ∀ k h t L c s F1 F2, h + k = tH T → WS g M o P ta T s → isS b → SX s b (tn T) (fa T) (ki T) t → RX s o b L → SB (tn T) t → yr t < 2000 → FrX (yP b) s0 s → c + 2 * k < 1000 →
    Bd g yX5_passes cX5_passes 5 (some Jvm.ClassFile.FieldType.int) [] 432 0 0 (putX M o s) 4 [some (.ref (o + b)), some (.int (nI c)), some (.int (nI h)), F1, F2] [] (QX M o (fun v s' => v = some (.int (nI (c + (housesS T k t h).2.length))) ∧ YrQ g M o P ta T b s0 (sYr (housesS T k t h).1 (yr (housesS T k t h).1 + 1)) (pushes L (housesS T k t h).2) s')) noX := by
  intro k
  induction k with
  | zero =>
    intro h t L c s F1 F2 hk W hb hN hR hB hy hF hc
    have hg := W.gx
    have hS := W.S
    have hX := W.X
    obtain ⟨t0, t1, t2, -⟩ := W.2.2.2.2.2.1
    have hI : mI (putX M o s) ta 1 = nI (tH T) := (mI_putXn (W.2.2.2.1 ta t0)).trans t2
    have hH9 := W.B.2.1
    show Bd g yX5_passes cX5_passes 5 (some Jvm.ClassFile.FieldType.int) [] 432 0 0 _ _ _ _ (QX M o (fun v s' => v = some (.int (nI (c + 0))) ∧ YrQ g M o P ta T b s0 (sYr t (yr t + 1)) L s')) noX
    refine r_ild2 (pc := 4) dX5_passes_4 ?_
    refine r_ald0 (pc := 5) dX5_passes_5 ?_
    refine x_getR (c := b) hS (st_ow hb) (st_kd hb) (pc := 6) dX5_passes_6 fl_X5_3 (fs_10 hX hb) ?_
    refine x_getRN (c := 0) hS ow_0 kd_0 (pc := 9) dX5_passes_9 (fn_X5_82 hg) W.ht ?_
    refine r_getIN (pc := 12) dX5_passes_12 (fn_X5_131 hg) t1 ?_
    rw [hI]
    first | refine r_icmp_geN (pc := 15) (tgt := 68) dX5_passes_15 (by decide) (by omega) (by omega) (fun h15 => ?_) (fun h15 => ?_) | refine r_icmp_ge (pc := 15) (tgt := 68) dX5_passes_15 (by decide) (fun h15 => ?_) (fun h15 => ?_)
    · skip
      refine r_ald0 (pc := 68) dX5_passes_68 ?_
      refine r_dup (pc := 69) dX5_passes_69 rfl ?_
      refine x_getI (c := b) hS (st_ow hb) (st_kd hb) (pc := 70) dX5_passes_70 fl_X5_40 ?_
      rw [hN.1]
      refine r_iconst (v := nI 1) (pc := 73) dX5_passes_73 (by decide) ?_
      first | refine r_iaddN (pc := 74) dX5_passes_74 ?_ | refine r_iaddJ (pc := 74) dX5_passes_74 ?_ | refine r_iadd (pc := 74) dX5_passes_74 ?_
      refine x_putI (c := b) hS (st_ow hb) (st_kd hb) (pc := 75) dX5_passes_75 fl_X5_40 fw_X5_0 rfl rfl ?_
      refine r_ild1 (pc := 78) dX5_passes_78 ?_
      refine r_iret (pc := 79) dX5_passes_79 ?_
      exact ⟨_, rfl, rfl, W.uI, hN.year, hR.uI (by omega), hF.uI (Or.inl ⟨by omega, by omega⟩)⟩
    · skip
      exact absurd h15 (by omega)
  | succ k ih =>
    intro h t L c s F1 F2 hk W hb hN hR hB hy hF hc
    have hg := W.gx
    have hS := W.S
    have hX := W.X
    have hn8 := W.B.1
    obtain ⟨t0, t1, t2, -⟩ := W.2.2.2.2.2.1
    have hI : mI (putX M o s) ta 1 = nI (tH T) := (mI_putXn (W.2.2.2.1 ta t0)).trans t2
    have hH9 := W.B.2.1
    cases e1 : who t (tn T) h with
    | none =>
      have h0 : houseS T t h = (t, []) := by unfold houseS; rw [e1]
      have e2 : housesS T (k + 1) t h = housesS T k t (h + 1) := by
        show ((housesS T k (houseS T t h).1 (h + 1)).1, (houseS T t h).2 ++ (housesS T k (houseS T t h).1 (h + 1)).2) = _
        rw [h0]; rfl
      rw [e2]
      refine r_ild2 (pc := 4) dX5_passes_4 ?_
      refine r_ald0 (pc := 5) dX5_passes_5 ?_
      refine x_getR (c := b) hS (st_ow hb) (st_kd hb) (pc := 6) dX5_passes_6 fl_X5_3 (fs_10 hX hb) ?_
      refine x_getRN (c := 0) hS ow_0 kd_0 (pc := 9) dX5_passes_9 (fn_X5_82 hg) W.ht ?_
      refine r_getIN (pc := 12) dX5_passes_12 (fn_X5_131 hg) t1 ?_
      rw [hI]
      first | refine r_icmp_geN (pc := 15) (tgt := 68) dX5_passes_15 (by decide) (by omega) (by omega) (fun h15 => ?_) (fun h15 => ?_) | refine r_icmp_ge (pc := 15) (tgt := 68) dX5_passes_15 (by decide) (fun h15 => ?_) (fun h15 => ?_)
      · skip
        exact absurd h15 (by omega)
      · skip
        refine r_ald0 (pc := 18) dX5_passes_18 ?_
        refine r_ild2 (pc := 19) dX5_passes_19 ?_
        refine r_cV (pc := 20) dX5_passes_20 cv_X5_68 (hS.k (c := b) (st_ow hb) (st_kd hb)) (ct_X5_who hS hX hb hN hB hn8 (by omega)) rfl rfl (Nat.le_of_ble_eq_true rfl) (by first | decide | omega) ?_
        rintro _ _ ⟨rfl, rfl⟩
        rw [e1, oI_none]
        refine r_ist3 (pc := 23) dX5_passes_23 ?_
        refine r_iconst (v := nI 0) (pc := 24) dX5_passes_24 (by decide) ?_
        refine r_ist4 (pc := 25) dX5_passes_25 ?_
        refine r_ild4 (pc := 27) dX5_passes_27 ?_
        refine r_iconst (v := nI 2) (pc := 29) dX5_passes_29 (by decide) ?_
        first | refine r_icmp_geN (pc := 30) (tgt := 62) dX5_passes_30 (by decide) (by omega) (by omega) (fun h30 => ?_) (fun h30 => ?_) | refine r_icmp_ge (pc := 30) (tgt := 62) dX5_passes_30 (by decide) (fun h30 => ?_) (fun h30 => ?_)
        · skip
          first | exact absurd h30 (by decide) | exact absurd rfl h30 | (exfalso; revert h30; decide)
        · skip
          refine r_ild3 (pc := 33) dX5_passes_33 ?_
          refine r_iconst (v := -1) (pc := 34) dX5_passes_34 (by decide) ?_
          first | refine r_icmp_eqN (pc := 35) (tgt := 62) dX5_passes_35 (by decide) (by omega) (by omega) (fun h35 => ?_) (fun h35 => ?_) | refine r_icmp_eq (pc := 35) (tgt := 62) dX5_passes_35 (by decide) (fun h35 => ?_) (fun h35 => ?_)
          · skip
            first | refine r_iinc2N (j := 1) (pc := 62) dX5_passes_62 rfl ?_ | refine r_iinc2 (pc := 62) dX5_passes_62 ?_
            refine r_goto (pc := 65) (tgt := 4) dX5_passes_65 (by decide) ?_
            exact ih (h + 1) t L c s _ _ (by omega) W hb hN hR hB hy hF (by omega)
          · skip
            exact absurd rfl h35
    | some p =>
      have hp := who_lt e1
      have hB1 := strokeS_SB (side := 0) hB hp
      have hB2 := strokeS_SB (side := 1) hB1 hp
      have h0 : houseS T t h = ((strokeS T (strokeS T t p 0).1 p 1).1, (strokeS T t p 0).2 ++ (strokeS T (strokeS T t p 0).1 p 1).2) := by unfold houseS; rw [e1]
      have e2 : housesS T (k + 1) t h = ((housesS T k (strokeS T (strokeS T t p 0).1 p 1).1 (h + 1)).1, (strokeS T t p 0).2 ++ ((strokeS T (strokeS T t p 0).1 p 1).2 ++ (housesS T k (strokeS T (strokeS T t p 0).1 p 1).1 (h + 1)).2)) := by
        show ((housesS T k (houseS T t h).1 (h + 1)).1, (houseS T t h).2 ++ (housesS T k (houseS T t h).1 (h + 1)).2) = _
        rw [h0, List.append_assoc]
      rw [e2]
      have hfin : ∀ s2 (l1 l2 : Nat) (F1 F2 : Option Value), (strokeS T t p 0).2.length = l1 → (strokeS T (strokeS T t p 0).1 p 1).2.length = l2 → l1 ≤ 1 → l2 ≤ 1 → YrQ g M o P ta T b s0 (strokeS T (strokeS T t p 0).1 p 1).1 (pushes (pushes L (strokeS T t p 0).2) (strokeS T (strokeS T t p 0).1 p 1).2) s2 →
          Bd g yX5_passes cX5_passes 5 (some Jvm.ClassFile.FieldType.int) [] 432 0 0 (putX M o s2) 4 [some (.ref (o + b)), some (.int (nI (c + l1 + l2))), some (.int (nI (h + 1))), F1, F2] [] (QX M o (fun v s' => v = some (.int (nI (c + ((strokeS T t p 0).2 ++ ((strokeS T (strokeS T t p 0).1 p 1).2 ++ (housesS T k (strokeS T (strokeS T t p 0).1 p 1).1 (h + 1)).2)).length))) ∧ YrQ g M o P ta T b s0 (sYr (housesS T k (strokeS T (strokeS T t p 0).1 p 1).1 (h + 1)).1 (yr (housesS T k (strokeS T (strokeS T t p 0).1 p 1).1 (h + 1)).1 + 1)) (pushes L ((strokeS T t p 0).2 ++ ((strokeS T (strokeS T t p 0).1 p 1).2 ++ (housesS T k (strokeS T (strokeS T t p 0).1 p 1).1 (h + 1)).2))) s')) noX := by
        intro s2 l1 l2 F1 F2 hl1 hl2 b1 b2 hQ
        have := ih (h + 1) (strokeS T (strokeS T t p 0).1 p 1).1 (pushes (pushes L (strokeS T t p 0).2) (strokeS T (strokeS T t p 0).1 p 1).2) (c + l1 + l2) s2 F1 F2 (by omega) hQ.1 hb hQ.2.1 hQ.2.2.1 hB2 (by rw [strokeS_yr, strokeS_yr]; exact hy) hQ.2.2.2 (by omega)
        rw [List.length_append, List.length_append, hl1, hl2, pushes_app, pushes_app, ← Nat.add_assoc, ← Nat.add_assoc]
        exact this
      clear ih
      refine r_ild2 (pc := 4) dX5_passes_4 ?_
      refine r_ald0 (pc := 5) dX5_passes_5 ?_
      refine x_getR (c := b) hS (st_ow hb) (st_kd hb) (pc := 6) dX5_passes_6 fl_X5_3 (fs_10 hX hb) ?_
      refine x_getRN (c := 0) hS ow_0 kd_0 (pc := 9) dX5_passes_9 (fn_X5_82 hg) W.ht ?_
      refine r_getIN (pc := 12) dX5_passes_12 (fn_X5_131 hg) t1 ?_
      rw [hI]
      first | refine r_icmp_geN (pc := 15) (tgt := 68) dX5_passes_15 (by decide) (by omega) (by omega) (fun h15 => ?_) (fun h15 => ?_) | refine r_icmp_ge (pc := 15) (tgt := 68) dX5_passes_15 (by decide) (fun h15 => ?_) (fun h15 => ?_)
      · skip
        exact absurd h15 (by omega)
      · skip
        refine r_ald0 (pc := 18) dX5_passes_18 ?_
        refine r_ild2 (pc := 19) dX5_passes_19 ?_
        refine r_cV (pc := 20) dX5_passes_20 cv_X5_68 (hS.k (c := b) (st_ow hb) (st_kd hb)) (ct_X5_who hS hX hb hN hB hn8 (by omega)) rfl rfl (Nat.le_of_ble_eq_true rfl) (by first | decide | omega) ?_
        rintro _ _ ⟨rfl, rfl⟩
        rw [e1, oI_some]
        refine r_ist3 (pc := 23) dX5_passes_23 ?_
        refine r_iconst (v := nI 0) (pc := 24) dX5_passes_24 (by decide) ?_
        refine r_ist4 (pc := 25) dX5_passes_25 ?_
        exact xpassIn W hb hN hR hB hp hF (by omega) hfin
theorem ct_X5_passes (W : WS g M o P ta T s) (hb : isS b) (hN : SX s b (tn T) (fa T) (ki T) t) (hR : RX s o b L) (hB : SB (tn T) t) (hy : yr t < 2000) :
    Ct g yX5_passes cX5_passes 5 (some Jvm.ClassFile.FieldType.int) 432 0 0 [.ref (o + b)] (putX M o s) (QX M o (fun v s' => v = some (.int (nI (yearS T t).2.length)) ∧ YrQ g M o P ta T b s (yearS T t).1 (pushes L (yearS T t).2) s')) noX := by
  have hH9 := W.B.2.1
  have := xpassLoop (s0 := s) (b := b) (tH T) 0 t L 0 s none none (by omega) W hb hN hR hB hy FrX.rf (by omega)
  rw [Nat.zero_add] at this
  refine Ct.of (by decide) (Nat.le_of_ble_eq_true rfl) rfl ?_
  refine r_iconst (v := nI 0) (pc := 0) dX5_passes_0 (by decide) ?_
  refine r_ist1 (pc := 1) dX5_passes_1 ?_
  refine r_iconst (v := nI 0) (pc := 2) dX5_passes_2 (by decide) ?_
  refine r_ist2 (pc := 3) dX5_passes_3 ?_
  exact this
theorem xyearsLoop {s0 : XS} {m : Nat} : ∀ k i t L s, i + k = m → m < 1000 → WS g M o P ta T s → isS b → SX s b (tn T) (fa T) (ki T) t → RX s o b L → SB (tn T) t → yr t + k ≤ 2000 → FrX (yP b) s0 s →
    Bd g yX5_years cX5_years 3 (some ((Jvm.ClassFile.FieldType.object "Retouched$State"))) [] 433 0 0 (putX M o s) 2 [some (.ref (o + b)), some (.int (nI m)), some (.int (nI i))] [] (QX M o (fun v s' => v = some (.ref (o + b)) ∧ YrQ g M o P ta T b s0 (yearsS T k t).1 (pushes L (yearsS T k t).2) s')) noX := by
  intro k
  induction k with
  | zero =>
    intro i t L s hk hm W hb hN hR hB hy hF
    have hg := W.gx
    have hS := W.S
    refine r_ild2 (pc := 2) dX5_years_2 ?_
    refine r_ild1 (pc := 3) dX5_years_3 ?_
    first | refine r_icmp_geN (pc := 4) (tgt := 18) dX5_years_4 (by decide) (by omega) (by omega) (fun h4 => ?_) (fun h4 => ?_) | refine r_icmp_ge (pc := 4) (tgt := 18) dX5_years_4 (by decide) (fun h4 => ?_) (fun h4 => ?_)
    · skip
      refine r_ald0 (pc := 18) dX5_years_18 ?_
      refine r_aretR (pc := 19) dX5_years_19 ?_
      exact ⟨_, rfl, rfl, W, hN, hR, hF⟩
    · skip
      exact absurd h4 (by omega)
  | succ k ih =>
    intro i t L s hk hm W hb hN hR hB hy hF
    have hg := W.gx
    have hS := W.S
    have e2 : yearsS T (k + 1) t = ((yearsS T k (yearS T t).1).1, (yearS T t).2 ++ (yearsS T k (yearS T t).1).2) := rfl
    rw [e2]
    refine r_ild2 (pc := 2) dX5_years_2 ?_
    refine r_ild1 (pc := 3) dX5_years_3 ?_
    first | refine r_icmp_geN (pc := 4) (tgt := 18) dX5_years_4 (by decide) (by omega) (by omega) (fun h4 => ?_) (fun h4 => ?_) | refine r_icmp_ge (pc := 4) (tgt := 18) dX5_years_4 (by decide) (fun h4 => ?_) (fun h4 => ?_)
    · skip
      exact absurd h4 (by omega)
    · skip
      refine r_ald0 (pc := 7) dX5_years_7 ?_
      refine r_cV (pc := 8) dX5_years_8 cv_X5_138 (hS.k (c := b) (st_ow hb) (st_kd hb)) (ct_X5_passes W hb hN hR hB (by omega)) rfl rfl (Nat.le_of_ble_eq_true rfl) (by first | decide | omega) ?_
      rintro _ _ ⟨s2, rfl, rfl, hQ⟩
      refine r_pop (pc := 11) dX5_years_11 rfl ?_
      first | refine r_iinc2N (j := 1) (pc := 12) dX5_years_12 rfl ?_ | refine r_iinc2 (pc := 12) dX5_years_12 ?_
      refine r_goto (pc := 15) (tgt := 2) dX5_years_15 (by decide) ?_
      rw [pushes_app]
      exact ih (i + 1) _ _ s2 (by omega) hm hQ.1 hb hQ.2.1 hQ.2.2.1 (yearS_SB hB (by omega)) (by rw [yearS_yr]; omega) (hF.trans hQ.2.2.2)
theorem ct_X5_years {m : Nat} (W : WS g M o P ta T s) (hb : isS b) (hN : SX s b (tn T) (fa T) (ki T) t) (hR : RX s o b L) (hB : SB (tn T) t) (hm : m < 1000) (hy : yr t + m ≤ 2000) :
    Ct g yX5_years cX5_years 3 (some ((Jvm.ClassFile.FieldType.object "Retouched$State"))) 433 0 0 [.ref (o + b), .int (nI m)] (putX M o s) (QX M o (fun v s' => v = some (.ref (o + b)) ∧ YrQ g M o P ta T b s (yearsS T m t).1 (pushes L (yearsS T m t).2) s')) noX := by
  refine Ct.of (by decide) (Nat.le_of_ble_eq_true rfl) rfl ?_
  refine r_iconst (v := nI 0) (pc := 0) dX5_years_0 (by decide) ?_
  refine r_ist2 (pc := 1) dX5_years_1 ?_
  exact xyearsLoop m 0 t L s (by omega) hm W hb hN hR hB hy FrX.rf
end X18
