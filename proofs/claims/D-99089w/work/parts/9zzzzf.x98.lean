set_option maxRecDepth 100000
/-! THE OTHER SIDE: ask (3) -/
theorem askP_okX {f : Nat → Nat} {n k : Nat} {cs : List Nat} (h : askP f n = .ok (k, cs)) : okX 3 cs ∧ k < 6 := by
  unfold askP at h
  obtain ⟨y, h1, h⟩ := bnd_some h
  obtain ⟨z, h2, h⟩ := bnd_some h
  split at h
  · cases h
    exact ⟨(txtP_ok h2).1.2, (kndP_ok h1).1⟩
  · cases h
section X98
variable {g : GC} {M M' M2 : MM} {o ta zq k : Nat} {P : Nat → Prop} {s s1 : XS} {q : Sg} {cs : List Nat}
/-- the state when the reader begins -/
def s1A (s : XS) : XS := uI (uI (uI s 0 2 (nI 0)) 0 3 (nI 0)) 0 4 (-1)
theorem s1A_i {c j : Nat} (h : c ≠ 0) : iX (s1A s) c j = iX s c j := by unfold s1A; rw [iX_c h, iX_c h, iX_c h]
theorem s1A_0 {j : Nat} (h2 : j ≠ 2) (h3 : j ≠ 3) (h4 : j ≠ 4) : iX (s1A s) 0 j = iX s 0 j := by unfold s1A; rw [iX_uI, if_neg (fun z => h4 z.2), iX_uI, if_neg (fun z => h3 z.2), iX_uI, if_neg (fun z => h2 z.2)]
theorem s1A_2 : iX (s1A s) 0 2 = nI 0 := by unfold s1A; rw [iX_uI, if_neg (by decide), iX_uI, if_neg (by decide), iX_uI, if_pos ⟨rfl, rfl⟩]
theorem s1A_3 : iX (s1A s) 0 3 = nI 0 := by unfold s1A; rw [iX_uI, if_neg (by decide), iX_uI, if_pos ⟨rfl, rfl⟩]
theorem s1A_4 : iX (s1A s) 0 4 = -1 := by unfold s1A; rw [iX_uI, if_pos ⟨rfl, rfl⟩]
theorem ask_38 {p : Nat} (hI : IX g M o P ta s q) (hG : GI q) (hPz : ∀ c, P c → c < mZ M) (hx : XT g (putX M o (s1A s)) o (gTd q) (gTp q) k p (o + 6) M') {kc ks : Nat} :
    Bd g yX0_ask cX0_ask 4 (some .long) [(26, 35, 38, 126)] 431 kc ks M' 38 [some (.ref o), none, none, none] [.ref (o + 6)] (QR g M o P (uFt (uTp q (gTp q) 0) (k, some p)) (.long (lI (-1000000000000000)))) noX := by
  obtain ⟨-, x1, x2, x3, x4⟩ := hx
  have hg := hI.1.gx
  obtain ⟨hS2, hX2, hK2, hF2, hH2⟩ := rd_back (s := s1A s) hI.1.S (show FxX (rX s) o from hI.1.X) x3 x4
  have j6 : iX (getX M' o) 6 6 = nI k := x1
  have j7 : iX (getX M' o) 6 7 = nI p := x2
  refine Bd.sub hH2 ?_
  generalize getX M' o = s2 at *
  generalize nrm M' o = M2 at *
  have hS := hS2
  have hX := hX2
  have k6 : ∀ s3, mK (putX M2 o s3) (o + 6) = 23 := fun s3 => hS.k (s := s3) (c := 6) (by unfold ow; omega) rfl
  have e0 := hK2 0 ow_0 (by decide) (by decide)
  refine r_ast3 (pc := 38) dX0_ask_38 ?_
  refine r_ald0 (pc := 39) dX0_ask_39 ?_
  refine r_ald3 (pc := 40) dX0_ask_40 ?_
  refine r_getIN (pc := 41) dX0_ask_41 (fn_X0_128 hg) (k6 _) ?_
  rw [show mI (putX M2 o s2) (o + 6) 6 = nI k from (mI_putX (by unfold ow; omega)).trans j6]
  refine x_putI (c := 0) hS ow_0 kd_0 (pc := 44) dX0_ask_44 fl_X0_115 fw_X0_3 rfl rfl ?_
  refine r_ald0 (pc := 47) dX0_ask_47 ?_
  refine r_ald3 (pc := 48) dX0_ask_48 ?_
  refine r_getIN (pc := 49) dX0_ask_49 (fn_X0_131 hg) (k6 _) ?_
  rw [show mI (putX M2 o (uI s2 0 3 (nI k))) (o + 6) 7 = nI p from (mI_putX (by unfold ow; omega)).trans ((iX_c (by decide)).trans j7)]
  refine x_putI (c := 0) hS ow_0 kd_0 (pc := 52) dX0_ask_52 fl_X0_39 fw_X0_4 rfl rfl ?_
  refine r_ldc2 (v := -1000000000000000) (pc := 55) dX0_ask_55 q1529 ?_
  refine Bd.eqL (x' := lI (-1000000000000000)) (by decide) ?_
  refine r_lret (pc := 58) dX0_ask_58 ?_
  refine ⟨rfl, M2, P, ta, _, rfl, ?_, hF2, fun c hc => ⟨Nat.lt_of_lt_of_le (hPz c hc) hF2.1, Or.inl hc⟩⟩
  refine ix_ft hI hG hPz hF2 hS hX (fun c j hc h5 h6 => ?_) (fun c hc h5 h6 h10 => ?_) (fun j hj => ?_) (fun c j hc h5 h6 h0 => ?_) (fun j h2 h3 h4 h20 => ?_) ?_ ?_ ?_
  · show rX s2 c j = _; rw [(hK2 c hc h5 h6).2.2]; rfl
  · show lX s2 c = _; rw [(hK2 c hc h5 h6).2.1]; rfl
  · show ∃ v, lX s2 10 j = lI v ∧ b31 v; rw [(hK2 10 ow_10 (by decide) (by decide)).2.1]; exact hI.2.2.2.2.2.2.2.2.2.2.2 j hj
  · rw [iX_c h0, iX_c h0, (hK2 c hc h5 h6).1, s1A_i h0]
  · rw [iX_uI, if_neg (fun z => h4 z.2), iX_uI, if_neg (fun z => h3 z.2), e0.1, s1A_0 h2 h3 h4]
  · rw [iX_uI, if_neg (by decide), iX_uI, if_neg (by decide), e0.1, s1A_2]
  · rw [iX_uI, if_neg (by decide), iX_uI, if_pos ⟨rfl, rfl⟩]
  · rw [iX_uI, if_pos ⟨rfl, rfl⟩]; rfl
theorem ask_34 (hI : IX g M o P ta s q) (hG : GI q) (hPz : ∀ c, P c → c < mZ M) (ha : askP (gTp q) (gTd q) = .ok (k, cs)) (hQ : QST M' o (fun c => mZ (putX M o (s1A s)) ≤ c ∧ c < mZ M' ∧ c ≠ zq) zq k cs) (h1 : mZ (putX M o (s1A s)) ≤ zq) (h2 : zq < mZ M') (x3 : FM (fun c => c = o + 5 ∨ c = o + 6) (putX M o (s1A s)) M') (x4 : RDF g M' o (gTd q) (gTp q)) {kc ks : Nat} :
    Bd g yX0_ask cX0_ask 4 (some .long) [(26, 35, 38, 126)] 431 kc ks M' 34 [some (.ref o), none, none, none] [.ref zq] (QR g M o P (uFt (uTp q (gTp q) 0) (0, none)) (.long (lI (ansF k (evA (gT q) (gS q) cs) (tn (gT q)))))) noX := by
  have hg := hI.1.gx
  have hoz := hI.1.S.2.1
  have hgb := hI.1.S.1
  have h1 : mZ M ≤ zq := h1
  obtain ⟨hS2, hX2, hK2, hF2, hH2⟩ := rd_back (s := s1A s) hI.1.S (show FxX (rX s) o from hI.1.X) x3 x4
  have hn6 : ∀ c, mZ M ≤ c → Sm M' (nrm M' o) c := fun c hc => ⟨rfl, nrm_n (by omega) (by omega), rfl, rfl, rfl⟩
  obtain ⟨q1, q2, q3, q4, q5, q6, q7⟩ := hQ
  have hQT : QTr (nrm M' o) o (fun c => mZ M ≤ c ∧ c < mZ M' ∧ c ≠ zq) zq k cs := by
    refine ⟨fun hk => ?_, fun hk => ?_⟩
    · obtain ⟨t, t1, t2⟩ := q6 hk
      exact ⟨t, t1, TST.fr (fun c hc => hn6 c hc.1) (fun _ z => z) 40 40 t cs (Nat.le_refl _) t2⟩
    · obtain ⟨t, t1, t2⟩ := q7 hk
      exact ⟨t, t1, VAL.fr (fun c hc => hn6 c hc.1) (fun _ z => z) 40 40 t cs (Nat.le_refl _) t2⟩
  have hQ0 : QSF (nrm M' o) zq k (-1) false := ⟨q1, q2, q3, q4, q5.trans (zI_f (by decide)).symm, by constructor <;> decide, by constructor <;> decide⟩
  have hz' : mZ (nrm M' o) = mZ M' := rfl
  refine Bd.sub hH2 ?_
  generalize getX M' o = s2 at *
  generalize nrm M' o = M2 at *
  have hS := hS2
  have hX := hX2
  have hP := hI.1.2.2.2.1
  have e0 := hK2 0 ow_0 (by decide) (by decide)
  have owS : ∀ c, 12 ≤ c → c < 1517 → ow c := fun c h1 h2 => by unfold ow; omega
  have eS : ∀ c j, 12 ≤ c → c < 1517 → iX s2 c j = iX s c j := fun c j h1 h2 => by rw [(hK2 c (owS c h1 h2) (by omega) (by omega)).1, s1A_i (by omega)]
  have m8 : MmX s2 8 := fun j hj => by rw [(hK2 8 ow_8 (by decide) (by decide)).2.1]; exact hI.1.m j hj
  have m10 : MmX s2 10 := fun j hj => by rw [(hK2 10 ow_10 (by decide) (by decide)).2.1]; exact hI.2.2.2.2.2.2.2.2.2.2.2 j hj
  have hn8 := hI.1.B.1
  have hSX : SX s2 12 (tn (gT q)) (fa (gT q)) (ki (gT q)) (gS q) := hI.2.2.2.2.2.1.1.fr (fun c h1 h2 j _ => eS c j (by omega) (by omega)) hn8
  have hW2 : WS g M2 o P ta (gT q) s2 := hI.1.fr2 hPz hF2 hS hX (by rw [(hK2 0 ow_0 (by decide) (by decide)).2.2]; rfl) m8
  have hA0 : AK g M2 o P ta (gT q) (gS q) (fun c => mZ M ≤ c ∧ c < mZ M' ∧ c ≠ zq) zq k cs s2 := ⟨hW2, hI.So.fr hI.1.2.2.2.2.2.1.1 (fun c hc => hF2.2 c (hPz c hc) (hP c hc)) (fun _ z => z), hSX, hG.2.2.2.2.2.1.1, ⟨by unfold owA; omega, by omega, fun hp => by have := hPz zq hp; omega, fun hp => hp.2.2 rfl, fun c hc => by have := hc.1; unfold owA; omega⟩, hQT, (askP_okX ha).1, m10⟩
  refine r_ast2 (pc := 34) dX0_ask_34 ?_
  refine r_goto (pc := 35) (tgt := 59) dX0_ask_35 (by decide) ?_
  refine r_ald0 (pc := 59) dX0_ask_59 ?_
  refine r_iconst (v := nI 0) (pc := 60) dX0_ask_60 (by decide) ?_
  refine x_putI (c := 0) hS ow_0 kd_0 (pc := 61) dX0_ask_61 fl_X0_303 fw_X0_20 rfl rfl ?_
  refine Bd.spend (Nat.zero_le _) (Nat.zero_le _) (ask_loop (M2 := M2) (s2 := s2) (fun G' s' hA' hC' => ?_) (tn (gT q)) 0 M2 (uI s2 0 20 (nI 0)) (-1) false (by omega) (hA0.toS rfl (fun c j hc => iX_c hc) rfl m10) ⟨rfl, fun _ _ => Sm.rf, rfl, fun c j hcj => by rw [iX_uI, if_neg hcj], fun _ _ => rfl⟩ (by rw [iX_uI, if_pos ⟨rfl, rfl⟩]) hQ0 FH.zero ?_)
  · obtain ⟨c1, c2, c3, c4, c5⟩ := hC'
    have hFG : FO o M G' := ⟨by rw [c1]; exact hF2.1, fun c hc hn => (hF2.2 c hc hn).trans (c2 c (by omega))⟩
    refine ⟨rfl, G', P, ta, s', rfl, ?_, hFG, fun c hc => ⟨Nat.lt_of_lt_of_le (hPz c hc) hFG.1, Or.inl hc⟩⟩
    refine ix_ft hI hG hPz hFG hA'.1.S (by rw [c3]; exact hX) (fun c j hc h5 h6 => ?_) (fun c hc h5 h6 h10 => ?_) hA'.2.2.2.2.2.2.2 (fun c j hc h5 h6 h0 => ?_) (fun j h2 h3 h4 h20 => ?_) ?_ ?_ ?_
    · rw [c3, (hK2 c hc h5 h6).2.2]; rfl
    · rw [c5 c h10, (hK2 c hc h5 h6).2.1]; rfl
    · rw [c4 c j (fun z => h0 z.1), (hK2 c hc h5 h6).1, s1A_i h0]
    · rw [c4 0 j (fun z => h20 z.2), e0.1, s1A_0 h2 h3 h4]
    · rw [c4 0 2 (by decide), e0.1, s1A_2]
    · rw [c4 0 3 (by decide), e0.1, s1A_3]
    · rw [c4 0 4 (by decide), e0.1, s1A_4]; rfl
  · show -(((0 : Nat) : Int) * 1000000) - 1 ≤ (if k < 2 then -1 else 0) ∧ (if k < 2 then (-1 : Int) else 0) ≤ ((0 : Nat) : Int) * 1000000 + 10
    split <;> (constructor <;> decide)
theorem px_ask (hI : IX g M o P ta s q) (hG : GI q) (hPz : ∀ c, P c → c < mZ M) (hn : gTd q ≤ 1280) (hNM : ∃ mi, NM g "[Ljava/lang/Object;" mi) (hTx : TXT g M) (hWs : WST g M) : CtW g yX0_ask cX0_ask 4 (some .long) [(26, 35, 38, 126)] 431 (60 * gTd q + 110) (4000 * gTd q + 16000) [.ref o] (putX M o s) (QR g M o P (askQ q).2 (.long (askQ q).1)) noX := by
  have hg := hI.1.gx
  have hS := hI.1.S
  have hX := hI.1.X
  have htd : iX s 0 2 = nI (gTd q) := hI.2.2.1.1
  have hW1 : WS g M o P ta (gT q) (uI s 0 2 (nI 0)) := hI.1.uI
  have htb := hI.1.B.2.1
  refine CtW.of (by decide) (Nat.le_of_ble_eq_true rfl) rfl ?_
  refine r_ald0 (pc := 0) dX0_ask_0 ?_
  refine r_cV (pc := 1) dX0_ask_1 cv_X0_118 (hS.k (c := 0) ow_0 kd_0) (ct_X0_taken hS hX) rfl rfl (Nat.le_of_ble_eq_true rfl) (by first | decide | omega) ?_
  rintro _ _ ⟨rfl, rfl⟩
  rw [htd]
  refine r_ist1 (pc := 4) dX0_ask_4 ?_
  refine r_ald0 (pc := 5) dX0_ask_5 ?_
  refine r_cV (pc := 6) dX0_ask_6 cv_X0_232 (hS.k (c := 0) ow_0 kd_0) (ct_X0_isTerrace hW1) rfl rfl (Nat.le_of_ble_eq_true rfl) (by first | decide | omega) ?_
  rintro _ _ ⟨rfl, rfl⟩
  first | refine r_if_neZ (pc := 9) (tgt := 16) dX0_ask_9 (by decide) (fun h9 => ?_) (fun h9 => ?_) | refine r_if_neN (pc := 9) (tgt := 16) dX0_ask_9 (by decide) (by omega) (fun h9 => ?_) (fun h9 => ?_) | refine r_if_ne (pc := 9) (tgt := 16) dX0_ask_9 (by decide) (fun h9 => ?_) (fun h9 => ?_)
  · skip
    have hit : gIt q = true := by
      cases hb : gIt q with
      | true => rfl
      | false => have := (hG.2.2.2.1 hb).1; omega
    have hW : RW g (sI (putX M o (s1A s)) (o + 5) 1 (nI (gTd q))) o (gTd q) (gTp q) := rd_in hI hG hn hNM hTx hWs rfl (funext fun j => s1A_i (by decide))
    refine r_ald0 (pc := 16) dX0_ask_16 ?_
    refine r_iconst (v := nI 0) (pc := 17) dX0_ask_17 (by decide) ?_
    refine x_putI (c := 0) hS ow_0 kd_0 (pc := 18) dX0_ask_18 fl_X0_115 fw_X0_3 rfl rfl ?_
    refine r_ald0 (pc := 21) dX0_ask_21 ?_
    refine r_iconst (v := -1) (pc := 22) dX0_ask_22 (by decide) ?_
    refine x_putI (c := 0) hS ow_0 kd_0 (pc := 23) dX0_ask_23 fl_X0_39 fw_X0_4 rfl rfl ?_
    refine r_ald0 (pc := 26) dX0_ask_26 ?_
    refine x_getR (c := 0) hS ow_0 kd_0 (pc := 27) dX0_ask_27 fl_X0_48 (fx_0_5 hX) ?_
    refine r_ild1 (pc := 30) dX0_ask_30 ?_
    refine r_cVg (ci := 2) (pc := 31) (kc' := 0) (ks' := 0) dX0_ask_31 cv_X0_308 hW.1.2.2.2.2.2.2.2.1.1 (ct_X2_question hW) rfl rfl (Nat.le_of_ble_eq_true rfl) (by decide) (by omega) (by omega) (fun qq M' hx => ?_) ?_
    · obtain ⟨k, p, x1, x2⟩ := hx
      have e1 : askQ q = (lI (-1000000000000000), uFt (uTp q (gTp q) 0) (k, some p)) := by unfold askQ; rw [hit, if_pos rfl, x1]
      rw [e1]
      have hq : qq = o + 6 := x2.1
      subst hq
      exact Bt.catch (by decide) (by decide) q522 (hg _ q264 rfl) (Bd.kill 1 (ask_38 hI hG hPz x2))
    rintro _ M' ⟨k, cs, zq, hA, rfl, a1, a2, a3, a4, a5⟩
    have e1 : askQ q = (lI (ansF k (evA (gT q) (gS q) cs) (tn (gT q))), uFt (uTp q (gTp q) 0) (0, none)) := by unfold askQ; rw [hit, if_pos rfl, hA]
    rw [e1]
    exact Bd.kill 1 (ask_34 hI hG hPz hA a1 a2 a3 a4 a5)
  · skip
    have hit : gIt q = false := by
      cases hb : gIt q with
      | false => rfl
      | true => have := hG.2.2.2.2.1 hb; omega
    refine r_ldc2 (v := -1000000000000000) (pc := 12) dX0_ask_12 q1529 ?_
    refine Bd.eqL (x' := lI (-1000000000000000)) (by decide) ?_
    refine r_lret (pc := 15) dX0_ask_15 ?_
    have e1 : askQ q = (lI (-1000000000000000), uTp q (gTp q) 0) := by unfold askQ; rw [hit]; rfl
    rw [e1]
    refine ⟨rfl, M, P, ta, _, rfl, ?_, ⟨Nat.le_refl _, fun _ _ _ => Sm.rf⟩, fun c hc => ⟨hPz c hc, Or.inl hc⟩⟩
    exact ix_ft (x := gFt q) hI hG hPz ⟨Nat.le_refl _, fun _ _ _ => Sm.rf⟩ hS hX (fun _ _ _ _ _ => rfl) (fun _ _ _ _ _ => rfl) hI.2.2.2.2.2.2.2.2.2.2.2 (fun c j _ _ _ h0 => iX_c h0) (fun j h2 _ _ _ => by rw [iX_uI, if_neg (fun z => h2 z.2)]) (by rw [iX_uI, if_pos ⟨rfl, rfl⟩]) (by rw [iX_uI, if_neg (by decide)]; exact hI.2.2.2.1.1) (by rw [iX_uI, if_neg (by decide)]; exact hI.2.2.2.1.2)
end X98
