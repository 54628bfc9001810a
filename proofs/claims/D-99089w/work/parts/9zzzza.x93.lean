set_option maxRecDepth 100000
/-! THE OTHER SIDE: a terrace is told (2) -/
theorem TB_te {T : To} (hV : VT T) : TB (teO T) := by
  obtain ⟨h1, h2, h3, h4, h5, h6, h7⟩ := hV
  refine ⟨h3, h2, fun p hp => ?_, fun w cs hw hc => h7 w hw cs hc, h6⟩
  have := sAt_ok ⟨h1, h2, h3, h4, h5, h6, h7⟩ (show p < (oS T).length from hp)
  exact ⟨this.2.2.2.2.1, this.2.2.2.2.2⟩
section X93
variable {g : GC} {M M' M2 M0 : MM} {o n ta l v m b : Nat} {f : Nat → Nat} {P : Nat → Prop} {s s2 : XS} {q : Sg} {T : To} {tA : Nat → Nat}
/-- the terrace that was told, among the cells that are new -/
theorem told_tr (hT : TLD g M0 M' o ta l v tA T m) (hV : VT T) (hS : ∀ c, mZ M0 ≤ c → Sm M' M2 c) : TrX M2 o (fun c => mZ M0 ≤ c ∧ c < mZ M') ta (teO T) ∧ SoX M2 (fun c => mZ M0 ≤ c ∧ c < mZ M') ta (teO T) ∧ SoB M2 (fun c => mZ M0 ≤ c ∧ c < mZ M') ta T ∧ mK M2 ta = 21 ∧ mI M2 ta 0 = nI m := by
  obtain ⟨⟨h1, h2, h3, h4, h5⟩, h6, ⟨a1, a2, a3⟩, h8, ⟨p1, p2, p3⟩, h10, h11, h12, h13, h14, h15⟩ := hT
  have st := hS ta p1
  have sl := hS l p2
  have sv := hS v p3
  have hP : ∀ c, Pt M0 M' ta l v c → (mZ M0 ≤ c ∧ c < mZ M') := fun c hc => ⟨hc.1, hc.2.1⟩
  have hS2 : ∀ c, Pt M0 M' ta l v c → Sm M' M2 c := fun c hc => hS c hc.1
  have h16 := h15.fr hS2 hP st.2.2.2.2
  refine ⟨⟨⟨p1, a1⟩, st.1.trans h1, by rw [st.2.2.1]; exact h3, h16.1, h16.2⟩, ⟨by rw [st.2.2.1]; exact h4, l, v, by rw [st.2.2.2.2]; exact h5, ⟨p2, a2⟩, ⟨p3, a3⟩, h6.fr sl sv, fun p hp => ?_⟩, ⟨l, v, by rw [st.2.2.2.2]; exact h5, ⟨p2, a2⟩, ⟨p3, a3⟩, h6.fr sl sv, fun p hp => ?_⟩, st.1.trans h1, by rw [st.2.2.1]; exact h2⟩
  · have hp : p < (oS T).length := hp
    obtain ⟨a, k1, k2, k3, k4, k5⟩ := h12 p hp
    have k6 := k2.fr hS2 hP (hS (tA p) k3)
    obtain ⟨y1, y2, ⟨z, y3, y4⟩, -⟩ := k6
    have hso := (sAt_ok hV hp).2.2.1
    refine ⟨a, by rw [sv.2.2.2.2]; exact k1, y1, y2, fun j hj => ?_, z, y3, y4⟩
    have hj : j < (sAt T p).1.length := hj
    show 1 ≤ (sAt T p).1.getD j 0 ∧ (sAt T p).1.getD j 0 ≤ 26
    rw [List.getD_eq_getElem?_getD, List.getElem?_eq_getElem hj]
    exact hso _ (List.getElem_mem hj)
  · obtain ⟨a, k1, k2, k3, k4, k5⟩ := h12 p hp
    obtain ⟨y1, y2, ⟨z, y3, y4⟩, ⟨y5, y6, y7⟩, y8, y9, y10, y11⟩ := k2.fr hS2 hP (hS (tA p) k3)
    exact ⟨a, tA p, by rw [sv.2.2.2.2]; exact k1, y1, ⟨k3, k4⟩, y2, ⟨y5, y6, y7⟩, y8, y9, y10, y11⟩
/-- the whole behind a terrace that was told -/
theorem tr_ok {s1 s3 s4 : XS} {P2 : Nat → Prop} {ta2 : Nat} (hI : IX g M o P ta s q) (hG : GI q) (hr : rX s1 = rX s) (hl : lX s1 = lX s) (hi : s1 = uI (uI (uI s 0 3 (nI 0)) 0 4 (-1)) 0 2 (nI 0)) (hV : VT T) (hS : ShX g M2 o) (hK2 : ∀ c, ow c → c ≠ 5 → c ≠ 6 → iX s2 c = iX s1 c ∧ lX s2 c = lX s1 c ∧ rX s2 c = rX s1 c) (hs3 : s3 = uR s2 0 0 (some (mZ M))) (hB : BG s3 s4 12 T (oS T).length) (hX : FxX (rX s4) o) (h00 : rX s4 0 0 = some ta2) (hP2 : ∀ c, P2 c → ¬ owA o c) (t1 : TrX M2 o P2 ta2 (teO T)) (t2 : SoX M2 P2 ta2 (teO T)) : IX g M2 o P2 ta2 (uI (uI s4 0 18 (nI 0)) 0 15 (nI 0)) (uRw (uUn (uNw (uTe (uFt (uTp q (gTp q) 0) (0, none)) (teO T, true)) (stO T, [])) []) []) := by
  obtain ⟨b1, b2, b3, ⟨b4, b5, b6⟩, b7⟩ := hB
  obtain ⟨w1, w2, ⟨a1, a1b, a1c⟩, a2, a3, a4, a5, a6, a7, a8, a9, a10⟩ := hI
  have r3 : ∀ c j, ow c → c ≠ 5 → c ≠ 6 → ¬ (c = 0 ∧ j = 0) → rX s4 c j = rX s c j := fun c j hc h5 h6 h0 => by rw [b2, hs3, rX_uR, if_neg h0, (hK2 c hc h5 h6).2.2, hr]
  have l3 : ∀ c, ow c → c ≠ 5 → c ≠ 6 → lX s4 c = lX s c := fun c hc h5 h6 => by rw [b1, hs3]; show lX s2 c = _; rw [(hK2 c hc h5 h6).2.1, hl]
  have i3 : ∀ c, ow c → c ≠ 5 → c ≠ 6 → ¬ (12 ≤ c ∧ c < 27) → iX s4 c = iX s1 c := fun c hc h5 h6 hn => by rw [b3 c hn, hs3]; show iX s2 c = _; exact (hK2 c hc h5 h6).1
  have i4 : ∀ c j, ow c → c ≠ 5 → c ≠ 6 → ¬ (12 ≤ c ∧ c < 27) → c ≠ 0 → iX (uI (uI s4 0 18 (nI 0)) 0 15 (nI 0)) c j = iX s c j := fun c j hc h5 h6 hn h0 => by rw [iX_c h0, iX_c h0, i3 c hc h5 h6 hn, hi, iX_c h0, iX_c h0, iX_c h0]
  have j4 : ∀ j, j ≠ 15 → j ≠ 18 → iX (uI (uI s4 0 18 (nI 0)) 0 15 (nI 0)) 0 j = iX s1 0 j := fun j h1 h2 => by rw [iX_uI, if_neg (fun z => h1 z.2), iX_uI, if_neg (fun z => h2 z.2), i3 0 ow_0 (by decide) (by decide) (by decide)]
  have n4 : ∀ c j, 12 ≤ c → iX (uI (uI s4 0 18 (nI 0)) 0 15 (nI 0)) c j = iX s4 c j := fun c j h => by rw [iX_c (by omega), iX_c (by omega)]
  have owS : ∀ c, 12 ≤ c → c < 1517 → ow c := fun c h1 h2 => by unfold ow; omega
  generalize hs5 : uI (uI s4 0 18 (nI 0)) 0 15 (nI 0) = s5 at *
  have r5 : rX s5 = rX s4 := by rw [← hs5]; rfl
  have l5 : lX s5 = lX s4 := by rw [← hs5]; rfl
  have mm : ∀ c, ow c → c ≠ 5 → c ≠ 6 → MmX s c → MmX s5 c := fun c hc h5 h6 h j hj => by rw [l5, l3 c hc h5 h6]; exact h j hj
  have pm : ∀ b, isS b → ∃ pm, pmX (rX s5) o b pm := fun b hb => by
    have hb2 := isS_c hb
    obtain ⟨pm, p1, p2⟩ := a6 b hb
    exact ⟨pm, fun j hj => ⟨(p1 j hj).1, by rw [r5, r3 (b + 15) j (owS _ (by omega) (by omega)) (by omega) (by omega) (by omega)]; exact (p1 j hj).2⟩, p2⟩
  refine ⟨⟨w1.1, hS, by rw [r5]; exact hX, hP2, by rw [r5]; exact h00, t1, TB_te hV, mm 8 ow_8 (by decide) (by decide) w1.m⟩, t2, ⟨?_, fun j hj => ?_, fun j hj => ?_⟩, ⟨?_, ?_⟩, fun i hi' => ?_, ⟨⟨?_, ?_, fun p hp => ?_, fun p hp => ?_, fun p hp => ?_, fun p hp => ?_, fun p hp => ?_, fun p hp r hrr => ?_⟩, ?_⟩, ?_, pm, ⟨?_, fun i a b c hx => by cases hx⟩, ?_, ⟨?_, fun i hi' => ?_⟩, mm 10 ow_10 (by decide) (by decide) a10⟩
  · rw [j4 2 (by decide) (by decide), hi, iX_uI, if_pos ⟨rfl, rfl⟩]; rfl
  · rw [i4 4 j ow_4 (by decide) (by decide) (by decide) (by decide)]; exact a1b j hj
  · rw [i4 4 j ow_4 (by decide) (by decide) (by decide) (by decide)]; exact a1c j hj
  · rw [j4 3 (by decide) (by decide), hi, iX_uI, if_neg (by decide), iX_uI, if_neg (by decide), iX_uI, if_pos ⟨rfl, rfl⟩]; rfl
  · rw [j4 4 (by decide) (by decide), hi, iX_uI, if_neg (by decide), iX_uI, if_pos ⟨rfl, rfl⟩]; rfl
  · rw [i4 11 i (by unfold ow; omega) (by decide) (by decide) (by decide) (by decide)]; exact a3 i hi'
  · rw [n4 12 0 (by decide)]; exact b4
  · rw [n4 12 1 (by decide)]; exact b5
  · rw [n4 (12 + 1) p (by decide)]; exact (b7 p hp).1.1
  · rw [n4 (12 + 2) p (by decide)]; exact (b7 p hp).1.2.1
  · rw [n4 (12 + 3) p (by decide)]; exact (b7 p hp).1.2.2.1
  · rw [n4 (12 + 4) p (by decide)]; exact (b7 p hp).1.2.2.2.1
  · rw [n4 (12 + 5) p (by decide), (b7 p hp).1.2.2.2.2]
    exact (zI_f (by show ¬ (0 : Nat) = 1; decide)).symm
  · have h8 := hV.2.2.1
    have hp : p < (oS T).length := hp
    have hrr : r < (oS T).length := hrr
    rw [n4 (12 + (7 + p)) r (by omega)]; exact (b7 p hp).2 r (by omega)
  · obtain ⟨pmf, hpm⟩ := pm 12 isS_12
    exact ⟨pmf, hpm, by rw [n4 12 2 (by decide)]; exact b6, (show ([] : List Ev).length ≤ 40 by decide), fun i a c e hx => by cases hx⟩
  · obtain ⟨-, pk, ⟨k1, k2⟩, -⟩ := a5
    exact ⟨by rw [← hs5, iX_uI, if_neg (by decide), iX_uI, if_pos ⟨rfl, rfl⟩]; rfl, pk, ⟨fun j hj => ⟨(k1 j hj).1, by rw [r5, r3 395 j (owS _ (by decide) (by decide)) (by decide) (by decide) (by omega)]; exact (k1 j hj).2⟩, k2⟩, fun i x hx => by cases hx⟩
  · rw [← hs5, iX_uI, if_pos ⟨rfl, rfl⟩]; rfl
  · unfold cSd; rw [l5, l3 0 ow_0 (by decide) (by decide)]; exact a8
  · rw [j4 22 (by decide) (by decide), hi, iX_uI, if_neg (by decide), iX_uI, if_neg (by decide), iX_uI, if_neg (by decide)]; exact a9.1
  · rw [i4 1516 i (owS _ (by decide) (by decide)) (by decide) (by decide) (by decide) (by decide)]; exact a9.2 i hi'
theorem tr_22 {s1 : XS} (hI : IX g M o P ta s q) (hG : GI q) (hr : rX s1 = rX s) (hl : lX s1 = lX s) (hi : s1 = uI (uI (uI s 0 3 (nI 0)) 0 4 (-1)) 0 2 (nI 0)) (hW : TW g (putX M o s1) M' o (gTd q) (gTp q) (mZ M) l v tA T m b) {kc ks : Nat} :
    Bd g yX0_terrace cX0_terrace 2 (some .int) [(10, 25, 28, 126)] 70 kc ks M' 22 [some (.ref o), none] [.ref (mZ M), .ref o] (QR g M o P (uRw (uUn (uNw (uTe (uFt (uTp q (gTp q) 0) (0, none)) (teO T, true)) (stO T, [])) []) []) (.int (nI m))) noX := by
  have hg := hI.1.gx
  obtain ⟨hS2, hX2, hK2, hF2, hH2⟩ := rd_back (s := s1) hI.1.S (by rw [hr]; exact hI.1.X) hW.2.1 hW.w.1
  have hoz := hI.1.S.2.1
  have hn6 : ∀ c, mZ M ≤ c → Sm M' (nrm M' o) c := fun c hc => ⟨rfl, nrm_n (by omega) (by omega), rfl, rfl, rfl⟩
  obtain ⟨t1, t2, t3, t4, t5⟩ := told_tr (M2 := nrm M' o) hW.t hW.V hn6
  have hz' : mZ (nrm M' o) = mZ M' := rfl
  have hzM : mZ (putX M o s1) = mZ M := rfl
  refine Bd.sub hH2 ?_
  generalize hs2 : getX M' o = s2 at *
  generalize hM2 : nrm M' o = M2 at *
  have hS := hS2
  have hX : FxX (rX (uR s2 0 0 (some (mZ M)))) o := hX2.of (fun c j hc => by rw [rX_uR, if_neg]; rintro ⟨rfl, rfl⟩; rcases hc with h | h | h | h | h | h | ⟨b, hb, h⟩ <;> first | omega | (have := isS_c hb; omega))
  have hPo : ∀ c, (mZ (putX M o s1) ≤ c ∧ c < mZ M') → ¬ owA o c := fun c hc => by rw [hzM] at hc; unfold owA; omega
  have WBg : WB g M2 o (fun c => mZ (putX M o s1) ≤ c ∧ c < mZ M') (mZ M) T (uR s2 0 0 (some (mZ M))) := ⟨hg, hS, hX, hPo, by rw [rX_uR, if_pos ⟨rfl, rfl⟩], ⟨t1.1, t4⟩, t3, hW.V⟩
  have ht : ∀ s3, rX s3 = rX (uR s2 0 0 (some (mZ M))) → rX s3 0 0 = some (mZ M) := fun s3 h => by rw [h, rX_uR, if_pos ⟨rfl, rfl⟩]
  refine x_putR (c := 0) hS ow_0 kd_0 (pc := 22) dX0_terrace_22 fl_X0_31 fw_X0_0 rfl rfl ?_
  refine r_goto (pc := 25) (tgt := 51) dX0_terrace_25 (by decide) ?_
  generalize hs3 : uR s2 0 0 (some (mZ M)) = s3 at *
  have hXX := hX
  refine r_ald0 (pc := 51) dX0_terrace_51 ?_
  refine x_getR (c := 0) hS ow_0 kd_0 (pc := 52) dX0_terrace_52 fl_X0_69 (fx_0_9 hX) ?_
  refine r_cV (pc := 55) dX0_terrace_55 cv_X0_134 (hS.k (c := 12) (st_ow isS_12) (st_kd isS_12)) (ct_X5_begins WBg isS_12) rfl rfl (Nat.le_of_ble_eq_true rfl) (by first | decide | omega) ?_
  rintro _ _ ⟨s4, rfl, rfl, hB⟩
  have hX : FxX (rX s4) o := by rw [hB.2.1]; exact hXX
  refine r_ald0 (pc := 58) dX0_terrace_58 ?_
  refine r_iconst (v := nI 0) (pc := 59) dX0_terrace_59 (by decide) ?_
  refine x_putI (c := 0) hS ow_0 kd_0 (pc := 60) dX0_terrace_60 fl_X0_137 fw_X0_18 rfl rfl ?_
  refine r_ald0 (pc := 63) dX0_terrace_63 ?_
  refine r_iconst (v := nI 0) (pc := 64) dX0_terrace_64 (by decide) ?_
  refine x_putI (c := 0) hS ow_0 kd_0 (pc := 65) dX0_terrace_65 fl_X0_140 fw_X0_15 rfl rfl ?_
  refine r_ald0 (pc := 68) dX0_terrace_68 ?_
  refine x_getR (c := 0) hS ow_0 kd_0 (pc := 69) dX0_terrace_69 fl_X0_31 (ht (uI (uI s4 0 18 (nI 0)) 0 15 (nI 0)) hB.2.1) ?_
  refine r_getIN (pc := 72) dX0_terrace_72 (fn_X0_143 hg) t4 ?_
  rw [show mI (putX M2 o (uI (uI s4 0 18 (nI 0)) 0 15 (nI 0))) (mZ M) 0 = nI m from (mI_putXn (hPo _ t1.1)).trans t5]
  refine r_iret (pc := 75) dX0_terrace_75 ?_
  refine ⟨rfl, M2, (fun c => mZ (putX M o s1) ≤ c ∧ c < mZ M'), mZ M, _, rfl, ?_, hF2, fun c hc => ⟨by rw [hz']; exact hc.2, Or.inr hc.1⟩⟩
  exact tr_ok hI hG hr hl hi hW.V hS hK2 hs3.symm hB (by rw [hB.2.1]; exact hXX) (ht _ hB.2.1) hPo t1 t2
end X93
