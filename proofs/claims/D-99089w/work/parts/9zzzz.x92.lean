set_option maxRecDepth 100000
/-! THE OTHER SIDE: a terrace is told -/
/-- behind a method that reads: its answer, the whole as q, in a memory M2; P2 the cells of its terrace -/
def QR (g : GC) (M : MM) (o : Nat) (P : Nat → Prop) (q : Sg) (v0 : Value) : Option Value → MM → Prop := fun v M' => v = some v0 ∧ ∃ M2 P2 ta s2, M' = putX M2 o s2 ∧ IX g M2 o P2 ta s2 q ∧ FO o M M2 ∧ ∀ c, P2 c → c < mZ M2 ∧ (P c ∨ mZ M ≤ c)
section X92
variable {g : GC} {M M' M2 : MM} {o n ta : Nat} {f : Nat → Nat} {P : Nat → Prop} {s s2 : XS} {q : Sg} {T : To}
theorem WS.fr2 {s3 : XS} {T : Te} (h : WS g M o P ta T s) (hPz : ∀ c, P c → c < mZ M) (hF : FO o M M2) (hS : ShX g M2 o) (hX : FxX (rX s3) o) (h0 : rX s3 0 0 = rX s 0 0) (hm : MmX s3 8) : WS g M2 o P ta T s3 := by
  obtain ⟨w1, w2, w3, w4, w5, w6, w7, w8⟩ := h
  exact ⟨w1, hS, hX, w4, h0.trans w5, w6.fr (fun c hc => hF.2 c (hPz c hc) (w4 c hc)) (fun _ z => z), w7, hm⟩
theorem FO.sm {c : Nat} (hF : FO o M M2) (hz : c < mZ M) (hn : ¬ owA o c) : Sm M M2 c := hF.2 c hz hn
/-- the whole behind a fault -/
theorem tr_ix {k p : Nat} {s1 : XS} (hI : IX g M o P ta s q) (hG : GI q) (hPz : ∀ c, P c → c < mZ M) (hr : rX s1 = rX s) (hl : lX s1 = lX s) (hi : s1 = uI (uI (uI s 0 3 (nI 0)) 0 4 (-1)) 0 2 (nI 0)) (hS : ShX g M2 o) (hX : FxX (rX s2) o) (hK2 : ∀ c, ow c → c ≠ 5 → c ≠ 6 → iX s2 c = iX s1 c ∧ lX s2 c = lX s1 c ∧ rX s2 c = rX s1 c) (hF2 : FO o M M2) : IX g M2 o P ta (uI (uI (uI s2 0 3 (nI k)) 0 4 (nI p)) 11 1 (iX (uI (uI s2 0 3 (nI k)) 0 4 (nI p)) 11 1 + nI 1)) (uFt (uRf (uTp q (gTp q) 0) 1) (k, some p)) := by
  have hP := hI.1.2.2.2.1
  have e0 := hK2 0 ow_0 (by decide) (by decide)
  have ei : ∀ c j, ow c → c ≠ 5 → c ≠ 6 → c ≠ 0 → iX s2 c j = iX s c j := fun c j hc h5 h6 h0 => by rw [(hK2 c hc h5 h6).1, hi, iX_c h0, iX_c h0, iX_c h0]
  have er : ∀ c j, ow c → c ≠ 5 → c ≠ 6 → rX s2 c j = rX s c j := fun c j hc h5 h6 => by rw [(hK2 c hc h5 h6).2.2, hr]
  have el : ∀ c, ow c → c ≠ 5 → c ≠ 6 → lX s2 c = lX s c := fun c hc h5 h6 => by rw [(hK2 c hc h5 h6).2.1, hl]
  have e0j : ∀ j, j ≠ 2 → j ≠ 3 → j ≠ 4 → iX s2 0 j = iX s 0 j := fun j h2 h3 h4 => by rw [e0.1, hi, iX_uI, if_neg (fun z => h2 z.2), iX_uI, if_neg (fun z => h4 z.2), iX_uI, if_neg (fun z => h3 z.2)]
  have e02 : iX s2 0 2 = nI 0 := by rw [e0.1, hi, iX_uI, if_pos ⟨rfl, rfl⟩]
  obtain ⟨w1, w2, ⟨a1, a1b, a1c⟩, a2, a3, a4, a5, a6, a7, a8, a9, a10⟩ := hI
  have hn : tn (gT q) ≤ 8 := w1.B.1
  have eI : ∀ c j, ow c → c ≠ 5 → c ≠ 6 → c ≠ 0 → c ≠ 11 → iX (uI (uI (uI s2 0 3 (nI k)) 0 4 (nI p)) 11 1 (iX (uI (uI s2 0 3 (nI k)) 0 4 (nI p)) 11 1 + nI 1)) c j = iX s c j := fun c j hc h5 h6 h0 h11 => by rw [iX_c h11, iX_c h0, iX_c h0]; exact ei c j hc h5 h6 h0
  have eJ : ∀ j, j ≠ 2 → j ≠ 3 → j ≠ 4 → iX (uI (uI (uI s2 0 3 (nI k)) 0 4 (nI p)) 11 1 (iX (uI (uI s2 0 3 (nI k)) 0 4 (nI p)) 11 1 + nI 1)) 0 j = iX s 0 j := fun j h2 h3 h4 => by rw [iX_c (by decide), iX_uI, if_neg (fun z => h4 z.2), iX_uI, if_neg (fun z => h3 z.2)]; exact e0j j h2 h3 h4
  have owS : ∀ c, 12 ≤ c → c < 1517 → ow c := fun c h1 h2 => by unfold ow; omega
  generalize hs3 : uI (uI (uI s2 0 3 (nI k)) 0 4 (nI p)) 11 1 (iX (uI (uI s2 0 3 (nI k)) 0 4 (nI p)) 11 1 + nI 1) = s3 at *
  have r3 : rX s3 = rX s2 := by rw [← hs3]; rfl
  have l3 : lX s3 = lX s2 := by rw [← hs3]; rfl
  have eR : ∀ c j, ow c → c ≠ 5 → c ≠ 6 → rX s3 c j = rX s c j := fun c j hc h5 h6 => by rw [r3]; exact er c j hc h5 h6
  have eL : ∀ c, ow c → c ≠ 5 → c ≠ 6 → lX s3 c = lX s c := fun c hc h5 h6 => by rw [l3]; exact el c hc h5 h6
  have m8 : MmX s3 8 := fun j hj => by rw [eL 8 ow_8 (by decide) (by decide)]; exact w1.m j hj
  refine ⟨w1.fr2 hPz hF2 hS (by rw [r3]; exact hX) (eR 0 0 ow_0 (by decide) (by decide)) m8, w2.fr w1.2.2.2.2.2.1.1 (fun c hc => hF2.2 c (hPz c hc) (hP c hc)) (fun _ z => z), ⟨?_, fun j hj => ?_, fun j hj => ?_⟩, ⟨?_, ?_⟩, fun i hi => ?_, a4.fr hn (fun c j hc => ?_) (fun j => ?_), a5.fr hn hG.2.2.2.2.2.2.2.1 (fun c j hc => ?_) (fun c j h1 h2 => ?_), fun b hb => ?_, a7.fr (fun c j hc => ?_), ?_, a9.fr (fun c j hc => ?_), fun j hj => ?_⟩
  · rw [← hs3, iX_c (by decide), iX_uI, if_neg (by decide), iX_uI, if_neg (by decide)]; exact e02
  · rw [eI 4 j ow_4 (by decide) (by decide) (by decide) (by decide)]; exact a1b j hj
  · rw [eI 4 j ow_4 (by decide) (by decide) (by decide) (by decide)]; exact a1c j hj
  · rw [← hs3, iX_c (by decide), iX_uI, if_neg (by decide), iX_uI, if_pos ⟨rfl, rfl⟩]; rfl
  · rw [← hs3, iX_c (by decide), iX_uI, if_pos ⟨rfl, rfl⟩]; rfl
  · show iX s3 11 i = nI (va_up (gRf q) 1 (gRf q 1 + 1) i)
    have e11 : ∀ j, iX (uI (uI s2 0 3 (nI k)) 0 4 (nI p)) 11 j = iX s 11 j := fun j => by rw [iX_c (by decide), iX_c (by decide)]; exact ei 11 j (by unfold ow; omega) (by decide) (by decide) (by decide)
    rw [upN, ← hs3, iX_uI]
    by_cases e : i = 1
    · rw [if_pos ⟨rfl, e⟩, if_pos e, e11, a3 1 (by decide)]; exact nI_add _ _
    · rw [if_neg (fun z => e z.2), if_neg e, e11]; exact a3 i hi
  · unfold rNw at hc; exact eI c j (owS c (by omega) (by omega)) (by omega) (by omega) (by omega) (by omega)
  · exact eR 27 j (owS 27 (by decide) (by decide)) (by decide) (by decide)
  · rcases hc with ⟨rfl, rfl⟩ | hc
    · exact eJ 18 (by decide) (by decide) (by decide)
    · exact eI c j (owS c (by omega) (by omega)) (by omega) (by omega) (by omega) (by omega)
  · exact eR c j (owS c (by omega) (by omega)) (by omega) (by omega)
  · have hb2 := isS_c hb
    obtain ⟨pm, p1, p2⟩ := a6 b hb
    exact ⟨pm, fun j hj => ⟨(p1 j hj).1, (eR (b + 15) j (owS _ (by omega) (by omega)) (by omega) (by omega)).trans (p1 j hj).2⟩, p2⟩
  · rcases hc with ⟨rfl, rfl⟩ | hc
    · exact eJ 15 (by decide) (by decide) (by decide)
    · exact eI c j (owS c (by omega) (by omega)) (by omega) (by omega) (by omega) (by omega)
  · unfold cSd; rw [eL 0 ow_0 (by decide) (by decide)]; exact a8
  · rcases hc with ⟨rfl, rfl⟩ | rfl
    · exact eJ 22 (by decide) (by decide) (by decide)
    · exact eI 1516 j (owS _ (by decide) (by decide)) (by decide) (by decide) (by decide) (by decide)
  · rw [eL 10 ow_10 (by decide) (by decide)]; exact a10 j hj
/-- the fault is told -/
theorem tr_28 {k p : Nat} {s1 : XS} (hI : IX g M o P ta s q) (hG : GI q) (hPz : ∀ c, P c → c < mZ M) (hr : rX s1 = rX s) (hl : lX s1 = lX s) (hi : s1 = uI (uI (uI s 0 3 (nI 0)) 0 4 (-1)) 0 2 (nI 0)) (hx : XT g (putX M o s1) o (gTd q) (gTp q) k p (o + 6) M') {kc ks : Nat} :
    Bd g yX0_terrace cX0_terrace 2 (some .int) [(10, 25, 28, 126)] 70 kc ks M' 28 [some (.ref o), none] [.ref (o + 6)] (QR g M o P (uFt (uRf (uTp q (gTp q) 0) 1) (k, some p)) (.int (-1))) noX := by
  obtain ⟨-, x1, x2, x3, x4⟩ := hx
  have hg := hI.1.gx
  have hP := hI.1.2.2.2.1
  obtain ⟨hS2, hX2, hK2, hF2, hH2⟩ := rd_back (s := s1) hI.1.S (by rw [hr]; exact hI.1.X) x3 x4
  have j6 : iX (getX M' o) 6 6 = nI k := x1
  have j7 : iX (getX M' o) 6 7 = nI p := x2
  have hmz : mZ (nrm M' o) = mZ M' := rfl
  refine Bd.sub hH2 ?_
  generalize getX M' o = s2 at *
  generalize nrm M' o = M2 at *
  have hS := hS2
  have hX := hX2
  have k6 : ∀ s3, mK (putX M2 o s3) (o + 6) = 23 := fun s3 => hS.k (s := s3) (c := 6) (by unfold ow; omega) rfl
  refine r_ast1 (pc := 28) dX0_terrace_28 ?_
  refine r_ald0 (pc := 29) dX0_terrace_29 ?_
  refine r_ald1 (pc := 30) dX0_terrace_30 ?_
  refine r_getIN (pc := 31) dX0_terrace_31 (fn_X0_128 hg) (k6 _) ?_
  rw [show mI (putX M2 o s2) (o + 6) 6 = nI k from (mI_putX (by unfold ow; omega)).trans j6]
  refine x_putI (c := 0) hS ow_0 kd_0 (pc := 34) dX0_terrace_34 fl_X0_115 fw_X0_3 rfl rfl ?_
  refine r_ald0 (pc := 37) dX0_terrace_37 ?_
  refine r_ald1 (pc := 38) dX0_terrace_38 ?_
  refine r_getIN (pc := 39) dX0_terrace_39 (fn_X0_131 hg) (k6 _) ?_
  rw [show mI (putX M2 o (uI s2 0 3 (nI k))) (o + 6) 7 = nI p from (mI_putX (by unfold ow; omega)).trans ((iX_c (by decide)).trans j7)]
  refine x_putI (c := 0) hS ow_0 kd_0 (pc := 42) dX0_terrace_42 fl_X0_39 fw_X0_4 rfl rfl ?_
  refine r_ald0 (pc := 45) dX0_terrace_45 ?_
  refine r_iconst (v := nI 1) (pc := 46) dX0_terrace_46 (by decide) ?_
  refine r_cV (pc := 47) dX0_terrace_47 cv_X0_107 (hS.k (c := 0) ow_0 kd_0) (ct_X0_refuses (i := 1) hS hX (by decide)) rfl rfl (Nat.le_of_ble_eq_true rfl) (by first | decide | omega) ?_
  rintro _ _ ⟨rfl, rfl⟩
  refine r_iret (pc := 50) dX0_terrace_50 ?_
  refine ⟨rfl, M2, P, ta, _, rfl, ?_, hF2, fun c hc => ⟨Nat.lt_of_lt_of_le (hPz c hc) hF2.1, Or.inl hc⟩⟩
  exact tr_ix hI hG hPz hr hl hi hS hX hK2 hF2
end X92
