set_option maxRecDepth 100000
/-! THE OTHER SIDE: terrace -/
section X94
variable {g : GC} {M : MM} {o ta : Nat} {P : Nat → Prop} {s : XS} {q : Sg}
theorem px_terrace (hI : IX g M o P ta s q) (hG : GI q) (hPz : ∀ c, P c → c < mZ M) (hn : gTd q ≤ 1280) (hNM : ∃ mi, NM g "[Ljava/lang/Object;" mi) (hTx : TXT g M) (hWs : WST g M) : CtW g yX0_terrace cX0_terrace 2 (some .int) [(10, 25, 28, 126)] 70 (60 * gTd q + 110) (4000 * gTd q + 16000) [.ref o] (putX M o s) (QR g M o P (terraceQ q).2 (.int (terraceQ q).1)) noX := by
  have hg := hI.1.gx
  have hS := hI.1.S
  have hX := hI.1.X
  have htd : iX s 0 2 = nI (gTd q) := hI.2.2.1.1
  refine CtW.of (by decide) (Nat.le_of_ble_eq_true rfl) rfl ?_
  refine r_ald0 (pc := 0) dX0_terrace_0 ?_
  refine r_iconst (v := nI 0) (pc := 1) dX0_terrace_1 (by decide) ?_
  refine x_putI (c := 0) hS ow_0 kd_0 (pc := 2) dX0_terrace_2 fl_X0_115 fw_X0_3 rfl rfl ?_
  refine r_ald0 (pc := 5) dX0_terrace_5 ?_
  refine r_iconst (v := -1) (pc := 6) dX0_terrace_6 (by decide) ?_
  refine x_putI (c := 0) hS ow_0 kd_0 (pc := 7) dX0_terrace_7 fl_X0_39 fw_X0_4 rfl rfl ?_
  refine r_ald0 (pc := 10) dX0_terrace_10 ?_
  refine r_ald0 (pc := 11) dX0_terrace_11 ?_
  refine x_getR (c := 0) hS ow_0 kd_0 (pc := 12) dX0_terrace_12 fl_X0_48 (fx_0_5 hX) ?_
  refine r_ald0 (pc := 15) dX0_terrace_15 ?_
  refine r_cV (pc := 16) dX0_terrace_16 cv_X0_118 (hS.k (c := 0) ow_0 kd_0) (ct_X0_taken (s := uI (uI s 0 3 (nI 0)) 0 4 (-1)) hS hX) rfl rfl (Nat.le_of_ble_eq_true rfl) (by first | decide | omega) ?_
  rintro _ _ ⟨rfl, rfl⟩
  rw [show iX (uI (uI s 0 3 (nI 0)) 0 4 (-1)) 0 2 = nI (gTd q) from by rw [iX_uI, if_neg (by decide), iX_uI, if_neg (by decide)]; exact htd]
  have hW : RW g (sI (putX M o (uI (uI (uI s 0 3 (nI 0)) 0 4 (-1)) 0 2 (nI 0))) (o + 5) 1 (nI (gTd q))) o (gTd q) (gTp q) := rd_in hI hG hn hNM hTx hWs rfl (by funext j; rw [iX_c (by decide), iX_c (by decide), iX_c (by decide)])
  generalize hs1 : uI (uI (uI s 0 3 (nI 0)) 0 4 (-1)) 0 2 (nI 0) = s1 at *
  have hr1 : rX s1 = rX s := by rw [← hs1]; rfl
  have hl1 : lX s1 = lX s := by rw [← hs1]; rfl
  refine r_cVg (ci := 2) (pc := 19) (kc' := 0) (ks' := 0) dX0_terrace_19 cv_X0_122 hW.1.2.2.2.2.2.2.2.1.1 (ct_X2_all hW) rfl rfl (Nat.le_of_ble_eq_true rfl) (by decide) (by omega) (by omega) (fun qq M' hx => ?_) ?_
  · obtain ⟨k, p, x1, x2⟩ := hx
    have e1 : terraceQ q = (-1, uFt (uRf (uTp q (gTp q) 0) 1) (k, some p)) := by unfold terraceQ; rw [x1]
    rw [e1]
    have hq : qq = o + 6 := x2.1
    subst hq
    exact Bt.catch (by decide) (by decide) q522 (hg _ q264 rfl) (tr_28 hI hG hPz hr1 hl1 hs1.symm x2)
  rintro _ M' ⟨T, m, b, l, v, tA, hA, rfl, hTW⟩
  have e1 : terraceQ q = (nI m, uRw (uUn (uNw (uTe (uFt (uTp q (gTp q) 0) (0, none)) (teO T, true)) (stO T, [])) []) []) := by unfold terraceQ; rw [hA]
  rw [e1]
  exact tr_22 hI hG hr1 hl1 hs1.symm hTW
end X94
