set_option maxRecDepth 100000
/-! THE TREES: Chain.add; a soul; a question -/
section X44
variable {g : GC} {M : MM}
theorem CHU.gw {a l v b u n c mi : Nat} {M1 : MM} (hg : GX g) (hO : GO g) (hz : NM g "[Ljava/lang/Object;" mi) (h : CHU g M a l v b u n) (h1 : SAD M b u n c M1) : LGw g M1 l v n mi := by
  obtain ⟨n1, n2, n3, n4, n5, n6, n7, n8, n9, n10⟩ := h.ne
  obtain ⟨k1, k2, k3, k4, k5, ⟨a1, a2, a3, a4, a5⟩, ⟨b1, b2, b3, b4, b5⟩, k6, k7, k8⟩ := h
  obtain ⟨u', s1, s2, s3, s4, s5, s6, s7, s8⟩ := h1
  have hz1 := s5.1
  have fl := s5.2 l a2 (fun e => by omega)
  have fv := s5.2 v a3 (fun e => by omega)
  refine ⟨hg, hO, hz, k4.fr fl fv, by omega, by omega, b2, b3, by omega, fun i _ z hz => ?_, k8, by rw [fv.2.1]; exact k6⟩
  rw [fv.2.2.2.2] at hz
  have hh := k7 i z hz
  have h9 := hh.1
  by_cases e3 : z = b
  · subst e3
    obtain ⟨-, cj, hk, hcj⟩ := hh
    exact ⟨by omega, cj, by rw [s1.1.1, ← k5.1.1]; exact hk, hcj⟩
  by_cases e4 : z = u
  · subst e4
    obtain ⟨-, cj, hk, -⟩ := hh
    rw [k5.1.2.2.2.2.1] at hk; omega
  exact hh.fr hz1 (s5.2 z h9 (fun e => by omega))
theorem ct_X9_add {a l v b u n x c ci mi : Nat} (hg : GX g) (hO : GO g) (hc : CMPS g) (hz : NM g "[Ljava/lang/Object;" mi) (h : CHU g M a l v b u n) (hn : n + 1 < 100000) (hc7 : c < 128) (hx : mK M x = 20 + ci) (hxz : x < mZ M) (hca : NW g (.castable (clT ci).1 "java/lang/Object")) : Ct g yX9_add cX9_add 3 none 11 (2) (4 * n + 3) [.ref a, .int (nI c), .ref x] M (fun w M' => w = none ∧ CHA g M a l v b u n x c M') noX := by
  have hh := h
  obtain ⟨n1, n2, n3, n4, n5, n6, n7, n8, n9, n10⟩ := h.ne
  obtain ⟨k1, k2, k3, k4, k5, ⟨a1, a2, a3, a4, a5⟩, ⟨b1, b2, b3, b4, b5⟩, k6, k7, k8⟩ := h
  refine Ct.of (by decide) (Nat.le_of_ble_eq_true rfl) rfl ?_
  refine r_ald0 (pc := 0) dX9_add_0 ?_
  refine r_getR (pc := 1) dX9_add_1 fl_X9_21 k1 k3 ?_
  refine r_ild1 (pc := 4) dX9_add_4 ?_
  refine r_cVm (ci := 21) (pc := 5) (kc' := 1) (ks' := 2 * n + 1) dX9_add_5 cv_X9_25 k5.1.1 (ct_J15_append hg hc k5 a4 a5 b4 b5 (by omega) (by omega) hc7) rfl rfl (Nat.le_of_ble_eq_true rfl) (by decide) (by omega) (by omega) ?_
  rintro _ M1 ⟨rfl, h1⟩
  have h1z := h1.elim fun _ q => q.2.2.2.2.1
  have ha1 := h1z.2 a a1 (fun e => by omega)
  have hl1 := hh.gw hg hO hz h1
  have hx1 : mK M1 x = 20 + ci := by
    by_cases e1 : x = b
    · subst e1
      obtain ⟨u', s1, -⟩ := h1
      rw [s1.1.1, ← k5.1.1]; exact hx
    by_cases e2 : x = u
    · subst e2; rw [k5.1.2.2.2.2.1] at hx; omega
    exact (h1z.2 x hxz (fun e => by omega)).1.trans hx
  refine r_pop (pc := 8) dX9_add_8 rfl ?_
  refine r_ald0 (pc := 9) dX9_add_9 ?_
  refine r_getR (pc := 10) (b := l) dX9_add_10 fl_X9_12 (ha1.1.trans k1) (by rw [ha1.2.2.2.2]; exact k2) ?_
  refine r_ald2 (pc := 13) dX9_add_13 ?_
  refine r_cFm (pc := 14) (kc' := 0) (ks' := 0) dX9_add_14 (cf_X9_29 hg) hl1.2.2.2.1.1 (ct_J2_add hl1 hx1 (Nat.lt_of_lt_of_le hxz h1z.1) hca) rfl rfl (Nat.le_of_ble_eq_true rfl) (by decide) (by omega) (by omega) ?_
  rintro _ M2 ⟨rfl, h2⟩
  refine r_pop (pc := 19) dX9_add_19 rfl ?_
  refine r_vret (pc := 20) dX9_add_20 ?_
  exact ⟨rfl, CHA.mk hh hn hx hxz hca h1 h2⟩
end X44
