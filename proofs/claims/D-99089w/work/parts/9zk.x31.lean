set_option maxRecDepth 100000
/-! RETOUCHED: image -/
theorem shr8_all : ∀ y, y < 2048 → nI y >>> (nI 8 &&& 31) = nI (y / 256) := by decide +kernel
theorem and255 {v : Nat} (hv : v < 65536) : nI v &&& nI 255 = nI (v % 256) := by
  rw [pk_and _ 8 (by decide)]
  congr 1
  have e : (nI v).toInt = (v : Int) := nI_toInt (by omega)
  have hb : (nI v).toBitVec.toNat = v := by
    have h1 : (nI v).toInt = if 2 * (nI v).toBitVec.toNat < 4294967296 then ((nI v).toBitVec.toNat : Int) else ((nI v).toBitVec.toNat : Int) - 4294967296 := by
      rw [← Int32.toInt_toBitVec, BitVec.toInt_eq_toNat_cond]; rfl
    have hlt := (nI v).toBitVec.isLt
    rw [e] at h1
    split at h1 <;> omega
  rw [hb]
/-- what is written out -/
def OuX (s : XS) (L : List Nat) : Prop := iX s 0 22 = nI L.length ∧ ∀ i, i < L.length → iX s 1516 i &&& nI 255 = nI (L.getD i 0)
def OuF (s s' : XS) : Prop := rX s' = rX s ∧ lX s' = lX s ∧ ∀ c j, ¬ (c = 0 ∧ j = 22) → c ≠ 1516 → iX s' c j = iX s c j
theorem OuF.rf {s : XS} : OuF s s := ⟨rfl, rfl, fun _ _ _ _ => rfl⟩
theorem OuF.trans {s s1 s2 : XS} (h : OuF s s1) (h' : OuF s1 s2) : OuF s s2 := ⟨h'.1.trans h.1, h'.2.1.trans h.2.1, fun c j a b => (h'.2.2 c j a b).trans (h.2.2 c j a b)⟩
section X31
variable {g : GC} {M : MM} {o ta : Nat} {P : Nat → Prop} {s : XS} {q : Sg}
theorem ct_X0_writes {L : List Nat} {v w : Nat} (hS : ShX g M o) (hX : FxX (rX s) o) (h : OuX s L) (hl : L.length < 83) (hv : v < 65536) (hw : v % 256 = w) : Ct g yX0_writes cX0_writes 2 none 0 0 0 [.ref o, .int (nI v)] (putX M o s) (QX M o (fun r s' => r = none ∧ OuX s' (L ++ [w]) ∧ OuF s s')) noX := by
  refine Ct.of (by decide) (Nat.le_of_ble_eq_true rfl) rfl ?_
  refine r_ald0 (pc := 0) dX0_writes_0 ?_
  refine x_getR (c := 0) hS ow_0 kd_0 (pc := 1) dX0_writes_1 fl_X0_101 (fx_0_21 hX) ?_
  refine r_ald0 (pc := 4) dX0_writes_4 ?_
  refine r_dup (pc := 5) dX0_writes_5 rfl ?_
  refine x_getI (c := 0) hS ow_0 kd_0 (pc := 6) dX0_writes_6 fl_X0_326 ?_
  rw [h.1]
  refine r_dup_x1 (pc := 9) dX0_writes_9 rfl rfl ?_
  refine r_iconst (v := nI 1) (pc := 10) dX0_writes_10 (by decide) ?_
  first | refine r_iaddN (pc := 11) dX0_writes_11 ?_ | refine r_iaddJ (pc := 11) dX0_writes_11 ?_ | refine r_iadd (pc := 11) dX0_writes_11 ?_
  refine x_putI (c := 0) hS ow_0 kd_0 (pc := 12) dX0_writes_12 fl_X0_326 fw_X0_22 rfl rfl ?_
  refine r_ild1 (pc := 15) dX0_writes_15 ?_
  refine r_i2b (pc := 16) dX0_writes_16 ?_
  refine x_bast (c := 1516) hS ow_1516 kd_1516 ln_1516 (pc := 17) dX0_writes_17 (by omega) (by omega) ?_
  refine r_vret (pc := 18) dX0_writes_18 ?_
  refine ⟨_, rfl, rfl, ⟨?_, fun i hi => ?_⟩, rfl, rfl, fun c j h1 h2 => by rw [iX_c h2, iX_uI, if_neg h1]⟩
  · rw [iX_c (by decide), iX_s, List.length_append]; rfl
  · rw [List.length_append] at hi
    have hi : i < L.length + 1 := hi
    rw [iX_uI]
    by_cases e : i = L.length
    · rw [if_pos ⟨rfl, e⟩, vp_nar_byte, byte_and, byte_and, and255 hv, hw, e]
      congr 1
      rw [List.getD_eq_getElem?_getD, List.getElem?_append_right (Nat.le_refl _), Nat.sub_self]; rfl
    · rw [if_neg (fun z => e z.2), iX_c (by decide), h.2 i (by omega)]
      congr 1
      rw [List.getD_eq_getElem?_getD, List.getD_eq_getElem?_getD, List.getElem?_append_left (by omega)]
theorem xchkLoop {c n N : Nat} {f : Nat → Nat} (hS : ShX g M o) (hc : ow c) (hk : kd c = 3) (hl : ln c = N) (hn : n ≤ N) (hN : N < 10000) (hf : ∀ i, i < n → iX s c i &&& nI 255 = nI (f i) ∧ f i < 256) : ∀ k i, i + k = n →
    Bd g yX0_check cX0_check 4 (some Jvm.ClassFile.FieldType.int) [] 0 0 0 (putX M o s) 6 [some (.ref (o + c)), some (.int (nI n)), some (.int (nI (chkF f i))), some (.int (nI i))] [] (PQ (putX M o s) (.int (nI (chkF f n)))) noX := by
  intro k
  induction k with
  | zero =>
    intro i hi
    obtain rfl : i = n := by omega
    refine r_ild3 (pc := 6) dX0_check_6 ?_
    refine r_ild1 (pc := 7) dX0_check_7 ?_
    first | refine r_icmp_geN (pc := 8) (tgt := 33) dX0_check_8 (by decide) (by omega) (by omega) (fun h8 => ?_) (fun h8 => ?_) | refine r_icmp_ge (pc := 8) (tgt := 33) dX0_check_8 (by decide) (fun h8 => ?_) (fun h8 => ?_)
    · skip
      refine r_ild2 (pc := 33) dX0_check_33 ?_
      refine r_iret (pc := 34) dX0_check_34 ?_
      exact ⟨rfl, rfl⟩
    · skip
      exact absurd h8 (by omega)
  | succ k ih =>
    intro i hi
    obtain ⟨f1, f2⟩ := hf i (by omega)
    have hlt := chkF_lt f i
    refine r_ild3 (pc := 6) dX0_check_6 ?_
    refine r_ild1 (pc := 7) dX0_check_7 ?_
    first | refine r_icmp_geN (pc := 8) (tgt := 33) dX0_check_8 (by decide) (by omega) (by omega) (fun h8 => ?_) (fun h8 => ?_) | refine r_icmp_ge (pc := 8) (tgt := 33) dX0_check_8 (by decide) (fun h8 => ?_) (fun h8 => ?_)
    · skip
      exact absurd h8 (by omega)
    · skip
      refine r_iconst (v := nI 3) (pc := 11) dX0_check_11 (by decide) ?_
      refine r_ild2 (pc := 12) dX0_check_12 ?_
      first | refine r_imulN (pc := 13) dX0_check_13 ?_ | refine r_imulJ (pc := 13) dX0_check_13 ?_ | refine r_imul (pc := 13) dX0_check_13 ?_
      refine r_ald0 (pc := 14) dX0_check_14 ?_
      refine r_ild3 (pc := 15) dX0_check_15 ?_
      refine x_bald (c := c) hS hc hk hl (pc := 16) dX0_check_16 (by omega) (by omega) ?_
      refine r_sipush (v := nI 255) (pc := 17) dX0_check_17 (by decide) ?_
      refine r_iand (pc := 20) dX0_check_20 ?_
      refine Bd.eqI f1 ?_
      first | refine r_iaddN (pc := 21) dX0_check_21 ?_ | refine r_iaddJ (pc := 21) dX0_check_21 ?_ | refine r_iadd (pc := 21) dX0_check_21 ?_
      refine r_sipush (v := nI 251) (pc := 22) dX0_check_22 (by decide) ?_
      refine r_iremN (pc := 25) dX0_check_25 (by omega) (by omega) (by omega) ?_
      refine r_ist2 (pc := 26) dX0_check_26 ?_
      first | refine r_iinc3N (j := 1) (pc := 27) dX0_check_27 rfl ?_ | refine r_iinc3 (pc := 27) dX0_check_27 ?_
      refine r_goto (pc := 30) (tgt := 6) dX0_check_30 (by decide) ?_
      exact ih (i + 1) (by omega)
theorem ct_X0_check {c n N : Nat} {f : Nat → Nat} (hS : ShX g M o) (hc : ow c) (hk : kd c = 3) (hl : ln c = N) (hn : n ≤ N) (hN : N < 10000) (hf : ∀ i, i < n → iX s c i &&& nI 255 = nI (f i) ∧ f i < 256) : Ct g yX0_check cX0_check 4 (some Jvm.ClassFile.FieldType.int) 0 0 0 [.ref (o + c), .int (nI n)] (putX M o s) (PQ (putX M o s) (.int (nI (chkF f n)))) noX := by
  refine Ct.of (by decide) (Nat.le_of_ble_eq_true rfl) rfl ?_
  refine r_sipush (v := nI 149) (pc := 0) dX0_check_0 (by decide) ?_
  refine r_ist2 (pc := 3) dX0_check_3 ?_
  refine r_iconst (v := nI 0) (pc := 4) dX0_check_4 (by decide) ?_
  refine r_ist3 (pc := 5) dX0_check_5 ?_
  exact xchkLoop hS hc hk hl hn hN hf n 0 (by omega)
/-- what writing leaves -/
theorem OuF.W {T : Te} {s1 : XS} (h : OuF s s1) (W : WS g M o P ta T s) : WS g M o P ta T s1 := W.rx h.1 (fun k hk => by rw [h.2.1]; exact W.m k hk)
theorem OuF.sx {b n : Nat} {F K : Nat → Nat} {t : St} {s1 : XS} (h : OuF s s1) (hb : b = 12) (hn : n ≤ 8) (hN : SX s b n F K t) : SX s1 b n F K t := hN.fr (fun c h1 h2 j _ => h.2.2 c j (by omega) (by omega)) hn
theorem thL_lt {t : St} {p n : Nat} (hB : SB n t) (hp : p < n) : ∀ k, k ≤ n → ∀ x ∈ thL t p k, x ≤ 9
  | 0, _, x, hx => by cases hx
  | k + 1, hk, x, hx => by
    rcases List.mem_append.mp hx with h | h
    · exact thL_lt hB hp k (by omega) x h
    · split at h
      · cases h
      · rw [List.mem_singleton.mp h]; exact (hB.2 p hp).2.2.2 k (by omega)
theorem imgX_lt {t : St} {n : Nat} (hB : SB n t) (hy : yr t ≤ 999) : ∀ p, p ≤ n → ∀ x ∈ imgL t n p, x < 256
  | 0, _, x, hx => by
    have : x = yr t / 256 ∨ x = yr t % 256 := by simpa [imgL] using hx
    omega
  | p + 1, hp, x, hx => by
    have hb := hB.2 p (by omega)
    rcases List.mem_append.mp hx with h | h
    · exact imgX_lt hB hy p (by omega) x h
    · rcases List.mem_append.mp h with h | h
      · have : x = hs t p ∨ x = lk t p ∨ x = sp t p := by simpa using h
        omega
      · have := thL_lt hB (by omega) n (Nat.le_refl n) x h; omega
theorem xthLL {p : Nat} {L0 : List Nat} {s0 : XS} {Q : Option Value → MM → Prop} (hI : IX g M o P ta s0 q) (hG : GI q) (hp : p < tn (gT q)) (hl0 : L0.length + (tn (gT q) - 1) ≤ 82) : ∀ k i s1, i + k = tn (gT q) → OuX s1 (L0 ++ thL (gS q) p i) → OuF s0 s1 →
    (∀ s2 x2, OuX s2 (L0 ++ thL (gS q) p (tn (gT q))) → OuF s0 s2 → Bd g yX0_image cX0_image 3 (some Jvm.ClassFile.FieldType.int) [] 4 0 0 (putX M o s2) 123 [some (.ref o), some (.int (nI p)), x2] [] Q noX) →
    Bd g yX0_image cX0_image 3 (some Jvm.ClassFile.FieldType.int) [] 4 0 0 (putX M o s1) 89 [some (.ref o), some (.int (nI p)), some (.int (nI i))] [] Q noX := by
  have W := hI.W
  have S := hI.So
  have hg := W.gx
  have hS := W.S
  have hX := W.X
  have hTB := W.B
  have hn8 := hTB.1
  have hH9 := hTB.2.1
  have hN := hI.nw.1
  have hR := hI.nw.2
  have hB : SB (tn (gT q)) (gS q) := hG.2.2.2.2.2.1.1
  have W0 := W
  have hN0 := hN
  intro k
  induction k with
  | zero =>
    intro i s1 hi hO hF K
    obtain rfl : i = tn (gT q) := by omega
    have W := hF.W W0
    have hX := W.X
    refine r_ild2 (pc := 89) dX0_image_89 ?_
    refine r_ald0 (pc := 90) dX0_image_90 ?_
    refine r_cV (pc := 91) dX0_image_91 cv_X0_158 (hS.k (c := 0) ow_0 kd_0) (ct_X0_people W S) rfl rfl (Nat.le_of_ble_eq_true rfl) (by first | decide | omega) ?_
    rintro _ _ ⟨rfl, rfl⟩
    first | refine r_icmp_geN (pc := 94) (tgt := 123) dX0_image_94 (by decide) (by omega) (by omega) (fun h94 => ?_) (fun h94 => ?_) | refine r_icmp_ge (pc := 94) (tgt := 123) dX0_image_94 (by decide) (fun h94 => ?_) (fun h94 => ?_)
    · skip
      exact K s1 _ hO hF
    · skip
      exact absurd h94 (by omega)
  | succ k ih =>
    intro i s1 hi hO hF K
    have W := hF.W W0
    have hX := W.X
    have hN := hF.sx rfl hn8 hN0
    have hth := (hB.2 p hp).2.2.2 i (by omega)
    have hst : thL (gS q) p (i + 1) = thL (gS q) p i ++ (if i = p then [] else [th (gS q) p i]) := rfl
    have hlen := thL_len (gS q) p i
    have hlb : i ≠ p → (thL (gS q) p i).length + 1 ≤ tn (gT q) - 1 := by
      intro hne
      rw [hlen]; split <;> omega
    refine r_ild2 (pc := 89) dX0_image_89 ?_
    refine r_ald0 (pc := 90) dX0_image_90 ?_
    refine r_cV (pc := 91) dX0_image_91 cv_X0_158 (hS.k (c := 0) ow_0 kd_0) (ct_X0_people W S) rfl rfl (Nat.le_of_ble_eq_true rfl) (by first | decide | omega) ?_
    rintro _ _ ⟨rfl, rfl⟩
    first | refine r_icmp_geN (pc := 94) (tgt := 123) dX0_image_94 (by decide) (by omega) (by omega) (fun h94 => ?_) (fun h94 => ?_) | refine r_icmp_ge (pc := 94) (tgt := 123) dX0_image_94 (by decide) (fun h94 => ?_) (fun h94 => ?_)
    · skip
      exact absurd h94 (by omega)
    · skip
      refine r_ild2 (pc := 97) dX0_image_97 ?_
      refine r_ild1 (pc := 98) dX0_image_98 ?_
      first | refine r_icmp_eqN (pc := 99) (tgt := 117) dX0_image_99 (by decide) (by omega) (by omega) (fun h99 => ?_) (fun h99 => ?_) | refine r_icmp_eq (pc := 99) (tgt := 117) dX0_image_99 (by decide) (fun h99 => ?_) (fun h99 => ?_)
      · skip
        rw [if_pos h99, List.append_nil] at hst
        first | refine r_iinc2N (j := 1) (pc := 117) dX0_image_117 rfl ?_ | refine r_iinc2 (pc := 117) dX0_image_117 ?_
        refine r_goto (pc := 120) (tgt := 89) dX0_image_120 (by decide) ?_
        first | exact ih (i + 1) s1 (by omega) (by rw [hst]; exact hO) hF K | exact ih (i + 1) s2 (by omega) (by rw [hst, ← List.append_assoc]; exact hO2) (hF.trans hF2) K
      · skip
        rw [if_neg h99] at hst
        refine r_ald0 (pc := 102) dX0_image_102 ?_
        refine r_ald0 (pc := 103) dX0_image_103 ?_
        refine x_getR (c := 0) hS ow_0 kd_0 (pc := 104) dX0_image_104 fl_X0_69 (fx_0_9 hX) ?_
        refine x_getRN (c := 12) hS (st_ow isS_12) (st_kd isS_12) (pc := 107) dX0_image_107 (fn_X0_223 hg) (fs_8 hX isS_12) ?_
        refine r_ild1 (pc := 110) dX0_image_110 ?_
        refine x_aald (c := (12 + 6)) (j := p) hS (st_ow6 isS_12) (st_kd6 isS_12) (by decide) (st_ln6 isS_12) (pc := 111) dX0_image_111 (by omega) (by omega) (fs_th hX isS_12 (by omega)) ?_
        refine r_ild2 (pc := 112) dX0_image_112 ?_
        refine x_iald (c := (12 + (7 + p))) hS (th_ow isS_12 (by omega)) (th_kd isS_12 (by omega)) (th_ln isS_12 (by omega)) (pc := 113) dX0_image_113 (by omega) (by omega) ?_
        refine Bd.eqI (hN.2.2.2.2.2.2.2 p hp i (by omega)) ?_
        refine r_cV (pc := 114) dX0_image_114 cv_X0_329 (hS.k (c := 0) ow_0 kd_0) (ct_X0_writes (w := th (gS q) p i) hS hX hO (by rw [List.length_append]; have := hlb h99; omega) (by omega) (Nat.mod_eq_of_lt (by omega))) rfl rfl (Nat.le_of_ble_eq_true rfl) (by first | decide | omega) ?_
        rintro _ _ ⟨s2, rfl, rfl, hO2, hF2⟩
        first | refine r_iinc2N (j := 1) (pc := 117) dX0_image_117 rfl ?_ | refine r_iinc2 (pc := 117) dX0_image_117 ?_
        refine r_goto (pc := 120) (tgt := 89) dX0_image_120 (by decide) ?_
        first | exact ih (i + 1) s1 (by omega) (by rw [hst]; exact hO) hF K | exact ih (i + 1) s2 (by omega) (by rw [hst, ← List.append_assoc]; exact hO2) (hF.trans hF2) K
theorem ximgLoop {s0 : XS} {Q : Option Value → MM → Prop} (hI : IX g M o P ta s0 q) (hG : GI q) : ∀ k p s1 x2, p + k = tn (gT q) → OuX s1 (imgL (gS q) (tn (gT q)) p) → OuF s0 s1 →
    (∀ s2 x1 x2, OuX s2 (imgL (gS q) (tn (gT q)) (tn (gT q))) → OuF s0 s2 → Bd g yX0_image cX0_image 3 (some Jvm.ClassFile.FieldType.int) [] 4 0 0 (putX M o s2) 129 [some (.ref o), x1, x2] [] Q noX) →
    Bd g yX0_image cX0_image 3 (some Jvm.ClassFile.FieldType.int) [] 4 0 0 (putX M o s1) 32 [some (.ref o), some (.int (nI p)), x2] [] Q noX := by
  have W := hI.W
  have S := hI.So
  have hg := W.gx
  have hS := W.S
  have hX := W.X
  have hTB := W.B
  have hn8 := hTB.1
  have hH9 := hTB.2.1
  have hN := hI.nw.1
  have hR := hI.nw.2
  have hB : SB (tn (gT q)) (gS q) := hG.2.2.2.2.2.1.1
  have W0 := W
  have hN0 := hN
  intro k
  induction k with
  | zero =>
    intro p s1 x2 hi hO hF K
    obtain rfl : p = tn (gT q) := by omega
    have W := hF.W W0
    have hX := W.X
    refine r_ild1 (pc := 32) dX0_image_32 ?_
    refine r_ald0 (pc := 33) dX0_image_33 ?_
    refine r_cV (pc := 34) dX0_image_34 cv_X0_158 (hS.k (c := 0) ow_0 kd_0) (ct_X0_people W S) rfl rfl (Nat.le_of_ble_eq_true rfl) (by first | decide | omega) ?_
    rintro _ _ ⟨rfl, rfl⟩
    first | refine r_icmp_geN (pc := 37) (tgt := 129) dX0_image_37 (by decide) (by omega) (by omega) (fun h37 => ?_) (fun h37 => ?_) | refine r_icmp_ge (pc := 37) (tgt := 129) dX0_image_37 (by decide) (fun h37 => ?_) (fun h37 => ?_)
    · skip
      exact K s1 _ _ hO hF
    · skip
      exact absurd h37 (by omega)
  | succ k ih =>
    intro p s1 x2 hi hO hF K
    have W := hF.W W0
    have hX := W.X
    have hN := hF.sx rfl hn8 hN0
    have hbp := hB.2 p (by omega)
    have hlen := imgL_len (gS q) (tn (gT q)) p (by omega)
    have hmul : p * (2 + tn (gT q)) ≤ 7 * 10 := Nat.mul_le_mul (by omega) (by omega)
    have hst : imgL (gS q) (tn (gT q)) (p + 1) = imgL (gS q) (tn (gT q)) p ++ [hs (gS q) p] ++ [lk (gS q) p] ++ [sp (gS q) p] ++ thL (gS q) p (tn (gT q)) := by
      show imgL (gS q) (tn (gT q)) p ++ ([hs (gS q) p, lk (gS q) p, sp (gS q) p] ++ thL (gS q) p (tn (gT q))) = _
      simp
    refine r_ild1 (pc := 32) dX0_image_32 ?_
    refine r_ald0 (pc := 33) dX0_image_33 ?_
    refine r_cV (pc := 34) dX0_image_34 cv_X0_158 (hS.k (c := 0) ow_0 kd_0) (ct_X0_people W S) rfl rfl (Nat.le_of_ble_eq_true rfl) (by first | decide | omega) ?_
    rintro _ _ ⟨rfl, rfl⟩
    first | refine r_icmp_geN (pc := 37) (tgt := 129) dX0_image_37 (by decide) (by omega) (by omega) (fun h37 => ?_) (fun h37 => ?_) | refine r_icmp_ge (pc := 37) (tgt := 129) dX0_image_37 (by decide) (fun h37 => ?_) (fun h37 => ?_)
    · skip
      exact absurd h37 (by omega)
    · skip
      refine r_ald0 (pc := 40) dX0_image_40 ?_
      refine r_ald0 (pc := 41) dX0_image_41 ?_
      refine x_getR (c := 0) hS ow_0 kd_0 (pc := 42) dX0_image_42 fl_X0_69 (fx_0_9 hX) ?_
      refine x_getRN (c := 12) hS (st_ow isS_12) (st_kd isS_12) (pc := 45) dX0_image_45 (fn_X0_207 hg) (fs_3 hX isS_12) ?_
      refine r_ild1 (pc := 48) dX0_image_48 ?_
      refine x_iald (c := (12 + 1)) hS (st_ow1 isS_12) (st_kd1 isS_12) (st_ln1 isS_12) (pc := 49) dX0_image_49 (by omega) (by omega) ?_
      refine Bd.eqI (hN.2.2.1 p (by omega)) ?_
      refine r_cV (pc := 50) dX0_image_50 cv_X0_329 (hS.k (c := 0) ow_0 kd_0) (ct_X0_writes (w := hs (gS q) p) hS hX hO (by omega) (by omega) (Nat.mod_eq_of_lt (by omega))) rfl rfl (Nat.le_of_ble_eq_true rfl) (by first | decide | omega) ?_
      rintro _ _ ⟨s2, rfl, rfl, hO2, hF2⟩
      have hF2 := hF.trans hF2
      have W := hF2.W W0
      have hX := W.X
      have hN := hF2.sx rfl hn8 hN0
      refine r_ald0 (pc := 53) dX0_image_53 ?_
      refine r_ald0 (pc := 54) dX0_image_54 ?_
      refine x_getR (c := 0) hS ow_0 kd_0 (pc := 55) dX0_image_55 fl_X0_69 (fx_0_9 hX) ?_
      refine x_getRN (c := 12) hS (st_ow isS_12) (st_kd isS_12) (pc := 58) dX0_image_58 (fn_X0_174 hg) (fs_4 hX isS_12) ?_
      refine r_ild1 (pc := 61) dX0_image_61 ?_
      refine x_iald (c := (12 + 2)) hS (st_ow2 isS_12) (st_kd2 isS_12) (st_ln2 isS_12) (pc := 62) dX0_image_62 (by omega) (by omega) ?_
      refine Bd.eqI (hN.2.2.2.1 p (by omega)) ?_
      refine r_cV (pc := 63) dX0_image_63 cv_X0_329 (hS.k (c := 0) ow_0 kd_0) (ct_X0_writes (w := lk (gS q) p) hS hX hO2 (by rw [List.length_append]; show _ + 1 < 83; omega) (by omega) (Nat.mod_eq_of_lt (by omega))) rfl rfl (Nat.le_of_ble_eq_true rfl) (by first | decide | omega) ?_
      rintro _ _ ⟨s3, rfl, rfl, hO3, hF3⟩
      have hF3 := hF2.trans hF3
      have W := hF3.W W0
      have hX := W.X
      have hN := hF3.sx rfl hn8 hN0
      refine r_ald0 (pc := 66) dX0_image_66 ?_
      refine r_ald0 (pc := 67) dX0_image_67 ?_
      refine x_getR (c := 0) hS ow_0 kd_0 (pc := 68) dX0_image_68 fl_X0_69 (fx_0_9 hX) ?_
      refine x_getRN (c := 12) hS (st_ow isS_12) (st_kd isS_12) (pc := 71) dX0_image_71 (fn_X0_177 hg) (fs_7 hX isS_12) ?_
      refine r_ild1 (pc := 74) dX0_image_74 ?_
      refine x_zald (c := (12 + 5)) hS (st_ow5 isS_12) (st_kd5 isS_12) (st_ln5 isS_12) (pc := 75) dX0_image_75 (by omega) (by omega) ?_
      refine Bd.eqI (hN.2.2.2.2.2.2.1 p (by omega)) ?_
      refine r_if_eqZ (pc := 76) (tgt := 83) dX0_image_76 (by decide) (fun h76 => ?_) (fun h76 => ?_)
      · skip
        refine r_iconst (v := nI 0) (pc := 83) dX0_image_83 (by decide) ?_
        refine r_cV (pc := 84) dX0_image_84 cv_X0_329 (hS.k (c := 0) ow_0 kd_0) (ct_X0_writes (w := sp (gS q) p) hS hX hO3 (by rw [List.length_append, List.length_append]; show _ + 1 + 1 < 83; omega) (by omega) (by omega)) rfl rfl (Nat.le_of_ble_eq_true rfl) (by first | decide | omega) ?_
        rintro _ _ ⟨s4, rfl, rfl, hO4, hF4⟩
        have hF4 := hF3.trans hF4
        refine r_iconst (v := nI 0) (pc := 87) dX0_image_87 (by decide) ?_
        refine r_ist2 (pc := 88) dX0_image_88 ?_
        refine xthLL hI hG (by omega) (L0 := imgL (gS q) (tn (gT q)) p ++ [hs (gS q) p] ++ [lk (gS q) p] ++ [sp (gS q) p]) (by rw [List.length_append, List.length_append, List.length_append]; show _ + 1 + 1 + 1 + _ ≤ 82; omega) (tn (gT q)) 0 s4 (by omega) (by rw [show thL (gS q) p 0 = [] from rfl, List.append_nil]; exact hO4) hF4 (fun s5 x2 hO5 hF5 => ?_)
        refine r_iinc1N (j := 1) (pc := 123) dX0_image_123 rfl ?_
        refine r_goto (pc := 126) (tgt := 32) dX0_image_126 (by decide) ?_
        exact ih (p + 1) s5 _ (by omega) (by rw [hst]; exact hO5) hF5 K
      · skip
        refine r_iconst (v := nI 1) (pc := 79) dX0_image_79 (by decide) ?_
        refine r_goto (pc := 80) (tgt := 84) dX0_image_80 (by decide) ?_
        refine r_cV (pc := 84) dX0_image_84 cv_X0_329 (hS.k (c := 0) ow_0 kd_0) (ct_X0_writes (w := sp (gS q) p) hS hX hO3 (by rw [List.length_append, List.length_append]; show _ + 1 + 1 < 83; omega) (by omega) (by omega)) rfl rfl (Nat.le_of_ble_eq_true rfl) (by first | decide | omega) ?_
        rintro _ _ ⟨s4, rfl, rfl, hO4, hF4⟩
        have hF4 := hF3.trans hF4
        refine r_iconst (v := nI 0) (pc := 87) dX0_image_87 (by decide) ?_
        refine r_ist2 (pc := 88) dX0_image_88 ?_
        refine xthLL hI hG (by omega) (L0 := imgL (gS q) (tn (gT q)) p ++ [hs (gS q) p] ++ [lk (gS q) p] ++ [sp (gS q) p]) (by rw [List.length_append, List.length_append, List.length_append]; show _ + 1 + 1 + 1 + _ ≤ 82; omega) (tn (gT q)) 0 s4 (by omega) (by rw [show thL (gS q) p 0 = [] from rfl, List.append_nil]; exact hO4) hF4 (fun s5 x2 hO5 hF5 => ?_)
        refine r_iinc1N (j := 1) (pc := 123) dX0_image_123 rfl ?_
        refine r_goto (pc := 126) (tgt := 32) dX0_image_126 (by decide) ?_
        exact ih (p + 1) s5 _ (by omega) (by rw [hst]; exact hO5) hF5 K
theorem px_image (hI : IX g M o P ta s q) (hG : GI q) : Ct g yX0_image cX0_image 3 (some Jvm.ClassFile.FieldType.int) 4 0 0 [.ref o] (putX M o s) (QI g M o P ta (imageQ q).2 (.int (imageQ q).1)) noX := by
  have W := hI.W
  have S := hI.So
  have hg := W.gx
  have hS := W.S
  have hX := W.X
  have hTB := W.B
  have hn8 := hTB.1
  have hH9 := hTB.2.1
  have hN := hI.nw.1
  have hR := hI.nw.2
  have hB : SB (tn (gT q)) (gS q) := hG.2.2.2.2.2.1.1
  have hy9 : yr (gS q) ≤ 999 := hG.2.2.2.2.2.1.2.1
  have W0 := W
  have hN0 := hN
  have hlen := imgL_len (gS q) (tn (gT q)) (tn (gT q)) (Nat.le_refl _)
  have hmul : tn (gT q) * (2 + tn (gT q)) ≤ 8 * 10 := Nat.mul_le_mul (by omega) (by omega)
  have hF1 : OuF s (uI s 0 22 (nI 0)) := ⟨rfl, rfl, fun c j h1 _ => by rw [iX_uI, if_neg h1]⟩
  have hO1 : OuX (uI s 0 22 (nI 0)) [] := ⟨iX_s, fun i hi => absurd hi (Nat.not_lt_zero i)⟩
  have hN1 := hF1.sx rfl hn8 hN
  refine Ct.of (by decide) (Nat.le_of_ble_eq_true rfl) rfl ?_
  refine r_ald0 (pc := 0) dX0_image_0 ?_
  refine r_iconst (v := nI 0) (pc := 1) dX0_image_1 (by decide) ?_
  refine x_putI (c := 0) hS ow_0 kd_0 (pc := 2) dX0_image_2 fl_X0_326 fw_X0_22 rfl rfl ?_
  refine r_ald0 (pc := 5) dX0_image_5 ?_
  refine r_ald0 (pc := 6) dX0_image_6 ?_
  refine x_getR (c := 0) hS ow_0 kd_0 (pc := 7) dX0_image_7 fl_X0_69 (fx_0_9 hX) ?_
  refine x_getIN (c := 12) hS (st_ow isS_12) (st_kd isS_12) (pc := 10) dX0_image_10 (fn_X0_171 hg) ?_
  refine Bd.eqI hN1.1 ?_
  refine r_bipush (v := nI 8) (pc := 13) dX0_image_13 (by decide) ?_
  refine r_ishr (pc := 15) dX0_image_15 ?_
  refine Bd.eqI (shr8_all (yr (gS q)) (by omega)) ?_
  refine r_cV (pc := 16) dX0_image_16 cv_X0_329 (hS.k (c := 0) ow_0 kd_0) (ct_X0_writes (w := yr (gS q) / 256) hS hX hO1 (by decide) (by omega) (by omega)) rfl rfl (Nat.le_of_ble_eq_true rfl) (by first | decide | omega) ?_
  rintro _ _ ⟨s2, rfl, rfl, hO2, hF2⟩
  have hF2 := hF1.trans hF2
  have hX := (hF2.W W0).X
  have hN2 := hF2.sx rfl hn8 hN0
  refine r_ald0 (pc := 19) dX0_image_19 ?_
  refine r_ald0 (pc := 20) dX0_image_20 ?_
  refine x_getR (c := 0) hS ow_0 kd_0 (pc := 21) dX0_image_21 fl_X0_69 (fx_0_9 hX) ?_
  refine x_getIN (c := 12) hS (st_ow isS_12) (st_kd isS_12) (pc := 24) dX0_image_24 (fn_X0_171 hg) ?_
  refine Bd.eqI hN2.1 ?_
  refine r_cV (pc := 27) dX0_image_27 cv_X0_329 (hS.k (c := 0) ow_0 kd_0) (ct_X0_writes (w := yr (gS q) % 256) hS hX hO2 (by show 1 < 83; decide) (by omega) rfl) rfl rfl (Nat.le_of_ble_eq_true rfl) (by first | decide | omega) ?_
  rintro _ _ ⟨s3, rfl, rfl, hO3, hF3⟩
  have hF3 := hF2.trans hF3
  refine r_iconst (v := nI 0) (pc := 30) dX0_image_30 (by decide) ?_
  refine r_ist1 (pc := 31) dX0_image_31 ?_
  refine ximgLoop hI hG (tn (gT q)) 0 s3 none (by omega) hO3 hF3 (fun s4 x1 x2 hO4 hF4 => ?_)
  have hX := (hF4.W W0).X
  have hbt : ∀ i, i < (imgL (gS q) (tn (gT q)) (tn (gT q))).length → (imgL (gS q) (tn (gT q)) (tn (gT q))).getD i 0 < 256 := fun i hi => by
    rw [List.getD_eq_getElem?_getD, List.getElem?_eq_getElem hi]
    exact imgX_lt hB hy9 _ (Nat.le_refl _) _ (List.getElem_mem hi)
  have hcl := chkF_lt (fun i => (imgL (gS q) (tn (gT q)) (tn (gT q))).getD i 0) (imgL (gS q) (tn (gT q)) (tn (gT q))).length
  refine r_ald0 (pc := 129) dX0_image_129 ?_
  refine r_ald0 (pc := 130) dX0_image_130 ?_
  refine x_getR (c := 0) hS ow_0 kd_0 (pc := 131) dX0_image_131 fl_X0_101 (fx_0_21 hX) ?_
  refine r_ald0 (pc := 134) dX0_image_134 ?_
  refine x_getI (c := 0) hS ow_0 kd_0 (pc := 135) dX0_image_135 fl_X0_326 ?_
  refine Bd.eqI hO4.1 ?_
  refine r_cS (pc := 138) dX0_image_138 cs_X0_332 (ct_X0_check (c := 1516) (N := 83) hS ow_1516 kd_1516 ln_1516 (by omega) (by decide) (fun i hi => ⟨hO4.2 i hi, hbt i hi⟩)) rfl rfl (Nat.le_of_ble_eq_true rfl) (by decide) ?_
  rintro _ _ ⟨rfl, rfl⟩
  refine r_cV (pc := 141) dX0_image_141 cv_X0_329 (hS.k (c := 0) ow_0 kd_0) (ct_X0_writes (w := chkF (fun i => (imgL (gS q) (tn (gT q)) (tn (gT q))).getD i 0) (imgL (gS q) (tn (gT q)) (tn (gT q))).length) hS hX hO4 (by omega) (by omega) (Nat.mod_eq_of_lt (by omega))) rfl rfl (Nat.le_of_ble_eq_true rfl) (by decide) ?_
  rintro _ _ ⟨s5, rfl, rfl, hO5, hF5⟩
  have hF5 := hF4.trans hF5
  refine r_ald0 (pc := 144) dX0_image_144 ?_
  refine x_getI (c := 0) hS ow_0 kd_0 (pc := 145) dX0_image_145 fl_X0_326 ?_
  refine Bd.eqI hO5.1 ?_
  refine r_iret (pc := 148) dX0_image_148 ?_
  obtain ⟨f1, f2, f3⟩ := hF5
  obtain ⟨w1, w2, a1, a2, a3, a4, a5, a6, a7, a8, a9, a10⟩ := hI
  have ag : ∀ R : Nat → Nat → Prop, ¬ R 0 22 → (∀ j, ¬ R 1516 j) → Ag R s s5 := fun R r1 r2 c j r => f3 c j (fun z => r1 (by rw [← z.1, ← z.2]; exact r)) (fun z => r2 j (by rw [← z]; exact r))
  exact ⟨s5, rfl, rfl, w1.rx f1 (fun k hk => by rw [f2]; exact w1.m k hk), w2, a1.fr (ag _ (by unfold rTp; omega) (by unfold rTp; intros; omega)), a2.fr (ag _ (by unfold rFt; omega) (by unfold rFt; intros; omega)), a3.fr (ag _ (by unfold rRf; omega) (by unfold rRf; intros; omega)), a4.fr hn8 (ag _ (by unfold rNw; omega) (by unfold rNw; intros; omega)) (fun _ => by rw [f1]), a5.fr hn8 hG.2.2.2.2.2.2.2.1 (ag _ (by unfold rUn; omega) (by unfold rUn; intros; omega)) (fun _ _ _ _ => by rw [f1]), a6.fr f1, a7.fr (ag _ (by unfold rRw; omega) (by unfold rRw; intros; omega)), (by unfold cSd; rw [f2]; exact a8), hO5, fun k hk => by rw [f2]; exact a10 k hk⟩
end X31
