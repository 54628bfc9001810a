set_option maxRecDepth 100000
/-! THE LAW: its loop -/
theorem and63 (x : Int32) : ∃ k, k < 64 ∧ x &&& nI 63 = nI k := by
  refine ⟨(x &&& nI 63).toBitVec.toNat, ?_, ?_⟩
  · have : (x &&& nI 63).toBitVec = x.toBitVec &&& (nI 63).toBitVec := rfl
    rw [this, BitVec.toNat_and]
    exact Nat.lt_of_le_of_lt Nat.and_le_right (by decide)
  · apply Int32.toBitVec_inj.mp
    show _ = BitVec.ofNat 32 _
    rw [BitVec.ofNat_toNat, BitVec.setWidth_eq]
theorem nI_ti {k : Nat} (h : k < 2147483648) : (nI k).toInt = (k : Int) := by
  show (Int32.ofNat k).toInt = _
  rw [Int32.toInt_ofNat_of_lt h]
theorem lt_ni {a : Int} {i : Nat} (h1 : -1000 ≤ a) (h2 : a ≤ 1000) (h3 : i ≤ 1000) (h : a < (i : Int)) : iI a < nI i := by
  rw [Int32.lt_iff_toInt_lt, nI_ti (by omega)]
  show (Int32.ofInt a).toInt < _
  rw [Int32.toInt_ofInt_of_le (by omega) (by omega)]
  exact h
section X110
variable {g : GC} {kc ks : Nat} {G : MM} {oX oM b L i : Nat} {xs : Nat → Int32} {q : Sg}
theorem law_case {k : Nat} (hk : k < 35) (hL : L ≤ 384) (hi : i + 6 ≤ L) (h : LI g oX oM b L xs q q G) (hn : gTd q ≤ 1280) (hNM : ∃ mi, NM g "[Ljava/lang/Object;" mi) {kc' ks' : Nat} (hkc : kc' + (60 * gTd q + 110) ≤ kc) (hks : ks' + (4000 * gTd q + 16000) ≤ ks) (back : ∀ q' G', LI g oX oM b L xs q' q' G' → gTd q' ≤ gTd q + 20 → LB g kc ks G' oX oM b i 1134 []) (backW : ∀ q' G', LI g oX oM b L xs q' q' G' → gTd q' = 0 → LB g kc' ks' G' oX oM b i 1134 []) : LB g kc ks G oX oM b i 33 [.int (nI k)] := by
  match k, hk with
  | 0, _ => exact r_tableIn (pc := 33) (off := 155) (tgt := 188) dL_law_33 (by decide) (by decide) rfl (by decide) (lc_0 hL hi h back)
  | 1, _ => exact r_tableIn (pc := 33) (off := 218) (tgt := 251) dL_law_33 (by decide) (by decide) rfl (by decide) (lc_1 hL hi h back)
  | 2, _ => exact r_tableIn (pc := 33) (off := 241) (tgt := 274) dL_law_33 (by decide) (by decide) rfl (by decide) (lc_2 hL hi h hn hNM hkc hks backW)
  | 3, _ => exact r_tableIn (pc := 33) (off := 254) (tgt := 287) dL_law_33 (by decide) (by decide) rfl (by decide) (lc_3 hL hi h back)
  | 4, _ => exact r_tableIn (pc := 33) (off := 277) (tgt := 310) dL_law_33 (by decide) (by decide) rfl (by decide) (lc_4 hL hi h back)
  | 5, _ => exact r_tableIn (pc := 33) (off := 300) (tgt := 333) dL_law_33 (by decide) (by decide) rfl (by decide) (lc_5 hL hi h back)
  | 6, _ => exact r_tableIn (pc := 33) (off := 333) (tgt := 366) dL_law_33 (by decide) (by decide) rfl (by decide) (lc_6 hL hi h back)
  | 7, _ => exact r_tableIn (pc := 33) (off := 356) (tgt := 389) dL_law_33 (by decide) (by decide) rfl (by decide) (lc_7 hL hi h back)
  | 8, _ => exact r_tableIn (pc := 33) (off := 389) (tgt := 422) dL_law_33 (by decide) (by decide) rfl (by decide) (lc_8 hL hi h back)
  | 9, _ => exact r_tableIn (pc := 33) (off := 422) (tgt := 455) dL_law_33 (by decide) (by decide) rfl (by decide) (lc_9 hL hi h back)
  | 10, _ => exact r_tableIn (pc := 33) (off := 455) (tgt := 488) dL_law_33 (by decide) (by decide) rfl (by decide) (lc_10 hL hi h back)
  | 11, _ => exact r_tableIn (pc := 33) (off := 478) (tgt := 511) dL_law_33 (by decide) (by decide) rfl (by decide) (lc_11 hL hi h back)
  | 12, _ => exact r_tableIn (pc := 33) (off := 511) (tgt := 544) dL_law_33 (by decide) (by decide) rfl (by decide) (lc_12 hL hi h back)
  | 13, _ => exact r_tableIn (pc := 33) (off := 544) (tgt := 577) dL_law_33 (by decide) (by decide) rfl (by decide) (lc_13 hL hi h back)
  | 14, _ => exact r_tableIn (pc := 33) (off := 587) (tgt := 620) dL_law_33 (by decide) (by decide) rfl (by decide) (lc_14 hL hi h back)
  | 15, _ => exact r_tableIn (pc := 33) (off := 610) (tgt := 643) dL_law_33 (by decide) (by decide) rfl (by decide) (lc_15 hL hi h back)
  | 16, _ => exact r_tableIn (pc := 33) (off := 643) (tgt := 676) dL_law_33 (by decide) (by decide) rfl (by decide) (lc_16 hL hi h back)
  | 17, _ => exact r_tableIn (pc := 33) (off := 696) (tgt := 729) dL_law_33 (by decide) (by decide) rfl (by decide) (lc_17 hL hi h back)
  | 18, _ => exact r_tableIn (pc := 33) (off := 709) (tgt := 742) dL_law_33 (by decide) (by decide) rfl (by decide) (lc_18 hL hi h back)
  | 19, _ => exact r_tableIn (pc := 33) (off := 732) (tgt := 765) dL_law_33 (by decide) (by decide) rfl (by decide) (lc_19 hL hi h back)
  | 20, _ => exact r_tableIn (pc := 33) (off := 745) (tgt := 778) dL_law_33 (by decide) (by decide) rfl (by decide) (lc_20 hL hi h back)
  | 21, _ => exact r_tableIn (pc := 33) (off := 778) (tgt := 811) dL_law_33 (by decide) (by decide) rfl (by decide) (lc_21 hL hi h back)
  | 22, _ => exact r_tableIn (pc := 33) (off := 801) (tgt := 834) dL_law_33 (by decide) (by decide) rfl (by decide) (lc_22 hL hi h back)
  | 23, _ => exact r_tableIn (pc := 33) (off := 844) (tgt := 877) dL_law_33 (by decide) (by decide) rfl (by decide) (lc_23 hL hi h back)
  | 24, _ => exact r_tableIn (pc := 33) (off := 877) (tgt := 910) dL_law_33 (by decide) (by decide) rfl (by decide) (lc_24 hL hi h back)
  | 25, _ => exact r_tableIn (pc := 33) (off := 900) (tgt := 933) dL_law_33 (by decide) (by decide) rfl (by decide) (lc_25 hL hi h back)
  | 26, _ => exact r_tableIn (pc := 33) (off := 933) (tgt := 966) dL_law_33 (by decide) (by decide) rfl (by decide) (lc_26 hL hi h back)
  | 27, _ => exact r_tableIn (pc := 33) (off := 956) (tgt := 989) dL_law_33 (by decide) (by decide) rfl (by decide) (lc_27 hL hi h back)
  | 28, _ => exact r_tableIn (pc := 33) (off := 979) (tgt := 1012) dL_law_33 (by decide) (by decide) rfl (by decide) (lc_28 hL hi h back)
  | 29, _ => exact r_tableIn (pc := 33) (off := 992) (tgt := 1025) dL_law_33 (by decide) (by decide) rfl (by decide) (lc_29 hL hi h back)
  | 30, _ => exact r_tableIn (pc := 33) (off := 1015) (tgt := 1048) dL_law_33 (by decide) (by decide) rfl (by decide) (lc_30 hL hi h hn hNM hkc hks backW)
  | 31, _ => exact r_tableIn (pc := 33) (off := 1029) (tgt := 1062) dL_law_33 (by decide) (by decide) rfl (by decide) (lc_31 hL hi h back)
  | 32, _ => exact r_tableIn (pc := 33) (off := 1042) (tgt := 1075) dL_law_33 (by decide) (by decide) rfl (by decide) (lc_32 hL hi h back)
  | 33, _ => exact r_tableIn (pc := 33) (off := 1065) (tgt := 1098) dL_law_33 (by decide) (by decide) rfl (by decide) (lc_33 hL hi h back)
  | 34, _ => exact r_tableIn (pc := 33) (off := 1078) (tgt := 1111) dL_law_33 (by decide) (by decide) rfl (by decide) (lc_34 hL hi h back)
  | k + 35, hk => exact absurd hk (by omega)
theorem law_loop (hL : L ≤ 384) (hNM : ∃ mi, NM g "[Ljava/lang/Object;" mi) : ∀ r i q G kc ks, i + 6 * r ≤ L → L < i + 6 * r + 6 → gTd q + 20 * r ≤ 1280 → 60 * (gTd q + 20 * r) + 110 * r ≤ kc → 4000 * (gTd q + 20 * r) + 16000 * r ≤ ks → LI g oX oM b L xs q q G → LB g kc ks G oX oM b i 18 [] := by
  intro r
  induction r with
  | zero =>
    intro i q G kc ks h1 h2 _ _ _ h
    obtain ⟨s1, s2, s3⟩ := h.scr
    refine r_ild3 (pc := 18) dL_law_18 ?_
    refine r_ald0 (pc := 19) dL_law_19 ?_
    refine r_alen (pc := 20) dL_law_20 s1 ⟨by decide, by decide⟩ ?_
    rw [s2]
    refine r_bipush (v := nI 6) (pc := 21) dL_law_21 (by decide) ?_
    refine r_isubM (pc := 23) dL_law_23 ?_
    refine r_icmp_gt (pc := 24) (tgt := 1140) dL_law_24 (by decide) (fun _ => ?_) (fun hn => absurd (lt_ni (by omega) (by omega) (by omega) (by omega)) hn)
    refine r_iconst (v := 1) (pc := 1140) dL_law_1140 (by decide) ?_
    exact r_zret (pc := 1141) dL_law_1141 rfl rfl
  | succ r ih =>
    intro i q G kc ks h1 h2 h3 h4 h5 h
    obtain ⟨s1, s2, s3⟩ := h.scr
    have back : ∀ kc2 ks2 q' G', LI g oX oM b L xs q' q' G' → gTd q' + 20 * r ≤ 1280 → 60 * (gTd q' + 20 * r) + 110 * r ≤ kc2 → 4000 * (gTd q' + 20 * r) + 16000 * r ≤ ks2 → LB g kc2 ks2 G' oX oM b i 1134 [] := fun kc2 ks2 q' G' hq a1 a2 a3 => r_iinc3N (j := 6) (pc := 1134) dL_law_1134 (by decide) (r_goto (pc := 1137) (tgt := 18) dL_law_1137 (by decide) (ih (i + 6) q' G' kc2 ks2 (by omega) (by omega) a1 a2 a3 hq))
    refine r_ild3 (pc := 18) dL_law_18 ?_
    refine r_ald0 (pc := 19) dL_law_19 ?_
    refine r_alen (pc := 20) dL_law_20 s1 ⟨by decide, by decide⟩ ?_
    rw [s2]
    refine r_bipush (v := nI 6) (pc := 21) dL_law_21 (by decide) ?_
    refine r_isubM (pc := 23) dL_law_23 ?_
    refine r_icmp_gt (pc := 24) (tgt := 1140) dL_law_24 (by decide) (fun _ => ?_) (fun _ => ?_)
    · refine r_iconst (v := 1) (pc := 1140) dL_law_1140 (by decide) ?_
      exact r_zret (pc := 1141) dL_law_1141 rfl rfl
    · refine r_ald0 (pc := 27) dL_law_27 ?_
      refine r_ild3 (pc := 28) dL_law_28 ?_
      refine r_iald' (pc := 29) dL_law_29 s1 (by rw [s2]; omega) (by omega) (s3 i (by omega)) ?_
      refine r_bipush (v := nI 63) (pc := 30) dL_law_30 (by decide) ?_
      refine r_iand (pc := 32) dL_law_32 ?_
      obtain ⟨k, hk, ek⟩ := and63 (xs i)
      rw [ek]
      by_cases hk35 : k < 35
      · refine law_case hk35 hL (by omega) h (by omega) hNM (kc' := kc - (60 * gTd q + 110)) (ks' := ks - (4000 * gTd q + 16000)) (by omega) (by omega) (fun q' G' hq ht => back _ _ q' G' hq (by omega) (by omega) (by omega)) (fun q' G' hq ht => back _ _ q' G' hq (by omega) (by omega) (by omega))
      · have ht : (nI k).toInt = (k : Int) := nI_ti (by omega)
        refine r_tableOut (pc := 33) (tgt := 1134) dL_law_33 (Or.inr (by rw [ht]; omega)) (by decide) ?_
        exact back _ _ q G h (by omega) (by omega) (by omega)
end X110
