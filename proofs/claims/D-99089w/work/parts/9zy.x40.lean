set_option maxRecDepth 100000
/-! TEXT: hashCode of a String; a String of an array of chars -/
/-- the bytes da after the first i letters of f were laid -/
def layB (M : MM) (da i : Nat) (f : Nat → Nat) : MM := sIs M da (fun j => if j < i then nI (f j) else mI M da j)
theorem layB_0 {M : MM} {da : Nat} {f : Nat → Nat} : layB M da 0 f = M := by
  refine Prod.ext rfl (Prod.ext rfl (Prod.ext rfl (Prod.ext ?_ (Prod.ext rfl rfl))))
  funext b j
  show mI (layB M da 0 f) b j = mI M b j
  rw [layB, mI_sIf]
  by_cases e : b = da
  · rw [if_pos e, if_neg (Nat.not_lt_zero _), e]
  · rw [if_neg e]
theorem layB_s {M : MM} {da i : Nat} {f : Nat → Nat} : sI (layB M da i f) da i (nI (f i)) = layB M da (i + 1) f := by
  refine Prod.ext rfl (Prod.ext rfl (Prod.ext rfl (Prod.ext ?_ (Prod.ext rfl rfl))))
  funext b j
  show mI (sI (layB M da i f) da i (nI (f i))) b j = mI (layB M da (i + 1) f) b j
  rw [mI_sI, layB, layB, mI_sIf, mI_sIf]
  by_cases e : b = da
  · rw [if_pos e, if_pos e]
    by_cases q : j = i
    · rw [if_pos ⟨e, q⟩, if_pos (by omega), q]
    · rw [if_neg (fun h => q h.2)]
      by_cases r : j < i
      · rw [if_pos r, if_pos (by omega)]
      · rw [if_neg r, if_neg (by omega)]
  · rw [if_neg (fun h => e h.1), if_neg e, if_neg e]
section X40
variable {g : GC} {M : MM} {P : Nat → Prop}
theorem b8 {c : Nat} (hc : c < 128) : (nI c).toInt8.toInt32 = nI c := by
  have : ∀ c : Fin 128, (nI c.val).toInt8.toInt32 = nI c.val := by decide
  exact this ⟨c, hc⟩
theorem n8 {c : Nat} (hc : c < 128) : vp_nar .byte (nI c) = nI c := by
  have : ∀ c : Fin 128, vp_nar .byte (nI c.val) = nI c.val := by decide
  exact this ⟨c, hc⟩
theorem lp_compress_2 {ca da k : Nat} {f : Nat → Nat} (h1 : mK M ca = 5) (h2 : mN M ca = k) (h3 : mK M da = 3) (h4 : mN M da = k) (hb : gb g ≤ da) (hk : k < 1000000) (hf : ∀ j, j < k → mI M ca j = nI (f j) ∧ f j < 128) : ∀ m i (x : Option Value), i + m = k →
    Bd g yJ7_compress_2 cJ7_compress_2 7 (some Jvm.ClassFile.FieldType.int) [] 0 0 0 (layB M da i f) 3 [some (.ref ca), some (.int (nI i)), some (.ref da), some (.int (nI i)), some (.int (nI k)), some (.int (nI i)), x] [] (fun w M' => w = some (.int (nI k)) ∧ M' = layB M da k f) noX := by
  have hne : ca ≠ da := fun e => by rw [e, h3] at h1; omega
  intro m
  induction m with
  | zero =>
    intro i x hi
    have hik : i = k := by omega
    subst hik
    refine r_ild5 (pc := 3) dJ7_compress_2_3 ?_
    refine r_ild4 (pc := 5) dJ7_compress_2_5 ?_
    first | refine r_icmp_geN (pc := 7) (tgt := 44) dJ7_compress_2_7 (by decide) (by omega) (by omega) (fun h7 => ?_) (fun h7 => ?_) | refine r_icmp_ge (pc := 7) (tgt := 44) dJ7_compress_2_7 (by decide) (fun h7 => ?_) (fun h7 => ?_)
    · skip
      refine r_ild4 (pc := 44) dJ7_compress_2_44 ?_
      refine r_iret (pc := 46) dJ7_compress_2_46 ?_
      exact ⟨rfl, rfl⟩
    · skip
      exact absurd h7 (by omega)
  | succ m ih =>
    intro i x hi
    obtain ⟨p1, p2⟩ := hf i (by omega)
    have e1 : mI (layB M da i f) ca i = nI (f i) := by rw [layB, mI_sIf, if_neg hne, p1]
    refine r_ild5 (pc := 3) dJ7_compress_2_3 ?_
    refine r_ild4 (pc := 5) dJ7_compress_2_5 ?_
    first | refine r_icmp_geN (pc := 7) (tgt := 44) dJ7_compress_2_7 (by decide) (by omega) (by omega) (fun h7 => ?_) (fun h7 => ?_) | refine r_icmp_ge (pc := 7) (tgt := 44) dJ7_compress_2_7 (by decide) (fun h7 => ?_) (fun h7 => ?_)
    · skip
      exact absurd h7 (by omega)
    · skip
      refine r_ald0 (pc := 10) dJ7_compress_2_10 ?_
      refine r_ild1 (pc := 11) dJ7_compress_2_11 ?_
      refine r_cald (pc := 12) dJ7_compress_2_12 h1 (by show i < mN M ca; omega) (by omega) ?_
      rw [e1]
      refine r_ist6 (pc := 13) dJ7_compress_2_13 ?_
      refine r_ild6 (pc := 15) dJ7_compress_2_15 ?_
      refine r_sipush (v := nI 255) (pc := 17) dJ7_compress_2_17 (by decide) ?_
      first | refine r_icmp_leN (pc := 20) (tgt := 26) dJ7_compress_2_20 (by decide) (by omega) (by omega) (fun h20 => ?_) (fun h20 => ?_) | refine r_icmp_le (pc := 20) (tgt := 26) dJ7_compress_2_20 (by decide) (fun h20 => ?_) (fun h20 => ?_)
      · skip
        refine r_ald2 (pc := 26) dJ7_compress_2_26 ?_
        refine r_ild3 (pc := 27) dJ7_compress_2_27 ?_
        refine r_ild6 (pc := 28) dJ7_compress_2_28 ?_
        refine r_i2b (pc := 30) dJ7_compress_2_30 ?_
        refine Bd.eqI (b8 p2) ?_
        refine r_bast (pc := 31) dJ7_compress_2_31 h3 (by show i < mN M da; omega) (by omega) hb ?_
        rw [n8 p2, layB_s]
        first | refine r_iinc1N (j := 1) (pc := 32) dJ7_compress_2_32 rfl ?_ | refine r_iinc1 (pc := 32) dJ7_compress_2_32 ?_
        first | refine r_iinc3N (j := 1) (pc := 35) dJ7_compress_2_35 rfl ?_ | refine r_iinc3 (pc := 35) dJ7_compress_2_35 ?_
        first | refine r_iinc5N (j := 1) (pc := 38) dJ7_compress_2_38 rfl ?_ | refine r_iinc5 (pc := 38) dJ7_compress_2_38 ?_
        refine r_goto (pc := 41) (tgt := 3) dJ7_compress_2_41 (by decide) ?_
        exact ih (i + 1) _ (by omega)
      · skip
        exact absurd h20 (by omega)
theorem ct_J7_compress_2 {ca da k : Nat} {f : Nat → Nat} (h1 : mK M ca = 5) (h2 : mN M ca = k) (h3 : mK M da = 3) (h4 : mN M da = k) (hb : gb g ≤ da) (hk : k < 1000000) (hf : ∀ j, j < k → mI M ca j = nI (f j) ∧ f j < 128) : Ct g yJ7_compress_2 cJ7_compress_2 7 (some Jvm.ClassFile.FieldType.int) 0 0 0 [.ref ca, .int (nI 0), .ref da, .int (nI 0), .int (nI k)] M (fun w M' => w = some (.int (nI k)) ∧ M' = layB M da k f) noX := by
  refine Ct.of (by decide) (Nat.le_of_ble_eq_true rfl) rfl ?_
  refine r_iconst (v := nI 0) (pc := 0) dJ7_compress_2_0 (by decide) ?_
  refine r_ist5 (pc := 1) dJ7_compress_2_1 ?_
  have h9 := lp_compress_2 h1 h2 h3 h4 hb hk hf k 0 none (by omega)
  rw [layB_0] at h9
  exact h9
theorem ct_J7_compress {ca k : Nat} {f : Nat → Nat} (hz : ca < mZ M) (hgz : gb g ≤ mZ M) (h1 : mK M ca = 5) (h2 : mN M ca = k) (hk : k < 1000000) (hf : ∀ j, j < k → mI M ca j = nI (f j) ∧ f j < 128) : Ct g yJ7_compress cJ7_compress 6 (some ((Jvm.ClassFile.FieldType.array Jvm.ClassFile.FieldType.byte))) 7 (1) (k) [.ref ca, .int (nI 0), .int (nI k)] M (fun w M' => w = some (.ref (mZ M)) ∧ M' = layB (nw M 3 k) (mZ M) k f) noX := by
  have hne : ca ≠ mZ M := by omega
  refine Ct.of (by decide) (Nat.le_of_ble_eq_true rfl) rfl ?_
  refine r_ild2 (pc := 0) dJ7_compress_0 ?_
  refine r_newa (pc := 1) (t := 3) (kc' := 0) (ks' := 0) dJ7_compress_1 rfl (by decide) q334 (by omega) (by omega) (by omega) ?_
  refine r_ast3 (pc := 3) dJ7_compress_3 ?_
  refine r_ald0 (pc := 4) dJ7_compress_4 ?_
  refine r_ild1 (pc := 5) dJ7_compress_5 ?_
  refine r_ald3 (pc := 6) dJ7_compress_6 ?_
  refine r_iconst (v := nI 0) (pc := 7) dJ7_compress_7 (by decide) ?_
  refine r_ild2 (pc := 8) dJ7_compress_8 ?_
  refine r_cS (pc := 9) dJ7_compress_9 cs_J7_115 (ct_J7_compress_2 (M := nw M 3 k) (f := f) ((if_neg hne).trans h1) ((if_neg hne).trans h2) (if_pos rfl) (if_pos rfl) hgz hk (fun j hj => ⟨(if_neg hne).trans (hf j hj).1, (hf j hj).2⟩)) rfl rfl (Nat.le_of_ble_eq_true rfl) (by first | decide | omega) ?_
  rintro _ M9 ⟨rfl, e9⟩
  rw [e9]
  refine r_ist4 (pc := 12) dJ7_compress_12 ?_
  refine r_ild4 (pc := 14) dJ7_compress_14 ?_
  refine r_ild2 (pc := 16) dJ7_compress_16 ?_
  first | refine r_icmp_eqN (pc := 17) (tgt := 57) dJ7_compress_17 (by decide) (by omega) (by omega) (fun h17 => ?_) (fun h17 => ?_) | refine r_icmp_eq (pc := 17) (tgt := 57) dJ7_compress_17 (by decide) (fun h17 => ?_) (fun h17 => ?_)
  · skip
    refine r_ald3 (pc := 57) dJ7_compress_57 ?_
    refine r_aretA (pc := 58) dJ7_compress_58 ?_
    exact ⟨rfl, rfl⟩
  · skip
    exact absurd rfl h17
theorem ct_J7_coderFromArrayLen {v k : Nat} (h1 : mK M v = 3) (h2 : mN M v = k) : Ct g yJ7_coderFromArrayLen cJ7_coderFromArrayLen 2 (some Jvm.ClassFile.FieldType.byte) 0 0 0 [.ref v, .int (nI k)] M (PQ M (.int (nI 0))) noX := by
  refine Ct.of (by decide) (Nat.le_of_ble_eq_true rfl) rfl ?_
  refine r_ild1 (pc := 0) dJ7_coderFromArrayLen_0 ?_
  refine r_ald0 (pc := 1) dJ7_coderFromArrayLen_1 ?_
  refine r_alen (pc := 2) (t := 3) dJ7_coderFromArrayLen_2 h1 (by decide) ?_
  rw [h2]
  refine r_isubN (pc := 3) dJ7_coderFromArrayLen_3 (Nat.le_refl _) ?_
  rw [show k - k = 0 from Nat.sub_self k]
  refine r_bipush (v := nI 31) (pc := 4) dJ7_coderFromArrayLen_4 (by decide) ?_
  refine r_iushr (pc := 6) dJ7_coderFromArrayLen_6 ?_
  refine Bd.eqI (show _ = nI 0 by decide) ?_
  refine r_i2b (pc := 7) dJ7_coderFromArrayLen_7 ?_
  refine Bd.eqI (show _ = nI 0 by decide) ?_
  refine r_zret (pc := 8) dJ7_coderFromArrayLen_8 (by first | rfl | exact zI_nar | assumption) ?_
  exact ⟨rfl, rfl⟩
/-- a String laid anew at z, of the chars at ca -/
def stN (M : MM) (z k : Nat) (f : Nat → Nat) : MM := sR (sI (layB (nw M 3 k) (mZ M) k f) z 1 (nI 0)) z 0 (some (mZ M))
theorem ct_J6_init_2 {z ca k : Nat} {f : Nat → Nat} (hc : CMPS g) (hzz : z < mZ M) (hzb : gb g ≤ z) (hK : mK M z = 42) (hz : ca < mZ M) (h1 : mK M ca = 5) (h2 : mN M ca = k) (h0 : 0 < k) (hk : k < 1000000) (hf : ∀ j, j < k → mI M ca j = nI (f j) ∧ f j < 128) : Ct g yJ6_init_2 cJ6_init_2 6 none 8 (1) (k) [.ref z, .ref ca, .int (nI 0), .int (nI k), .null] M (PV (stN M z k f)) noX := by
  have hgz : gb g ≤ mZ M := by omega
  have e1 : mK (layB (nw M 3 k) (mZ M) k f) z = 42 := (if_neg (show ¬ z = mZ M by omega)).trans hK
  have e2 : mK (layB (nw M 3 k) (mZ M) k f) (mZ M) = 3 := if_pos rfl
  have e3 : mN (layB (nw M 3 k) (mZ M) k f) (mZ M) = k := if_pos rfl
  refine Ct.of (by decide) (Nat.le_of_ble_eq_true rfl) rfl ?_
  refine r_ald0 (pc := 0) dJ6_init_2_0 ?_
  refine r_objInit (pc := 1) dJ6_init_2_1 q575 q189 q190 (by decide) (Nat.le_of_ble_eq_true rfl) ?_
  refine r_ild3 (pc := 4) dJ6_init_2_4 ?_
  first | refine r_if_neZ (pc := 5) (tgt := 27) dJ6_init_2_5 (by decide) (fun h5 => ?_) (fun h5 => ?_) | refine r_if_neN (pc := 5) (tgt := 27) dJ6_init_2_5 (by decide) (by omega) (fun h5 => ?_) (fun h5 => ?_) | refine r_if_ne (pc := 5) (tgt := 27) dJ6_init_2_5 (by decide) (fun h5 => ?_) (fun h5 => ?_)
  · skip
    refine r_gets (pc := 27) dJ6_init_2_27 q577 hc ?_
    refine r_if_eq (pc := 30) (tgt := 58) dJ6_init_2_30 (by decide) (fun h30 => ?_) (fun h30 => ?_)
    · skip
      exact absurd h30 (by decide)
    · skip
      refine r_ald1 (pc := 33) dJ6_init_2_33 ?_
      refine r_ild2 (pc := 34) dJ6_init_2_34 ?_
      refine r_ild3 (pc := 35) dJ6_init_2_35 ?_
      refine r_cSm (pc := 36) (kc' := 0) (ks' := 0) dJ6_init_2_36 cs_J6_177 (ct_J7_compress hz hgz h1 h2 hk hf) rfl rfl (Nat.le_of_ble_eq_true rfl) (by decide) (by omega) (by omega) ?_
      rintro _ M9 ⟨rfl, e9⟩
      rw [e9]
      refine r_ast5 (pc := 39) dJ6_init_2_39 ?_
      refine r_ald0 (pc := 41) dJ6_init_2_41 ?_
      refine r_ald5 (pc := 42) dJ6_init_2_42 ?_
      refine r_ild3 (pc := 44) dJ6_init_2_44 ?_
      refine r_cS (pc := 45) dJ6_init_2_45 cs_J6_47 (ct_J7_coderFromArrayLen e2 e3) rfl rfl (Nat.le_of_ble_eq_true rfl) (by first | decide | omega) ?_
      rintro _ M8 ⟨rfl, e8⟩
      rw [e8]
      refine r_putFI (pc := 48) dJ6_init_2_48 fl_J6_15 ff_J6_1 rfl rfl rfl e1 hzb ?_
      refine r_ald0 (pc := 51) dJ6_init_2_51 ?_
      refine r_ald5 (pc := 52) dJ6_init_2_52 ?_
      refine r_putFQ (pc := 54) (x := some (mZ M)) dJ6_init_2_54 fl_J6_9 ff_J6_0 rfl rfl rfl e1 hzb ?_
      refine r_vret (pc := 57) dJ6_init_2_57 ?_
      exact ⟨rfl, rfl⟩
  · skip
    exact absurd h5 (by omega)
theorem ct_J6_init {z ca k : Nat} {f : Nat → Nat} (hc : CMPS g) (hzz : z < mZ M) (hzb : gb g ≤ z) (hK : mK M z = 42) (hz : ca < mZ M) (h1 : mK M ca = 5) (h2 : mN M ca = k) (h0 : 0 < k) (hk : k < 1000000) (hf : ∀ j, j < k → mI M ca j = nI (f j) ∧ f j < 128) : Ct g yJ6_init cJ6_init 2 none 9 (1) (k) [.ref z, .ref ca] M (PV (stN M z k f)) noX := by
  refine Ct.of (by decide) (Nat.le_of_ble_eq_true rfl) rfl ?_
  refine r_ald0 (pc := 0) dJ6_init_0 ?_
  refine r_ald1 (pc := 1) dJ6_init_1 ?_
  refine r_iconst (v := nI 0) (pc := 2) dJ6_init_2 (by decide) ?_
  refine r_ald1 (pc := 3) dJ6_init_3 ?_
  refine r_alen (pc := 4) (t := 5) dJ6_init_4 h1 (by decide) ?_
  rw [h2]
  refine r_null (pc := 5) dJ6_init_5 ?_
  refine r_cIm (pc := 6) (kc' := 0) (ks' := 0) dJ6_init_6 ci_J6_27 (ct_J6_init_2 hc hzz hzb hK hz h1 h2 h0 hk hf) rfl rfl (Nat.le_of_ble_eq_true rfl) (by decide) (by omega) (by omega) ?_
  rintro _ M9 ⟨rfl, e9⟩
  rw [e9]
  refine r_vret (pc := 9) dJ6_init_9 ?_
  exact ⟨rfl, rfl⟩
/-- a new String that says w -/
def SNW (M : MM) (w : List Nat) (M' : MM) : Prop := STR M' (fun c => mZ M ≤ c ∧ c < mZ M') (mZ M) w ∧ FM (fun _ => False) M M' ∧ mZ M' = mZ M + 2 ∧ mI M' (mZ M) 2 = nI 0 ∧ mI M' (mZ M) 3 = nI 0
theorem SNW.mk {w : List Nat} {M1 : MM} (hM : M1 = nw M 42 0) (hw : ∀ j, j < w.length → w.getD j 0 < 128) (hk : w.length < 100000) : SNW M w (stN M1 (mZ M) w.length (fun j => w.getD j 0)) := by
  have z1 : mZ M1 = mZ M + 1 := by rw [hM]; rfl
  have k1 : mK M1 (mZ M) = 42 := by rw [hM]; exact if_pos rfl
  have i1 : ∀ j, mI M1 (mZ M) j = nI 0 := fun j => by rw [hM]; exact if_pos rfl
  have f1 : FM (fun _ => False) M M1 := by rw [hM]; exact FM.nw
  clear hM
  generalize hk9 : w.length = k at *
  generalize hf : (fun j => w.getD j 0) = f
  have z2 : mZ (stN M1 (mZ M) k f) = mZ M + 2 := by show mZ M1 + 1 = _; omega
  have e1 : ∀ c, c < mZ M1 → mK (stN M1 (mZ M) k f) c = mK M1 c := fun c hc => if_neg (Nat.ne_of_lt hc)
  have e2 : mK (stN M1 (mZ M) k f) (mZ M1) = 3 := if_pos rfl
  have e3 : mN (stN M1 (mZ M) k f) (mZ M1) = k := if_pos rfl
  have e4 : ∀ j, j < k → mI (stN M1 (mZ M) k f) (mZ M1) j = nI (f j) := fun j hj => by
    rw [stN, mI_sR, mI_sIa (show mZ M1 ≠ mZ M by omega), layB, mI_sIf, if_pos rfl, if_pos hj]
  have e5 : ∀ j, mI (stN M1 (mZ M) k f) (mZ M) j = nI 0 := fun j => by
    rw [stN, mI_sR, mI_sI]
    by_cases q : j = 1
    · rw [if_pos ⟨rfl, q⟩]
    · rw [if_neg (fun h => q h.2), layB, mI_sIf, if_neg (show ¬ mZ M = mZ M1 by omega)]
      exact (if_neg (show ¬ mZ M = mZ M1 by omega)).trans (i1 j)
  have e6 : FM (fun _ => False) M (stN M1 (mZ M) k f) := by
    refine FM.trans (S := fun _ => False) (T := fun c => c = mZ M) (FM.trans (S := fun _ => False) (T := fun c => c = mZ M) (FM.trans (S := fun _ => False) (T := fun c => c = mZ M1) (FM.trans (S := fun _ => False) (T := fun _ => False) f1 FM.nw (fun _ _ e => e) (fun _ _ e => e)) (FM.sIs fun _ => rfl) (fun _ _ e => e) (fun c hc e => by omega)) (FM.sI fun _ => rfl) (fun _ _ e => e) (fun c hc e => by omega)) (FM.sR fun _ => rfl) (fun _ _ e => e) (fun c hc e => by omega)
  refine ⟨⟨⟨Nat.le_refl _, by rw [z2]; omega⟩, ?_, e5 1, mZ M1, mR_sRs _ _ _ _, ⟨by omega, by rw [z2]; omega⟩, e2, ?_, fun j hj => ?_, fun j hj => hw j (by omega), by omega⟩, e6, z2, e5 2, e5 3⟩
  · rw [e1 _ (by omega), k1]
  · rw [e3, hk9]
  · rw [e4 j (by omega), ← hf]
theorem ct_J6_valueOf {ca : Nat} {w : List Nat} (hc : CMPS g) (hgz : gb g ≤ mZ M) (hz : ca < mZ M) (h1 : mK M ca = 5) (h2 : mN M ca = w.length) (h0 : 0 < w.length) (hk : w.length < 100000) (hf : ∀ j, j < w.length → mI M ca j = nI (w.getD j 0) ∧ w.getD j 0 < 128) : Ct g yJ6_valueOf cJ6_valueOf 1 (some ((Jvm.ClassFile.FieldType.object "java/lang/String"))) 10 (2) (w.length + 4) [.ref ca] M (fun v M' => v = some (.ref (mZ M)) ∧ SNW M w M') noX := by
  have hne : ca ≠ mZ M := by omega
  refine Ct.of (by decide) (Nat.le_of_ble_eq_true rfl) rfl ?_
  refine r_new (pc := 0) (ci := 22) (kc' := 1) (ks' := w.length) dJ6_valueOf_0 q567 q568 q158 (by decide) (by omega) (by omega) ?_
  generalize hM : nw M (20 + 22) 0 = M1
  have z1 : mZ M1 = mZ M + 1 := by rw [← hM]; rfl
  have j1 : mK M1 ca = 5 := by rw [← hM]; exact (if_neg hne).trans h1
  have j2 : mN M1 ca = w.length := by rw [← hM]; exact (if_neg hne).trans h2
  have j3 : ∀ j, j < w.length → mI M1 ca j = nI (w.getD j 0) ∧ w.getD j 0 < 128 := fun j hj => by rw [← hM]; exact ⟨(if_neg hne).trans (hf j hj).1, (hf j hj).2⟩
  have j4 : mK M1 (mZ M) = 42 := by rw [← hM]; exact if_pos rfl
  refine r_dup (pc := 3) dJ6_valueOf_3 rfl ?_
  refine r_ald0 (pc := 4) dJ6_valueOf_4 ?_
  refine r_cIm (pc := 5) (kc' := 0) (ks' := 0) dJ6_valueOf_5 ci_J6_1008 (ct_J6_init (M := M1) (f := fun j => w.getD j 0) hc (by omega) hgz j4 (by omega) j1 j2 h0 (by omega) j3) rfl rfl (Nat.le_of_ble_eq_true rfl) (by decide) (by omega) (by omega) ?_
  rintro _ M9 ⟨rfl, e9⟩
  rw [e9]
  refine r_aretR (pc := 8) dJ6_valueOf_8 ?_
  exact ⟨rfl, SNW.mk hM.symm (fun j hj => (hf j hj).2) hk⟩
theorem STR.hs {z j : Nat} {w : List Nat} {x : Int32} (h : STR M P z w) (hj : 2 ≤ j) : STR (sI M z j x) P z w := by
  obtain ⟨k1, k2, k3, v, k4, k5, k6, k7, k8, k9, k10⟩ := h
  have hvz : v ≠ z := fun e => by rw [e, k2] at k6; omega
  exact ⟨k1, k2, (mI_sIj (by omega)).trans k3, v, k4, k5, k6, k7, fun j hj => (mI_sIa hvz).trans (k8 j hj), k9, k10⟩
theorem ct_J6_hashCode {z : Nat} {w : List Nat} (hc : CMPS g) (h : STR M P z w) (hzb : gb g ≤ z) (h2 : mI M z 2 = nI 0) (h3 : mI M z 3 = nI 0) (h0 : 0 < w.length) : Ct g yJ6_hashCode cJ6_hashCode 2 (some Jvm.ClassFile.FieldType.int) 6 0 0 [.ref z] M (fun v M' => v = some (.int (hsW w)) ∧ ∃ j x, 2 ≤ j ∧ M' = sI M z j x) noX := by
  have hh := h
  obtain ⟨k1, k2, k3, v, k4, k5, k6, k7, k8, k9, k10⟩ := h
  refine Ct.of (by decide) (Nat.le_of_ble_eq_true rfl) rfl ?_
  refine r_ald0 (pc := 0) dJ6_hashCode_0 ?_
  refine r_getI' (pc := 1) dJ6_hashCode_1 fl_J6_19 k2 h2 ?_
  refine r_ist1 (pc := 4) dJ6_hashCode_4 ?_
  refine r_ild1 (pc := 5) dJ6_hashCode_5 ?_
  first | refine r_if_neZ (pc := 6) (tgt := 58) dJ6_hashCode_6 (by decide) (fun h6 => ?_) (fun h6 => ?_) | refine r_if_neN (pc := 6) (tgt := 58) dJ6_hashCode_6 (by decide) (by omega) (fun h6 => ?_) (fun h6 => ?_) | refine r_if_ne (pc := 6) (tgt := 58) dJ6_hashCode_6 (by decide) (fun h6 => ?_) (fun h6 => ?_)
  · skip
    exact absurd rfl h6
  · skip
    refine r_ald0 (pc := 9) dJ6_hashCode_9 ?_
    refine r_getI' (pc := 10) dJ6_hashCode_10 fl_J6_23 k2 h3 ?_
    first | refine r_if_neZ (pc := 13) (tgt := 58) dJ6_hashCode_13 (by decide) (fun h13 => ?_) (fun h13 => ?_) | refine r_if_neN (pc := 13) (tgt := 58) dJ6_hashCode_13 (by decide) (by omega) (fun h13 => ?_) (fun h13 => ?_) | refine r_if_ne (pc := 13) (tgt := 58) dJ6_hashCode_13 (by decide) (fun h13 => ?_) (fun h13 => ?_)
    · skip
      exact absurd rfl h13
    · skip
      refine r_ald0 (pc := 16) dJ6_hashCode_16 ?_
      refine r_cV (ci := 22) (pc := 17) dJ6_hashCode_17 cv_J6_492 k2 (ct_J6_isLatin1 hc hh) rfl rfl (Nat.le_of_ble_eq_true rfl) (by decide) ?_
      rintro _ M9 ⟨rfl, e9⟩
      rw [e9]
      refine r_if_eq (pc := 20) (tgt := 33) dJ6_hashCode_20 (by decide) (fun h20 => ?_) (fun h20 => ?_)
      · skip
        exact absurd h20 (by decide)
      · skip
        refine r_ald0 (pc := 23) dJ6_hashCode_23 ?_
        refine r_getR (pc := 24) dJ6_hashCode_24 fl_J6_9 k2 k4 ?_
        refine r_cS (pc := 27) dJ6_hashCode_27 cs_J6_628 (ct_J9_hashCode k6 k7 rfl h0 (by omega) (fun j hj => ⟨k8 j hj, k9 j hj⟩)) rfl rfl (Nat.le_of_ble_eq_true rfl) (by first | decide | omega) ?_
        rintro _ M8 ⟨rfl, e8⟩
        rw [e8]
        refine r_goto (pc := 30) (tgt := 40) dJ6_hashCode_30 (by decide) ?_
        refine r_ist1 (pc := 40) dJ6_hashCode_40 ?_
        refine r_ild1 (pc := 41) dJ6_hashCode_41 ?_
        refine r_if_ne (pc := 42) (tgt := 53) dJ6_hashCode_42 (by decide) (fun h42 => ?_) (fun h42 => ?_)
        · skip
          refine r_ald0 (pc := 53) dJ6_hashCode_53 ?_
          refine r_ild1 (pc := 54) dJ6_hashCode_54 ?_
          refine r_putI (pc := 55) (ty := .int) dJ6_hashCode_55 fl_J6_19 ⟨rfl, rfl⟩ rfl rfl k2 hzb ?_
          refine r_ild1 (pc := 58) dJ6_hashCode_58 ?_
          refine r_iret (pc := 59) dJ6_hashCode_59 ?_
          exact ⟨rfl, _, _, by decide, rfl⟩
        · skip
          refine r_ald0 (pc := 45) dJ6_hashCode_45 ?_
          refine r_iconst (v := nI 1) (pc := 46) dJ6_hashCode_46 (by decide) ?_
          refine r_putI (pc := 47) (ty := clY 22 3) dJ6_hashCode_47 fl_J6_23 ⟨rfl, rfl⟩ rfl rfl k2 hzb ?_
          refine r_goto (pc := 50) (tgt := 58) dJ6_hashCode_50 (by decide) ?_
          refine r_ild1 (pc := 58) dJ6_hashCode_58 ?_
          refine r_iret (pc := 59) dJ6_hashCode_59 ?_
          exact ⟨rfl, _, _, by decide, rfl⟩
end X40
