set_option maxRecDepth 100000
/-! LISTS: how they are made and grow -/
/-- nothing answered, the memory as told -/
def PV (M0 : MM) (v : Option Value) (M' : MM) : Prop := v = none ∧ M' = M0
/-- what stays: every old cell outside S -/
def FM (S : Nat → Prop) (M M' : MM) : Prop := mZ M ≤ mZ M' ∧ ∀ c, c < mZ M → ¬ S c → Sm M M' c
theorem FM.rf {S : Nat → Prop} {M : MM} : FM S M M := ⟨Nat.le_refl _, fun _ _ _ => Sm.rf⟩
theorem FM.trans {S T U : Nat → Prop} {M M1 M2 : MM} (h : FM S M M1) (h' : FM T M1 M2) (hS : ∀ c, c < mZ M → S c → U c) (hT : ∀ c, c < mZ M → T c → U c) : FM U M M2 := ⟨Nat.le_trans h.1 h'.1, fun c hc hn => (h.2 c hc fun q => hn (hS c hc q)).trans (h'.2 c (Nat.lt_of_lt_of_le hc h.1) fun q => hn (hT c hc q))⟩
theorem FM.sI {S : Nat → Prop} {M : MM} {a j : Nat} {v : Int32} (h : a < mZ M → S a) : FM S M (sI M a j v) := ⟨Nat.le_refl _, fun c hc hn => Sm.sI fun e => hn (e ▸ h (e ▸ hc))⟩
theorem FM.sL {S : Nat → Prop} {M : MM} {a j : Nat} {v : Int64} (h : a < mZ M → S a) : FM S M (sL M a j v) := ⟨Nat.le_refl _, fun c hc hn => Sm.sL fun e => hn (e ▸ h (e ▸ hc))⟩
theorem FM.sR {S : Nat → Prop} {M : MM} {a j : Nat} {v : Option Nat} (h : a < mZ M → S a) : FM S M (sR M a j v) := ⟨Nat.le_refl _, fun c hc hn => Sm.sR fun e => hn (e ▸ h (e ▸ hc))⟩
theorem FM.sIs {S : Nat → Prop} {M : MM} {a : Nat} {f : Nat → Int32} (h : a < mZ M → S a) : FM S M (sIs M a f) := ⟨Nat.le_refl _, fun c hc hn => Sm.sIs fun e => hn (e ▸ h (e ▸ hc))⟩
theorem FM.sRs {S : Nat → Prop} {M : MM} {a : Nat} {f : Nat → Option Nat} (h : a < mZ M → S a) : FM S M (sRs M a f) := ⟨Nat.le_refl _, fun c hc hn => Sm.sRs fun e => hn (e ▸ h (e ▸ hc))⟩
theorem FM.nw {S : Nat → Prop} {M : MM} {t n : Nat} : FM S M (nw M t n) := ⟨Nat.le_succ _, fun c hc _ => Sm.nw (Nat.ne_of_lt hc)⟩
theorem fl_J1_7 : Fl RJ1 7 20 0 0 := ⟨by decide, by decide, rfl, q215⟩
theorem fls_J2_63 : FlS RJ2 63 20 0 0 RJ2 := ⟨by decide, by decide, rfl, q216, q217⟩
section X34
variable {g : GC} {M : MM}
theorem ct_J0_init {a : Nat} : Ct g yJ0_init cJ0_init 1 none 1 0 0 [.ref a] M (PV M) noX := by
  refine Ct.of (by decide) (Nat.le_of_ble_eq_true rfl) rfl ?_
  refine r_ald0 (pc := 0) dJ0_init_0 ?_
  refine r_objInit (pc := 1) dJ0_init_1 q208 q189 q190 (by decide) (Nat.le_of_ble_eq_true rfl) ?_
  refine r_vret (pc := 4) dJ0_init_4 ?_
  exact ⟨rfl, rfl⟩
theorem ct_J1_init {a : Nat} (hb : gb g ≤ a) (hK : mK M a = 40) : Ct g yJ1_init cJ1_init 1 none 2 0 0 [.ref a] M (PV (sI M a 0 (nI 0))) noX := by
  refine Ct.of (by decide) (Nat.le_of_ble_eq_true rfl) rfl ?_
  refine r_ald0 (pc := 0) dJ1_init_0 ?_
  refine r_cI (pc := 1) dJ1_init_1 ci_J1_1 ct_J0_init rfl rfl (Nat.le_of_ble_eq_true rfl) (by decide) ?_
  rintro _ _ ⟨rfl, rfl⟩
  refine r_ald0 (pc := 4) dJ1_init_4 ?_
  refine r_iconst (v := nI 0) (pc := 5) dJ1_init_5 (by decide) ?_
  refine r_putI (pc := 6) (ty := .int) dJ1_init_6 fl_J1_7 ⟨rfl, rfl⟩ rfl rfl hK hb ?_
  refine r_vret (pc := 9) dJ1_init_9 ?_
  exact ⟨rfl, rfl⟩
theorem ct_J2_init {a n : Nat} (hO : GO g) (hb : gb g ≤ a) (hK : mK M a = 40) (haz : a < mZ M) (h0 : 0 < n) (hn : n < 1000000) : Ct g yJ2_init cJ2_init 2 none 3 (1) (n) [.ref a, .int (nI n)] M (PV (sR (nw (sI M a 0 (nI 0)) 6 n) a 1 (some (mZ M)))) noX := by
  refine Ct.of (by decide) (Nat.le_of_ble_eq_true rfl) rfl ?_
  refine r_ald0 (pc := 0) dJ2_init_0 ?_
  refine r_cI (pc := 1) dJ2_init_1 ci_J2_1 (ct_J1_init hb hK) rfl rfl (Nat.le_of_ble_eq_true rfl) (by decide) ?_
  rintro _ _ ⟨rfl, rfl⟩
  refine r_ild1 (pc := 4) dJ2_init_4 ?_
  first | refine r_if_leN (pc := 5) (tgt := 19) dJ2_init_5 (by decide) (by omega) (fun h5 => ?_) (fun h5 => ?_) | refine r_if_le (pc := 5) (tgt := 19) dJ2_init_5 (by decide) (fun h5 => ?_) (fun h5 => ?_)
  · skip
    exact absurd h5 (by omega)
  · skip
    refine r_ald0 (pc := 8) dJ2_init_8 ?_
    refine r_ild1 (pc := 9) dJ2_init_9 ?_
    refine r_anew (pc := 10) (t := 6) (kc' := 0) (ks' := 0) (C := "java/lang/Object") hO (Or.inl rfl) rfl q210 dJ2_init_10 q209 (by omega) (by omega) (by omega) ?_
    refine r_putQ (pc := 13) (ty := clY 20 1) (x := some (mZ M)) dJ2_init_13 fl_J2_9 ⟨rfl, rfl⟩ rfl rfl (by exact (if_neg (show ¬ a = mZ M by omega)).trans hK) hb ?_
    refine r_goto (pc := 16) (tgt := 60) dJ2_init_16 (by decide) ?_
    refine r_vret (pc := 60) dJ2_init_60 ?_
    exact ⟨rfl, rfl⟩
end X34
