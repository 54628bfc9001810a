set_option maxRecDepth 100000
/-! TREES: what stands in the memory, and what it tells -/
/-- a cell is the same in both -/
def Sm (M M' : MM) (c : Nat) : Prop := mK M' c = mK M c ∧ mN M' c = mN M c ∧ mI M' c = mI M c ∧ mL M' c = mL M c ∧ mR M' c = mR M c
theorem Sm.rf {M : MM} {c : Nat} : Sm M M c := ⟨rfl, rfl, rfl, rfl, rfl⟩
theorem Sm.trans {M M1 M2 : MM} {c : Nat} (h : Sm M M1 c) (h' : Sm M1 M2 c) : Sm M M2 c := ⟨h'.1.trans h.1, h'.2.1.trans h.2.1, h'.2.2.1.trans h.2.2.1, h'.2.2.2.1.trans h.2.2.2.1, h'.2.2.2.2.trans h.2.2.2.2⟩
theorem Sm.put {M : MM} {o c : Nat} {s : XS} (h : ¬ owA o c) : Sm M (putX M o s) c := ⟨rfl, rfl, funext fun _ => mI_putXn h, funext fun _ => mL_putXn h, funext fun _ => mR_putXn h⟩
theorem Sm.sI {M : MM} {a j c : Nat} {v : Int32} (h : c ≠ a) : Sm M (sI M a j v) c := ⟨rfl, rfl, funext fun _ => mI_sIa h, rfl, rfl⟩
theorem Sm.sL {M : MM} {a j c : Nat} {v : Int64} (h : c ≠ a) : Sm M (sL M a j v) c := ⟨rfl, rfl, rfl, funext fun _ => mL_sLa h, rfl⟩
theorem Sm.sR {M : MM} {a j c : Nat} {v : Option Nat} (h : c ≠ a) : Sm M (sR M a j v) c := ⟨rfl, rfl, rfl, rfl, funext fun _ => mR_sRa h⟩
theorem Sm.nw {M : MM} {t n c : Nat} (h : c ≠ mZ M) : Sm M (nw M t n) c := by
  refine ⟨?_, ?_, funext fun _ => ?_, funext fun _ => ?_, funext fun _ => ?_⟩
  · rw [mK_nw, if_neg h]
  · rw [mN_nw, if_neg h]
  · rw [mI_nw, if_neg h]
  · rw [mL_nw, if_neg h]
  · rw [mR_nw, if_neg h]
theorem LsX.fr {M M' : MM} {a v n : Nat} (h : LsX M a v n) (ha : Sm M M' a) (hv : Sm M M' v) : LsX M' a v n := by
  obtain ⟨h1, h2, h3, h4, h5, h6⟩ := h
  exact ⟨ha.1.trans h1, by rw [ha.2.2.2.2]; exact h2, by rw [ha.2.2.1]; exact h3, hv.1.trans h4, by rw [hv.2.1]; exact h5, by rw [hv.2.1]; exact h6⟩
theorem SbX.fr {M M' : MM} {a v n : Nat} (h : SbX M a v n) (ha : Sm M M' a) (hv : Sm M M' v) : SbX M' a v n := by
  obtain ⟨h1, h2, h3, h4, h5, h6, h7⟩ := h
  exact ⟨ha.1.trans h1, by rw [ha.2.2.2.2]; exact h2, by rw [ha.2.2.1]; exact h3, by rw [ha.2.2.1]; exact h4, hv.1.trans h5, by rw [hv.2.1]; exact h6, by rw [hv.2.1]; exact h7⟩
/-- a chain at a: its list l with array v, its signs b with bytes w, n parts -/
def CHN (M : MM) (P : Nat → Prop) (a l v b w n : Nat) (op : Nat → Nat) : Prop := (P a ∧ P l ∧ P v ∧ P b ∧ P w) ∧ mK M a = 29 ∧ mR M a 0 = some l ∧ mR M a 1 = some b ∧ LsX M l v n ∧ SbX M b w n ∧ ∀ i, 1 ≤ i → i < n → 1 ≤ op i ∧ op i ≤ 4 ∧ mI M w i = nI (sgC (op i))
def FCT (M : MM) (P : Nat → Prop) (a l v n : Nat) (all : Bool) : Prop := (P a ∧ P l ∧ P v) ∧ mK M a = 35 ∧ mR M a 0 = some l ∧ mI M a 1 = zI (all = true) ∧ LsX M l v n
theorem CHN.fr {M M' : MM} {P P' : Nat → Prop} {a l v b w n : Nat} {op : Nat → Nat} (h : CHN M P a l v b w n op) (hS : ∀ c, P c → Sm M M' c) (hP : ∀ c, P c → P' c) : CHN M' P' a l v b w n op := by
  obtain ⟨⟨p1, p2, p3, p4, p5⟩, h1, h2, h3, h4, h5, h6⟩ := h
  refine ⟨⟨hP _ p1, hP _ p2, hP _ p3, hP _ p4, hP _ p5⟩, (hS a p1).1.trans h1, by rw [(hS a p1).2.2.2.2]; exact h2, by rw [(hS a p1).2.2.2.2]; exact h3, h4.fr (hS l p2) (hS v p3), h5.fr (hS b p4) (hS w p5), fun i q1 q2 => ?_⟩
  obtain ⟨z1, z2, z3⟩ := h6 i q1 q2
  exact ⟨z1, z2, by rw [(hS w p5).2.2.1]; exact z3⟩
theorem FCT.fr {M M' : MM} {P P' : Nat → Prop} {a l v n : Nat} {all : Bool} (h : FCT M P a l v n all) (hS : ∀ c, P c → Sm M M' c) (hP : ∀ c, P c → P' c) : FCT M' P' a l v n all := by
  obtain ⟨⟨p1, p2, p3⟩, h1, h2, h3, h4⟩ := h
  exact ⟨⟨hP _ p1, hP _ p2, hP _ p3⟩, (hS a p1).1.trans h1, by rw [(hS a p1).2.2.2.2]; exact h2, by rw [(hS a p1).2.2.1]; exact h3, h4.fr (hS l p2) (hS v p3)⟩
/-- the codes of a chain: of the first k + 1 parts -/
def chC (f : Nat → List Nat) (op : Nat → Nat) : Nat → List Nat
  | 0 => f 0
  | k + 1 => chC f op k ++ (f (k + 1) ++ [op (k + 1)])
theorem chC_congr {f f' : Nat → List Nat} {op op' : Nat → Nat} : ∀ k, (∀ i, i ≤ k → f i = f' i) → (∀ i, 1 ≤ i → i ≤ k → op i = op' i) → chC f op k = chC f' op' k
  | 0, h, _ => h 0 (Nat.le_refl 0)
  | k + 1, h, h' => by
    show chC f op k ++ (f (k + 1) ++ [op (k + 1)]) = chC f' op' k ++ (f' (k + 1) ++ [op' (k + 1)])
    rw [chC_congr k (fun i hi => h i (by omega)) (fun i h1 hi => h' i h1 (by omega)), h (k + 1) (Nat.le_refl _), h' (k + 1) (by omega) (Nat.le_refl _)]
theorem chC_mem {f : Nat → List Nat} {op : Nat → Nat} {c : Nat} : ∀ k i, i ≤ k → c ∈ f i → c ∈ chC f op k
  | 0, i, hi, h => by
    obtain rfl : i = 0 := by omega
    exact h
  | k + 1, i, hi, h => by
    show c ∈ chC f op k ++ (f (k + 1) ++ [op (k + 1)])
    by_cases e : i = k + 1
    · subst e; exact List.mem_append_right _ (List.mem_append_left _ h)
    · exact List.mem_append_left _ (chC_mem k i (by omega) h)
/-- a value at a: its codes; its cells all in P; o whose it is -/
def VAL (M : MM) (o : Nat) (P : Nat → Prop) : Nat → Nat → List Nat → Prop
  | 0, _, _ => False
  | D + 1, a, cs => (P a ∧ mK M a = 31 ∧ ∃ v : Nat, v < 10000 ∧ mL M a 0 = lI v ∧ cs = [1000 + v])
    ∨ (P a ∧ mK M a = 32 ∧ ∃ k, k < 11 ∧ mI M a 0 = nI k ∧ cs = [40 + k])
    ∨ (P a ∧ mK M a = 33 ∧ mR M a 2 = some o ∧ ∃ k x ds, k < 2 ∧ mI M a 0 = nI k ∧ mR M a 1 = some x ∧ VAL M o P D x ds ∧ cs = ds ++ [60 + k])
    ∨ (P a ∧ mK M a = 30 ∧ ∃ (most : Bool) (x z : Nat) (ds es : List Nat), mI M a 0 = zI (most = true) ∧ mR M a 1 = some x ∧ mR M a 2 = some z ∧ VAL M o P D x ds ∧ VAL M o P D z es ∧ cs = ds ++ (es ++ [if most = true then 6 else 5]))
    ∨ ∃ (l v b w n : Nat) (f : Nat → List Nat) (op : Nat → Nat), CHN M P a l v b w n op ∧ 1 ≤ n ∧ (∀ i, i < n → ∃ e, mR M v i = some e ∧ VAL M o P D e (f i)) ∧ cs = chC f op (n - 1)
def TST (M : MM) (o : Nat) (P : Nat → Prop) : Nat → Nat → List Nat → Prop
  | 0, _, _ => False
  | D + 1, a, cs => (P a ∧ mK M a = 37 ∧ cs = [13])
    ∨ (P a ∧ mK M a = 36 ∧ ∃ x ds, mR M a 0 = some x ∧ TST M o P D x ds ∧ cs = ds ++ [12])
    ∨ (P a ∧ mK M a = 38 ∧ ∃ (op x z : Nat) (ds es : List Nat), (op = 7 ∨ op = 8 ∨ op = 9) ∧ mR M a 0 = some x ∧ mR M a 1 = some z ∧ mI M a 2 = nI (sgT0 op) ∧ VAL M o P D x ds ∧ VAL M o P D z es ∧ cs = ds ++ (es ++ [op]))
    ∨ ∃ (l v n : Nat) (f : Nat → List Nat) (all : Bool), FCT M P a l v n all ∧ 1 ≤ n ∧ (∀ i, i < n → ∃ e, mR M v i = some e ∧ TST M o P D e (f i)) ∧ cs = chC f (fun _ => if all = true then 10 else 11) (n - 1)
section Fr
variable {M M' : MM} {o : Nat} {P P' : Nat → Prop}
theorem VAL.fr (hS : ∀ c, P c → Sm M M' c) (hP : ∀ c, P c → P' c) : ∀ D D' a cs, D ≤ D' → VAL M o P D a cs → VAL M' o P' D' a cs
  | 0, _, _, _, _, h => h.elim
  | D + 1, 0, _, _, hD, _ => absurd hD (Nat.not_succ_le_zero D)
  | D + 1, D' + 1, a, cs, hD, h => by
    have hD2 : D ≤ D' := Nat.le_of_succ_le_succ hD
    rcases h with ⟨p, h1, v, h2, h3, h4⟩ | ⟨p, h1, k, h2, h3, h4⟩ | ⟨p, h1, h2, k, x, ds, h3, h4, h5, h6, h7⟩ | ⟨p, h1, most, x, z, ds, es, h2, h3, h4, h5, h6, h7⟩ | ⟨l, v, b, w, n, f, op, h1, h2, h3, h4⟩
    · exact Or.inl ⟨hP a p, (hS a p).1.trans h1, v, h2, by rw [(hS a p).2.2.2.1]; exact h3, h4⟩
    · exact Or.inr (Or.inl ⟨hP a p, (hS a p).1.trans h1, k, h2, by rw [(hS a p).2.2.1]; exact h3, h4⟩)
    · exact Or.inr (Or.inr (Or.inl ⟨hP a p, (hS a p).1.trans h1, by rw [(hS a p).2.2.2.2]; exact h2, k, x, ds, h3, by rw [(hS a p).2.2.1]; exact h4, by rw [(hS a p).2.2.2.2]; exact h5, VAL.fr hS hP D D' x ds hD2 h6, h7⟩))
    · exact Or.inr (Or.inr (Or.inr (Or.inl ⟨hP a p, (hS a p).1.trans h1, most, x, z, ds, es, by rw [(hS a p).2.2.1]; exact h2, by rw [(hS a p).2.2.2.2]; exact h3, by rw [(hS a p).2.2.2.2]; exact h4, VAL.fr hS hP D D' x ds hD2 h5, VAL.fr hS hP D D' z es hD2 h6, h7⟩)))
    · refine Or.inr (Or.inr (Or.inr (Or.inr ⟨l, v, b, w, n, f, op, h1.fr hS hP, h2, fun i hi => ?_, h4⟩)))
      obtain ⟨e, z1, z2⟩ := h3 i hi
      exact ⟨e, by rw [(hS v h1.1.2.2.1).2.2.2.2]; exact z1, VAL.fr hS hP D D' e (f i) hD2 z2⟩
theorem TST.fr (hS : ∀ c, P c → Sm M M' c) (hP : ∀ c, P c → P' c) : ∀ D D' a cs, D ≤ D' → TST M o P D a cs → TST M' o P' D' a cs
  | 0, _, _, _, _, h => h.elim
  | D + 1, 0, _, _, hD, _ => absurd hD (Nat.not_succ_le_zero D)
  | D + 1, D' + 1, a, cs, hD, h => by
    have hD2 : D ≤ D' := Nat.le_of_succ_le_succ hD
    rcases h with ⟨p, h1, h2⟩ | ⟨p, h1, x, ds, h2, h3, h4⟩ | ⟨p, h1, op, x, z, ds, es, h2, h3, h4, h5, h6, h7, h8⟩ | ⟨l, v, n, f, all, h1, h2, h3, h4⟩
    · exact Or.inl ⟨hP a p, (hS a p).1.trans h1, h2⟩
    · exact Or.inr (Or.inl ⟨hP a p, (hS a p).1.trans h1, x, ds, by rw [(hS a p).2.2.2.2]; exact h2, TST.fr hS hP D D' x ds hD2 h3, h4⟩)
    · exact Or.inr (Or.inr (Or.inl ⟨hP a p, (hS a p).1.trans h1, op, x, z, ds, es, h2, by rw [(hS a p).2.2.2.2]; exact h3, by rw [(hS a p).2.2.2.2]; exact h4, by rw [(hS a p).2.2.1]; exact h5, VAL.fr hS hP D D' x ds hD2 h6, VAL.fr hS hP D D' z es hD2 h7, h8⟩))
    · refine Or.inr (Or.inr (Or.inr ⟨l, v, n, f, all, h1.fr hS hP, h2, fun i hi => ?_, h4⟩))
      obtain ⟨e, z1, z2⟩ := h3 i hi
      exact ⟨e, by rw [(hS v h1.1.2.2).2.2.2.2]; exact z1, TST.fr hS hP D D' e (f i) hD2 z2⟩
end Fr
section Ev
variable {g : GC} {M : MM} {o : Nat} {P : Nat → Prop} {env : Nat → Int} {ofn : Nat → Int → Int}
theorem rpn_ch {f : Nat → List Nat} {op : Nat → Nat} {r : Nat → Int} {n : Nat} (ho : ∀ i, 1 ≤ i → i < n → 1 ≤ op i ∧ op i ≤ 4) (hr : ∀ i, i < n → ∀ st, rpn env ofn (f i) st = r i :: st) : ∀ k, k < n → ∀ st, rpn env ofn (chC f op k) st = chV op r k :: st
  | 0, h, st => hr 0 h st
  | k + 1, h, st => by
    show rpn env ofn (chC f op k ++ (f (k + 1) ++ [op (k + 1)])) st = jn (op (k + 1)) (chV op r k) (r (k + 1)) :: st
    obtain ⟨o1, o2⟩ := ho (k + 1) (by omega) h
    rw [rpn_app, rpn_ch ho hr k (by omega), rpn_app, hr (k + 1) h]
    show stp env ofn (op (k + 1)) _ = _
    unfold stp
    rw [if_neg (by omega), if_neg (by omega), if_neg (by omega), if_neg (by omega), if_neg (by omega)]
/-- the value of joined tests: of the first k + 1 -/
def fcC (op : Nat) (r : Nat → Int) : Nat → Int
  | 0 => r 0
  | k + 1 => jn op (fcC op r k) (r (k + 1))
theorem rpn_fc {f : Nat → List Nat} {op : Nat} {r : Nat → Int} {n : Nat} (ho : op = 10 ∨ op = 11) (hr : ∀ i, i < n → ∀ st, rpn env ofn (f i) st = r i :: st) : ∀ k, k < n → ∀ st, rpn env ofn (chC f (fun _ => op) k) st = fcC op r k :: st
  | 0, h, st => hr 0 h st
  | k + 1, h, st => by
    show rpn env ofn (chC f (fun _ => op) k ++ (f (k + 1) ++ [op])) st = jn op (fcC op r k) (r (k + 1)) :: st
    rw [rpn_app, rpn_fc ho hr k (by omega), rpn_app, hr (k + 1) h]
    show stp env ofn op _ = _
    unfold stp
    rw [if_neg (by omega), if_neg (by omega), if_neg (by omega), if_neg (by omega), if_neg (by omega)]
theorem allR_snoc {f : Nat → Bool} : ∀ k i, allR f (k + 1) i = (allR f k i && f (i + k))
  | 0, i => by show (f i && true) = (true && f (i + 0)); simp
  | k + 1, i => by
    show (f i && allR f (k + 1) (i + 1)) = ((f i && allR f k (i + 1)) && f (i + (k + 1)))
    rw [allR_snoc k (i + 1), show i + 1 + k = i + (k + 1) by omega, Bool.and_assoc]
theorem fcC_all {r : Nat → Int} {n : Nat} (hr : ∀ i, i < n → r i = 0 ∨ r i = 1) : ∀ k, k < n → fcC 10 r k = if allR (fun j => decide (r j = 1)) (k + 1) 0 = true then 1 else 0
  | 0, h => by
    show r 0 = if (decide (r 0 = 1) && true) = true then 1 else 0
    rcases hr 0 h with e | e <;> simp [e]
  | k + 1, h => by
    show fcC 10 r k * r (k + 1) = _
    rw [fcC_all hr k (by omega), allR_snoc (k + 1) 0, Nat.zero_add]
    rcases hr (k + 1) h with e | e
    · simp [e]
    · simp [e]
theorem fcC_any {r : Nat → Int} {n : Nat} (hr : ∀ i, i < n → r i = 0 ∨ r i = 1) : ∀ k, k < n → fcC 11 r k = if allR (fun j => decide (r j ≠ 1)) (k + 1) 0 = true then 0 else 1
  | 0, h => by
    show r 0 = if (decide (r 0 ≠ 1) && true) = true then 0 else 1
    rcases hr 0 h with e | e <;> simp [e]
  | k + 1, h => by
    show (if 0 < fcC 11 r k + r (k + 1) then (1 : Int) else 0) = _
    rw [fcC_any hr k (by omega), allR_snoc (k + 1) 0, Nat.zero_add]
    generalize allR (fun j => decide (r j ≠ 1)) (k + 1) 0 = z
    rcases hr (k + 1) h with e | e
    · rw [e]; cases z <;> decide
    · rw [e]; cases z <;> decide
theorem fct_val {all : Bool} {r : Nat → Int} {n : Nat} (hn : 1 ≤ n) (hr : ∀ i, i < n → r i = 0 ∨ r i = 1) : (fcC (if all = true then 10 else 11) r (n - 1) = 0 ∨ fcC (if all = true then 10 else 11) r (n - 1) = 1) ∧ (fcC (if all = true then 10 else 11) r (n - 1) = 1 ↔ fctV all r n 0 = true) := by
  cases all with
  | true =>
    simp only [if_true]
    rw [fcC_all hr (n - 1) (by omega), show n - 1 + 1 = n by omega]
    unfold fctV
    simp only [if_true]
    by_cases e : allR (fun j => decide (r j = 1)) n 0 = true <;> simp [e]
  | false =>
    simp only [Bool.false_eq_true, if_false]
    rw [fcC_any hr (n - 1) (by omega), show n - 1 + 1 = n by omega]
    unfold fctV
    simp only [Bool.false_eq_true, if_false]
    by_cases e : allR (fun j => decide (r j ≠ 1)) n 0 = true <;> simp [e]
theorem ct_X11_atd {a m d : Nat} {v : Int} (hK : mK M a = 31) (hv : mL M a 0 = lI v) : Ct g yX11_at cX11_at 2 (some .long) d 0 0 [.ref a, .ref m] M (PQ M (.long (lI v))) noX := by
  refine Ct.of (by decide) (Nat.le_of_ble_eq_true rfl) rfl ?_
  refine r_ald0 (pc := 0) dX11_at_0 ?_
  refine r_getL (pc := 1) dX11_at_1 fl_X11_7 hK ?_
  rw [hv]
  refine r_lret (pc := 4) dX11_at_4 ?_
  exact ⟨rfl, rfl⟩
theorem ct_X12_atd {a m w k d : Nat} (hg : GX g) (h10 : 10 ≤ d) (hK : mK M a = 32) (hk : mI M a 0 = nI k) (hk11 : k < 11) (hm : MoX M m w env) : Ct g yX12_at cX12_at 2 (some .long) d 0 0 [.ref a, .ref m] M (PQ M (.long (lI (clip (env k))))) noX := by
  obtain ⟨m1, m2, m3, m4, m5⟩ := hm
  obtain ⟨e1, e2⟩ := m5 k hk11
  refine Ct.of (by decide) (Nat.le_of_ble_eq_true rfl) rfl ?_
  refine r_ald1 (pc := 0) dX12_at_0 ?_
  refine r_getRN (pc := 1) dX12_at_1 (fn_X12_13 hg) m1 m2 ?_
  refine r_ald0 (pc := 4) dX12_at_4 ?_
  refine r_getI (pc := 5) dX12_at_5 fl_X12_7 hK ?_
  rw [hk]
  refine r_lald (pc := 8) dX12_at_8 m3 (by omega) (by omega) ?_
  rw [e1]
  refine r_cSN (pc := 9) dX12_at_9 (csn_X12_19 hg) (ct_X0_held (by obtain ⟨q1, q2⟩ := e2; constructor <;> omega)) rfl rfl (Nat.le_of_ble_eq_true rfl) (by first | decide | omega) ?_
  rintro _ _ ⟨rfl, rfl⟩
  refine r_lret (pc := 12) dX12_at_12 ?_
  exact ⟨rfl, rfl⟩
theorem ct_X17_holdsd {a m d : Nat} : Ct g yX17_holds cX17_holds 2 (some .boolean) d 0 0 [.ref a, .ref m] M (PQ M (.int (zI ((1 : Int) = 1)))) noX := by
  refine Ct.of (by decide) (Nat.le_of_ble_eq_true rfl) rfl ?_
  refine r_iconst (v := nI 1) (pc := 0) dX17_holds_0 (by decide) ?_
  refine r_zret (pc := 1) dX17_holds_1 (by first | rfl | exact zI_nar | assumption) ?_
  exact ⟨by rw [zI_t rfl]; rfl, rfl⟩
/-- what X0.looked must tell where it is asked -/
def LKD (g : GC) (M : MM) (o : Nat) (ofn : Nat → Int → Int) (cs : List Nat) : Prop := ∀ k, 60 + k ∈ cs → k < 2 → ∀ r, b6 r → b62 (ofn k r) ∧ mK M o = 20 ∧ ∀ d, 10 ≤ d → Ct g yX0_looked cX0_looked 4 (some .long) d 0 0 [.ref o, .int (nI k), .long (lI r)] M (PQ M (.long (lI (ofn k r)))) noX
theorem LKD.sub {cs ds : List Nat} (h : LKD g M o ofn cs) (hs : ∀ c, c ∈ ds → c ∈ cs) : LKD g M o ofn ds := fun k hk => h k (hs _ hk)
/-- a value tells what its codes tell -/
theorem VAL.at {m w : Nat} (hg : GX g) (hz : NSq g "jdk/internal/util/Preconditions" "SIOOBE_FORMATTER" "Ljava/util/function/BiFunction;") (hm : MoX M m w env) : ∀ D a cs, LKD g M o ofn cs → VAL M o P D a cs → ∃ r, b6 r ∧ (∀ st, rpn env ofn cs st = r :: st) ∧ ∀ d, 10 * D + 10 ≤ d → AT g M d a m (.long (lI r))
  | 0, _, _, _, h => h.elim
  | D + 1, a, cs, hl, h => by
    rcases h with ⟨p, h1, v, h2, h3, h4⟩ | ⟨p, h1, k, h2, h3, h4⟩ | ⟨p, h1, h2, k, x, ds, h3, h4, h5, h6, h7⟩ | ⟨p, h1, most, x, z, ds, es, h2, h3, h4, h5, h6, h7⟩ | ⟨l, v, b, w', n, f, op, h1, h2, h3, h4⟩
    · refine ⟨(v : Int), ⟨by omega, by omega⟩, fun st => ?_, fun d hd => Or.inr (Or.inr (Or.inl ⟨h1, ct_X11_atd h1 h3⟩))⟩
      subst h4
      show stp env ofn (1000 + v) st = _
      unfold stp
      rw [if_pos (by omega)]
      congr 1
      omega
    · refine ⟨clip (env k), clip_b6 _, fun st => ?_, fun d hd => Or.inr (Or.inr (Or.inr (Or.inl ⟨h1, ct_X12_atd hg (by omega) h1 h3 h2 hm⟩)))⟩
      subst h4
      show stp env ofn (40 + k) st = _
      unfold stp
      rw [if_neg (by omega), if_neg (by omega), if_pos (by omega), show 40 + k - 40 = k by omega]
    · subst h7
      obtain ⟨r, r1, r2, r3⟩ := VAL.at hg hz hm D x ds (hl.sub fun c hc => List.mem_append_left _ hc) h6
      obtain ⟨l1, l2, l3⟩ := hl k (List.mem_append_right _ (List.mem_singleton.mpr rfl)) h3 r r1
      refine ⟨clip (ofn k r), clip_b6 _, fun st => ?_, fun d hd => ?_⟩
      · rw [rpn_app, r2]
        show stp env ofn (60 + k) (r :: st) = _
        unfold stp
        rw [if_neg (by omega), if_pos (by omega), show 60 + k - 60 = k by omega]
      · obtain ⟨e, rfl⟩ : ∃ e, d = e + 4 := ⟨d - 4, by omega⟩
        exact Or.inr (Or.inr (Or.inr (Or.inr ⟨h1, ct_X13_at hg h1 h4 h5 h2 l2 (r3 e (by omega)) (l3 e (by omega)) l1⟩)))
    · subst h7
      obtain ⟨r, r1, r2, r3⟩ := VAL.at hg hz hm D x ds (hl.sub fun c hc => List.mem_append_left _ hc) h5
      obtain ⟨t, t1, t2, t3⟩ := VAL.at hg hz hm D z es (hl.sub fun c hc => List.mem_append_right _ (List.mem_append_left _ hc)) h6
      refine ⟨jn (if most = true then 6 else 5) r t, jn_num (by cases most <;> decide) r1 t1, fun st => ?_, fun d hd => ?_⟩
      · rw [rpn_app, r2, rpn_app, t2]
        cases most <;> rfl
      · obtain ⟨e, rfl⟩ : ∃ e, d = e + 1 := ⟨d - 1, by omega⟩
        exact Or.inr (Or.inl ⟨h1, ct_X10_at hg h1 h2 h3 h4 (r3 e (by omega)) (t3 e (by omega)) r1 t1⟩)
    · subst h4
      have hx : ∀ i, ∃ r, i < n → ∃ e, mR M v i = some e ∧ b6 r ∧ (∀ st, rpn env ofn (f i) st = r :: st) ∧ ∀ d, 10 * D + 10 ≤ d → AT g M d e m (.long (lI r)) := by
        intro i
        by_cases hi : i < n
        · obtain ⟨e, z1, z2⟩ := h3 i hi
          obtain ⟨r, r1, r2, r3⟩ := VAL.at hg hz hm D e (f i) (hl.sub fun c hc => chC_mem (n - 1) i (by omega) hc) z2
          exact ⟨r, fun _ => ⟨e, z1, r1, r2, r3⟩⟩
        · exact ⟨0, fun q => absurd q hi⟩
      obtain ⟨r, hr⟩ := Classical.axiomOfChoice hx
      obtain ⟨-, c1, c2, c3, c4, c5, c6⟩ := h1
      refine ⟨chV op r (n - 1), chV_b6 (n := n) (fun i p q => ⟨(c6 i p q).1, (c6 i p q).2.1⟩) (fun i hi => by obtain ⟨_, -, q, -⟩ := hr i hi; exact q) (n - 1) (by omega), fun st => rpn_ch (n := n) (fun i p q => ⟨(c6 i p q).1, (c6 i p q).2.1⟩) (fun i hi => by obtain ⟨_, -, -, q, -⟩ := hr i hi; exact q) (n - 1) (by omega) st, fun d hd => ?_⟩
      obtain ⟨e, rfl⟩ : ∃ e, d = e + 8 := ⟨d - 8, by omega⟩
      exact Or.inl ⟨c1, ct_X9_at hg hz c1 c2 c3 c4 c5 h2 c6 (fun i hi => by obtain ⟨e', q1, q2, q3, q4⟩ := hr i hi; exact ⟨e', q1, q4 e (by omega), q2⟩)⟩
theorem TST.ho {m w : Nat} (hg : GX g) (hz : NSq g "jdk/internal/util/Preconditions" "SIOOBE_FORMATTER" "Ljava/util/function/BiFunction;") (hm : MoX M m w env) : ∀ D a cs, LKD g M o ofn cs → TST M o P D a cs → ∃ r : Int, (r = 0 ∨ r = 1) ∧ (∀ st, rpn env ofn cs st = r :: st) ∧ ∀ d, 10 * D + 20 ≤ d → HO g M d a m (.int (zI (r = 1)))
  | 0, _, _, _, h => h.elim
  | D + 1, a, cs, hl, h => by
    rcases h with ⟨p, h1, h2⟩ | ⟨p, h1, x, ds, h2, h3, h4⟩ | ⟨p, h1, op, x, z, ds, es, h2, h3, h4, h5, h6, h7, h8⟩ | ⟨l, v, n, f, all, h1, h2, h3, h4⟩
    · subst h2
      exact ⟨1, Or.inr rfl, fun st => rfl, fun d hd => Or.inr (Or.inr (Or.inl ⟨h1, ct_X17_holdsd⟩))⟩
    · subst h4
      obtain ⟨r, r1, r2, r3⟩ := TST.ho hg hz hm D x ds (hl.sub fun c hc => List.mem_append_left _ hc) h3
      refine ⟨1 - r, by omega, fun st => ?_, fun d hd => ?_⟩
      · rw [rpn_app, r2]; rfl
      · obtain ⟨e, rfl⟩ : ∃ e, d = e + 1 := ⟨d - 1, by omega⟩
        have := ct_X16_holds hg h1 h2 (r3 e (by omega))
        rw [zI_congr (show (¬ r = 1) ↔ (1 - r = 1) by omega)] at this
        exact Or.inr (Or.inl ⟨h1, this⟩)
    · subst h8
      obtain ⟨r, r1, r2, r3⟩ := VAL.at hg hz hm D x ds (hl.sub fun c hc => List.mem_append_left _ hc) h6
      obtain ⟨t, t1, t2, t3⟩ := VAL.at hg hz hm D z es (hl.sub fun c hc => List.mem_append_right _ (List.mem_append_left _ hc)) h7
      refine ⟨jn op r t, jn_cmp (by omega), fun st => ?_, fun d hd => ?_⟩
      · rw [rpn_app, r2, rpn_app, t2]
        rcases h2 with rfl | rfl | rfl <;> rfl
      · obtain ⟨e, rfl⟩ : ∃ e, d = e + 1 := ⟨d - 1, by omega⟩
        exact Or.inr (Or.inr (Or.inr ⟨h1, ct_X18_holds hg h2 h1 h3 h4 h5 (r3 e (by omega)) (t3 e (by omega)) r1 t1⟩))
    · subst h4
      have hx : ∀ i, ∃ r : Int, i < n → ∃ e, mR M v i = some e ∧ (r = 0 ∨ r = 1) ∧ (∀ st, rpn env ofn (f i) st = r :: st) ∧ ∀ d, 10 * D + 20 ≤ d → HO g M d e m (.int (zI (r = 1))) := by
        intro i
        by_cases hi : i < n
        · obtain ⟨e, z1, z2⟩ := h3 i hi
          obtain ⟨r, r1, r2, r3⟩ := TST.ho hg hz hm D e (f i) (hl.sub fun c hc => chC_mem (n - 1) i (by omega) hc) z2
          exact ⟨r, fun _ => ⟨e, z1, r1, r2, r3⟩⟩
        · exact ⟨0, fun q => absurd q hi⟩
      obtain ⟨r, hr⟩ := Classical.axiomOfChoice hx
      obtain ⟨-, c1, c2, c3, c4⟩ := h1
      have hv := fct_val (all := all) (r := r) (n := n) h2 (fun i hi => by obtain ⟨_, -, q, -⟩ := hr i hi; exact q)
      refine ⟨fcC (if all = true then 10 else 11) r (n - 1), hv.1, fun st => rpn_fc (n := n) (by cases all <;> simp) (fun i hi => by obtain ⟨_, -, -, q, -⟩ := hr i hi; exact q) (n - 1) (by omega) st, fun d hd => ?_⟩
      obtain ⟨e, rfl⟩ : ∃ e, d = e + 6 := ⟨d - 6, by omega⟩
      rw [zI_congr hv.2]
      exact Or.inl ⟨c1, ct_X15_holds hg c1 c2 c3 c4 (fun i hi => by obtain ⟨e', q1, q2, q3, q4⟩ := hr i hi; exact ⟨e', q1, q4 e (by omega)⟩)⟩
end Ev
