set_option maxRecDepth 100000
/-! THE BOUNDS STAY: every act leaves the whole within its bounds -/
section X106
variable {q : Sg}
theorem GI.rf {i : Nat} (h : GI q) : GI (uRf q i) := h
theorem GI.ft {x : Nat × Option Nat} (h : GI q) : GI (uFt q x) := h
theorem GI.tp {f : Nat → Nat} {n : Nat} (h : GI q) (hn : n ≤ 1600) (hf : ∀ j, f j < 256) : GI (uTp q f n) := ⟨hn, hf, h.2.2⟩
theorem GI.nw {x : St × List Ev} (h : GI q) (hx : SO (gT q) x) : GI (uNw q x) := by
  obtain ⟨h1, h2, h3, h4, h5, h6, h7⟩ := h
  exact ⟨h1, h2, h3, h4, h5, hx, h7⟩
theorem GI.un {x : List (St × List Ev)} (h : GI q) (hx : ∀ e ∈ x, SO (gT q) e) (hl : x.length ≤ 20) : GI (uUn q x) := by
  obtain ⟨h1, h2, h3, h4, h5, h6, h7, h8, h9⟩ := h
  exact ⟨h1, h2, h3, h4, h5, h6, hx, hl, h9⟩
theorem GI.rw {x : List Ev} (h : GI q) (hl : x.length ≤ 16) (hx : ∀ e ∈ x, e.1 ≤ 30 ∧ e.2.1 < tn (gT q) ∧ e.2.2 ≤ 99) : GI (uRw q x) := by
  obtain ⟨h1, h2, h3, h4, h5, h6, h7, h8, h9, h10, h11⟩ := h
  exact ⟨h1, h2, h3, h4, h5, h6, h7, h8, hl, hx, h11⟩
theorem GI.sd {x : Nat} (h : GI q) (hx : x < 2147483648) : GI (uSd q x) := by
  obtain ⟨h1, h2, h3, h4, h5, h6, h7, h8, h9, h10, h11, h12⟩ := h
  exact ⟨h1, h2, h3, h4, h5, h6, h7, h8, h9, h10, hx, h12⟩
theorem GI.ou {x : List Nat} (h : GI q) (hl : x.length ≤ 83) (hx : ∀ v ∈ x, v < 256) : GI (uOu q x) := by
  obtain ⟨h1, h2, h3, h4, h5, h6, h7, h8, h9, h10, h11, h12, h13, h14⟩ := h
  exact ⟨h1, h2, h3, h4, h5, h6, h7, h8, h9, h10, h11, hl, hx, h14⟩
theorem GI.so (h : GI q) : SO (gT q) (gS q, gK q) := h.2.2.2.2.2.1
theorem GI.keep (h : GI q) : GI (keepU q) := h.un (fun e he => by
  rcases List.mem_cons.mp (List.mem_of_mem_take he) with e1 | e1
  · rw [e1]; exact h.so
  · exact h.2.2.2.2.2.2.1 e e1) (by rw [List.length_take]; omega)
theorem GI_end {x : Int32} (h : GI q) : GI (endS q x).2 := by
  unfold endS
  split
  · exact h.rf
  · next e => exact h.tp (by have := h.1; show x.toInt.toNat ≤ 1600; omega) h.2.1
theorem bytN_lt (w : Int32) (j : Nat) : bytN w j < 256 := Nat.mod_lt _ (by decide)
theorem GI_feed {a b c d e : Int32} (h : GI q) : GI (feedS q a b c d e).2 := by
  unfold feedS
  split
  · exact h.rf
  · next he =>
    refine h.tp (by show gTd q + 20 ≤ 1600; omega) (fun j => ?_)
    by_cases hj : gTd q ≤ j ∧ j < gTd q + 20
    · rw [if_pos hj]; exact bytN_lt _ _
    · rw [if_neg hj]; exact h.2.1 j
theorem GI_undo (h : GI q) : GI (undoS q).2 := by
  unfold undoS
  split
  · exact h.rf
  · next x xs he =>
    have hl := h.2.2.2.2.2.2.2.1
    have hm := h.2.2.2.2.2.2.1
    rw [he] at hl hm
    have h1 : GI (uNw q x) := h.nw (hm x (List.mem_cons_self ..))
    exact h1.un (fun e he' => hm e (List.mem_cons_of_mem _ he')) (by simp at hl; omega)
theorem sHs_hs {t : St} {n p v H : Nat} (h : ∀ r, r < n → hs t r < H) (hv : v < H) : ∀ r, r < n → hs (sHs t p v) r < H := fun r hr => by
  show va_up (hs t) p v r < H
  unfold va_up; split
  · exact hv
  · exact h r hr
theorem changesS_hs {t : St} {n a b H : Nat} (h : ∀ r, r < n → hs t r < H) (ha : a < H) (hb : b < H) : ∀ r, r < n → hs (changesS n t a b) r < H := by
  unfold changesS; split
  · exact sHs_hs (sHs_hs h hb) ha
  · exact sHs_hs h hb
  · exact sHs_hs h ha
  · exact h
theorem GI_change {x y : Int32} (h : GI q) : GI (changeQ q x y).2 := by
  unfold changeQ
  split
  · next a b ha hb =>
    split
    · exact h.rf
    · have hH := h.2.2.1.2.1
      have ha' := (pidx_some ha).1
      have hb' := (pidx_some hb).1
      obtain ⟨o1, o2, o3, o4⟩ := h.so
      exact h.keep.nw ⟨changesS_SB o1 (by omega) (by omega), by show yr (changesS _ _ _ _) ≤ 999; rw [changesS_yr]; exact o2, changesS_hs o3 ha' hb', o4⟩
  · exact h.rf
theorem GI_right {x : Int32} (h : GI q) : GI (rightQ q x).2 := by
  unfold rightQ
  split
  · exact h.rf
  · next p hp =>
    split
    · exact h.rf
    · have hf := (h.2.2.1.2.2.1 p (pidx_some hp).1).1
      obtain ⟨o1, o2, o3, o4⟩ := h.so
      exact h.keep.nw ⟨sLk_SB o1 (by omega), o2, o3, o4⟩
theorem sSp_SB {t : St} {n p v : Nat} (h : SB n t) (hv : v ≤ 1) : SB n (sSp t p v) := ⟨h.1, fun r hr => ⟨(h.2 r hr).1, (h.2 r hr).2.1, by
  show va_up (sp t) p v r ≤ 1
  unfold va_up; split
  · exact hv
  · exact (h.2 r hr).2.2.1, (h.2 r hr).2.2.2⟩⟩
theorem GI_spare {x y : Int32} (h : GI q) : GI (spareQ q x y).2 := by
  unfold spareQ
  split
  · next p v hp hv =>
    split
    · exact h.rf
    · have hv' := (pidx_some hv).1
      obtain ⟨o1, o2, o3, o4⟩ := h.so
      exact h.keep.nw ⟨sSp_SB o1 (by omega), o2, o3, o4⟩
  · exact h.rf
theorem houseS_hs {T : Te} {t : St} {h : Nat} : hs (houseS T t h).1 = hs t := by
  unfold houseS
  split
  · rfl
  · show hs (strokeS T _ _ 1).1 = _
    rw [strokeS_hs, strokeS_hs]
theorem housesS_hs {T : Te} : ∀ (k : Nat) (t : St) (h : Nat), hs (housesS T k t h).1 = hs t
  | 0, _, _ => rfl
  | k + 1, t, h => (housesS_hs k _ _).trans houseS_hs
theorem yearS_hs {T : Te} {t : St} : hs (yearS T t).1 = hs t := by
  show hs (housesS T (tH T) t 0).1 = _
  rw [housesS_hs]
theorem yearsS_hs : ∀ (k : Nat) (T : Te) (t : St), hs (yearsS T k t).1 = hs t
  | 0, _, _ => rfl
  | k + 1, T, t => by rw [yearsS_succ, yearS_hs, yearsS_hs k T t]
theorem pushes_le40 : ∀ (es K : List Ev), K.length ≤ 40 → (pushes K es).length ≤ 40
  | [], _, h => h
  | _ :: es, _, h => pushes_le40 es _ (pushK_le h)
theorem GI_years {x : Int32} (h : GI q) : GI (yearsQ q x).2 := by
  unfold yearsQ
  split
  · split
    · exact h.rf
    · next n hn =>
      obtain ⟨-, -, hy, -⟩ := ahd_some hn
      obtain ⟨o1, o2, o3, o4⟩ := h.so
      exact h.keep.nw ⟨yearsS_SB n _ _ o1 (by omega), (by show yr (yearsS _ n (gS q)).1 ≤ 999; rw [yearsS_yr]; exact hy), (by show ∀ p, _ → hs (yearsS _ n (gS q)).1 p < _; rw [yearsS_hs]; exact o3), pushes_le40 _ _ o4⟩
  · exact h.rf
theorem slipS_ok {T : Te} {x : St × List Ev × Nat × Nat} {H : Nat} (h1 : SB (tn T) x.1) (h2 : yr x.1 < 2000) (h3 : ∀ p, p < tn T → hs x.1 p < H) (h4 : x.2.1.length ≤ 40) : SB (tn T) (slipS T x).1 ∧ yr (slipS T x).1 = yr x.1 + 1 ∧ (∀ p, p < tn T → hs (slipS T x).1 p < H) ∧ (slipS T x).2.1.length ≤ 40 ∧ (slipS T x).2.2.1 < 2147483648 := by
  unfold slipS
  split
  · have hm : lcg (lcg (lcg x.2.2.1)) / 64 % 100 < 100 := Nat.mod_lt _ (by decide)
    refine ⟨yearS_SB (sLk_SB h1 (by omega)) h2, yearS_yr, ?_, pushes_le40 _ _ h4, lcg_lt _⟩
    show ∀ p, _ → hs (yearS T _).1 p < _
    rw [yearS_hs]; exact h3
  · refine ⟨yearS_SB h1 h2, yearS_yr, ?_, pushes_le40 _ _ h4, lcg_lt _⟩
    show ∀ p, _ → hs (yearS T _).1 p < _
    rw [yearS_hs]; exact h3
theorem slipsS_ok {T : Te} {H : Nat} : ∀ (k : Nat) (x : St × List Ev × Nat × Nat), SB (tn T) x.1 → yr x.1 + k ≤ 999 → (∀ p, p < tn T → hs x.1 p < H) → x.2.1.length ≤ 40 → x.2.2.1 < 2147483648 → SB (tn T) (slipsS T k x).1 ∧ yr (slipsS T k x).1 ≤ 999 ∧ (∀ p, p < tn T → hs (slipsS T k x).1 p < H) ∧ (slipsS T k x).2.1.length ≤ 40 ∧ (slipsS T k x).2.2.1 < 2147483648
  | 0, _, h1, h2, h3, h4, h5 => ⟨h1, h2, h3, h4, h5⟩
  | k + 1, x, h1, h2, h3, h4, h5 => by
    obtain ⟨g1, g2, g3, g4, g5⟩ := slipS_ok (H := H) h1 (by omega) h3 h4
    exact slipsS_ok k (slipS T x) g1 (by omega) g3 g4 g5
theorem GI_chance {x : Int32} (h : GI q) : GI (chanceQ q x).2 := by
  unfold chanceQ
  split
  · split
    · exact h.rf
    · next n hn =>
      obtain ⟨-, -, hy, -⟩ := ahd_some hn
      obtain ⟨o1, o2, o3, o4⟩ := h.so
      obtain ⟨g1, g2, g3, g4, g5⟩ := slipsS_ok (T := gT q) (H := tH (gT q)) n (gS q, gK q, gSd q, 0) o1 hy o3 o4 h.2.2.2.2.2.2.2.2.2.2.1
      have h1 : GI (uNw (keepU q) ((slipsS (gT q) n (gS q, gK q, gSd q, 0)).1, (slipsS (gT q) n (gS q, gK q, gSd q, 0)).2.1)) := h.keep.nw ⟨g1, g2, g3, g4⟩
      exact h1.sd g5
  · exact h.rf
theorem GI_see (h : GI q) : GI (seeQ q).2 := by
  unfold seeQ
  split
  · next e =>
    obtain ⟨-, -, e3, e4⟩ := e
    refine h.take.rw (by rw [rowsOf_len]; exact e3) (fun z hz => ?_)
    have := List.all_eq_true.mp e4 z hz
    unfold okRow at this
    simp only [Bool.and_eq_true, decide_eq_true_eq] at this
    exact ⟨this.1.1, this.1.2, this.2⟩
  · exact h.take.rf
theorem GI_image (h : GI q) : GI (imageQ q).2 := by
  obtain ⟨o1, o2, o3, o4⟩ := h.so
  have hn := h.2.2.1.1
  refine h.ou ?_ (fun v hv => ?_)
  · unfold outL
    rw [List.length_append, imgL_len _ _ _ (Nat.le_refl _)]
    show 2 + tn (gT q) * (2 + tn (gT q)) + 1 ≤ 83
    have : tn (gT q) * (2 + tn (gT q)) ≤ 8 * 10 := Nat.mul_le_mul hn (by omega)
    omega
  · rcases List.mem_append.mp hv with e | e
    · exact imgL_lt o1 o2 _ (Nat.le_refl _) v e
    · rw [List.mem_singleton.mp e]
      exact Nat.lt_trans (chkF_lt _ _) (by decide)
theorem GI_ask (h : GI q) : GI (askQ q).2 := by
  unfold askQ
  split
  · split
    · exact h.take.ft
    · exact h.take.ft
  · exact h.take
theorem GI_seed {x : Int32} (h : GI q) : GI (seedS q x).2 := by
  unfold seedS
  split
  · exact h.rf
  · refine h.sd ?_
    have := x.toInt_lt
    show x.toInt.toNat < 2147483648
    omega
theorem GI_on (h : GI q) : GI (onQ q).2 := by
  unfold onQ
  split
  · next e =>
    unfold imgOk at e
    simp only [Bool.and_eq_true, decide_eq_true_eq] at e
    obtain ⟨⟨⟨⟨e1, e2⟩, e3⟩, e4⟩, e5⟩ := e
    have hH := h.2.2.1.2.1
    have hn := h.2.2.1.1
    have hp : ∀ p, p < tn (gT q) → gTp q (2 + (2 + tn (gT q)) * p) < tH (gT q) ∧ gTp q (2 + (2 + tn (gT q)) * p + 1) ≤ 99 ∧ gTp q (2 + (2 + tn (gT q)) * p + 2) ≤ 1 ∧ ∀ i, 3 ≤ i → i < 3 + (tn (gT q) - 1) → gTp q (2 + (2 + tn (gT q)) * p + i) ≤ 9 := fun p hp => by
      have := allR_iff.mp e5 p (Nat.zero_le _) (by omega)
      unfold pTold at this
      simp only [Bool.and_eq_true, decide_eq_true_eq] at this
      exact ⟨this.1.1.1.1, this.1.1.1.2, this.1.1.2, fun i h1 h2 => by have := allR_iff.mp this.1.2 i h1 h2; simpa using this⟩
    obtain ⟨o1, o2, o3, o4⟩ := h.so
    have h1 : GI (uNw (uTp q (gTp q) 0) (onT (gTp q) (tn (gT q)) (gS q), [])) := by
      refine h.take.nw ⟨⟨(show 256 * gTp q 0 + gTp q 1 ≤ 2000 by omega), fun p hp' => ?_⟩, e4, fun p hp' => (hp p hp').1, Nat.zero_le _⟩
      obtain ⟨g1, g2, g3, g4⟩ := hp p hp'
      refine ⟨Nat.lt_of_lt_of_le g1 hH, g2, g3, fun k hk => ?_⟩
      show (if k = p then th (gS q) p p else gTp q (2 + (2 + tn (gT q)) * p + 3 + (if k < p then k else k - 1))) ≤ 9
      have hk' : k < tn (gT q) := hk
      have hp'' : p < tn (gT q) := hp'
      by_cases hkp : k = p
      · rw [if_pos hkp]; exact (o1.2 p hp').2.2.2 p hp'
      · rw [if_neg hkp, Nat.add_assoc]
        refine g4 _ (by omega) ?_
        by_cases hl : k < p
        · rw [if_pos hl]; omega
        · rw [if_neg hl]; omega
    exact h1.un (fun e he => nomatch he) (Nat.zero_le _)
  · exact h.take.rf
theorem stmtsP_VT {f : Nat → Nat} {n : Nat} (hn : n ≤ 1600) : ∀ (k : Nat) (T : To) (m a : Nat) (y : To × Nat), VT T → stmtsP f n k T m a = .ok y → VT y.1
  | 0, T, m, a, y, hV, h => by cases h; exact hV
  | k + 1, T, m, a, y, hV, h => by
    unfold stmtsP at h
    split at h
    · cases h; exact hV
    · obtain ⟨z, hz, h⟩ := bnd_some h
      exact stmtsP_VT hn k _ _ _ y (stmtP_ok hn hV hz).1 h
theorem allP_VT {f : Nat → Nat} {n : Nat} {y : To × Nat} (hn : n ≤ 1600) (h : allP f n = .ok y) : VT y.1 := by
  obtain ⟨z, hz, h⟩ := bnd_some h
  obtain ⟨a, -, hz⟩ := bnd_some hz
  obtain ⟨w, hw, hz⟩ := bnd_some hz
  obtain ⟨b, -, hz⟩ := bnd_some hz
  cases hz
  have := numP_ok hw
  exact stmtsP_VT hn _ _ _ _ y (VT0 ⟨this.2.2.2.1, this.2.2.2.2⟩) h
theorem GI_terrace (h : GI q) : GI (terraceQ q).2 := by
  unfold terraceQ
  split
  · exact h.take.rf.ft
  · next y hy =>
    have hV := allP_VT h.1 hy
    have ⟨v1, v2, v3, v4, v5, v6, v7⟩ := hV
    have hok : ∀ p, p < (oS y.1).length → okSo (oH y.1) (sAt y.1 p) := fun p hp => sAt_ok hV hp
    obtain ⟨h1, h2, h3, h4, h5, h6, h7, h8, h9, h10, h11, h12, h13, h14⟩ := h
    refine ⟨Nat.zero_le _, h2, TB_te hV, (fun e => by cases e), fun _ => v1, ⟨⟨Nat.zero_le _, fun p hp => ?_⟩, Nat.zero_le _, fun p hp => (hok p hp).2.2.2.1, Nat.zero_le _⟩, (fun x hx => nomatch hx), Nat.zero_le _, Nat.zero_le _, (fun e he => nomatch he), h11, h12, h13, fun p hp => ⟨(hok p hp).2.1, (hok p hp).1, (hok p hp).2.2.1⟩⟩
    have g := hok p hp
    refine ⟨Nat.lt_of_lt_of_le g.2.2.2.1 v2, ?_, Nat.zero_le _, fun r _ => v5 p r⟩
    show 10 * (sAt y.1 p).2.2.1 ≤ 99
    have := g.2.2.2.2.1
    omega
end X106
