set_option maxRecDepth 100000
/-! THE OTHER SIDE: lemmas by offset; its fixed references -/
theorem ow_0 : ow 0 := by unfold ow; omega
theorem kd_0 : kd 0 = 20 := by decide
theorem ln_0 : ln 0 = 0 := by decide
theorem ow_4 : ow 4 := by unfold ow; omega
theorem kd_4 : kd 4 = 3 := by decide
theorem ln_4 : ln 4 = 1600 := by decide
theorem ow_5 : ow 5 := by unfold ow; omega
theorem kd_5 : kd 5 = 22 := by decide
theorem ln_5 : ln 5 = 0 := by decide
theorem ow_6 : ow 6 := by unfold ow; omega
theorem kd_6 : kd 6 = 23 := by decide
theorem ln_6 : ln 6 = 0 := by decide
theorem ow_7 : ow 7 := by unfold ow; omega
theorem kd_7 : kd 7 = 24 := by decide
theorem ln_7 : ln 7 = 0 := by decide
theorem ow_8 : ow 8 := by unfold ow; omega
theorem kd_8 : kd 8 = 2 := by decide
theorem ln_8 : ln 8 = 11 := by decide
theorem ow_9 : ow 9 := by unfold ow; omega
theorem kd_9 : kd 9 = 24 := by decide
theorem ln_9 : ln 9 = 0 := by decide
theorem ow_10 : ow 10 := by unfold ow; omega
theorem kd_10 : kd 10 = 2 := by decide
theorem ln_10 : ln 10 = 11 := by decide
theorem ow_11 : ow 11 := by unfold ow; omega
theorem kd_11 : kd 11 = 1 := by decide
theorem ln_11 : ln 11 = 6 := by decide
theorem ow_12 : ow 12 := by unfold ow; omega
theorem kd_12 : kd 12 = 25 := by decide
theorem ln_12 : ln 12 = 0 := by decide
theorem ow_68 : ow 68 := by unfold ow; omega
theorem kd_68 : kd 68 = 25 := by decide
theorem ln_68 : ln 68 = 0 := by decide
theorem ow_124 : ow 124 := by unfold ow; omega
theorem kd_124 : kd 124 = 7 := by decide
theorem ln_124 : ln 124 = 256 := by decide
theorem ow_381 : ow 381 := by unfold ow; omega
theorem kd_381 : kd 381 = 1 := by decide
theorem ln_381 : ln 381 = 16 := by decide
theorem ow_382 : ow 382 := by unfold ow; omega
theorem kd_382 : kd 382 = 1 := by decide
theorem ln_382 : ln 382 = 16 := by decide
theorem ow_383 : ow 383 := by unfold ow; omega
theorem kd_383 : kd 383 = 1 := by decide
theorem ln_383 : ln 383 = 16 := by decide
theorem ow_384 : ow 384 := by unfold ow; omega
theorem kd_384 : kd 384 = 7 := by decide
theorem ln_384 : ln 384 = 10 := by decide
theorem ow_395 : ow 395 := by unfold ow; omega
theorem kd_395 : kd 395 = 8 := by decide
theorem ln_395 : ln 395 = 20 := by decide
theorem ow_1516 : ow 1516 := by unfold ow; omega
theorem kd_1516 : kd 1516 = 3 := by decide
theorem ln_1516 : ln 1516 = 83 := by decide
theorem lb_ow {j : Nat} (h : j < 256) : ow (125 + j) := by unfold ow; omega
theorem lb_kd {j : Nat} (h : j < 256) : kd (125 + j) = 1 := by
  unfold kd
  rw [if_neg (by omega), if_neg (by omega), if_neg (by omega), if_neg (by omega), if_neg (by omega), if_neg (by omega), if_neg (by omega), if_neg (by omega), if_neg (by omega), if_neg (by omega), if_pos (by omega)]
theorem lb_ln {j : Nat} (h : j < 256) : ln (125 + j) = 8 := by
  unfold ln
  rw [if_neg (by omega), if_neg (by omega), if_neg (by omega), if_neg (by omega), if_neg (by omega), if_neg (by omega), if_neg (by omega), if_pos (by omega)]
theorem lo_ow {j : Nat} (h : j < 10) : ow (385 + j) := by unfold ow; omega
theorem lo_kd {j : Nat} (h : j < 10) : kd (385 + j) = 1 := by
  unfold kd
  rw [if_neg (by omega), if_neg (by omega), if_neg (by omega), if_neg (by omega), if_neg (by omega), if_neg (by omega), if_neg (by omega), if_neg (by omega), if_neg (by omega), if_neg (by omega), if_neg (by omega), if_neg (by omega), if_pos (by omega)]
theorem lo_ln {j : Nat} (h : j < 10) : ln (385 + j) = 31 := by
  unfold ln
  rw [if_neg (by omega), if_neg (by omega), if_neg (by omega), if_neg (by omega), if_neg (by omega), if_neg (by omega), if_neg (by omega), if_neg (by omega), if_neg (by omega), if_neg (by omega), if_pos (by omega)]
section StO
variable {b j : Nat}
theorem st_ow (h : isS b) : ow b := isS_ow (d := 0) h (by decide)
theorem st_kd (h : isS b) : kd b = 25 := (isS_kd (d := 0) h (by decide)).1
theorem st_ow1 (h : isS b) : ow (b + 1) := isS_ow h (by decide)
theorem st_kd1 (h : isS b) : kd (b + 1) = 1 := (isS_kd h (by decide)).1
theorem st_ln1 (h : isS b) : ln (b + 1) = 8 := (isS_kd h (by decide)).2
theorem st_ow2 (h : isS b) : ow (b + 2) := isS_ow h (by decide)
theorem st_kd2 (h : isS b) : kd (b + 2) = 1 := (isS_kd h (by decide)).1
theorem st_ln2 (h : isS b) : ln (b + 2) = 8 := (isS_kd h (by decide)).2
theorem st_ow3 (h : isS b) : ow (b + 3) := isS_ow h (by decide)
theorem st_kd3 (h : isS b) : kd (b + 3) = 1 := (isS_kd h (by decide)).1
theorem st_ln3 (h : isS b) : ln (b + 3) = 8 := (isS_kd h (by decide)).2
theorem st_ow4 (h : isS b) : ow (b + 4) := isS_ow h (by decide)
theorem st_kd4 (h : isS b) : kd (b + 4) = 1 := (isS_kd h (by decide)).1
theorem st_ln4 (h : isS b) : ln (b + 4) = 8 := (isS_kd h (by decide)).2
theorem st_ow5 (h : isS b) : ow (b + 5) := isS_ow h (by decide)
theorem st_kd5 (h : isS b) : kd (b + 5) = 4 := (isS_kd h (by decide)).1
theorem st_ln5 (h : isS b) : ln (b + 5) = 8 := (isS_kd h (by decide)).2
theorem st_ow6 (h : isS b) : ow (b + 6) := isS_ow h (by decide)
theorem st_kd6 (h : isS b) : kd (b + 6) = 7 := (isS_kd h (by decide)).1
theorem st_ln6 (h : isS b) : ln (b + 6) = 8 := (isS_kd h (by decide)).2
theorem st_ow15 (h : isS b) : ow (b + 15) := isS_ow h (by decide)
theorem st_kd15 (h : isS b) : kd (b + 15) = 7 := (isS_kd h (by decide)).1
theorem st_ln15 (h : isS b) : ln (b + 15) = 40 := (isS_kd h (by decide)).2
theorem th_ow (h : isS b) (hj : j < 8) : ow (b + (7 + j)) := isS_ow h (by omega)
theorem th_kd (h : isS b) (hj : j < 8) : kd (b + (7 + j)) = 1 := by
  rw [(isS_kd h (show 7 + j < 56 by omega)).1]
  unfold stk
  rw [if_neg (by omega), if_neg (by omega), if_neg (by omega), if_neg (by omega), if_pos (by omega)]
theorem th_ln (h : isS b) (hj : j < 8) : ln (b + (7 + j)) = 8 := by
  rw [(isS_kd h (show 7 + j < 56 by omega)).2]
  unfold stl
  rw [if_neg (by omega), if_pos (by omega)]
theorem rw_ow (h : isS b) (hj : j < 40) : ow (b + (16 + j)) := isS_ow h (by omega)
theorem rw_kd (h : isS b) (hj : j < 40) : kd (b + (16 + j)) = 1 := by
  rw [(isS_kd h (show 16 + j < 56 by omega)).1]
  unfold stk
  rw [if_neg (by omega), if_neg (by omega), if_neg (by omega), if_neg (by omega), if_neg (by omega), if_neg (by omega)]
theorem rw_ln (h : isS b) (hj : j < 40) : ln (b + (16 + j)) = 3 := by
  rw [(isS_kd h (show 16 + j < 56 by omega)).2]
  unfold stl
  rw [if_neg (by omega), if_neg (by omega), if_neg (by omega)]
end StO
/-- a state's fixed references -/
def StR (r : Nat → Nat → Option Nat) (o b : Nat) : Prop := r b 3 = some (o + (b + 1)) ∧ r b 4 = some (o + (b + 2)) ∧ r b 5 = some (o + (b + 3)) ∧ r b 6 = some (o + (b + 4)) ∧ r b 7 = some (o + (b + 5)) ∧ r b 8 = some (o + (b + 6)) ∧ r b 9 = some (o + (b + 15)) ∧ r b 10 = some o ∧ ∀ j, j < 8 → r (b + 6) j = some (o + (b + (7 + j)))
/-- the fixed references of the whole -/
def FxX (r : Nat → Nat → Option Nat) (o : Nat) : Prop := (r 0 1 = some (o + 4) ∧ r 0 5 = some (o + 5) ∧ r 0 6 = some (o + 7) ∧ r 0 7 = some (o + 9) ∧ r 0 8 = some (o + 11) ∧ r 0 9 = some (o + 12) ∧ r 0 10 = some (o + 68) ∧ r 0 11 = some (o + 124) ∧ r 0 12 = some (o + 381) ∧ r 0 13 = some (o + 382) ∧ r 0 14 = some (o + 383) ∧ r 0 16 = some (o + 384) ∧ r 0 17 = some (o + 395) ∧ r 0 21 = some (o + 1516)) ∧ (r 5 0 = some (o + 6) ∧ r 5 7 = some o ∧ r 7 0 = some (o + 8) ∧ r 9 0 = some (o + 10)) ∧ (∀ b, isS b → StR r o b) ∧ (∀ j, j < 256 → r 124 j = some (o + (125 + j))) ∧ ∀ j, j < 10 → r 384 j = some (o + (385 + j))
section FxL
variable {r : Nat → Nat → Option Nat} {o b j : Nat}
theorem fx_0_1 (h : FxX r o) : r 0 1 = some (o + 4) := h.1.1
theorem fx_0_5 (h : FxX r o) : r 0 5 = some (o + 5) := h.1.2.1
theorem fx_0_6 (h : FxX r o) : r 0 6 = some (o + 7) := h.1.2.2.1
theorem fx_0_7 (h : FxX r o) : r 0 7 = some (o + 9) := h.1.2.2.2.1
theorem fx_0_8 (h : FxX r o) : r 0 8 = some (o + 11) := h.1.2.2.2.2.1
theorem fx_0_9 (h : FxX r o) : r 0 9 = some (o + 12) := h.1.2.2.2.2.2.1
theorem fx_0_10 (h : FxX r o) : r 0 10 = some (o + 68) := h.1.2.2.2.2.2.2.1
theorem fx_0_11 (h : FxX r o) : r 0 11 = some (o + 124) := h.1.2.2.2.2.2.2.2.1
theorem fx_0_12 (h : FxX r o) : r 0 12 = some (o + 381) := h.1.2.2.2.2.2.2.2.2.1
theorem fx_0_13 (h : FxX r o) : r 0 13 = some (o + 382) := h.1.2.2.2.2.2.2.2.2.2.1
theorem fx_0_14 (h : FxX r o) : r 0 14 = some (o + 383) := h.1.2.2.2.2.2.2.2.2.2.2.1
theorem fx_0_16 (h : FxX r o) : r 0 16 = some (o + 384) := h.1.2.2.2.2.2.2.2.2.2.2.2.1
theorem fx_0_17 (h : FxX r o) : r 0 17 = some (o + 395) := h.1.2.2.2.2.2.2.2.2.2.2.2.2.1
theorem fx_0_21 (h : FxX r o) : r 0 21 = some (o + 1516) := h.1.2.2.2.2.2.2.2.2.2.2.2.2.2
theorem fx_5_0 (h : FxX r o) : r 5 0 = some (o + 6) := h.2.1.1
theorem fx_5_7 (h : FxX r o) : r 5 7 = some o := h.2.1.2.1
theorem fx_7_0 (h : FxX r o) : r 7 0 = some (o + 8) := h.2.1.2.2.1
theorem fx_9_0 (h : FxX r o) : r 9 0 = some (o + 10) := h.2.1.2.2.2
theorem fs_3 (h : FxX r o) (hb : isS b) : r b 3 = some (o + (b + 1)) := (h.2.2.1 b hb).1
theorem fs_4 (h : FxX r o) (hb : isS b) : r b 4 = some (o + (b + 2)) := (h.2.2.1 b hb).2.1
theorem fs_5 (h : FxX r o) (hb : isS b) : r b 5 = some (o + (b + 3)) := (h.2.2.1 b hb).2.2.1
theorem fs_6 (h : FxX r o) (hb : isS b) : r b 6 = some (o + (b + 4)) := (h.2.2.1 b hb).2.2.2.1
theorem fs_7 (h : FxX r o) (hb : isS b) : r b 7 = some (o + (b + 5)) := (h.2.2.1 b hb).2.2.2.2.1
theorem fs_8 (h : FxX r o) (hb : isS b) : r b 8 = some (o + (b + 6)) := (h.2.2.1 b hb).2.2.2.2.2.1
theorem fs_9 (h : FxX r o) (hb : isS b) : r b 9 = some (o + (b + 15)) := (h.2.2.1 b hb).2.2.2.2.2.2.1
theorem fs_10 (h : FxX r o) (hb : isS b) : r b 10 = some o := (h.2.2.1 b hb).2.2.2.2.2.2.2.1
theorem fs_th (h : FxX r o) (hb : isS b) (hj : j < 8) : r (b + 6) j = some (o + (b + (7 + j))) := (h.2.2.1 b hb).2.2.2.2.2.2.2.2 j hj
theorem fx_lb (h : FxX r o) (hj : j < 256) : r 124 j = some (o + (125 + j)) := h.2.2.2.1 j hj
theorem fx_lo (h : FxX r o) (hj : j < 10) : r 384 j = some (o + (385 + j)) := h.2.2.2.2 j hj
theorem isS_12 : isS 12 := Or.inl rfl
theorem isS_68 : isS 68 := Or.inr (Or.inl rfl)
theorem isS_kp {k : Nat} (h : k < 20) : isS (396 + 56 * k) := Or.inr (Or.inr ⟨k, h, rfl⟩)
end FxL
/-- where a reference of a state's rows leads: rows are turned round, never lost -/
def pmX (r : Nat → Nat → Option Nat) (o b : Nat) (pm : Nat → Nat) : Prop := (∀ j, j < 40 → pm j < 40 ∧ r (b + 15) j = some (o + (b + (16 + pm j)))) ∧ ∀ i j, i < 40 → j < 40 → pm i = pm j → i = j
def pkX (r : Nat → Nat → Option Nat) (o : Nat) (pk : Nat → Nat) : Prop := (∀ j, j < 20 → pk j < 20 ∧ r 395 j = some (o + (396 + 56 * pk j))) ∧ ∀ i j, i < 20 → j < 20 → pk i = pk j → i = j
/-- a state at b: n people with faces and kindness, the state t; rows that are kept -/
def SX (s : XS) (b n : Nat) (F K : Nat → Nat) (t : St) : Prop := iX s b 0 = nI (yr t) ∧ iX s b 1 = nI n ∧ (∀ p, p < n → iX s (b + 1) p = nI (hs t p)) ∧ (∀ p, p < n → iX s (b + 2) p = nI (lk t p)) ∧ (∀ p, p < n → iX s (b + 3) p = nI (F p)) ∧ (∀ p, p < n → iX s (b + 4) p = nI (K p)) ∧ (∀ p, p < n → iX s (b + 5) p = zI (sp t p = 1)) ∧ ∀ p, p < n → ∀ q, q < n → iX s (b + (7 + p)) q = nI (th t p q)
def RX (s : XS) (o b : Nat) (L : List Ev) : Prop := ∃ pm, pmX (rX s) o b pm ∧ iX s b 2 = nI L.length ∧ L.length ≤ 40 ∧ ∀ i a c e, L[i]? = some (a, c, e) → iX s (b + (16 + pm i)) 0 = nI a ∧ iX s (b + (16 + pm i)) 1 = nI c ∧ iX s (b + (16 + pm i)) 2 = nI e
def QX (M : MM) (o : Nat) (Q : Option Value → XS → Prop) : Option Value → MM → Prop := fun v M' => ∃ s', M' = putX M o s' ∧ Q v s'
/-- what changed at most: offsets in P -/
def FrX (P : Nat → Prop) (s s' : XS) : Prop := (∀ c, ¬ P c → iX s' c = iX s c) ∧ (∀ c, ¬ P c → lX s' c = lX s c) ∧ ∀ c, ¬ P c → rX s' c = rX s c
section FrX
variable {P P' : Nat → Prop} {s s1 s2 : XS}
theorem FrX.rf : FrX P s s := ⟨fun _ _ => rfl, fun _ _ => rfl, fun _ _ => rfl⟩
theorem FrX.trans (h : FrX P s s1) (h' : FrX P s1 s2) : FrX P s s2 := ⟨fun c hc => (h'.1 c hc).trans (h.1 c hc), fun c hc => (h'.2.1 c hc).trans (h.2.1 c hc), fun c hc => (h'.2.2 c hc).trans (h.2.2 c hc)⟩
theorem FrX.mono (h : FrX P s s1) (hp : ∀ c, P c → P' c) : FrX P' s s1 := ⟨fun c hc => h.1 c (fun q => hc (hp c q)), fun c hc => h.2.1 c (fun q => hc (hp c q)), fun c hc => h.2.2 c (fun q => hc (hp c q))⟩
theorem FrX.uI {c j : Nat} {v : Int32} (h : FrX P s s1) (hc : P c) : FrX P s (uI s1 c j v) := ⟨fun a ha => by funext b; rw [iX_c (fun q => ha (by rw [q]; exact hc)), h.1 a ha], h.2.1, h.2.2⟩
theorem FrX.uL {c j : Nat} {v : Int64} (h : FrX P s s1) (hc : P c) : FrX P s (uL s1 c j v) := ⟨h.1, fun a ha => by funext b; rw [lX_uL, if_neg (fun q => ha (by rw [q.1]; exact hc)), h.2.1 a ha], h.2.2⟩
theorem FrX.uR {c j : Nat} {v : Option Nat} (h : FrX P s s1) (hc : P c) : FrX P s (uR s1 c j v) := ⟨h.1, h.2.1, fun a ha => by funext b; rw [rX_uR, if_neg (fun q => ha (by rw [q.1]; exact hc)), h.2.2 a ha]⟩
end FrX
