set_option maxRecDepth 100000
/-! THE LAW: two objects in one memory -/
section X107
variable {g : GC} {N M2 : MM} {oX oM b L : Nat} {xs : Nat → Int32} {s s' : XS} {t t' : MS} {P : Nat → Prop} {ta : Nat} {q q' : Sg}
theorem putM_putM (N : MM) (o : Nat) (t t' : MS) : putM (putM N o t) o t' = putM N o t' := by
  refine Prod.ext rfl (Prod.ext rfl (Prod.ext rfl (Prod.ext ?_ (Prod.ext ?_ rfl))))
  · funext a j
    show (if a = o then mF t' j else if o < a ∧ a ≤ o + 71 then mA t' (cf (a - o)) j else (if a = o then mF t j else if o < a ∧ a ≤ o + 71 then mA t (cf (a - o)) j else mI N a j)) = (if a = o then mF t' j else if o < a ∧ a ≤ o + 71 then mA t' (cf (a - o)) j else mI N a j)
    by_cases h : a = o
    · rw [if_pos h, if_pos h]
    · rw [if_neg h, if_neg h, if_neg h]
      by_cases h2 : o < a ∧ a ≤ o + 71
      · rw [if_pos h2, if_pos h2]
      · rw [if_neg h2, if_neg h2, if_neg h2]
  · funext a j
    show (if a = o then mG t' j else if o < a ∧ a ≤ o + 71 then mB t' (cf (a - o)) j else (if a = o then mG t j else if o < a ∧ a ≤ o + 71 then mB t (cf (a - o)) j else mL N a j)) = (if a = o then mG t' j else if o < a ∧ a ≤ o + 71 then mB t' (cf (a - o)) j else mL N a j)
    by_cases h : a = o
    · rw [if_pos h, if_pos h]
    · rw [if_neg h, if_neg h, if_neg h]
      by_cases h2 : o < a ∧ a ≤ o + 71
      · rw [if_pos h2, if_pos h2]
      · rw [if_neg h2, if_neg h2, if_neg h2]
theorem put_comm (hd : oX + 1517 ≤ oM) : putM (putX N oX s) oM t = putX (putM N oM t) oX s := by
  refine Prod.ext rfl (Prod.ext rfl (Prod.ext rfl (Prod.ext ?_ (Prod.ext ?_ rfl))))
  · funext a j
    show (if a = oM then mF t j else if oM < a ∧ a ≤ oM + 71 then mA t (cf (a - oM)) j else (if a = oX ∨ (oX + 4 ≤ a ∧ a < oX + 1517) then iX s (a - oX) j else mI N a j)) = (if a = oX ∨ (oX + 4 ≤ a ∧ a < oX + 1517) then iX s (a - oX) j else (if a = oM then mF t j else if oM < a ∧ a ≤ oM + 71 then mA t (cf (a - oM)) j else mI N a j))
    by_cases h : a = oX ∨ (oX + 4 ≤ a ∧ a < oX + 1517)
    · rw [if_neg (show ¬ a = oM by omega), if_neg (show ¬ (oM < a ∧ a ≤ oM + 71) by omega), if_pos h, if_pos h]
    · rw [if_neg h, if_neg h]
  · funext a j
    show (if a = oM then mG t j else if oM < a ∧ a ≤ oM + 71 then mB t (cf (a - oM)) j else (if a = oX ∨ (oX + 4 ≤ a ∧ a < oX + 1517) then lX s (a - oX) j else mL N a j)) = (if a = oX ∨ (oX + 4 ≤ a ∧ a < oX + 1517) then lX s (a - oX) j else (if a = oM then mG t j else if oM < a ∧ a ≤ oM + 71 then mB t (cf (a - oM)) j else mL N a j))
    by_cases h : a = oX ∨ (oX + 4 ≤ a ∧ a < oX + 1517)
    · rw [if_neg (show ¬ a = oM by omega), if_neg (show ¬ (oM < a ∧ a ≤ oM + 71) by omega), if_pos h, if_pos h]
    · rw [if_neg h, if_neg h]
theorem Sm.putM {c : Nat} (h : ¬ (oM ≤ c ∧ c ≤ oM + 71)) : Sm N (putM N oM t) c := by
  have h0 : ¬ c = oM := by omega
  have h1 : ¬ (oM < c ∧ c ≤ oM + 71) := by omega
  exact ⟨rfl, rfl, funext fun i => (if_neg h0).trans (if_neg h1), funext fun i => (if_neg h0).trans (if_neg h1), rfl⟩
/-- the model's picture stands in a memory that agrees on its cells -/
theorem HM.fo (h : putM N oM t = N) (hS : ∀ c, oM ≤ c → c ≤ oM + 71 → Sm N M2 c) : putM M2 oM t = M2 := by
  have e1 : ∀ a, oM ≤ a → a ≤ oM + 71 → mI M2 a = mI (putM N oM t) a := fun a h1 h2 => by rw [h]; exact (hS a h1 h2).2.2.1
  have e2 : ∀ a, oM ≤ a → a ≤ oM + 71 → mL M2 a = mL (putM N oM t) a := fun a h1 h2 => by rw [h]; exact (hS a h1 h2).2.2.2.1
  refine Prod.ext rfl (Prod.ext rfl (Prod.ext rfl (Prod.ext ?_ (Prod.ext ?_ rfl))))
  · funext a j
    show (if a = oM then mF t j else if oM < a ∧ a ≤ oM + 71 then mA t (cf (a - oM)) j else mI M2 a j) = mI M2 a j
    by_cases h0 : a = oM
    · rw [if_pos h0, h0, e1 oM (Nat.le_refl _) (by omega), mI_putM0]
    · rw [if_neg h0]
      by_cases h2 : oM < a ∧ a ≤ oM + 71
      · rw [if_pos h2, e1 a (by omega) h2.2]
        exact ((if_neg h0).trans (if_pos h2)).symm
      · rw [if_neg h2]
  · funext a j
    show (if a = oM then mG t j else if oM < a ∧ a ≤ oM + 71 then mB t (cf (a - oM)) j else mL M2 a j) = mL M2 a j
    by_cases h0 : a = oM
    · rw [if_pos h0, h0, e2 oM (Nat.le_refl _) (by omega), mL_putM0]
    · rw [if_neg h0]
      by_cases h2 : oM < a ∧ a ≤ oM + 71
      · rw [if_pos h2, e2 a (by omega) h2.2]
        exact ((if_neg h0).trans (if_pos h2)).symm
      · rw [if_neg h2]
theorem ShM.sm (h : ShM g N oM) (hS : ∀ c, oM ≤ c → c ≤ oM + 71 → Sm N M2 c) : ShM g M2 oM := by
  obtain ⟨h1, h2, h3⟩ := h
  refine ⟨(hS oM (Nat.le_refl _) (by omega)).1.trans h1, h2, fun e he => ?_⟩
  obtain ⟨q1, q2, -⟩ := cgo_lt e he
  obtain ⟨k1, k2, k3⟩ := h3 e he
  have s1 := hS (oM + e.2.1) (by omega) (by omega)
  exact ⟨by rw [(hS oM (Nat.le_refl _) (by omega)).2.2.2.2]; exact k1, s1.1.trans k2, s1.2.1.trans k3⟩
theorem IX.mv (h : IX g N oX P ta s q) (hz : mZ N ≤ mZ M2) (hk : ∀ c, ow c → mK M2 (oX + c) = mK N (oX + c) ∧ mN M2 (oX + c) = mN N (oX + c)) (hP : ∀ c, P c → Sm N M2 c) : IX g M2 oX P ta s q := by
  have hS := h.W.S
  exact ⟨⟨h.1.1, ⟨hS.1, Nat.le_trans hS.2.1 hz, fun c hc => ⟨(hk c hc).1.trans (hS.2.2 c hc).1, (hk c hc).2.trans (hS.2.2 c hc).2⟩⟩, h.W.X, h.1.2.2.2.1, h.W.ht, h.1.2.2.2.2.2.1.fr hP (fun _ z => z), h.W.B, h.W.m⟩, h.So.fr h.1.2.2.2.2.2.1.1 hP (fun _ z => z), h.2.2⟩
/-- both objects, X at qx, the model at qm, and the script -/
def LI (g : GC) (oX oM b L : Nat) (xs : Nat → Int32) (qm qx : Sg) (G : MM) : Prop := ∃ N P ta s t, G = putX N oX s ∧ IX g N oX P ta s qx ∧ (∀ c, P c → c < mZ N ∧ ¬ (oM ≤ c ∧ c ≤ oM + 71)) ∧ (putM N oM t = N ∧ ShM g N oM ∧ IM t qm) ∧ (TXT g N ∧ WST g N) ∧ (b < gb g ∧ mK N b = 1 ∧ mN N b = L ∧ ∀ j, j < L → mI N b j = xs j) ∧ (oX + 1517 ≤ oM ∧ oM + 72 ≤ mZ N) ∧ GI qm
theorem LI.kX {qm qx : Sg} {G : MM} (h : LI g oX oM b L xs qm qx G) : mK G oX = 20 + 0 := by
  obtain ⟨N, P, ta, s, t, rfl, hI, -⟩ := h
  exact hI.W.S.k (c := 0) (Or.inl rfl) rfl
theorem LI.kM {qm qx : Sg} {G : MM} (h : LI g oX oM b L xs qm qx G) : mK G oM = 20 + 6 := by
  obtain ⟨N, P, ta, s, t, rfl, -, -, hM, -⟩ := h
  exact hM.2.1.1
theorem LI.scr {qm qx : Sg} {G : MM} (h : LI g oX oM b L xs qm qx G) : mK G b = 1 ∧ mN G b = L ∧ ∀ j, j < L → mI G b j = xs j := by
  obtain ⟨N, P, ta, s, t, rfl, hI, -, -, -, hb, -⟩ := h
  have hS := hI.W.S.1
  refine ⟨hb.2.1, hb.2.2.1, fun j hj => ?_⟩
  rw [← hb.2.2.2 j hj]
  have : Sm N (putX N oX s) b := Sm.put (fun e => by unfold owA at e; omega)
  rw [this.2.2.1]
end X107
