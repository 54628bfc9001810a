set_option maxRecDepth 100000
/-! THE BEGINNING: what both sides mean when they are made -/
def T00 : Te := (0, 0, (fun _ => 0), (fun _ => 0), (fun _ => none), 0, (fun _ => []))
def S00 : St := (0, (fun _ => 0), (fun _ => 0), (fun _ => 0), (fun _ _ => 0))
def q00 : Sg := ((fun _ => 0), 0, (0, none), (fun _ => 0), (T00, false), (S00, []), [], [], 1, [])
theorem TB00 : TB T00 := ⟨by decide, by decide, fun p hp => absurd hp (Nat.not_lt_zero p), (fun w cs _ h => by cases h), by decide⟩
theorem ix_new {g : GC} {M0 M : MM} {o : Nat} (hW : GX g ∧ GO g ∧ SIOF g ∧ CMPS g) (hb : gb g ≤ o) (h : XNW M0 o M) : IX g M o (fun c => o + 1 ≤ c ∧ c ≤ o + 3) (o + 1) (getX M o) q00 := by
  obtain ⟨M2, ⟨t1, t2, t3, t4, t5, t6⟩, -, z1, z2, ⟨k1, k2, k3, k4, k5⟩, z4⟩ := h
  have sm : ∀ d, 1 ≤ d → d < 4 → Sm M2 M (o + d) := fun d h1 h2 => z2 (o + d) (by omega) (by omega)
  have s1 := sm 1 (by decide) (by decide)
  have hst : ∀ b, isS b → ∀ e, e < 56 → ZC M (o + (b + e)) (stk e) (stl e) (fun _ => 0) (stR o (o + b) e) := fun b hb' e he => (z4 (b + e) (by rcases hb' with q | q | ⟨j, hj, q⟩ <;> omega) (by rcases hb' with q | q | ⟨j, hj, q⟩ <;> omega)).cg (isS_kd hb' he).1.symm (isS_kd hb' he).2.symm (fun _ => rfl) (fun i => (xR_st hb' he).symm)
  have hz0 : ∀ c, 4 ≤ c → c < 1517 → ∀ i, iX (getX M o) c i = 0 := fun c h1 h2 => (z4 c h1 h2).2.2.1
  have hzL : ∀ c, 4 ≤ c → c < 1517 → ∀ i, lX (getX M o) c i = 0 := fun c h1 h2 => (z4 c h1 h2).2.2.2.1
  have hpm : ∀ b, isS b → pmX (rX (getX M o)) o b (fun j => j) := fun b hb' => ⟨fun j hj => ⟨hj, ((hst b hb' 15 (by decide)).2.2.2.2 j).trans (congrArg some (show o + b + 15 + 1 + j = o + (b + (16 + j)) by omega))⟩, fun _ _ _ _ e => e⟩
  have hMm : ∀ c, 4 ≤ c → c < 1517 → MmX (getX M o) c := fun c h1 h2 k _ => ⟨0, hzL c h1 h2 k, by decide⟩
  have hSX : ∀ b, isS b → SX (getX M o) b 0 (fa T00) (ki T00) S00 := fun b hb' => ⟨(hst b hb' 0 (by decide)).2.2.1 0, (hst b hb' 0 (by decide)).2.2.1 1, fun p hp => absurd hp (Nat.not_lt_zero p), fun p hp => absurd hp (Nat.not_lt_zero p), fun p hp => absurd hp (Nat.not_lt_zero p), fun p hp => absurd hp (Nat.not_lt_zero p), fun p hp => absurd hp (Nat.not_lt_zero p), fun p hp => absurd hp (Nat.not_lt_zero p)⟩
  refine ⟨⟨hW, ⟨hb, by rw [z1]; exact Nat.le_refl _, fun c hc => ?_⟩, ⟨⟨k5 1, k5 5, k5 6, k5 7, k5 8, k5 9, k5 10, k5 11, k5 12, k5 13, k5 14, k5 16, k5 17, k5 21⟩, ⟨(z4 5 (by decide) (by decide)).2.2.2.2 0, (z4 5 (by decide) (by decide)).2.2.2.2 7, (z4 7 (by decide) (by decide)).2.2.2.2 0, (z4 9 (by decide) (by decide)).2.2.2.2 0⟩, fun b hb' => ?_, fun j hj => ?_, fun j hj => ?_⟩, fun c hc hn => ?_, k5 0, ⟨⟨by omega, by omega⟩, ?_, ?_, fun w hw => Or.inl ⟨rfl, ?_⟩, Or.inl ⟨rfl, ?_⟩⟩, TB00, hMm 8 (by decide) (by decide)⟩, ⟨?_, o + 2, o + 3, ?_, ⟨by omega, by omega⟩, ⟨by omega, by omega⟩, ?_, fun p hp => absurd hp (Nat.not_lt_zero p)⟩, ⟨k3 2, fun j hj => ?_, fun j hj => ?_⟩, ⟨k3 3, k3 4⟩, fun i hi => hz0 11 (by decide) (by decide) i, ⟨hSX 12 (Or.inl rfl), ⟨fun j => j, hpm 12 (Or.inl rfl), (hst 12 (Or.inl rfl) 0 (by decide)).2.2.1 2, by decide, fun i a c e hh => by cases hh⟩⟩, ⟨k3 18, fun j => j, ⟨fun j hj => ⟨hj, ?_⟩, fun _ _ _ _ e => e⟩, fun i x hh => by cases hh⟩, fun b hb' => ⟨_, hpm b hb'⟩, ⟨k3 15, fun i a b c hh => by cases hh⟩, k4 19, ⟨k3 22, fun i hi => absurd hi (Nat.not_lt_zero i)⟩, hMm 10 (by decide) (by decide)⟩
  · by_cases e : c = 0
    · subst e; exact ⟨k1, k2⟩
    · have := z4 c (by unfold ow at hc; omega) (by unfold ow at hc; omega)
      exact ⟨this.1, this.2.1⟩
  · have q0 := (hst b hb' 0 (by decide)).2.2.2.2
    refine ⟨q0 3, q0 4, q0 5, q0 6, q0 7, q0 8, q0 9, q0 10, fun j hj => ((hst b hb' 6 (by decide)).2.2.2.2 j).trans (congrArg some (show o + b + 6 + 1 + j = o + (b + (7 + j)) by omega))⟩
  · exact ((z4 124 (by decide) (by decide)).2.2.2.2 j).trans (congrArg some (show o + 124 + 1 + j = o + (125 + j) by omega))
  · exact ((z4 384 (by decide) (by decide)).2.2.2.2 j).trans (congrArg some (show o + 384 + 1 + j = o + (385 + j) by omega))
  · unfold owA at hn; omega
  · exact s1.1.trans t4
  · rw [s1.2.2.1]; exact t5 1
  · rw [s1.2.2.2.2, t6, if_neg (by omega)]
  · rw [s1.2.2.2.2]; exact t6 6
  · rw [s1.2.2.1]; exact t5 2
  · rw [s1.2.2.2.2]; exact t6 3
  · exact t1.fr (sm 2 (by decide) (by decide)) (sm 3 (by decide) (by decide))
  · rw [hz0 4 (by decide) (by decide) j]; show (0 : Int32) &&& nI 255 = nI 0; decide
  · rw [hz0 4 (by decide) (by decide) j]; show (0 : Int32).toInt8.toInt32 = 0; decide
  · refine ((z4 395 (by decide) (by decide)).2.2.2.2 j).trans ?_
    show (if j < 20 then some (o + (396 + 56 * j)) else none) = _
    rw [if_pos hj]
theorem GI00 : GI q00 := ⟨by decide, fun _ => (by decide : (0 : Nat) < 256), TB00, fun _ => ⟨rfl, rfl⟩, (fun h => by cases h), ⟨⟨by decide, fun p hp => absurd hp (Nat.not_lt_zero p)⟩, by decide, fun p hp => absurd hp (Nat.not_lt_zero p), by decide⟩, (fun x h => by cases h), by decide, by decide, (fun e h => by cases h), by decide, by decide, (fun v h => by cases h), fun p hp => absurd hp (Nat.not_lt_zero p)⟩
