set_option maxRecDepth 100000
/-! TEXT: charAt of a StringBuilder -/
theorem cp_J15_329 : CPs RJ15 329 yJ14_charAt cJ14_charAt 5 (some .char) 1 := ⟨q1275, q2493, q948, q1276, q170, q1277, by decide +kernel, by decide⟩
section X11
variable {g : GC} {M : MM}
theorem ct_J15_charAt {a v n i c : Nat} (hz : NSq g "jdk/internal/util/Preconditions" "SIOOBE_FORMATTER" "Ljava/util/function/BiFunction;") (h : SbX M a v n) (hi : i < n) (hc : mI M v i = nI c) (hc7 : c < 128) : Ct g yJ15_charAt cJ15_charAt 2 (some Jvm.ClassFile.FieldType.char) 6 0 0 [.ref a, .int (nI i)] M (PQ M (.int (nI c))) noX := by
  have e3 : narrow .char (.int (nI c)) = .int (nI c) := by
    have : ∀ c : Fin 128, narrow .char (.int (nI c.val)) = .int (nI c.val) := by decide
    exact this ⟨c, hc7⟩
  refine Ct.of (by decide) (Nat.le_of_ble_eq_true rfl) rfl ?_
  refine r_ald0 (pc := 0) dJ15_charAt_0 ?_
  refine r_ild1 (pc := 1) dJ15_charAt_1 ?_
  refine r_cP (ci := 21) (pc := 2) dJ15_charAt_2 cp_J15_329 h.1 (ct_J14_charAt hz h hi hc hc7) rfl rfl (Nat.le_of_ble_eq_true rfl) (by decide) ?_
  rintro _ _ ⟨rfl, rfl⟩
  exact r_zret (pc := 5) dJ15_charAt_5 e3 ⟨rfl, rfl⟩
end X11
