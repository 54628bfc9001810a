set_option maxRecDepth 100000
/-! A QUESTION ANEW -/
section X58
variable {g : GC} {M : MM}
theorem ct_X19_initT {a t : Nat} {x : Int32} (hb : gb g ≤ a) (hK : mK M a = 39) : Ct g yX19_init cX19_init 4 none 1 0 0 [.ref a, .int x, .ref t, .null] M (fun v M' => v = none ∧ M' = sR (sR (sI (sL M a 3 (-1 : Int64)) a 0 x) a 1 (some t)) a 2 none) noX := by
  refine Ct.of (by decide) (Nat.le_of_ble_eq_true rfl) rfl ?_
  refine r_ald0 (pc := 0) dX19_init_0 ?_
  refine r_objInit (pc := 1) dX19_init_1 q1541 q189 q190 (by decide) (Nat.le_of_ble_eq_true rfl) ?_
  refine r_ald0 (pc := 4) dX19_init_4 ?_
  refine r_ldc2 (v := -1) (pc := 5) dX19_init_5 q1542 ?_
  refine Bd.eqL (x' := lI (-1)) (by decide) ?_
  refine r_putL (pc := 8) (ty := clY 19 3) dX19_init_8 fl_X19_11 ⟨rfl, rfl⟩ rfl rfl hK hb ?_
  refine r_ald0 (pc := 11) dX19_init_11 ?_
  refine r_ild1 (pc := 12) dX19_init_12 ?_
  refine r_putFI (pc := 13) dX19_init_13 fl_X19_17 ff_X19_0 rfl rfl rfl hK hb ?_
  refine r_ald0 (pc := 16) dX19_init_16 ?_
  refine r_ald2 (pc := 17) dX19_init_17 ?_
  refine r_putFQ (pc := 18) (x := some t) dX19_init_18 fl_X19_21 ff_X19_1 rfl rfl rfl hK hb ?_
  refine r_ald0 (pc := 21) dX19_init_21 ?_
  refine r_aload_nq (r := none) (pc := 22) dX19_init_22 rfl ?_
  refine r_putFQ (pc := 23) (x := none) dX19_init_23 fl_X19_25 ff_X19_2 rfl rfl rfl hK hb ?_
  refine r_vret (pc := 26) dX19_init_26 ?_
  exact ⟨rfl, rfl⟩
theorem ct_X19_initV {a t : Nat} {x : Int32} (hb : gb g ≤ a) (hK : mK M a = 39) : Ct g yX19_init cX19_init 4 none 1 0 0 [.ref a, .int x, .null, .ref t] M (fun v M' => v = none ∧ M' = sR (sR (sI (sL M a 3 (-1 : Int64)) a 0 x) a 1 none) a 2 (some t)) noX := by
  refine Ct.of (by decide) (Nat.le_of_ble_eq_true rfl) rfl ?_
  refine r_ald0 (pc := 0) dX19_init_0 ?_
  refine r_objInit (pc := 1) dX19_init_1 q1541 q189 q190 (by decide) (Nat.le_of_ble_eq_true rfl) ?_
  refine r_ald0 (pc := 4) dX19_init_4 ?_
  refine r_ldc2 (v := -1) (pc := 5) dX19_init_5 q1542 ?_
  refine Bd.eqL (x' := lI (-1)) (by decide) ?_
  refine r_putL (pc := 8) (ty := clY 19 3) dX19_init_8 fl_X19_11 ⟨rfl, rfl⟩ rfl rfl hK hb ?_
  refine r_ald0 (pc := 11) dX19_init_11 ?_
  refine r_ild1 (pc := 12) dX19_init_12 ?_
  refine r_putFI (pc := 13) dX19_init_13 fl_X19_17 ff_X19_0 rfl rfl rfl hK hb ?_
  refine r_ald0 (pc := 16) dX19_init_16 ?_
  refine r_aload_nq (r := none) (pc := 17) dX19_init_17 rfl ?_
  refine r_putFQ (pc := 18) (x := none) dX19_init_18 fl_X19_21 ff_X19_1 rfl rfl rfl hK hb ?_
  refine r_ald0 (pc := 21) dX19_init_21 ?_
  refine r_ald3 (pc := 22) dX19_init_22 ?_
  refine r_putFQ (pc := 23) (x := some t) dX19_init_23 fl_X19_25 ff_X19_2 rfl rfl rfl hK hb ?_
  refine r_vret (pc := 26) dX19_init_26 ?_
  exact ⟨rfl, rfl⟩
end X58
