set_option maxRecDepth 100000
/-! THE TREES: their constructors -/
section X41
variable {g : GC} {M : MM}
theorem ct_X8_init {a : Nat} : Ct g yX8_init cX8_init 1 none 1 0 0 [.ref a] M (PV M) noX := by
  refine Ct.of (by decide) (Nat.le_of_ble_eq_true rfl) rfl ?_
  refine r_ald0 (pc := 0) dX8_init_0 ?_
  refine r_objInit (pc := 1) dX8_init_1 q923 q189 q190 (by decide) (Nat.le_of_ble_eq_true rfl) ?_
  refine r_vret (pc := 4) dX8_init_4 ?_
  exact ⟨rfl, rfl⟩
theorem ct_X14_init {a : Nat} : Ct g yX14_init cX14_init 1 none 1 0 0 [.ref a] M (PV M) noX := by
  refine Ct.of (by decide) (Nat.le_of_ble_eq_true rfl) rfl ?_
  refine r_ald0 (pc := 0) dX14_init_0 ?_
  refine r_objInit (pc := 1) dX14_init_1 q1114 q189 q190 (by decide) (Nat.le_of_ble_eq_true rfl) ?_
  refine r_vret (pc := 4) dX14_init_4 ?_
  exact ⟨rfl, rfl⟩
theorem ct_X10_init {a b c : Nat} {z : Int32} (hg : GX g) (hb : gb g ≤ a) (hK : mK M a = 30) (hz : narrow .boolean (.int z) = .int z ∧ fits .boolean (.int z) = true) : Ct g yX10_init cX10_init 4 none 2 0 0 [.ref a, .int z, .ref b, .ref c] M (PV (sR (sR (sI M a 0 z) a 1 (some b)) a 2 (some c))) noX := by
  refine Ct.of (by decide) (Nat.le_of_ble_eq_true rfl) rfl ?_
  refine r_ald0 (pc := 0) dX10_init_0 ?_
  refine r_cIN (pc := 1) dX10_init_1 (cin_X10_1 hg) ct_X8_init rfl rfl (Nat.le_of_ble_eq_true rfl) (by decide) ?_
  rintro _ M9 ⟨rfl, e9⟩
  rw [e9]
  refine r_ald0 (pc := 4) dX10_init_4 ?_
  refine r_ild1 (pc := 5) dX10_init_5 ?_
  refine r_putFI (pc := 6) dX10_init_6 fl_X10_7 ff_X10_0 rfl hz.1 hz.2 hK hb ?_
  refine r_ald0 (pc := 9) dX10_init_9 ?_
  refine r_ald2 (pc := 10) dX10_init_10 ?_
  refine r_putFQ (pc := 11) (x := some b) dX10_init_11 fl_X10_13 ff_X10_1 rfl rfl rfl hK hb ?_
  refine r_ald0 (pc := 14) dX10_init_14 ?_
  refine r_ald3 (pc := 15) dX10_init_15 ?_
  refine r_putFQ (pc := 16) (x := some c) dX10_init_16 fl_X10_17 ff_X10_2 rfl rfl rfl hK hb ?_
  refine r_vret (pc := 19) dX10_init_19 ?_
  exact ⟨rfl, rfl⟩
theorem ct_X11_init {a : Nat} {x : Int64} (hg : GX g) (hb : gb g ≤ a) (hK : mK M a = 31) : Ct g yX11_init cX11_init 3 none 2 0 0 [.ref a, .long x] M (PV (sL M a 0 x)) noX := by
  refine Ct.of (by decide) (Nat.le_of_ble_eq_true rfl) rfl ?_
  refine r_ald0 (pc := 0) dX11_init_0 ?_
  refine r_cIN (pc := 1) dX11_init_1 (cin_X11_1 hg) ct_X8_init rfl rfl (Nat.le_of_ble_eq_true rfl) (by decide) ?_
  rintro _ M9 ⟨rfl, e9⟩
  rw [e9]
  refine r_ald0 (pc := 4) dX11_init_4 ?_
  refine r_lld1 (pc := 5) dX11_init_5 ?_
  refine r_putFL (pc := 6) dX11_init_6 fl_X11_7 ff_X11_0 rfl rfl rfl hK hb ?_
  refine r_vret (pc := 9) dX11_init_9 ?_
  exact ⟨rfl, rfl⟩
theorem ct_X12_init {a : Nat} {x : Int32} (hg : GX g) (hb : gb g ≤ a) (hK : mK M a = 32) : Ct g yX12_init cX12_init 2 none 2 0 0 [.ref a, .int x] M (PV (sI M a 0 x)) noX := by
  refine Ct.of (by decide) (Nat.le_of_ble_eq_true rfl) rfl ?_
  refine r_ald0 (pc := 0) dX12_init_0 ?_
  refine r_cIN (pc := 1) dX12_init_1 (cin_X12_1 hg) ct_X8_init rfl rfl (Nat.le_of_ble_eq_true rfl) (by decide) ?_
  rintro _ M9 ⟨rfl, e9⟩
  rw [e9]
  refine r_ald0 (pc := 4) dX12_init_4 ?_
  refine r_ild1 (pc := 5) dX12_init_5 ?_
  refine r_putFI (pc := 6) dX12_init_6 fl_X12_7 ff_X12_0 rfl rfl rfl hK hb ?_
  refine r_vret (pc := 9) dX12_init_9 ?_
  exact ⟨rfl, rfl⟩
theorem ct_X13_init {a w b : Nat} {x : Int32} (hg : GX g) (hb : gb g ≤ a) (hK : mK M a = 33) : Ct g yX13_init cX13_init 4 none 2 0 0 [.ref a, .ref w, .int x, .ref b] M (PV (sR (sI (sR M a 2 (some w)) a 0 x) a 1 (some b))) noX := by
  refine Ct.of (by decide) (Nat.le_of_ble_eq_true rfl) rfl ?_
  refine r_ald0 (pc := 0) dX13_init_0 ?_
  refine r_ald1 (pc := 1) dX13_init_1 ?_
  refine r_putFQ (pc := 2) (x := some w) dX13_init_2 fl_X13_1 ff_X13_2 rfl rfl rfl hK hb ?_
  refine r_ald0 (pc := 5) dX13_init_5 ?_
  refine r_cIN (pc := 6) dX13_init_6 (cin_X13_7 hg) ct_X8_init rfl rfl (Nat.le_of_ble_eq_true rfl) (by decide) ?_
  rintro _ M9 ⟨rfl, e9⟩
  rw [e9]
  refine r_ald0 (pc := 9) dX13_init_9 ?_
  refine r_ild2 (pc := 10) dX13_init_10 ?_
  refine r_putFI (pc := 11) dX13_init_11 fl_X13_13 ff_X13_0 rfl rfl rfl hK hb ?_
  refine r_ald0 (pc := 14) dX13_init_14 ?_
  refine r_ald3 (pc := 15) dX13_init_15 ?_
  refine r_putFQ (pc := 16) (x := some b) dX13_init_16 fl_X13_17 ff_X13_1 rfl rfl rfl hK hb ?_
  refine r_vret (pc := 19) dX13_init_19 ?_
  exact ⟨rfl, rfl⟩
theorem ct_X16_init {a b : Nat} (hg : GX g) (hb : gb g ≤ a) (hK : mK M a = 36) : Ct g yX16_init cX16_init 2 none 2 0 0 [.ref a, .ref b] M (PV (sR M a 0 (some b))) noX := by
  refine Ct.of (by decide) (Nat.le_of_ble_eq_true rfl) rfl ?_
  refine r_ald0 (pc := 0) dX16_init_0 ?_
  refine r_cIN (pc := 1) dX16_init_1 (cin_X16_1 hg) ct_X14_init rfl rfl (Nat.le_of_ble_eq_true rfl) (by decide) ?_
  rintro _ M9 ⟨rfl, e9⟩
  rw [e9]
  refine r_ald0 (pc := 4) dX16_init_4 ?_
  refine r_ald1 (pc := 5) dX16_init_5 ?_
  refine r_putFQ (pc := 6) (x := some b) dX16_init_6 fl_X16_7 ff_X16_0 rfl rfl rfl hK hb ?_
  refine r_vret (pc := 9) dX16_init_9 ?_
  exact ⟨rfl, rfl⟩
theorem ct_X17_init {a : Nat} (hg : GX g) (hb : gb g ≤ a) (hK : mK M a = 37) : Ct g yX17_init cX17_init 1 none 2 0 0 [.ref a] M (PV (M)) noX := by
  refine Ct.of (by decide) (Nat.le_of_ble_eq_true rfl) rfl ?_
  refine r_ald0 (pc := 0) dX17_init_0 ?_
  refine r_cIN (pc := 1) dX17_init_1 (cin_X17_1 hg) ct_X14_init rfl rfl (Nat.le_of_ble_eq_true rfl) (by decide) ?_
  rintro _ M9 ⟨rfl, e9⟩
  rw [e9]
  refine r_vret (pc := 4) dX17_init_4 ?_
  exact ⟨rfl, rfl⟩
theorem ct_X18_init {a b c : Nat} {x : Int32} (hg : GX g) (hb : gb g ≤ a) (hK : mK M a = 38) : Ct g yX18_init cX18_init 4 none 2 0 0 [.ref a, .ref b, .int x, .ref c] M (PV (sR (sI (sR M a 0 (some b)) a 2 x) a 1 (some c))) noX := by
  refine Ct.of (by decide) (Nat.le_of_ble_eq_true rfl) rfl ?_
  refine r_ald0 (pc := 0) dX18_init_0 ?_
  refine r_cIN (pc := 1) dX18_init_1 (cin_X18_1 hg) ct_X14_init rfl rfl (Nat.le_of_ble_eq_true rfl) (by decide) ?_
  rintro _ M9 ⟨rfl, e9⟩
  rw [e9]
  refine r_ald0 (pc := 4) dX18_init_4 ?_
  refine r_ald1 (pc := 5) dX18_init_5 ?_
  refine r_putFQ (pc := 6) (x := some b) dX18_init_6 fl_X18_7 ff_X18_0 rfl rfl rfl hK hb ?_
  refine r_ald0 (pc := 9) dX18_init_9 ?_
  refine r_ild2 (pc := 10) dX18_init_10 ?_
  refine r_putFI (pc := 11) dX18_init_11 fl_X18_13 ff_X18_2 rfl rfl rfl hK hb ?_
  refine r_ald0 (pc := 14) dX18_init_14 ?_
  refine r_ald3 (pc := 15) dX18_init_15 ?_
  refine r_putFQ (pc := 16) (x := some c) dX18_init_16 fl_X18_17 ff_X18_1 rfl rfl rfl hK hb ?_
  refine r_vret (pc := 19) dX18_init_19 ?_
  exact ⟨rfl, rfl⟩
end X41
