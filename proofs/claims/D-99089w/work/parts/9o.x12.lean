set_option maxRecDepth 100000
/-! TREES: the leaves -/
section X12
variable {g : GC} {M : MM}
/-- a moment at m: its longs at w tell env -/
def MoX (M : MM) (m w : Nat) (env : Nat → Int) : Prop := mK M m = 24 ∧ mR M m 0 = some w ∧ mK M w = 2 ∧ mN M w = 11 ∧ ∀ k, k < 11 → mL M w k = lI (env k) ∧ b31 (env k)
theorem ct_X11_at {a m : Nat} {v : Int} (hK : mK M a = 31) (hv : mL M a 0 = lI v) : Ct g yX11_at cX11_at 2 (some Jvm.ClassFile.FieldType.long) 0 0 0 [.ref a, .ref m] M (PQ M (.long (lI v))) noX := by
  refine Ct.of (by decide) (Nat.le_of_ble_eq_true rfl) rfl ?_
  refine r_ald0 (pc := 0) dX11_at_0 ?_
  refine r_getL (pc := 1) dX11_at_1 fl_X11_7 hK ?_
  rw [hv]
  refine r_lret (pc := 4) dX11_at_4 ?_
  exact ⟨rfl, rfl⟩
theorem ct_X12_at {a m w k : Nat} {env : Nat → Int} (hg : GX g) (hK : mK M a = 32) (hk : mI M a 0 = nI k) (hk11 : k < 11) (hm : MoX M m w env) : Ct g yX12_at cX12_at 2 (some Jvm.ClassFile.FieldType.long) 2 0 0 [.ref a, .ref m] M (PQ M (.long (lI (clip (env k))))) noX := by
  obtain ⟨m1, m2, m3, m4, m5⟩ := hm
  obtain ⟨e1, e2⟩ := m5 k hk11
  refine Ct.of (by decide) (Nat.le_of_ble_eq_true rfl) rfl ?_
  refine r_ald1 (pc := 0) dX12_at_0 ?_
  refine r_getRN (pc := 1) dX12_at_1 (fn_X12_13 hg) m1 m2 ?_
  refine r_ald0 (pc := 4) dX12_at_4 ?_
  refine r_getI (pc := 5) dX12_at_5 fl_X12_7 hK ?_
  rw [hk]
  refine r_lald (pc := 8) dX12_at_8 m3 (by omega) (by omega) ?_
  rw [e1]
  refine r_cSN (pc := 9) dX12_at_9 (csn_X12_19 hg) (ct_X0_held (by obtain ⟨q1, q2⟩ := e2; constructor <;> omega)) rfl rfl (Nat.le_of_ble_eq_true rfl) (by decide) ?_
  rintro _ _ ⟨rfl, rfl⟩
  refine r_lret (pc := 12) dX12_at_12 ?_
  exact ⟨rfl, rfl⟩
end X12
