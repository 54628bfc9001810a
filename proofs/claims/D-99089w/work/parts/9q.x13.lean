set_option maxRecDepth 100000
/-! TREES: a pair, a comparison, a denial -/
section X13
variable {g : GC} {M : MM}
theorem ct_X10_at {a m x z D : Nat} {most : Bool} {r1 r2 : Int} (hg : GX g) (hK : mK M a = 30) (h0 : mI M a 0 = zI (most = true)) (h1 : mR M a 1 = some x) (h2 : mR M a 2 = some z) (c1 : AT g M D x m (.long (lI r1))) (c2 : AT g M D z m (.long (lI r2))) (b1 : b6 r1) (b2 : b6 r2) :
    Ct g yX10_at cX10_at 6 (some .long) (D + 1) 0 0 [.ref a, .ref m] M (PQ M (.long (lI (jn (if most = true then 6 else 5) r1 r2)))) noX := by
  obtain ⟨b11, b12⟩ := b1
  obtain ⟨b21, b22⟩ := b2
  refine Ct.of (by decide) (Nat.le_of_ble_eq_true rfl) rfl ?_
  cases most with
  | true =>
    refine r_ald0 (pc := 0) dX10_at_0 ?_
    refine r_getR (pc := 1) dX10_at_1 fl_X10_13 hK h1 ?_
    refine r_ald1 (pc := 4) dX10_at_4 ?_
    refine r_at_X10_20 hg rfl (pc := 5) dX10_at_5 c1 (Nat.le_of_ble_eq_true rfl) (by omega) ?_
    refine r_lst2 (pc := 8) dX10_at_8 ?_
    refine r_ald0 (pc := 9) dX10_at_9 ?_
    refine r_getR (pc := 10) dX10_at_10 fl_X10_17 hK h2 ?_
    refine r_ald1 (pc := 13) dX10_at_13 ?_
    refine r_at_X10_20 hg rfl (pc := 14) dX10_at_14 c2 (Nat.le_of_ble_eq_true rfl) (by omega) ?_
    refine r_lst4 (pc := 17) dX10_at_17 ?_
    refine r_ald0 (pc := 19) dX10_at_19 ?_
    refine r_getI (pc := 20) dX10_at_20 fl_X10_7 hK ?_
    rw [h0, zI_t rfl]
    refine r_lld2 (pc := 23) dX10_at_23 ?_
    refine r_lld4 (pc := 24) dX10_at_24 ?_
    refine r_lcmp (pc := 26) dX10_at_26 ?_
    first | refine r_if_leCI (pc := 27) (tgt := 34) dX10_at_27 (by decide) (by constructor <;> omega) (by constructor <;> omega) (fun h27 => ?_) (fun h27 => ?_) | refine r_if_leC (pc := 27) (tgt := 34) dX10_at_27 (by decide) (fun h27 => ?_) (fun h27 => ?_)
    · skip
      refine r_iconst (v := nI 0) (pc := 34) dX10_at_34 (by decide) ?_
      refine r_icmp_ne (pc := 35) (tgt := 42) dX10_at_35 (by decide) (fun h35 => ?_) (fun h35 => ?_)
      · skip
        refine r_lld4 (pc := 42) dX10_at_42 ?_
        refine r_lret (pc := 44) dX10_at_44 ?_
        first | exact absurd rfl h35 | exact absurd h35 (by decide) | exact ⟨by show _ = some (Value.long (lI (if r2 < r1 then r1 else r2))); exact congrArg (fun t => some (Value.long (lI t))) (by split <;> omega), rfl⟩
      · skip
        refine r_lld2 (pc := 38) dX10_at_38 ?_
        refine r_goto (pc := 39) (tgt := 44) dX10_at_39 (by decide) ?_
        refine r_lret (pc := 44) dX10_at_44 ?_
        first | exact absurd rfl h35 | exact absurd h35 (by decide) | exact ⟨by show _ = some (Value.long (lI (if r2 < r1 then r1 else r2))); exact congrArg (fun t => some (Value.long (lI t))) (by split <;> omega), rfl⟩
    · skip
      refine r_iconst (v := nI 1) (pc := 30) dX10_at_30 (by decide) ?_
      refine r_goto (pc := 31) (tgt := 35) dX10_at_31 (by decide) ?_
      refine r_icmp_ne (pc := 35) (tgt := 42) dX10_at_35 (by decide) (fun h35 => ?_) (fun h35 => ?_)
      · skip
        refine r_lld4 (pc := 42) dX10_at_42 ?_
        refine r_lret (pc := 44) dX10_at_44 ?_
        first | exact absurd rfl h35 | exact absurd h35 (by decide) | exact ⟨by show _ = some (Value.long (lI (if r2 < r1 then r1 else r2))); exact congrArg (fun t => some (Value.long (lI t))) (by split <;> omega), rfl⟩
      · skip
        refine r_lld2 (pc := 38) dX10_at_38 ?_
        refine r_goto (pc := 39) (tgt := 44) dX10_at_39 (by decide) ?_
        refine r_lret (pc := 44) dX10_at_44 ?_
        first | exact absurd rfl h35 | exact absurd h35 (by decide) | exact ⟨by show _ = some (Value.long (lI (if r2 < r1 then r1 else r2))); exact congrArg (fun t => some (Value.long (lI t))) (by split <;> omega), rfl⟩
  | false =>
    refine r_ald0 (pc := 0) dX10_at_0 ?_
    refine r_getR (pc := 1) dX10_at_1 fl_X10_13 hK h1 ?_
    refine r_ald1 (pc := 4) dX10_at_4 ?_
    refine r_at_X10_20 hg rfl (pc := 5) dX10_at_5 c1 (Nat.le_of_ble_eq_true rfl) (by omega) ?_
    refine r_lst2 (pc := 8) dX10_at_8 ?_
    refine r_ald0 (pc := 9) dX10_at_9 ?_
    refine r_getR (pc := 10) dX10_at_10 fl_X10_17 hK h2 ?_
    refine r_ald1 (pc := 13) dX10_at_13 ?_
    refine r_at_X10_20 hg rfl (pc := 14) dX10_at_14 c2 (Nat.le_of_ble_eq_true rfl) (by omega) ?_
    refine r_lst4 (pc := 17) dX10_at_17 ?_
    refine r_ald0 (pc := 19) dX10_at_19 ?_
    refine r_getI (pc := 20) dX10_at_20 fl_X10_7 hK ?_
    rw [h0, zI_f (by decide)]
    refine r_lld2 (pc := 23) dX10_at_23 ?_
    refine r_lld4 (pc := 24) dX10_at_24 ?_
    refine r_lcmp (pc := 26) dX10_at_26 ?_
    first | refine r_if_leCI (pc := 27) (tgt := 34) dX10_at_27 (by decide) (by constructor <;> omega) (by constructor <;> omega) (fun h27 => ?_) (fun h27 => ?_) | refine r_if_leC (pc := 27) (tgt := 34) dX10_at_27 (by decide) (fun h27 => ?_) (fun h27 => ?_)
    · skip
      refine r_iconst (v := nI 0) (pc := 34) dX10_at_34 (by decide) ?_
      refine r_icmp_ne (pc := 35) (tgt := 42) dX10_at_35 (by decide) (fun h35 => ?_) (fun h35 => ?_)
      · skip
        refine r_lld4 (pc := 42) dX10_at_42 ?_
        refine r_lret (pc := 44) dX10_at_44 ?_
        first | exact absurd rfl h35 | exact absurd h35 (by decide) | exact ⟨by show _ = some (Value.long (lI (if r1 < r2 then r1 else r2))); exact congrArg (fun t => some (Value.long (lI t))) (by split <;> omega), rfl⟩
      · skip
        refine r_lld2 (pc := 38) dX10_at_38 ?_
        refine r_goto (pc := 39) (tgt := 44) dX10_at_39 (by decide) ?_
        refine r_lret (pc := 44) dX10_at_44 ?_
        first | exact absurd rfl h35 | exact absurd h35 (by decide) | exact ⟨by show _ = some (Value.long (lI (if r1 < r2 then r1 else r2))); exact congrArg (fun t => some (Value.long (lI t))) (by split <;> omega), rfl⟩
    · skip
      refine r_iconst (v := nI 1) (pc := 30) dX10_at_30 (by decide) ?_
      refine r_goto (pc := 31) (tgt := 35) dX10_at_31 (by decide) ?_
      refine r_icmp_ne (pc := 35) (tgt := 42) dX10_at_35 (by decide) (fun h35 => ?_) (fun h35 => ?_)
      · skip
        refine r_lld4 (pc := 42) dX10_at_42 ?_
        refine r_lret (pc := 44) dX10_at_44 ?_
        first | exact absurd rfl h35 | exact absurd h35 (by decide) | exact ⟨by show _ = some (Value.long (lI (if r1 < r2 then r1 else r2))); exact congrArg (fun t => some (Value.long (lI t))) (by split <;> omega), rfl⟩
      · skip
        refine r_lld2 (pc := 38) dX10_at_38 ?_
        refine r_goto (pc := 39) (tgt := 44) dX10_at_39 (by decide) ?_
        refine r_lret (pc := 44) dX10_at_44 ?_
        first | exact absurd rfl h35 | exact absurd h35 (by decide) | exact ⟨by show _ = some (Value.long (lI (if r1 < r2 then r1 else r2))); exact congrArg (fun t => some (Value.long (lI t))) (by split <;> omega), rfl⟩
end X13
