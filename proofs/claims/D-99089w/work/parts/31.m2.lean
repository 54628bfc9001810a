set_option maxRecDepth 100000
/-! THE MODEL: what codes tell -/
section M2
variable {g : GC} {M : MM} {o : Nat} {s : MS} {M1 : MM}
theorem ct_X6_qClip {v : Int} (hv : b62 v) : Ct g yX6_qClip cX6_qClip 2 (some Jvm.ClassFile.FieldType.long) 0 0 0 [.long (lI v)] M1 (PQ M1 (.long (lI (clip v)))) noX := by
  obtain ⟨hv1, hv2⟩ := hv
  refine Ct.of (by decide) (Nat.le_of_ble_eq_true rfl) rfl ?_
  refine r_lld0 (pc := 0) dX6_qClip_0 ?_
  refine r_ldc2 (v := lI (1000000)) (pc := 1) dX6_qClip_1 q2197 ?_
  refine r_lcmp (pc := 4) dX6_qClip_4 ?_
  first | refine r_if_leCI (pc := 5) (tgt := 14) dX6_qClip_5 (by decide) (by constructor <;> omega) (by constructor <;> omega) (fun h5 => ?_) (fun h5 => ?_) | refine r_if_leC (pc := 5) (tgt := 14) dX6_qClip_5 (by decide) (fun h5 => ?_) (fun h5 => ?_)
  · skip
    refine r_lld0 (pc := 14) dX6_qClip_14 ?_
    refine r_ldc2 (v := -1000000) (pc := 15) dX6_qClip_15 q2198 ?_
    refine Bd.eqL (x' := lI (-1000000)) (by decide) ?_
    refine r_lcmp (pc := 18) dX6_qClip_18 ?_
    first | refine r_if_geCI (pc := 19) (tgt := 28) dX6_qClip_19 (by decide) (by constructor <;> omega) (by constructor <;> omega) (fun h19 => ?_) (fun h19 => ?_) | refine r_if_geC (pc := 19) (tgt := 28) dX6_qClip_19 (by decide) (fun h19 => ?_) (fun h19 => ?_)
    · skip
      refine r_lld0 (pc := 28) dX6_qClip_28 ?_
      refine r_lret (pc := 29) dX6_qClip_29 ?_
      exact ⟨by unfold clip; first | rw [if_pos (by omega)] | rw [if_neg (by omega), if_pos (by omega)] | rw [if_neg (by omega), if_neg (by omega)], rfl⟩
    · skip
      refine r_ldc2 (v := -1000000) (pc := 22) dX6_qClip_22 q2198 ?_
      refine Bd.eqL (x' := lI (-1000000)) (by decide) ?_
      refine r_goto (pc := 25) (tgt := 29) dX6_qClip_25 (by decide) ?_
      refine r_lret (pc := 29) dX6_qClip_29 ?_
      exact ⟨by unfold clip; first | rw [if_pos (by omega)] | rw [if_neg (by omega), if_pos (by omega)] | rw [if_neg (by omega), if_neg (by omega)], rfl⟩
  · skip
    refine r_ldc2 (v := lI (1000000)) (pc := 8) dX6_qClip_8 q2197 ?_
    refine r_goto (pc := 11) (tgt := 29) dX6_qClip_11 (by decide) ?_
    refine r_lret (pc := 29) dX6_qClip_29 ?_
    exact ⟨by unfold clip; first | rw [if_pos (by omega)] | rw [if_neg (by omega), if_pos (by omega)] | rw [if_neg (by omega), if_neg (by omega)], rfl⟩
theorem ct_X6_qFloor {a b : Int} (ha : b62 a) (hb : b62 b) : Ct g yX6_qFloor cX6_qFloor 6 (some Jvm.ClassFile.FieldType.long) 0 0 0 [.long (lI a), .long (lI b)] M1 (PQ M1 (.long (lI (flr a b)))) noX := by
  obtain ⟨ha1, ha2⟩ := ha
  obtain ⟨hb1, hb2⟩ := hb
  have ht : b62 (a.tmod b) := by
    have h : (a.tmod b).natAbs ≤ a.natAbs := by rw [Int.natAbs_tmod]; exact Nat.mod_le _ _
    constructor <;> omega
  obtain ⟨ht1, ht2⟩ := ht
  refine Ct.of (by decide) (Nat.le_of_ble_eq_true rfl) rfl ?_
  refine r_lld2 (pc := 0) dX6_qFloor_0 ?_
  refine r_lconst (v := lI 0) (pc := 1) dX6_qFloor_1 rfl ?_
  refine r_lcmp (pc := 2) dX6_qFloor_2 ?_
  first | refine r_if_neCI (pc := 3) (tgt := 8) dX6_qFloor_3 (by decide) (by constructor <;> omega) (by constructor <;> omega) (fun h3 => ?_) (fun h3 => ?_) | refine r_if_neC (pc := 3) (tgt := 8) dX6_qFloor_3 (by decide) (fun h3 => ?_) (fun h3 => ?_)
  · skip
    refine r_lld0 (pc := 8) dX6_qFloor_8 ?_
    refine r_lld2 (pc := 9) dX6_qFloor_9 ?_
    first | refine r_ldivI (pc := 10) dX6_qFloor_10 (by omega) (by constructor <;> omega) (by constructor <;> omega) ?_ | refine r_ldiv (pc := 10) dX6_qFloor_10 (by first | assumption | decide) ?_
    refine r_lst4 (pc := 11) dX6_qFloor_11 ?_
    refine r_lld0 (pc := 13) dX6_qFloor_13 ?_
    refine r_lld2 (pc := 14) dX6_qFloor_14 ?_
    first | refine r_lremI (pc := 15) dX6_qFloor_15 (by omega) (by constructor <;> omega) (by constructor <;> omega) ?_ | refine r_lrem (pc := 15) dX6_qFloor_15 (by first | assumption | decide) ?_
    refine r_lconst (v := lI 0) (pc := 16) dX6_qFloor_16 rfl ?_
    refine r_lcmp (pc := 17) dX6_qFloor_17 ?_
    first | refine r_if_eqCI (pc := 18) (tgt := 53) dX6_qFloor_18 (by decide) (by constructor <;> omega) (by constructor <;> omega) (fun h18 => ?_) (fun h18 => ?_) | refine r_if_eqC (pc := 18) (tgt := 53) dX6_qFloor_18 (by decide) (fun h18 => ?_) (fun h18 => ?_)
    · skip
      refine r_lld4 (pc := 53) dX6_qFloor_53 ?_
      refine r_lret (pc := 55) dX6_qFloor_55 ?_
      exact ⟨by unfold flr; first | (exfalso; omega) | rw [if_pos (by omega)] | rw [if_neg (by omega), if_pos ⟨by omega, by omega⟩] | rw [if_neg (by omega), if_neg (fun q => absurd q.1 (by omega))] | rw [if_neg (by omega), if_neg (fun q => absurd q.2 (by omega))], rfl⟩
    · skip
      refine r_lld0 (pc := 21) dX6_qFloor_21 ?_
      refine r_lconst (v := lI 0) (pc := 22) dX6_qFloor_22 rfl ?_
      refine r_lcmp (pc := 23) dX6_qFloor_23 ?_
      first | refine r_if_geCI (pc := 24) (tgt := 31) dX6_qFloor_24 (by decide) (by constructor <;> omega) (by constructor <;> omega) (fun h24 => ?_) (fun h24 => ?_) | refine r_if_geC (pc := 24) (tgt := 31) dX6_qFloor_24 (by decide) (fun h24 => ?_) (fun h24 => ?_)
      · skip
        refine r_iconst (v := nI 0) (pc := 31) dX6_qFloor_31 (by decide) ?_
        refine r_lld2 (pc := 32) dX6_qFloor_32 ?_
        refine r_lconst (v := lI 0) (pc := 33) dX6_qFloor_33 rfl ?_
        refine r_lcmp (pc := 34) dX6_qFloor_34 ?_
        first | refine r_if_geCI (pc := 35) (tgt := 42) dX6_qFloor_35 (by decide) (by constructor <;> omega) (by constructor <;> omega) (fun h35 => ?_) (fun h35 => ?_) | refine r_if_geC (pc := 35) (tgt := 42) dX6_qFloor_35 (by decide) (fun h35 => ?_) (fun h35 => ?_)
        · skip
          refine r_iconst (v := nI 0) (pc := 42) dX6_qFloor_42 (by decide) ?_
          first | refine r_icmp_eqN (pc := 43) (tgt := 53) dX6_qFloor_43 (by decide) (by omega) (by omega) (fun h43 => ?_) (fun h43 => ?_) | refine r_icmp_eq (pc := 43) (tgt := 53) dX6_qFloor_43 (by decide) (fun h43 => ?_) (fun h43 => ?_)
          · skip
            refine r_lld4 (pc := 53) dX6_qFloor_53 ?_
            refine r_lret (pc := 55) dX6_qFloor_55 ?_
            exact ⟨by unfold flr; first | (exfalso; omega) | rw [if_pos (by omega)] | rw [if_neg (by omega), if_pos ⟨by omega, by omega⟩] | rw [if_neg (by omega), if_neg (fun q => absurd q.1 (by omega))] | rw [if_neg (by omega), if_neg (fun q => absurd q.2 (by omega))], rfl⟩
          · skip
            refine r_lld4 (pc := 46) dX6_qFloor_46 ?_
            refine r_lconst (v := lI 1) (pc := 48) dX6_qFloor_48 rfl ?_
            first | refine r_lsubI (pc := 49) dX6_qFloor_49 ?_ | refine r_lsub (pc := 49) dX6_qFloor_49 ?_
            refine r_goto (pc := 50) (tgt := 55) dX6_qFloor_50 (by decide) ?_
            refine r_lret (pc := 55) dX6_qFloor_55 ?_
            exact ⟨by unfold flr; first | (exfalso; omega) | rw [if_pos (by omega)] | rw [if_neg (by omega), if_pos ⟨by omega, by omega⟩] | rw [if_neg (by omega), if_neg (fun q => absurd q.1 (by omega))] | rw [if_neg (by omega), if_neg (fun q => absurd q.2 (by omega))], rfl⟩
        · skip
          refine r_iconst (v := nI 1) (pc := 38) dX6_qFloor_38 (by decide) ?_
          refine r_goto (pc := 39) (tgt := 43) dX6_qFloor_39 (by decide) ?_
          first | refine r_icmp_eqN (pc := 43) (tgt := 53) dX6_qFloor_43 (by decide) (by omega) (by omega) (fun h43 => ?_) (fun h43 => ?_) | refine r_icmp_eq (pc := 43) (tgt := 53) dX6_qFloor_43 (by decide) (fun h43 => ?_) (fun h43 => ?_)
          · skip
            refine r_lld4 (pc := 53) dX6_qFloor_53 ?_
            refine r_lret (pc := 55) dX6_qFloor_55 ?_
            exact ⟨by unfold flr; first | (exfalso; omega) | rw [if_pos (by omega)] | rw [if_neg (by omega), if_pos ⟨by omega, by omega⟩] | rw [if_neg (by omega), if_neg (fun q => absurd q.1 (by omega))] | rw [if_neg (by omega), if_neg (fun q => absurd q.2 (by omega))], rfl⟩
          · skip
            refine r_lld4 (pc := 46) dX6_qFloor_46 ?_
            refine r_lconst (v := lI 1) (pc := 48) dX6_qFloor_48 rfl ?_
            first | refine r_lsubI (pc := 49) dX6_qFloor_49 ?_ | refine r_lsub (pc := 49) dX6_qFloor_49 ?_
            refine r_goto (pc := 50) (tgt := 55) dX6_qFloor_50 (by decide) ?_
            refine r_lret (pc := 55) dX6_qFloor_55 ?_
            exact ⟨by unfold flr; first | (exfalso; omega) | rw [if_pos (by omega)] | rw [if_neg (by omega), if_pos ⟨by omega, by omega⟩] | rw [if_neg (by omega), if_neg (fun q => absurd q.1 (by omega))] | rw [if_neg (by omega), if_neg (fun q => absurd q.2 (by omega))], rfl⟩
      · skip
        refine r_iconst (v := nI 1) (pc := 27) dX6_qFloor_27 (by decide) ?_
        refine r_goto (pc := 28) (tgt := 32) dX6_qFloor_28 (by decide) ?_
        refine r_lld2 (pc := 32) dX6_qFloor_32 ?_
        refine r_lconst (v := lI 0) (pc := 33) dX6_qFloor_33 rfl ?_
        refine r_lcmp (pc := 34) dX6_qFloor_34 ?_
        first | refine r_if_geCI (pc := 35) (tgt := 42) dX6_qFloor_35 (by decide) (by constructor <;> omega) (by constructor <;> omega) (fun h35 => ?_) (fun h35 => ?_) | refine r_if_geC (pc := 35) (tgt := 42) dX6_qFloor_35 (by decide) (fun h35 => ?_) (fun h35 => ?_)
        · skip
          refine r_iconst (v := nI 0) (pc := 42) dX6_qFloor_42 (by decide) ?_
          first | refine r_icmp_eqN (pc := 43) (tgt := 53) dX6_qFloor_43 (by decide) (by omega) (by omega) (fun h43 => ?_) (fun h43 => ?_) | refine r_icmp_eq (pc := 43) (tgt := 53) dX6_qFloor_43 (by decide) (fun h43 => ?_) (fun h43 => ?_)
          · skip
            refine r_lld4 (pc := 53) dX6_qFloor_53 ?_
            refine r_lret (pc := 55) dX6_qFloor_55 ?_
            exact ⟨by unfold flr; first | (exfalso; omega) | rw [if_pos (by omega)] | rw [if_neg (by omega), if_pos ⟨by omega, by omega⟩] | rw [if_neg (by omega), if_neg (fun q => absurd q.1 (by omega))] | rw [if_neg (by omega), if_neg (fun q => absurd q.2 (by omega))], rfl⟩
          · skip
            refine r_lld4 (pc := 46) dX6_qFloor_46 ?_
            refine r_lconst (v := lI 1) (pc := 48) dX6_qFloor_48 rfl ?_
            first | refine r_lsubI (pc := 49) dX6_qFloor_49 ?_ | refine r_lsub (pc := 49) dX6_qFloor_49 ?_
            refine r_goto (pc := 50) (tgt := 55) dX6_qFloor_50 (by decide) ?_
            refine r_lret (pc := 55) dX6_qFloor_55 ?_
            exact ⟨by unfold flr; first | (exfalso; omega) | rw [if_pos (by omega)] | rw [if_neg (by omega), if_pos ⟨by omega, by omega⟩] | rw [if_neg (by omega), if_neg (fun q => absurd q.1 (by omega))] | rw [if_neg (by omega), if_neg (fun q => absurd q.2 (by omega))], rfl⟩
        · skip
          refine r_iconst (v := nI 1) (pc := 38) dX6_qFloor_38 (by decide) ?_
          refine r_goto (pc := 39) (tgt := 43) dX6_qFloor_39 (by decide) ?_
          first | refine r_icmp_eqN (pc := 43) (tgt := 53) dX6_qFloor_43 (by decide) (by omega) (by omega) (fun h43 => ?_) (fun h43 => ?_) | refine r_icmp_eq (pc := 43) (tgt := 53) dX6_qFloor_43 (by decide) (fun h43 => ?_) (fun h43 => ?_)
          · skip
            refine r_lld4 (pc := 53) dX6_qFloor_53 ?_
            refine r_lret (pc := 55) dX6_qFloor_55 ?_
            exact ⟨by unfold flr; first | (exfalso; omega) | rw [if_pos (by omega)] | rw [if_neg (by omega), if_pos ⟨by omega, by omega⟩] | rw [if_neg (by omega), if_neg (fun q => absurd q.1 (by omega))] | rw [if_neg (by omega), if_neg (fun q => absurd q.2 (by omega))], rfl⟩
          · skip
            refine r_lld4 (pc := 46) dX6_qFloor_46 ?_
            refine r_lconst (v := lI 1) (pc := 48) dX6_qFloor_48 rfl ?_
            first | refine r_lsubI (pc := 49) dX6_qFloor_49 ?_ | refine r_lsub (pc := 49) dX6_qFloor_49 ?_
            refine r_goto (pc := 50) (tgt := 55) dX6_qFloor_50 (by decide) ?_
            refine r_lret (pc := 55) dX6_qFloor_55 ?_
            exact ⟨by unfold flr; first | (exfalso; omega) | rw [if_pos (by omega)] | rw [if_neg (by omega), if_pos ⟨by omega, by omega⟩] | rw [if_neg (by omega), if_neg (fun q => absurd q.1 (by omega))] | rw [if_neg (by omega), if_neg (fun q => absurd q.2 (by omega))], rfl⟩
  · skip
    refine r_lconst (v := lI 0) (pc := 6) dX6_qFloor_6 rfl ?_
    refine r_lret (pc := 7) dX6_qFloor_7 ?_
    exact ⟨by unfold flr; first | (exfalso; omega) | rw [if_pos (by omega)] | rw [if_neg (by omega), if_pos ⟨by omega, by omega⟩] | rw [if_neg (by omega), if_neg (fun q => absurd q.1 (by omega))] | rw [if_neg (by omega), if_neg (fun q => absurd q.2 (by omega))], rfl⟩
theorem ct_X6_qPuts {v : Int64} {k : Nat} (hS : ShM g M o) (hk : mF s 108 = nI k) (hk2 : k < 1700) : Ct g yX6_qPuts cX6_qPuts 3 none 0 0 0 [.ref o, .long v] (putM M o s) (VQ (putM M o (tF (tB s 107 k v) 108 (nI (k + 1))))) noX := by
  refine Ct.of (by decide) (Nat.le_of_ble_eq_true rfl) rfl ?_
  refine r_ald0 (pc := 0) dX6_qPuts_0 ?_
  refine m_getR hS (pc := 1) dX6_qPuts_1 fl_X6_228 ar107 ?_
  refine r_ald0 (pc := 4) dX6_qPuts_4 ?_
  refine m_getI hS (pc := 5) dX6_qPuts_5 fl_X6_409 ?_
  refine Bd.eqI hk ?_
  refine r_lld1 (pc := 8) dX6_qPuts_8 ?_
  refine m_last hS (pc := 9) dX6_qPuts_9 ar107 (by omega) (by omega) ?_
  refine r_ald0 (pc := 10) dX6_qPuts_10 ?_
  refine r_dup (pc := 11) dX6_qPuts_11 rfl ?_
  refine m_getI hS (pc := 12) dX6_qPuts_12 fl_X6_409 ?_
  refine Bd.eqI hk ?_
  refine r_iconst (v := nI 1) (pc := 15) dX6_qPuts_15 (by decide) ?_
  first | refine r_iaddN (pc := 16) dX6_qPuts_16 ?_ | refine r_iaddJ (pc := 16) dX6_qPuts_16 ?_ | refine r_iadd (pc := 16) dX6_qPuts_16 ?_
  refine m_putI hS (pc := 17) dX6_qPuts_17 fl_X6_409 fw_X6_108 rfl rfl ?_
  refine r_vret (pc := 20) dX6_qPuts_20 ?_
  exact ⟨rfl, rfl⟩
theorem ct_X6_cut {v : Int} {m : Nat} (hv : b62 v) (hm : m < 1000) : Ct g yX6_cut cX6_cut 3 (some Jvm.ClassFile.FieldType.int) 0 0 0 [.long (lI v), .int (nI m)] M1 (PQ M1 (.int (nI (if v < 0 then 0 else if v > m then m else v.toNat)))) noX := by
  obtain ⟨hv1, hv2⟩ := hv
  refine Ct.of (by decide) (Nat.le_of_ble_eq_true rfl) rfl ?_
  refine r_lld0 (pc := 0) dX6_cut_0 ?_
  refine r_lconst (v := lI 0) (pc := 1) dX6_cut_1 rfl ?_
  refine r_lcmp (pc := 2) dX6_cut_2 ?_
  first | refine r_if_geCI (pc := 3) (tgt := 10) dX6_cut_3 (by decide) (by constructor <;> omega) (by constructor <;> omega) (fun h3 => ?_) (fun h3 => ?_) | refine r_if_geC (pc := 3) (tgt := 10) dX6_cut_3 (by decide) (fun h3 => ?_) (fun h3 => ?_)
  · skip
    refine r_lld0 (pc := 10) dX6_cut_10 ?_
    refine r_ild2 (pc := 11) dX6_cut_11 ?_
    first | refine r_i2lM (pc := 12) dX6_cut_12 (by omega) ?_ | refine r_i2lI (pc := 12) dX6_cut_12 (by constructor <;> omega) ?_ | refine r_i2lT (pc := 12) dX6_cut_12 ?_
    refine r_lcmp (pc := 13) dX6_cut_13 ?_
    first | refine r_if_leCI (pc := 14) (tgt := 21) dX6_cut_14 (by decide) (by constructor <;> omega) (by constructor <;> omega) (fun h14 => ?_) (fun h14 => ?_) | refine r_if_leC (pc := 14) (tgt := 21) dX6_cut_14 (by decide) (fun h14 => ?_) (fun h14 => ?_)
    · skip
      refine r_lld0 (pc := 21) dX6_cut_21 ?_
      refine Bd.eqL (x' := lI (v.toNat : Int)) (by rw [Int.toNat_of_nonneg (by omega)]) ?_
      first | refine r_l2iN (pc := 22) dX6_cut_22 ?_ | refine r_l2iI (pc := 22) dX6_cut_22 ?_ | refine r_l2i (pc := 22) dX6_cut_22 ?_
      refine r_iret (pc := 23) dX6_cut_23 ?_
      exact ⟨by first | rw [if_pos (by omega)] | rw [if_neg (by omega), if_pos (by omega)] | rw [if_neg (by omega), if_neg (by omega)], rfl⟩
    · skip
      refine r_ild2 (pc := 17) dX6_cut_17 ?_
      refine r_goto (pc := 18) (tgt := 23) dX6_cut_18 (by decide) ?_
      refine r_iret (pc := 23) dX6_cut_23 ?_
      exact ⟨by first | rw [if_pos (by omega)] | rw [if_neg (by omega), if_pos (by omega)] | rw [if_neg (by omega), if_neg (by omega)], rfl⟩
  · skip
    refine r_iconst (v := nI 0) (pc := 6) dX6_cut_6 (by decide) ?_
    refine r_goto (pc := 7) (tgt := 23) dX6_cut_7 (by decide) ?_
    refine r_iret (pc := 23) dX6_cut_23 ?_
    exact ⟨by first | rw [if_pos (by omega)] | rw [if_neg (by omega), if_pos (by omega)] | rw [if_neg (by omega), if_neg (by omega)], rfl⟩
theorem ct_X6_qJoins {op k : Nat} {a b : Int} (hS : ShM g M o) (hop : 1 ≤ op ∧ op ≤ 11) (hk : mF s 108 = nI (k + 2)) (hk2 : k + 2 ≤ 1700) (hb : mB s 107 (k + 1) = lI b) (ha : mB s 107 k = lI a) (ha6 : b6 a) (hb6 : b6 b) : Ct g yX6_qJoins cX6_qJoins 6 none 1 0 0 [.ref o, .int (nI op)] (putM M o s) (VQ (putM M o (tF (tB (tF s 108 (nI k)) 107 k (lI (jn op a b))) 108 (nI (k + 1))))) noX := by
  obtain ⟨ha1, ha2⟩ := ha6
  obtain ⟨hb1, hb2⟩ := hb6
  have hm : b62 (a * b) := by
    have h1 : (a * b).natAbs ≤ 1000000 * 1000000 := by rw [Int.natAbs_mul]; exact Nat.mul_le_mul (by omega) (by omega)
    constructor <;> omega
  have hc : op = 1 ∨ op = 2 ∨ op = 3 ∨ op = 4 ∨ op = 5 ∨ op = 6 ∨ op = 7 ∨ op = 8 ∨ op = 9 ∨ op = 10 ∨ op = 11 := by omega
  refine Ct.of (by decide) (Nat.le_of_ble_eq_true rfl) rfl ?_
  rcases hc with h | h | h | h | h | h | h | h | h | h | h <;> subst h
  · skip
    refine r_ald0 (pc := 0) dX6_qJoins_0 ?_
    refine m_getR hS (pc := 1) dX6_qJoins_1 fl_X6_228 ar107 ?_
    refine r_ald0 (pc := 4) dX6_qJoins_4 ?_
    refine m_getI hS (pc := 5) dX6_qJoins_5 fl_X6_409 ?_
    refine Bd.eqI hk ?_
    refine r_iconst (v := nI 1) (pc := 8) dX6_qJoins_8 (by decide) ?_
    first | refine r_isubN (pc := 9) dX6_qJoins_9 (by omega) ?_ | refine r_isubM (pc := 9) dX6_qJoins_9 ?_ | refine r_isubJ (pc := 9) dX6_qJoins_9 ?_ | refine r_isub (pc := 9) dX6_qJoins_9 ?_
    refine m_lald hS (pc := 10) dX6_qJoins_10 ar107 (by omega) (by omega) ?_
    refine Bd.eqL hb ?_
    refine r_lst2 (pc := 11) dX6_qJoins_11 ?_
    refine r_ald0 (pc := 12) dX6_qJoins_12 ?_
    refine m_getR hS (pc := 13) dX6_qJoins_13 fl_X6_228 ar107 ?_
    refine r_ald0 (pc := 16) dX6_qJoins_16 ?_
    refine m_getI hS (pc := 17) dX6_qJoins_17 fl_X6_409 ?_
    refine Bd.eqI hk ?_
    refine r_iconst (v := nI 2) (pc := 20) dX6_qJoins_20 (by decide) ?_
    first | refine r_isubN (pc := 21) dX6_qJoins_21 (by omega) ?_ | refine r_isubM (pc := 21) dX6_qJoins_21 ?_ | refine r_isubJ (pc := 21) dX6_qJoins_21 ?_ | refine r_isub (pc := 21) dX6_qJoins_21 ?_
    refine m_lald hS (pc := 22) dX6_qJoins_22 ar107 (by omega) (by omega) ?_
    refine Bd.eqL ha ?_
    refine r_lst4 (pc := 23) dX6_qJoins_23 ?_
    refine r_ald0 (pc := 25) dX6_qJoins_25 ?_
    refine r_dup (pc := 26) dX6_qJoins_26 rfl ?_
    refine m_getI hS (pc := 27) dX6_qJoins_27 fl_X6_409 ?_
    refine Bd.eqI hk ?_
    refine r_iconst (v := nI 2) (pc := 30) dX6_qJoins_30 (by decide) ?_
    first | refine r_isubN (pc := 31) dX6_qJoins_31 (by omega) ?_ | refine r_isubM (pc := 31) dX6_qJoins_31 ?_ | refine r_isubJ (pc := 31) dX6_qJoins_31 ?_ | refine r_isub (pc := 31) dX6_qJoins_31 ?_
    refine m_putI hS (pc := 32) dX6_qJoins_32 fl_X6_409 fw_X6_108 rfl rfl ?_
    refine r_ild1 (pc := 35) dX6_qJoins_35 ?_
    refine r_tableIn (pc := 36) (tgt := 92) (off := 56) dX6_qJoins_36 (by decide) (by decide) rfl (by decide) ?_
    refine r_ald0 (pc := 92) dX6_qJoins_92 ?_
    refine r_lld4 (pc := 93) dX6_qJoins_93 ?_
    refine r_lld2 (pc := 95) dX6_qJoins_95 ?_
    first | refine r_laddI (pc := 96) dX6_qJoins_96 ?_ | refine r_ladd (pc := 96) dX6_qJoins_96 ?_
    refine r_cS (pc := 97) dX6_qJoins_97 cs_X6_657 (ct_X6_qClip (by constructor <;> omega)) rfl rfl (Nat.le_of_ble_eq_true rfl) (by decide) ?_
    rintro _ _ ⟨rfl, rfl⟩
    refine r_cV (pc := 100) dX6_qJoins_100 cv_X6_412 hS.k (ct_X6_qPuts hS (k := k) rfl (by omega)) rfl rfl (Nat.le_of_ble_eq_true rfl) (by decide) ?_
    rintro _ _ ⟨rfl, rfl⟩
    refine r_goto (pc := 103) (tgt := 273) dX6_qJoins_103 (by decide) ?_
    refine r_vret (pc := 273) dX6_qJoins_273 ?_
    exact ⟨rfl, by first | rfl | (rw [show jn 1 a b = _ from if_pos (by omega)]; rfl) | (rw [show jn 1 a b = _ from if_neg (by omega)]; rfl)⟩
  · skip
    refine r_ald0 (pc := 0) dX6_qJoins_0 ?_
    refine m_getR hS (pc := 1) dX6_qJoins_1 fl_X6_228 ar107 ?_
    refine r_ald0 (pc := 4) dX6_qJoins_4 ?_
    refine m_getI hS (pc := 5) dX6_qJoins_5 fl_X6_409 ?_
    refine Bd.eqI hk ?_
    refine r_iconst (v := nI 1) (pc := 8) dX6_qJoins_8 (by decide) ?_
    first | refine r_isubN (pc := 9) dX6_qJoins_9 (by omega) ?_ | refine r_isubM (pc := 9) dX6_qJoins_9 ?_ | refine r_isubJ (pc := 9) dX6_qJoins_9 ?_ | refine r_isub (pc := 9) dX6_qJoins_9 ?_
    refine m_lald hS (pc := 10) dX6_qJoins_10 ar107 (by omega) (by omega) ?_
    refine Bd.eqL hb ?_
    refine r_lst2 (pc := 11) dX6_qJoins_11 ?_
    refine r_ald0 (pc := 12) dX6_qJoins_12 ?_
    refine m_getR hS (pc := 13) dX6_qJoins_13 fl_X6_228 ar107 ?_
    refine r_ald0 (pc := 16) dX6_qJoins_16 ?_
    refine m_getI hS (pc := 17) dX6_qJoins_17 fl_X6_409 ?_
    refine Bd.eqI hk ?_
    refine r_iconst (v := nI 2) (pc := 20) dX6_qJoins_20 (by decide) ?_
    first | refine r_isubN (pc := 21) dX6_qJoins_21 (by omega) ?_ | refine r_isubM (pc := 21) dX6_qJoins_21 ?_ | refine r_isubJ (pc := 21) dX6_qJoins_21 ?_ | refine r_isub (pc := 21) dX6_qJoins_21 ?_
    refine m_lald hS (pc := 22) dX6_qJoins_22 ar107 (by omega) (by omega) ?_
    refine Bd.eqL ha ?_
    refine r_lst4 (pc := 23) dX6_qJoins_23 ?_
    refine r_ald0 (pc := 25) dX6_qJoins_25 ?_
    refine r_dup (pc := 26) dX6_qJoins_26 rfl ?_
    refine m_getI hS (pc := 27) dX6_qJoins_27 fl_X6_409 ?_
    refine Bd.eqI hk ?_
    refine r_iconst (v := nI 2) (pc := 30) dX6_qJoins_30 (by decide) ?_
    first | refine r_isubN (pc := 31) dX6_qJoins_31 (by omega) ?_ | refine r_isubM (pc := 31) dX6_qJoins_31 ?_ | refine r_isubJ (pc := 31) dX6_qJoins_31 ?_ | refine r_isub (pc := 31) dX6_qJoins_31 ?_
    refine m_putI hS (pc := 32) dX6_qJoins_32 fl_X6_409 fw_X6_108 rfl rfl ?_
    refine r_ild1 (pc := 35) dX6_qJoins_35 ?_
    refine r_tableIn (pc := 36) (tgt := 106) (off := 70) dX6_qJoins_36 (by decide) (by decide) rfl (by decide) ?_
    refine r_ald0 (pc := 106) dX6_qJoins_106 ?_
    refine r_lld4 (pc := 107) dX6_qJoins_107 ?_
    refine r_lld2 (pc := 109) dX6_qJoins_109 ?_
    first | refine r_lsubI (pc := 110) dX6_qJoins_110 ?_ | refine r_lsub (pc := 110) dX6_qJoins_110 ?_
    refine r_cS (pc := 111) dX6_qJoins_111 cs_X6_657 (ct_X6_qClip (by constructor <;> omega)) rfl rfl (Nat.le_of_ble_eq_true rfl) (by decide) ?_
    rintro _ _ ⟨rfl, rfl⟩
    refine r_cV (pc := 114) dX6_qJoins_114 cv_X6_412 hS.k (ct_X6_qPuts hS (k := k) rfl (by omega)) rfl rfl (Nat.le_of_ble_eq_true rfl) (by decide) ?_
    rintro _ _ ⟨rfl, rfl⟩
    refine r_goto (pc := 117) (tgt := 273) dX6_qJoins_117 (by decide) ?_
    refine r_vret (pc := 273) dX6_qJoins_273 ?_
    exact ⟨rfl, by first | rfl | (rw [show jn 2 a b = _ from if_pos (by omega)]; rfl) | (rw [show jn 2 a b = _ from if_neg (by omega)]; rfl)⟩
  · skip
    refine r_ald0 (pc := 0) dX6_qJoins_0 ?_
    refine m_getR hS (pc := 1) dX6_qJoins_1 fl_X6_228 ar107 ?_
    refine r_ald0 (pc := 4) dX6_qJoins_4 ?_
    refine m_getI hS (pc := 5) dX6_qJoins_5 fl_X6_409 ?_
    refine Bd.eqI hk ?_
    refine r_iconst (v := nI 1) (pc := 8) dX6_qJoins_8 (by decide) ?_
    first | refine r_isubN (pc := 9) dX6_qJoins_9 (by omega) ?_ | refine r_isubM (pc := 9) dX6_qJoins_9 ?_ | refine r_isubJ (pc := 9) dX6_qJoins_9 ?_ | refine r_isub (pc := 9) dX6_qJoins_9 ?_
    refine m_lald hS (pc := 10) dX6_qJoins_10 ar107 (by omega) (by omega) ?_
    refine Bd.eqL hb ?_
    refine r_lst2 (pc := 11) dX6_qJoins_11 ?_
    refine r_ald0 (pc := 12) dX6_qJoins_12 ?_
    refine m_getR hS (pc := 13) dX6_qJoins_13 fl_X6_228 ar107 ?_
    refine r_ald0 (pc := 16) dX6_qJoins_16 ?_
    refine m_getI hS (pc := 17) dX6_qJoins_17 fl_X6_409 ?_
    refine Bd.eqI hk ?_
    refine r_iconst (v := nI 2) (pc := 20) dX6_qJoins_20 (by decide) ?_
    first | refine r_isubN (pc := 21) dX6_qJoins_21 (by omega) ?_ | refine r_isubM (pc := 21) dX6_qJoins_21 ?_ | refine r_isubJ (pc := 21) dX6_qJoins_21 ?_ | refine r_isub (pc := 21) dX6_qJoins_21 ?_
    refine m_lald hS (pc := 22) dX6_qJoins_22 ar107 (by omega) (by omega) ?_
    refine Bd.eqL ha ?_
    refine r_lst4 (pc := 23) dX6_qJoins_23 ?_
    refine r_ald0 (pc := 25) dX6_qJoins_25 ?_
    refine r_dup (pc := 26) dX6_qJoins_26 rfl ?_
    refine m_getI hS (pc := 27) dX6_qJoins_27 fl_X6_409 ?_
    refine Bd.eqI hk ?_
    refine r_iconst (v := nI 2) (pc := 30) dX6_qJoins_30 (by decide) ?_
    first | refine r_isubN (pc := 31) dX6_qJoins_31 (by omega) ?_ | refine r_isubM (pc := 31) dX6_qJoins_31 ?_ | refine r_isubJ (pc := 31) dX6_qJoins_31 ?_ | refine r_isub (pc := 31) dX6_qJoins_31 ?_
    refine m_putI hS (pc := 32) dX6_qJoins_32 fl_X6_409 fw_X6_108 rfl rfl ?_
    refine r_ild1 (pc := 35) dX6_qJoins_35 ?_
    refine r_tableIn (pc := 36) (tgt := 120) (off := 84) dX6_qJoins_36 (by decide) (by decide) rfl (by decide) ?_
    refine r_ald0 (pc := 120) dX6_qJoins_120 ?_
    refine r_lld4 (pc := 121) dX6_qJoins_121 ?_
    refine r_lld2 (pc := 123) dX6_qJoins_123 ?_
    first | refine r_lmulI (pc := 124) dX6_qJoins_124 ?_ | refine r_lmul (pc := 124) dX6_qJoins_124 ?_
    refine r_cS (pc := 125) dX6_qJoins_125 cs_X6_657 (ct_X6_qClip hm) rfl rfl (Nat.le_of_ble_eq_true rfl) (by decide) ?_
    rintro _ _ ⟨rfl, rfl⟩
    refine r_cV (pc := 128) dX6_qJoins_128 cv_X6_412 hS.k (ct_X6_qPuts hS (k := k) rfl (by omega)) rfl rfl (Nat.le_of_ble_eq_true rfl) (by decide) ?_
    rintro _ _ ⟨rfl, rfl⟩
    refine r_goto (pc := 131) (tgt := 273) dX6_qJoins_131 (by decide) ?_
    refine r_vret (pc := 273) dX6_qJoins_273 ?_
    exact ⟨rfl, by first | rfl | (rw [show jn 3 a b = _ from if_pos (by omega)]; rfl) | (rw [show jn 3 a b = _ from if_neg (by omega)]; rfl)⟩
  · skip
    refine r_ald0 (pc := 0) dX6_qJoins_0 ?_
    refine m_getR hS (pc := 1) dX6_qJoins_1 fl_X6_228 ar107 ?_
    refine r_ald0 (pc := 4) dX6_qJoins_4 ?_
    refine m_getI hS (pc := 5) dX6_qJoins_5 fl_X6_409 ?_
    refine Bd.eqI hk ?_
    refine r_iconst (v := nI 1) (pc := 8) dX6_qJoins_8 (by decide) ?_
    first | refine r_isubN (pc := 9) dX6_qJoins_9 (by omega) ?_ | refine r_isubM (pc := 9) dX6_qJoins_9 ?_ | refine r_isubJ (pc := 9) dX6_qJoins_9 ?_ | refine r_isub (pc := 9) dX6_qJoins_9 ?_
    refine m_lald hS (pc := 10) dX6_qJoins_10 ar107 (by omega) (by omega) ?_
    refine Bd.eqL hb ?_
    refine r_lst2 (pc := 11) dX6_qJoins_11 ?_
    refine r_ald0 (pc := 12) dX6_qJoins_12 ?_
    refine m_getR hS (pc := 13) dX6_qJoins_13 fl_X6_228 ar107 ?_
    refine r_ald0 (pc := 16) dX6_qJoins_16 ?_
    refine m_getI hS (pc := 17) dX6_qJoins_17 fl_X6_409 ?_
    refine Bd.eqI hk ?_
    refine r_iconst (v := nI 2) (pc := 20) dX6_qJoins_20 (by decide) ?_
    first | refine r_isubN (pc := 21) dX6_qJoins_21 (by omega) ?_ | refine r_isubM (pc := 21) dX6_qJoins_21 ?_ | refine r_isubJ (pc := 21) dX6_qJoins_21 ?_ | refine r_isub (pc := 21) dX6_qJoins_21 ?_
    refine m_lald hS (pc := 22) dX6_qJoins_22 ar107 (by omega) (by omega) ?_
    refine Bd.eqL ha ?_
    refine r_lst4 (pc := 23) dX6_qJoins_23 ?_
    refine r_ald0 (pc := 25) dX6_qJoins_25 ?_
    refine r_dup (pc := 26) dX6_qJoins_26 rfl ?_
    refine m_getI hS (pc := 27) dX6_qJoins_27 fl_X6_409 ?_
    refine Bd.eqI hk ?_
    refine r_iconst (v := nI 2) (pc := 30) dX6_qJoins_30 (by decide) ?_
    first | refine r_isubN (pc := 31) dX6_qJoins_31 (by omega) ?_ | refine r_isubM (pc := 31) dX6_qJoins_31 ?_ | refine r_isubJ (pc := 31) dX6_qJoins_31 ?_ | refine r_isub (pc := 31) dX6_qJoins_31 ?_
    refine m_putI hS (pc := 32) dX6_qJoins_32 fl_X6_409 fw_X6_108 rfl rfl ?_
    refine r_ild1 (pc := 35) dX6_qJoins_35 ?_
    refine r_tableIn (pc := 36) (tgt := 134) (off := 98) dX6_qJoins_36 (by decide) (by decide) rfl (by decide) ?_
    refine r_ald0 (pc := 134) dX6_qJoins_134 ?_
    refine r_lld4 (pc := 135) dX6_qJoins_135 ?_
    refine r_lld2 (pc := 137) dX6_qJoins_137 ?_
    refine r_cS (pc := 138) dX6_qJoins_138 cs_X6_661 (ct_X6_qFloor (by constructor <;> omega) (by constructor <;> omega)) rfl rfl (Nat.le_of_ble_eq_true rfl) (by decide) ?_
    rintro _ _ ⟨rfl, rfl⟩
    refine r_cV (pc := 141) dX6_qJoins_141 cv_X6_412 hS.k (ct_X6_qPuts hS (k := k) rfl (by omega)) rfl rfl (Nat.le_of_ble_eq_true rfl) (by decide) ?_
    rintro _ _ ⟨rfl, rfl⟩
    refine r_goto (pc := 144) (tgt := 273) dX6_qJoins_144 (by decide) ?_
    refine r_vret (pc := 273) dX6_qJoins_273 ?_
    exact ⟨rfl, by first | rfl | (rw [show jn 4 a b = _ from if_pos (by omega)]; rfl) | (rw [show jn 4 a b = _ from if_neg (by omega)]; rfl)⟩
  · skip
    refine r_ald0 (pc := 0) dX6_qJoins_0 ?_
    refine m_getR hS (pc := 1) dX6_qJoins_1 fl_X6_228 ar107 ?_
    refine r_ald0 (pc := 4) dX6_qJoins_4 ?_
    refine m_getI hS (pc := 5) dX6_qJoins_5 fl_X6_409 ?_
    refine Bd.eqI hk ?_
    refine r_iconst (v := nI 1) (pc := 8) dX6_qJoins_8 (by decide) ?_
    first | refine r_isubN (pc := 9) dX6_qJoins_9 (by omega) ?_ | refine r_isubM (pc := 9) dX6_qJoins_9 ?_ | refine r_isubJ (pc := 9) dX6_qJoins_9 ?_ | refine r_isub (pc := 9) dX6_qJoins_9 ?_
    refine m_lald hS (pc := 10) dX6_qJoins_10 ar107 (by omega) (by omega) ?_
    refine Bd.eqL hb ?_
    refine r_lst2 (pc := 11) dX6_qJoins_11 ?_
    refine r_ald0 (pc := 12) dX6_qJoins_12 ?_
    refine m_getR hS (pc := 13) dX6_qJoins_13 fl_X6_228 ar107 ?_
    refine r_ald0 (pc := 16) dX6_qJoins_16 ?_
    refine m_getI hS (pc := 17) dX6_qJoins_17 fl_X6_409 ?_
    refine Bd.eqI hk ?_
    refine r_iconst (v := nI 2) (pc := 20) dX6_qJoins_20 (by decide) ?_
    first | refine r_isubN (pc := 21) dX6_qJoins_21 (by omega) ?_ | refine r_isubM (pc := 21) dX6_qJoins_21 ?_ | refine r_isubJ (pc := 21) dX6_qJoins_21 ?_ | refine r_isub (pc := 21) dX6_qJoins_21 ?_
    refine m_lald hS (pc := 22) dX6_qJoins_22 ar107 (by omega) (by omega) ?_
    refine Bd.eqL ha ?_
    refine r_lst4 (pc := 23) dX6_qJoins_23 ?_
    refine r_ald0 (pc := 25) dX6_qJoins_25 ?_
    refine r_dup (pc := 26) dX6_qJoins_26 rfl ?_
    refine m_getI hS (pc := 27) dX6_qJoins_27 fl_X6_409 ?_
    refine Bd.eqI hk ?_
    refine r_iconst (v := nI 2) (pc := 30) dX6_qJoins_30 (by decide) ?_
    first | refine r_isubN (pc := 31) dX6_qJoins_31 (by omega) ?_ | refine r_isubM (pc := 31) dX6_qJoins_31 ?_ | refine r_isubJ (pc := 31) dX6_qJoins_31 ?_ | refine r_isub (pc := 31) dX6_qJoins_31 ?_
    refine m_putI hS (pc := 32) dX6_qJoins_32 fl_X6_409 fw_X6_108 rfl rfl ?_
    refine r_ild1 (pc := 35) dX6_qJoins_35 ?_
    refine r_tableIn (pc := 36) (tgt := 147) (off := 111) dX6_qJoins_36 (by decide) (by decide) rfl (by decide) ?_
    refine r_ald0 (pc := 147) dX6_qJoins_147 ?_
    refine r_lld4 (pc := 148) dX6_qJoins_148 ?_
    refine r_lld2 (pc := 150) dX6_qJoins_150 ?_
    refine r_lcmp (pc := 151) dX6_qJoins_151 ?_
    first | refine r_if_geCI (pc := 152) (tgt := 160) dX6_qJoins_152 (by decide) (by constructor <;> omega) (by constructor <;> omega) (fun h152 => ?_) (fun h152 => ?_) | refine r_if_geC (pc := 152) (tgt := 160) dX6_qJoins_152 (by decide) (fun h152 => ?_) (fun h152 => ?_)
    · skip
      refine r_lld2 (pc := 160) dX6_qJoins_160 ?_
      refine r_cV (pc := 161) dX6_qJoins_161 cv_X6_412 hS.k (ct_X6_qPuts hS (k := k) rfl (by omega)) rfl rfl (Nat.le_of_ble_eq_true rfl) (by decide) ?_
      rintro _ _ ⟨rfl, rfl⟩
      refine r_goto (pc := 164) (tgt := 273) dX6_qJoins_164 (by decide) ?_
      refine r_vret (pc := 273) dX6_qJoins_273 ?_
      exact ⟨rfl, by first | rfl | (rw [show jn 5 a b = _ from if_pos (by omega)]; rfl) | (rw [show jn 5 a b = _ from if_neg (by omega)]; rfl)⟩
    · skip
      refine r_lld4 (pc := 155) dX6_qJoins_155 ?_
      refine r_goto (pc := 157) (tgt := 161) dX6_qJoins_157 (by decide) ?_
      refine r_cV (pc := 161) dX6_qJoins_161 cv_X6_412 hS.k (ct_X6_qPuts hS (k := k) rfl (by omega)) rfl rfl (Nat.le_of_ble_eq_true rfl) (by decide) ?_
      rintro _ _ ⟨rfl, rfl⟩
      refine r_goto (pc := 164) (tgt := 273) dX6_qJoins_164 (by decide) ?_
      refine r_vret (pc := 273) dX6_qJoins_273 ?_
      exact ⟨rfl, by first | rfl | (rw [show jn 5 a b = _ from if_pos (by omega)]; rfl) | (rw [show jn 5 a b = _ from if_neg (by omega)]; rfl)⟩
  · skip
    refine r_ald0 (pc := 0) dX6_qJoins_0 ?_
    refine m_getR hS (pc := 1) dX6_qJoins_1 fl_X6_228 ar107 ?_
    refine r_ald0 (pc := 4) dX6_qJoins_4 ?_
    refine m_getI hS (pc := 5) dX6_qJoins_5 fl_X6_409 ?_
    refine Bd.eqI hk ?_
    refine r_iconst (v := nI 1) (pc := 8) dX6_qJoins_8 (by decide) ?_
    first | refine r_isubN (pc := 9) dX6_qJoins_9 (by omega) ?_ | refine r_isubM (pc := 9) dX6_qJoins_9 ?_ | refine r_isubJ (pc := 9) dX6_qJoins_9 ?_ | refine r_isub (pc := 9) dX6_qJoins_9 ?_
    refine m_lald hS (pc := 10) dX6_qJoins_10 ar107 (by omega) (by omega) ?_
    refine Bd.eqL hb ?_
    refine r_lst2 (pc := 11) dX6_qJoins_11 ?_
    refine r_ald0 (pc := 12) dX6_qJoins_12 ?_
    refine m_getR hS (pc := 13) dX6_qJoins_13 fl_X6_228 ar107 ?_
    refine r_ald0 (pc := 16) dX6_qJoins_16 ?_
    refine m_getI hS (pc := 17) dX6_qJoins_17 fl_X6_409 ?_
    refine Bd.eqI hk ?_
    refine r_iconst (v := nI 2) (pc := 20) dX6_qJoins_20 (by decide) ?_
    first | refine r_isubN (pc := 21) dX6_qJoins_21 (by omega) ?_ | refine r_isubM (pc := 21) dX6_qJoins_21 ?_ | refine r_isubJ (pc := 21) dX6_qJoins_21 ?_ | refine r_isub (pc := 21) dX6_qJoins_21 ?_
    refine m_lald hS (pc := 22) dX6_qJoins_22 ar107 (by omega) (by omega) ?_
    refine Bd.eqL ha ?_
    refine r_lst4 (pc := 23) dX6_qJoins_23 ?_
    refine r_ald0 (pc := 25) dX6_qJoins_25 ?_
    refine r_dup (pc := 26) dX6_qJoins_26 rfl ?_
    refine m_getI hS (pc := 27) dX6_qJoins_27 fl_X6_409 ?_
    refine Bd.eqI hk ?_
    refine r_iconst (v := nI 2) (pc := 30) dX6_qJoins_30 (by decide) ?_
    first | refine r_isubN (pc := 31) dX6_qJoins_31 (by omega) ?_ | refine r_isubM (pc := 31) dX6_qJoins_31 ?_ | refine r_isubJ (pc := 31) dX6_qJoins_31 ?_ | refine r_isub (pc := 31) dX6_qJoins_31 ?_
    refine m_putI hS (pc := 32) dX6_qJoins_32 fl_X6_409 fw_X6_108 rfl rfl ?_
    refine r_ild1 (pc := 35) dX6_qJoins_35 ?_
    refine r_tableIn (pc := 36) (tgt := 167) (off := 131) dX6_qJoins_36 (by decide) (by decide) rfl (by decide) ?_
    refine r_ald0 (pc := 167) dX6_qJoins_167 ?_
    refine r_lld4 (pc := 168) dX6_qJoins_168 ?_
    refine r_lld2 (pc := 170) dX6_qJoins_170 ?_
    refine r_lcmp (pc := 171) dX6_qJoins_171 ?_
    first | refine r_if_leCI (pc := 172) (tgt := 180) dX6_qJoins_172 (by decide) (by constructor <;> omega) (by constructor <;> omega) (fun h172 => ?_) (fun h172 => ?_) | refine r_if_leC (pc := 172) (tgt := 180) dX6_qJoins_172 (by decide) (fun h172 => ?_) (fun h172 => ?_)
    · skip
      refine r_lld2 (pc := 180) dX6_qJoins_180 ?_
      refine r_cV (pc := 181) dX6_qJoins_181 cv_X6_412 hS.k (ct_X6_qPuts hS (k := k) rfl (by omega)) rfl rfl (Nat.le_of_ble_eq_true rfl) (by decide) ?_
      rintro _ _ ⟨rfl, rfl⟩
      refine r_goto (pc := 184) (tgt := 273) dX6_qJoins_184 (by decide) ?_
      refine r_vret (pc := 273) dX6_qJoins_273 ?_
      exact ⟨rfl, by first | rfl | (rw [show jn 6 a b = _ from if_pos (by omega)]; rfl) | (rw [show jn 6 a b = _ from if_neg (by omega)]; rfl)⟩
    · skip
      refine r_lld4 (pc := 175) dX6_qJoins_175 ?_
      refine r_goto (pc := 177) (tgt := 181) dX6_qJoins_177 (by decide) ?_
      refine r_cV (pc := 181) dX6_qJoins_181 cv_X6_412 hS.k (ct_X6_qPuts hS (k := k) rfl (by omega)) rfl rfl (Nat.le_of_ble_eq_true rfl) (by decide) ?_
      rintro _ _ ⟨rfl, rfl⟩
      refine r_goto (pc := 184) (tgt := 273) dX6_qJoins_184 (by decide) ?_
      refine r_vret (pc := 273) dX6_qJoins_273 ?_
      exact ⟨rfl, by first | rfl | (rw [show jn 6 a b = _ from if_pos (by omega)]; rfl) | (rw [show jn 6 a b = _ from if_neg (by omega)]; rfl)⟩
  · skip
    refine r_ald0 (pc := 0) dX6_qJoins_0 ?_
    refine m_getR hS (pc := 1) dX6_qJoins_1 fl_X6_228 ar107 ?_
    refine r_ald0 (pc := 4) dX6_qJoins_4 ?_
    refine m_getI hS (pc := 5) dX6_qJoins_5 fl_X6_409 ?_
    refine Bd.eqI hk ?_
    refine r_iconst (v := nI 1) (pc := 8) dX6_qJoins_8 (by decide) ?_
    first | refine r_isubN (pc := 9) dX6_qJoins_9 (by omega) ?_ | refine r_isubM (pc := 9) dX6_qJoins_9 ?_ | refine r_isubJ (pc := 9) dX6_qJoins_9 ?_ | refine r_isub (pc := 9) dX6_qJoins_9 ?_
    refine m_lald hS (pc := 10) dX6_qJoins_10 ar107 (by omega) (by omega) ?_
    refine Bd.eqL hb ?_
    refine r_lst2 (pc := 11) dX6_qJoins_11 ?_
    refine r_ald0 (pc := 12) dX6_qJoins_12 ?_
    refine m_getR hS (pc := 13) dX6_qJoins_13 fl_X6_228 ar107 ?_
    refine r_ald0 (pc := 16) dX6_qJoins_16 ?_
    refine m_getI hS (pc := 17) dX6_qJoins_17 fl_X6_409 ?_
    refine Bd.eqI hk ?_
    refine r_iconst (v := nI 2) (pc := 20) dX6_qJoins_20 (by decide) ?_
    first | refine r_isubN (pc := 21) dX6_qJoins_21 (by omega) ?_ | refine r_isubM (pc := 21) dX6_qJoins_21 ?_ | refine r_isubJ (pc := 21) dX6_qJoins_21 ?_ | refine r_isub (pc := 21) dX6_qJoins_21 ?_
    refine m_lald hS (pc := 22) dX6_qJoins_22 ar107 (by omega) (by omega) ?_
    refine Bd.eqL ha ?_
    refine r_lst4 (pc := 23) dX6_qJoins_23 ?_
    refine r_ald0 (pc := 25) dX6_qJoins_25 ?_
    refine r_dup (pc := 26) dX6_qJoins_26 rfl ?_
    refine m_getI hS (pc := 27) dX6_qJoins_27 fl_X6_409 ?_
    refine Bd.eqI hk ?_
    refine r_iconst (v := nI 2) (pc := 30) dX6_qJoins_30 (by decide) ?_
    first | refine r_isubN (pc := 31) dX6_qJoins_31 (by omega) ?_ | refine r_isubM (pc := 31) dX6_qJoins_31 ?_ | refine r_isubJ (pc := 31) dX6_qJoins_31 ?_ | refine r_isub (pc := 31) dX6_qJoins_31 ?_
    refine m_putI hS (pc := 32) dX6_qJoins_32 fl_X6_409 fw_X6_108 rfl rfl ?_
    refine r_ild1 (pc := 35) dX6_qJoins_35 ?_
    refine r_tableIn (pc := 36) (tgt := 187) (off := 151) dX6_qJoins_36 (by decide) (by decide) rfl (by decide) ?_
    refine r_ald0 (pc := 187) dX6_qJoins_187 ?_
    refine r_lld4 (pc := 188) dX6_qJoins_188 ?_
    refine r_lld2 (pc := 190) dX6_qJoins_190 ?_
    refine r_lcmp (pc := 191) dX6_qJoins_191 ?_
    first | refine r_if_geCI (pc := 192) (tgt := 199) dX6_qJoins_192 (by decide) (by constructor <;> omega) (by constructor <;> omega) (fun h192 => ?_) (fun h192 => ?_) | refine r_if_geC (pc := 192) (tgt := 199) dX6_qJoins_192 (by decide) (fun h192 => ?_) (fun h192 => ?_)
    · skip
      refine r_lconst (v := lI 0) (pc := 199) dX6_qJoins_199 rfl ?_
      refine r_cV (pc := 200) dX6_qJoins_200 cv_X6_412 hS.k (ct_X6_qPuts hS (k := k) rfl (by omega)) rfl rfl (Nat.le_of_ble_eq_true rfl) (by decide) ?_
      rintro _ _ ⟨rfl, rfl⟩
      refine r_goto (pc := 203) (tgt := 273) dX6_qJoins_203 (by decide) ?_
      refine r_vret (pc := 273) dX6_qJoins_273 ?_
      exact ⟨rfl, by first | rfl | (rw [show jn 7 a b = _ from if_pos (by omega)]; rfl) | (rw [show jn 7 a b = _ from if_neg (by omega)]; rfl)⟩
    · skip
      refine r_lconst (v := lI 1) (pc := 195) dX6_qJoins_195 rfl ?_
      refine r_goto (pc := 196) (tgt := 200) dX6_qJoins_196 (by decide) ?_
      refine r_cV (pc := 200) dX6_qJoins_200 cv_X6_412 hS.k (ct_X6_qPuts hS (k := k) rfl (by omega)) rfl rfl (Nat.le_of_ble_eq_true rfl) (by decide) ?_
      rintro _ _ ⟨rfl, rfl⟩
      refine r_goto (pc := 203) (tgt := 273) dX6_qJoins_203 (by decide) ?_
      refine r_vret (pc := 273) dX6_qJoins_273 ?_
      exact ⟨rfl, by first | rfl | (rw [show jn 7 a b = _ from if_pos (by omega)]; rfl) | (rw [show jn 7 a b = _ from if_neg (by omega)]; rfl)⟩
  · skip
    refine r_ald0 (pc := 0) dX6_qJoins_0 ?_
    refine m_getR hS (pc := 1) dX6_qJoins_1 fl_X6_228 ar107 ?_
    refine r_ald0 (pc := 4) dX6_qJoins_4 ?_
    refine m_getI hS (pc := 5) dX6_qJoins_5 fl_X6_409 ?_
    refine Bd.eqI hk ?_
    refine r_iconst (v := nI 1) (pc := 8) dX6_qJoins_8 (by decide) ?_
    first | refine r_isubN (pc := 9) dX6_qJoins_9 (by omega) ?_ | refine r_isubM (pc := 9) dX6_qJoins_9 ?_ | refine r_isubJ (pc := 9) dX6_qJoins_9 ?_ | refine r_isub (pc := 9) dX6_qJoins_9 ?_
    refine m_lald hS (pc := 10) dX6_qJoins_10 ar107 (by omega) (by omega) ?_
    refine Bd.eqL hb ?_
    refine r_lst2 (pc := 11) dX6_qJoins_11 ?_
    refine r_ald0 (pc := 12) dX6_qJoins_12 ?_
    refine m_getR hS (pc := 13) dX6_qJoins_13 fl_X6_228 ar107 ?_
    refine r_ald0 (pc := 16) dX6_qJoins_16 ?_
    refine m_getI hS (pc := 17) dX6_qJoins_17 fl_X6_409 ?_
    refine Bd.eqI hk ?_
    refine r_iconst (v := nI 2) (pc := 20) dX6_qJoins_20 (by decide) ?_
    first | refine r_isubN (pc := 21) dX6_qJoins_21 (by omega) ?_ | refine r_isubM (pc := 21) dX6_qJoins_21 ?_ | refine r_isubJ (pc := 21) dX6_qJoins_21 ?_ | refine r_isub (pc := 21) dX6_qJoins_21 ?_
    refine m_lald hS (pc := 22) dX6_qJoins_22 ar107 (by omega) (by omega) ?_
    refine Bd.eqL ha ?_
    refine r_lst4 (pc := 23) dX6_qJoins_23 ?_
    refine r_ald0 (pc := 25) dX6_qJoins_25 ?_
    refine r_dup (pc := 26) dX6_qJoins_26 rfl ?_
    refine m_getI hS (pc := 27) dX6_qJoins_27 fl_X6_409 ?_
    refine Bd.eqI hk ?_
    refine r_iconst (v := nI 2) (pc := 30) dX6_qJoins_30 (by decide) ?_
    first | refine r_isubN (pc := 31) dX6_qJoins_31 (by omega) ?_ | refine r_isubM (pc := 31) dX6_qJoins_31 ?_ | refine r_isubJ (pc := 31) dX6_qJoins_31 ?_ | refine r_isub (pc := 31) dX6_qJoins_31 ?_
    refine m_putI hS (pc := 32) dX6_qJoins_32 fl_X6_409 fw_X6_108 rfl rfl ?_
    refine r_ild1 (pc := 35) dX6_qJoins_35 ?_
    refine r_tableIn (pc := 36) (tgt := 206) (off := 170) dX6_qJoins_36 (by decide) (by decide) rfl (by decide) ?_
    refine r_ald0 (pc := 206) dX6_qJoins_206 ?_
    refine r_lld4 (pc := 207) dX6_qJoins_207 ?_
    refine r_lld2 (pc := 209) dX6_qJoins_209 ?_
    refine r_lcmp (pc := 210) dX6_qJoins_210 ?_
    first | refine r_if_leCI (pc := 211) (tgt := 218) dX6_qJoins_211 (by decide) (by constructor <;> omega) (by constructor <;> omega) (fun h211 => ?_) (fun h211 => ?_) | refine r_if_leC (pc := 211) (tgt := 218) dX6_qJoins_211 (by decide) (fun h211 => ?_) (fun h211 => ?_)
    · skip
      refine r_lconst (v := lI 0) (pc := 218) dX6_qJoins_218 rfl ?_
      refine r_cV (pc := 219) dX6_qJoins_219 cv_X6_412 hS.k (ct_X6_qPuts hS (k := k) rfl (by omega)) rfl rfl (Nat.le_of_ble_eq_true rfl) (by decide) ?_
      rintro _ _ ⟨rfl, rfl⟩
      refine r_goto (pc := 222) (tgt := 273) dX6_qJoins_222 (by decide) ?_
      refine r_vret (pc := 273) dX6_qJoins_273 ?_
      exact ⟨rfl, by first | rfl | (rw [show jn 8 a b = _ from if_pos (by omega)]; rfl) | (rw [show jn 8 a b = _ from if_neg (by omega)]; rfl)⟩
    · skip
      refine r_lconst (v := lI 1) (pc := 214) dX6_qJoins_214 rfl ?_
      refine r_goto (pc := 215) (tgt := 219) dX6_qJoins_215 (by decide) ?_
      refine r_cV (pc := 219) dX6_qJoins_219 cv_X6_412 hS.k (ct_X6_qPuts hS (k := k) rfl (by omega)) rfl rfl (Nat.le_of_ble_eq_true rfl) (by decide) ?_
      rintro _ _ ⟨rfl, rfl⟩
      refine r_goto (pc := 222) (tgt := 273) dX6_qJoins_222 (by decide) ?_
      refine r_vret (pc := 273) dX6_qJoins_273 ?_
      exact ⟨rfl, by first | rfl | (rw [show jn 8 a b = _ from if_pos (by omega)]; rfl) | (rw [show jn 8 a b = _ from if_neg (by omega)]; rfl)⟩
  · skip
    refine r_ald0 (pc := 0) dX6_qJoins_0 ?_
    refine m_getR hS (pc := 1) dX6_qJoins_1 fl_X6_228 ar107 ?_
    refine r_ald0 (pc := 4) dX6_qJoins_4 ?_
    refine m_getI hS (pc := 5) dX6_qJoins_5 fl_X6_409 ?_
    refine Bd.eqI hk ?_
    refine r_iconst (v := nI 1) (pc := 8) dX6_qJoins_8 (by decide) ?_
    first | refine r_isubN (pc := 9) dX6_qJoins_9 (by omega) ?_ | refine r_isubM (pc := 9) dX6_qJoins_9 ?_ | refine r_isubJ (pc := 9) dX6_qJoins_9 ?_ | refine r_isub (pc := 9) dX6_qJoins_9 ?_
    refine m_lald hS (pc := 10) dX6_qJoins_10 ar107 (by omega) (by omega) ?_
    refine Bd.eqL hb ?_
    refine r_lst2 (pc := 11) dX6_qJoins_11 ?_
    refine r_ald0 (pc := 12) dX6_qJoins_12 ?_
    refine m_getR hS (pc := 13) dX6_qJoins_13 fl_X6_228 ar107 ?_
    refine r_ald0 (pc := 16) dX6_qJoins_16 ?_
    refine m_getI hS (pc := 17) dX6_qJoins_17 fl_X6_409 ?_
    refine Bd.eqI hk ?_
    refine r_iconst (v := nI 2) (pc := 20) dX6_qJoins_20 (by decide) ?_
    first | refine r_isubN (pc := 21) dX6_qJoins_21 (by omega) ?_ | refine r_isubM (pc := 21) dX6_qJoins_21 ?_ | refine r_isubJ (pc := 21) dX6_qJoins_21 ?_ | refine r_isub (pc := 21) dX6_qJoins_21 ?_
    refine m_lald hS (pc := 22) dX6_qJoins_22 ar107 (by omega) (by omega) ?_
    refine Bd.eqL ha ?_
    refine r_lst4 (pc := 23) dX6_qJoins_23 ?_
    refine r_ald0 (pc := 25) dX6_qJoins_25 ?_
    refine r_dup (pc := 26) dX6_qJoins_26 rfl ?_
    refine m_getI hS (pc := 27) dX6_qJoins_27 fl_X6_409 ?_
    refine Bd.eqI hk ?_
    refine r_iconst (v := nI 2) (pc := 30) dX6_qJoins_30 (by decide) ?_
    first | refine r_isubN (pc := 31) dX6_qJoins_31 (by omega) ?_ | refine r_isubM (pc := 31) dX6_qJoins_31 ?_ | refine r_isubJ (pc := 31) dX6_qJoins_31 ?_ | refine r_isub (pc := 31) dX6_qJoins_31 ?_
    refine m_putI hS (pc := 32) dX6_qJoins_32 fl_X6_409 fw_X6_108 rfl rfl ?_
    refine r_ild1 (pc := 35) dX6_qJoins_35 ?_
    refine r_tableIn (pc := 36) (tgt := 225) (off := 189) dX6_qJoins_36 (by decide) (by decide) rfl (by decide) ?_
    refine r_ald0 (pc := 225) dX6_qJoins_225 ?_
    refine r_lld4 (pc := 226) dX6_qJoins_226 ?_
    refine r_lld2 (pc := 228) dX6_qJoins_228 ?_
    refine r_lcmp (pc := 229) dX6_qJoins_229 ?_
    first | refine r_if_neCI (pc := 230) (tgt := 237) dX6_qJoins_230 (by decide) (by constructor <;> omega) (by constructor <;> omega) (fun h230 => ?_) (fun h230 => ?_) | refine r_if_neC (pc := 230) (tgt := 237) dX6_qJoins_230 (by decide) (fun h230 => ?_) (fun h230 => ?_)
    · skip
      refine r_lconst (v := lI 0) (pc := 237) dX6_qJoins_237 rfl ?_
      refine r_cV (pc := 238) dX6_qJoins_238 cv_X6_412 hS.k (ct_X6_qPuts hS (k := k) rfl (by omega)) rfl rfl (Nat.le_of_ble_eq_true rfl) (by decide) ?_
      rintro _ _ ⟨rfl, rfl⟩
      refine r_goto (pc := 241) (tgt := 273) dX6_qJoins_241 (by decide) ?_
      refine r_vret (pc := 273) dX6_qJoins_273 ?_
      exact ⟨rfl, by first | rfl | (rw [show jn 9 a b = _ from if_pos (by omega)]; rfl) | (rw [show jn 9 a b = _ from if_neg (by omega)]; rfl)⟩
    · skip
      refine r_lconst (v := lI 1) (pc := 233) dX6_qJoins_233 rfl ?_
      refine r_goto (pc := 234) (tgt := 238) dX6_qJoins_234 (by decide) ?_
      refine r_cV (pc := 238) dX6_qJoins_238 cv_X6_412 hS.k (ct_X6_qPuts hS (k := k) rfl (by omega)) rfl rfl (Nat.le_of_ble_eq_true rfl) (by decide) ?_
      rintro _ _ ⟨rfl, rfl⟩
      refine r_goto (pc := 241) (tgt := 273) dX6_qJoins_241 (by decide) ?_
      refine r_vret (pc := 273) dX6_qJoins_273 ?_
      exact ⟨rfl, by first | rfl | (rw [show jn 9 a b = _ from if_pos (by omega)]; rfl) | (rw [show jn 9 a b = _ from if_neg (by omega)]; rfl)⟩
  · skip
    refine r_ald0 (pc := 0) dX6_qJoins_0 ?_
    refine m_getR hS (pc := 1) dX6_qJoins_1 fl_X6_228 ar107 ?_
    refine r_ald0 (pc := 4) dX6_qJoins_4 ?_
    refine m_getI hS (pc := 5) dX6_qJoins_5 fl_X6_409 ?_
    refine Bd.eqI hk ?_
    refine r_iconst (v := nI 1) (pc := 8) dX6_qJoins_8 (by decide) ?_
    first | refine r_isubN (pc := 9) dX6_qJoins_9 (by omega) ?_ | refine r_isubM (pc := 9) dX6_qJoins_9 ?_ | refine r_isubJ (pc := 9) dX6_qJoins_9 ?_ | refine r_isub (pc := 9) dX6_qJoins_9 ?_
    refine m_lald hS (pc := 10) dX6_qJoins_10 ar107 (by omega) (by omega) ?_
    refine Bd.eqL hb ?_
    refine r_lst2 (pc := 11) dX6_qJoins_11 ?_
    refine r_ald0 (pc := 12) dX6_qJoins_12 ?_
    refine m_getR hS (pc := 13) dX6_qJoins_13 fl_X6_228 ar107 ?_
    refine r_ald0 (pc := 16) dX6_qJoins_16 ?_
    refine m_getI hS (pc := 17) dX6_qJoins_17 fl_X6_409 ?_
    refine Bd.eqI hk ?_
    refine r_iconst (v := nI 2) (pc := 20) dX6_qJoins_20 (by decide) ?_
    first | refine r_isubN (pc := 21) dX6_qJoins_21 (by omega) ?_ | refine r_isubM (pc := 21) dX6_qJoins_21 ?_ | refine r_isubJ (pc := 21) dX6_qJoins_21 ?_ | refine r_isub (pc := 21) dX6_qJoins_21 ?_
    refine m_lald hS (pc := 22) dX6_qJoins_22 ar107 (by omega) (by omega) ?_
    refine Bd.eqL ha ?_
    refine r_lst4 (pc := 23) dX6_qJoins_23 ?_
    refine r_ald0 (pc := 25) dX6_qJoins_25 ?_
    refine r_dup (pc := 26) dX6_qJoins_26 rfl ?_
    refine m_getI hS (pc := 27) dX6_qJoins_27 fl_X6_409 ?_
    refine Bd.eqI hk ?_
    refine r_iconst (v := nI 2) (pc := 30) dX6_qJoins_30 (by decide) ?_
    first | refine r_isubN (pc := 31) dX6_qJoins_31 (by omega) ?_ | refine r_isubM (pc := 31) dX6_qJoins_31 ?_ | refine r_isubJ (pc := 31) dX6_qJoins_31 ?_ | refine r_isub (pc := 31) dX6_qJoins_31 ?_
    refine m_putI hS (pc := 32) dX6_qJoins_32 fl_X6_409 fw_X6_108 rfl rfl ?_
    refine r_ild1 (pc := 35) dX6_qJoins_35 ?_
    refine r_tableIn (pc := 36) (tgt := 244) (off := 208) dX6_qJoins_36 (by decide) (by decide) rfl (by decide) ?_
    refine r_ald0 (pc := 244) dX6_qJoins_244 ?_
    refine r_lld4 (pc := 245) dX6_qJoins_245 ?_
    refine r_lld2 (pc := 247) dX6_qJoins_247 ?_
    first | refine r_lmulI (pc := 248) dX6_qJoins_248 ?_ | refine r_lmul (pc := 248) dX6_qJoins_248 ?_
    refine r_cV (pc := 249) dX6_qJoins_249 cv_X6_412 hS.k (ct_X6_qPuts hS (k := k) rfl (by omega)) rfl rfl (Nat.le_of_ble_eq_true rfl) (by decide) ?_
    rintro _ _ ⟨rfl, rfl⟩
    refine r_goto (pc := 252) (tgt := 273) dX6_qJoins_252 (by decide) ?_
    refine r_vret (pc := 273) dX6_qJoins_273 ?_
    exact ⟨rfl, by first | rfl | (rw [show jn 10 a b = _ from if_pos (by omega)]; rfl) | (rw [show jn 10 a b = _ from if_neg (by omega)]; rfl)⟩
  · skip
    refine r_ald0 (pc := 0) dX6_qJoins_0 ?_
    refine m_getR hS (pc := 1) dX6_qJoins_1 fl_X6_228 ar107 ?_
    refine r_ald0 (pc := 4) dX6_qJoins_4 ?_
    refine m_getI hS (pc := 5) dX6_qJoins_5 fl_X6_409 ?_
    refine Bd.eqI hk ?_
    refine r_iconst (v := nI 1) (pc := 8) dX6_qJoins_8 (by decide) ?_
    first | refine r_isubN (pc := 9) dX6_qJoins_9 (by omega) ?_ | refine r_isubM (pc := 9) dX6_qJoins_9 ?_ | refine r_isubJ (pc := 9) dX6_qJoins_9 ?_ | refine r_isub (pc := 9) dX6_qJoins_9 ?_
    refine m_lald hS (pc := 10) dX6_qJoins_10 ar107 (by omega) (by omega) ?_
    refine Bd.eqL hb ?_
    refine r_lst2 (pc := 11) dX6_qJoins_11 ?_
    refine r_ald0 (pc := 12) dX6_qJoins_12 ?_
    refine m_getR hS (pc := 13) dX6_qJoins_13 fl_X6_228 ar107 ?_
    refine r_ald0 (pc := 16) dX6_qJoins_16 ?_
    refine m_getI hS (pc := 17) dX6_qJoins_17 fl_X6_409 ?_
    refine Bd.eqI hk ?_
    refine r_iconst (v := nI 2) (pc := 20) dX6_qJoins_20 (by decide) ?_
    first | refine r_isubN (pc := 21) dX6_qJoins_21 (by omega) ?_ | refine r_isubM (pc := 21) dX6_qJoins_21 ?_ | refine r_isubJ (pc := 21) dX6_qJoins_21 ?_ | refine r_isub (pc := 21) dX6_qJoins_21 ?_
    refine m_lald hS (pc := 22) dX6_qJoins_22 ar107 (by omega) (by omega) ?_
    refine Bd.eqL ha ?_
    refine r_lst4 (pc := 23) dX6_qJoins_23 ?_
    refine r_ald0 (pc := 25) dX6_qJoins_25 ?_
    refine r_dup (pc := 26) dX6_qJoins_26 rfl ?_
    refine m_getI hS (pc := 27) dX6_qJoins_27 fl_X6_409 ?_
    refine Bd.eqI hk ?_
    refine r_iconst (v := nI 2) (pc := 30) dX6_qJoins_30 (by decide) ?_
    first | refine r_isubN (pc := 31) dX6_qJoins_31 (by omega) ?_ | refine r_isubM (pc := 31) dX6_qJoins_31 ?_ | refine r_isubJ (pc := 31) dX6_qJoins_31 ?_ | refine r_isub (pc := 31) dX6_qJoins_31 ?_
    refine m_putI hS (pc := 32) dX6_qJoins_32 fl_X6_409 fw_X6_108 rfl rfl ?_
    refine r_ild1 (pc := 35) dX6_qJoins_35 ?_
    refine r_tableOut (pc := 36) (tgt := 255) dX6_qJoins_36 (by first | decide | assumption) (by decide) ?_
    refine r_ald0 (pc := 255) dX6_qJoins_255 ?_
    refine r_lld4 (pc := 256) dX6_qJoins_256 ?_
    refine r_lld2 (pc := 258) dX6_qJoins_258 ?_
    first | refine r_laddI (pc := 259) dX6_qJoins_259 ?_ | refine r_ladd (pc := 259) dX6_qJoins_259 ?_
    refine r_lconst (v := lI 0) (pc := 260) dX6_qJoins_260 rfl ?_
    refine r_lcmp (pc := 261) dX6_qJoins_261 ?_
    first | refine r_if_leCI (pc := 262) (tgt := 269) dX6_qJoins_262 (by decide) (by constructor <;> omega) (by constructor <;> omega) (fun h262 => ?_) (fun h262 => ?_) | refine r_if_leC (pc := 262) (tgt := 269) dX6_qJoins_262 (by decide) (fun h262 => ?_) (fun h262 => ?_)
    · skip
      refine r_lconst (v := lI 0) (pc := 269) dX6_qJoins_269 rfl ?_
      refine r_cV (pc := 270) dX6_qJoins_270 cv_X6_412 hS.k (ct_X6_qPuts hS (k := k) rfl (by omega)) rfl rfl (Nat.le_of_ble_eq_true rfl) (by decide) ?_
      rintro _ _ ⟨rfl, rfl⟩
      refine r_vret (pc := 273) dX6_qJoins_273 ?_
      exact ⟨rfl, by first | rfl | (rw [show jn 11 a b = _ from if_pos (by omega)]; rfl) | (rw [show jn 11 a b = _ from if_neg (by omega)]; rfl)⟩
    · skip
      refine r_lconst (v := lI 1) (pc := 265) dX6_qJoins_265 rfl ?_
      refine r_goto (pc := 266) (tgt := 270) dX6_qJoins_266 (by decide) ?_
      refine r_cV (pc := 270) dX6_qJoins_270 cv_X6_412 hS.k (ct_X6_qPuts hS (k := k) rfl (by omega)) rfl rfl (Nat.le_of_ble_eq_true rfl) (by decide) ?_
      rintro _ _ ⟨rfl, rfl⟩
      refine r_vret (pc := 273) dX6_qJoins_273 ?_
      exact ⟨rfl, by first | rfl | (rw [show jn 11 a b = _ from if_pos (by omega)]; rfl) | (rw [show jn 11 a b = _ from if_neg (by omega)]; rfl)⟩
end M2
