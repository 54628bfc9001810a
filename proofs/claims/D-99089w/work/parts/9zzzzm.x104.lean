set_option maxRecDepth 100000
/-! CONSTRUCTORS: the model -/
def mE (i : Nat) : Int32 := if i = 8 then -1 else 0
def mH (i : Nat) : Int64 := if i = 75 then lI 1 else 0
section X104
variable {g : GC} {M : MM} {o : Nat}
theorem ct_X6_init (hb : gb g ≤ o) (hz : mZ M = o + 1) (hF : ZC M o 26 0 (fun _ => 0) (fun _ => none)) : Ct g yX6_init cX6_init 1 none 2 71 17244 [.ref o] M (fun v M' => v = none ∧ BM M M' o 72 mE mH) noX := by
  have h0 : BM M M o 1 (fun _ => 0) (fun _ => 0) := ⟨hz, fun _ _ => Sm.rf, ⟨hF.1, hF.2.1, hF.2.2.1, hF.2.2.2.1⟩, fun d q1 q2 => absurd q1 (by omega), fun d q1 q2 => absurd q1 (by omega)⟩
  refine Ct.of (by decide) (Nat.le_of_ble_eq_true rfl) rfl ?_
  refine r_ald0 (pc := 0) dX6_init_0 ?_
  refine r_objInit (pc := 1) dX6_init_1 q1607 q189 q190 (by decide) (Nat.le_of_ble_eq_true rfl) ?_
  refine sg_1 hb h0 fun M1 h1 => ?_
  refine r_ald0 (pc := 13) dX6_init_13 ?_
  refine r_iconst (v := -1) (pc := 14) dX6_init_14 (by decide) ?_
  refine r_putI (pc := 15) dX6_init_15 fl_X6_13 fw_X6_8 rfl rfl h1.2.2.1.1 hb ?_
  have h2 := h1.i0 8 (-1)
  generalize sI M1 o 8 (-1) = M2 at *
  refine sg_2 hb h2 fun M3 h3 => ?_
  refine sg_3 hb h3 fun M4 h4 => ?_
  refine sg_4 hb h4 fun M5 h5 => ?_
  refine sg_5 hb h5 fun M6 h6 => ?_
  refine sg_6 hb h6 fun M7 h7 => ?_
  refine sg_7 hb h7 fun M8 h8 => ?_
  refine sg_8 hb h8 fun M9 h9 => ?_
  refine sg_9 hb h9 fun M10 h10 => ?_
  refine sg_10 hb h10 fun M11 h11 => ?_
  refine sg_11 hb h11 fun M12 h12 => ?_
  refine sg_12 hb h12 fun M13 h13 => ?_
  refine sg_13 hb h13 fun M14 h14 => ?_
  refine sg_14 hb h14 fun M15 h15 => ?_
  refine sg_15 hb h15 fun M16 h16 => ?_
  refine sg_16 hb h16 fun M17 h17 => ?_
  refine sg_17 hb h17 fun M18 h18 => ?_
  refine sg_18 hb h18 fun M19 h19 => ?_
  refine sg_19 hb h19 fun M20 h20 => ?_
  refine sg_20 hb h20 fun M21 h21 => ?_
  refine sg_21 hb h21 fun M22 h22 => ?_
  refine sg_22 hb h22 fun M23 h23 => ?_
  refine sg_23 hb h23 fun M24 h24 => ?_
  refine sg_24 hb h24 fun M25 h25 => ?_
  refine sg_25 hb h25 fun M26 h26 => ?_
  refine sg_26 hb h26 fun M27 h27 => ?_
  refine sg_27 hb h27 fun M28 h28 => ?_
  refine sg_28 hb h28 fun M29 h29 => ?_
  refine sg_29 hb h29 fun M30 h30 => ?_
  refine sg_30 hb h30 fun M31 h31 => ?_
  refine sg_31 hb h31 fun M32 h32 => ?_
  refine sg_32 hb h32 fun M33 h33 => ?_
  refine sg_33 hb h33 fun M34 h34 => ?_
  refine sg_34 hb h34 fun M35 h35 => ?_
  refine sg_35 hb h35 fun M36 h36 => ?_
  refine sg_36 hb h36 fun M37 h37 => ?_
  refine sg_37 hb h37 fun M38 h38 => ?_
  refine sg_38 hb h38 fun M39 h39 => ?_
  refine sg_39 hb h39 fun M40 h40 => ?_
  refine sg_40 hb h40 fun M41 h41 => ?_
  refine sg_41 hb h41 fun M42 h42 => ?_
  refine sg_42 hb h42 fun M43 h43 => ?_
  refine r_ald0 (pc := 866) dX6_init_866 ?_
  refine r_lconst (v := lI 1) (pc := 867) dX6_init_867 (by decide) ?_
  refine r_putL (pc := 868) dX6_init_868 fl_X6_143 fw_X6_75 rfl rfl h43.2.2.1.1 hb ?_
  have h44 := h43.l0 75 (lI 1)
  generalize sL M43 o 75 (lI 1) = M44 at *
  refine sg_43 hb h44 fun M45 h45 => ?_
  refine sg_44 hb h45 fun M46 h46 => ?_
  refine sg_45 hb h46 fun M47 h47 => ?_
  refine sg_46 hb h47 fun M48 h48 => ?_
  refine sg_47 hb h48 fun M49 h49 => ?_
  refine sg_48 hb h49 fun M50 h50 => ?_
  refine sg_49 hb h50 fun M51 h51 => ?_
  refine sg_50 hb h51 fun M52 h52 => ?_
  refine sg_51 hb h52 fun M53 h53 => ?_
  refine sg_52 hb h53 fun M54 h54 => ?_
  refine sg_53 hb h54 fun M55 h55 => ?_
  refine sg_54 hb h55 fun M56 h56 => ?_
  refine sg_55 hb h56 fun M57 h57 => ?_
  refine sg_56 hb h57 fun M58 h58 => ?_
  refine sg_57 hb h58 fun M59 h59 => ?_
  refine sg_58 hb h59 fun M60 h60 => ?_
  refine sg_59 hb h60 fun M61 h61 => ?_
  refine sg_60 hb h61 fun M62 h62 => ?_
  refine sg_61 hb h62 fun M63 h63 => ?_
  refine sg_62 hb h63 fun M64 h64 => ?_
  refine sg_63 hb h64 fun M65 h65 => ?_
  refine sg_64 hb h65 fun M66 h66 => ?_
  refine sg_65 hb h66 fun M67 h67 => ?_
  refine sg_66 hb h67 fun M68 h68 => ?_
  refine sg_67 hb h68 fun M69 h69 => ?_
  refine sg_68 hb h69 fun M70 h70 => ?_
  refine sg_69 hb h70 fun M71 h71 => ?_
  refine sg_70 hb h71 fun M72 h72 => ?_
  refine sg_71 hb h72 fun M73 h73 => ?_
  refine r_vret (pc := 1615) dX6_init_1615 ?_
  exact ⟨rfl, h73⟩
end X104
