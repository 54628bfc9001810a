set_option maxRecDepth 100000
/-! STATIC FACTS, 2: nest mates -/
/-- the words of the tables that ride beside lw_all -/
def GX (g : GC) : Prop := ∀ w ∈ lw_tbl, w.onTables = true → NW g w
section Nest
variable {g : GC}
theorem cin_X0_30 (hg : GX g) : CIN g RX0 30 yX1_init cX1_init 1 0 := ⟨⟨"Retouched", hg _ q193 rfl⟩, q194, q146, q195, rfl, by decide +kernel, by decide⟩
theorem fn_X0_143 (hg : GX g) : FlN g RX0 143 1 0 0 := ⟨by decide, by decide, rfl, "Retouched", hg _ q225 rfl⟩
theorem fn_X0_146 (hg : GX g) : FlN g RX0 146 1 1 0 := ⟨by decide, by decide, rfl, "Retouched", hg _ q228 rfl⟩
theorem fn_X0_300 (hg : GX g) : FlN g RX0 300 1 2 0 := ⟨by decide, by decide, rfl, "Retouched", hg _ q231 rfl⟩
theorem fn_X0_149 (hg : GX g) : FlN g RX0 149 1 3 2 := ⟨by decide, by decide, rfl, "Retouched", hg _ q233 rfl⟩
theorem cin_X0_45 (hg : GX g) : CIN g RX0 45 yX2_init cX2_init 2 1 := ⟨⟨"Retouched", hg _ q258 rfl⟩, q259, q150, q260, rfl, by decide +kernel, by decide⟩
theorem fn_X0_128 (hg : GX g) : FlN g RX0 128 3 6 0 := ⟨by decide, by decide, rfl, "Retouched", hg _ q314 rfl⟩
theorem fn_X0_131 (hg : GX g) : FlN g RX0 131 3 7 0 := ⟨by decide, by decide, rfl, "Retouched", hg _ q316 rfl⟩
theorem cin_X0_54 (hg : GX g) : CIN g RX0 54 yX4_init cX4_init 1 0 := ⟨⟨"Retouched", hg _ q362 rfl⟩, q363, q155, q364, rfl, by decide +kernel, by decide⟩
theorem fn_X0_312 (hg : GX g) : FlN g RX0 312 4 0 2 := ⟨by decide, by decide, rfl, "Retouched", hg _ q369 rfl⟩
theorem cin_X0_68 (hg : GX g) : CIN g RX0 68 yX5_init cX5_init 2 1 := ⟨⟨"Retouched", hg _ q376 rfl⟩, q377, q156, q378, rfl, by decide +kernel, by decide⟩
theorem fn_X0_171 (hg : GX g) : FlN g RX0 171 5 0 0 := ⟨by decide, by decide, rfl, "Retouched", hg _ q383 rfl⟩
theorem fn_X0_187 (hg : GX g) : FlN g RX0 187 5 2 0 := ⟨by decide, by decide, rfl, "Retouched", hg _ q386 rfl⟩
theorem fn_X0_207 (hg : GX g) : FlN g RX0 207 5 3 2 := ⟨by decide, by decide, rfl, "Retouched", hg _ q388 rfl⟩
theorem fn_X0_174 (hg : GX g) : FlN g RX0 174 5 4 2 := ⟨by decide, by decide, rfl, "Retouched", hg _ q390 rfl⟩
theorem fn_X0_210 (hg : GX g) : FlN g RX0 210 5 5 2 := ⟨by decide, by decide, rfl, "Retouched", hg _ q392 rfl⟩
theorem fn_X0_213 (hg : GX g) : FlN g RX0 213 5 6 2 := ⟨by decide, by decide, rfl, "Retouched", hg _ q394 rfl⟩
theorem fn_X0_177 (hg : GX g) : FlN g RX0 177 5 7 2 := ⟨by decide, by decide, rfl, "Retouched", hg _ q396 rfl⟩
theorem fn_X0_223 (hg : GX g) : FlN g RX0 223 5 8 2 := ⟨by decide, by decide, rfl, "Retouched", hg _ q398 rfl⟩
theorem fn_X0_230 (hg : GX g) : FlN g RX0 230 5 9 2 := ⟨by decide, by decide, rfl, "Retouched", hg _ q400 rfl⟩
theorem fn_X1_32 (hg : GX g) : FlN g RX1 32 7 0 2 := ⟨by decide, by decide, rfl, "Retouched", hg _ q804 rfl⟩
theorem fn_X1_42 (hg : GX g) : FlN g RX1 42 7 1 0 := ⟨by decide, by decide, rfl, "Retouched", hg _ q807 rfl⟩
theorem cin_X10_1 (hg : GX g) : CIN g RX10 1 yX8_init cX8_init 1 0 := ⟨⟨"Retouched", hg _ q977 rfl⟩, q921, q168, q922, rfl, by decide +kernel, by decide⟩
theorem cin_X11_1 (hg : GX g) : CIN g RX11 1 yX8_init cX8_init 1 0 := ⟨⟨"Retouched", hg _ q993 rfl⟩, q921, q168, q922, rfl, by decide +kernel, by decide⟩
theorem fn_X12_13 (hg : GX g) : FlN g RX12 13 4 0 2 := ⟨by decide, by decide, rfl, "Retouched", hg _ q367 rfl⟩
theorem cin_X12_1 (hg : GX g) : CIN g RX12 1 yX8_init cX8_init 1 0 := ⟨⟨"Retouched", hg _ q1008 rfl⟩, q921, q168, q922, rfl, by decide +kernel, by decide⟩
theorem csn_X12_19 (hg : GX g) : CSN g RX12 19 yX0_held cX0_held 2 (some Jvm.ClassFile.FieldType.long) 1 := ⟨⟨"Retouched", hg _ q1238 rfl⟩, q1239, q145, q1240, by decide +kernel, by decide⟩
theorem cin_X13_7 (hg : GX g) : CIN g RX13 7 yX8_init cX8_init 1 0 := ⟨⟨"Retouched", hg _ q1024 rfl⟩, q921, q168, q922, rfl, by decide +kernel, by decide⟩
theorem cvn_X13_25 (hg : GX g) : CVN g RX13 25 0 yX0_looked cX0_looked 4 (some Jvm.ClassFile.FieldType.long) 2 := ⟨⟨"Retouched", hg _ q1264 rfl⟩, q1266, qs36, q145, q1267, by decide +kernel, by decide⟩
theorem csn_X13_31 (hg : GX g) : CSN g RX13 31 yX0_held cX0_held 2 (some Jvm.ClassFile.FieldType.long) 1 := ⟨⟨"Retouched", hg _ q1268 rfl⟩, q1239, q145, q1240, by decide +kernel, by decide⟩
theorem cin_X15_1 (hg : GX g) : CIN g RX15 1 yX14_init cX14_init 1 0 := ⟨⟨"Retouched", hg _ q1111 rfl⟩, q1112, q176, q1113, rfl, by decide +kernel, by decide⟩
theorem cin_X16_1 (hg : GX g) : CIN g RX16 1 yX14_init cX14_init 1 0 := ⟨⟨"Retouched", hg _ q1143 rfl⟩, q1112, q176, q1113, rfl, by decide +kernel, by decide⟩
theorem cin_X17_1 (hg : GX g) : CIN g RX17 1 yX14_init cX14_init 1 0 := ⟨⟨"Retouched", hg _ q1154 rfl⟩, q1112, q176, q1113, rfl, by decide +kernel, by decide⟩
theorem cin_X18_1 (hg : GX g) : CIN g RX18 1 yX14_init cX14_init 1 0 := ⟨⟨"Retouched", hg _ q1161 rfl⟩, q1112, q176, q1113, rfl, by decide +kernel, by decide⟩
theorem fn_X2_125 (hg : GX g) : FlN g RX2 125 1 0 0 := ⟨by decide, by decide, rfl, "Retouched", hg _ q226 rfl⟩
theorem fn_X2_118 (hg : GX g) : FlN g RX2 118 1 1 0 := ⟨by decide, by decide, rfl, "Retouched", hg _ q229 rfl⟩
theorem fn_X2_214 (hg : GX g) : FlN g RX2 214 1 2 0 := ⟨by decide, by decide, rfl, "Retouched", hg _ q230 rfl⟩
theorem fn_X2_136 (hg : GX g) : FlN g RX2 136 1 3 2 := ⟨by decide, by decide, rfl, "Retouched", hg _ q234 rfl⟩
theorem fn_X2_198 (hg : GX g) : FlN g RX2 198 1 4 2 := ⟨by decide, by decide, rfl, "Retouched", hg _ q236 rfl⟩
theorem fn_X2_205 (hg : GX g) : FlN g RX2 205 1 5 2 := ⟨by decide, by decide, rfl, "Retouched", hg _ q238 rfl⟩
theorem fn_X2_207 (hg : GX g) : FlN g RX2 207 1 6 2 := ⟨by decide, by decide, rfl, "Retouched", hg _ q240 rfl⟩
theorem fn_X2_22 (hg : GX g) : FlN g RX2 22 3 6 0 := ⟨by decide, by decide, rfl, "Retouched", hg _ q313 rfl⟩
theorem fn_X2_26 (hg : GX g) : FlN g RX2 26 3 7 0 := ⟨by decide, by decide, rfl, "Retouched", hg _ q315 rfl⟩
theorem fn_X2_32 (hg : GX g) : FlN g RX2 32 0 1 2 := ⟨by decide, by decide, rfl, "Retouched", hg _ q431 rfl⟩
theorem cin_X2_112 (hg : GX g) : CIN g RX2 112 yX1_init cX1_init 1 0 := ⟨⟨"Retouched", hg _ q532 rfl⟩, q194, q146, q195, rfl, by decide +kernel, by decide⟩
theorem csn_X2_51 (hg : GX g) : CSN g RX2 51 yX0_isLetter cX0_isLetter 1 (some Jvm.ClassFile.FieldType.boolean) 1 := ⟨⟨"Retouched", hg _ q550 rfl⟩, q551, q145, q552, by decide +kernel, by decide⟩
theorem csn_X2_55 (hg : GX g) : CSN g RX2 55 yX0_isDigit cX0_isDigit 1 (some Jvm.ClassFile.FieldType.boolean) 1 := ⟨⟨"Retouched", hg _ q561 rfl⟩, q562, q145, q563, by decide +kernel, by decide⟩
theorem csn_X2_89 (hg : GX g) : CSN g RX2 89 yX0_is cX0_is 3 (some Jvm.ClassFile.FieldType.boolean) 3 := ⟨⟨"Retouched", hg _ q653 rfl⟩, q654, q145, q655, by decide +kernel, by decide⟩
theorem csn_X2_82 (hg : GX g) : CSN g RX2 82 yX0_find cX0_find 3 (some Jvm.ClassFile.FieldType.int) 2 := ⟨⟨"Retouched", hg _ q747 rfl⟩, q748, q145, q749, by decide +kernel, by decide⟩
theorem fn_X2_195 (hg : GX g) : FlN g RX2 195 7 4 2 := ⟨by decide, by decide, rfl, "Retouched", hg _ q814 rfl⟩
theorem cin_X2_218 (hg : GX g) : CIN g RX2 218 yX9_init cX9_init 1 0 := ⟨⟨"Retouched", hg _ q917 rfl⟩, q918, q169, q919, rfl, by decide +kernel, by decide⟩
theorem csn_X2_251 (hg : GX g) : CSN g RX2 251 yX0_has cX0_has 2 (some Jvm.ClassFile.FieldType.boolean) 2 := ⟨⟨"Retouched", hg _ q1000 rfl⟩, q1001, q145, q1002, by decide +kernel, by decide⟩
theorem fn_X2_274 (hg : GX g) : FlN g RX2 274 15 0 2 := ⟨by decide, by decide, rfl, "Retouched", hg _ q1118 rfl⟩
theorem cin_X2_302 (hg : GX g) : CIN g RX2 302 yX17_init cX17_init 1 0 := ⟨⟨"Retouched", hg _ q1151 rfl⟩, q1152, q179, q1153, rfl, by decide +kernel, by decide⟩
theorem fn_X5_131 (hg : GX g) : FlN g RX5 131 1 1 0 := ⟨by decide, by decide, rfl, "Retouched", hg _ q227 rfl⟩
theorem fn_X5_86 (hg : GX g) : FlN g RX5 86 1 4 2 := ⟨by decide, by decide, rfl, "Retouched", hg _ q235 rfl⟩
theorem fn_X5_113 (hg : GX g) : FlN g RX5 113 1 5 2 := ⟨by decide, by decide, rfl, "Retouched", hg _ q237 rfl⟩
theorem fn_X5_141 (hg : GX g) : FlN g RX5 141 1 6 2 := ⟨by decide, by decide, rfl, "Retouched", hg _ q239 rfl⟩
theorem fn_X5_76 (hg : GX g) : FlN g RX5 76 4 0 2 := ⟨by decide, by decide, rfl, "Retouched", hg _ q368 rfl⟩
theorem fn_X5_82 (hg : GX g) : FlN g RX5 82 0 0 2 := ⟨by decide, by decide, rfl, "Retouched", hg _ q429 rfl⟩
theorem fn_X5_72 (hg : GX g) : FlN g RX5 72 0 6 2 := ⟨by decide, by decide, rfl, "Retouched", hg _ q437 rfl⟩
theorem fn_X5_58 (hg : GX g) : FlN g RX5 58 7 1 0 := ⟨by decide, by decide, rfl, "Retouched", hg _ q806 rfl⟩
theorem fn_X5_62 (hg : GX g) : FlN g RX5 62 7 2 0 := ⟨by decide, by decide, rfl, "Retouched", hg _ q809 rfl⟩
theorem fn_X5_64 (hg : GX g) : FlN g RX5 64 7 3 0 := ⟨by decide, by decide, rfl, "Retouched", hg _ q811 rfl⟩
theorem fn_X5_66 (hg : GX g) : FlN g RX5 66 7 4 2 := ⟨by decide, by decide, rfl, "Retouched", hg _ q813 rfl⟩
theorem cvn_X5_47 (hg : GX g) : CVN g RX5 47 0 yX0_people cX0_people 1 (some Jvm.ClassFile.FieldType.int) 0 := ⟨⟨"Retouched", hg _ q1178 rfl⟩, q1180, qs33, q145, q1181, by decide +kernel, by decide⟩
theorem cvn_X5_54 (hg : GX g) : CVN g RX5 54 0 yX0_soulOf cX0_soulOf 2 (some ((Jvm.ClassFile.FieldType.object "Retouched$Soul"))) 1 := ⟨⟨"Retouched", hg _ q1184 rfl⟩, q1186, qs34, q145, q1187, by decide +kernel, by decide⟩
theorem cin_X9_1 (hg : GX g) : CIN g RX9 1 yX8_init cX8_init 1 0 := ⟨⟨"Retouched", hg _ q920 rfl⟩, q921, q168, q922, rfl, by decide +kernel, by decide⟩
theorem csn_X9_55 (hg : GX g) : CSN g RX9 55 yX0_held cX0_held 2 (some Jvm.ClassFile.FieldType.long) 1 := ⟨⟨"Retouched", hg _ q1287 rfl⟩, q1239, q145, q1240, by decide +kernel, by decide⟩
end Nest
