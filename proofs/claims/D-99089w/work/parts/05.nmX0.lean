/-! Retouched -/
set_option maxRecDepth 100000
def RX0 : String := "Retouched"
def TX0 : u_T := fun k => match k with
  | 0 => ("Retouched", "terrace", "LRetouched$Terrace;", false)
  | 1 => ("Retouched", "tape", "[B", true)
  | 2 => ("Retouched", "taped", "I", false)
  | 3 => ("Retouched", "faultKind", "I", false)
  | 4 => ("Retouched", "faultPlace", "I", false)
  | 5 => ("Retouched", "reader", "LRetouched$Reader;", true)
  | 6 => ("Retouched", "moment", "LRetouched$Moment;", true)
  | 7 => ("Retouched", "asked", "LRetouched$Moment;", true)
  | 8 => ("Retouched", "refused", "[I", true)
  | 9 => ("Retouched", "now", "LRetouched$State;", true)
  | 10 => ("Retouched", "tried", "LRetouched$State;", true)
  | 11 => ("Retouched", "lookBy", "[[I", true)
  | 12 => ("Retouched", "rowYear", "[I", true)
  | 13 => ("Retouched", "rowWho", "[I", true)
  | 14 => ("Retouched", "rowLook", "[I", true)
  | 15 => ("Retouched", "rows", "I", false)
  | 16 => ("Retouched", "looksOf", "[[I", true)
  | 17 => ("Retouched", "kept", "[LRetouched$State;", true)
  | 18 => ("Retouched", "undos", "I", false)
  | 19 => ("Retouched", "seeds", "J", false)
  | 20 => ("Retouched", "askedPerson", "I", false)
  | 21 => ("Retouched", "out", "[B", true)
  | _ => ("Retouched", "outs", "I", false)
def tyX0 : Nat → FieldType := fun k => match k with
  | 0 => .object "Retouched$Terrace"
  | 1 => .array .byte
  | 2 => .int
  | 3 => .int
  | 4 => .int
  | 5 => .object "Retouched$Reader"
  | 6 => .object "Retouched$Moment"
  | 7 => .object "Retouched$Moment"
  | 8 => .array .int
  | 9 => .object "Retouched$State"
  | 10 => .object "Retouched$State"
  | 11 => .array (.array .int)
  | 12 => .array .int
  | 13 => .array .int
  | 14 => .array .int
  | 15 => .int
  | 16 => .array (.array .int)
  | 17 => .array (.object "Retouched$State")
  | 18 => .int
  | 19 => .long
  | 20 => .int
  | 21 => .array .byte
  | _ => .int
abbrev wsX00 : List Cond := u_ws RX0 TX0 23
set_option maxRecDepth 100000 in
theorem nmX0 : ∀ a, a < 23 → ∀ b, b < 23 → a ≠ b → (TX0 a).2.1 ≠ (TX0 b).2.1 := by decide +kernel
set_option maxRecDepth 100000 in
theorem tyX0_ok : ∀ k, k < 23 → parseFieldDescriptor (TX0 k).2.2.1 = some (tyX0 k) := by decide +kernel
abbrev cX0_init : ByteArray := prog_1_method_7_code
def yX0_init : MethodName := ⟨RX0, "<init>", "()V"⟩
def dkwX0_init_8 : List UInt8 := [181, 0, 97, 42, 16, 83, 188, 8, 181, 0, 101, 177]
abbrev dktX0_init_8 : List UInt8 := dkwX0_init_8 ++ []
def dkwX0_init_7 : List UInt8 := [42, 180, 0, 93, 27, 187, 0, 66, 89, 42, 183, 0, 68, 83, 132, 1, 1, 167, 255, 233, 42, 10]
abbrev dktX0_init_7 : List UInt8 := dkwX0_init_7 ++ dktX0_init_8
def dkwX0_init_6 : List UInt8 := [197, 0, 76, 2, 181, 0, 90, 42, 16, 20, 189, 0, 66, 181, 0, 93, 3, 60, 27, 16, 20, 162, 0, 23]
abbrev dktX0_init_6 : List UInt8 := dkwX0_init_6 ++ dktX0_init_7
def dkwX0_init_5 : List UInt8 := [42, 16, 16, 188, 10, 181, 0, 84, 42, 16, 16, 188, 10, 181, 0, 87, 42, 16, 10, 16, 31]
abbrev dktX0_init_5 : List UInt8 := dkwX0_init_5 ++ dktX0_init_6
def dkwX0_init_4 : List UInt8 := [181, 0, 73, 42, 17, 1, 0, 16, 8, 197, 0, 76, 2, 181, 0, 78, 42, 16, 16, 188, 10, 181, 0, 81]
abbrev dktX0_init_4 : List UInt8 := dkwX0_init_4 ++ dktX0_init_5
def dkwX0_init_3 : List UInt8 := [181, 0, 62, 42, 187, 0, 66, 89, 42, 183, 0, 68, 181, 0, 69, 42, 187, 0, 66, 89, 42, 183, 0, 68]
abbrev dktX0_init_3 : List UInt8 := dkwX0_init_3 ++ dktX0_init_4
def dkwX0_init_2 : List UInt8 := [183, 0, 54, 181, 0, 55, 42, 187, 0, 52, 89, 183, 0, 54, 181, 0, 59, 42, 16, 6, 188, 10]
abbrev dktX0_init_2 : List UInt8 := dkwX0_init_2 ++ dktX0_init_3
def dkwX0_init_1 : List UInt8 := [42, 2, 181, 0, 39, 42, 187, 0, 43, 89, 42, 183, 0, 45, 181, 0, 48, 42, 187, 0, 52, 89]
abbrev dktX0_init_1 : List UInt8 := dkwX0_init_1 ++ dktX0_init_2
def dkwX0_init_0 : List UInt8 := [42, 183, 0, 22, 42, 187, 0, 28, 89, 183, 0, 30, 181, 0, 31, 42, 17, 6, 64, 188, 8, 181, 0, 35]
abbrev dktX0_init_0 : List UInt8 := dkwX0_init_0 ++ dktX0_init_1
theorem dksX0_init_0 : cX0_init.data.toList.drop 0 = dktX0_init_0 := by decide +kernel
theorem dksX0_init_1 : cX0_init.data.toList.drop 24 = dktX0_init_1 := dk_seg dksX0_init_0 24 rfl rfl
theorem dksX0_init_2 : cX0_init.data.toList.drop 46 = dktX0_init_2 := dk_seg dksX0_init_1 22 rfl rfl
theorem dksX0_init_3 : cX0_init.data.toList.drop 68 = dktX0_init_3 := dk_seg dksX0_init_2 22 rfl rfl
theorem dksX0_init_4 : cX0_init.data.toList.drop 92 = dktX0_init_4 := dk_seg dksX0_init_3 24 rfl rfl
theorem dksX0_init_5 : cX0_init.data.toList.drop 116 = dktX0_init_5 := dk_seg dksX0_init_4 24 rfl rfl
theorem dksX0_init_6 : cX0_init.data.toList.drop 137 = dktX0_init_6 := dk_seg dksX0_init_5 21 rfl rfl
theorem dksX0_init_7 : cX0_init.data.toList.drop 161 = dktX0_init_7 := dk_seg dksX0_init_6 24 rfl rfl
theorem dksX0_init_8 : cX0_init.data.toList.drop 183 = dktX0_init_8 := dk_seg dksX0_init_7 22 rfl rfl
theorem dX0_init_0 : decode cX0_init 0 = .ok (.aload_n 0, 1) := dk_42 (dk_at dksX0_init_0 0 rfl rfl)
theorem dX0_init_1 : decode cX0_init 1 = .ok (.invokespecial 22, 3) := dk_183 0 22 (dk_at dksX0_init_0 1 rfl rfl)
theorem dX0_init_4 : decode cX0_init 4 = .ok (.aload_n 0, 1) := dk_42 (dk_at dksX0_init_0 4 rfl rfl)
theorem dX0_init_5 : decode cX0_init 5 = .ok (.new 28, 3) := dk_187 0 28 (dk_at dksX0_init_0 5 rfl rfl)
theorem dX0_init_8 : decode cX0_init 8 = .ok (.dup, 1) := dk_89 (dk_at dksX0_init_0 8 rfl rfl)
theorem dX0_init_9 : decode cX0_init 9 = .ok (.invokespecial 30, 3) := dk_183 0 30 (dk_at dksX0_init_0 9 rfl rfl)
theorem dX0_init_12 : decode cX0_init 12 = .ok (.putfield 31, 3) := dk_181 0 31 (dk_at dksX0_init_0 12 rfl rfl)
theorem dX0_init_15 : decode cX0_init 15 = .ok (.aload_n 0, 1) := dk_42 (dk_at dksX0_init_0 15 rfl rfl)
theorem dX0_init_16 : decode cX0_init 16 = .ok (.sipush 1600, 3) := dk_17 6 64 (dk_at dksX0_init_0 16 rfl rfl)
theorem dX0_init_19 : decode cX0_init 19 = .ok (.newarray .byte, 2) := dk_188_8 (dk_at dksX0_init_0 19 rfl rfl)
theorem dX0_init_21 : decode cX0_init 21 = .ok (.putfield 35, 3) := dk_181 0 35 (dk_at dksX0_init_0 21 rfl rfl)
theorem dX0_init_24 : decode cX0_init 24 = .ok (.aload_n 0, 1) := dk_42 (dk_at dksX0_init_1 0 rfl rfl)
theorem dX0_init_25 : decode cX0_init 25 = .ok (.iconst (-1), 1) := dk_2 (dk_at dksX0_init_1 1 rfl rfl)
theorem dX0_init_26 : decode cX0_init 26 = .ok (.putfield 39, 3) := dk_181 0 39 (dk_at dksX0_init_1 2 rfl rfl)
theorem dX0_init_29 : decode cX0_init 29 = .ok (.aload_n 0, 1) := dk_42 (dk_at dksX0_init_1 5 rfl rfl)
theorem dX0_init_30 : decode cX0_init 30 = .ok (.new 43, 3) := dk_187 0 43 (dk_at dksX0_init_1 6 rfl rfl)
theorem dX0_init_33 : decode cX0_init 33 = .ok (.dup, 1) := dk_89 (dk_at dksX0_init_1 9 rfl rfl)
theorem dX0_init_34 : decode cX0_init 34 = .ok (.aload_n 0, 1) := dk_42 (dk_at dksX0_init_1 10 rfl rfl)
theorem dX0_init_35 : decode cX0_init 35 = .ok (.invokespecial 45, 3) := dk_183 0 45 (dk_at dksX0_init_1 11 rfl rfl)
theorem dX0_init_38 : decode cX0_init 38 = .ok (.putfield 48, 3) := dk_181 0 48 (dk_at dksX0_init_1 14 rfl rfl)
theorem dX0_init_41 : decode cX0_init 41 = .ok (.aload_n 0, 1) := dk_42 (dk_at dksX0_init_1 17 rfl rfl)
theorem dX0_init_42 : decode cX0_init 42 = .ok (.new 52, 3) := dk_187 0 52 (dk_at dksX0_init_1 18 rfl rfl)
theorem dX0_init_45 : decode cX0_init 45 = .ok (.dup, 1) := dk_89 (dk_at dksX0_init_1 21 rfl rfl)
theorem dX0_init_46 : decode cX0_init 46 = .ok (.invokespecial 54, 3) := dk_183 0 54 (dk_at dksX0_init_2 0 rfl rfl)
theorem dX0_init_49 : decode cX0_init 49 = .ok (.putfield 55, 3) := dk_181 0 55 (dk_at dksX0_init_2 3 rfl rfl)
theorem dX0_init_52 : decode cX0_init 52 = .ok (.aload_n 0, 1) := dk_42 (dk_at dksX0_init_2 6 rfl rfl)
theorem dX0_init_53 : decode cX0_init 53 = .ok (.new 52, 3) := dk_187 0 52 (dk_at dksX0_init_2 7 rfl rfl)
theorem dX0_init_56 : decode cX0_init 56 = .ok (.dup, 1) := dk_89 (dk_at dksX0_init_2 10 rfl rfl)
theorem dX0_init_57 : decode cX0_init 57 = .ok (.invokespecial 54, 3) := dk_183 0 54 (dk_at dksX0_init_2 11 rfl rfl)
theorem dX0_init_60 : decode cX0_init 60 = .ok (.putfield 59, 3) := dk_181 0 59 (dk_at dksX0_init_2 14 rfl rfl)
theorem dX0_init_63 : decode cX0_init 63 = .ok (.aload_n 0, 1) := dk_42 (dk_at dksX0_init_2 17 rfl rfl)
theorem dX0_init_64 : decode cX0_init 64 = .ok (.bipush 6, 2) := dk_16 6 (dk_at dksX0_init_2 18 rfl rfl)
theorem dX0_init_66 : decode cX0_init 66 = .ok (.newarray .int, 2) := dk_188_10 (dk_at dksX0_init_2 20 rfl rfl)
theorem dX0_init_68 : decode cX0_init 68 = .ok (.putfield 62, 3) := dk_181 0 62 (dk_at dksX0_init_3 0 rfl rfl)
theorem dX0_init_71 : decode cX0_init 71 = .ok (.aload_n 0, 1) := dk_42 (dk_at dksX0_init_3 3 rfl rfl)
theorem dX0_init_72 : decode cX0_init 72 = .ok (.new 66, 3) := dk_187 0 66 (dk_at dksX0_init_3 4 rfl rfl)
theorem dX0_init_75 : decode cX0_init 75 = .ok (.dup, 1) := dk_89 (dk_at dksX0_init_3 7 rfl rfl)
theorem dX0_init_76 : decode cX0_init 76 = .ok (.aload_n 0, 1) := dk_42 (dk_at dksX0_init_3 8 rfl rfl)
theorem dX0_init_77 : decode cX0_init 77 = .ok (.invokespecial 68, 3) := dk_183 0 68 (dk_at dksX0_init_3 9 rfl rfl)
theorem dX0_init_80 : decode cX0_init 80 = .ok (.putfield 69, 3) := dk_181 0 69 (dk_at dksX0_init_3 12 rfl rfl)
theorem dX0_init_83 : decode cX0_init 83 = .ok (.aload_n 0, 1) := dk_42 (dk_at dksX0_init_3 15 rfl rfl)
theorem dX0_init_84 : decode cX0_init 84 = .ok (.new 66, 3) := dk_187 0 66 (dk_at dksX0_init_3 16 rfl rfl)
theorem dX0_init_87 : decode cX0_init 87 = .ok (.dup, 1) := dk_89 (dk_at dksX0_init_3 19 rfl rfl)
theorem dX0_init_88 : decode cX0_init 88 = .ok (.aload_n 0, 1) := dk_42 (dk_at dksX0_init_3 20 rfl rfl)
theorem dX0_init_89 : decode cX0_init 89 = .ok (.invokespecial 68, 3) := dk_183 0 68 (dk_at dksX0_init_3 21 rfl rfl)
theorem dX0_init_92 : decode cX0_init 92 = .ok (.putfield 73, 3) := dk_181 0 73 (dk_at dksX0_init_4 0 rfl rfl)
theorem dX0_init_95 : decode cX0_init 95 = .ok (.aload_n 0, 1) := dk_42 (dk_at dksX0_init_4 3 rfl rfl)
theorem dX0_init_96 : decode cX0_init 96 = .ok (.sipush 256, 3) := dk_17 1 0 (dk_at dksX0_init_4 4 rfl rfl)
theorem dX0_init_99 : decode cX0_init 99 = .ok (.bipush 8, 2) := dk_16 8 (dk_at dksX0_init_4 7 rfl rfl)
theorem dX0_init_101 : decode cX0_init 101 = .ok (.multianewarray 76 2, 4) := by decide +kernel
theorem dX0_init_105 : decode cX0_init 105 = .ok (.putfield 78, 3) := dk_181 0 78 (dk_at dksX0_init_4 13 rfl rfl)
theorem dX0_init_108 : decode cX0_init 108 = .ok (.aload_n 0, 1) := dk_42 (dk_at dksX0_init_4 16 rfl rfl)
theorem dX0_init_109 : decode cX0_init 109 = .ok (.bipush 16, 2) := dk_16 16 (dk_at dksX0_init_4 17 rfl rfl)
theorem dX0_init_111 : decode cX0_init 111 = .ok (.newarray .int, 2) := dk_188_10 (dk_at dksX0_init_4 19 rfl rfl)
theorem dX0_init_113 : decode cX0_init 113 = .ok (.putfield 81, 3) := dk_181 0 81 (dk_at dksX0_init_4 21 rfl rfl)
theorem dX0_init_116 : decode cX0_init 116 = .ok (.aload_n 0, 1) := dk_42 (dk_at dksX0_init_5 0 rfl rfl)
theorem dX0_init_117 : decode cX0_init 117 = .ok (.bipush 16, 2) := dk_16 16 (dk_at dksX0_init_5 1 rfl rfl)
theorem dX0_init_119 : decode cX0_init 119 = .ok (.newarray .int, 2) := dk_188_10 (dk_at dksX0_init_5 3 rfl rfl)
theorem dX0_init_121 : decode cX0_init 121 = .ok (.putfield 84, 3) := dk_181 0 84 (dk_at dksX0_init_5 5 rfl rfl)
theorem dX0_init_124 : decode cX0_init 124 = .ok (.aload_n 0, 1) := dk_42 (dk_at dksX0_init_5 8 rfl rfl)
theorem dX0_init_125 : decode cX0_init 125 = .ok (.bipush 16, 2) := dk_16 16 (dk_at dksX0_init_5 9 rfl rfl)
theorem dX0_init_127 : decode cX0_init 127 = .ok (.newarray .int, 2) := dk_188_10 (dk_at dksX0_init_5 11 rfl rfl)
theorem dX0_init_129 : decode cX0_init 129 = .ok (.putfield 87, 3) := dk_181 0 87 (dk_at dksX0_init_5 13 rfl rfl)
theorem dX0_init_132 : decode cX0_init 132 = .ok (.aload_n 0, 1) := dk_42 (dk_at dksX0_init_5 16 rfl rfl)
theorem dX0_init_133 : decode cX0_init 133 = .ok (.bipush 10, 2) := dk_16 10 (dk_at dksX0_init_5 17 rfl rfl)
theorem dX0_init_135 : decode cX0_init 135 = .ok (.bipush 31, 2) := dk_16 31 (dk_at dksX0_init_5 19 rfl rfl)
theorem dX0_init_137 : decode cX0_init 137 = .ok (.multianewarray 76 2, 4) := by decide +kernel
theorem dX0_init_141 : decode cX0_init 141 = .ok (.putfield 90, 3) := dk_181 0 90 (dk_at dksX0_init_6 4 rfl rfl)
theorem dX0_init_144 : decode cX0_init 144 = .ok (.aload_n 0, 1) := dk_42 (dk_at dksX0_init_6 7 rfl rfl)
theorem dX0_init_145 : decode cX0_init 145 = .ok (.bipush 20, 2) := dk_16 20 (dk_at dksX0_init_6 8 rfl rfl)
theorem dX0_init_147 : decode cX0_init 147 = .ok (.anewarray 66, 3) := dk_189 0 66 (dk_at dksX0_init_6 10 rfl rfl)
theorem dX0_init_150 : decode cX0_init 150 = .ok (.putfield 93, 3) := dk_181 0 93 (dk_at dksX0_init_6 13 rfl rfl)
theorem dX0_init_153 : decode cX0_init 153 = .ok (.iconst 0, 1) := dk_3 (dk_at dksX0_init_6 16 rfl rfl)
theorem dX0_init_154 : decode cX0_init 154 = .ok (.istore_n 1, 1) := dk_60 (dk_at dksX0_init_6 17 rfl rfl)
theorem dX0_init_155 : decode cX0_init 155 = .ok (.iload_n 1, 1) := dk_27 (dk_at dksX0_init_6 18 rfl rfl)
theorem dX0_init_156 : decode cX0_init 156 = .ok (.bipush 20, 2) := dk_16 20 (dk_at dksX0_init_6 19 rfl rfl)
theorem dX0_init_158 : decode cX0_init 158 = .ok (.if_icmp .ge 23, 3) := dk_162 0 23 (dk_at dksX0_init_6 21 rfl rfl)
theorem dX0_init_161 : decode cX0_init 161 = .ok (.aload_n 0, 1) := dk_42 (dk_at dksX0_init_7 0 rfl rfl)
theorem dX0_init_162 : decode cX0_init 162 = .ok (.getfield 93, 3) := dk_180 0 93 (dk_at dksX0_init_7 1 rfl rfl)
theorem dX0_init_165 : decode cX0_init 165 = .ok (.iload_n 1, 1) := dk_27 (dk_at dksX0_init_7 4 rfl rfl)
theorem dX0_init_166 : decode cX0_init 166 = .ok (.new 66, 3) := dk_187 0 66 (dk_at dksX0_init_7 5 rfl rfl)
theorem dX0_init_169 : decode cX0_init 169 = .ok (.dup, 1) := dk_89 (dk_at dksX0_init_7 8 rfl rfl)
theorem dX0_init_170 : decode cX0_init 170 = .ok (.aload_n 0, 1) := dk_42 (dk_at dksX0_init_7 9 rfl rfl)
theorem dX0_init_171 : decode cX0_init 171 = .ok (.invokespecial 68, 3) := dk_183 0 68 (dk_at dksX0_init_7 10 rfl rfl)
theorem dX0_init_174 : decode cX0_init 174 = .ok (.aastore, 1) := dk_83 (dk_at dksX0_init_7 13 rfl rfl)
theorem dX0_init_175 : decode cX0_init 175 = .ok (.iinc 1 1, 3) := dk_132 1 1 (dk_at dksX0_init_7 14 rfl rfl)
theorem dX0_init_178 : decode cX0_init 178 = .ok (.goto (-23), 3) := dk_167 255 233 (dk_at dksX0_init_7 17 rfl rfl)
theorem dX0_init_181 : decode cX0_init 181 = .ok (.aload_n 0, 1) := dk_42 (dk_at dksX0_init_7 20 rfl rfl)
theorem dX0_init_182 : decode cX0_init 182 = .ok (.lconst 1, 1) := dk_10 (dk_at dksX0_init_7 21 rfl rfl)
theorem dX0_init_183 : decode cX0_init 183 = .ok (.putfield 97, 3) := dk_181 0 97 (dk_at dksX0_init_8 0 rfl rfl)
theorem dX0_init_186 : decode cX0_init 186 = .ok (.aload_n 0, 1) := dk_42 (dk_at dksX0_init_8 3 rfl rfl)
theorem dX0_init_187 : decode cX0_init 187 = .ok (.bipush 83, 2) := dk_16 83 (dk_at dksX0_init_8 4 rfl rfl)
theorem dX0_init_189 : decode cX0_init 189 = .ok (.newarray .byte, 2) := dk_188_8 (dk_at dksX0_init_8 6 rfl rfl)
theorem dX0_init_191 : decode cX0_init 191 = .ok (.putfield 101, 3) := dk_181 0 101 (dk_at dksX0_init_8 8 rfl rfl)
theorem dX0_init_194 : decode cX0_init 194 = .ok (.return_, 1) := dk_177 (dk_at dksX0_init_8 11 rfl rfl)
abbrev cX0_feed : ByteArray := prog_1_method_10_code
def yX0_feed : MethodName := ⟨RX0, "feed", "(IIIII)I"⟩
def dkwX0_feed_2 : List UInt8 := [180, 0, 104, 172]
abbrev dktX0_feed_2 : List UInt8 := dkwX0_feed_2 ++ []
def dkwX0_feed_1 : List UInt8 := [42, 28, 182, 0, 111, 42, 29, 182, 0, 111, 42, 21, 4, 182, 0, 111, 42, 21, 5, 182, 0, 111, 42]
abbrev dktX0_feed_1 : List UInt8 := dkwX0_feed_1 ++ dktX0_feed_2
def dkwX0_feed_0 : List UInt8 := [42, 180, 0, 104, 16, 20, 96, 17, 6, 64, 164, 0, 9, 42, 3, 182, 0, 107, 172, 42, 27, 182, 0, 111]
abbrev dktX0_feed_0 : List UInt8 := dkwX0_feed_0 ++ dktX0_feed_1
theorem dksX0_feed_0 : cX0_feed.data.toList.drop 0 = dktX0_feed_0 := by decide +kernel
theorem dksX0_feed_1 : cX0_feed.data.toList.drop 24 = dktX0_feed_1 := dk_seg dksX0_feed_0 24 rfl rfl
theorem dksX0_feed_2 : cX0_feed.data.toList.drop 47 = dktX0_feed_2 := dk_seg dksX0_feed_1 23 rfl rfl
theorem dX0_feed_0 : decode cX0_feed 0 = .ok (.aload_n 0, 1) := dk_42 (dk_at dksX0_feed_0 0 rfl rfl)
theorem dX0_feed_1 : decode cX0_feed 1 = .ok (.getfield 104, 3) := dk_180 0 104 (dk_at dksX0_feed_0 1 rfl rfl)
theorem dX0_feed_4 : decode cX0_feed 4 = .ok (.bipush 20, 2) := dk_16 20 (dk_at dksX0_feed_0 4 rfl rfl)
theorem dX0_feed_6 : decode cX0_feed 6 = .ok (.iadd, 1) := dk_96 (dk_at dksX0_feed_0 6 rfl rfl)
theorem dX0_feed_7 : decode cX0_feed 7 = .ok (.sipush 1600, 3) := dk_17 6 64 (dk_at dksX0_feed_0 7 rfl rfl)
theorem dX0_feed_10 : decode cX0_feed 10 = .ok (.if_icmp .le 9, 3) := dk_164 0 9 (dk_at dksX0_feed_0 10 rfl rfl)
theorem dX0_feed_13 : decode cX0_feed 13 = .ok (.aload_n 0, 1) := dk_42 (dk_at dksX0_feed_0 13 rfl rfl)
theorem dX0_feed_14 : decode cX0_feed 14 = .ok (.iconst 0, 1) := dk_3 (dk_at dksX0_feed_0 14 rfl rfl)
theorem dX0_feed_15 : decode cX0_feed 15 = .ok (.invokevirtual 107, 3) := dk_182 0 107 (dk_at dksX0_feed_0 15 rfl rfl)
theorem dX0_feed_18 : decode cX0_feed 18 = .ok (.ireturn, 1) := dk_172 (dk_at dksX0_feed_0 18 rfl rfl)
theorem dX0_feed_19 : decode cX0_feed 19 = .ok (.aload_n 0, 1) := dk_42 (dk_at dksX0_feed_0 19 rfl rfl)
theorem dX0_feed_20 : decode cX0_feed 20 = .ok (.iload_n 1, 1) := dk_27 (dk_at dksX0_feed_0 20 rfl rfl)
theorem dX0_feed_21 : decode cX0_feed 21 = .ok (.invokevirtual 111, 3) := dk_182 0 111 (dk_at dksX0_feed_0 21 rfl rfl)
theorem dX0_feed_24 : decode cX0_feed 24 = .ok (.aload_n 0, 1) := dk_42 (dk_at dksX0_feed_1 0 rfl rfl)
theorem dX0_feed_25 : decode cX0_feed 25 = .ok (.iload_n 2, 1) := dk_28 (dk_at dksX0_feed_1 1 rfl rfl)
theorem dX0_feed_26 : decode cX0_feed 26 = .ok (.invokevirtual 111, 3) := dk_182 0 111 (dk_at dksX0_feed_1 2 rfl rfl)
theorem dX0_feed_29 : decode cX0_feed 29 = .ok (.aload_n 0, 1) := dk_42 (dk_at dksX0_feed_1 5 rfl rfl)
theorem dX0_feed_30 : decode cX0_feed 30 = .ok (.iload_n 3, 1) := dk_29 (dk_at dksX0_feed_1 6 rfl rfl)
theorem dX0_feed_31 : decode cX0_feed 31 = .ok (.invokevirtual 111, 3) := dk_182 0 111 (dk_at dksX0_feed_1 7 rfl rfl)
theorem dX0_feed_34 : decode cX0_feed 34 = .ok (.aload_n 0, 1) := dk_42 (dk_at dksX0_feed_1 10 rfl rfl)
theorem dX0_feed_35 : decode cX0_feed 35 = .ok (.iload 4, 2) := dk_21 4 (dk_at dksX0_feed_1 11 rfl rfl)
theorem dX0_feed_37 : decode cX0_feed 37 = .ok (.invokevirtual 111, 3) := dk_182 0 111 (dk_at dksX0_feed_1 13 rfl rfl)
theorem dX0_feed_40 : decode cX0_feed 40 = .ok (.aload_n 0, 1) := dk_42 (dk_at dksX0_feed_1 16 rfl rfl)
theorem dX0_feed_41 : decode cX0_feed 41 = .ok (.iload 5, 2) := dk_21 5 (dk_at dksX0_feed_1 17 rfl rfl)
theorem dX0_feed_43 : decode cX0_feed 43 = .ok (.invokevirtual 111, 3) := dk_182 0 111 (dk_at dksX0_feed_1 19 rfl rfl)
theorem dX0_feed_46 : decode cX0_feed 46 = .ok (.aload_n 0, 1) := dk_42 (dk_at dksX0_feed_1 22 rfl rfl)
theorem dX0_feed_47 : decode cX0_feed 47 = .ok (.getfield 104, 3) := dk_180 0 104 (dk_at dksX0_feed_2 0 rfl rfl)
theorem dX0_feed_50 : decode cX0_feed 50 = .ok (.ireturn, 1) := dk_172 (dk_at dksX0_feed_2 3 rfl rfl)
abbrev cX0_refuses : ByteArray := prog_1_method_8_code
def yX0_refuses : MethodName := ⟨RX0, "refuses", "(I)I"⟩
def dkwX0_refuses_0 : List UInt8 := [42, 180, 0, 62, 27, 92, 46, 4, 96, 79, 2, 172]
abbrev dktX0_refuses_0 : List UInt8 := dkwX0_refuses_0 ++ []
theorem dksX0_refuses_0 : cX0_refuses.data.toList.drop 0 = dktX0_refuses_0 := by decide +kernel
theorem dX0_refuses_0 : decode cX0_refuses 0 = .ok (.aload_n 0, 1) := dk_42 (dk_at dksX0_refuses_0 0 rfl rfl)
theorem dX0_refuses_1 : decode cX0_refuses 1 = .ok (.getfield 62, 3) := dk_180 0 62 (dk_at dksX0_refuses_0 1 rfl rfl)
theorem dX0_refuses_4 : decode cX0_refuses 4 = .ok (.iload_n 1, 1) := dk_27 (dk_at dksX0_refuses_0 4 rfl rfl)
theorem dX0_refuses_5 : decode cX0_refuses 5 = .ok (.dup2, 1) := dk_92 (dk_at dksX0_refuses_0 5 rfl rfl)
theorem dX0_refuses_6 : decode cX0_refuses 6 = .ok (.iaload, 1) := dk_46 (dk_at dksX0_refuses_0 6 rfl rfl)
theorem dX0_refuses_7 : decode cX0_refuses 7 = .ok (.iconst 1, 1) := dk_4 (dk_at dksX0_refuses_0 7 rfl rfl)
theorem dX0_refuses_8 : decode cX0_refuses 8 = .ok (.iadd, 1) := dk_96 (dk_at dksX0_refuses_0 8 rfl rfl)
theorem dX0_refuses_9 : decode cX0_refuses 9 = .ok (.iastore, 1) := dk_79 (dk_at dksX0_refuses_0 9 rfl rfl)
theorem dX0_refuses_10 : decode cX0_refuses 10 = .ok (.iconst (-1), 1) := dk_2 (dk_at dksX0_refuses_0 10 rfl rfl)
theorem dX0_refuses_11 : decode cX0_refuses 11 = .ok (.ireturn, 1) := dk_172 (dk_at dksX0_refuses_0 11 rfl rfl)
abbrev cX0_put : ByteArray := prog_1_method_9_code
def yX0_put : MethodName := ⟨RX0, "put", "(I)V"⟩
def dkwX0_put_1 : List UInt8 := [122, 145, 84, 132, 2, 248, 167, 255, 229, 177]
abbrev dktX0_put_1 : List UInt8 := dkwX0_put_1 ++ []
def dkwX0_put_0 : List UInt8 := [16, 24, 61, 28, 155, 0, 29, 42, 180, 0, 35, 42, 89, 180, 0, 104, 90, 4, 96, 181, 0, 104, 27, 28]
abbrev dktX0_put_0 : List UInt8 := dkwX0_put_0 ++ dktX0_put_1
theorem dksX0_put_0 : cX0_put.data.toList.drop 0 = dktX0_put_0 := by decide +kernel
theorem dksX0_put_1 : cX0_put.data.toList.drop 24 = dktX0_put_1 := dk_seg dksX0_put_0 24 rfl rfl
theorem dX0_put_0 : decode cX0_put 0 = .ok (.bipush 24, 2) := dk_16 24 (dk_at dksX0_put_0 0 rfl rfl)
theorem dX0_put_2 : decode cX0_put 2 = .ok (.istore_n 2, 1) := dk_61 (dk_at dksX0_put_0 2 rfl rfl)
theorem dX0_put_3 : decode cX0_put 3 = .ok (.iload_n 2, 1) := dk_28 (dk_at dksX0_put_0 3 rfl rfl)
theorem dX0_put_4 : decode cX0_put 4 = .ok (.ifCond .lt 29, 3) := dk_155 0 29 (dk_at dksX0_put_0 4 rfl rfl)
theorem dX0_put_7 : decode cX0_put 7 = .ok (.aload_n 0, 1) := dk_42 (dk_at dksX0_put_0 7 rfl rfl)
theorem dX0_put_8 : decode cX0_put 8 = .ok (.getfield 35, 3) := dk_180 0 35 (dk_at dksX0_put_0 8 rfl rfl)
theorem dX0_put_11 : decode cX0_put 11 = .ok (.aload_n 0, 1) := dk_42 (dk_at dksX0_put_0 11 rfl rfl)
theorem dX0_put_12 : decode cX0_put 12 = .ok (.dup, 1) := dk_89 (dk_at dksX0_put_0 12 rfl rfl)
theorem dX0_put_13 : decode cX0_put 13 = .ok (.getfield 104, 3) := dk_180 0 104 (dk_at dksX0_put_0 13 rfl rfl)
theorem dX0_put_16 : decode cX0_put 16 = .ok (.dup_x1, 1) := dk_90 (dk_at dksX0_put_0 16 rfl rfl)
theorem dX0_put_17 : decode cX0_put 17 = .ok (.iconst 1, 1) := dk_4 (dk_at dksX0_put_0 17 rfl rfl)
theorem dX0_put_18 : decode cX0_put 18 = .ok (.iadd, 1) := dk_96 (dk_at dksX0_put_0 18 rfl rfl)
theorem dX0_put_19 : decode cX0_put 19 = .ok (.putfield 104, 3) := dk_181 0 104 (dk_at dksX0_put_0 19 rfl rfl)
theorem dX0_put_22 : decode cX0_put 22 = .ok (.iload_n 1, 1) := dk_27 (dk_at dksX0_put_0 22 rfl rfl)
theorem dX0_put_23 : decode cX0_put 23 = .ok (.iload_n 2, 1) := dk_28 (dk_at dksX0_put_0 23 rfl rfl)
theorem dX0_put_24 : decode cX0_put 24 = .ok (.ishr, 1) := dk_122 (dk_at dksX0_put_1 0 rfl rfl)
theorem dX0_put_25 : decode cX0_put 25 = .ok (.i2b, 1) := dk_145 (dk_at dksX0_put_1 1 rfl rfl)
theorem dX0_put_26 : decode cX0_put 26 = .ok (.bastore, 1) := dk_84 (dk_at dksX0_put_1 2 rfl rfl)
theorem dX0_put_27 : decode cX0_put 27 = .ok (.iinc 2 (-8), 3) := dk_132 2 248 (dk_at dksX0_put_1 3 rfl rfl)
theorem dX0_put_30 : decode cX0_put 30 = .ok (.goto (-27), 3) := dk_167 255 229 (dk_at dksX0_put_1 6 rfl rfl)
theorem dX0_put_33 : decode cX0_put 33 = .ok (.return_, 1) := dk_177 (dk_at dksX0_put_1 9 rfl rfl)
abbrev cX0_end : ByteArray := prog_1_method_11_code
def yX0_end : MethodName := ⟨RX0, "end", "(I)Z"⟩
def dkwX0_end_1 : List UInt8 := [3, 172, 42, 27, 181, 0, 104, 4, 172]
abbrev dktX0_end_1 : List UInt8 := dkwX0_end_1 ++ []
def dkwX0_end_0 : List UInt8 := [27, 155, 0, 11, 27, 42, 180, 0, 104, 164, 0, 17, 42, 3, 182, 0, 107, 155, 0, 7, 4, 167, 0, 4]
abbrev dktX0_end_0 : List UInt8 := dkwX0_end_0 ++ dktX0_end_1
theorem dksX0_end_0 : cX0_end.data.toList.drop 0 = dktX0_end_0 := by decide +kernel
theorem dksX0_end_1 : cX0_end.data.toList.drop 24 = dktX0_end_1 := dk_seg dksX0_end_0 24 rfl rfl
theorem dX0_end_0 : decode cX0_end 0 = .ok (.iload_n 1, 1) := dk_27 (dk_at dksX0_end_0 0 rfl rfl)
theorem dX0_end_1 : decode cX0_end 1 = .ok (.ifCond .lt 11, 3) := dk_155 0 11 (dk_at dksX0_end_0 1 rfl rfl)
theorem dX0_end_4 : decode cX0_end 4 = .ok (.iload_n 1, 1) := dk_27 (dk_at dksX0_end_0 4 rfl rfl)
theorem dX0_end_5 : decode cX0_end 5 = .ok (.aload_n 0, 1) := dk_42 (dk_at dksX0_end_0 5 rfl rfl)
theorem dX0_end_6 : decode cX0_end 6 = .ok (.getfield 104, 3) := dk_180 0 104 (dk_at dksX0_end_0 6 rfl rfl)
theorem dX0_end_9 : decode cX0_end 9 = .ok (.if_icmp .le 17, 3) := dk_164 0 17 (dk_at dksX0_end_0 9 rfl rfl)
theorem dX0_end_12 : decode cX0_end 12 = .ok (.aload_n 0, 1) := dk_42 (dk_at dksX0_end_0 12 rfl rfl)
theorem dX0_end_13 : decode cX0_end 13 = .ok (.iconst 0, 1) := dk_3 (dk_at dksX0_end_0 13 rfl rfl)
theorem dX0_end_14 : decode cX0_end 14 = .ok (.invokevirtual 107, 3) := dk_182 0 107 (dk_at dksX0_end_0 14 rfl rfl)
theorem dX0_end_17 : decode cX0_end 17 = .ok (.ifCond .lt 7, 3) := dk_155 0 7 (dk_at dksX0_end_0 17 rfl rfl)
theorem dX0_end_20 : decode cX0_end 20 = .ok (.iconst 1, 1) := dk_4 (dk_at dksX0_end_0 20 rfl rfl)
theorem dX0_end_21 : decode cX0_end 21 = .ok (.goto 4, 3) := dk_167 0 4 (dk_at dksX0_end_0 21 rfl rfl)
theorem dX0_end_24 : decode cX0_end 24 = .ok (.iconst 0, 1) := dk_3 (dk_at dksX0_end_1 0 rfl rfl)
theorem dX0_end_25 : decode cX0_end 25 = .ok (.ireturn, 1) := dk_172 (dk_at dksX0_end_1 1 rfl rfl)
theorem dX0_end_26 : decode cX0_end 26 = .ok (.aload_n 0, 1) := dk_42 (dk_at dksX0_end_1 2 rfl rfl)
theorem dX0_end_27 : decode cX0_end 27 = .ok (.iload_n 1, 1) := dk_27 (dk_at dksX0_end_1 3 rfl rfl)
theorem dX0_end_28 : decode cX0_end 28 = .ok (.putfield 104, 3) := dk_181 0 104 (dk_at dksX0_end_1 4 rfl rfl)
theorem dX0_end_31 : decode cX0_end 31 = .ok (.iconst 1, 1) := dk_4 (dk_at dksX0_end_1 7 rfl rfl)
theorem dX0_end_32 : decode cX0_end 32 = .ok (.ireturn, 1) := dk_172 (dk_at dksX0_end_1 8 rfl rfl)
abbrev cX0_terrace : ByteArray := prog_1_method_13_code
def yX0_terrace : MethodName := ⟨RX0, "terrace", "()I"⟩
def dkwX0_terrace_3 : List UInt8 := [180, 0, 31, 180, 0, 143, 172]
abbrev dktX0_terrace_3 : List UInt8 := dkwX0_terrace_3 ++ []
def dkwX0_terrace_2 : List UInt8 := [4, 182, 0, 107, 172, 42, 180, 0, 69, 182, 0, 134, 42, 3, 181, 0, 137, 42, 3, 181, 0, 140, 42]
abbrev dktX0_terrace_2 : List UInt8 := dkwX0_terrace_2 ++ dktX0_terrace_3
def dkwX0_terrace_1 : List UInt8 := [181, 0, 31, 167, 0, 26, 76, 42, 43, 180, 0, 128, 181, 0, 115, 42, 43, 180, 0, 131, 181, 0, 39, 42]
abbrev dktX0_terrace_1 : List UInt8 := dkwX0_terrace_1 ++ dktX0_terrace_2
def dkwX0_terrace_0 : List UInt8 := [42, 3, 181, 0, 115, 42, 2, 181, 0, 39, 42, 42, 180, 0, 48, 42, 182, 0, 118, 182, 0, 122]
abbrev dktX0_terrace_0 : List UInt8 := dkwX0_terrace_0 ++ dktX0_terrace_1
theorem dksX0_terrace_0 : cX0_terrace.data.toList.drop 0 = dktX0_terrace_0 := by decide +kernel
theorem dksX0_terrace_1 : cX0_terrace.data.toList.drop 22 = dktX0_terrace_1 := dk_seg dksX0_terrace_0 22 rfl rfl
theorem dksX0_terrace_2 : cX0_terrace.data.toList.drop 46 = dktX0_terrace_2 := dk_seg dksX0_terrace_1 24 rfl rfl
theorem dksX0_terrace_3 : cX0_terrace.data.toList.drop 69 = dktX0_terrace_3 := dk_seg dksX0_terrace_2 23 rfl rfl
theorem dX0_terrace_0 : decode cX0_terrace 0 = .ok (.aload_n 0, 1) := dk_42 (dk_at dksX0_terrace_0 0 rfl rfl)
theorem dX0_terrace_1 : decode cX0_terrace 1 = .ok (.iconst 0, 1) := dk_3 (dk_at dksX0_terrace_0 1 rfl rfl)
theorem dX0_terrace_2 : decode cX0_terrace 2 = .ok (.putfield 115, 3) := dk_181 0 115 (dk_at dksX0_terrace_0 2 rfl rfl)
theorem dX0_terrace_5 : decode cX0_terrace 5 = .ok (.aload_n 0, 1) := dk_42 (dk_at dksX0_terrace_0 5 rfl rfl)
theorem dX0_terrace_6 : decode cX0_terrace 6 = .ok (.iconst (-1), 1) := dk_2 (dk_at dksX0_terrace_0 6 rfl rfl)
theorem dX0_terrace_7 : decode cX0_terrace 7 = .ok (.putfield 39, 3) := dk_181 0 39 (dk_at dksX0_terrace_0 7 rfl rfl)
theorem dX0_terrace_10 : decode cX0_terrace 10 = .ok (.aload_n 0, 1) := dk_42 (dk_at dksX0_terrace_0 10 rfl rfl)
theorem dX0_terrace_11 : decode cX0_terrace 11 = .ok (.aload_n 0, 1) := dk_42 (dk_at dksX0_terrace_0 11 rfl rfl)
theorem dX0_terrace_12 : decode cX0_terrace 12 = .ok (.getfield 48, 3) := dk_180 0 48 (dk_at dksX0_terrace_0 12 rfl rfl)
theorem dX0_terrace_15 : decode cX0_terrace 15 = .ok (.aload_n 0, 1) := dk_42 (dk_at dksX0_terrace_0 15 rfl rfl)
theorem dX0_terrace_16 : decode cX0_terrace 16 = .ok (.invokevirtual 118, 3) := dk_182 0 118 (dk_at dksX0_terrace_0 16 rfl rfl)
theorem dX0_terrace_19 : decode cX0_terrace 19 = .ok (.invokevirtual 122, 3) := dk_182 0 122 (dk_at dksX0_terrace_0 19 rfl rfl)
theorem dX0_terrace_22 : decode cX0_terrace 22 = .ok (.putfield 31, 3) := dk_181 0 31 (dk_at dksX0_terrace_1 0 rfl rfl)
theorem dX0_terrace_25 : decode cX0_terrace 25 = .ok (.goto 26, 3) := dk_167 0 26 (dk_at dksX0_terrace_1 3 rfl rfl)
theorem dX0_terrace_28 : decode cX0_terrace 28 = .ok (.astore_n 1, 1) := dk_76 (dk_at dksX0_terrace_1 6 rfl rfl)
theorem dX0_terrace_29 : decode cX0_terrace 29 = .ok (.aload_n 0, 1) := dk_42 (dk_at dksX0_terrace_1 7 rfl rfl)
theorem dX0_terrace_30 : decode cX0_terrace 30 = .ok (.aload_n 1, 1) := dk_43 (dk_at dksX0_terrace_1 8 rfl rfl)
theorem dX0_terrace_31 : decode cX0_terrace 31 = .ok (.getfield 128, 3) := dk_180 0 128 (dk_at dksX0_terrace_1 9 rfl rfl)
theorem dX0_terrace_34 : decode cX0_terrace 34 = .ok (.putfield 115, 3) := dk_181 0 115 (dk_at dksX0_terrace_1 12 rfl rfl)
theorem dX0_terrace_37 : decode cX0_terrace 37 = .ok (.aload_n 0, 1) := dk_42 (dk_at dksX0_terrace_1 15 rfl rfl)
theorem dX0_terrace_38 : decode cX0_terrace 38 = .ok (.aload_n 1, 1) := dk_43 (dk_at dksX0_terrace_1 16 rfl rfl)
theorem dX0_terrace_39 : decode cX0_terrace 39 = .ok (.getfield 131, 3) := dk_180 0 131 (dk_at dksX0_terrace_1 17 rfl rfl)
theorem dX0_terrace_42 : decode cX0_terrace 42 = .ok (.putfield 39, 3) := dk_181 0 39 (dk_at dksX0_terrace_1 20 rfl rfl)
theorem dX0_terrace_45 : decode cX0_terrace 45 = .ok (.aload_n 0, 1) := dk_42 (dk_at dksX0_terrace_1 23 rfl rfl)
theorem dX0_terrace_46 : decode cX0_terrace 46 = .ok (.iconst 1, 1) := dk_4 (dk_at dksX0_terrace_2 0 rfl rfl)
theorem dX0_terrace_47 : decode cX0_terrace 47 = .ok (.invokevirtual 107, 3) := dk_182 0 107 (dk_at dksX0_terrace_2 1 rfl rfl)
theorem dX0_terrace_50 : decode cX0_terrace 50 = .ok (.ireturn, 1) := dk_172 (dk_at dksX0_terrace_2 4 rfl rfl)
theorem dX0_terrace_51 : decode cX0_terrace 51 = .ok (.aload_n 0, 1) := dk_42 (dk_at dksX0_terrace_2 5 rfl rfl)
theorem dX0_terrace_52 : decode cX0_terrace 52 = .ok (.getfield 69, 3) := dk_180 0 69 (dk_at dksX0_terrace_2 6 rfl rfl)
theorem dX0_terrace_55 : decode cX0_terrace 55 = .ok (.invokevirtual 134, 3) := dk_182 0 134 (dk_at dksX0_terrace_2 9 rfl rfl)
theorem dX0_terrace_58 : decode cX0_terrace 58 = .ok (.aload_n 0, 1) := dk_42 (dk_at dksX0_terrace_2 12 rfl rfl)
theorem dX0_terrace_59 : decode cX0_terrace 59 = .ok (.iconst 0, 1) := dk_3 (dk_at dksX0_terrace_2 13 rfl rfl)
theorem dX0_terrace_60 : decode cX0_terrace 60 = .ok (.putfield 137, 3) := dk_181 0 137 (dk_at dksX0_terrace_2 14 rfl rfl)
theorem dX0_terrace_63 : decode cX0_terrace 63 = .ok (.aload_n 0, 1) := dk_42 (dk_at dksX0_terrace_2 17 rfl rfl)
theorem dX0_terrace_64 : decode cX0_terrace 64 = .ok (.iconst 0, 1) := dk_3 (dk_at dksX0_terrace_2 18 rfl rfl)
theorem dX0_terrace_65 : decode cX0_terrace 65 = .ok (.putfield 140, 3) := dk_181 0 140 (dk_at dksX0_terrace_2 19 rfl rfl)
theorem dX0_terrace_68 : decode cX0_terrace 68 = .ok (.aload_n 0, 1) := dk_42 (dk_at dksX0_terrace_2 22 rfl rfl)
theorem dX0_terrace_69 : decode cX0_terrace 69 = .ok (.getfield 31, 3) := dk_180 0 31 (dk_at dksX0_terrace_3 0 rfl rfl)
theorem dX0_terrace_72 : decode cX0_terrace 72 = .ok (.getfield 143, 3) := dk_180 0 143 (dk_at dksX0_terrace_3 3 rfl rfl)
theorem dX0_terrace_75 : decode cX0_terrace 75 = .ok (.ireturn, 1) := dk_172 (dk_at dksX0_terrace_3 6 rfl rfl)
abbrev cX0_taken : ByteArray := prog_1_method_12_code
def yX0_taken : MethodName := ⟨RX0, "taken", "()I"⟩
def dkwX0_taken_0 : List UInt8 := [42, 180, 0, 104, 60, 42, 3, 181, 0, 104, 27, 172]
abbrev dktX0_taken_0 : List UInt8 := dkwX0_taken_0 ++ []
theorem dksX0_taken_0 : cX0_taken.data.toList.drop 0 = dktX0_taken_0 := by decide +kernel
theorem dX0_taken_0 : decode cX0_taken 0 = .ok (.aload_n 0, 1) := dk_42 (dk_at dksX0_taken_0 0 rfl rfl)
theorem dX0_taken_1 : decode cX0_taken 1 = .ok (.getfield 104, 3) := dk_180 0 104 (dk_at dksX0_taken_0 1 rfl rfl)
theorem dX0_taken_4 : decode cX0_taken 4 = .ok (.istore_n 1, 1) := dk_60 (dk_at dksX0_taken_0 4 rfl rfl)
theorem dX0_taken_5 : decode cX0_taken 5 = .ok (.aload_n 0, 1) := dk_42 (dk_at dksX0_taken_0 5 rfl rfl)
theorem dX0_taken_6 : decode cX0_taken 6 = .ok (.iconst 0, 1) := dk_3 (dk_at dksX0_taken_0 6 rfl rfl)
theorem dX0_taken_7 : decode cX0_taken 7 = .ok (.putfield 104, 3) := dk_181 0 104 (dk_at dksX0_taken_0 7 rfl rfl)
theorem dX0_taken_10 : decode cX0_taken 10 = .ok (.iload_n 1, 1) := dk_27 (dk_at dksX0_taken_0 10 rfl rfl)
theorem dX0_taken_11 : decode cX0_taken 11 = .ok (.ireturn, 1) := dk_172 (dk_at dksX0_taken_0 11 rfl rfl)
abbrev cX0_isLetter : ByteArray := prog_1_method_4_code
def yX0_isLetter : MethodName := ⟨RX0, "isLetter", "(I)Z"⟩
def dkwX0_isLetter_0 : List UInt8 := [26, 16, 97, 161, 0, 13, 26, 16, 122, 163, 0, 7, 4, 167, 0, 4, 3, 172]
abbrev dktX0_isLetter_0 : List UInt8 := dkwX0_isLetter_0 ++ []
theorem dksX0_isLetter_0 : cX0_isLetter.data.toList.drop 0 = dktX0_isLetter_0 := by decide +kernel
theorem dX0_isLetter_0 : decode cX0_isLetter 0 = .ok (.iload_n 0, 1) := dk_26 (dk_at dksX0_isLetter_0 0 rfl rfl)
theorem dX0_isLetter_1 : decode cX0_isLetter 1 = .ok (.bipush 97, 2) := dk_16 97 (dk_at dksX0_isLetter_0 1 rfl rfl)
theorem dX0_isLetter_3 : decode cX0_isLetter 3 = .ok (.if_icmp .lt 13, 3) := dk_161 0 13 (dk_at dksX0_isLetter_0 3 rfl rfl)
theorem dX0_isLetter_6 : decode cX0_isLetter 6 = .ok (.iload_n 0, 1) := dk_26 (dk_at dksX0_isLetter_0 6 rfl rfl)
theorem dX0_isLetter_7 : decode cX0_isLetter 7 = .ok (.bipush 122, 2) := dk_16 122 (dk_at dksX0_isLetter_0 7 rfl rfl)
theorem dX0_isLetter_9 : decode cX0_isLetter 9 = .ok (.if_icmp .gt 7, 3) := dk_163 0 7 (dk_at dksX0_isLetter_0 9 rfl rfl)
theorem dX0_isLetter_12 : decode cX0_isLetter 12 = .ok (.iconst 1, 1) := dk_4 (dk_at dksX0_isLetter_0 12 rfl rfl)
theorem dX0_isLetter_13 : decode cX0_isLetter 13 = .ok (.goto 4, 3) := dk_167 0 4 (dk_at dksX0_isLetter_0 13 rfl rfl)
theorem dX0_isLetter_16 : decode cX0_isLetter 16 = .ok (.iconst 0, 1) := dk_3 (dk_at dksX0_isLetter_0 16 rfl rfl)
theorem dX0_isLetter_17 : decode cX0_isLetter 17 = .ok (.ireturn, 1) := dk_172 (dk_at dksX0_isLetter_0 17 rfl rfl)
abbrev cX0_isDigit : ByteArray := prog_1_method_5_code
def yX0_isDigit : MethodName := ⟨RX0, "isDigit", "(I)Z"⟩
def dkwX0_isDigit_0 : List UInt8 := [26, 16, 48, 161, 0, 13, 26, 16, 57, 163, 0, 7, 4, 167, 0, 4, 3, 172]
abbrev dktX0_isDigit_0 : List UInt8 := dkwX0_isDigit_0 ++ []
theorem dksX0_isDigit_0 : cX0_isDigit.data.toList.drop 0 = dktX0_isDigit_0 := by decide +kernel
theorem dX0_isDigit_0 : decode cX0_isDigit 0 = .ok (.iload_n 0, 1) := dk_26 (dk_at dksX0_isDigit_0 0 rfl rfl)
theorem dX0_isDigit_1 : decode cX0_isDigit 1 = .ok (.bipush 48, 2) := dk_16 48 (dk_at dksX0_isDigit_0 1 rfl rfl)
theorem dX0_isDigit_3 : decode cX0_isDigit 3 = .ok (.if_icmp .lt 13, 3) := dk_161 0 13 (dk_at dksX0_isDigit_0 3 rfl rfl)
theorem dX0_isDigit_6 : decode cX0_isDigit 6 = .ok (.iload_n 0, 1) := dk_26 (dk_at dksX0_isDigit_0 6 rfl rfl)
theorem dX0_isDigit_7 : decode cX0_isDigit 7 = .ok (.bipush 57, 2) := dk_16 57 (dk_at dksX0_isDigit_0 7 rfl rfl)
theorem dX0_isDigit_9 : decode cX0_isDigit 9 = .ok (.if_icmp .gt 7, 3) := dk_163 0 7 (dk_at dksX0_isDigit_0 9 rfl rfl)
theorem dX0_isDigit_12 : decode cX0_isDigit 12 = .ok (.iconst 1, 1) := dk_4 (dk_at dksX0_isDigit_0 12 rfl rfl)
theorem dX0_isDigit_13 : decode cX0_isDigit 13 = .ok (.goto 4, 3) := dk_167 0 4 (dk_at dksX0_isDigit_0 13 rfl rfl)
theorem dX0_isDigit_16 : decode cX0_isDigit 16 = .ok (.iconst 0, 1) := dk_3 (dk_at dksX0_isDigit_0 16 rfl rfl)
theorem dX0_isDigit_17 : decode cX0_isDigit 17 = .ok (.ireturn, 1) := dk_172 (dk_at dksX0_isDigit_0 17 rfl rfl)
abbrev cX0_is : ByteArray := prog_1_method_1_code
def yX0_is : MethodName := ⟨RX0, "is", "(III)Z"⟩
def dkwX0_is_0 : List UInt8 := [26, 27, 161, 0, 12, 26, 28, 163, 0, 7, 4, 167, 0, 4, 3, 172]
abbrev dktX0_is_0 : List UInt8 := dkwX0_is_0 ++ []
theorem dksX0_is_0 : cX0_is.data.toList.drop 0 = dktX0_is_0 := by decide +kernel
theorem dX0_is_0 : decode cX0_is 0 = .ok (.iload_n 0, 1) := dk_26 (dk_at dksX0_is_0 0 rfl rfl)
theorem dX0_is_1 : decode cX0_is 1 = .ok (.iload_n 1, 1) := dk_27 (dk_at dksX0_is_0 1 rfl rfl)
theorem dX0_is_2 : decode cX0_is 2 = .ok (.if_icmp .lt 12, 3) := dk_161 0 12 (dk_at dksX0_is_0 2 rfl rfl)
theorem dX0_is_5 : decode cX0_is 5 = .ok (.iload_n 0, 1) := dk_26 (dk_at dksX0_is_0 5 rfl rfl)
theorem dX0_is_6 : decode cX0_is 6 = .ok (.iload_n 2, 1) := dk_28 (dk_at dksX0_is_0 6 rfl rfl)
theorem dX0_is_7 : decode cX0_is 7 = .ok (.if_icmp .gt 7, 3) := dk_163 0 7 (dk_at dksX0_is_0 7 rfl rfl)
theorem dX0_is_10 : decode cX0_is 10 = .ok (.iconst 1, 1) := dk_4 (dk_at dksX0_is_0 10 rfl rfl)
theorem dX0_is_11 : decode cX0_is 11 = .ok (.goto 4, 3) := dk_167 0 4 (dk_at dksX0_is_0 11 rfl rfl)
theorem dX0_is_14 : decode cX0_is 14 = .ok (.iconst 0, 1) := dk_3 (dk_at dksX0_is_0 14 rfl rfl)
theorem dX0_is_15 : decode cX0_is 15 = .ok (.ireturn, 1) := dk_172 (dk_at dksX0_is_0 15 rfl rfl)
abbrev cX0_find : ByteArray := prog_1_method_6_code
def yX0_find : MethodName := ⟨RX0, "find", "(Ljava/lang/String;[Ljava/lang/String;)I"⟩
def dkwX0_find_1 : List UInt8 := [167, 255, 235, 2, 172]
abbrev dktX0_find_1 : List UInt8 := dkwX0_find_1 ++ []
def dkwX0_find_0 : List UInt8 := [3, 61, 28, 43, 190, 162, 0, 21, 43, 28, 50, 42, 182, 0, 16, 153, 0, 5, 28, 172, 132, 2, 1]
abbrev dktX0_find_0 : List UInt8 := dkwX0_find_0 ++ dktX0_find_1
theorem dksX0_find_0 : cX0_find.data.toList.drop 0 = dktX0_find_0 := by decide +kernel
theorem dksX0_find_1 : cX0_find.data.toList.drop 23 = dktX0_find_1 := dk_seg dksX0_find_0 23 rfl rfl
theorem dX0_find_0 : decode cX0_find 0 = .ok (.iconst 0, 1) := dk_3 (dk_at dksX0_find_0 0 rfl rfl)
theorem dX0_find_1 : decode cX0_find 1 = .ok (.istore_n 2, 1) := dk_61 (dk_at dksX0_find_0 1 rfl rfl)
theorem dX0_find_2 : decode cX0_find 2 = .ok (.iload_n 2, 1) := dk_28 (dk_at dksX0_find_0 2 rfl rfl)
theorem dX0_find_3 : decode cX0_find 3 = .ok (.aload_n 1, 1) := dk_43 (dk_at dksX0_find_0 3 rfl rfl)
theorem dX0_find_4 : decode cX0_find 4 = .ok (.arraylength, 1) := dk_190 (dk_at dksX0_find_0 4 rfl rfl)
theorem dX0_find_5 : decode cX0_find 5 = .ok (.if_icmp .ge 21, 3) := dk_162 0 21 (dk_at dksX0_find_0 5 rfl rfl)
theorem dX0_find_8 : decode cX0_find 8 = .ok (.aload_n 1, 1) := dk_43 (dk_at dksX0_find_0 8 rfl rfl)
theorem dX0_find_9 : decode cX0_find 9 = .ok (.iload_n 2, 1) := dk_28 (dk_at dksX0_find_0 9 rfl rfl)
theorem dX0_find_10 : decode cX0_find 10 = .ok (.aaload, 1) := dk_50 (dk_at dksX0_find_0 10 rfl rfl)
theorem dX0_find_11 : decode cX0_find 11 = .ok (.aload_n 0, 1) := dk_42 (dk_at dksX0_find_0 11 rfl rfl)
theorem dX0_find_12 : decode cX0_find 12 = .ok (.invokevirtual 16, 3) := dk_182 0 16 (dk_at dksX0_find_0 12 rfl rfl)
theorem dX0_find_15 : decode cX0_find 15 = .ok (.ifCond .eq 5, 3) := dk_153 0 5 (dk_at dksX0_find_0 15 rfl rfl)
theorem dX0_find_18 : decode cX0_find 18 = .ok (.iload_n 2, 1) := dk_28 (dk_at dksX0_find_0 18 rfl rfl)
theorem dX0_find_19 : decode cX0_find 19 = .ok (.ireturn, 1) := dk_172 (dk_at dksX0_find_0 19 rfl rfl)
theorem dX0_find_20 : decode cX0_find 20 = .ok (.iinc 2 1, 3) := dk_132 2 1 (dk_at dksX0_find_0 20 rfl rfl)
theorem dX0_find_23 : decode cX0_find 23 = .ok (.goto (-21), 3) := dk_167 255 235 (dk_at dksX0_find_1 0 rfl rfl)
theorem dX0_find_26 : decode cX0_find 26 = .ok (.iconst (-1), 1) := dk_2 (dk_at dksX0_find_1 3 rfl rfl)
theorem dX0_find_27 : decode cX0_find 27 = .ok (.ireturn, 1) := dk_172 (dk_at dksX0_find_1 4 rfl rfl)
abbrev cX0_has : ByteArray := prog_1_method_2_code
def yX0_has : MethodName := ⟨RX0, "has", "(II)Z"⟩
def dkwX0_has_0 : List UInt8 := [26, 27, 122, 4, 126, 4, 160, 0, 7, 4, 167, 0, 4, 3, 172]
abbrev dktX0_has_0 : List UInt8 := dkwX0_has_0 ++ []
theorem dksX0_has_0 : cX0_has.data.toList.drop 0 = dktX0_has_0 := by decide +kernel
theorem dX0_has_0 : decode cX0_has 0 = .ok (.iload_n 0, 1) := dk_26 (dk_at dksX0_has_0 0 rfl rfl)
theorem dX0_has_1 : decode cX0_has 1 = .ok (.iload_n 1, 1) := dk_27 (dk_at dksX0_has_0 1 rfl rfl)
theorem dX0_has_2 : decode cX0_has 2 = .ok (.ishr, 1) := dk_122 (dk_at dksX0_has_0 2 rfl rfl)
theorem dX0_has_3 : decode cX0_has 3 = .ok (.iconst 1, 1) := dk_4 (dk_at dksX0_has_0 3 rfl rfl)
theorem dX0_has_4 : decode cX0_has 4 = .ok (.iand, 1) := dk_126 (dk_at dksX0_has_0 4 rfl rfl)
theorem dX0_has_5 : decode cX0_has 5 = .ok (.iconst 1, 1) := dk_4 (dk_at dksX0_has_0 5 rfl rfl)
theorem dX0_has_6 : decode cX0_has 6 = .ok (.if_icmp .ne 7, 3) := dk_160 0 7 (dk_at dksX0_has_0 6 rfl rfl)
theorem dX0_has_9 : decode cX0_has 9 = .ok (.iconst 1, 1) := dk_4 (dk_at dksX0_has_0 9 rfl rfl)
theorem dX0_has_10 : decode cX0_has 10 = .ok (.goto 4, 3) := dk_167 0 4 (dk_at dksX0_has_0 10 rfl rfl)
theorem dX0_has_13 : decode cX0_has 13 = .ok (.iconst 0, 1) := dk_3 (dk_at dksX0_has_0 13 rfl rfl)
theorem dX0_has_14 : decode cX0_has 14 = .ok (.ireturn, 1) := dk_172 (dk_at dksX0_has_0 14 rfl rfl)
abbrev cX0_people : ByteArray := prog_1_method_16_code
def yX0_people : MethodName := ⟨RX0, "people", "()I"⟩
def dkwX0_people_0 : List UInt8 := [42, 180, 0, 31, 180, 0, 149, 185, 0, 153, 1, 0, 172]
abbrev dktX0_people_0 : List UInt8 := dkwX0_people_0 ++ []
theorem dksX0_people_0 : cX0_people.data.toList.drop 0 = dktX0_people_0 := by decide +kernel
theorem dX0_people_0 : decode cX0_people 0 = .ok (.aload_n 0, 1) := dk_42 (dk_at dksX0_people_0 0 rfl rfl)
theorem dX0_people_1 : decode cX0_people 1 = .ok (.getfield 31, 3) := dk_180 0 31 (dk_at dksX0_people_0 1 rfl rfl)
theorem dX0_people_4 : decode cX0_people 4 = .ok (.getfield 149, 3) := dk_180 0 149 (dk_at dksX0_people_0 4 rfl rfl)
theorem dX0_people_7 : decode cX0_people 7 = .ok (.invokeinterface 153 1, 5) := by decide +kernel
theorem dX0_people_12 : decode cX0_people 12 = .ok (.ireturn, 1) := dk_172 (dk_at dksX0_people_0 12 rfl rfl)
abbrev cX0_soulOf : ByteArray := prog_1_method_20_code
def yX0_soulOf : MethodName := ⟨RX0, "soulOf", "(I)LRetouched$Soul;"⟩
def dkwX0_soulOf_0 : List UInt8 := [42, 180, 0, 31, 180, 0, 149, 27, 185, 0, 165, 2, 0, 192, 0, 169, 176]
abbrev dktX0_soulOf_0 : List UInt8 := dkwX0_soulOf_0 ++ []
theorem dksX0_soulOf_0 : cX0_soulOf.data.toList.drop 0 = dktX0_soulOf_0 := by decide +kernel
theorem dX0_soulOf_0 : decode cX0_soulOf 0 = .ok (.aload_n 0, 1) := dk_42 (dk_at dksX0_soulOf_0 0 rfl rfl)
theorem dX0_soulOf_1 : decode cX0_soulOf 1 = .ok (.getfield 31, 3) := dk_180 0 31 (dk_at dksX0_soulOf_0 1 rfl rfl)
theorem dX0_soulOf_4 : decode cX0_soulOf 4 = .ok (.getfield 149, 3) := dk_180 0 149 (dk_at dksX0_soulOf_0 4 rfl rfl)
theorem dX0_soulOf_7 : decode cX0_soulOf 7 = .ok (.iload_n 1, 1) := dk_27 (dk_at dksX0_soulOf_0 7 rfl rfl)
theorem dX0_soulOf_8 : decode cX0_soulOf 8 = .ok (.invokeinterface 165 2, 5) := by decide +kernel
theorem dX0_soulOf_13 : decode cX0_soulOf 13 = .ok (.checkcast 169, 3) := dk_192 0 169 (dk_at dksX0_soulOf_0 13 rfl rfl)
theorem dX0_soulOf_16 : decode cX0_soulOf 16 = .ok (.areturn, 1) := dk_176 (dk_at dksX0_soulOf_0 16 rfl rfl)
abbrev cX0_fault : ByteArray := prog_1_method_14_code
def yX0_fault : MethodName := ⟨RX0, "fault", "(I)I"⟩
def dkwX0_fault_1 : List UInt8 := [172]
abbrev dktX0_fault_1 : List UInt8 := dkwX0_fault_1 ++ []
def dkwX0_fault_0 : List UInt8 := [27, 154, 0, 10, 42, 180, 0, 115, 167, 0, 16, 27, 4, 160, 0, 10, 42, 180, 0, 39, 167, 0, 4, 2]
abbrev dktX0_fault_0 : List UInt8 := dkwX0_fault_0 ++ dktX0_fault_1
theorem dksX0_fault_0 : cX0_fault.data.toList.drop 0 = dktX0_fault_0 := by decide +kernel
theorem dksX0_fault_1 : cX0_fault.data.toList.drop 24 = dktX0_fault_1 := dk_seg dksX0_fault_0 24 rfl rfl
theorem dX0_fault_0 : decode cX0_fault 0 = .ok (.iload_n 1, 1) := dk_27 (dk_at dksX0_fault_0 0 rfl rfl)
theorem dX0_fault_1 : decode cX0_fault 1 = .ok (.ifCond .ne 10, 3) := dk_154 0 10 (dk_at dksX0_fault_0 1 rfl rfl)
theorem dX0_fault_4 : decode cX0_fault 4 = .ok (.aload_n 0, 1) := dk_42 (dk_at dksX0_fault_0 4 rfl rfl)
theorem dX0_fault_5 : decode cX0_fault 5 = .ok (.getfield 115, 3) := dk_180 0 115 (dk_at dksX0_fault_0 5 rfl rfl)
theorem dX0_fault_8 : decode cX0_fault 8 = .ok (.goto 16, 3) := dk_167 0 16 (dk_at dksX0_fault_0 8 rfl rfl)
theorem dX0_fault_11 : decode cX0_fault 11 = .ok (.iload_n 1, 1) := dk_27 (dk_at dksX0_fault_0 11 rfl rfl)
theorem dX0_fault_12 : decode cX0_fault 12 = .ok (.iconst 1, 1) := dk_4 (dk_at dksX0_fault_0 12 rfl rfl)
theorem dX0_fault_13 : decode cX0_fault 13 = .ok (.if_icmp .ne 10, 3) := dk_160 0 10 (dk_at dksX0_fault_0 13 rfl rfl)
theorem dX0_fault_16 : decode cX0_fault 16 = .ok (.aload_n 0, 1) := dk_42 (dk_at dksX0_fault_0 16 rfl rfl)
theorem dX0_fault_17 : decode cX0_fault 17 = .ok (.getfield 39, 3) := dk_180 0 39 (dk_at dksX0_fault_0 17 rfl rfl)
theorem dX0_fault_20 : decode cX0_fault 20 = .ok (.goto 4, 3) := dk_167 0 4 (dk_at dksX0_fault_0 20 rfl rfl)
theorem dX0_fault_23 : decode cX0_fault 23 = .ok (.iconst (-1), 1) := dk_2 (dk_at dksX0_fault_0 23 rfl rfl)
theorem dX0_fault_24 : decode cX0_fault 24 = .ok (.ireturn, 1) := dk_172 (dk_at dksX0_fault_1 0 rfl rfl)
abbrev cX0_has_2 : ByteArray := prog_1_method_21_code
def yX0_has_2 : MethodName := ⟨RX0, "has", "(I)I"⟩
def dkwX0_has_2_8 : List UInt8 := [182, 0, 184, 172, 42, 180, 0, 69, 180, 0, 187, 172, 42, 180, 0, 140, 172, 42, 180, 0, 137, 172, 2, 172]
abbrev dktX0_has_2_8 : List UInt8 := dkwX0_has_2_8 ++ []
def dkwX0_has_2_7 : List UInt8 := [153, 0, 7, 4, 167, 0, 4, 3, 96, 61, 132, 3, 1, 167, 255, 223, 28, 172, 42, 180, 0, 69]
abbrev dktX0_has_2_7 : List UInt8 := dkwX0_has_2_7 ++ dktX0_has_2_8
def dkwX0_has_2_6 : List UInt8 := [28, 172, 3, 62, 29, 42, 180, 0, 31, 180, 0, 146, 162, 0, 28, 28, 42, 180, 0, 69, 29, 182, 0, 181]
abbrev dktX0_has_2_6 : List UInt8 := dkwX0_has_2_6 ++ dktX0_has_2_7
def dkwX0_has_2_5 : List UInt8 := [180, 0, 69, 180, 0, 177, 29, 51, 153, 0, 7, 4, 167, 0, 4, 3, 96, 61, 132, 3, 1, 167, 255, 225]
abbrev dktX0_has_2_5 : List UInt8 := dkwX0_has_2_5 ++ dktX0_has_2_6
def dkwX0_has_2_4 : List UInt8 := [3, 96, 61, 132, 3, 1, 167, 255, 225, 28, 172, 3, 62, 29, 42, 182, 0, 158, 162, 0, 29, 28, 42]
abbrev dktX0_has_2_4 : List UInt8 := dkwX0_has_2_4 ++ dktX0_has_2_5
def dkwX0_has_2_3 : List UInt8 := [42, 182, 0, 158, 162, 0, 29, 28, 42, 180, 0, 69, 180, 0, 174, 29, 46, 154, 0, 7, 4, 167, 0, 4]
abbrev dktX0_has_2_3 : List UInt8 := dkwX0_has_2_3 ++ dktX0_has_2_4
def dkwX0_has_2_2 : List UInt8 := [42, 180, 0, 31, 180, 0, 146, 172, 42, 182, 0, 158, 172, 42, 180, 0, 69, 180, 0, 171, 172, 3, 62, 29]
abbrev dktX0_has_2_2 : List UInt8 := dkwX0_has_2_2 ++ dktX0_has_2_3
def dkwX0_has_2_1 : List UInt8 := [170, 0, 0, 0, 216, 0, 0, 0, 0, 0, 0, 0, 9, 0, 0, 0, 53, 0, 0, 0, 61, 0, 0, 0, 66, 0, 0, 0, 74, 0, 0, 0, 112, 0, 0, 0, 150, 0, 0, 0, 190, 0, 0, 0, 198, 0, 0, 0, 206, 0, 0, 0, 211]
abbrev dktX0_has_2_1 : List UInt8 := dkwX0_has_2_1 ++ dktX0_has_2_2
def dkwX0_has_2_0 : List UInt8 := [3, 61, 27]
abbrev dktX0_has_2_0 : List UInt8 := dkwX0_has_2_0 ++ dktX0_has_2_1
theorem dksX0_has_2_0 : cX0_has_2.data.toList.drop 0 = dktX0_has_2_0 := by decide +kernel
theorem dksX0_has_2_1 : cX0_has_2.data.toList.drop 3 = dktX0_has_2_1 := dk_seg dksX0_has_2_0 3 rfl rfl
theorem dksX0_has_2_2 : cX0_has_2.data.toList.drop 56 = dktX0_has_2_2 := dk_seg dksX0_has_2_1 53 rfl rfl
theorem dksX0_has_2_3 : cX0_has_2.data.toList.drop 80 = dktX0_has_2_3 := dk_seg dksX0_has_2_2 24 rfl rfl
theorem dksX0_has_2_4 : cX0_has_2.data.toList.drop 104 = dktX0_has_2_4 := dk_seg dksX0_has_2_3 24 rfl rfl
theorem dksX0_has_2_5 : cX0_has_2.data.toList.drop 127 = dktX0_has_2_5 := dk_seg dksX0_has_2_4 23 rfl rfl
theorem dksX0_has_2_6 : cX0_has_2.data.toList.drop 151 = dktX0_has_2_6 := dk_seg dksX0_has_2_5 24 rfl rfl
theorem dksX0_has_2_7 : cX0_has_2.data.toList.drop 175 = dktX0_has_2_7 := dk_seg dksX0_has_2_6 24 rfl rfl
theorem dksX0_has_2_8 : cX0_has_2.data.toList.drop 197 = dktX0_has_2_8 := dk_seg dksX0_has_2_7 22 rfl rfl
theorem dX0_has_2_0 : decode cX0_has_2 0 = .ok (.iconst 0, 1) := dk_3 (dk_at dksX0_has_2_0 0 rfl rfl)
theorem dX0_has_2_1 : decode cX0_has_2 1 = .ok (.istore_n 2, 1) := dk_61 (dk_at dksX0_has_2_0 1 rfl rfl)
theorem dX0_has_2_2 : decode cX0_has_2 2 = .ok (.iload_n 1, 1) := dk_27 (dk_at dksX0_has_2_0 2 rfl rfl)
theorem dX0_has_2_3 : decode cX0_has_2 3 = .ok (.tableswitch 216 0 9 #[53, 61, 66, 74, 112, 150, 190, 198, 206, 211], 53) := by decide +kernel
theorem dX0_has_2_56 : decode cX0_has_2 56 = .ok (.aload_n 0, 1) := dk_42 (dk_at dksX0_has_2_2 0 rfl rfl)
theorem dX0_has_2_57 : decode cX0_has_2 57 = .ok (.getfield 31, 3) := dk_180 0 31 (dk_at dksX0_has_2_2 1 rfl rfl)
theorem dX0_has_2_60 : decode cX0_has_2 60 = .ok (.getfield 146, 3) := dk_180 0 146 (dk_at dksX0_has_2_2 4 rfl rfl)
theorem dX0_has_2_63 : decode cX0_has_2 63 = .ok (.ireturn, 1) := dk_172 (dk_at dksX0_has_2_2 7 rfl rfl)
theorem dX0_has_2_64 : decode cX0_has_2 64 = .ok (.aload_n 0, 1) := dk_42 (dk_at dksX0_has_2_2 8 rfl rfl)
theorem dX0_has_2_65 : decode cX0_has_2 65 = .ok (.invokevirtual 158, 3) := dk_182 0 158 (dk_at dksX0_has_2_2 9 rfl rfl)
theorem dX0_has_2_68 : decode cX0_has_2 68 = .ok (.ireturn, 1) := dk_172 (dk_at dksX0_has_2_2 12 rfl rfl)
theorem dX0_has_2_69 : decode cX0_has_2 69 = .ok (.aload_n 0, 1) := dk_42 (dk_at dksX0_has_2_2 13 rfl rfl)
theorem dX0_has_2_70 : decode cX0_has_2 70 = .ok (.getfield 69, 3) := dk_180 0 69 (dk_at dksX0_has_2_2 14 rfl rfl)
theorem dX0_has_2_73 : decode cX0_has_2 73 = .ok (.getfield 171, 3) := dk_180 0 171 (dk_at dksX0_has_2_2 17 rfl rfl)
theorem dX0_has_2_76 : decode cX0_has_2 76 = .ok (.ireturn, 1) := dk_172 (dk_at dksX0_has_2_2 20 rfl rfl)
theorem dX0_has_2_77 : decode cX0_has_2 77 = .ok (.iconst 0, 1) := dk_3 (dk_at dksX0_has_2_2 21 rfl rfl)
theorem dX0_has_2_78 : decode cX0_has_2 78 = .ok (.istore_n 3, 1) := dk_62 (dk_at dksX0_has_2_2 22 rfl rfl)
theorem dX0_has_2_79 : decode cX0_has_2 79 = .ok (.iload_n 3, 1) := dk_29 (dk_at dksX0_has_2_2 23 rfl rfl)
theorem dX0_has_2_80 : decode cX0_has_2 80 = .ok (.aload_n 0, 1) := dk_42 (dk_at dksX0_has_2_3 0 rfl rfl)
theorem dX0_has_2_81 : decode cX0_has_2 81 = .ok (.invokevirtual 158, 3) := dk_182 0 158 (dk_at dksX0_has_2_3 1 rfl rfl)
theorem dX0_has_2_84 : decode cX0_has_2 84 = .ok (.if_icmp .ge 29, 3) := dk_162 0 29 (dk_at dksX0_has_2_3 4 rfl rfl)
theorem dX0_has_2_87 : decode cX0_has_2 87 = .ok (.iload_n 2, 1) := dk_28 (dk_at dksX0_has_2_3 7 rfl rfl)
theorem dX0_has_2_88 : decode cX0_has_2 88 = .ok (.aload_n 0, 1) := dk_42 (dk_at dksX0_has_2_3 8 rfl rfl)
theorem dX0_has_2_89 : decode cX0_has_2 89 = .ok (.getfield 69, 3) := dk_180 0 69 (dk_at dksX0_has_2_3 9 rfl rfl)
theorem dX0_has_2_92 : decode cX0_has_2 92 = .ok (.getfield 174, 3) := dk_180 0 174 (dk_at dksX0_has_2_3 12 rfl rfl)
theorem dX0_has_2_95 : decode cX0_has_2 95 = .ok (.iload_n 3, 1) := dk_29 (dk_at dksX0_has_2_3 15 rfl rfl)
theorem dX0_has_2_96 : decode cX0_has_2 96 = .ok (.iaload, 1) := dk_46 (dk_at dksX0_has_2_3 16 rfl rfl)
theorem dX0_has_2_97 : decode cX0_has_2 97 = .ok (.ifCond .ne 7, 3) := dk_154 0 7 (dk_at dksX0_has_2_3 17 rfl rfl)
theorem dX0_has_2_100 : decode cX0_has_2 100 = .ok (.iconst 1, 1) := dk_4 (dk_at dksX0_has_2_3 20 rfl rfl)
theorem dX0_has_2_101 : decode cX0_has_2 101 = .ok (.goto 4, 3) := dk_167 0 4 (dk_at dksX0_has_2_3 21 rfl rfl)
theorem dX0_has_2_104 : decode cX0_has_2 104 = .ok (.iconst 0, 1) := dk_3 (dk_at dksX0_has_2_4 0 rfl rfl)
theorem dX0_has_2_105 : decode cX0_has_2 105 = .ok (.iadd, 1) := dk_96 (dk_at dksX0_has_2_4 1 rfl rfl)
theorem dX0_has_2_106 : decode cX0_has_2 106 = .ok (.istore_n 2, 1) := dk_61 (dk_at dksX0_has_2_4 2 rfl rfl)
theorem dX0_has_2_107 : decode cX0_has_2 107 = .ok (.iinc 3 1, 3) := dk_132 3 1 (dk_at dksX0_has_2_4 3 rfl rfl)
theorem dX0_has_2_110 : decode cX0_has_2 110 = .ok (.goto (-31), 3) := dk_167 255 225 (dk_at dksX0_has_2_4 6 rfl rfl)
theorem dX0_has_2_113 : decode cX0_has_2 113 = .ok (.iload_n 2, 1) := dk_28 (dk_at dksX0_has_2_4 9 rfl rfl)
theorem dX0_has_2_114 : decode cX0_has_2 114 = .ok (.ireturn, 1) := dk_172 (dk_at dksX0_has_2_4 10 rfl rfl)
theorem dX0_has_2_115 : decode cX0_has_2 115 = .ok (.iconst 0, 1) := dk_3 (dk_at dksX0_has_2_4 11 rfl rfl)
theorem dX0_has_2_116 : decode cX0_has_2 116 = .ok (.istore_n 3, 1) := dk_62 (dk_at dksX0_has_2_4 12 rfl rfl)
theorem dX0_has_2_117 : decode cX0_has_2 117 = .ok (.iload_n 3, 1) := dk_29 (dk_at dksX0_has_2_4 13 rfl rfl)
theorem dX0_has_2_118 : decode cX0_has_2 118 = .ok (.aload_n 0, 1) := dk_42 (dk_at dksX0_has_2_4 14 rfl rfl)
theorem dX0_has_2_119 : decode cX0_has_2 119 = .ok (.invokevirtual 158, 3) := dk_182 0 158 (dk_at dksX0_has_2_4 15 rfl rfl)
theorem dX0_has_2_122 : decode cX0_has_2 122 = .ok (.if_icmp .ge 29, 3) := dk_162 0 29 (dk_at dksX0_has_2_4 18 rfl rfl)
theorem dX0_has_2_125 : decode cX0_has_2 125 = .ok (.iload_n 2, 1) := dk_28 (dk_at dksX0_has_2_4 21 rfl rfl)
theorem dX0_has_2_126 : decode cX0_has_2 126 = .ok (.aload_n 0, 1) := dk_42 (dk_at dksX0_has_2_4 22 rfl rfl)
theorem dX0_has_2_127 : decode cX0_has_2 127 = .ok (.getfield 69, 3) := dk_180 0 69 (dk_at dksX0_has_2_5 0 rfl rfl)
theorem dX0_has_2_130 : decode cX0_has_2 130 = .ok (.getfield 177, 3) := dk_180 0 177 (dk_at dksX0_has_2_5 3 rfl rfl)
theorem dX0_has_2_133 : decode cX0_has_2 133 = .ok (.iload_n 3, 1) := dk_29 (dk_at dksX0_has_2_5 6 rfl rfl)
theorem dX0_has_2_134 : decode cX0_has_2 134 = .ok (.baload, 1) := dk_51 (dk_at dksX0_has_2_5 7 rfl rfl)
theorem dX0_has_2_135 : decode cX0_has_2 135 = .ok (.ifCond .eq 7, 3) := dk_153 0 7 (dk_at dksX0_has_2_5 8 rfl rfl)
theorem dX0_has_2_138 : decode cX0_has_2 138 = .ok (.iconst 1, 1) := dk_4 (dk_at dksX0_has_2_5 11 rfl rfl)
theorem dX0_has_2_139 : decode cX0_has_2 139 = .ok (.goto 4, 3) := dk_167 0 4 (dk_at dksX0_has_2_5 12 rfl rfl)
theorem dX0_has_2_142 : decode cX0_has_2 142 = .ok (.iconst 0, 1) := dk_3 (dk_at dksX0_has_2_5 15 rfl rfl)
theorem dX0_has_2_143 : decode cX0_has_2 143 = .ok (.iadd, 1) := dk_96 (dk_at dksX0_has_2_5 16 rfl rfl)
theorem dX0_has_2_144 : decode cX0_has_2 144 = .ok (.istore_n 2, 1) := dk_61 (dk_at dksX0_has_2_5 17 rfl rfl)
theorem dX0_has_2_145 : decode cX0_has_2 145 = .ok (.iinc 3 1, 3) := dk_132 3 1 (dk_at dksX0_has_2_5 18 rfl rfl)
theorem dX0_has_2_148 : decode cX0_has_2 148 = .ok (.goto (-31), 3) := dk_167 255 225 (dk_at dksX0_has_2_5 21 rfl rfl)
theorem dX0_has_2_151 : decode cX0_has_2 151 = .ok (.iload_n 2, 1) := dk_28 (dk_at dksX0_has_2_6 0 rfl rfl)
theorem dX0_has_2_152 : decode cX0_has_2 152 = .ok (.ireturn, 1) := dk_172 (dk_at dksX0_has_2_6 1 rfl rfl)
theorem dX0_has_2_153 : decode cX0_has_2 153 = .ok (.iconst 0, 1) := dk_3 (dk_at dksX0_has_2_6 2 rfl rfl)
theorem dX0_has_2_154 : decode cX0_has_2 154 = .ok (.istore_n 3, 1) := dk_62 (dk_at dksX0_has_2_6 3 rfl rfl)
theorem dX0_has_2_155 : decode cX0_has_2 155 = .ok (.iload_n 3, 1) := dk_29 (dk_at dksX0_has_2_6 4 rfl rfl)
theorem dX0_has_2_156 : decode cX0_has_2 156 = .ok (.aload_n 0, 1) := dk_42 (dk_at dksX0_has_2_6 5 rfl rfl)
theorem dX0_has_2_157 : decode cX0_has_2 157 = .ok (.getfield 31, 3) := dk_180 0 31 (dk_at dksX0_has_2_6 6 rfl rfl)
theorem dX0_has_2_160 : decode cX0_has_2 160 = .ok (.getfield 146, 3) := dk_180 0 146 (dk_at dksX0_has_2_6 9 rfl rfl)
theorem dX0_has_2_163 : decode cX0_has_2 163 = .ok (.if_icmp .ge 28, 3) := dk_162 0 28 (dk_at dksX0_has_2_6 12 rfl rfl)
theorem dX0_has_2_166 : decode cX0_has_2 166 = .ok (.iload_n 2, 1) := dk_28 (dk_at dksX0_has_2_6 15 rfl rfl)
theorem dX0_has_2_167 : decode cX0_has_2 167 = .ok (.aload_n 0, 1) := dk_42 (dk_at dksX0_has_2_6 16 rfl rfl)
theorem dX0_has_2_168 : decode cX0_has_2 168 = .ok (.getfield 69, 3) := dk_180 0 69 (dk_at dksX0_has_2_6 17 rfl rfl)
theorem dX0_has_2_171 : decode cX0_has_2 171 = .ok (.iload_n 3, 1) := dk_29 (dk_at dksX0_has_2_6 20 rfl rfl)
theorem dX0_has_2_172 : decode cX0_has_2 172 = .ok (.invokevirtual 181, 3) := dk_182 0 181 (dk_at dksX0_has_2_6 21 rfl rfl)
theorem dX0_has_2_175 : decode cX0_has_2 175 = .ok (.ifCond .eq 7, 3) := dk_153 0 7 (dk_at dksX0_has_2_7 0 rfl rfl)
theorem dX0_has_2_178 : decode cX0_has_2 178 = .ok (.iconst 1, 1) := dk_4 (dk_at dksX0_has_2_7 3 rfl rfl)
theorem dX0_has_2_179 : decode cX0_has_2 179 = .ok (.goto 4, 3) := dk_167 0 4 (dk_at dksX0_has_2_7 4 rfl rfl)
theorem dX0_has_2_182 : decode cX0_has_2 182 = .ok (.iconst 0, 1) := dk_3 (dk_at dksX0_has_2_7 7 rfl rfl)
theorem dX0_has_2_183 : decode cX0_has_2 183 = .ok (.iadd, 1) := dk_96 (dk_at dksX0_has_2_7 8 rfl rfl)
theorem dX0_has_2_184 : decode cX0_has_2 184 = .ok (.istore_n 2, 1) := dk_61 (dk_at dksX0_has_2_7 9 rfl rfl)
theorem dX0_has_2_185 : decode cX0_has_2 185 = .ok (.iinc 3 1, 3) := dk_132 3 1 (dk_at dksX0_has_2_7 10 rfl rfl)
theorem dX0_has_2_188 : decode cX0_has_2 188 = .ok (.goto (-33), 3) := dk_167 255 223 (dk_at dksX0_has_2_7 13 rfl rfl)
theorem dX0_has_2_191 : decode cX0_has_2 191 = .ok (.iload_n 2, 1) := dk_28 (dk_at dksX0_has_2_7 16 rfl rfl)
theorem dX0_has_2_192 : decode cX0_has_2 192 = .ok (.ireturn, 1) := dk_172 (dk_at dksX0_has_2_7 17 rfl rfl)
theorem dX0_has_2_193 : decode cX0_has_2 193 = .ok (.aload_n 0, 1) := dk_42 (dk_at dksX0_has_2_7 18 rfl rfl)
theorem dX0_has_2_194 : decode cX0_has_2 194 = .ok (.getfield 69, 3) := dk_180 0 69 (dk_at dksX0_has_2_7 19 rfl rfl)
theorem dX0_has_2_197 : decode cX0_has_2 197 = .ok (.invokevirtual 184, 3) := dk_182 0 184 (dk_at dksX0_has_2_8 0 rfl rfl)
theorem dX0_has_2_200 : decode cX0_has_2 200 = .ok (.ireturn, 1) := dk_172 (dk_at dksX0_has_2_8 3 rfl rfl)
theorem dX0_has_2_201 : decode cX0_has_2 201 = .ok (.aload_n 0, 1) := dk_42 (dk_at dksX0_has_2_8 4 rfl rfl)
theorem dX0_has_2_202 : decode cX0_has_2 202 = .ok (.getfield 69, 3) := dk_180 0 69 (dk_at dksX0_has_2_8 5 rfl rfl)
theorem dX0_has_2_205 : decode cX0_has_2 205 = .ok (.getfield 187, 3) := dk_180 0 187 (dk_at dksX0_has_2_8 8 rfl rfl)
theorem dX0_has_2_208 : decode cX0_has_2 208 = .ok (.ireturn, 1) := dk_172 (dk_at dksX0_has_2_8 11 rfl rfl)
theorem dX0_has_2_209 : decode cX0_has_2 209 = .ok (.aload_n 0, 1) := dk_42 (dk_at dksX0_has_2_8 12 rfl rfl)
theorem dX0_has_2_210 : decode cX0_has_2 210 = .ok (.getfield 140, 3) := dk_180 0 140 (dk_at dksX0_has_2_8 13 rfl rfl)
theorem dX0_has_2_213 : decode cX0_has_2 213 = .ok (.ireturn, 1) := dk_172 (dk_at dksX0_has_2_8 16 rfl rfl)
theorem dX0_has_2_214 : decode cX0_has_2 214 = .ok (.aload_n 0, 1) := dk_42 (dk_at dksX0_has_2_8 17 rfl rfl)
theorem dX0_has_2_215 : decode cX0_has_2 215 = .ok (.getfield 137, 3) := dk_180 0 137 (dk_at dksX0_has_2_8 18 rfl rfl)
theorem dX0_has_2_218 : decode cX0_has_2 218 = .ok (.ireturn, 1) := dk_172 (dk_at dksX0_has_2_8 21 rfl rfl)
theorem dX0_has_2_219 : decode cX0_has_2 219 = .ok (.iconst (-1), 1) := dk_2 (dk_at dksX0_has_2_8 22 rfl rfl)
theorem dX0_has_2_220 : decode cX0_has_2 220 = .ok (.ireturn, 1) := dk_172 (dk_at dksX0_has_2_8 23 rfl rfl)
abbrev cX0_held : ByteArray := prog_1_method_3_code
def yX0_held : MethodName := ⟨RX0, "held", "(J)J"⟩
def dkwX0_held_0 : List UInt8 := [20, 0, 3, 20, 0, 5, 30, 184, 0, 7, 184, 0, 13, 173]
abbrev dktX0_held_0 : List UInt8 := dkwX0_held_0 ++ []
theorem dksX0_held_0 : cX0_held.data.toList.drop 0 = dktX0_held_0 := by decide +kernel
theorem dX0_held_0 : decode cX0_held 0 = .ok (.ldc2_w 3, 3) := dk_20 0 3 (dk_at dksX0_held_0 0 rfl rfl)
theorem dX0_held_3 : decode cX0_held 3 = .ok (.ldc2_w 5, 3) := dk_20 0 5 (dk_at dksX0_held_0 3 rfl rfl)
theorem dX0_held_6 : decode cX0_held 6 = .ok (.lload_n 0, 1) := dk_30 (dk_at dksX0_held_0 6 rfl rfl)
theorem dX0_held_7 : decode cX0_held 7 = .ok (.invokestatic 7, 3) := dk_184 0 7 (dk_at dksX0_held_0 7 rfl rfl)
theorem dX0_held_10 : decode cX0_held 10 = .ok (.invokestatic 13, 3) := dk_184 0 13 (dk_at dksX0_held_0 10 rfl rfl)
theorem dX0_held_13 : decode cX0_held 13 = .ok (.lreturn, 1) := dk_173 (dk_at dksX0_held_0 13 rfl rfl)
abbrev cX0_looked : ByteArray := prog_1_method_55_code
def yX0_looked : MethodName := ⟨RX0, "looked", "(IJ)J"⟩
def dkwX0_looked_2 : List UInt8 := [133, 167, 0, 19, 42, 180, 0, 69, 180, 0, 223, 32, 136, 50, 42, 180, 1, 47, 46, 133, 173]
abbrev dktX0_looked_2 : List UInt8 := dkwX0_looked_2 ++ []
def dkwX0_looked_1 : List UInt8 := [154, 0, 5, 9, 173, 27, 154, 0, 22, 42, 180, 0, 69, 180, 0, 223, 42, 180, 1, 47, 50, 32, 136, 46]
abbrev dktX0_looked_1 : List UInt8 := dkwX0_looked_1 ++ dktX0_looked_2
def dkwX0_looked_0 : List UInt8 := [32, 9, 148, 155, 0, 23, 32, 42, 182, 0, 158, 133, 148, 156, 0, 13, 32, 42, 180, 1, 47, 133, 148]
abbrev dktX0_looked_0 : List UInt8 := dkwX0_looked_0 ++ dktX0_looked_1
theorem dksX0_looked_0 : cX0_looked.data.toList.drop 0 = dktX0_looked_0 := by decide +kernel
theorem dksX0_looked_1 : cX0_looked.data.toList.drop 23 = dktX0_looked_1 := dk_seg dksX0_looked_0 23 rfl rfl
theorem dksX0_looked_2 : cX0_looked.data.toList.drop 47 = dktX0_looked_2 := dk_seg dksX0_looked_1 24 rfl rfl
theorem dX0_looked_0 : decode cX0_looked 0 = .ok (.lload_n 2, 1) := dk_32 (dk_at dksX0_looked_0 0 rfl rfl)
theorem dX0_looked_1 : decode cX0_looked 1 = .ok (.lconst 0, 1) := dk_9 (dk_at dksX0_looked_0 1 rfl rfl)
theorem dX0_looked_2 : decode cX0_looked 2 = .ok (.lcmp, 1) := dk_148 (dk_at dksX0_looked_0 2 rfl rfl)
theorem dX0_looked_3 : decode cX0_looked 3 = .ok (.ifCond .lt 23, 3) := dk_155 0 23 (dk_at dksX0_looked_0 3 rfl rfl)
theorem dX0_looked_6 : decode cX0_looked 6 = .ok (.lload_n 2, 1) := dk_32 (dk_at dksX0_looked_0 6 rfl rfl)
theorem dX0_looked_7 : decode cX0_looked 7 = .ok (.aload_n 0, 1) := dk_42 (dk_at dksX0_looked_0 7 rfl rfl)
theorem dX0_looked_8 : decode cX0_looked 8 = .ok (.invokevirtual 158, 3) := dk_182 0 158 (dk_at dksX0_looked_0 8 rfl rfl)
theorem dX0_looked_11 : decode cX0_looked 11 = .ok (.i2l, 1) := dk_133 (dk_at dksX0_looked_0 11 rfl rfl)
theorem dX0_looked_12 : decode cX0_looked 12 = .ok (.lcmp, 1) := dk_148 (dk_at dksX0_looked_0 12 rfl rfl)
theorem dX0_looked_13 : decode cX0_looked 13 = .ok (.ifCond .ge 13, 3) := dk_156 0 13 (dk_at dksX0_looked_0 13 rfl rfl)
theorem dX0_looked_16 : decode cX0_looked 16 = .ok (.lload_n 2, 1) := dk_32 (dk_at dksX0_looked_0 16 rfl rfl)
theorem dX0_looked_17 : decode cX0_looked 17 = .ok (.aload_n 0, 1) := dk_42 (dk_at dksX0_looked_0 17 rfl rfl)
theorem dX0_looked_18 : decode cX0_looked 18 = .ok (.getfield 303, 3) := dk_180 1 47 (dk_at dksX0_looked_0 18 rfl rfl)
theorem dX0_looked_21 : decode cX0_looked 21 = .ok (.i2l, 1) := dk_133 (dk_at dksX0_looked_0 21 rfl rfl)
theorem dX0_looked_22 : decode cX0_looked 22 = .ok (.lcmp, 1) := dk_148 (dk_at dksX0_looked_0 22 rfl rfl)
theorem dX0_looked_23 : decode cX0_looked 23 = .ok (.ifCond .ne 5, 3) := dk_154 0 5 (dk_at dksX0_looked_1 0 rfl rfl)
theorem dX0_looked_26 : decode cX0_looked 26 = .ok (.lconst 0, 1) := dk_9 (dk_at dksX0_looked_1 3 rfl rfl)
theorem dX0_looked_27 : decode cX0_looked 27 = .ok (.lreturn, 1) := dk_173 (dk_at dksX0_looked_1 4 rfl rfl)
theorem dX0_looked_28 : decode cX0_looked 28 = .ok (.iload_n 1, 1) := dk_27 (dk_at dksX0_looked_1 5 rfl rfl)
theorem dX0_looked_29 : decode cX0_looked 29 = .ok (.ifCond .ne 22, 3) := dk_154 0 22 (dk_at dksX0_looked_1 6 rfl rfl)
theorem dX0_looked_32 : decode cX0_looked 32 = .ok (.aload_n 0, 1) := dk_42 (dk_at dksX0_looked_1 9 rfl rfl)
theorem dX0_looked_33 : decode cX0_looked 33 = .ok (.getfield 69, 3) := dk_180 0 69 (dk_at dksX0_looked_1 10 rfl rfl)
theorem dX0_looked_36 : decode cX0_looked 36 = .ok (.getfield 223, 3) := dk_180 0 223 (dk_at dksX0_looked_1 13 rfl rfl)
theorem dX0_looked_39 : decode cX0_looked 39 = .ok (.aload_n 0, 1) := dk_42 (dk_at dksX0_looked_1 16 rfl rfl)
theorem dX0_looked_40 : decode cX0_looked 40 = .ok (.getfield 303, 3) := dk_180 1 47 (dk_at dksX0_looked_1 17 rfl rfl)
theorem dX0_looked_43 : decode cX0_looked 43 = .ok (.aaload, 1) := dk_50 (dk_at dksX0_looked_1 20 rfl rfl)
theorem dX0_looked_44 : decode cX0_looked 44 = .ok (.lload_n 2, 1) := dk_32 (dk_at dksX0_looked_1 21 rfl rfl)
theorem dX0_looked_45 : decode cX0_looked 45 = .ok (.l2i, 1) := dk_136 (dk_at dksX0_looked_1 22 rfl rfl)
theorem dX0_looked_46 : decode cX0_looked 46 = .ok (.iaload, 1) := dk_46 (dk_at dksX0_looked_1 23 rfl rfl)
theorem dX0_looked_47 : decode cX0_looked 47 = .ok (.i2l, 1) := dk_133 (dk_at dksX0_looked_2 0 rfl rfl)
theorem dX0_looked_48 : decode cX0_looked 48 = .ok (.goto 19, 3) := dk_167 0 19 (dk_at dksX0_looked_2 1 rfl rfl)
theorem dX0_looked_51 : decode cX0_looked 51 = .ok (.aload_n 0, 1) := dk_42 (dk_at dksX0_looked_2 4 rfl rfl)
theorem dX0_looked_52 : decode cX0_looked 52 = .ok (.getfield 69, 3) := dk_180 0 69 (dk_at dksX0_looked_2 5 rfl rfl)
theorem dX0_looked_55 : decode cX0_looked 55 = .ok (.getfield 223, 3) := dk_180 0 223 (dk_at dksX0_looked_2 8 rfl rfl)
theorem dX0_looked_58 : decode cX0_looked 58 = .ok (.lload_n 2, 1) := dk_32 (dk_at dksX0_looked_2 11 rfl rfl)
theorem dX0_looked_59 : decode cX0_looked 59 = .ok (.l2i, 1) := dk_136 (dk_at dksX0_looked_2 12 rfl rfl)
theorem dX0_looked_60 : decode cX0_looked 60 = .ok (.aaload, 1) := dk_50 (dk_at dksX0_looked_2 13 rfl rfl)
theorem dX0_looked_61 : decode cX0_looked 61 = .ok (.aload_n 0, 1) := dk_42 (dk_at dksX0_looked_2 14 rfl rfl)
theorem dX0_looked_62 : decode cX0_looked 62 = .ok (.getfield 303, 3) := dk_180 1 47 (dk_at dksX0_looked_2 15 rfl rfl)
theorem dX0_looked_65 : decode cX0_looked 65 = .ok (.iaload, 1) := dk_46 (dk_at dksX0_looked_2 18 rfl rfl)
theorem dX0_looked_66 : decode cX0_looked 66 = .ok (.i2l, 1) := dk_133 (dk_at dksX0_looked_2 19 rfl rfl)
theorem dX0_looked_67 : decode cX0_looked 67 = .ok (.lreturn, 1) := dk_173 (dk_at dksX0_looked_2 20 rfl rfl)
abbrev cX0_letter : ByteArray := prog_1_method_22_code
def yX0_letter : MethodName := ⟨RX0, "letter", "(II)I"⟩
def dkwX0_letter_1 : List UInt8 := [182, 0, 198, 167, 0, 4, 2, 172]
abbrev dktX0_letter_1 : List UInt8 := dkwX0_letter_1 ++ []
def dkwX0_letter_0 : List UInt8 := [42, 27, 182, 0, 161, 153, 0, 24, 28, 3, 8, 184, 0, 190, 153, 0, 15, 42, 27, 182, 0, 194, 28]
abbrev dktX0_letter_0 : List UInt8 := dkwX0_letter_0 ++ dktX0_letter_1
theorem dksX0_letter_0 : cX0_letter.data.toList.drop 0 = dktX0_letter_0 := by decide +kernel
theorem dksX0_letter_1 : cX0_letter.data.toList.drop 23 = dktX0_letter_1 := dk_seg dksX0_letter_0 23 rfl rfl
theorem dX0_letter_0 : decode cX0_letter 0 = .ok (.aload_n 0, 1) := dk_42 (dk_at dksX0_letter_0 0 rfl rfl)
theorem dX0_letter_1 : decode cX0_letter 1 = .ok (.iload_n 1, 1) := dk_27 (dk_at dksX0_letter_0 1 rfl rfl)
theorem dX0_letter_2 : decode cX0_letter 2 = .ok (.invokevirtual 161, 3) := dk_182 0 161 (dk_at dksX0_letter_0 2 rfl rfl)
theorem dX0_letter_5 : decode cX0_letter 5 = .ok (.ifCond .eq 24, 3) := dk_153 0 24 (dk_at dksX0_letter_0 5 rfl rfl)
theorem dX0_letter_8 : decode cX0_letter 8 = .ok (.iload_n 2, 1) := dk_28 (dk_at dksX0_letter_0 8 rfl rfl)
theorem dX0_letter_9 : decode cX0_letter 9 = .ok (.iconst 0, 1) := dk_3 (dk_at dksX0_letter_0 9 rfl rfl)
theorem dX0_letter_10 : decode cX0_letter 10 = .ok (.iconst 5, 1) := dk_8 (dk_at dksX0_letter_0 10 rfl rfl)
theorem dX0_letter_11 : decode cX0_letter 11 = .ok (.invokestatic 190, 3) := dk_184 0 190 (dk_at dksX0_letter_0 11 rfl rfl)
theorem dX0_letter_14 : decode cX0_letter 14 = .ok (.ifCond .eq 15, 3) := dk_153 0 15 (dk_at dksX0_letter_0 14 rfl rfl)
theorem dX0_letter_17 : decode cX0_letter 17 = .ok (.aload_n 0, 1) := dk_42 (dk_at dksX0_letter_0 17 rfl rfl)
theorem dX0_letter_18 : decode cX0_letter 18 = .ok (.iload_n 1, 1) := dk_27 (dk_at dksX0_letter_0 18 rfl rfl)
theorem dX0_letter_19 : decode cX0_letter 19 = .ok (.invokevirtual 194, 3) := dk_182 0 194 (dk_at dksX0_letter_0 19 rfl rfl)
theorem dX0_letter_22 : decode cX0_letter 22 = .ok (.iload_n 2, 1) := dk_28 (dk_at dksX0_letter_0 22 rfl rfl)
theorem dX0_letter_23 : decode cX0_letter 23 = .ok (.invokevirtual 198, 3) := dk_182 0 198 (dk_at dksX0_letter_1 0 rfl rfl)
theorem dX0_letter_26 : decode cX0_letter 26 = .ok (.goto 4, 3) := dk_167 0 4 (dk_at dksX0_letter_1 3 rfl rfl)
theorem dX0_letter_29 : decode cX0_letter 29 = .ok (.iconst (-1), 1) := dk_2 (dk_at dksX0_letter_1 6 rfl rfl)
theorem dX0_letter_30 : decode cX0_letter 30 = .ok (.ireturn, 1) := dk_172 (dk_at dksX0_letter_1 7 rfl rfl)
abbrev cX0_isPerson : ByteArray := prog_1_method_17_code
def yX0_isPerson : MethodName := ⟨RX0, "isPerson", "(I)Z"⟩
def dkwX0_isPerson_0 : List UInt8 := [27, 155, 0, 15, 27, 42, 182, 0, 158, 162, 0, 7, 4, 167, 0, 4, 3, 172]
abbrev dktX0_isPerson_0 : List UInt8 := dkwX0_isPerson_0 ++ []
theorem dksX0_isPerson_0 : cX0_isPerson.data.toList.drop 0 = dktX0_isPerson_0 := by decide +kernel
theorem dX0_isPerson_0 : decode cX0_isPerson 0 = .ok (.iload_n 1, 1) := dk_27 (dk_at dksX0_isPerson_0 0 rfl rfl)
theorem dX0_isPerson_1 : decode cX0_isPerson 1 = .ok (.ifCond .lt 15, 3) := dk_155 0 15 (dk_at dksX0_isPerson_0 1 rfl rfl)
theorem dX0_isPerson_4 : decode cX0_isPerson 4 = .ok (.iload_n 1, 1) := dk_27 (dk_at dksX0_isPerson_0 4 rfl rfl)
theorem dX0_isPerson_5 : decode cX0_isPerson 5 = .ok (.aload_n 0, 1) := dk_42 (dk_at dksX0_isPerson_0 5 rfl rfl)
theorem dX0_isPerson_6 : decode cX0_isPerson 6 = .ok (.invokevirtual 158, 3) := dk_182 0 158 (dk_at dksX0_isPerson_0 6 rfl rfl)
theorem dX0_isPerson_9 : decode cX0_isPerson 9 = .ok (.if_icmp .ge 7, 3) := dk_162 0 7 (dk_at dksX0_isPerson_0 9 rfl rfl)
theorem dX0_isPerson_12 : decode cX0_isPerson 12 = .ok (.iconst 1, 1) := dk_4 (dk_at dksX0_isPerson_0 12 rfl rfl)
theorem dX0_isPerson_13 : decode cX0_isPerson 13 = .ok (.goto 4, 3) := dk_167 0 4 (dk_at dksX0_isPerson_0 13 rfl rfl)
theorem dX0_isPerson_16 : decode cX0_isPerson 16 = .ok (.iconst 0, 1) := dk_3 (dk_at dksX0_isPerson_0 16 rfl rfl)
theorem dX0_isPerson_17 : decode cX0_isPerson 17 = .ok (.ireturn, 1) := dk_172 (dk_at dksX0_isPerson_0 17 rfl rfl)
abbrev cX0_house : ByteArray := prog_1_method_23_code
def yX0_house : MethodName := ⟨RX0, "house", "(I)I"⟩
def dkwX0_house_0 : List UInt8 := [42, 27, 182, 0, 201, 153, 0, 14, 42, 180, 0, 69, 27, 182, 0, 204, 167, 0, 4, 2, 172]
abbrev dktX0_house_0 : List UInt8 := dkwX0_house_0 ++ []
theorem dksX0_house_0 : cX0_house.data.toList.drop 0 = dktX0_house_0 := by decide +kernel
theorem dX0_house_0 : decode cX0_house 0 = .ok (.aload_n 0, 1) := dk_42 (dk_at dksX0_house_0 0 rfl rfl)
theorem dX0_house_1 : decode cX0_house 1 = .ok (.iload_n 1, 1) := dk_27 (dk_at dksX0_house_0 1 rfl rfl)
theorem dX0_house_2 : decode cX0_house 2 = .ok (.invokevirtual 201, 3) := dk_182 0 201 (dk_at dksX0_house_0 2 rfl rfl)
theorem dX0_house_5 : decode cX0_house 5 = .ok (.ifCond .eq 14, 3) := dk_153 0 14 (dk_at dksX0_house_0 5 rfl rfl)
theorem dX0_house_8 : decode cX0_house 8 = .ok (.aload_n 0, 1) := dk_42 (dk_at dksX0_house_0 8 rfl rfl)
theorem dX0_house_9 : decode cX0_house 9 = .ok (.getfield 69, 3) := dk_180 0 69 (dk_at dksX0_house_0 9 rfl rfl)
theorem dX0_house_12 : decode cX0_house 12 = .ok (.iload_n 1, 1) := dk_27 (dk_at dksX0_house_0 12 rfl rfl)
theorem dX0_house_13 : decode cX0_house 13 = .ok (.invokevirtual 204, 3) := dk_182 0 204 (dk_at dksX0_house_0 13 rfl rfl)
theorem dX0_house_16 : decode cX0_house 16 = .ok (.goto 4, 3) := dk_167 0 4 (dk_at dksX0_house_0 16 rfl rfl)
theorem dX0_house_19 : decode cX0_house 19 = .ok (.iconst (-1), 1) := dk_2 (dk_at dksX0_house_0 19 rfl rfl)
theorem dX0_house_20 : decode cX0_house 20 = .ok (.ireturn, 1) := dk_172 (dk_at dksX0_house_0 20 rfl rfl)
abbrev cX0_isHouse : ByteArray := prog_1_method_18_code
def yX0_isHouse : MethodName := ⟨RX0, "isHouse", "(I)Z"⟩
def dkwX0_isHouse_0 : List UInt8 := [27, 155, 0, 18, 27, 42, 180, 0, 31, 180, 0, 146, 162, 0, 7, 4, 167, 0, 4, 3, 172]
abbrev dktX0_isHouse_0 : List UInt8 := dkwX0_isHouse_0 ++ []
theorem dksX0_isHouse_0 : cX0_isHouse.data.toList.drop 0 = dktX0_isHouse_0 := by decide +kernel
theorem dX0_isHouse_0 : decode cX0_isHouse 0 = .ok (.iload_n 1, 1) := dk_27 (dk_at dksX0_isHouse_0 0 rfl rfl)
theorem dX0_isHouse_1 : decode cX0_isHouse 1 = .ok (.ifCond .lt 18, 3) := dk_155 0 18 (dk_at dksX0_isHouse_0 1 rfl rfl)
theorem dX0_isHouse_4 : decode cX0_isHouse 4 = .ok (.iload_n 1, 1) := dk_27 (dk_at dksX0_isHouse_0 4 rfl rfl)
theorem dX0_isHouse_5 : decode cX0_isHouse 5 = .ok (.aload_n 0, 1) := dk_42 (dk_at dksX0_isHouse_0 5 rfl rfl)
theorem dX0_isHouse_6 : decode cX0_isHouse 6 = .ok (.getfield 31, 3) := dk_180 0 31 (dk_at dksX0_isHouse_0 6 rfl rfl)
theorem dX0_isHouse_9 : decode cX0_isHouse 9 = .ok (.getfield 146, 3) := dk_180 0 146 (dk_at dksX0_isHouse_0 9 rfl rfl)
theorem dX0_isHouse_12 : decode cX0_isHouse 12 = .ok (.if_icmp .ge 7, 3) := dk_162 0 7 (dk_at dksX0_isHouse_0 12 rfl rfl)
theorem dX0_isHouse_15 : decode cX0_isHouse 15 = .ok (.iconst 1, 1) := dk_4 (dk_at dksX0_isHouse_0 15 rfl rfl)
theorem dX0_isHouse_16 : decode cX0_isHouse 16 = .ok (.goto 4, 3) := dk_167 0 4 (dk_at dksX0_isHouse_0 16 rfl rfl)
theorem dX0_isHouse_19 : decode cX0_isHouse 19 = .ok (.iconst 0, 1) := dk_3 (dk_at dksX0_isHouse_0 19 rfl rfl)
theorem dX0_isHouse_20 : decode cX0_isHouse 20 = .ok (.ireturn, 1) := dk_172 (dk_at dksX0_isHouse_0 20 rfl rfl)
abbrev cX0_person : ByteArray := prog_1_method_24_code
def yX0_person : MethodName := ⟨RX0, "person", "(II)I"⟩
def dkwX0_person_5 : List UInt8 := [27, 4, 182, 0, 215, 172, 2, 172]
abbrev dktX0_person_5 : List UInt8 := dkwX0_person_5 ++ []
def dkwX0_person_4 : List UInt8 := [51, 153, 0, 7, 4, 167, 0, 4, 3, 172, 42, 180, 0, 69, 27, 3, 182, 0, 215, 172, 42, 180, 0, 69]
abbrev dktX0_person_4 : List UInt8 := dkwX0_person_4 ++ dktX0_person_5
def dkwX0_person_3 : List UInt8 := [180, 0, 210, 27, 46, 172, 42, 180, 0, 69, 180, 0, 213, 27, 46, 172, 42, 180, 0, 69, 180, 0, 177, 27]
abbrev dktX0_person_3 : List UInt8 := dkwX0_person_3 ++ dktX0_person_4
def dkwX0_person_2 : List UInt8 := [42, 180, 0, 69, 180, 0, 207, 27, 46, 172, 42, 180, 0, 69, 180, 0, 174, 27, 46, 172, 42, 180, 0, 69]
abbrev dktX0_person_2 : List UInt8 := dkwX0_person_2 ++ dktX0_person_3
def dkwX0_person_1 : List UInt8 := [170, 0, 0, 0, 119, 0, 0, 0, 0, 0, 0, 0, 6, 0, 0, 0, 41, 0, 0, 0, 51, 0, 0, 0, 61, 0, 0, 0, 71, 0, 0, 0, 81, 0, 0, 0, 99, 0, 0, 0, 109]
abbrev dktX0_person_1 : List UInt8 := dkwX0_person_1 ++ dktX0_person_2
def dkwX0_person_0 : List UInt8 := [42, 27, 182, 0, 161, 154, 0, 5, 2, 172, 28]
abbrev dktX0_person_0 : List UInt8 := dkwX0_person_0 ++ dktX0_person_1
theorem dksX0_person_0 : cX0_person.data.toList.drop 0 = dktX0_person_0 := by decide +kernel
theorem dksX0_person_1 : cX0_person.data.toList.drop 11 = dktX0_person_1 := dk_seg dksX0_person_0 11 rfl rfl
theorem dksX0_person_2 : cX0_person.data.toList.drop 52 = dktX0_person_2 := dk_seg dksX0_person_1 41 rfl rfl
theorem dksX0_person_3 : cX0_person.data.toList.drop 76 = dktX0_person_3 := dk_seg dksX0_person_2 24 rfl rfl
theorem dksX0_person_4 : cX0_person.data.toList.drop 100 = dktX0_person_4 := dk_seg dksX0_person_3 24 rfl rfl
theorem dksX0_person_5 : cX0_person.data.toList.drop 124 = dktX0_person_5 := dk_seg dksX0_person_4 24 rfl rfl
theorem dX0_person_0 : decode cX0_person 0 = .ok (.aload_n 0, 1) := dk_42 (dk_at dksX0_person_0 0 rfl rfl)
theorem dX0_person_1 : decode cX0_person 1 = .ok (.iload_n 1, 1) := dk_27 (dk_at dksX0_person_0 1 rfl rfl)
theorem dX0_person_2 : decode cX0_person 2 = .ok (.invokevirtual 161, 3) := dk_182 0 161 (dk_at dksX0_person_0 2 rfl rfl)
theorem dX0_person_5 : decode cX0_person 5 = .ok (.ifCond .ne 5, 3) := dk_154 0 5 (dk_at dksX0_person_0 5 rfl rfl)
theorem dX0_person_8 : decode cX0_person 8 = .ok (.iconst (-1), 1) := dk_2 (dk_at dksX0_person_0 8 rfl rfl)
theorem dX0_person_9 : decode cX0_person 9 = .ok (.ireturn, 1) := dk_172 (dk_at dksX0_person_0 9 rfl rfl)
theorem dX0_person_10 : decode cX0_person 10 = .ok (.iload_n 2, 1) := dk_28 (dk_at dksX0_person_0 10 rfl rfl)
theorem dX0_person_11 : decode cX0_person 11 = .ok (.tableswitch 119 0 6 #[41, 51, 61, 71, 81, 99, 109], 41) := by decide +kernel
theorem dX0_person_52 : decode cX0_person 52 = .ok (.aload_n 0, 1) := dk_42 (dk_at dksX0_person_2 0 rfl rfl)
theorem dX0_person_53 : decode cX0_person 53 = .ok (.getfield 69, 3) := dk_180 0 69 (dk_at dksX0_person_2 1 rfl rfl)
theorem dX0_person_56 : decode cX0_person 56 = .ok (.getfield 207, 3) := dk_180 0 207 (dk_at dksX0_person_2 4 rfl rfl)
theorem dX0_person_59 : decode cX0_person 59 = .ok (.iload_n 1, 1) := dk_27 (dk_at dksX0_person_2 7 rfl rfl)
theorem dX0_person_60 : decode cX0_person 60 = .ok (.iaload, 1) := dk_46 (dk_at dksX0_person_2 8 rfl rfl)
theorem dX0_person_61 : decode cX0_person 61 = .ok (.ireturn, 1) := dk_172 (dk_at dksX0_person_2 9 rfl rfl)
theorem dX0_person_62 : decode cX0_person 62 = .ok (.aload_n 0, 1) := dk_42 (dk_at dksX0_person_2 10 rfl rfl)
theorem dX0_person_63 : decode cX0_person 63 = .ok (.getfield 69, 3) := dk_180 0 69 (dk_at dksX0_person_2 11 rfl rfl)
theorem dX0_person_66 : decode cX0_person 66 = .ok (.getfield 174, 3) := dk_180 0 174 (dk_at dksX0_person_2 14 rfl rfl)
theorem dX0_person_69 : decode cX0_person 69 = .ok (.iload_n 1, 1) := dk_27 (dk_at dksX0_person_2 17 rfl rfl)
theorem dX0_person_70 : decode cX0_person 70 = .ok (.iaload, 1) := dk_46 (dk_at dksX0_person_2 18 rfl rfl)
theorem dX0_person_71 : decode cX0_person 71 = .ok (.ireturn, 1) := dk_172 (dk_at dksX0_person_2 19 rfl rfl)
theorem dX0_person_72 : decode cX0_person 72 = .ok (.aload_n 0, 1) := dk_42 (dk_at dksX0_person_2 20 rfl rfl)
theorem dX0_person_73 : decode cX0_person 73 = .ok (.getfield 69, 3) := dk_180 0 69 (dk_at dksX0_person_2 21 rfl rfl)
theorem dX0_person_76 : decode cX0_person 76 = .ok (.getfield 210, 3) := dk_180 0 210 (dk_at dksX0_person_3 0 rfl rfl)
theorem dX0_person_79 : decode cX0_person 79 = .ok (.iload_n 1, 1) := dk_27 (dk_at dksX0_person_3 3 rfl rfl)
theorem dX0_person_80 : decode cX0_person 80 = .ok (.iaload, 1) := dk_46 (dk_at dksX0_person_3 4 rfl rfl)
theorem dX0_person_81 : decode cX0_person 81 = .ok (.ireturn, 1) := dk_172 (dk_at dksX0_person_3 5 rfl rfl)
theorem dX0_person_82 : decode cX0_person 82 = .ok (.aload_n 0, 1) := dk_42 (dk_at dksX0_person_3 6 rfl rfl)
theorem dX0_person_83 : decode cX0_person 83 = .ok (.getfield 69, 3) := dk_180 0 69 (dk_at dksX0_person_3 7 rfl rfl)
theorem dX0_person_86 : decode cX0_person 86 = .ok (.getfield 213, 3) := dk_180 0 213 (dk_at dksX0_person_3 10 rfl rfl)
theorem dX0_person_89 : decode cX0_person 89 = .ok (.iload_n 1, 1) := dk_27 (dk_at dksX0_person_3 13 rfl rfl)
theorem dX0_person_90 : decode cX0_person 90 = .ok (.iaload, 1) := dk_46 (dk_at dksX0_person_3 14 rfl rfl)
theorem dX0_person_91 : decode cX0_person 91 = .ok (.ireturn, 1) := dk_172 (dk_at dksX0_person_3 15 rfl rfl)
theorem dX0_person_92 : decode cX0_person 92 = .ok (.aload_n 0, 1) := dk_42 (dk_at dksX0_person_3 16 rfl rfl)
theorem dX0_person_93 : decode cX0_person 93 = .ok (.getfield 69, 3) := dk_180 0 69 (dk_at dksX0_person_3 17 rfl rfl)
theorem dX0_person_96 : decode cX0_person 96 = .ok (.getfield 177, 3) := dk_180 0 177 (dk_at dksX0_person_3 20 rfl rfl)
theorem dX0_person_99 : decode cX0_person 99 = .ok (.iload_n 1, 1) := dk_27 (dk_at dksX0_person_3 23 rfl rfl)
theorem dX0_person_100 : decode cX0_person 100 = .ok (.baload, 1) := dk_51 (dk_at dksX0_person_4 0 rfl rfl)
theorem dX0_person_101 : decode cX0_person 101 = .ok (.ifCond .eq 7, 3) := dk_153 0 7 (dk_at dksX0_person_4 1 rfl rfl)
theorem dX0_person_104 : decode cX0_person 104 = .ok (.iconst 1, 1) := dk_4 (dk_at dksX0_person_4 4 rfl rfl)
theorem dX0_person_105 : decode cX0_person 105 = .ok (.goto 4, 3) := dk_167 0 4 (dk_at dksX0_person_4 5 rfl rfl)
theorem dX0_person_108 : decode cX0_person 108 = .ok (.iconst 0, 1) := dk_3 (dk_at dksX0_person_4 8 rfl rfl)
theorem dX0_person_109 : decode cX0_person 109 = .ok (.ireturn, 1) := dk_172 (dk_at dksX0_person_4 9 rfl rfl)
theorem dX0_person_110 : decode cX0_person 110 = .ok (.aload_n 0, 1) := dk_42 (dk_at dksX0_person_4 10 rfl rfl)
theorem dX0_person_111 : decode cX0_person 111 = .ok (.getfield 69, 3) := dk_180 0 69 (dk_at dksX0_person_4 11 rfl rfl)
theorem dX0_person_114 : decode cX0_person 114 = .ok (.iload_n 1, 1) := dk_27 (dk_at dksX0_person_4 14 rfl rfl)
theorem dX0_person_115 : decode cX0_person 115 = .ok (.iconst 0, 1) := dk_3 (dk_at dksX0_person_4 15 rfl rfl)
theorem dX0_person_116 : decode cX0_person 116 = .ok (.invokevirtual 215, 3) := dk_182 0 215 (dk_at dksX0_person_4 16 rfl rfl)
theorem dX0_person_119 : decode cX0_person 119 = .ok (.ireturn, 1) := dk_172 (dk_at dksX0_person_4 19 rfl rfl)
theorem dX0_person_120 : decode cX0_person 120 = .ok (.aload_n 0, 1) := dk_42 (dk_at dksX0_person_4 20 rfl rfl)
theorem dX0_person_121 : decode cX0_person 121 = .ok (.getfield 69, 3) := dk_180 0 69 (dk_at dksX0_person_4 21 rfl rfl)
theorem dX0_person_124 : decode cX0_person 124 = .ok (.iload_n 1, 1) := dk_27 (dk_at dksX0_person_5 0 rfl rfl)
theorem dX0_person_125 : decode cX0_person 125 = .ok (.iconst 1, 1) := dk_4 (dk_at dksX0_person_5 1 rfl rfl)
theorem dX0_person_126 : decode cX0_person 126 = .ok (.invokevirtual 215, 3) := dk_182 0 215 (dk_at dksX0_person_5 2 rfl rfl)
theorem dX0_person_129 : decode cX0_person 129 = .ok (.ireturn, 1) := dk_172 (dk_at dksX0_person_5 5 rfl rfl)
theorem dX0_person_130 : decode cX0_person 130 = .ok (.iconst (-1), 1) := dk_2 (dk_at dksX0_person_5 6 rfl rfl)
theorem dX0_person_131 : decode cX0_person 131 = .ok (.ireturn, 1) := dk_172 (dk_at dksX0_person_5 7 rfl rfl)
abbrev cX0_thinks : ByteArray := prog_1_method_25_code
def yX0_thinks : MethodName := ⟨RX0, "thinks", "(II)I"⟩
def dkwX0_thinks_1 : List UInt8 := [172]
abbrev dktX0_thinks_1 : List UInt8 := dkwX0_thinks_1 ++ []
def dkwX0_thinks_0 : List UInt8 := [42, 27, 28, 182, 0, 219, 153, 0, 17, 42, 180, 0, 69, 180, 0, 223, 27, 50, 28, 46, 167, 0, 4, 2]
abbrev dktX0_thinks_0 : List UInt8 := dkwX0_thinks_0 ++ dktX0_thinks_1
theorem dksX0_thinks_0 : cX0_thinks.data.toList.drop 0 = dktX0_thinks_0 := by decide +kernel
theorem dksX0_thinks_1 : cX0_thinks.data.toList.drop 24 = dktX0_thinks_1 := dk_seg dksX0_thinks_0 24 rfl rfl
theorem dX0_thinks_0 : decode cX0_thinks 0 = .ok (.aload_n 0, 1) := dk_42 (dk_at dksX0_thinks_0 0 rfl rfl)
theorem dX0_thinks_1 : decode cX0_thinks 1 = .ok (.iload_n 1, 1) := dk_27 (dk_at dksX0_thinks_0 1 rfl rfl)
theorem dX0_thinks_2 : decode cX0_thinks 2 = .ok (.iload_n 2, 1) := dk_28 (dk_at dksX0_thinks_0 2 rfl rfl)
theorem dX0_thinks_3 : decode cX0_thinks 3 = .ok (.invokevirtual 219, 3) := dk_182 0 219 (dk_at dksX0_thinks_0 3 rfl rfl)
theorem dX0_thinks_6 : decode cX0_thinks 6 = .ok (.ifCond .eq 17, 3) := dk_153 0 17 (dk_at dksX0_thinks_0 6 rfl rfl)
theorem dX0_thinks_9 : decode cX0_thinks 9 = .ok (.aload_n 0, 1) := dk_42 (dk_at dksX0_thinks_0 9 rfl rfl)
theorem dX0_thinks_10 : decode cX0_thinks 10 = .ok (.getfield 69, 3) := dk_180 0 69 (dk_at dksX0_thinks_0 10 rfl rfl)
theorem dX0_thinks_13 : decode cX0_thinks 13 = .ok (.getfield 223, 3) := dk_180 0 223 (dk_at dksX0_thinks_0 13 rfl rfl)
theorem dX0_thinks_16 : decode cX0_thinks 16 = .ok (.iload_n 1, 1) := dk_27 (dk_at dksX0_thinks_0 16 rfl rfl)
theorem dX0_thinks_17 : decode cX0_thinks 17 = .ok (.aaload, 1) := dk_50 (dk_at dksX0_thinks_0 17 rfl rfl)
theorem dX0_thinks_18 : decode cX0_thinks 18 = .ok (.iload_n 2, 1) := dk_28 (dk_at dksX0_thinks_0 18 rfl rfl)
theorem dX0_thinks_19 : decode cX0_thinks 19 = .ok (.iaload, 1) := dk_46 (dk_at dksX0_thinks_0 19 rfl rfl)
theorem dX0_thinks_20 : decode cX0_thinks 20 = .ok (.goto 4, 3) := dk_167 0 4 (dk_at dksX0_thinks_0 20 rfl rfl)
theorem dX0_thinks_23 : decode cX0_thinks 23 = .ok (.iconst (-1), 1) := dk_2 (dk_at dksX0_thinks_0 23 rfl rfl)
theorem dX0_thinks_24 : decode cX0_thinks 24 = .ok (.ireturn, 1) := dk_172 (dk_at dksX0_thinks_1 0 rfl rfl)
abbrev cX0_areTwo : ByteArray := prog_1_method_19_code
def yX0_areTwo : MethodName := ⟨RX0, "areTwo", "(II)Z"⟩
def dkwX0_areTwo_1 : List UInt8 := [167, 0, 4, 3, 172]
abbrev dktX0_areTwo_1 : List UInt8 := dkwX0_areTwo_1 ++ []
def dkwX0_areTwo_0 : List UInt8 := [42, 27, 182, 0, 161, 153, 0, 20, 42, 28, 182, 0, 161, 153, 0, 12, 27, 28, 159, 0, 7, 4]
abbrev dktX0_areTwo_0 : List UInt8 := dkwX0_areTwo_0 ++ dktX0_areTwo_1
theorem dksX0_areTwo_0 : cX0_areTwo.data.toList.drop 0 = dktX0_areTwo_0 := by decide +kernel
theorem dksX0_areTwo_1 : cX0_areTwo.data.toList.drop 22 = dktX0_areTwo_1 := dk_seg dksX0_areTwo_0 22 rfl rfl
theorem dX0_areTwo_0 : decode cX0_areTwo 0 = .ok (.aload_n 0, 1) := dk_42 (dk_at dksX0_areTwo_0 0 rfl rfl)
theorem dX0_areTwo_1 : decode cX0_areTwo 1 = .ok (.iload_n 1, 1) := dk_27 (dk_at dksX0_areTwo_0 1 rfl rfl)
theorem dX0_areTwo_2 : decode cX0_areTwo 2 = .ok (.invokevirtual 161, 3) := dk_182 0 161 (dk_at dksX0_areTwo_0 2 rfl rfl)
theorem dX0_areTwo_5 : decode cX0_areTwo 5 = .ok (.ifCond .eq 20, 3) := dk_153 0 20 (dk_at dksX0_areTwo_0 5 rfl rfl)
theorem dX0_areTwo_8 : decode cX0_areTwo 8 = .ok (.aload_n 0, 1) := dk_42 (dk_at dksX0_areTwo_0 8 rfl rfl)
theorem dX0_areTwo_9 : decode cX0_areTwo 9 = .ok (.iload_n 2, 1) := dk_28 (dk_at dksX0_areTwo_0 9 rfl rfl)
theorem dX0_areTwo_10 : decode cX0_areTwo 10 = .ok (.invokevirtual 161, 3) := dk_182 0 161 (dk_at dksX0_areTwo_0 10 rfl rfl)
theorem dX0_areTwo_13 : decode cX0_areTwo 13 = .ok (.ifCond .eq 12, 3) := dk_153 0 12 (dk_at dksX0_areTwo_0 13 rfl rfl)
theorem dX0_areTwo_16 : decode cX0_areTwo 16 = .ok (.iload_n 1, 1) := dk_27 (dk_at dksX0_areTwo_0 16 rfl rfl)
theorem dX0_areTwo_17 : decode cX0_areTwo 17 = .ok (.iload_n 2, 1) := dk_28 (dk_at dksX0_areTwo_0 17 rfl rfl)
theorem dX0_areTwo_18 : decode cX0_areTwo 18 = .ok (.if_icmp .eq 7, 3) := dk_159 0 7 (dk_at dksX0_areTwo_0 18 rfl rfl)
theorem dX0_areTwo_21 : decode cX0_areTwo 21 = .ok (.iconst 1, 1) := dk_4 (dk_at dksX0_areTwo_0 21 rfl rfl)
theorem dX0_areTwo_22 : decode cX0_areTwo 22 = .ok (.goto 4, 3) := dk_167 0 4 (dk_at dksX0_areTwo_1 0 rfl rfl)
theorem dX0_areTwo_25 : decode cX0_areTwo 25 = .ok (.iconst 0, 1) := dk_3 (dk_at dksX0_areTwo_1 3 rfl rfl)
theorem dX0_areTwo_26 : decode cX0_areTwo 26 = .ok (.ireturn, 1) := dk_172 (dk_at dksX0_areTwo_1 4 rfl rfl)
abbrev cX0_paints : ByteArray := prog_1_method_26_code
def yX0_paints : MethodName := ⟨RX0, "paints", "(II)I"⟩
def dkwX0_paints_2 : List UInt8 := [182, 0, 226, 172]
abbrev dktX0_paints_2 : List UInt8 := dkwX0_paints_2 ++ []
def dkwX0_paints_1 : List UInt8 := [182, 0, 215, 2, 160, 0, 5, 2, 172, 42, 180, 0, 69, 27, 42, 180, 0, 69, 27, 28, 182, 0, 215, 28]
abbrev dktX0_paints_1 : List UInt8 := dkwX0_paints_1 ++ dktX0_paints_2
def dkwX0_paints_0 : List UInt8 := [42, 27, 182, 0, 161, 153, 0, 25, 28, 3, 4, 184, 0, 190, 153, 0, 16, 42, 180, 0, 69, 27, 28]
abbrev dktX0_paints_0 : List UInt8 := dkwX0_paints_0 ++ dktX0_paints_1
theorem dksX0_paints_0 : cX0_paints.data.toList.drop 0 = dktX0_paints_0 := by decide +kernel
theorem dksX0_paints_1 : cX0_paints.data.toList.drop 23 = dktX0_paints_1 := dk_seg dksX0_paints_0 23 rfl rfl
theorem dksX0_paints_2 : cX0_paints.data.toList.drop 47 = dktX0_paints_2 := dk_seg dksX0_paints_1 24 rfl rfl
theorem dX0_paints_0 : decode cX0_paints 0 = .ok (.aload_n 0, 1) := dk_42 (dk_at dksX0_paints_0 0 rfl rfl)
theorem dX0_paints_1 : decode cX0_paints 1 = .ok (.iload_n 1, 1) := dk_27 (dk_at dksX0_paints_0 1 rfl rfl)
theorem dX0_paints_2 : decode cX0_paints 2 = .ok (.invokevirtual 161, 3) := dk_182 0 161 (dk_at dksX0_paints_0 2 rfl rfl)
theorem dX0_paints_5 : decode cX0_paints 5 = .ok (.ifCond .eq 25, 3) := dk_153 0 25 (dk_at dksX0_paints_0 5 rfl rfl)
theorem dX0_paints_8 : decode cX0_paints 8 = .ok (.iload_n 2, 1) := dk_28 (dk_at dksX0_paints_0 8 rfl rfl)
theorem dX0_paints_9 : decode cX0_paints 9 = .ok (.iconst 0, 1) := dk_3 (dk_at dksX0_paints_0 9 rfl rfl)
theorem dX0_paints_10 : decode cX0_paints 10 = .ok (.iconst 1, 1) := dk_4 (dk_at dksX0_paints_0 10 rfl rfl)
theorem dX0_paints_11 : decode cX0_paints 11 = .ok (.invokestatic 190, 3) := dk_184 0 190 (dk_at dksX0_paints_0 11 rfl rfl)
theorem dX0_paints_14 : decode cX0_paints 14 = .ok (.ifCond .eq 16, 3) := dk_153 0 16 (dk_at dksX0_paints_0 14 rfl rfl)
theorem dX0_paints_17 : decode cX0_paints 17 = .ok (.aload_n 0, 1) := dk_42 (dk_at dksX0_paints_0 17 rfl rfl)
theorem dX0_paints_18 : decode cX0_paints 18 = .ok (.getfield 69, 3) := dk_180 0 69 (dk_at dksX0_paints_0 18 rfl rfl)
theorem dX0_paints_21 : decode cX0_paints 21 = .ok (.iload_n 1, 1) := dk_27 (dk_at dksX0_paints_0 21 rfl rfl)
theorem dX0_paints_22 : decode cX0_paints 22 = .ok (.iload_n 2, 1) := dk_28 (dk_at dksX0_paints_0 22 rfl rfl)
theorem dX0_paints_23 : decode cX0_paints 23 = .ok (.invokevirtual 215, 3) := dk_182 0 215 (dk_at dksX0_paints_1 0 rfl rfl)
theorem dX0_paints_26 : decode cX0_paints 26 = .ok (.iconst (-1), 1) := dk_2 (dk_at dksX0_paints_1 3 rfl rfl)
theorem dX0_paints_27 : decode cX0_paints 27 = .ok (.if_icmp .ne 5, 3) := dk_160 0 5 (dk_at dksX0_paints_1 4 rfl rfl)
theorem dX0_paints_30 : decode cX0_paints 30 = .ok (.iconst (-1), 1) := dk_2 (dk_at dksX0_paints_1 7 rfl rfl)
theorem dX0_paints_31 : decode cX0_paints 31 = .ok (.ireturn, 1) := dk_172 (dk_at dksX0_paints_1 8 rfl rfl)
theorem dX0_paints_32 : decode cX0_paints 32 = .ok (.aload_n 0, 1) := dk_42 (dk_at dksX0_paints_1 9 rfl rfl)
theorem dX0_paints_33 : decode cX0_paints 33 = .ok (.getfield 69, 3) := dk_180 0 69 (dk_at dksX0_paints_1 10 rfl rfl)
theorem dX0_paints_36 : decode cX0_paints 36 = .ok (.iload_n 1, 1) := dk_27 (dk_at dksX0_paints_1 13 rfl rfl)
theorem dX0_paints_37 : decode cX0_paints 37 = .ok (.aload_n 0, 1) := dk_42 (dk_at dksX0_paints_1 14 rfl rfl)
theorem dX0_paints_38 : decode cX0_paints 38 = .ok (.getfield 69, 3) := dk_180 0 69 (dk_at dksX0_paints_1 15 rfl rfl)
theorem dX0_paints_41 : decode cX0_paints 41 = .ok (.iload_n 1, 1) := dk_27 (dk_at dksX0_paints_1 18 rfl rfl)
theorem dX0_paints_42 : decode cX0_paints 42 = .ok (.iload_n 2, 1) := dk_28 (dk_at dksX0_paints_1 19 rfl rfl)
theorem dX0_paints_43 : decode cX0_paints 43 = .ok (.invokevirtual 215, 3) := dk_182 0 215 (dk_at dksX0_paints_1 20 rfl rfl)
theorem dX0_paints_46 : decode cX0_paints 46 = .ok (.iload_n 2, 1) := dk_28 (dk_at dksX0_paints_1 23 rfl rfl)
theorem dX0_paints_47 : decode cX0_paints 47 = .ok (.invokevirtual 226, 3) := dk_182 0 226 (dk_at dksX0_paints_2 0 rfl rfl)
theorem dX0_paints_50 : decode cX0_paints 50 = .ok (.ireturn, 1) := dk_172 (dk_at dksX0_paints_2 3 rfl rfl)
abbrev cX0_feud : ByteArray := prog_1_method_27_code
def yX0_feud : MethodName := ⟨RX0, "feud", "(I)I"⟩
def dkwX0_feud_2 : List UInt8 := [167, 0, 8, 3, 167, 0, 4, 2, 172]
abbrev dktX0_feud_2 : List UInt8 := dkwX0_feud_2 ++ []
def dkwX0_feud_1 : List UInt8 := [27, 4, 96, 182, 0, 204, 2, 159, 0, 22, 42, 180, 0, 69, 27, 182, 0, 181, 153, 0, 7, 4]
abbrev dktX0_feud_1 : List UInt8 := dkwX0_feud_1 ++ dktX0_feud_2
def dkwX0_feud_0 : List UInt8 := [42, 27, 182, 0, 201, 153, 0, 48, 42, 180, 0, 69, 27, 182, 0, 204, 2, 159, 0, 36, 42, 180, 0, 69]
abbrev dktX0_feud_0 : List UInt8 := dkwX0_feud_0 ++ dktX0_feud_1
theorem dksX0_feud_0 : cX0_feud.data.toList.drop 0 = dktX0_feud_0 := by decide +kernel
theorem dksX0_feud_1 : cX0_feud.data.toList.drop 24 = dktX0_feud_1 := dk_seg dksX0_feud_0 24 rfl rfl
theorem dksX0_feud_2 : cX0_feud.data.toList.drop 46 = dktX0_feud_2 := dk_seg dksX0_feud_1 22 rfl rfl
theorem dX0_feud_0 : decode cX0_feud 0 = .ok (.aload_n 0, 1) := dk_42 (dk_at dksX0_feud_0 0 rfl rfl)
theorem dX0_feud_1 : decode cX0_feud 1 = .ok (.iload_n 1, 1) := dk_27 (dk_at dksX0_feud_0 1 rfl rfl)
theorem dX0_feud_2 : decode cX0_feud 2 = .ok (.invokevirtual 201, 3) := dk_182 0 201 (dk_at dksX0_feud_0 2 rfl rfl)
theorem dX0_feud_5 : decode cX0_feud 5 = .ok (.ifCond .eq 48, 3) := dk_153 0 48 (dk_at dksX0_feud_0 5 rfl rfl)
theorem dX0_feud_8 : decode cX0_feud 8 = .ok (.aload_n 0, 1) := dk_42 (dk_at dksX0_feud_0 8 rfl rfl)
theorem dX0_feud_9 : decode cX0_feud 9 = .ok (.getfield 69, 3) := dk_180 0 69 (dk_at dksX0_feud_0 9 rfl rfl)
theorem dX0_feud_12 : decode cX0_feud 12 = .ok (.iload_n 1, 1) := dk_27 (dk_at dksX0_feud_0 12 rfl rfl)
theorem dX0_feud_13 : decode cX0_feud 13 = .ok (.invokevirtual 204, 3) := dk_182 0 204 (dk_at dksX0_feud_0 13 rfl rfl)
theorem dX0_feud_16 : decode cX0_feud 16 = .ok (.iconst (-1), 1) := dk_2 (dk_at dksX0_feud_0 16 rfl rfl)
theorem dX0_feud_17 : decode cX0_feud 17 = .ok (.if_icmp .eq 36, 3) := dk_159 0 36 (dk_at dksX0_feud_0 17 rfl rfl)
theorem dX0_feud_20 : decode cX0_feud 20 = .ok (.aload_n 0, 1) := dk_42 (dk_at dksX0_feud_0 20 rfl rfl)
theorem dX0_feud_21 : decode cX0_feud 21 = .ok (.getfield 69, 3) := dk_180 0 69 (dk_at dksX0_feud_0 21 rfl rfl)
theorem dX0_feud_24 : decode cX0_feud 24 = .ok (.iload_n 1, 1) := dk_27 (dk_at dksX0_feud_1 0 rfl rfl)
theorem dX0_feud_25 : decode cX0_feud 25 = .ok (.iconst 1, 1) := dk_4 (dk_at dksX0_feud_1 1 rfl rfl)
theorem dX0_feud_26 : decode cX0_feud 26 = .ok (.iadd, 1) := dk_96 (dk_at dksX0_feud_1 2 rfl rfl)
theorem dX0_feud_27 : decode cX0_feud 27 = .ok (.invokevirtual 204, 3) := dk_182 0 204 (dk_at dksX0_feud_1 3 rfl rfl)
theorem dX0_feud_30 : decode cX0_feud 30 = .ok (.iconst (-1), 1) := dk_2 (dk_at dksX0_feud_1 6 rfl rfl)
theorem dX0_feud_31 : decode cX0_feud 31 = .ok (.if_icmp .eq 22, 3) := dk_159 0 22 (dk_at dksX0_feud_1 7 rfl rfl)
theorem dX0_feud_34 : decode cX0_feud 34 = .ok (.aload_n 0, 1) := dk_42 (dk_at dksX0_feud_1 10 rfl rfl)
theorem dX0_feud_35 : decode cX0_feud 35 = .ok (.getfield 69, 3) := dk_180 0 69 (dk_at dksX0_feud_1 11 rfl rfl)
theorem dX0_feud_38 : decode cX0_feud 38 = .ok (.iload_n 1, 1) := dk_27 (dk_at dksX0_feud_1 14 rfl rfl)
theorem dX0_feud_39 : decode cX0_feud 39 = .ok (.invokevirtual 181, 3) := dk_182 0 181 (dk_at dksX0_feud_1 15 rfl rfl)
theorem dX0_feud_42 : decode cX0_feud 42 = .ok (.ifCond .eq 7, 3) := dk_153 0 7 (dk_at dksX0_feud_1 18 rfl rfl)
theorem dX0_feud_45 : decode cX0_feud 45 = .ok (.iconst 1, 1) := dk_4 (dk_at dksX0_feud_1 21 rfl rfl)
theorem dX0_feud_46 : decode cX0_feud 46 = .ok (.goto 8, 3) := dk_167 0 8 (dk_at dksX0_feud_2 0 rfl rfl)
theorem dX0_feud_49 : decode cX0_feud 49 = .ok (.iconst 0, 1) := dk_3 (dk_at dksX0_feud_2 3 rfl rfl)
theorem dX0_feud_50 : decode cX0_feud 50 = .ok (.goto 4, 3) := dk_167 0 4 (dk_at dksX0_feud_2 4 rfl rfl)
theorem dX0_feud_53 : decode cX0_feud 53 = .ok (.iconst (-1), 1) := dk_2 (dk_at dksX0_feud_2 7 rfl rfl)
theorem dX0_feud_54 : decode cX0_feud 54 = .ok (.ireturn, 1) := dk_172 (dk_at dksX0_feud_2 8 rfl rfl)
abbrev cX0_kept : ByteArray := prog_1_method_28_code
def yX0_kept : MethodName := ⟨RX0, "kept", "(II)I"⟩
def dkwX0_kept_1 : List UInt8 := [153, 0, 17, 42, 180, 0, 69, 180, 0, 230, 27, 50, 28, 46, 167, 0, 4, 2, 172]
abbrev dktX0_kept_1 : List UInt8 := dkwX0_kept_1 ++ []
def dkwX0_kept_0 : List UInt8 := [27, 3, 42, 180, 0, 69, 180, 0, 187, 4, 100, 184, 0, 190, 153, 0, 26, 28, 3, 5, 184, 0, 190]
abbrev dktX0_kept_0 : List UInt8 := dkwX0_kept_0 ++ dktX0_kept_1
theorem dksX0_kept_0 : cX0_kept.data.toList.drop 0 = dktX0_kept_0 := by decide +kernel
theorem dksX0_kept_1 : cX0_kept.data.toList.drop 23 = dktX0_kept_1 := dk_seg dksX0_kept_0 23 rfl rfl
theorem dX0_kept_0 : decode cX0_kept 0 = .ok (.iload_n 1, 1) := dk_27 (dk_at dksX0_kept_0 0 rfl rfl)
theorem dX0_kept_1 : decode cX0_kept 1 = .ok (.iconst 0, 1) := dk_3 (dk_at dksX0_kept_0 1 rfl rfl)
theorem dX0_kept_2 : decode cX0_kept 2 = .ok (.aload_n 0, 1) := dk_42 (dk_at dksX0_kept_0 2 rfl rfl)
theorem dX0_kept_3 : decode cX0_kept 3 = .ok (.getfield 69, 3) := dk_180 0 69 (dk_at dksX0_kept_0 3 rfl rfl)
theorem dX0_kept_6 : decode cX0_kept 6 = .ok (.getfield 187, 3) := dk_180 0 187 (dk_at dksX0_kept_0 6 rfl rfl)
theorem dX0_kept_9 : decode cX0_kept 9 = .ok (.iconst 1, 1) := dk_4 (dk_at dksX0_kept_0 9 rfl rfl)
theorem dX0_kept_10 : decode cX0_kept 10 = .ok (.isub, 1) := dk_100 (dk_at dksX0_kept_0 10 rfl rfl)
theorem dX0_kept_11 : decode cX0_kept 11 = .ok (.invokestatic 190, 3) := dk_184 0 190 (dk_at dksX0_kept_0 11 rfl rfl)
theorem dX0_kept_14 : decode cX0_kept 14 = .ok (.ifCond .eq 26, 3) := dk_153 0 26 (dk_at dksX0_kept_0 14 rfl rfl)
theorem dX0_kept_17 : decode cX0_kept 17 = .ok (.iload_n 2, 1) := dk_28 (dk_at dksX0_kept_0 17 rfl rfl)
theorem dX0_kept_18 : decode cX0_kept 18 = .ok (.iconst 0, 1) := dk_3 (dk_at dksX0_kept_0 18 rfl rfl)
theorem dX0_kept_19 : decode cX0_kept 19 = .ok (.iconst 2, 1) := dk_5 (dk_at dksX0_kept_0 19 rfl rfl)
theorem dX0_kept_20 : decode cX0_kept 20 = .ok (.invokestatic 190, 3) := dk_184 0 190 (dk_at dksX0_kept_0 20 rfl rfl)
theorem dX0_kept_23 : decode cX0_kept 23 = .ok (.ifCond .eq 17, 3) := dk_153 0 17 (dk_at dksX0_kept_1 0 rfl rfl)
theorem dX0_kept_26 : decode cX0_kept 26 = .ok (.aload_n 0, 1) := dk_42 (dk_at dksX0_kept_1 3 rfl rfl)
theorem dX0_kept_27 : decode cX0_kept 27 = .ok (.getfield 69, 3) := dk_180 0 69 (dk_at dksX0_kept_1 4 rfl rfl)
theorem dX0_kept_30 : decode cX0_kept 30 = .ok (.getfield 230, 3) := dk_180 0 230 (dk_at dksX0_kept_1 7 rfl rfl)
theorem dX0_kept_33 : decode cX0_kept 33 = .ok (.iload_n 1, 1) := dk_27 (dk_at dksX0_kept_1 10 rfl rfl)
theorem dX0_kept_34 : decode cX0_kept 34 = .ok (.aaload, 1) := dk_50 (dk_at dksX0_kept_1 11 rfl rfl)
theorem dX0_kept_35 : decode cX0_kept 35 = .ok (.iload_n 2, 1) := dk_28 (dk_at dksX0_kept_1 12 rfl rfl)
theorem dX0_kept_36 : decode cX0_kept 36 = .ok (.iaload, 1) := dk_46 (dk_at dksX0_kept_1 13 rfl rfl)
theorem dX0_kept_37 : decode cX0_kept 37 = .ok (.goto 4, 3) := dk_167 0 4 (dk_at dksX0_kept_1 14 rfl rfl)
theorem dX0_kept_40 : decode cX0_kept 40 = .ok (.iconst (-1), 1) := dk_2 (dk_at dksX0_kept_1 17 rfl rfl)
theorem dX0_kept_41 : decode cX0_kept 41 = .ok (.ireturn, 1) := dk_172 (dk_at dksX0_kept_1 18 rfl rfl)
abbrev cX0_later : ByteArray := prog_1_method_30_code
def yX0_later : MethodName := ⟨RX0, "later", "(II)I"⟩
def dkwX0_later_1 : List UInt8 := [180, 0, 69, 182, 0, 239, 28, 182, 0, 243, 180, 0, 174, 27, 46, 167, 0, 4, 2, 172]
abbrev dktX0_later_1 : List UInt8 := dkwX0_later_1 ++ []
def dkwX0_later_0 : List UInt8 := [42, 27, 182, 0, 161, 153, 0, 37, 42, 28, 3, 16, 60, 182, 0, 236, 153, 0, 26, 42, 180, 0, 73, 42]
abbrev dktX0_later_0 : List UInt8 := dkwX0_later_0 ++ dktX0_later_1
theorem dksX0_later_0 : cX0_later.data.toList.drop 0 = dktX0_later_0 := by decide +kernel
theorem dksX0_later_1 : cX0_later.data.toList.drop 24 = dktX0_later_1 := dk_seg dksX0_later_0 24 rfl rfl
theorem dX0_later_0 : decode cX0_later 0 = .ok (.aload_n 0, 1) := dk_42 (dk_at dksX0_later_0 0 rfl rfl)
theorem dX0_later_1 : decode cX0_later 1 = .ok (.iload_n 1, 1) := dk_27 (dk_at dksX0_later_0 1 rfl rfl)
theorem dX0_later_2 : decode cX0_later 2 = .ok (.invokevirtual 161, 3) := dk_182 0 161 (dk_at dksX0_later_0 2 rfl rfl)
theorem dX0_later_5 : decode cX0_later 5 = .ok (.ifCond .eq 37, 3) := dk_153 0 37 (dk_at dksX0_later_0 5 rfl rfl)
theorem dX0_later_8 : decode cX0_later 8 = .ok (.aload_n 0, 1) := dk_42 (dk_at dksX0_later_0 8 rfl rfl)
theorem dX0_later_9 : decode cX0_later 9 = .ok (.iload_n 2, 1) := dk_28 (dk_at dksX0_later_0 9 rfl rfl)
theorem dX0_later_10 : decode cX0_later 10 = .ok (.iconst 0, 1) := dk_3 (dk_at dksX0_later_0 10 rfl rfl)
theorem dX0_later_11 : decode cX0_later 11 = .ok (.bipush 60, 2) := dk_16 60 (dk_at dksX0_later_0 11 rfl rfl)
theorem dX0_later_13 : decode cX0_later 13 = .ok (.invokevirtual 236, 3) := dk_182 0 236 (dk_at dksX0_later_0 13 rfl rfl)
theorem dX0_later_16 : decode cX0_later 16 = .ok (.ifCond .eq 26, 3) := dk_153 0 26 (dk_at dksX0_later_0 16 rfl rfl)
theorem dX0_later_19 : decode cX0_later 19 = .ok (.aload_n 0, 1) := dk_42 (dk_at dksX0_later_0 19 rfl rfl)
theorem dX0_later_20 : decode cX0_later 20 = .ok (.getfield 73, 3) := dk_180 0 73 (dk_at dksX0_later_0 20 rfl rfl)
theorem dX0_later_23 : decode cX0_later 23 = .ok (.aload_n 0, 1) := dk_42 (dk_at dksX0_later_0 23 rfl rfl)
theorem dX0_later_24 : decode cX0_later 24 = .ok (.getfield 69, 3) := dk_180 0 69 (dk_at dksX0_later_1 0 rfl rfl)
theorem dX0_later_27 : decode cX0_later 27 = .ok (.invokevirtual 239, 3) := dk_182 0 239 (dk_at dksX0_later_1 3 rfl rfl)
theorem dX0_later_30 : decode cX0_later 30 = .ok (.iload_n 2, 1) := dk_28 (dk_at dksX0_later_1 6 rfl rfl)
theorem dX0_later_31 : decode cX0_later 31 = .ok (.invokevirtual 243, 3) := dk_182 0 243 (dk_at dksX0_later_1 7 rfl rfl)
theorem dX0_later_34 : decode cX0_later 34 = .ok (.getfield 174, 3) := dk_180 0 174 (dk_at dksX0_later_1 10 rfl rfl)
theorem dX0_later_37 : decode cX0_later 37 = .ok (.iload_n 1, 1) := dk_27 (dk_at dksX0_later_1 13 rfl rfl)
theorem dX0_later_38 : decode cX0_later 38 = .ok (.iaload, 1) := dk_46 (dk_at dksX0_later_1 14 rfl rfl)
theorem dX0_later_39 : decode cX0_later 39 = .ok (.goto 4, 3) := dk_167 0 4 (dk_at dksX0_later_1 15 rfl rfl)
theorem dX0_later_42 : decode cX0_later 42 = .ok (.iconst (-1), 1) := dk_2 (dk_at dksX0_later_1 18 rfl rfl)
theorem dX0_later_43 : decode cX0_later 43 = .ok (.ireturn, 1) := dk_172 (dk_at dksX0_later_1 19 rfl rfl)
abbrev cX0_isAhead : ByteArray := prog_1_method_29_code
def yX0_isAhead : MethodName := ⟨RX0, "isAhead", "(III)Z"⟩
def dkwX0_isAhead_1 : List UInt8 := [96, 17, 3, 231, 163, 0, 7, 4, 167, 0, 4, 3, 172]
abbrev dktX0_isAhead_1 : List UInt8 := dkwX0_isAhead_1 ++ []
def dkwX0_isAhead_0 : List UInt8 := [42, 182, 0, 232, 153, 0, 31, 27, 28, 29, 184, 0, 190, 153, 0, 22, 42, 180, 0, 69, 180, 0, 171, 27]
abbrev dktX0_isAhead_0 : List UInt8 := dkwX0_isAhead_0 ++ dktX0_isAhead_1
theorem dksX0_isAhead_0 : cX0_isAhead.data.toList.drop 0 = dktX0_isAhead_0 := by decide +kernel
theorem dksX0_isAhead_1 : cX0_isAhead.data.toList.drop 24 = dktX0_isAhead_1 := dk_seg dksX0_isAhead_0 24 rfl rfl
theorem dX0_isAhead_0 : decode cX0_isAhead 0 = .ok (.aload_n 0, 1) := dk_42 (dk_at dksX0_isAhead_0 0 rfl rfl)
theorem dX0_isAhead_1 : decode cX0_isAhead 1 = .ok (.invokevirtual 232, 3) := dk_182 0 232 (dk_at dksX0_isAhead_0 1 rfl rfl)
theorem dX0_isAhead_4 : decode cX0_isAhead 4 = .ok (.ifCond .eq 31, 3) := dk_153 0 31 (dk_at dksX0_isAhead_0 4 rfl rfl)
theorem dX0_isAhead_7 : decode cX0_isAhead 7 = .ok (.iload_n 1, 1) := dk_27 (dk_at dksX0_isAhead_0 7 rfl rfl)
theorem dX0_isAhead_8 : decode cX0_isAhead 8 = .ok (.iload_n 2, 1) := dk_28 (dk_at dksX0_isAhead_0 8 rfl rfl)
theorem dX0_isAhead_9 : decode cX0_isAhead 9 = .ok (.iload_n 3, 1) := dk_29 (dk_at dksX0_isAhead_0 9 rfl rfl)
theorem dX0_isAhead_10 : decode cX0_isAhead 10 = .ok (.invokestatic 190, 3) := dk_184 0 190 (dk_at dksX0_isAhead_0 10 rfl rfl)
theorem dX0_isAhead_13 : decode cX0_isAhead 13 = .ok (.ifCond .eq 22, 3) := dk_153 0 22 (dk_at dksX0_isAhead_0 13 rfl rfl)
theorem dX0_isAhead_16 : decode cX0_isAhead 16 = .ok (.aload_n 0, 1) := dk_42 (dk_at dksX0_isAhead_0 16 rfl rfl)
theorem dX0_isAhead_17 : decode cX0_isAhead 17 = .ok (.getfield 69, 3) := dk_180 0 69 (dk_at dksX0_isAhead_0 17 rfl rfl)
theorem dX0_isAhead_20 : decode cX0_isAhead 20 = .ok (.getfield 171, 3) := dk_180 0 171 (dk_at dksX0_isAhead_0 20 rfl rfl)
theorem dX0_isAhead_23 : decode cX0_isAhead 23 = .ok (.iload_n 1, 1) := dk_27 (dk_at dksX0_isAhead_0 23 rfl rfl)
theorem dX0_isAhead_24 : decode cX0_isAhead 24 = .ok (.iadd, 1) := dk_96 (dk_at dksX0_isAhead_1 0 rfl rfl)
theorem dX0_isAhead_25 : decode cX0_isAhead 25 = .ok (.sipush 999, 3) := dk_17 3 231 (dk_at dksX0_isAhead_1 1 rfl rfl)
theorem dX0_isAhead_28 : decode cX0_isAhead 28 = .ok (.if_icmp .gt 7, 3) := dk_163 0 7 (dk_at dksX0_isAhead_1 4 rfl rfl)
theorem dX0_isAhead_31 : decode cX0_isAhead 31 = .ok (.iconst 1, 1) := dk_4 (dk_at dksX0_isAhead_1 7 rfl rfl)
theorem dX0_isAhead_32 : decode cX0_isAhead 32 = .ok (.goto 4, 3) := dk_167 0 4 (dk_at dksX0_isAhead_1 8 rfl rfl)
theorem dX0_isAhead_35 : decode cX0_isAhead 35 = .ok (.iconst 0, 1) := dk_3 (dk_at dksX0_isAhead_1 11 rfl rfl)
theorem dX0_isAhead_36 : decode cX0_isAhead 36 = .ok (.ireturn, 1) := dk_172 (dk_at dksX0_isAhead_1 12 rfl rfl)
abbrev cX0_isTerrace : ByteArray := prog_1_method_15_code
def yX0_isTerrace : MethodName := ⟨RX0, "isTerrace", "()Z"⟩
def dkwX0_isTerrace_0 : List UInt8 := [42, 180, 0, 31, 180, 0, 146, 158, 0, 7, 4, 167, 0, 4, 3, 172]
abbrev dktX0_isTerrace_0 : List UInt8 := dkwX0_isTerrace_0 ++ []
theorem dksX0_isTerrace_0 : cX0_isTerrace.data.toList.drop 0 = dktX0_isTerrace_0 := by decide +kernel
theorem dX0_isTerrace_0 : decode cX0_isTerrace 0 = .ok (.aload_n 0, 1) := dk_42 (dk_at dksX0_isTerrace_0 0 rfl rfl)
theorem dX0_isTerrace_1 : decode cX0_isTerrace 1 = .ok (.getfield 31, 3) := dk_180 0 31 (dk_at dksX0_isTerrace_0 1 rfl rfl)
theorem dX0_isTerrace_4 : decode cX0_isTerrace 4 = .ok (.getfield 146, 3) := dk_180 0 146 (dk_at dksX0_isTerrace_0 4 rfl rfl)
theorem dX0_isTerrace_7 : decode cX0_isTerrace 7 = .ok (.ifCond .le 7, 3) := dk_158 0 7 (dk_at dksX0_isTerrace_0 7 rfl rfl)
theorem dX0_isTerrace_10 : decode cX0_isTerrace 10 = .ok (.iconst 1, 1) := dk_4 (dk_at dksX0_isTerrace_0 10 rfl rfl)
theorem dX0_isTerrace_11 : decode cX0_isTerrace 11 = .ok (.goto 4, 3) := dk_167 0 4 (dk_at dksX0_isTerrace_0 11 rfl rfl)
theorem dX0_isTerrace_14 : decode cX0_isTerrace 14 = .ok (.iconst 0, 1) := dk_3 (dk_at dksX0_isTerrace_0 14 rfl rfl)
theorem dX0_isTerrace_15 : decode cX0_isTerrace 15 = .ok (.ireturn, 1) := dk_172 (dk_at dksX0_isTerrace_0 15 rfl rfl)
abbrev cX0_mind : ByteArray := prog_1_method_31_code
def yX0_mind : MethodName := ⟨RX0, "mind", "(III)I"⟩
def dkwX0_mind_1 : List UInt8 := [42, 180, 0, 69, 182, 0, 239, 29, 182, 0, 243, 180, 0, 223, 27, 50, 28, 46, 167, 0, 4, 2, 172]
abbrev dktX0_mind_1 : List UInt8 := dkwX0_mind_1 ++ []
def dkwX0_mind_0 : List UInt8 := [42, 27, 28, 182, 0, 219, 153, 0, 39, 42, 29, 3, 16, 60, 182, 0, 236, 153, 0, 28, 42, 180, 0, 73]
abbrev dktX0_mind_0 : List UInt8 := dkwX0_mind_0 ++ dktX0_mind_1
theorem dksX0_mind_0 : cX0_mind.data.toList.drop 0 = dktX0_mind_0 := by decide +kernel
theorem dksX0_mind_1 : cX0_mind.data.toList.drop 24 = dktX0_mind_1 := dk_seg dksX0_mind_0 24 rfl rfl
theorem dX0_mind_0 : decode cX0_mind 0 = .ok (.aload_n 0, 1) := dk_42 (dk_at dksX0_mind_0 0 rfl rfl)
theorem dX0_mind_1 : decode cX0_mind 1 = .ok (.iload_n 1, 1) := dk_27 (dk_at dksX0_mind_0 1 rfl rfl)
theorem dX0_mind_2 : decode cX0_mind 2 = .ok (.iload_n 2, 1) := dk_28 (dk_at dksX0_mind_0 2 rfl rfl)
theorem dX0_mind_3 : decode cX0_mind 3 = .ok (.invokevirtual 219, 3) := dk_182 0 219 (dk_at dksX0_mind_0 3 rfl rfl)
theorem dX0_mind_6 : decode cX0_mind 6 = .ok (.ifCond .eq 39, 3) := dk_153 0 39 (dk_at dksX0_mind_0 6 rfl rfl)
theorem dX0_mind_9 : decode cX0_mind 9 = .ok (.aload_n 0, 1) := dk_42 (dk_at dksX0_mind_0 9 rfl rfl)
theorem dX0_mind_10 : decode cX0_mind 10 = .ok (.iload_n 3, 1) := dk_29 (dk_at dksX0_mind_0 10 rfl rfl)
theorem dX0_mind_11 : decode cX0_mind 11 = .ok (.iconst 0, 1) := dk_3 (dk_at dksX0_mind_0 11 rfl rfl)
theorem dX0_mind_12 : decode cX0_mind 12 = .ok (.bipush 60, 2) := dk_16 60 (dk_at dksX0_mind_0 12 rfl rfl)
theorem dX0_mind_14 : decode cX0_mind 14 = .ok (.invokevirtual 236, 3) := dk_182 0 236 (dk_at dksX0_mind_0 14 rfl rfl)
theorem dX0_mind_17 : decode cX0_mind 17 = .ok (.ifCond .eq 28, 3) := dk_153 0 28 (dk_at dksX0_mind_0 17 rfl rfl)
theorem dX0_mind_20 : decode cX0_mind 20 = .ok (.aload_n 0, 1) := dk_42 (dk_at dksX0_mind_0 20 rfl rfl)
theorem dX0_mind_21 : decode cX0_mind 21 = .ok (.getfield 73, 3) := dk_180 0 73 (dk_at dksX0_mind_0 21 rfl rfl)
theorem dX0_mind_24 : decode cX0_mind 24 = .ok (.aload_n 0, 1) := dk_42 (dk_at dksX0_mind_1 0 rfl rfl)
theorem dX0_mind_25 : decode cX0_mind 25 = .ok (.getfield 69, 3) := dk_180 0 69 (dk_at dksX0_mind_1 1 rfl rfl)
theorem dX0_mind_28 : decode cX0_mind 28 = .ok (.invokevirtual 239, 3) := dk_182 0 239 (dk_at dksX0_mind_1 4 rfl rfl)
theorem dX0_mind_31 : decode cX0_mind 31 = .ok (.iload_n 3, 1) := dk_29 (dk_at dksX0_mind_1 7 rfl rfl)
theorem dX0_mind_32 : decode cX0_mind 32 = .ok (.invokevirtual 243, 3) := dk_182 0 243 (dk_at dksX0_mind_1 8 rfl rfl)
theorem dX0_mind_35 : decode cX0_mind 35 = .ok (.getfield 223, 3) := dk_180 0 223 (dk_at dksX0_mind_1 11 rfl rfl)
theorem dX0_mind_38 : decode cX0_mind 38 = .ok (.iload_n 1, 1) := dk_27 (dk_at dksX0_mind_1 14 rfl rfl)
theorem dX0_mind_39 : decode cX0_mind 39 = .ok (.aaload, 1) := dk_50 (dk_at dksX0_mind_1 15 rfl rfl)
theorem dX0_mind_40 : decode cX0_mind 40 = .ok (.iload_n 2, 1) := dk_28 (dk_at dksX0_mind_1 16 rfl rfl)
theorem dX0_mind_41 : decode cX0_mind 41 = .ok (.iaload, 1) := dk_46 (dk_at dksX0_mind_1 17 rfl rfl)
theorem dX0_mind_42 : decode cX0_mind 42 = .ok (.goto 4, 3) := dk_167 0 4 (dk_at dksX0_mind_1 18 rfl rfl)
theorem dX0_mind_45 : decode cX0_mind 45 = .ok (.iconst (-1), 1) := dk_2 (dk_at dksX0_mind_1 21 rfl rfl)
theorem dX0_mind_46 : decode cX0_mind 46 = .ok (.ireturn, 1) := dk_172 (dk_at dksX0_mind_1 22 rfl rfl)
abbrev cX0_curtain : ByteArray := prog_1_method_32_code
def yX0_curtain : MethodName := ⟨RX0, "curtain", "(I)I"⟩
def dkwX0_curtain_2 : List UInt8 := [172, 42, 180, 0, 73, 182, 0, 247, 87, 132, 2, 1, 167, 255, 220, 2, 172]
abbrev dktX0_curtain_2 : List UInt8 := dkwX0_curtain_2 ++ []
def dkwX0_curtain_1 : List UInt8 := [42, 28, 3, 16, 60, 182, 0, 236, 153, 0, 31, 42, 180, 0, 73, 180, 0, 174, 27, 46, 154, 0, 5, 28]
abbrev dktX0_curtain_1 : List UInt8 := dkwX0_curtain_1 ++ dktX0_curtain_2
def dkwX0_curtain_0 : List UInt8 := [42, 27, 182, 0, 161, 154, 0, 5, 2, 172, 42, 180, 0, 73, 42, 180, 0, 69, 182, 0, 239, 87, 3, 61]
abbrev dktX0_curtain_0 : List UInt8 := dkwX0_curtain_0 ++ dktX0_curtain_1
theorem dksX0_curtain_0 : cX0_curtain.data.toList.drop 0 = dktX0_curtain_0 := by decide +kernel
theorem dksX0_curtain_1 : cX0_curtain.data.toList.drop 24 = dktX0_curtain_1 := dk_seg dksX0_curtain_0 24 rfl rfl
theorem dksX0_curtain_2 : cX0_curtain.data.toList.drop 48 = dktX0_curtain_2 := dk_seg dksX0_curtain_1 24 rfl rfl
theorem dX0_curtain_0 : decode cX0_curtain 0 = .ok (.aload_n 0, 1) := dk_42 (dk_at dksX0_curtain_0 0 rfl rfl)
theorem dX0_curtain_1 : decode cX0_curtain 1 = .ok (.iload_n 1, 1) := dk_27 (dk_at dksX0_curtain_0 1 rfl rfl)
theorem dX0_curtain_2 : decode cX0_curtain 2 = .ok (.invokevirtual 161, 3) := dk_182 0 161 (dk_at dksX0_curtain_0 2 rfl rfl)
theorem dX0_curtain_5 : decode cX0_curtain 5 = .ok (.ifCond .ne 5, 3) := dk_154 0 5 (dk_at dksX0_curtain_0 5 rfl rfl)
theorem dX0_curtain_8 : decode cX0_curtain 8 = .ok (.iconst (-1), 1) := dk_2 (dk_at dksX0_curtain_0 8 rfl rfl)
theorem dX0_curtain_9 : decode cX0_curtain 9 = .ok (.ireturn, 1) := dk_172 (dk_at dksX0_curtain_0 9 rfl rfl)
theorem dX0_curtain_10 : decode cX0_curtain 10 = .ok (.aload_n 0, 1) := dk_42 (dk_at dksX0_curtain_0 10 rfl rfl)
theorem dX0_curtain_11 : decode cX0_curtain 11 = .ok (.getfield 73, 3) := dk_180 0 73 (dk_at dksX0_curtain_0 11 rfl rfl)
theorem dX0_curtain_14 : decode cX0_curtain 14 = .ok (.aload_n 0, 1) := dk_42 (dk_at dksX0_curtain_0 14 rfl rfl)
theorem dX0_curtain_15 : decode cX0_curtain 15 = .ok (.getfield 69, 3) := dk_180 0 69 (dk_at dksX0_curtain_0 15 rfl rfl)
theorem dX0_curtain_18 : decode cX0_curtain 18 = .ok (.invokevirtual 239, 3) := dk_182 0 239 (dk_at dksX0_curtain_0 18 rfl rfl)
theorem dX0_curtain_21 : decode cX0_curtain 21 = .ok (.pop, 1) := dk_87 (dk_at dksX0_curtain_0 21 rfl rfl)
theorem dX0_curtain_22 : decode cX0_curtain 22 = .ok (.iconst 0, 1) := dk_3 (dk_at dksX0_curtain_0 22 rfl rfl)
theorem dX0_curtain_23 : decode cX0_curtain 23 = .ok (.istore_n 2, 1) := dk_61 (dk_at dksX0_curtain_0 23 rfl rfl)
theorem dX0_curtain_24 : decode cX0_curtain 24 = .ok (.aload_n 0, 1) := dk_42 (dk_at dksX0_curtain_1 0 rfl rfl)
theorem dX0_curtain_25 : decode cX0_curtain 25 = .ok (.iload_n 2, 1) := dk_28 (dk_at dksX0_curtain_1 1 rfl rfl)
theorem dX0_curtain_26 : decode cX0_curtain 26 = .ok (.iconst 0, 1) := dk_3 (dk_at dksX0_curtain_1 2 rfl rfl)
theorem dX0_curtain_27 : decode cX0_curtain 27 = .ok (.bipush 60, 2) := dk_16 60 (dk_at dksX0_curtain_1 3 rfl rfl)
theorem dX0_curtain_29 : decode cX0_curtain 29 = .ok (.invokevirtual 236, 3) := dk_182 0 236 (dk_at dksX0_curtain_1 5 rfl rfl)
theorem dX0_curtain_32 : decode cX0_curtain 32 = .ok (.ifCond .eq 31, 3) := dk_153 0 31 (dk_at dksX0_curtain_1 8 rfl rfl)
theorem dX0_curtain_35 : decode cX0_curtain 35 = .ok (.aload_n 0, 1) := dk_42 (dk_at dksX0_curtain_1 11 rfl rfl)
theorem dX0_curtain_36 : decode cX0_curtain 36 = .ok (.getfield 73, 3) := dk_180 0 73 (dk_at dksX0_curtain_1 12 rfl rfl)
theorem dX0_curtain_39 : decode cX0_curtain 39 = .ok (.getfield 174, 3) := dk_180 0 174 (dk_at dksX0_curtain_1 15 rfl rfl)
theorem dX0_curtain_42 : decode cX0_curtain 42 = .ok (.iload_n 1, 1) := dk_27 (dk_at dksX0_curtain_1 18 rfl rfl)
theorem dX0_curtain_43 : decode cX0_curtain 43 = .ok (.iaload, 1) := dk_46 (dk_at dksX0_curtain_1 19 rfl rfl)
theorem dX0_curtain_44 : decode cX0_curtain 44 = .ok (.ifCond .ne 5, 3) := dk_154 0 5 (dk_at dksX0_curtain_1 20 rfl rfl)
theorem dX0_curtain_47 : decode cX0_curtain 47 = .ok (.iload_n 2, 1) := dk_28 (dk_at dksX0_curtain_1 23 rfl rfl)
theorem dX0_curtain_48 : decode cX0_curtain 48 = .ok (.ireturn, 1) := dk_172 (dk_at dksX0_curtain_2 0 rfl rfl)
theorem dX0_curtain_49 : decode cX0_curtain 49 = .ok (.aload_n 0, 1) := dk_42 (dk_at dksX0_curtain_2 1 rfl rfl)
theorem dX0_curtain_50 : decode cX0_curtain 50 = .ok (.getfield 73, 3) := dk_180 0 73 (dk_at dksX0_curtain_2 2 rfl rfl)
theorem dX0_curtain_53 : decode cX0_curtain 53 = .ok (.invokevirtual 247, 3) := dk_182 0 247 (dk_at dksX0_curtain_2 5 rfl rfl)
theorem dX0_curtain_56 : decode cX0_curtain 56 = .ok (.pop, 1) := dk_87 (dk_at dksX0_curtain_2 8 rfl rfl)
theorem dX0_curtain_57 : decode cX0_curtain 57 = .ok (.iinc 2 1, 3) := dk_132 2 1 (dk_at dksX0_curtain_2 9 rfl rfl)
theorem dX0_curtain_60 : decode cX0_curtain 60 = .ok (.goto (-36), 3) := dk_167 255 220 (dk_at dksX0_curtain_2 12 rfl rfl)
theorem dX0_curtain_63 : decode cX0_curtain 63 = .ok (.iconst (-1), 1) := dk_2 (dk_at dksX0_curtain_2 15 rfl rfl)
theorem dX0_curtain_64 : decode cX0_curtain 64 = .ok (.ireturn, 1) := dk_172 (dk_at dksX0_curtain_2 16 rfl rfl)
abbrev cX0_changed : ByteArray := prog_1_method_33_code
def yX0_changed : MethodName := ⟨RX0, "changed", "(II)I"⟩
def dkwX0_changed_7 : List UInt8 := [167, 0, 4, 29, 172]
abbrev dktX0_changed_7 : List UInt8 := dkwX0_changed_7 ++ []
def dkwX0_changed_6 : List UInt8 := [160, 0, 7, 2, 167, 0, 23, 28, 154, 0, 8, 21, 4, 167, 0, 14, 28, 4, 160, 0, 8, 21, 5]
abbrev dktX0_changed_6 : List UInt8 := dkwX0_changed_6 ++ dktX0_changed_7
def dkwX0_changed_5 : List UInt8 := [21, 6, 54, 4, 21, 7, 54, 5, 132, 7, 1, 167, 255, 194, 132, 6, 1, 167, 255, 170, 21, 4, 2]
abbrev dktX0_changed_5 : List UInt8 := dkwX0_changed_5 ++ dktX0_changed_6
def dkwX0_changed_4 : List UInt8 := [182, 0, 250, 27, 182, 0, 243, 182, 0, 184, 54, 8, 21, 8, 29, 163, 0, 6, 167, 0, 14, 21, 8, 62]
abbrev dktX0_changed_4 : List UInt8 := dkwX0_changed_4 ++ dktX0_changed_5
def dkwX0_changed_3 : List UInt8 := [180, 0, 31, 180, 0, 146, 162, 0, 56, 42, 180, 0, 73, 42, 180, 0, 69, 182, 0, 239, 21, 6, 21, 7]
abbrev dktX0_changed_3 : List UInt8 := dkwX0_changed_3 ++ dktX0_changed_4
def dkwX0_changed_2 : List UInt8 := [3, 54, 6, 21, 6, 42, 180, 0, 31, 180, 0, 146, 162, 0, 80, 21, 6, 4, 96, 54, 7, 21, 7, 42]
abbrev dktX0_changed_2 : List UInt8 := dkwX0_changed_2 ++ dktX0_changed_3
def dkwX0_changed_1 : List UInt8 := [180, 0, 73, 42, 180, 0, 69, 182, 0, 239, 27, 182, 0, 243, 182, 0, 184, 62, 2, 54, 4, 2, 54, 5]
abbrev dktX0_changed_1 : List UInt8 := dkwX0_changed_1 ++ dktX0_changed_2
def dkwX0_changed_0 : List UInt8 := [42, 27, 4, 16, 20, 182, 0, 236, 153, 0, 12, 28, 3, 5, 184, 0, 190, 154, 0, 5, 2, 172, 42]
abbrev dktX0_changed_0 : List UInt8 := dkwX0_changed_0 ++ dktX0_changed_1
theorem dksX0_changed_0 : cX0_changed.data.toList.drop 0 = dktX0_changed_0 := by decide +kernel
theorem dksX0_changed_1 : cX0_changed.data.toList.drop 23 = dktX0_changed_1 := dk_seg dksX0_changed_0 23 rfl rfl
theorem dksX0_changed_2 : cX0_changed.data.toList.drop 47 = dktX0_changed_2 := dk_seg dksX0_changed_1 24 rfl rfl
theorem dksX0_changed_3 : cX0_changed.data.toList.drop 71 = dktX0_changed_3 := dk_seg dksX0_changed_2 24 rfl rfl
theorem dksX0_changed_4 : cX0_changed.data.toList.drop 95 = dktX0_changed_4 := dk_seg dksX0_changed_3 24 rfl rfl
theorem dksX0_changed_5 : cX0_changed.data.toList.drop 119 = dktX0_changed_5 := dk_seg dksX0_changed_4 24 rfl rfl
theorem dksX0_changed_6 : cX0_changed.data.toList.drop 142 = dktX0_changed_6 := dk_seg dksX0_changed_5 23 rfl rfl
theorem dksX0_changed_7 : cX0_changed.data.toList.drop 165 = dktX0_changed_7 := dk_seg dksX0_changed_6 23 rfl rfl
theorem dX0_changed_0 : decode cX0_changed 0 = .ok (.aload_n 0, 1) := dk_42 (dk_at dksX0_changed_0 0 rfl rfl)
theorem dX0_changed_1 : decode cX0_changed 1 = .ok (.iload_n 1, 1) := dk_27 (dk_at dksX0_changed_0 1 rfl rfl)
theorem dX0_changed_2 : decode cX0_changed 2 = .ok (.iconst 1, 1) := dk_4 (dk_at dksX0_changed_0 2 rfl rfl)
theorem dX0_changed_3 : decode cX0_changed 3 = .ok (.bipush 20, 2) := dk_16 20 (dk_at dksX0_changed_0 3 rfl rfl)
theorem dX0_changed_5 : decode cX0_changed 5 = .ok (.invokevirtual 236, 3) := dk_182 0 236 (dk_at dksX0_changed_0 5 rfl rfl)
theorem dX0_changed_8 : decode cX0_changed 8 = .ok (.ifCond .eq 12, 3) := dk_153 0 12 (dk_at dksX0_changed_0 8 rfl rfl)
theorem dX0_changed_11 : decode cX0_changed 11 = .ok (.iload_n 2, 1) := dk_28 (dk_at dksX0_changed_0 11 rfl rfl)
theorem dX0_changed_12 : decode cX0_changed 12 = .ok (.iconst 0, 1) := dk_3 (dk_at dksX0_changed_0 12 rfl rfl)
theorem dX0_changed_13 : decode cX0_changed 13 = .ok (.iconst 2, 1) := dk_5 (dk_at dksX0_changed_0 13 rfl rfl)
theorem dX0_changed_14 : decode cX0_changed 14 = .ok (.invokestatic 190, 3) := dk_184 0 190 (dk_at dksX0_changed_0 14 rfl rfl)
theorem dX0_changed_17 : decode cX0_changed 17 = .ok (.ifCond .ne 5, 3) := dk_154 0 5 (dk_at dksX0_changed_0 17 rfl rfl)
theorem dX0_changed_20 : decode cX0_changed 20 = .ok (.iconst (-1), 1) := dk_2 (dk_at dksX0_changed_0 20 rfl rfl)
theorem dX0_changed_21 : decode cX0_changed 21 = .ok (.ireturn, 1) := dk_172 (dk_at dksX0_changed_0 21 rfl rfl)
theorem dX0_changed_22 : decode cX0_changed 22 = .ok (.aload_n 0, 1) := dk_42 (dk_at dksX0_changed_0 22 rfl rfl)
theorem dX0_changed_23 : decode cX0_changed 23 = .ok (.getfield 73, 3) := dk_180 0 73 (dk_at dksX0_changed_1 0 rfl rfl)
theorem dX0_changed_26 : decode cX0_changed 26 = .ok (.aload_n 0, 1) := dk_42 (dk_at dksX0_changed_1 3 rfl rfl)
theorem dX0_changed_27 : decode cX0_changed 27 = .ok (.getfield 69, 3) := dk_180 0 69 (dk_at dksX0_changed_1 4 rfl rfl)
theorem dX0_changed_30 : decode cX0_changed 30 = .ok (.invokevirtual 239, 3) := dk_182 0 239 (dk_at dksX0_changed_1 7 rfl rfl)
theorem dX0_changed_33 : decode cX0_changed 33 = .ok (.iload_n 1, 1) := dk_27 (dk_at dksX0_changed_1 10 rfl rfl)
theorem dX0_changed_34 : decode cX0_changed 34 = .ok (.invokevirtual 243, 3) := dk_182 0 243 (dk_at dksX0_changed_1 11 rfl rfl)
theorem dX0_changed_37 : decode cX0_changed 37 = .ok (.invokevirtual 184, 3) := dk_182 0 184 (dk_at dksX0_changed_1 14 rfl rfl)
theorem dX0_changed_40 : decode cX0_changed 40 = .ok (.istore_n 3, 1) := dk_62 (dk_at dksX0_changed_1 17 rfl rfl)
theorem dX0_changed_41 : decode cX0_changed 41 = .ok (.iconst (-1), 1) := dk_2 (dk_at dksX0_changed_1 18 rfl rfl)
theorem dX0_changed_42 : decode cX0_changed 42 = .ok (.istore 4, 2) := dk_54 4 (dk_at dksX0_changed_1 19 rfl rfl)
theorem dX0_changed_44 : decode cX0_changed 44 = .ok (.iconst (-1), 1) := dk_2 (dk_at dksX0_changed_1 21 rfl rfl)
theorem dX0_changed_45 : decode cX0_changed 45 = .ok (.istore 5, 2) := dk_54 5 (dk_at dksX0_changed_1 22 rfl rfl)
theorem dX0_changed_47 : decode cX0_changed 47 = .ok (.iconst 0, 1) := dk_3 (dk_at dksX0_changed_2 0 rfl rfl)
theorem dX0_changed_48 : decode cX0_changed 48 = .ok (.istore 6, 2) := dk_54 6 (dk_at dksX0_changed_2 1 rfl rfl)
theorem dX0_changed_50 : decode cX0_changed 50 = .ok (.iload 6, 2) := dk_21 6 (dk_at dksX0_changed_2 3 rfl rfl)
theorem dX0_changed_52 : decode cX0_changed 52 = .ok (.aload_n 0, 1) := dk_42 (dk_at dksX0_changed_2 5 rfl rfl)
theorem dX0_changed_53 : decode cX0_changed 53 = .ok (.getfield 31, 3) := dk_180 0 31 (dk_at dksX0_changed_2 6 rfl rfl)
theorem dX0_changed_56 : decode cX0_changed 56 = .ok (.getfield 146, 3) := dk_180 0 146 (dk_at dksX0_changed_2 9 rfl rfl)
theorem dX0_changed_59 : decode cX0_changed 59 = .ok (.if_icmp .ge 80, 3) := dk_162 0 80 (dk_at dksX0_changed_2 12 rfl rfl)
theorem dX0_changed_62 : decode cX0_changed 62 = .ok (.iload 6, 2) := dk_21 6 (dk_at dksX0_changed_2 15 rfl rfl)
theorem dX0_changed_64 : decode cX0_changed 64 = .ok (.iconst 1, 1) := dk_4 (dk_at dksX0_changed_2 17 rfl rfl)
theorem dX0_changed_65 : decode cX0_changed 65 = .ok (.iadd, 1) := dk_96 (dk_at dksX0_changed_2 18 rfl rfl)
theorem dX0_changed_66 : decode cX0_changed 66 = .ok (.istore 7, 2) := dk_54 7 (dk_at dksX0_changed_2 19 rfl rfl)
theorem dX0_changed_68 : decode cX0_changed 68 = .ok (.iload 7, 2) := dk_21 7 (dk_at dksX0_changed_2 21 rfl rfl)
theorem dX0_changed_70 : decode cX0_changed 70 = .ok (.aload_n 0, 1) := dk_42 (dk_at dksX0_changed_2 23 rfl rfl)
theorem dX0_changed_71 : decode cX0_changed 71 = .ok (.getfield 31, 3) := dk_180 0 31 (dk_at dksX0_changed_3 0 rfl rfl)
theorem dX0_changed_74 : decode cX0_changed 74 = .ok (.getfield 146, 3) := dk_180 0 146 (dk_at dksX0_changed_3 3 rfl rfl)
theorem dX0_changed_77 : decode cX0_changed 77 = .ok (.if_icmp .ge 56, 3) := dk_162 0 56 (dk_at dksX0_changed_3 6 rfl rfl)
theorem dX0_changed_80 : decode cX0_changed 80 = .ok (.aload_n 0, 1) := dk_42 (dk_at dksX0_changed_3 9 rfl rfl)
theorem dX0_changed_81 : decode cX0_changed 81 = .ok (.getfield 73, 3) := dk_180 0 73 (dk_at dksX0_changed_3 10 rfl rfl)
theorem dX0_changed_84 : decode cX0_changed 84 = .ok (.aload_n 0, 1) := dk_42 (dk_at dksX0_changed_3 13 rfl rfl)
theorem dX0_changed_85 : decode cX0_changed 85 = .ok (.getfield 69, 3) := dk_180 0 69 (dk_at dksX0_changed_3 14 rfl rfl)
theorem dX0_changed_88 : decode cX0_changed 88 = .ok (.invokevirtual 239, 3) := dk_182 0 239 (dk_at dksX0_changed_3 17 rfl rfl)
theorem dX0_changed_91 : decode cX0_changed 91 = .ok (.iload 6, 2) := dk_21 6 (dk_at dksX0_changed_3 20 rfl rfl)
theorem dX0_changed_93 : decode cX0_changed 93 = .ok (.iload 7, 2) := dk_21 7 (dk_at dksX0_changed_3 22 rfl rfl)
theorem dX0_changed_95 : decode cX0_changed 95 = .ok (.invokevirtual 250, 3) := dk_182 0 250 (dk_at dksX0_changed_4 0 rfl rfl)
theorem dX0_changed_98 : decode cX0_changed 98 = .ok (.iload_n 1, 1) := dk_27 (dk_at dksX0_changed_4 3 rfl rfl)
theorem dX0_changed_99 : decode cX0_changed 99 = .ok (.invokevirtual 243, 3) := dk_182 0 243 (dk_at dksX0_changed_4 4 rfl rfl)
theorem dX0_changed_102 : decode cX0_changed 102 = .ok (.invokevirtual 184, 3) := dk_182 0 184 (dk_at dksX0_changed_4 7 rfl rfl)
theorem dX0_changed_105 : decode cX0_changed 105 = .ok (.istore 8, 2) := dk_54 8 (dk_at dksX0_changed_4 10 rfl rfl)
theorem dX0_changed_107 : decode cX0_changed 107 = .ok (.iload 8, 2) := dk_21 8 (dk_at dksX0_changed_4 12 rfl rfl)
theorem dX0_changed_109 : decode cX0_changed 109 = .ok (.iload_n 3, 1) := dk_29 (dk_at dksX0_changed_4 14 rfl rfl)
theorem dX0_changed_110 : decode cX0_changed 110 = .ok (.if_icmp .gt 6, 3) := dk_163 0 6 (dk_at dksX0_changed_4 15 rfl rfl)
theorem dX0_changed_113 : decode cX0_changed 113 = .ok (.goto 14, 3) := dk_167 0 14 (dk_at dksX0_changed_4 18 rfl rfl)
theorem dX0_changed_116 : decode cX0_changed 116 = .ok (.iload 8, 2) := dk_21 8 (dk_at dksX0_changed_4 21 rfl rfl)
theorem dX0_changed_118 : decode cX0_changed 118 = .ok (.istore_n 3, 1) := dk_62 (dk_at dksX0_changed_4 23 rfl rfl)
theorem dX0_changed_119 : decode cX0_changed 119 = .ok (.iload 6, 2) := dk_21 6 (dk_at dksX0_changed_5 0 rfl rfl)
theorem dX0_changed_121 : decode cX0_changed 121 = .ok (.istore 4, 2) := dk_54 4 (dk_at dksX0_changed_5 2 rfl rfl)
theorem dX0_changed_123 : decode cX0_changed 123 = .ok (.iload 7, 2) := dk_21 7 (dk_at dksX0_changed_5 4 rfl rfl)
theorem dX0_changed_125 : decode cX0_changed 125 = .ok (.istore 5, 2) := dk_54 5 (dk_at dksX0_changed_5 6 rfl rfl)
theorem dX0_changed_127 : decode cX0_changed 127 = .ok (.iinc 7 1, 3) := dk_132 7 1 (dk_at dksX0_changed_5 8 rfl rfl)
theorem dX0_changed_130 : decode cX0_changed 130 = .ok (.goto (-62), 3) := dk_167 255 194 (dk_at dksX0_changed_5 11 rfl rfl)
theorem dX0_changed_133 : decode cX0_changed 133 = .ok (.iinc 6 1, 3) := dk_132 6 1 (dk_at dksX0_changed_5 14 rfl rfl)
theorem dX0_changed_136 : decode cX0_changed 136 = .ok (.goto (-86), 3) := dk_167 255 170 (dk_at dksX0_changed_5 17 rfl rfl)
theorem dX0_changed_139 : decode cX0_changed 139 = .ok (.iload 4, 2) := dk_21 4 (dk_at dksX0_changed_5 20 rfl rfl)
theorem dX0_changed_141 : decode cX0_changed 141 = .ok (.iconst (-1), 1) := dk_2 (dk_at dksX0_changed_5 22 rfl rfl)
theorem dX0_changed_142 : decode cX0_changed 142 = .ok (.if_icmp .ne 7, 3) := dk_160 0 7 (dk_at dksX0_changed_6 0 rfl rfl)
theorem dX0_changed_145 : decode cX0_changed 145 = .ok (.iconst (-1), 1) := dk_2 (dk_at dksX0_changed_6 3 rfl rfl)
theorem dX0_changed_146 : decode cX0_changed 146 = .ok (.goto 23, 3) := dk_167 0 23 (dk_at dksX0_changed_6 4 rfl rfl)
theorem dX0_changed_149 : decode cX0_changed 149 = .ok (.iload_n 2, 1) := dk_28 (dk_at dksX0_changed_6 7 rfl rfl)
theorem dX0_changed_150 : decode cX0_changed 150 = .ok (.ifCond .ne 8, 3) := dk_154 0 8 (dk_at dksX0_changed_6 8 rfl rfl)
theorem dX0_changed_153 : decode cX0_changed 153 = .ok (.iload 4, 2) := dk_21 4 (dk_at dksX0_changed_6 11 rfl rfl)
theorem dX0_changed_155 : decode cX0_changed 155 = .ok (.goto 14, 3) := dk_167 0 14 (dk_at dksX0_changed_6 13 rfl rfl)
theorem dX0_changed_158 : decode cX0_changed 158 = .ok (.iload_n 2, 1) := dk_28 (dk_at dksX0_changed_6 16 rfl rfl)
theorem dX0_changed_159 : decode cX0_changed 159 = .ok (.iconst 1, 1) := dk_4 (dk_at dksX0_changed_6 17 rfl rfl)
theorem dX0_changed_160 : decode cX0_changed 160 = .ok (.if_icmp .ne 8, 3) := dk_160 0 8 (dk_at dksX0_changed_6 18 rfl rfl)
theorem dX0_changed_163 : decode cX0_changed 163 = .ok (.iload 5, 2) := dk_21 5 (dk_at dksX0_changed_6 21 rfl rfl)
theorem dX0_changed_165 : decode cX0_changed 165 = .ok (.goto 4, 3) := dk_167 0 4 (dk_at dksX0_changed_7 0 rfl rfl)
theorem dX0_changed_168 : decode cX0_changed 168 = .ok (.iload_n 3, 1) := dk_29 (dk_at dksX0_changed_7 3 rfl rfl)
theorem dX0_changed_169 : decode cX0_changed 169 = .ok (.ireturn, 1) := dk_172 (dk_at dksX0_changed_7 4 rfl rfl)
abbrev cX0_stranger : ByteArray := prog_1_method_34_code
def yX0_stranger : MethodName := ⟨RX0, "stranger", "(IIII)I"⟩
def dkwX0_stranger_6 : List UInt8 := [167, 255, 175, 21, 4, 154, 0, 8, 21, 5, 167, 0, 5, 21, 6, 172]
abbrev dktX0_stranger_6 : List UInt8 := dkwX0_stranger_6 ++ []
def dkwX0_stranger_5 : List UInt8 := [46, 54, 8, 21, 8, 21, 6, 163, 0, 6, 167, 0, 11, 21, 8, 54, 6, 21, 7, 54, 5, 132, 7, 1]
abbrev dktX0_stranger_5 : List UInt8 := dkwX0_stranger_5 ++ dktX0_stranger_6
def dkwX0_stranger_4 : List UInt8 := [180, 0, 69, 182, 0, 239, 21, 7, 27, 28, 182, 0, 254, 29, 182, 0, 243, 180, 0, 174, 42, 182, 0, 158]
abbrev dktX0_stranger_4 : List UInt8 := dkwX0_stranger_4 ++ dktX0_stranger_5
def dkwX0_stranger_3 : List UInt8 := [162, 0, 75, 42, 180, 0, 69, 21, 7, 182, 0, 204, 2, 159, 0, 6, 167, 0, 53, 42, 180, 0, 73, 42]
abbrev dktX0_stranger_3 : List UInt8 := dkwX0_stranger_3 ++ dktX0_stranger_4
def dkwX0_stranger_2 : List UInt8 := [160, 0, 5, 2, 172, 2, 54, 5, 2, 54, 6, 3, 54, 7, 21, 7, 42, 180, 0, 31, 180, 0, 146]
abbrev dktX0_stranger_2 : List UInt8 := dkwX0_stranger_2 ++ dktX0_stranger_3
def dkwX0_stranger_1 : List UInt8 := [16, 20, 182, 0, 236, 153, 0, 22, 21, 4, 3, 4, 184, 0, 190, 153, 0, 12, 42, 182, 0, 158, 16, 8]
abbrev dktX0_stranger_1 : List UInt8 := dkwX0_stranger_1 ++ dktX0_stranger_2
def dkwX0_stranger_0 : List UInt8 := [27, 3, 16, 9, 184, 0, 190, 153, 0, 43, 28, 3, 16, 9, 184, 0, 190, 153, 0, 33, 42, 29, 4]
abbrev dktX0_stranger_0 : List UInt8 := dkwX0_stranger_0 ++ dktX0_stranger_1
theorem dksX0_stranger_0 : cX0_stranger.data.toList.drop 0 = dktX0_stranger_0 := by decide +kernel
theorem dksX0_stranger_1 : cX0_stranger.data.toList.drop 23 = dktX0_stranger_1 := dk_seg dksX0_stranger_0 23 rfl rfl
theorem dksX0_stranger_2 : cX0_stranger.data.toList.drop 47 = dktX0_stranger_2 := dk_seg dksX0_stranger_1 24 rfl rfl
theorem dksX0_stranger_3 : cX0_stranger.data.toList.drop 70 = dktX0_stranger_3 := dk_seg dksX0_stranger_2 23 rfl rfl
theorem dksX0_stranger_4 : cX0_stranger.data.toList.drop 94 = dktX0_stranger_4 := dk_seg dksX0_stranger_3 24 rfl rfl
theorem dksX0_stranger_5 : cX0_stranger.data.toList.drop 118 = dktX0_stranger_5 := dk_seg dksX0_stranger_4 24 rfl rfl
theorem dksX0_stranger_6 : cX0_stranger.data.toList.drop 142 = dktX0_stranger_6 := dk_seg dksX0_stranger_5 24 rfl rfl
theorem dX0_stranger_0 : decode cX0_stranger 0 = .ok (.iload_n 1, 1) := dk_27 (dk_at dksX0_stranger_0 0 rfl rfl)
theorem dX0_stranger_1 : decode cX0_stranger 1 = .ok (.iconst 0, 1) := dk_3 (dk_at dksX0_stranger_0 1 rfl rfl)
theorem dX0_stranger_2 : decode cX0_stranger 2 = .ok (.bipush 9, 2) := dk_16 9 (dk_at dksX0_stranger_0 2 rfl rfl)
theorem dX0_stranger_4 : decode cX0_stranger 4 = .ok (.invokestatic 190, 3) := dk_184 0 190 (dk_at dksX0_stranger_0 4 rfl rfl)
theorem dX0_stranger_7 : decode cX0_stranger 7 = .ok (.ifCond .eq 43, 3) := dk_153 0 43 (dk_at dksX0_stranger_0 7 rfl rfl)
theorem dX0_stranger_10 : decode cX0_stranger 10 = .ok (.iload_n 2, 1) := dk_28 (dk_at dksX0_stranger_0 10 rfl rfl)
theorem dX0_stranger_11 : decode cX0_stranger 11 = .ok (.iconst 0, 1) := dk_3 (dk_at dksX0_stranger_0 11 rfl rfl)
theorem dX0_stranger_12 : decode cX0_stranger 12 = .ok (.bipush 9, 2) := dk_16 9 (dk_at dksX0_stranger_0 12 rfl rfl)
theorem dX0_stranger_14 : decode cX0_stranger 14 = .ok (.invokestatic 190, 3) := dk_184 0 190 (dk_at dksX0_stranger_0 14 rfl rfl)
theorem dX0_stranger_17 : decode cX0_stranger 17 = .ok (.ifCond .eq 33, 3) := dk_153 0 33 (dk_at dksX0_stranger_0 17 rfl rfl)
theorem dX0_stranger_20 : decode cX0_stranger 20 = .ok (.aload_n 0, 1) := dk_42 (dk_at dksX0_stranger_0 20 rfl rfl)
theorem dX0_stranger_21 : decode cX0_stranger 21 = .ok (.iload_n 3, 1) := dk_29 (dk_at dksX0_stranger_0 21 rfl rfl)
theorem dX0_stranger_22 : decode cX0_stranger 22 = .ok (.iconst 1, 1) := dk_4 (dk_at dksX0_stranger_0 22 rfl rfl)
theorem dX0_stranger_23 : decode cX0_stranger 23 = .ok (.bipush 20, 2) := dk_16 20 (dk_at dksX0_stranger_1 0 rfl rfl)
theorem dX0_stranger_25 : decode cX0_stranger 25 = .ok (.invokevirtual 236, 3) := dk_182 0 236 (dk_at dksX0_stranger_1 2 rfl rfl)
theorem dX0_stranger_28 : decode cX0_stranger 28 = .ok (.ifCond .eq 22, 3) := dk_153 0 22 (dk_at dksX0_stranger_1 5 rfl rfl)
theorem dX0_stranger_31 : decode cX0_stranger 31 = .ok (.iload 4, 2) := dk_21 4 (dk_at dksX0_stranger_1 8 rfl rfl)
theorem dX0_stranger_33 : decode cX0_stranger 33 = .ok (.iconst 0, 1) := dk_3 (dk_at dksX0_stranger_1 10 rfl rfl)
theorem dX0_stranger_34 : decode cX0_stranger 34 = .ok (.iconst 1, 1) := dk_4 (dk_at dksX0_stranger_1 11 rfl rfl)
theorem dX0_stranger_35 : decode cX0_stranger 35 = .ok (.invokestatic 190, 3) := dk_184 0 190 (dk_at dksX0_stranger_1 12 rfl rfl)
theorem dX0_stranger_38 : decode cX0_stranger 38 = .ok (.ifCond .eq 12, 3) := dk_153 0 12 (dk_at dksX0_stranger_1 15 rfl rfl)
theorem dX0_stranger_41 : decode cX0_stranger 41 = .ok (.aload_n 0, 1) := dk_42 (dk_at dksX0_stranger_1 18 rfl rfl)
theorem dX0_stranger_42 : decode cX0_stranger 42 = .ok (.invokevirtual 158, 3) := dk_182 0 158 (dk_at dksX0_stranger_1 19 rfl rfl)
theorem dX0_stranger_45 : decode cX0_stranger 45 = .ok (.bipush 8, 2) := dk_16 8 (dk_at dksX0_stranger_1 22 rfl rfl)
theorem dX0_stranger_47 : decode cX0_stranger 47 = .ok (.if_icmp .ne 5, 3) := dk_160 0 5 (dk_at dksX0_stranger_2 0 rfl rfl)
theorem dX0_stranger_50 : decode cX0_stranger 50 = .ok (.iconst (-1), 1) := dk_2 (dk_at dksX0_stranger_2 3 rfl rfl)
theorem dX0_stranger_51 : decode cX0_stranger 51 = .ok (.ireturn, 1) := dk_172 (dk_at dksX0_stranger_2 4 rfl rfl)
theorem dX0_stranger_52 : decode cX0_stranger 52 = .ok (.iconst (-1), 1) := dk_2 (dk_at dksX0_stranger_2 5 rfl rfl)
theorem dX0_stranger_53 : decode cX0_stranger 53 = .ok (.istore 5, 2) := dk_54 5 (dk_at dksX0_stranger_2 6 rfl rfl)
theorem dX0_stranger_55 : decode cX0_stranger 55 = .ok (.iconst (-1), 1) := dk_2 (dk_at dksX0_stranger_2 8 rfl rfl)
theorem dX0_stranger_56 : decode cX0_stranger 56 = .ok (.istore 6, 2) := dk_54 6 (dk_at dksX0_stranger_2 9 rfl rfl)
theorem dX0_stranger_58 : decode cX0_stranger 58 = .ok (.iconst 0, 1) := dk_3 (dk_at dksX0_stranger_2 11 rfl rfl)
theorem dX0_stranger_59 : decode cX0_stranger 59 = .ok (.istore 7, 2) := dk_54 7 (dk_at dksX0_stranger_2 12 rfl rfl)
theorem dX0_stranger_61 : decode cX0_stranger 61 = .ok (.iload 7, 2) := dk_21 7 (dk_at dksX0_stranger_2 14 rfl rfl)
theorem dX0_stranger_63 : decode cX0_stranger 63 = .ok (.aload_n 0, 1) := dk_42 (dk_at dksX0_stranger_2 16 rfl rfl)
theorem dX0_stranger_64 : decode cX0_stranger 64 = .ok (.getfield 31, 3) := dk_180 0 31 (dk_at dksX0_stranger_2 17 rfl rfl)
theorem dX0_stranger_67 : decode cX0_stranger 67 = .ok (.getfield 146, 3) := dk_180 0 146 (dk_at dksX0_stranger_2 20 rfl rfl)
theorem dX0_stranger_70 : decode cX0_stranger 70 = .ok (.if_icmp .ge 75, 3) := dk_162 0 75 (dk_at dksX0_stranger_3 0 rfl rfl)
theorem dX0_stranger_73 : decode cX0_stranger 73 = .ok (.aload_n 0, 1) := dk_42 (dk_at dksX0_stranger_3 3 rfl rfl)
theorem dX0_stranger_74 : decode cX0_stranger 74 = .ok (.getfield 69, 3) := dk_180 0 69 (dk_at dksX0_stranger_3 4 rfl rfl)
theorem dX0_stranger_77 : decode cX0_stranger 77 = .ok (.iload 7, 2) := dk_21 7 (dk_at dksX0_stranger_3 7 rfl rfl)
theorem dX0_stranger_79 : decode cX0_stranger 79 = .ok (.invokevirtual 204, 3) := dk_182 0 204 (dk_at dksX0_stranger_3 9 rfl rfl)
theorem dX0_stranger_82 : decode cX0_stranger 82 = .ok (.iconst (-1), 1) := dk_2 (dk_at dksX0_stranger_3 12 rfl rfl)
theorem dX0_stranger_83 : decode cX0_stranger 83 = .ok (.if_icmp .eq 6, 3) := dk_159 0 6 (dk_at dksX0_stranger_3 13 rfl rfl)
theorem dX0_stranger_86 : decode cX0_stranger 86 = .ok (.goto 53, 3) := dk_167 0 53 (dk_at dksX0_stranger_3 16 rfl rfl)
theorem dX0_stranger_89 : decode cX0_stranger 89 = .ok (.aload_n 0, 1) := dk_42 (dk_at dksX0_stranger_3 19 rfl rfl)
theorem dX0_stranger_90 : decode cX0_stranger 90 = .ok (.getfield 73, 3) := dk_180 0 73 (dk_at dksX0_stranger_3 20 rfl rfl)
theorem dX0_stranger_93 : decode cX0_stranger 93 = .ok (.aload_n 0, 1) := dk_42 (dk_at dksX0_stranger_3 23 rfl rfl)
theorem dX0_stranger_94 : decode cX0_stranger 94 = .ok (.getfield 69, 3) := dk_180 0 69 (dk_at dksX0_stranger_4 0 rfl rfl)
theorem dX0_stranger_97 : decode cX0_stranger 97 = .ok (.invokevirtual 239, 3) := dk_182 0 239 (dk_at dksX0_stranger_4 3 rfl rfl)
theorem dX0_stranger_100 : decode cX0_stranger 100 = .ok (.iload 7, 2) := dk_21 7 (dk_at dksX0_stranger_4 6 rfl rfl)
theorem dX0_stranger_102 : decode cX0_stranger 102 = .ok (.iload_n 1, 1) := dk_27 (dk_at dksX0_stranger_4 8 rfl rfl)
theorem dX0_stranger_103 : decode cX0_stranger 103 = .ok (.iload_n 2, 1) := dk_28 (dk_at dksX0_stranger_4 9 rfl rfl)
theorem dX0_stranger_104 : decode cX0_stranger 104 = .ok (.invokevirtual 254, 3) := dk_182 0 254 (dk_at dksX0_stranger_4 10 rfl rfl)
theorem dX0_stranger_107 : decode cX0_stranger 107 = .ok (.iload_n 3, 1) := dk_29 (dk_at dksX0_stranger_4 13 rfl rfl)
theorem dX0_stranger_108 : decode cX0_stranger 108 = .ok (.invokevirtual 243, 3) := dk_182 0 243 (dk_at dksX0_stranger_4 14 rfl rfl)
theorem dX0_stranger_111 : decode cX0_stranger 111 = .ok (.getfield 174, 3) := dk_180 0 174 (dk_at dksX0_stranger_4 17 rfl rfl)
theorem dX0_stranger_114 : decode cX0_stranger 114 = .ok (.aload_n 0, 1) := dk_42 (dk_at dksX0_stranger_4 20 rfl rfl)
theorem dX0_stranger_115 : decode cX0_stranger 115 = .ok (.invokevirtual 158, 3) := dk_182 0 158 (dk_at dksX0_stranger_4 21 rfl rfl)
theorem dX0_stranger_118 : decode cX0_stranger 118 = .ok (.iaload, 1) := dk_46 (dk_at dksX0_stranger_5 0 rfl rfl)
theorem dX0_stranger_119 : decode cX0_stranger 119 = .ok (.istore 8, 2) := dk_54 8 (dk_at dksX0_stranger_5 1 rfl rfl)
theorem dX0_stranger_121 : decode cX0_stranger 121 = .ok (.iload 8, 2) := dk_21 8 (dk_at dksX0_stranger_5 3 rfl rfl)
theorem dX0_stranger_123 : decode cX0_stranger 123 = .ok (.iload 6, 2) := dk_21 6 (dk_at dksX0_stranger_5 5 rfl rfl)
theorem dX0_stranger_125 : decode cX0_stranger 125 = .ok (.if_icmp .gt 6, 3) := dk_163 0 6 (dk_at dksX0_stranger_5 7 rfl rfl)
theorem dX0_stranger_128 : decode cX0_stranger 128 = .ok (.goto 11, 3) := dk_167 0 11 (dk_at dksX0_stranger_5 10 rfl rfl)
theorem dX0_stranger_131 : decode cX0_stranger 131 = .ok (.iload 8, 2) := dk_21 8 (dk_at dksX0_stranger_5 13 rfl rfl)
theorem dX0_stranger_133 : decode cX0_stranger 133 = .ok (.istore 6, 2) := dk_54 6 (dk_at dksX0_stranger_5 15 rfl rfl)
theorem dX0_stranger_135 : decode cX0_stranger 135 = .ok (.iload 7, 2) := dk_21 7 (dk_at dksX0_stranger_5 17 rfl rfl)
theorem dX0_stranger_137 : decode cX0_stranger 137 = .ok (.istore 5, 2) := dk_54 5 (dk_at dksX0_stranger_5 19 rfl rfl)
theorem dX0_stranger_139 : decode cX0_stranger 139 = .ok (.iinc 7 1, 3) := dk_132 7 1 (dk_at dksX0_stranger_5 21 rfl rfl)
theorem dX0_stranger_142 : decode cX0_stranger 142 = .ok (.goto (-81), 3) := dk_167 255 175 (dk_at dksX0_stranger_6 0 rfl rfl)
theorem dX0_stranger_145 : decode cX0_stranger 145 = .ok (.iload 4, 2) := dk_21 4 (dk_at dksX0_stranger_6 3 rfl rfl)
theorem dX0_stranger_147 : decode cX0_stranger 147 = .ok (.ifCond .ne 8, 3) := dk_154 0 8 (dk_at dksX0_stranger_6 5 rfl rfl)
theorem dX0_stranger_150 : decode cX0_stranger 150 = .ok (.iload 5, 2) := dk_21 5 (dk_at dksX0_stranger_6 8 rfl rfl)
theorem dX0_stranger_152 : decode cX0_stranger 152 = .ok (.goto 5, 3) := dk_167 0 5 (dk_at dksX0_stranger_6 10 rfl rfl)
theorem dX0_stranger_155 : decode cX0_stranger 155 = .ok (.iload 6, 2) := dk_21 6 (dk_at dksX0_stranger_6 13 rfl rfl)
theorem dX0_stranger_157 : decode cX0_stranger 157 = .ok (.ireturn, 1) := dk_172 (dk_at dksX0_stranger_6 15 rfl rfl)
abbrev cX0_parted : ByteArray := prog_1_method_37_code
def yX0_parted : MethodName := ⟨RX0, "parted", "()I"⟩
def dkwX0_parted_1 : List UInt8 := [182, 1, 13, 153, 0, 5, 28, 60, 132, 2, 1, 167, 255, 225, 27, 172]
abbrev dktX0_parted_1 : List UInt8 := dkwX0_parted_1 ++ []
def dkwX0_parted_0 : List UInt8 := [2, 60, 3, 61, 28, 4, 42, 182, 0, 158, 120, 162, 0, 27, 28, 27, 184, 1, 10, 153, 0, 13, 42, 28]
abbrev dktX0_parted_0 : List UInt8 := dkwX0_parted_0 ++ dktX0_parted_1
theorem dksX0_parted_0 : cX0_parted.data.toList.drop 0 = dktX0_parted_0 := by decide +kernel
theorem dksX0_parted_1 : cX0_parted.data.toList.drop 24 = dktX0_parted_1 := dk_seg dksX0_parted_0 24 rfl rfl
theorem dX0_parted_0 : decode cX0_parted 0 = .ok (.iconst (-1), 1) := dk_2 (dk_at dksX0_parted_0 0 rfl rfl)
theorem dX0_parted_1 : decode cX0_parted 1 = .ok (.istore_n 1, 1) := dk_60 (dk_at dksX0_parted_0 1 rfl rfl)
theorem dX0_parted_2 : decode cX0_parted 2 = .ok (.iconst 0, 1) := dk_3 (dk_at dksX0_parted_0 2 rfl rfl)
theorem dX0_parted_3 : decode cX0_parted 3 = .ok (.istore_n 2, 1) := dk_61 (dk_at dksX0_parted_0 3 rfl rfl)
theorem dX0_parted_4 : decode cX0_parted 4 = .ok (.iload_n 2, 1) := dk_28 (dk_at dksX0_parted_0 4 rfl rfl)
theorem dX0_parted_5 : decode cX0_parted 5 = .ok (.iconst 1, 1) := dk_4 (dk_at dksX0_parted_0 5 rfl rfl)
theorem dX0_parted_6 : decode cX0_parted 6 = .ok (.aload_n 0, 1) := dk_42 (dk_at dksX0_parted_0 6 rfl rfl)
theorem dX0_parted_7 : decode cX0_parted 7 = .ok (.invokevirtual 158, 3) := dk_182 0 158 (dk_at dksX0_parted_0 7 rfl rfl)
theorem dX0_parted_10 : decode cX0_parted 10 = .ok (.ishl, 1) := dk_120 (dk_at dksX0_parted_0 10 rfl rfl)
theorem dX0_parted_11 : decode cX0_parted 11 = .ok (.if_icmp .ge 27, 3) := dk_162 0 27 (dk_at dksX0_parted_0 11 rfl rfl)
theorem dX0_parted_14 : decode cX0_parted 14 = .ok (.iload_n 2, 1) := dk_28 (dk_at dksX0_parted_0 14 rfl rfl)
theorem dX0_parted_15 : decode cX0_parted 15 = .ok (.iload_n 1, 1) := dk_27 (dk_at dksX0_parted_0 15 rfl rfl)
theorem dX0_parted_16 : decode cX0_parted 16 = .ok (.invokestatic 266, 3) := dk_184 1 10 (dk_at dksX0_parted_0 16 rfl rfl)
theorem dX0_parted_19 : decode cX0_parted 19 = .ok (.ifCond .eq 13, 3) := dk_153 0 13 (dk_at dksX0_parted_0 19 rfl rfl)
theorem dX0_parted_22 : decode cX0_parted 22 = .ok (.aload_n 0, 1) := dk_42 (dk_at dksX0_parted_0 22 rfl rfl)
theorem dX0_parted_23 : decode cX0_parted 23 = .ok (.iload_n 2, 1) := dk_28 (dk_at dksX0_parted_0 23 rfl rfl)
theorem dX0_parted_24 : decode cX0_parted 24 = .ok (.invokevirtual 269, 3) := dk_182 1 13 (dk_at dksX0_parted_1 0 rfl rfl)
theorem dX0_parted_27 : decode cX0_parted 27 = .ok (.ifCond .eq 5, 3) := dk_153 0 5 (dk_at dksX0_parted_1 3 rfl rfl)
theorem dX0_parted_30 : decode cX0_parted 30 = .ok (.iload_n 2, 1) := dk_28 (dk_at dksX0_parted_1 6 rfl rfl)
theorem dX0_parted_31 : decode cX0_parted 31 = .ok (.istore_n 1, 1) := dk_60 (dk_at dksX0_parted_1 7 rfl rfl)
theorem dX0_parted_32 : decode cX0_parted 32 = .ok (.iinc 2 1, 3) := dk_132 2 1 (dk_at dksX0_parted_1 8 rfl rfl)
theorem dX0_parted_35 : decode cX0_parted 35 = .ok (.goto (-31), 3) := dk_167 255 225 (dk_at dksX0_parted_1 11 rfl rfl)
theorem dX0_parted_38 : decode cX0_parted 38 = .ok (.iload_n 1, 1) := dk_27 (dk_at dksX0_parted_1 14 rfl rfl)
theorem dX0_parted_39 : decode cX0_parted 39 = .ok (.ireturn, 1) := dk_172 (dk_at dksX0_parted_1 15 rfl rfl)
abbrev cX0_isFewer : ByteArray := prog_1_method_36_code
def yX0_isFewer : MethodName := ⟨RX0, "isFewer", "(II)Z"⟩
def dkwX0_isFewer_0 : List UInt8 := [27, 2, 159, 0, 14, 26, 184, 1, 5, 27, 184, 1, 5, 162, 0, 7, 4, 167, 0, 4, 3, 172]
abbrev dktX0_isFewer_0 : List UInt8 := dkwX0_isFewer_0 ++ []
theorem dksX0_isFewer_0 : cX0_isFewer.data.toList.drop 0 = dktX0_isFewer_0 := by decide +kernel
theorem dX0_isFewer_0 : decode cX0_isFewer 0 = .ok (.iload_n 1, 1) := dk_27 (dk_at dksX0_isFewer_0 0 rfl rfl)
theorem dX0_isFewer_1 : decode cX0_isFewer 1 = .ok (.iconst (-1), 1) := dk_2 (dk_at dksX0_isFewer_0 1 rfl rfl)
theorem dX0_isFewer_2 : decode cX0_isFewer 2 = .ok (.if_icmp .eq 14, 3) := dk_159 0 14 (dk_at dksX0_isFewer_0 2 rfl rfl)
theorem dX0_isFewer_5 : decode cX0_isFewer 5 = .ok (.iload_n 0, 1) := dk_26 (dk_at dksX0_isFewer_0 5 rfl rfl)
theorem dX0_isFewer_6 : decode cX0_isFewer 6 = .ok (.invokestatic 261, 3) := dk_184 1 5 (dk_at dksX0_isFewer_0 6 rfl rfl)
theorem dX0_isFewer_9 : decode cX0_isFewer 9 = .ok (.iload_n 1, 1) := dk_27 (dk_at dksX0_isFewer_0 9 rfl rfl)
theorem dX0_isFewer_10 : decode cX0_isFewer 10 = .ok (.invokestatic 261, 3) := dk_184 1 5 (dk_at dksX0_isFewer_0 10 rfl rfl)
theorem dX0_isFewer_13 : decode cX0_isFewer 13 = .ok (.if_icmp .ge 7, 3) := dk_162 0 7 (dk_at dksX0_isFewer_0 13 rfl rfl)
theorem dX0_isFewer_16 : decode cX0_isFewer 16 = .ok (.iconst 1, 1) := dk_4 (dk_at dksX0_isFewer_0 16 rfl rfl)
theorem dX0_isFewer_17 : decode cX0_isFewer 17 = .ok (.goto 4, 3) := dk_167 0 4 (dk_at dksX0_isFewer_0 17 rfl rfl)
theorem dX0_isFewer_20 : decode cX0_isFewer 20 = .ok (.iconst 0, 1) := dk_3 (dk_at dksX0_isFewer_0 20 rfl rfl)
theorem dX0_isFewer_21 : decode cX0_isFewer 21 = .ok (.ireturn, 1) := dk_172 (dk_at dksX0_isFewer_0 21 rfl rfl)
abbrev cX0_isParted : ByteArray := prog_1_method_35_code
def yX0_isParted : MethodName := ⟨RX0, "isParted", "(I)Z"⟩
def dkwX0_isParted_2 : List UInt8 := [182, 0, 204, 184, 1, 2, 154, 0, 5, 3, 172, 132, 2, 1, 167, 255, 197, 4, 172]
abbrev dktX0_isParted_2 : List UInt8 := dkwX0_isParted_2 ++ []
def dkwX0_isParted_1 : List UInt8 := [27, 42, 180, 0, 69, 28, 182, 0, 204, 184, 1, 2, 154, 0, 22, 27, 42, 180, 0, 69, 28, 4, 96]
abbrev dktX0_isParted_1 : List UInt8 := dkwX0_isParted_1 ++ dktX0_isParted_2
def dkwX0_isParted_0 : List UInt8 := [3, 61, 28, 42, 180, 0, 31, 180, 0, 146, 162, 0, 54, 42, 180, 0, 69, 28, 182, 0, 181, 153, 0, 37]
abbrev dktX0_isParted_0 : List UInt8 := dkwX0_isParted_0 ++ dktX0_isParted_1
theorem dksX0_isParted_0 : cX0_isParted.data.toList.drop 0 = dktX0_isParted_0 := by decide +kernel
theorem dksX0_isParted_1 : cX0_isParted.data.toList.drop 24 = dktX0_isParted_1 := dk_seg dksX0_isParted_0 24 rfl rfl
theorem dksX0_isParted_2 : cX0_isParted.data.toList.drop 47 = dktX0_isParted_2 := dk_seg dksX0_isParted_1 23 rfl rfl
theorem dX0_isParted_0 : decode cX0_isParted 0 = .ok (.iconst 0, 1) := dk_3 (dk_at dksX0_isParted_0 0 rfl rfl)
theorem dX0_isParted_1 : decode cX0_isParted 1 = .ok (.istore_n 2, 1) := dk_61 (dk_at dksX0_isParted_0 1 rfl rfl)
theorem dX0_isParted_2 : decode cX0_isParted 2 = .ok (.iload_n 2, 1) := dk_28 (dk_at dksX0_isParted_0 2 rfl rfl)
theorem dX0_isParted_3 : decode cX0_isParted 3 = .ok (.aload_n 0, 1) := dk_42 (dk_at dksX0_isParted_0 3 rfl rfl)
theorem dX0_isParted_4 : decode cX0_isParted 4 = .ok (.getfield 31, 3) := dk_180 0 31 (dk_at dksX0_isParted_0 4 rfl rfl)
theorem dX0_isParted_7 : decode cX0_isParted 7 = .ok (.getfield 146, 3) := dk_180 0 146 (dk_at dksX0_isParted_0 7 rfl rfl)
theorem dX0_isParted_10 : decode cX0_isParted 10 = .ok (.if_icmp .ge 54, 3) := dk_162 0 54 (dk_at dksX0_isParted_0 10 rfl rfl)
theorem dX0_isParted_13 : decode cX0_isParted 13 = .ok (.aload_n 0, 1) := dk_42 (dk_at dksX0_isParted_0 13 rfl rfl)
theorem dX0_isParted_14 : decode cX0_isParted 14 = .ok (.getfield 69, 3) := dk_180 0 69 (dk_at dksX0_isParted_0 14 rfl rfl)
theorem dX0_isParted_17 : decode cX0_isParted 17 = .ok (.iload_n 2, 1) := dk_28 (dk_at dksX0_isParted_0 17 rfl rfl)
theorem dX0_isParted_18 : decode cX0_isParted 18 = .ok (.invokevirtual 181, 3) := dk_182 0 181 (dk_at dksX0_isParted_0 18 rfl rfl)
theorem dX0_isParted_21 : decode cX0_isParted 21 = .ok (.ifCond .eq 37, 3) := dk_153 0 37 (dk_at dksX0_isParted_0 21 rfl rfl)
theorem dX0_isParted_24 : decode cX0_isParted 24 = .ok (.iload_n 1, 1) := dk_27 (dk_at dksX0_isParted_1 0 rfl rfl)
theorem dX0_isParted_25 : decode cX0_isParted 25 = .ok (.aload_n 0, 1) := dk_42 (dk_at dksX0_isParted_1 1 rfl rfl)
theorem dX0_isParted_26 : decode cX0_isParted 26 = .ok (.getfield 69, 3) := dk_180 0 69 (dk_at dksX0_isParted_1 2 rfl rfl)
theorem dX0_isParted_29 : decode cX0_isParted 29 = .ok (.iload_n 2, 1) := dk_28 (dk_at dksX0_isParted_1 5 rfl rfl)
theorem dX0_isParted_30 : decode cX0_isParted 30 = .ok (.invokevirtual 204, 3) := dk_182 0 204 (dk_at dksX0_isParted_1 6 rfl rfl)
theorem dX0_isParted_33 : decode cX0_isParted 33 = .ok (.invokestatic 258, 3) := dk_184 1 2 (dk_at dksX0_isParted_1 9 rfl rfl)
theorem dX0_isParted_36 : decode cX0_isParted 36 = .ok (.ifCond .ne 22, 3) := dk_154 0 22 (dk_at dksX0_isParted_1 12 rfl rfl)
theorem dX0_isParted_39 : decode cX0_isParted 39 = .ok (.iload_n 1, 1) := dk_27 (dk_at dksX0_isParted_1 15 rfl rfl)
theorem dX0_isParted_40 : decode cX0_isParted 40 = .ok (.aload_n 0, 1) := dk_42 (dk_at dksX0_isParted_1 16 rfl rfl)
theorem dX0_isParted_41 : decode cX0_isParted 41 = .ok (.getfield 69, 3) := dk_180 0 69 (dk_at dksX0_isParted_1 17 rfl rfl)
theorem dX0_isParted_44 : decode cX0_isParted 44 = .ok (.iload_n 2, 1) := dk_28 (dk_at dksX0_isParted_1 20 rfl rfl)
theorem dX0_isParted_45 : decode cX0_isParted 45 = .ok (.iconst 1, 1) := dk_4 (dk_at dksX0_isParted_1 21 rfl rfl)
theorem dX0_isParted_46 : decode cX0_isParted 46 = .ok (.iadd, 1) := dk_96 (dk_at dksX0_isParted_1 22 rfl rfl)
theorem dX0_isParted_47 : decode cX0_isParted 47 = .ok (.invokevirtual 204, 3) := dk_182 0 204 (dk_at dksX0_isParted_2 0 rfl rfl)
theorem dX0_isParted_50 : decode cX0_isParted 50 = .ok (.invokestatic 258, 3) := dk_184 1 2 (dk_at dksX0_isParted_2 3 rfl rfl)
theorem dX0_isParted_53 : decode cX0_isParted 53 = .ok (.ifCond .ne 5, 3) := dk_154 0 5 (dk_at dksX0_isParted_2 6 rfl rfl)
theorem dX0_isParted_56 : decode cX0_isParted 56 = .ok (.iconst 0, 1) := dk_3 (dk_at dksX0_isParted_2 9 rfl rfl)
theorem dX0_isParted_57 : decode cX0_isParted 57 = .ok (.ireturn, 1) := dk_172 (dk_at dksX0_isParted_2 10 rfl rfl)
theorem dX0_isParted_58 : decode cX0_isParted 58 = .ok (.iinc 2 1, 3) := dk_132 2 1 (dk_at dksX0_isParted_2 11 rfl rfl)
theorem dX0_isParted_61 : decode cX0_isParted 61 = .ok (.goto (-59), 3) := dk_167 255 197 (dk_at dksX0_isParted_2 14 rfl rfl)
theorem dX0_isParted_64 : decode cX0_isParted 64 = .ok (.iconst 1, 1) := dk_4 (dk_at dksX0_isParted_2 17 rfl rfl)
theorem dX0_isParted_65 : decode cX0_isParted 65 = .ok (.ireturn, 1) := dk_172 (dk_at dksX0_isParted_2 18 rfl rfl)
abbrev cX0_rest : ByteArray := prog_1_method_39_code
def yX0_rest : MethodName := ⟨RX0, "rest", "(I)I"⟩
def dkwX0_rest_6 : List UInt8 := [182, 1, 16, 153, 0, 5, 29, 61, 132, 3, 1, 167, 255, 225, 28, 172]
abbrev dktX0_rest_6 : List UInt8 := dkwX0_rest_6 ++ []
def dkwX0_rest_5 : List UInt8 := [61, 3, 62, 29, 4, 42, 182, 0, 158, 120, 162, 0, 27, 29, 28, 184, 1, 10, 153, 0, 13, 42, 29]
abbrev dktX0_rest_5 : List UInt8 := dkwX0_rest_5 ++ dktX0_rest_6
def dkwX0_rest_4 : List UInt8 := [29, 42, 180, 0, 73, 180, 0, 174, 29, 46, 79, 132, 3, 1, 167, 255, 228, 132, 2, 1, 167, 255, 159, 2]
abbrev dktX0_rest_4 : List UInt8 := dkwX0_rest_4 ++ dktX0_rest_5
def dkwX0_rest_3 : List UInt8 := [180, 0, 73, 27, 182, 0, 243, 87, 3, 62, 29, 42, 182, 0, 158, 162, 0, 26, 42, 180, 0, 78, 28, 50]
abbrev dktX0_rest_3 : List UInt8 := dkwX0_rest_3 ++ dktX0_rest_4
def dkwX0_rest_2 : List UInt8 := [162, 0, 23, 42, 180, 0, 73, 180, 0, 177, 29, 28, 29, 184, 1, 2, 84, 132, 3, 1, 167, 255, 231, 42]
abbrev dktX0_rest_2 : List UInt8 := dkwX0_rest_2 ++ dktX0_rest_3
def dkwX0_rest_1 : List UInt8 := [162, 0, 93, 42, 180, 0, 73, 42, 180, 0, 69, 182, 0, 239, 87, 3, 62, 29, 42, 182, 0, 158]
abbrev dktX0_rest_1 : List UInt8 := dkwX0_rest_1 ++ dktX0_rest_2
def dkwX0_rest_0 : List UInt8 := [42, 27, 4, 16, 20, 182, 0, 236, 154, 0, 5, 2, 172, 3, 61, 28, 4, 42, 182, 0, 158, 120]
abbrev dktX0_rest_0 : List UInt8 := dkwX0_rest_0 ++ dktX0_rest_1
theorem dksX0_rest_0 : cX0_rest.data.toList.drop 0 = dktX0_rest_0 := by decide +kernel
theorem dksX0_rest_1 : cX0_rest.data.toList.drop 22 = dktX0_rest_1 := dk_seg dksX0_rest_0 22 rfl rfl
theorem dksX0_rest_2 : cX0_rest.data.toList.drop 44 = dktX0_rest_2 := dk_seg dksX0_rest_1 22 rfl rfl
theorem dksX0_rest_3 : cX0_rest.data.toList.drop 68 = dktX0_rest_3 := dk_seg dksX0_rest_2 24 rfl rfl
theorem dksX0_rest_4 : cX0_rest.data.toList.drop 92 = dktX0_rest_4 := dk_seg dksX0_rest_3 24 rfl rfl
theorem dksX0_rest_5 : cX0_rest.data.toList.drop 116 = dktX0_rest_5 := dk_seg dksX0_rest_4 24 rfl rfl
theorem dksX0_rest_6 : cX0_rest.data.toList.drop 139 = dktX0_rest_6 := dk_seg dksX0_rest_5 23 rfl rfl
theorem dX0_rest_0 : decode cX0_rest 0 = .ok (.aload_n 0, 1) := dk_42 (dk_at dksX0_rest_0 0 rfl rfl)
theorem dX0_rest_1 : decode cX0_rest 1 = .ok (.iload_n 1, 1) := dk_27 (dk_at dksX0_rest_0 1 rfl rfl)
theorem dX0_rest_2 : decode cX0_rest 2 = .ok (.iconst 1, 1) := dk_4 (dk_at dksX0_rest_0 2 rfl rfl)
theorem dX0_rest_3 : decode cX0_rest 3 = .ok (.bipush 20, 2) := dk_16 20 (dk_at dksX0_rest_0 3 rfl rfl)
theorem dX0_rest_5 : decode cX0_rest 5 = .ok (.invokevirtual 236, 3) := dk_182 0 236 (dk_at dksX0_rest_0 5 rfl rfl)
theorem dX0_rest_8 : decode cX0_rest 8 = .ok (.ifCond .ne 5, 3) := dk_154 0 5 (dk_at dksX0_rest_0 8 rfl rfl)
theorem dX0_rest_11 : decode cX0_rest 11 = .ok (.iconst (-1), 1) := dk_2 (dk_at dksX0_rest_0 11 rfl rfl)
theorem dX0_rest_12 : decode cX0_rest 12 = .ok (.ireturn, 1) := dk_172 (dk_at dksX0_rest_0 12 rfl rfl)
theorem dX0_rest_13 : decode cX0_rest 13 = .ok (.iconst 0, 1) := dk_3 (dk_at dksX0_rest_0 13 rfl rfl)
theorem dX0_rest_14 : decode cX0_rest 14 = .ok (.istore_n 2, 1) := dk_61 (dk_at dksX0_rest_0 14 rfl rfl)
theorem dX0_rest_15 : decode cX0_rest 15 = .ok (.iload_n 2, 1) := dk_28 (dk_at dksX0_rest_0 15 rfl rfl)
theorem dX0_rest_16 : decode cX0_rest 16 = .ok (.iconst 1, 1) := dk_4 (dk_at dksX0_rest_0 16 rfl rfl)
theorem dX0_rest_17 : decode cX0_rest 17 = .ok (.aload_n 0, 1) := dk_42 (dk_at dksX0_rest_0 17 rfl rfl)
theorem dX0_rest_18 : decode cX0_rest 18 = .ok (.invokevirtual 158, 3) := dk_182 0 158 (dk_at dksX0_rest_0 18 rfl rfl)
theorem dX0_rest_21 : decode cX0_rest 21 = .ok (.ishl, 1) := dk_120 (dk_at dksX0_rest_0 21 rfl rfl)
theorem dX0_rest_22 : decode cX0_rest 22 = .ok (.if_icmp .ge 93, 3) := dk_162 0 93 (dk_at dksX0_rest_1 0 rfl rfl)
theorem dX0_rest_25 : decode cX0_rest 25 = .ok (.aload_n 0, 1) := dk_42 (dk_at dksX0_rest_1 3 rfl rfl)
theorem dX0_rest_26 : decode cX0_rest 26 = .ok (.getfield 73, 3) := dk_180 0 73 (dk_at dksX0_rest_1 4 rfl rfl)
theorem dX0_rest_29 : decode cX0_rest 29 = .ok (.aload_n 0, 1) := dk_42 (dk_at dksX0_rest_1 7 rfl rfl)
theorem dX0_rest_30 : decode cX0_rest 30 = .ok (.getfield 69, 3) := dk_180 0 69 (dk_at dksX0_rest_1 8 rfl rfl)
theorem dX0_rest_33 : decode cX0_rest 33 = .ok (.invokevirtual 239, 3) := dk_182 0 239 (dk_at dksX0_rest_1 11 rfl rfl)
theorem dX0_rest_36 : decode cX0_rest 36 = .ok (.pop, 1) := dk_87 (dk_at dksX0_rest_1 14 rfl rfl)
theorem dX0_rest_37 : decode cX0_rest 37 = .ok (.iconst 0, 1) := dk_3 (dk_at dksX0_rest_1 15 rfl rfl)
theorem dX0_rest_38 : decode cX0_rest 38 = .ok (.istore_n 3, 1) := dk_62 (dk_at dksX0_rest_1 16 rfl rfl)
theorem dX0_rest_39 : decode cX0_rest 39 = .ok (.iload_n 3, 1) := dk_29 (dk_at dksX0_rest_1 17 rfl rfl)
theorem dX0_rest_40 : decode cX0_rest 40 = .ok (.aload_n 0, 1) := dk_42 (dk_at dksX0_rest_1 18 rfl rfl)
theorem dX0_rest_41 : decode cX0_rest 41 = .ok (.invokevirtual 158, 3) := dk_182 0 158 (dk_at dksX0_rest_1 19 rfl rfl)
theorem dX0_rest_44 : decode cX0_rest 44 = .ok (.if_icmp .ge 23, 3) := dk_162 0 23 (dk_at dksX0_rest_2 0 rfl rfl)
theorem dX0_rest_47 : decode cX0_rest 47 = .ok (.aload_n 0, 1) := dk_42 (dk_at dksX0_rest_2 3 rfl rfl)
theorem dX0_rest_48 : decode cX0_rest 48 = .ok (.getfield 73, 3) := dk_180 0 73 (dk_at dksX0_rest_2 4 rfl rfl)
theorem dX0_rest_51 : decode cX0_rest 51 = .ok (.getfield 177, 3) := dk_180 0 177 (dk_at dksX0_rest_2 7 rfl rfl)
theorem dX0_rest_54 : decode cX0_rest 54 = .ok (.iload_n 3, 1) := dk_29 (dk_at dksX0_rest_2 10 rfl rfl)
theorem dX0_rest_55 : decode cX0_rest 55 = .ok (.iload_n 2, 1) := dk_28 (dk_at dksX0_rest_2 11 rfl rfl)
theorem dX0_rest_56 : decode cX0_rest 56 = .ok (.iload_n 3, 1) := dk_29 (dk_at dksX0_rest_2 12 rfl rfl)
theorem dX0_rest_57 : decode cX0_rest 57 = .ok (.invokestatic 258, 3) := dk_184 1 2 (dk_at dksX0_rest_2 13 rfl rfl)
theorem dX0_rest_60 : decode cX0_rest 60 = .ok (.bastore, 1) := dk_84 (dk_at dksX0_rest_2 16 rfl rfl)
theorem dX0_rest_61 : decode cX0_rest 61 = .ok (.iinc 3 1, 3) := dk_132 3 1 (dk_at dksX0_rest_2 17 rfl rfl)
theorem dX0_rest_64 : decode cX0_rest 64 = .ok (.goto (-25), 3) := dk_167 255 231 (dk_at dksX0_rest_2 20 rfl rfl)
theorem dX0_rest_67 : decode cX0_rest 67 = .ok (.aload_n 0, 1) := dk_42 (dk_at dksX0_rest_2 23 rfl rfl)
theorem dX0_rest_68 : decode cX0_rest 68 = .ok (.getfield 73, 3) := dk_180 0 73 (dk_at dksX0_rest_3 0 rfl rfl)
theorem dX0_rest_71 : decode cX0_rest 71 = .ok (.iload_n 1, 1) := dk_27 (dk_at dksX0_rest_3 3 rfl rfl)
theorem dX0_rest_72 : decode cX0_rest 72 = .ok (.invokevirtual 243, 3) := dk_182 0 243 (dk_at dksX0_rest_3 4 rfl rfl)
theorem dX0_rest_75 : decode cX0_rest 75 = .ok (.pop, 1) := dk_87 (dk_at dksX0_rest_3 7 rfl rfl)
theorem dX0_rest_76 : decode cX0_rest 76 = .ok (.iconst 0, 1) := dk_3 (dk_at dksX0_rest_3 8 rfl rfl)
theorem dX0_rest_77 : decode cX0_rest 77 = .ok (.istore_n 3, 1) := dk_62 (dk_at dksX0_rest_3 9 rfl rfl)
theorem dX0_rest_78 : decode cX0_rest 78 = .ok (.iload_n 3, 1) := dk_29 (dk_at dksX0_rest_3 10 rfl rfl)
theorem dX0_rest_79 : decode cX0_rest 79 = .ok (.aload_n 0, 1) := dk_42 (dk_at dksX0_rest_3 11 rfl rfl)
theorem dX0_rest_80 : decode cX0_rest 80 = .ok (.invokevirtual 158, 3) := dk_182 0 158 (dk_at dksX0_rest_3 12 rfl rfl)
theorem dX0_rest_83 : decode cX0_rest 83 = .ok (.if_icmp .ge 26, 3) := dk_162 0 26 (dk_at dksX0_rest_3 15 rfl rfl)
theorem dX0_rest_86 : decode cX0_rest 86 = .ok (.aload_n 0, 1) := dk_42 (dk_at dksX0_rest_3 18 rfl rfl)
theorem dX0_rest_87 : decode cX0_rest 87 = .ok (.getfield 78, 3) := dk_180 0 78 (dk_at dksX0_rest_3 19 rfl rfl)
theorem dX0_rest_90 : decode cX0_rest 90 = .ok (.iload_n 2, 1) := dk_28 (dk_at dksX0_rest_3 22 rfl rfl)
theorem dX0_rest_91 : decode cX0_rest 91 = .ok (.aaload, 1) := dk_50 (dk_at dksX0_rest_3 23 rfl rfl)
theorem dX0_rest_92 : decode cX0_rest 92 = .ok (.iload_n 3, 1) := dk_29 (dk_at dksX0_rest_4 0 rfl rfl)
theorem dX0_rest_93 : decode cX0_rest 93 = .ok (.aload_n 0, 1) := dk_42 (dk_at dksX0_rest_4 1 rfl rfl)
theorem dX0_rest_94 : decode cX0_rest 94 = .ok (.getfield 73, 3) := dk_180 0 73 (dk_at dksX0_rest_4 2 rfl rfl)
theorem dX0_rest_97 : decode cX0_rest 97 = .ok (.getfield 174, 3) := dk_180 0 174 (dk_at dksX0_rest_4 5 rfl rfl)
theorem dX0_rest_100 : decode cX0_rest 100 = .ok (.iload_n 3, 1) := dk_29 (dk_at dksX0_rest_4 8 rfl rfl)
theorem dX0_rest_101 : decode cX0_rest 101 = .ok (.iaload, 1) := dk_46 (dk_at dksX0_rest_4 9 rfl rfl)
theorem dX0_rest_102 : decode cX0_rest 102 = .ok (.iastore, 1) := dk_79 (dk_at dksX0_rest_4 10 rfl rfl)
theorem dX0_rest_103 : decode cX0_rest 103 = .ok (.iinc 3 1, 3) := dk_132 3 1 (dk_at dksX0_rest_4 11 rfl rfl)
theorem dX0_rest_106 : decode cX0_rest 106 = .ok (.goto (-28), 3) := dk_167 255 228 (dk_at dksX0_rest_4 14 rfl rfl)
theorem dX0_rest_109 : decode cX0_rest 109 = .ok (.iinc 2 1, 3) := dk_132 2 1 (dk_at dksX0_rest_4 17 rfl rfl)
theorem dX0_rest_112 : decode cX0_rest 112 = .ok (.goto (-97), 3) := dk_167 255 159 (dk_at dksX0_rest_4 20 rfl rfl)
theorem dX0_rest_115 : decode cX0_rest 115 = .ok (.iconst (-1), 1) := dk_2 (dk_at dksX0_rest_4 23 rfl rfl)
theorem dX0_rest_116 : decode cX0_rest 116 = .ok (.istore_n 2, 1) := dk_61 (dk_at dksX0_rest_5 0 rfl rfl)
theorem dX0_rest_117 : decode cX0_rest 117 = .ok (.iconst 0, 1) := dk_3 (dk_at dksX0_rest_5 1 rfl rfl)
theorem dX0_rest_118 : decode cX0_rest 118 = .ok (.istore_n 3, 1) := dk_62 (dk_at dksX0_rest_5 2 rfl rfl)
theorem dX0_rest_119 : decode cX0_rest 119 = .ok (.iload_n 3, 1) := dk_29 (dk_at dksX0_rest_5 3 rfl rfl)
theorem dX0_rest_120 : decode cX0_rest 120 = .ok (.iconst 1, 1) := dk_4 (dk_at dksX0_rest_5 4 rfl rfl)
theorem dX0_rest_121 : decode cX0_rest 121 = .ok (.aload_n 0, 1) := dk_42 (dk_at dksX0_rest_5 5 rfl rfl)
theorem dX0_rest_122 : decode cX0_rest 122 = .ok (.invokevirtual 158, 3) := dk_182 0 158 (dk_at dksX0_rest_5 6 rfl rfl)
theorem dX0_rest_125 : decode cX0_rest 125 = .ok (.ishl, 1) := dk_120 (dk_at dksX0_rest_5 9 rfl rfl)
theorem dX0_rest_126 : decode cX0_rest 126 = .ok (.if_icmp .ge 27, 3) := dk_162 0 27 (dk_at dksX0_rest_5 10 rfl rfl)
theorem dX0_rest_129 : decode cX0_rest 129 = .ok (.iload_n 3, 1) := dk_29 (dk_at dksX0_rest_5 13 rfl rfl)
theorem dX0_rest_130 : decode cX0_rest 130 = .ok (.iload_n 2, 1) := dk_28 (dk_at dksX0_rest_5 14 rfl rfl)
theorem dX0_rest_131 : decode cX0_rest 131 = .ok (.invokestatic 266, 3) := dk_184 1 10 (dk_at dksX0_rest_5 15 rfl rfl)
theorem dX0_rest_134 : decode cX0_rest 134 = .ok (.ifCond .eq 13, 3) := dk_153 0 13 (dk_at dksX0_rest_5 18 rfl rfl)
theorem dX0_rest_137 : decode cX0_rest 137 = .ok (.aload_n 0, 1) := dk_42 (dk_at dksX0_rest_5 21 rfl rfl)
theorem dX0_rest_138 : decode cX0_rest 138 = .ok (.iload_n 3, 1) := dk_29 (dk_at dksX0_rest_5 22 rfl rfl)
theorem dX0_rest_139 : decode cX0_rest 139 = .ok (.invokevirtual 272, 3) := dk_182 1 16 (dk_at dksX0_rest_6 0 rfl rfl)
theorem dX0_rest_142 : decode cX0_rest 142 = .ok (.ifCond .eq 5, 3) := dk_153 0 5 (dk_at dksX0_rest_6 3 rfl rfl)
theorem dX0_rest_145 : decode cX0_rest 145 = .ok (.iload_n 3, 1) := dk_29 (dk_at dksX0_rest_6 6 rfl rfl)
theorem dX0_rest_146 : decode cX0_rest 146 = .ok (.istore_n 2, 1) := dk_61 (dk_at dksX0_rest_6 7 rfl rfl)
theorem dX0_rest_147 : decode cX0_rest 147 = .ok (.iinc 3 1, 3) := dk_132 3 1 (dk_at dksX0_rest_6 8 rfl rfl)
theorem dX0_rest_150 : decode cX0_rest 150 = .ok (.goto (-31), 3) := dk_167 255 225 (dk_at dksX0_rest_6 11 rfl rfl)
theorem dX0_rest_153 : decode cX0_rest 153 = .ok (.iload_n 2, 1) := dk_28 (dk_at dksX0_rest_6 14 rfl rfl)
theorem dX0_rest_154 : decode cX0_rest 154 = .ok (.ireturn, 1) := dk_172 (dk_at dksX0_rest_6 15 rfl rfl)
abbrev cX0_isRest : ByteArray := prog_1_method_38_code
def yX0_isRest : MethodName := ⟨RX0, "isRest", "(I)Z"⟩
def dkwX0_isRest_1 : List UInt8 := [180, 0, 78, 27, 50, 28, 46, 164, 0, 5, 3, 172, 132, 2, 1, 167, 255, 220, 4, 172]
abbrev dktX0_isRest_1 : List UInt8 := dkwX0_isRest_1 ++ []
def dkwX0_isRest_0 : List UInt8 := [3, 61, 28, 42, 182, 0, 158, 162, 0, 34, 42, 180, 0, 78, 27, 4, 28, 120, 130, 50, 28, 46, 42]
abbrev dktX0_isRest_0 : List UInt8 := dkwX0_isRest_0 ++ dktX0_isRest_1
theorem dksX0_isRest_0 : cX0_isRest.data.toList.drop 0 = dktX0_isRest_0 := by decide +kernel
theorem dksX0_isRest_1 : cX0_isRest.data.toList.drop 23 = dktX0_isRest_1 := dk_seg dksX0_isRest_0 23 rfl rfl
theorem dX0_isRest_0 : decode cX0_isRest 0 = .ok (.iconst 0, 1) := dk_3 (dk_at dksX0_isRest_0 0 rfl rfl)
theorem dX0_isRest_1 : decode cX0_isRest 1 = .ok (.istore_n 2, 1) := dk_61 (dk_at dksX0_isRest_0 1 rfl rfl)
theorem dX0_isRest_2 : decode cX0_isRest 2 = .ok (.iload_n 2, 1) := dk_28 (dk_at dksX0_isRest_0 2 rfl rfl)
theorem dX0_isRest_3 : decode cX0_isRest 3 = .ok (.aload_n 0, 1) := dk_42 (dk_at dksX0_isRest_0 3 rfl rfl)
theorem dX0_isRest_4 : decode cX0_isRest 4 = .ok (.invokevirtual 158, 3) := dk_182 0 158 (dk_at dksX0_isRest_0 4 rfl rfl)
theorem dX0_isRest_7 : decode cX0_isRest 7 = .ok (.if_icmp .ge 34, 3) := dk_162 0 34 (dk_at dksX0_isRest_0 7 rfl rfl)
theorem dX0_isRest_10 : decode cX0_isRest 10 = .ok (.aload_n 0, 1) := dk_42 (dk_at dksX0_isRest_0 10 rfl rfl)
theorem dX0_isRest_11 : decode cX0_isRest 11 = .ok (.getfield 78, 3) := dk_180 0 78 (dk_at dksX0_isRest_0 11 rfl rfl)
theorem dX0_isRest_14 : decode cX0_isRest 14 = .ok (.iload_n 1, 1) := dk_27 (dk_at dksX0_isRest_0 14 rfl rfl)
theorem dX0_isRest_15 : decode cX0_isRest 15 = .ok (.iconst 1, 1) := dk_4 (dk_at dksX0_isRest_0 15 rfl rfl)
theorem dX0_isRest_16 : decode cX0_isRest 16 = .ok (.iload_n 2, 1) := dk_28 (dk_at dksX0_isRest_0 16 rfl rfl)
theorem dX0_isRest_17 : decode cX0_isRest 17 = .ok (.ishl, 1) := dk_120 (dk_at dksX0_isRest_0 17 rfl rfl)
theorem dX0_isRest_18 : decode cX0_isRest 18 = .ok (.ixor, 1) := dk_130 (dk_at dksX0_isRest_0 18 rfl rfl)
theorem dX0_isRest_19 : decode cX0_isRest 19 = .ok (.aaload, 1) := dk_50 (dk_at dksX0_isRest_0 19 rfl rfl)
theorem dX0_isRest_20 : decode cX0_isRest 20 = .ok (.iload_n 2, 1) := dk_28 (dk_at dksX0_isRest_0 20 rfl rfl)
theorem dX0_isRest_21 : decode cX0_isRest 21 = .ok (.iaload, 1) := dk_46 (dk_at dksX0_isRest_0 21 rfl rfl)
theorem dX0_isRest_22 : decode cX0_isRest 22 = .ok (.aload_n 0, 1) := dk_42 (dk_at dksX0_isRest_0 22 rfl rfl)
theorem dX0_isRest_23 : decode cX0_isRest 23 = .ok (.getfield 78, 3) := dk_180 0 78 (dk_at dksX0_isRest_1 0 rfl rfl)
theorem dX0_isRest_26 : decode cX0_isRest 26 = .ok (.iload_n 1, 1) := dk_27 (dk_at dksX0_isRest_1 3 rfl rfl)
theorem dX0_isRest_27 : decode cX0_isRest 27 = .ok (.aaload, 1) := dk_50 (dk_at dksX0_isRest_1 4 rfl rfl)
theorem dX0_isRest_28 : decode cX0_isRest 28 = .ok (.iload_n 2, 1) := dk_28 (dk_at dksX0_isRest_1 5 rfl rfl)
theorem dX0_isRest_29 : decode cX0_isRest 29 = .ok (.iaload, 1) := dk_46 (dk_at dksX0_isRest_1 6 rfl rfl)
theorem dX0_isRest_30 : decode cX0_isRest 30 = .ok (.if_icmp .le 5, 3) := dk_164 0 5 (dk_at dksX0_isRest_1 7 rfl rfl)
theorem dX0_isRest_33 : decode cX0_isRest 33 = .ok (.iconst 0, 1) := dk_3 (dk_at dksX0_isRest_1 10 rfl rfl)
theorem dX0_isRest_34 : decode cX0_isRest 34 = .ok (.ireturn, 1) := dk_172 (dk_at dksX0_isRest_1 11 rfl rfl)
theorem dX0_isRest_35 : decode cX0_isRest 35 = .ok (.iinc 2 1, 3) := dk_132 2 1 (dk_at dksX0_isRest_1 12 rfl rfl)
theorem dX0_isRest_38 : decode cX0_isRest 38 = .ok (.goto (-36), 3) := dk_167 255 220 (dk_at dksX0_isRest_1 15 rfl rfl)
theorem dX0_isRest_41 : decode cX0_isRest 41 = .ok (.iconst 1, 1) := dk_4 (dk_at dksX0_isRest_1 18 rfl rfl)
theorem dX0_isRest_42 : decode cX0_isRest 42 = .ok (.ireturn, 1) := dk_172 (dk_at dksX0_isRest_1 19 rfl rfl)
abbrev cX0_see : ByteArray := prog_1_method_41_code
def yX0_see : MethodName := ⟨RX0, "see", "()I"⟩
def dkwX0_see_7 : List UInt8 := [167, 255, 202, 42, 180, 0, 140, 172]
abbrev dktX0_see_7 : List UInt8 := dkwX0_see_7 ++ []
def dkwX0_see_6 : List UInt8 := [182, 1, 19, 79, 42, 180, 0, 87, 29, 42, 6, 29, 104, 5, 96, 182, 1, 19, 79, 132, 3, 1]
abbrev dktX0_see_6 : List UInt8 := dkwX0_see_6 ++ dktX0_see_7
def dkwX0_see_5 : List UInt8 := [180, 0, 81, 29, 42, 6, 29, 104, 182, 1, 19, 79, 42, 180, 0, 84, 29, 42, 6, 29, 104, 4, 96]
abbrev dktX0_see_5 : List UInt8 := dkwX0_see_5 ++ dktX0_see_6
def dkwX0_see_4 : List UInt8 := [182, 0, 107, 172, 42, 27, 6, 108, 181, 0, 140, 3, 62, 29, 42, 180, 0, 140, 162, 0, 52, 42]
abbrev dktX0_see_4 : List UInt8 := dkwX0_see_4 ++ dktX0_see_5
def dkwX0_see_3 : List UInt8 := [16, 99, 163, 0, 7, 4, 167, 0, 4, 3, 61, 132, 3, 3, 167, 255, 202, 28, 154, 0, 9, 42, 4]
abbrev dktX0_see_3 : List UInt8 := dkwX0_see_3 ++ dktX0_see_4
def dkwX0_see_2 : List UInt8 := [163, 0, 33, 42, 42, 29, 4, 96, 182, 1, 19, 182, 0, 161, 153, 0, 19, 42, 29, 5, 96, 182, 1, 19]
abbrev dktX0_see_2 : List UInt8 := dkwX0_see_2 ++ dktX0_see_3
def dkwX0_see_1 : List UInt8 := [167, 0, 4, 3, 61, 3, 62, 29, 27, 162, 0, 55, 28, 153, 0, 51, 42, 29, 182, 1, 19, 16, 30]
abbrev dktX0_see_1 : List UInt8 := dkwX0_see_1 ++ dktX0_see_2
def dkwX0_see_0 : List UInt8 := [42, 182, 0, 118, 60, 27, 158, 0, 19, 27, 6, 112, 154, 0, 13, 27, 16, 48, 163, 0, 7, 4]
abbrev dktX0_see_0 : List UInt8 := dkwX0_see_0 ++ dktX0_see_1
theorem dksX0_see_0 : cX0_see.data.toList.drop 0 = dktX0_see_0 := by decide +kernel
theorem dksX0_see_1 : cX0_see.data.toList.drop 22 = dktX0_see_1 := dk_seg dksX0_see_0 22 rfl rfl
theorem dksX0_see_2 : cX0_see.data.toList.drop 45 = dktX0_see_2 := dk_seg dksX0_see_1 23 rfl rfl
theorem dksX0_see_3 : cX0_see.data.toList.drop 69 = dktX0_see_3 := dk_seg dksX0_see_2 24 rfl rfl
theorem dksX0_see_4 : cX0_see.data.toList.drop 92 = dktX0_see_4 := dk_seg dksX0_see_3 23 rfl rfl
theorem dksX0_see_5 : cX0_see.data.toList.drop 114 = dktX0_see_5 := dk_seg dksX0_see_4 22 rfl rfl
theorem dksX0_see_6 : cX0_see.data.toList.drop 137 = dktX0_see_6 := dk_seg dksX0_see_5 23 rfl rfl
theorem dksX0_see_7 : cX0_see.data.toList.drop 159 = dktX0_see_7 := dk_seg dksX0_see_6 22 rfl rfl
theorem dX0_see_0 : decode cX0_see 0 = .ok (.aload_n 0, 1) := dk_42 (dk_at dksX0_see_0 0 rfl rfl)
theorem dX0_see_1 : decode cX0_see 1 = .ok (.invokevirtual 118, 3) := dk_182 0 118 (dk_at dksX0_see_0 1 rfl rfl)
theorem dX0_see_4 : decode cX0_see 4 = .ok (.istore_n 1, 1) := dk_60 (dk_at dksX0_see_0 4 rfl rfl)
theorem dX0_see_5 : decode cX0_see 5 = .ok (.iload_n 1, 1) := dk_27 (dk_at dksX0_see_0 5 rfl rfl)
theorem dX0_see_6 : decode cX0_see 6 = .ok (.ifCond .le 19, 3) := dk_158 0 19 (dk_at dksX0_see_0 6 rfl rfl)
theorem dX0_see_9 : decode cX0_see 9 = .ok (.iload_n 1, 1) := dk_27 (dk_at dksX0_see_0 9 rfl rfl)
theorem dX0_see_10 : decode cX0_see 10 = .ok (.iconst 3, 1) := dk_6 (dk_at dksX0_see_0 10 rfl rfl)
theorem dX0_see_11 : decode cX0_see 11 = .ok (.irem, 1) := dk_112 (dk_at dksX0_see_0 11 rfl rfl)
theorem dX0_see_12 : decode cX0_see 12 = .ok (.ifCond .ne 13, 3) := dk_154 0 13 (dk_at dksX0_see_0 12 rfl rfl)
theorem dX0_see_15 : decode cX0_see 15 = .ok (.iload_n 1, 1) := dk_27 (dk_at dksX0_see_0 15 rfl rfl)
theorem dX0_see_16 : decode cX0_see 16 = .ok (.bipush 48, 2) := dk_16 48 (dk_at dksX0_see_0 16 rfl rfl)
theorem dX0_see_18 : decode cX0_see 18 = .ok (.if_icmp .gt 7, 3) := dk_163 0 7 (dk_at dksX0_see_0 18 rfl rfl)
theorem dX0_see_21 : decode cX0_see 21 = .ok (.iconst 1, 1) := dk_4 (dk_at dksX0_see_0 21 rfl rfl)
theorem dX0_see_22 : decode cX0_see 22 = .ok (.goto 4, 3) := dk_167 0 4 (dk_at dksX0_see_1 0 rfl rfl)
theorem dX0_see_25 : decode cX0_see 25 = .ok (.iconst 0, 1) := dk_3 (dk_at dksX0_see_1 3 rfl rfl)
theorem dX0_see_26 : decode cX0_see 26 = .ok (.istore_n 2, 1) := dk_61 (dk_at dksX0_see_1 4 rfl rfl)
theorem dX0_see_27 : decode cX0_see 27 = .ok (.iconst 0, 1) := dk_3 (dk_at dksX0_see_1 5 rfl rfl)
theorem dX0_see_28 : decode cX0_see 28 = .ok (.istore_n 3, 1) := dk_62 (dk_at dksX0_see_1 6 rfl rfl)
theorem dX0_see_29 : decode cX0_see 29 = .ok (.iload_n 3, 1) := dk_29 (dk_at dksX0_see_1 7 rfl rfl)
theorem dX0_see_30 : decode cX0_see 30 = .ok (.iload_n 1, 1) := dk_27 (dk_at dksX0_see_1 8 rfl rfl)
theorem dX0_see_31 : decode cX0_see 31 = .ok (.if_icmp .ge 55, 3) := dk_162 0 55 (dk_at dksX0_see_1 9 rfl rfl)
theorem dX0_see_34 : decode cX0_see 34 = .ok (.iload_n 2, 1) := dk_28 (dk_at dksX0_see_1 12 rfl rfl)
theorem dX0_see_35 : decode cX0_see 35 = .ok (.ifCond .eq 51, 3) := dk_153 0 51 (dk_at dksX0_see_1 13 rfl rfl)
theorem dX0_see_38 : decode cX0_see 38 = .ok (.aload_n 0, 1) := dk_42 (dk_at dksX0_see_1 16 rfl rfl)
theorem dX0_see_39 : decode cX0_see 39 = .ok (.iload_n 3, 1) := dk_29 (dk_at dksX0_see_1 17 rfl rfl)
theorem dX0_see_40 : decode cX0_see 40 = .ok (.invokevirtual 275, 3) := dk_182 1 19 (dk_at dksX0_see_1 18 rfl rfl)
theorem dX0_see_43 : decode cX0_see 43 = .ok (.bipush 30, 2) := dk_16 30 (dk_at dksX0_see_1 21 rfl rfl)
theorem dX0_see_45 : decode cX0_see 45 = .ok (.if_icmp .gt 33, 3) := dk_163 0 33 (dk_at dksX0_see_2 0 rfl rfl)
theorem dX0_see_48 : decode cX0_see 48 = .ok (.aload_n 0, 1) := dk_42 (dk_at dksX0_see_2 3 rfl rfl)
theorem dX0_see_49 : decode cX0_see 49 = .ok (.aload_n 0, 1) := dk_42 (dk_at dksX0_see_2 4 rfl rfl)
theorem dX0_see_50 : decode cX0_see 50 = .ok (.iload_n 3, 1) := dk_29 (dk_at dksX0_see_2 5 rfl rfl)
theorem dX0_see_51 : decode cX0_see 51 = .ok (.iconst 1, 1) := dk_4 (dk_at dksX0_see_2 6 rfl rfl)
theorem dX0_see_52 : decode cX0_see 52 = .ok (.iadd, 1) := dk_96 (dk_at dksX0_see_2 7 rfl rfl)
theorem dX0_see_53 : decode cX0_see 53 = .ok (.invokevirtual 275, 3) := dk_182 1 19 (dk_at dksX0_see_2 8 rfl rfl)
theorem dX0_see_56 : decode cX0_see 56 = .ok (.invokevirtual 161, 3) := dk_182 0 161 (dk_at dksX0_see_2 11 rfl rfl)
theorem dX0_see_59 : decode cX0_see 59 = .ok (.ifCond .eq 19, 3) := dk_153 0 19 (dk_at dksX0_see_2 14 rfl rfl)
theorem dX0_see_62 : decode cX0_see 62 = .ok (.aload_n 0, 1) := dk_42 (dk_at dksX0_see_2 17 rfl rfl)
theorem dX0_see_63 : decode cX0_see 63 = .ok (.iload_n 3, 1) := dk_29 (dk_at dksX0_see_2 18 rfl rfl)
theorem dX0_see_64 : decode cX0_see 64 = .ok (.iconst 2, 1) := dk_5 (dk_at dksX0_see_2 19 rfl rfl)
theorem dX0_see_65 : decode cX0_see 65 = .ok (.iadd, 1) := dk_96 (dk_at dksX0_see_2 20 rfl rfl)
theorem dX0_see_66 : decode cX0_see 66 = .ok (.invokevirtual 275, 3) := dk_182 1 19 (dk_at dksX0_see_2 21 rfl rfl)
theorem dX0_see_69 : decode cX0_see 69 = .ok (.bipush 99, 2) := dk_16 99 (dk_at dksX0_see_3 0 rfl rfl)
theorem dX0_see_71 : decode cX0_see 71 = .ok (.if_icmp .gt 7, 3) := dk_163 0 7 (dk_at dksX0_see_3 2 rfl rfl)
theorem dX0_see_74 : decode cX0_see 74 = .ok (.iconst 1, 1) := dk_4 (dk_at dksX0_see_3 5 rfl rfl)
theorem dX0_see_75 : decode cX0_see 75 = .ok (.goto 4, 3) := dk_167 0 4 (dk_at dksX0_see_3 6 rfl rfl)
theorem dX0_see_78 : decode cX0_see 78 = .ok (.iconst 0, 1) := dk_3 (dk_at dksX0_see_3 9 rfl rfl)
theorem dX0_see_79 : decode cX0_see 79 = .ok (.istore_n 2, 1) := dk_61 (dk_at dksX0_see_3 10 rfl rfl)
theorem dX0_see_80 : decode cX0_see 80 = .ok (.iinc 3 3, 3) := dk_132 3 3 (dk_at dksX0_see_3 11 rfl rfl)
theorem dX0_see_83 : decode cX0_see 83 = .ok (.goto (-54), 3) := dk_167 255 202 (dk_at dksX0_see_3 14 rfl rfl)
theorem dX0_see_86 : decode cX0_see 86 = .ok (.iload_n 2, 1) := dk_28 (dk_at dksX0_see_3 17 rfl rfl)
theorem dX0_see_87 : decode cX0_see 87 = .ok (.ifCond .ne 9, 3) := dk_154 0 9 (dk_at dksX0_see_3 18 rfl rfl)
theorem dX0_see_90 : decode cX0_see 90 = .ok (.aload_n 0, 1) := dk_42 (dk_at dksX0_see_3 21 rfl rfl)
theorem dX0_see_91 : decode cX0_see 91 = .ok (.iconst 1, 1) := dk_4 (dk_at dksX0_see_3 22 rfl rfl)
theorem dX0_see_92 : decode cX0_see 92 = .ok (.invokevirtual 107, 3) := dk_182 0 107 (dk_at dksX0_see_4 0 rfl rfl)
theorem dX0_see_95 : decode cX0_see 95 = .ok (.ireturn, 1) := dk_172 (dk_at dksX0_see_4 3 rfl rfl)
theorem dX0_see_96 : decode cX0_see 96 = .ok (.aload_n 0, 1) := dk_42 (dk_at dksX0_see_4 4 rfl rfl)
theorem dX0_see_97 : decode cX0_see 97 = .ok (.iload_n 1, 1) := dk_27 (dk_at dksX0_see_4 5 rfl rfl)
theorem dX0_see_98 : decode cX0_see 98 = .ok (.iconst 3, 1) := dk_6 (dk_at dksX0_see_4 6 rfl rfl)
theorem dX0_see_99 : decode cX0_see 99 = .ok (.idiv, 1) := dk_108 (dk_at dksX0_see_4 7 rfl rfl)
theorem dX0_see_100 : decode cX0_see 100 = .ok (.putfield 140, 3) := dk_181 0 140 (dk_at dksX0_see_4 8 rfl rfl)
theorem dX0_see_103 : decode cX0_see 103 = .ok (.iconst 0, 1) := dk_3 (dk_at dksX0_see_4 11 rfl rfl)
theorem dX0_see_104 : decode cX0_see 104 = .ok (.istore_n 3, 1) := dk_62 (dk_at dksX0_see_4 12 rfl rfl)
theorem dX0_see_105 : decode cX0_see 105 = .ok (.iload_n 3, 1) := dk_29 (dk_at dksX0_see_4 13 rfl rfl)
theorem dX0_see_106 : decode cX0_see 106 = .ok (.aload_n 0, 1) := dk_42 (dk_at dksX0_see_4 14 rfl rfl)
theorem dX0_see_107 : decode cX0_see 107 = .ok (.getfield 140, 3) := dk_180 0 140 (dk_at dksX0_see_4 15 rfl rfl)
theorem dX0_see_110 : decode cX0_see 110 = .ok (.if_icmp .ge 52, 3) := dk_162 0 52 (dk_at dksX0_see_4 18 rfl rfl)
theorem dX0_see_113 : decode cX0_see 113 = .ok (.aload_n 0, 1) := dk_42 (dk_at dksX0_see_4 21 rfl rfl)
theorem dX0_see_114 : decode cX0_see 114 = .ok (.getfield 81, 3) := dk_180 0 81 (dk_at dksX0_see_5 0 rfl rfl)
theorem dX0_see_117 : decode cX0_see 117 = .ok (.iload_n 3, 1) := dk_29 (dk_at dksX0_see_5 3 rfl rfl)
theorem dX0_see_118 : decode cX0_see 118 = .ok (.aload_n 0, 1) := dk_42 (dk_at dksX0_see_5 4 rfl rfl)
theorem dX0_see_119 : decode cX0_see 119 = .ok (.iconst 3, 1) := dk_6 (dk_at dksX0_see_5 5 rfl rfl)
theorem dX0_see_120 : decode cX0_see 120 = .ok (.iload_n 3, 1) := dk_29 (dk_at dksX0_see_5 6 rfl rfl)
theorem dX0_see_121 : decode cX0_see 121 = .ok (.imul, 1) := dk_104 (dk_at dksX0_see_5 7 rfl rfl)
theorem dX0_see_122 : decode cX0_see 122 = .ok (.invokevirtual 275, 3) := dk_182 1 19 (dk_at dksX0_see_5 8 rfl rfl)
theorem dX0_see_125 : decode cX0_see 125 = .ok (.iastore, 1) := dk_79 (dk_at dksX0_see_5 11 rfl rfl)
theorem dX0_see_126 : decode cX0_see 126 = .ok (.aload_n 0, 1) := dk_42 (dk_at dksX0_see_5 12 rfl rfl)
theorem dX0_see_127 : decode cX0_see 127 = .ok (.getfield 84, 3) := dk_180 0 84 (dk_at dksX0_see_5 13 rfl rfl)
theorem dX0_see_130 : decode cX0_see 130 = .ok (.iload_n 3, 1) := dk_29 (dk_at dksX0_see_5 16 rfl rfl)
theorem dX0_see_131 : decode cX0_see 131 = .ok (.aload_n 0, 1) := dk_42 (dk_at dksX0_see_5 17 rfl rfl)
theorem dX0_see_132 : decode cX0_see 132 = .ok (.iconst 3, 1) := dk_6 (dk_at dksX0_see_5 18 rfl rfl)
theorem dX0_see_133 : decode cX0_see 133 = .ok (.iload_n 3, 1) := dk_29 (dk_at dksX0_see_5 19 rfl rfl)
theorem dX0_see_134 : decode cX0_see 134 = .ok (.imul, 1) := dk_104 (dk_at dksX0_see_5 20 rfl rfl)
theorem dX0_see_135 : decode cX0_see 135 = .ok (.iconst 1, 1) := dk_4 (dk_at dksX0_see_5 21 rfl rfl)
theorem dX0_see_136 : decode cX0_see 136 = .ok (.iadd, 1) := dk_96 (dk_at dksX0_see_5 22 rfl rfl)
theorem dX0_see_137 : decode cX0_see 137 = .ok (.invokevirtual 275, 3) := dk_182 1 19 (dk_at dksX0_see_6 0 rfl rfl)
theorem dX0_see_140 : decode cX0_see 140 = .ok (.iastore, 1) := dk_79 (dk_at dksX0_see_6 3 rfl rfl)
theorem dX0_see_141 : decode cX0_see 141 = .ok (.aload_n 0, 1) := dk_42 (dk_at dksX0_see_6 4 rfl rfl)
theorem dX0_see_142 : decode cX0_see 142 = .ok (.getfield 87, 3) := dk_180 0 87 (dk_at dksX0_see_6 5 rfl rfl)
theorem dX0_see_145 : decode cX0_see 145 = .ok (.iload_n 3, 1) := dk_29 (dk_at dksX0_see_6 8 rfl rfl)
theorem dX0_see_146 : decode cX0_see 146 = .ok (.aload_n 0, 1) := dk_42 (dk_at dksX0_see_6 9 rfl rfl)
theorem dX0_see_147 : decode cX0_see 147 = .ok (.iconst 3, 1) := dk_6 (dk_at dksX0_see_6 10 rfl rfl)
theorem dX0_see_148 : decode cX0_see 148 = .ok (.iload_n 3, 1) := dk_29 (dk_at dksX0_see_6 11 rfl rfl)
theorem dX0_see_149 : decode cX0_see 149 = .ok (.imul, 1) := dk_104 (dk_at dksX0_see_6 12 rfl rfl)
theorem dX0_see_150 : decode cX0_see 150 = .ok (.iconst 2, 1) := dk_5 (dk_at dksX0_see_6 13 rfl rfl)
theorem dX0_see_151 : decode cX0_see 151 = .ok (.iadd, 1) := dk_96 (dk_at dksX0_see_6 14 rfl rfl)
theorem dX0_see_152 : decode cX0_see 152 = .ok (.invokevirtual 275, 3) := dk_182 1 19 (dk_at dksX0_see_6 15 rfl rfl)
theorem dX0_see_155 : decode cX0_see 155 = .ok (.iastore, 1) := dk_79 (dk_at dksX0_see_6 18 rfl rfl)
theorem dX0_see_156 : decode cX0_see 156 = .ok (.iinc 3 1, 3) := dk_132 3 1 (dk_at dksX0_see_6 19 rfl rfl)
theorem dX0_see_159 : decode cX0_see 159 = .ok (.goto (-54), 3) := dk_167 255 202 (dk_at dksX0_see_7 0 rfl rfl)
theorem dX0_see_162 : decode cX0_see 162 = .ok (.aload_n 0, 1) := dk_42 (dk_at dksX0_see_7 3 rfl rfl)
theorem dX0_see_163 : decode cX0_see 163 = .ok (.getfield 140, 3) := dk_180 0 140 (dk_at dksX0_see_7 4 rfl rfl)
theorem dX0_see_166 : decode cX0_see 166 = .ok (.ireturn, 1) := dk_172 (dk_at dksX0_see_7 7 rfl rfl)
abbrev cX0_byteAt : ByteArray := prog_1_method_40_code
def yX0_byteAt : MethodName := ⟨RX0, "byteAt", "(I)I"⟩
def dkwX0_byteAt_0 : List UInt8 := [42, 180, 0, 35, 27, 51, 17, 0, 255, 126, 172]
abbrev dktX0_byteAt_0 : List UInt8 := dkwX0_byteAt_0 ++ []
theorem dksX0_byteAt_0 : cX0_byteAt.data.toList.drop 0 = dktX0_byteAt_0 := by decide +kernel
theorem dX0_byteAt_0 : decode cX0_byteAt 0 = .ok (.aload_n 0, 1) := dk_42 (dk_at dksX0_byteAt_0 0 rfl rfl)
theorem dX0_byteAt_1 : decode cX0_byteAt 1 = .ok (.getfield 35, 3) := dk_180 0 35 (dk_at dksX0_byteAt_0 1 rfl rfl)
theorem dX0_byteAt_4 : decode cX0_byteAt 4 = .ok (.iload_n 1, 1) := dk_27 (dk_at dksX0_byteAt_0 4 rfl rfl)
theorem dX0_byteAt_5 : decode cX0_byteAt 5 = .ok (.baload, 1) := dk_51 (dk_at dksX0_byteAt_0 5 rfl rfl)
theorem dX0_byteAt_6 : decode cX0_byteAt 6 = .ok (.sipush 255, 3) := dk_17 0 255 (dk_at dksX0_byteAt_0 6 rfl rfl)
theorem dX0_byteAt_9 : decode cX0_byteAt 9 = .ok (.iand, 1) := dk_126 (dk_at dksX0_byteAt_0 9 rfl rfl)
theorem dX0_byteAt_10 : decode cX0_byteAt 10 = .ok (.ireturn, 1) := dk_172 (dk_at dksX0_byteAt_0 10 rfl rfl)
abbrev cX0_thoughts : ByteArray := prog_1_method_43_code
def yX0_thoughts : MethodName := ⟨RX0, "thoughts", "(II)I"⟩
def dkwX0_thoughts_2 : List UInt8 := [182, 1, 22, 153, 0, 10, 4, 21, 4, 120, 167, 0, 4, 3, 128, 62, 132, 4, 1, 167, 255, 205, 29, 172]
abbrev dktX0_thoughts_2 : List UInt8 := dkwX0_thoughts_2 ++ []
def dkwX0_thoughts_1 : List UInt8 := [180, 0, 73, 42, 180, 0, 69, 182, 0, 239, 180, 0, 223, 27, 50, 28, 21, 4, 79, 29, 42, 21, 4, 28]
abbrev dktX0_thoughts_1 : List UInt8 := dkwX0_thoughts_1 ++ dktX0_thoughts_2
def dkwX0_thoughts_0 : List UInt8 := [42, 27, 28, 182, 0, 219, 154, 0, 5, 2, 172, 3, 62, 3, 54, 4, 21, 4, 16, 10, 162, 0, 50, 42]
abbrev dktX0_thoughts_0 : List UInt8 := dkwX0_thoughts_0 ++ dktX0_thoughts_1
theorem dksX0_thoughts_0 : cX0_thoughts.data.toList.drop 0 = dktX0_thoughts_0 := by decide +kernel
theorem dksX0_thoughts_1 : cX0_thoughts.data.toList.drop 24 = dktX0_thoughts_1 := dk_seg dksX0_thoughts_0 24 rfl rfl
theorem dksX0_thoughts_2 : cX0_thoughts.data.toList.drop 48 = dktX0_thoughts_2 := dk_seg dksX0_thoughts_1 24 rfl rfl
theorem dX0_thoughts_0 : decode cX0_thoughts 0 = .ok (.aload_n 0, 1) := dk_42 (dk_at dksX0_thoughts_0 0 rfl rfl)
theorem dX0_thoughts_1 : decode cX0_thoughts 1 = .ok (.iload_n 1, 1) := dk_27 (dk_at dksX0_thoughts_0 1 rfl rfl)
theorem dX0_thoughts_2 : decode cX0_thoughts 2 = .ok (.iload_n 2, 1) := dk_28 (dk_at dksX0_thoughts_0 2 rfl rfl)
theorem dX0_thoughts_3 : decode cX0_thoughts 3 = .ok (.invokevirtual 219, 3) := dk_182 0 219 (dk_at dksX0_thoughts_0 3 rfl rfl)
theorem dX0_thoughts_6 : decode cX0_thoughts 6 = .ok (.ifCond .ne 5, 3) := dk_154 0 5 (dk_at dksX0_thoughts_0 6 rfl rfl)
theorem dX0_thoughts_9 : decode cX0_thoughts 9 = .ok (.iconst (-1), 1) := dk_2 (dk_at dksX0_thoughts_0 9 rfl rfl)
theorem dX0_thoughts_10 : decode cX0_thoughts 10 = .ok (.ireturn, 1) := dk_172 (dk_at dksX0_thoughts_0 10 rfl rfl)
theorem dX0_thoughts_11 : decode cX0_thoughts 11 = .ok (.iconst 0, 1) := dk_3 (dk_at dksX0_thoughts_0 11 rfl rfl)
theorem dX0_thoughts_12 : decode cX0_thoughts 12 = .ok (.istore_n 3, 1) := dk_62 (dk_at dksX0_thoughts_0 12 rfl rfl)
theorem dX0_thoughts_13 : decode cX0_thoughts 13 = .ok (.iconst 0, 1) := dk_3 (dk_at dksX0_thoughts_0 13 rfl rfl)
theorem dX0_thoughts_14 : decode cX0_thoughts 14 = .ok (.istore 4, 2) := dk_54 4 (dk_at dksX0_thoughts_0 14 rfl rfl)
theorem dX0_thoughts_16 : decode cX0_thoughts 16 = .ok (.iload 4, 2) := dk_21 4 (dk_at dksX0_thoughts_0 16 rfl rfl)
theorem dX0_thoughts_18 : decode cX0_thoughts 18 = .ok (.bipush 10, 2) := dk_16 10 (dk_at dksX0_thoughts_0 18 rfl rfl)
theorem dX0_thoughts_20 : decode cX0_thoughts 20 = .ok (.if_icmp .ge 50, 3) := dk_162 0 50 (dk_at dksX0_thoughts_0 20 rfl rfl)
theorem dX0_thoughts_23 : decode cX0_thoughts 23 = .ok (.aload_n 0, 1) := dk_42 (dk_at dksX0_thoughts_0 23 rfl rfl)
theorem dX0_thoughts_24 : decode cX0_thoughts 24 = .ok (.getfield 73, 3) := dk_180 0 73 (dk_at dksX0_thoughts_1 0 rfl rfl)
theorem dX0_thoughts_27 : decode cX0_thoughts 27 = .ok (.aload_n 0, 1) := dk_42 (dk_at dksX0_thoughts_1 3 rfl rfl)
theorem dX0_thoughts_28 : decode cX0_thoughts 28 = .ok (.getfield 69, 3) := dk_180 0 69 (dk_at dksX0_thoughts_1 4 rfl rfl)
theorem dX0_thoughts_31 : decode cX0_thoughts 31 = .ok (.invokevirtual 239, 3) := dk_182 0 239 (dk_at dksX0_thoughts_1 7 rfl rfl)
theorem dX0_thoughts_34 : decode cX0_thoughts 34 = .ok (.getfield 223, 3) := dk_180 0 223 (dk_at dksX0_thoughts_1 10 rfl rfl)
theorem dX0_thoughts_37 : decode cX0_thoughts 37 = .ok (.iload_n 1, 1) := dk_27 (dk_at dksX0_thoughts_1 13 rfl rfl)
theorem dX0_thoughts_38 : decode cX0_thoughts 38 = .ok (.aaload, 1) := dk_50 (dk_at dksX0_thoughts_1 14 rfl rfl)
theorem dX0_thoughts_39 : decode cX0_thoughts 39 = .ok (.iload_n 2, 1) := dk_28 (dk_at dksX0_thoughts_1 15 rfl rfl)
theorem dX0_thoughts_40 : decode cX0_thoughts 40 = .ok (.iload 4, 2) := dk_21 4 (dk_at dksX0_thoughts_1 16 rfl rfl)
theorem dX0_thoughts_42 : decode cX0_thoughts 42 = .ok (.iastore, 1) := dk_79 (dk_at dksX0_thoughts_1 18 rfl rfl)
theorem dX0_thoughts_43 : decode cX0_thoughts 43 = .ok (.iload_n 3, 1) := dk_29 (dk_at dksX0_thoughts_1 19 rfl rfl)
theorem dX0_thoughts_44 : decode cX0_thoughts 44 = .ok (.aload_n 0, 1) := dk_42 (dk_at dksX0_thoughts_1 20 rfl rfl)
theorem dX0_thoughts_45 : decode cX0_thoughts 45 = .ok (.iload 4, 2) := dk_21 4 (dk_at dksX0_thoughts_1 21 rfl rfl)
theorem dX0_thoughts_47 : decode cX0_thoughts 47 = .ok (.iload_n 2, 1) := dk_28 (dk_at dksX0_thoughts_1 23 rfl rfl)
theorem dX0_thoughts_48 : decode cX0_thoughts 48 = .ok (.invokevirtual 278, 3) := dk_182 1 22 (dk_at dksX0_thoughts_2 0 rfl rfl)
theorem dX0_thoughts_51 : decode cX0_thoughts 51 = .ok (.ifCond .eq 10, 3) := dk_153 0 10 (dk_at dksX0_thoughts_2 3 rfl rfl)
theorem dX0_thoughts_54 : decode cX0_thoughts 54 = .ok (.iconst 1, 1) := dk_4 (dk_at dksX0_thoughts_2 6 rfl rfl)
theorem dX0_thoughts_55 : decode cX0_thoughts 55 = .ok (.iload 4, 2) := dk_21 4 (dk_at dksX0_thoughts_2 7 rfl rfl)
theorem dX0_thoughts_57 : decode cX0_thoughts 57 = .ok (.ishl, 1) := dk_120 (dk_at dksX0_thoughts_2 9 rfl rfl)
theorem dX0_thoughts_58 : decode cX0_thoughts 58 = .ok (.goto 4, 3) := dk_167 0 4 (dk_at dksX0_thoughts_2 10 rfl rfl)
theorem dX0_thoughts_61 : decode cX0_thoughts 61 = .ok (.iconst 0, 1) := dk_3 (dk_at dksX0_thoughts_2 13 rfl rfl)
theorem dX0_thoughts_62 : decode cX0_thoughts 62 = .ok (.ior, 1) := dk_128 (dk_at dksX0_thoughts_2 14 rfl rfl)
theorem dX0_thoughts_63 : decode cX0_thoughts 63 = .ok (.istore_n 3, 1) := dk_62 (dk_at dksX0_thoughts_2 15 rfl rfl)
theorem dX0_thoughts_64 : decode cX0_thoughts 64 = .ok (.iinc 4 1, 3) := dk_132 4 1 (dk_at dksX0_thoughts_2 16 rfl rfl)
theorem dX0_thoughts_67 : decode cX0_thoughts 67 = .ok (.goto (-51), 3) := dk_167 255 205 (dk_at dksX0_thoughts_2 19 rfl rfl)
theorem dX0_thoughts_70 : decode cX0_thoughts 70 = .ok (.iload_n 3, 1) := dk_29 (dk_at dksX0_thoughts_2 22 rfl rfl)
theorem dX0_thoughts_71 : decode cX0_thoughts 71 = .ok (.ireturn, 1) := dk_172 (dk_at dksX0_thoughts_2 23 rfl rfl)
abbrev cX0_isSeen : ByteArray := prog_1_method_42_code
def yX0_isSeen : MethodName := ⟨RX0, "isSeen", "(II)Z"⟩
def dkwX0_isSeen_5 : List UInt8 := [160, 0, 7, 4, 167, 0, 4, 3, 172]
abbrev dktX0_isSeen_5 : List UInt8 := dkwX0_isSeen_5 ++ []
def dkwX0_isSeen_4 : List UInt8 := [167, 255, 199, 42, 180, 0, 73, 182, 0, 247, 87, 132, 4, 1, 167, 255, 152, 29, 42, 180, 0, 140]
abbrev dktX0_isSeen_4 : List UInt8 := dkwX0_isSeen_4 ++ dktX0_isSeen_5
def dkwX0_isSeen_3 : List UInt8 := [21, 5, 46, 46, 42, 180, 0, 87, 21, 5, 46, 160, 0, 7, 4, 167, 0, 4, 3, 96, 62, 132, 5, 1]
abbrev dktX0_isSeen_3 : List UInt8 := dkwX0_isSeen_3 ++ dktX0_isSeen_4
def dkwX0_isSeen_2 : List UInt8 := [29, 42, 180, 0, 81, 21, 5, 46, 21, 4, 160, 0, 32, 42, 180, 0, 73, 180, 0, 174, 42, 180, 0, 84]
abbrev dktX0_isSeen_2 : List UInt8 := dkwX0_isSeen_2 ++ dktX0_isSeen_3
def dkwX0_isSeen_1 : List UInt8 := [21, 4, 42, 180, 0, 73, 180, 0, 174, 28, 46, 79, 3, 54, 5, 21, 5, 42, 180, 0, 140, 162, 0, 54]
abbrev dktX0_isSeen_1 : List UInt8 := dkwX0_isSeen_1 ++ dktX0_isSeen_2
def dkwX0_isSeen_0 : List UInt8 := [3, 62, 3, 54, 4, 42, 21, 4, 3, 16, 30, 182, 0, 236, 153, 0, 98, 42, 180, 0, 90, 27, 50]
abbrev dktX0_isSeen_0 : List UInt8 := dkwX0_isSeen_0 ++ dktX0_isSeen_1
theorem dksX0_isSeen_0 : cX0_isSeen.data.toList.drop 0 = dktX0_isSeen_0 := by decide +kernel
theorem dksX0_isSeen_1 : cX0_isSeen.data.toList.drop 23 = dktX0_isSeen_1 := dk_seg dksX0_isSeen_0 23 rfl rfl
theorem dksX0_isSeen_2 : cX0_isSeen.data.toList.drop 47 = dktX0_isSeen_2 := dk_seg dksX0_isSeen_1 24 rfl rfl
theorem dksX0_isSeen_3 : cX0_isSeen.data.toList.drop 71 = dktX0_isSeen_3 := dk_seg dksX0_isSeen_2 24 rfl rfl
theorem dksX0_isSeen_4 : cX0_isSeen.data.toList.drop 95 = dktX0_isSeen_4 := dk_seg dksX0_isSeen_3 24 rfl rfl
theorem dksX0_isSeen_5 : cX0_isSeen.data.toList.drop 117 = dktX0_isSeen_5 := dk_seg dksX0_isSeen_4 22 rfl rfl
theorem dX0_isSeen_0 : decode cX0_isSeen 0 = .ok (.iconst 0, 1) := dk_3 (dk_at dksX0_isSeen_0 0 rfl rfl)
theorem dX0_isSeen_1 : decode cX0_isSeen 1 = .ok (.istore_n 3, 1) := dk_62 (dk_at dksX0_isSeen_0 1 rfl rfl)
theorem dX0_isSeen_2 : decode cX0_isSeen 2 = .ok (.iconst 0, 1) := dk_3 (dk_at dksX0_isSeen_0 2 rfl rfl)
theorem dX0_isSeen_3 : decode cX0_isSeen 3 = .ok (.istore 4, 2) := dk_54 4 (dk_at dksX0_isSeen_0 3 rfl rfl)
theorem dX0_isSeen_5 : decode cX0_isSeen 5 = .ok (.aload_n 0, 1) := dk_42 (dk_at dksX0_isSeen_0 5 rfl rfl)
theorem dX0_isSeen_6 : decode cX0_isSeen 6 = .ok (.iload 4, 2) := dk_21 4 (dk_at dksX0_isSeen_0 6 rfl rfl)
theorem dX0_isSeen_8 : decode cX0_isSeen 8 = .ok (.iconst 0, 1) := dk_3 (dk_at dksX0_isSeen_0 8 rfl rfl)
theorem dX0_isSeen_9 : decode cX0_isSeen 9 = .ok (.bipush 30, 2) := dk_16 30 (dk_at dksX0_isSeen_0 9 rfl rfl)
theorem dX0_isSeen_11 : decode cX0_isSeen 11 = .ok (.invokevirtual 236, 3) := dk_182 0 236 (dk_at dksX0_isSeen_0 11 rfl rfl)
theorem dX0_isSeen_14 : decode cX0_isSeen 14 = .ok (.ifCond .eq 98, 3) := dk_153 0 98 (dk_at dksX0_isSeen_0 14 rfl rfl)
theorem dX0_isSeen_17 : decode cX0_isSeen 17 = .ok (.aload_n 0, 1) := dk_42 (dk_at dksX0_isSeen_0 17 rfl rfl)
theorem dX0_isSeen_18 : decode cX0_isSeen 18 = .ok (.getfield 90, 3) := dk_180 0 90 (dk_at dksX0_isSeen_0 18 rfl rfl)
theorem dX0_isSeen_21 : decode cX0_isSeen 21 = .ok (.iload_n 1, 1) := dk_27 (dk_at dksX0_isSeen_0 21 rfl rfl)
theorem dX0_isSeen_22 : decode cX0_isSeen 22 = .ok (.aaload, 1) := dk_50 (dk_at dksX0_isSeen_0 22 rfl rfl)
theorem dX0_isSeen_23 : decode cX0_isSeen 23 = .ok (.iload 4, 2) := dk_21 4 (dk_at dksX0_isSeen_1 0 rfl rfl)
theorem dX0_isSeen_25 : decode cX0_isSeen 25 = .ok (.aload_n 0, 1) := dk_42 (dk_at dksX0_isSeen_1 2 rfl rfl)
theorem dX0_isSeen_26 : decode cX0_isSeen 26 = .ok (.getfield 73, 3) := dk_180 0 73 (dk_at dksX0_isSeen_1 3 rfl rfl)
theorem dX0_isSeen_29 : decode cX0_isSeen 29 = .ok (.getfield 174, 3) := dk_180 0 174 (dk_at dksX0_isSeen_1 6 rfl rfl)
theorem dX0_isSeen_32 : decode cX0_isSeen 32 = .ok (.iload_n 2, 1) := dk_28 (dk_at dksX0_isSeen_1 9 rfl rfl)
theorem dX0_isSeen_33 : decode cX0_isSeen 33 = .ok (.iaload, 1) := dk_46 (dk_at dksX0_isSeen_1 10 rfl rfl)
theorem dX0_isSeen_34 : decode cX0_isSeen 34 = .ok (.iastore, 1) := dk_79 (dk_at dksX0_isSeen_1 11 rfl rfl)
theorem dX0_isSeen_35 : decode cX0_isSeen 35 = .ok (.iconst 0, 1) := dk_3 (dk_at dksX0_isSeen_1 12 rfl rfl)
theorem dX0_isSeen_36 : decode cX0_isSeen 36 = .ok (.istore 5, 2) := dk_54 5 (dk_at dksX0_isSeen_1 13 rfl rfl)
theorem dX0_isSeen_38 : decode cX0_isSeen 38 = .ok (.iload 5, 2) := dk_21 5 (dk_at dksX0_isSeen_1 15 rfl rfl)
theorem dX0_isSeen_40 : decode cX0_isSeen 40 = .ok (.aload_n 0, 1) := dk_42 (dk_at dksX0_isSeen_1 17 rfl rfl)
theorem dX0_isSeen_41 : decode cX0_isSeen 41 = .ok (.getfield 140, 3) := dk_180 0 140 (dk_at dksX0_isSeen_1 18 rfl rfl)
theorem dX0_isSeen_44 : decode cX0_isSeen 44 = .ok (.if_icmp .ge 54, 3) := dk_162 0 54 (dk_at dksX0_isSeen_1 21 rfl rfl)
theorem dX0_isSeen_47 : decode cX0_isSeen 47 = .ok (.iload_n 3, 1) := dk_29 (dk_at dksX0_isSeen_2 0 rfl rfl)
theorem dX0_isSeen_48 : decode cX0_isSeen 48 = .ok (.aload_n 0, 1) := dk_42 (dk_at dksX0_isSeen_2 1 rfl rfl)
theorem dX0_isSeen_49 : decode cX0_isSeen 49 = .ok (.getfield 81, 3) := dk_180 0 81 (dk_at dksX0_isSeen_2 2 rfl rfl)
theorem dX0_isSeen_52 : decode cX0_isSeen 52 = .ok (.iload 5, 2) := dk_21 5 (dk_at dksX0_isSeen_2 5 rfl rfl)
theorem dX0_isSeen_54 : decode cX0_isSeen 54 = .ok (.iaload, 1) := dk_46 (dk_at dksX0_isSeen_2 7 rfl rfl)
theorem dX0_isSeen_55 : decode cX0_isSeen 55 = .ok (.iload 4, 2) := dk_21 4 (dk_at dksX0_isSeen_2 8 rfl rfl)
theorem dX0_isSeen_57 : decode cX0_isSeen 57 = .ok (.if_icmp .ne 32, 3) := dk_160 0 32 (dk_at dksX0_isSeen_2 10 rfl rfl)
theorem dX0_isSeen_60 : decode cX0_isSeen 60 = .ok (.aload_n 0, 1) := dk_42 (dk_at dksX0_isSeen_2 13 rfl rfl)
theorem dX0_isSeen_61 : decode cX0_isSeen 61 = .ok (.getfield 73, 3) := dk_180 0 73 (dk_at dksX0_isSeen_2 14 rfl rfl)
theorem dX0_isSeen_64 : decode cX0_isSeen 64 = .ok (.getfield 174, 3) := dk_180 0 174 (dk_at dksX0_isSeen_2 17 rfl rfl)
theorem dX0_isSeen_67 : decode cX0_isSeen 67 = .ok (.aload_n 0, 1) := dk_42 (dk_at dksX0_isSeen_2 20 rfl rfl)
theorem dX0_isSeen_68 : decode cX0_isSeen 68 = .ok (.getfield 84, 3) := dk_180 0 84 (dk_at dksX0_isSeen_2 21 rfl rfl)
theorem dX0_isSeen_71 : decode cX0_isSeen 71 = .ok (.iload 5, 2) := dk_21 5 (dk_at dksX0_isSeen_3 0 rfl rfl)
theorem dX0_isSeen_73 : decode cX0_isSeen 73 = .ok (.iaload, 1) := dk_46 (dk_at dksX0_isSeen_3 2 rfl rfl)
theorem dX0_isSeen_74 : decode cX0_isSeen 74 = .ok (.iaload, 1) := dk_46 (dk_at dksX0_isSeen_3 3 rfl rfl)
theorem dX0_isSeen_75 : decode cX0_isSeen 75 = .ok (.aload_n 0, 1) := dk_42 (dk_at dksX0_isSeen_3 4 rfl rfl)
theorem dX0_isSeen_76 : decode cX0_isSeen 76 = .ok (.getfield 87, 3) := dk_180 0 87 (dk_at dksX0_isSeen_3 5 rfl rfl)
theorem dX0_isSeen_79 : decode cX0_isSeen 79 = .ok (.iload 5, 2) := dk_21 5 (dk_at dksX0_isSeen_3 8 rfl rfl)
theorem dX0_isSeen_81 : decode cX0_isSeen 81 = .ok (.iaload, 1) := dk_46 (dk_at dksX0_isSeen_3 10 rfl rfl)
theorem dX0_isSeen_82 : decode cX0_isSeen 82 = .ok (.if_icmp .ne 7, 3) := dk_160 0 7 (dk_at dksX0_isSeen_3 11 rfl rfl)
theorem dX0_isSeen_85 : decode cX0_isSeen 85 = .ok (.iconst 1, 1) := dk_4 (dk_at dksX0_isSeen_3 14 rfl rfl)
theorem dX0_isSeen_86 : decode cX0_isSeen 86 = .ok (.goto 4, 3) := dk_167 0 4 (dk_at dksX0_isSeen_3 15 rfl rfl)
theorem dX0_isSeen_89 : decode cX0_isSeen 89 = .ok (.iconst 0, 1) := dk_3 (dk_at dksX0_isSeen_3 18 rfl rfl)
theorem dX0_isSeen_90 : decode cX0_isSeen 90 = .ok (.iadd, 1) := dk_96 (dk_at dksX0_isSeen_3 19 rfl rfl)
theorem dX0_isSeen_91 : decode cX0_isSeen 91 = .ok (.istore_n 3, 1) := dk_62 (dk_at dksX0_isSeen_3 20 rfl rfl)
theorem dX0_isSeen_92 : decode cX0_isSeen 92 = .ok (.iinc 5 1, 3) := dk_132 5 1 (dk_at dksX0_isSeen_3 21 rfl rfl)
theorem dX0_isSeen_95 : decode cX0_isSeen 95 = .ok (.goto (-57), 3) := dk_167 255 199 (dk_at dksX0_isSeen_4 0 rfl rfl)
theorem dX0_isSeen_98 : decode cX0_isSeen 98 = .ok (.aload_n 0, 1) := dk_42 (dk_at dksX0_isSeen_4 3 rfl rfl)
theorem dX0_isSeen_99 : decode cX0_isSeen 99 = .ok (.getfield 73, 3) := dk_180 0 73 (dk_at dksX0_isSeen_4 4 rfl rfl)
theorem dX0_isSeen_102 : decode cX0_isSeen 102 = .ok (.invokevirtual 247, 3) := dk_182 0 247 (dk_at dksX0_isSeen_4 7 rfl rfl)
theorem dX0_isSeen_105 : decode cX0_isSeen 105 = .ok (.pop, 1) := dk_87 (dk_at dksX0_isSeen_4 10 rfl rfl)
theorem dX0_isSeen_106 : decode cX0_isSeen 106 = .ok (.iinc 4 1, 3) := dk_132 4 1 (dk_at dksX0_isSeen_4 11 rfl rfl)
theorem dX0_isSeen_109 : decode cX0_isSeen 109 = .ok (.goto (-104), 3) := dk_167 255 152 (dk_at dksX0_isSeen_4 14 rfl rfl)
theorem dX0_isSeen_112 : decode cX0_isSeen 112 = .ok (.iload_n 3, 1) := dk_29 (dk_at dksX0_isSeen_4 17 rfl rfl)
theorem dX0_isSeen_113 : decode cX0_isSeen 113 = .ok (.aload_n 0, 1) := dk_42 (dk_at dksX0_isSeen_4 18 rfl rfl)
theorem dX0_isSeen_114 : decode cX0_isSeen 114 = .ok (.getfield 140, 3) := dk_180 0 140 (dk_at dksX0_isSeen_4 19 rfl rfl)
theorem dX0_isSeen_117 : decode cX0_isSeen 117 = .ok (.if_icmp .ne 7, 3) := dk_160 0 7 (dk_at dksX0_isSeen_5 0 rfl rfl)
theorem dX0_isSeen_120 : decode cX0_isSeen 120 = .ok (.iconst 1, 1) := dk_4 (dk_at dksX0_isSeen_5 3 rfl rfl)
theorem dX0_isSeen_121 : decode cX0_isSeen 121 = .ok (.goto 4, 3) := dk_167 0 4 (dk_at dksX0_isSeen_5 4 rfl rfl)
theorem dX0_isSeen_124 : decode cX0_isSeen 124 = .ok (.iconst 0, 1) := dk_3 (dk_at dksX0_isSeen_5 7 rfl rfl)
theorem dX0_isSeen_125 : decode cX0_isSeen 125 = .ok (.ireturn, 1) := dk_172 (dk_at dksX0_isSeen_5 8 rfl rfl)
abbrev cX0_faces : ByteArray := prog_1_method_44_code
def yX0_faces : MethodName := ⟨RX0, "faces", "(I)I"⟩
def dkwX0_faces_2 : List UInt8 := [29, 120, 167, 0, 4, 3, 128, 61, 132, 3, 1, 167, 255, 211, 28, 172]
abbrev dktX0_faces_2 : List UInt8 := dkwX0_faces_2 ++ []
def dkwX0_faces_1 : List UInt8 := [42, 180, 0, 69, 182, 0, 239, 180, 0, 210, 27, 29, 79, 28, 42, 29, 27, 182, 1, 22, 153, 0, 9, 4]
abbrev dktX0_faces_1 : List UInt8 := dkwX0_faces_1 ++ dktX0_faces_2
def dkwX0_faces_0 : List UInt8 := [42, 27, 182, 0, 161, 154, 0, 5, 2, 172, 3, 61, 3, 62, 29, 16, 10, 162, 0, 45, 42, 180, 0, 73]
abbrev dktX0_faces_0 : List UInt8 := dkwX0_faces_0 ++ dktX0_faces_1
theorem dksX0_faces_0 : cX0_faces.data.toList.drop 0 = dktX0_faces_0 := by decide +kernel
theorem dksX0_faces_1 : cX0_faces.data.toList.drop 24 = dktX0_faces_1 := dk_seg dksX0_faces_0 24 rfl rfl
theorem dksX0_faces_2 : cX0_faces.data.toList.drop 48 = dktX0_faces_2 := dk_seg dksX0_faces_1 24 rfl rfl
theorem dX0_faces_0 : decode cX0_faces 0 = .ok (.aload_n 0, 1) := dk_42 (dk_at dksX0_faces_0 0 rfl rfl)
theorem dX0_faces_1 : decode cX0_faces 1 = .ok (.iload_n 1, 1) := dk_27 (dk_at dksX0_faces_0 1 rfl rfl)
theorem dX0_faces_2 : decode cX0_faces 2 = .ok (.invokevirtual 161, 3) := dk_182 0 161 (dk_at dksX0_faces_0 2 rfl rfl)
theorem dX0_faces_5 : decode cX0_faces 5 = .ok (.ifCond .ne 5, 3) := dk_154 0 5 (dk_at dksX0_faces_0 5 rfl rfl)
theorem dX0_faces_8 : decode cX0_faces 8 = .ok (.iconst (-1), 1) := dk_2 (dk_at dksX0_faces_0 8 rfl rfl)
theorem dX0_faces_9 : decode cX0_faces 9 = .ok (.ireturn, 1) := dk_172 (dk_at dksX0_faces_0 9 rfl rfl)
theorem dX0_faces_10 : decode cX0_faces 10 = .ok (.iconst 0, 1) := dk_3 (dk_at dksX0_faces_0 10 rfl rfl)
theorem dX0_faces_11 : decode cX0_faces 11 = .ok (.istore_n 2, 1) := dk_61 (dk_at dksX0_faces_0 11 rfl rfl)
theorem dX0_faces_12 : decode cX0_faces 12 = .ok (.iconst 0, 1) := dk_3 (dk_at dksX0_faces_0 12 rfl rfl)
theorem dX0_faces_13 : decode cX0_faces 13 = .ok (.istore_n 3, 1) := dk_62 (dk_at dksX0_faces_0 13 rfl rfl)
theorem dX0_faces_14 : decode cX0_faces 14 = .ok (.iload_n 3, 1) := dk_29 (dk_at dksX0_faces_0 14 rfl rfl)
theorem dX0_faces_15 : decode cX0_faces 15 = .ok (.bipush 10, 2) := dk_16 10 (dk_at dksX0_faces_0 15 rfl rfl)
theorem dX0_faces_17 : decode cX0_faces 17 = .ok (.if_icmp .ge 45, 3) := dk_162 0 45 (dk_at dksX0_faces_0 17 rfl rfl)
theorem dX0_faces_20 : decode cX0_faces 20 = .ok (.aload_n 0, 1) := dk_42 (dk_at dksX0_faces_0 20 rfl rfl)
theorem dX0_faces_21 : decode cX0_faces 21 = .ok (.getfield 73, 3) := dk_180 0 73 (dk_at dksX0_faces_0 21 rfl rfl)
theorem dX0_faces_24 : decode cX0_faces 24 = .ok (.aload_n 0, 1) := dk_42 (dk_at dksX0_faces_1 0 rfl rfl)
theorem dX0_faces_25 : decode cX0_faces 25 = .ok (.getfield 69, 3) := dk_180 0 69 (dk_at dksX0_faces_1 1 rfl rfl)
theorem dX0_faces_28 : decode cX0_faces 28 = .ok (.invokevirtual 239, 3) := dk_182 0 239 (dk_at dksX0_faces_1 4 rfl rfl)
theorem dX0_faces_31 : decode cX0_faces 31 = .ok (.getfield 210, 3) := dk_180 0 210 (dk_at dksX0_faces_1 7 rfl rfl)
theorem dX0_faces_34 : decode cX0_faces 34 = .ok (.iload_n 1, 1) := dk_27 (dk_at dksX0_faces_1 10 rfl rfl)
theorem dX0_faces_35 : decode cX0_faces 35 = .ok (.iload_n 3, 1) := dk_29 (dk_at dksX0_faces_1 11 rfl rfl)
theorem dX0_faces_36 : decode cX0_faces 36 = .ok (.iastore, 1) := dk_79 (dk_at dksX0_faces_1 12 rfl rfl)
theorem dX0_faces_37 : decode cX0_faces 37 = .ok (.iload_n 2, 1) := dk_28 (dk_at dksX0_faces_1 13 rfl rfl)
theorem dX0_faces_38 : decode cX0_faces 38 = .ok (.aload_n 0, 1) := dk_42 (dk_at dksX0_faces_1 14 rfl rfl)
theorem dX0_faces_39 : decode cX0_faces 39 = .ok (.iload_n 3, 1) := dk_29 (dk_at dksX0_faces_1 15 rfl rfl)
theorem dX0_faces_40 : decode cX0_faces 40 = .ok (.iload_n 1, 1) := dk_27 (dk_at dksX0_faces_1 16 rfl rfl)
theorem dX0_faces_41 : decode cX0_faces 41 = .ok (.invokevirtual 278, 3) := dk_182 1 22 (dk_at dksX0_faces_1 17 rfl rfl)
theorem dX0_faces_44 : decode cX0_faces 44 = .ok (.ifCond .eq 9, 3) := dk_153 0 9 (dk_at dksX0_faces_1 20 rfl rfl)
theorem dX0_faces_47 : decode cX0_faces 47 = .ok (.iconst 1, 1) := dk_4 (dk_at dksX0_faces_1 23 rfl rfl)
theorem dX0_faces_48 : decode cX0_faces 48 = .ok (.iload_n 3, 1) := dk_29 (dk_at dksX0_faces_2 0 rfl rfl)
theorem dX0_faces_49 : decode cX0_faces 49 = .ok (.ishl, 1) := dk_120 (dk_at dksX0_faces_2 1 rfl rfl)
theorem dX0_faces_50 : decode cX0_faces 50 = .ok (.goto 4, 3) := dk_167 0 4 (dk_at dksX0_faces_2 2 rfl rfl)
theorem dX0_faces_53 : decode cX0_faces 53 = .ok (.iconst 0, 1) := dk_3 (dk_at dksX0_faces_2 5 rfl rfl)
theorem dX0_faces_54 : decode cX0_faces 54 = .ok (.ior, 1) := dk_128 (dk_at dksX0_faces_2 6 rfl rfl)
theorem dX0_faces_55 : decode cX0_faces 55 = .ok (.istore_n 2, 1) := dk_61 (dk_at dksX0_faces_2 7 rfl rfl)
theorem dX0_faces_56 : decode cX0_faces 56 = .ok (.iinc 3 1, 3) := dk_132 3 1 (dk_at dksX0_faces_2 8 rfl rfl)
theorem dX0_faces_59 : decode cX0_faces 59 = .ok (.goto (-45), 3) := dk_167 255 211 (dk_at dksX0_faces_2 11 rfl rfl)
theorem dX0_faces_62 : decode cX0_faces 62 = .ok (.iload_n 2, 1) := dk_28 (dk_at dksX0_faces_2 14 rfl rfl)
theorem dX0_faces_63 : decode cX0_faces 63 = .ok (.ireturn, 1) := dk_172 (dk_at dksX0_faces_2 15 rfl rfl)
abbrev cX0_tells : ByteArray := prog_1_method_45_code
def yX0_tells : MethodName := ⟨RX0, "tells", "(III)I"⟩
def dkwX0_tells_8 : List UInt8 := [21, 6, 172]
abbrev dktX0_tells_8 : List UInt8 := dkwX0_tells_8 ++ []
def dkwX0_tells_7 : List UInt8 := [54, 5, 132, 7, 1, 167, 255, 123, 21, 5, 2, 159, 0, 7, 29, 154, 0, 8, 21, 5, 167, 0, 5]
abbrev dktX0_tells_7 : List UInt8 := dkwX0_tells_7 ++ dktX0_tells_8
def dkwX0_tells_6 : List UInt8 := [54, 8, 132, 9, 1, 167, 255, 165, 21, 8, 21, 6, 161, 0, 6, 167, 0, 11, 21, 8, 54, 6, 21, 7]
abbrev dktX0_tells_6 : List UInt8 := dkwX0_tells_6 ++ dktX0_tells_7
def dkwX0_tells_5 : List UInt8 := [160, 0, 7, 4, 167, 0, 4, 3, 96, 54, 10, 132, 11, 1, 167, 255, 193, 21, 8, 21, 10, 184, 1, 29]
abbrev dktX0_tells_5 : List UInt8 := dkwX0_tells_5 ++ dktX0_tells_6
def dkwX0_tells_4 : List UInt8 := [153, 0, 30, 42, 180, 0, 90, 21, 9, 50, 21, 7, 46, 42, 180, 0, 90, 21, 11, 50, 21, 7, 46]
abbrev dktX0_tells_4 : List UInt8 := dkwX0_tells_4 ++ dktX0_tells_5
def dkwX0_tells_3 : List UInt8 := [162, 0, 62, 21, 10, 21, 4, 21, 9, 184, 1, 2, 153, 0, 40, 21, 4, 21, 11, 184, 1, 2]
abbrev dktX0_tells_3 : List UInt8 := dkwX0_tells_3 ++ dktX0_tells_4
def dkwX0_tells_2 : List UInt8 := [54, 8, 3, 54, 9, 21, 9, 16, 10, 162, 0, 90, 3, 54, 10, 3, 54, 11, 21, 11, 16, 10]
abbrev dktX0_tells_2 : List UInt8 := dkwX0_tells_2 ++ dktX0_tells_3
def dkwX0_tells_1 : List UInt8 := [2, 54, 5, 19, 1, 28, 54, 6, 4, 54, 7, 42, 21, 7, 4, 16, 30, 182, 0, 236, 153, 0, 127, 3]
abbrev dktX0_tells_1 : List UInt8 := dkwX0_tells_1 ++ dktX0_tells_2
def dkwX0_tells_0 : List UInt8 := [42, 27, 28, 182, 1, 25, 54, 4, 21, 4, 158, 0, 12, 29, 3, 4, 184, 0, 190, 154, 0, 5, 2, 172]
abbrev dktX0_tells_0 : List UInt8 := dkwX0_tells_0 ++ dktX0_tells_1
theorem dksX0_tells_0 : cX0_tells.data.toList.drop 0 = dktX0_tells_0 := by decide +kernel
theorem dksX0_tells_1 : cX0_tells.data.toList.drop 24 = dktX0_tells_1 := dk_seg dksX0_tells_0 24 rfl rfl
theorem dksX0_tells_2 : cX0_tells.data.toList.drop 48 = dktX0_tells_2 := dk_seg dksX0_tells_1 24 rfl rfl
theorem dksX0_tells_3 : cX0_tells.data.toList.drop 70 = dktX0_tells_3 := dk_seg dksX0_tells_2 22 rfl rfl
theorem dksX0_tells_4 : cX0_tells.data.toList.drop 92 = dktX0_tells_4 := dk_seg dksX0_tells_3 22 rfl rfl
theorem dksX0_tells_5 : cX0_tells.data.toList.drop 115 = dktX0_tells_5 := dk_seg dksX0_tells_4 23 rfl rfl
theorem dksX0_tells_6 : cX0_tells.data.toList.drop 139 = dktX0_tells_6 := dk_seg dksX0_tells_5 24 rfl rfl
theorem dksX0_tells_7 : cX0_tells.data.toList.drop 163 = dktX0_tells_7 := dk_seg dksX0_tells_6 24 rfl rfl
theorem dksX0_tells_8 : cX0_tells.data.toList.drop 186 = dktX0_tells_8 := dk_seg dksX0_tells_7 23 rfl rfl
theorem dX0_tells_0 : decode cX0_tells 0 = .ok (.aload_n 0, 1) := dk_42 (dk_at dksX0_tells_0 0 rfl rfl)
theorem dX0_tells_1 : decode cX0_tells 1 = .ok (.iload_n 1, 1) := dk_27 (dk_at dksX0_tells_0 1 rfl rfl)
theorem dX0_tells_2 : decode cX0_tells 2 = .ok (.iload_n 2, 1) := dk_28 (dk_at dksX0_tells_0 2 rfl rfl)
theorem dX0_tells_3 : decode cX0_tells 3 = .ok (.invokevirtual 281, 3) := dk_182 1 25 (dk_at dksX0_tells_0 3 rfl rfl)
theorem dX0_tells_6 : decode cX0_tells 6 = .ok (.istore 4, 2) := dk_54 4 (dk_at dksX0_tells_0 6 rfl rfl)
theorem dX0_tells_8 : decode cX0_tells 8 = .ok (.iload 4, 2) := dk_21 4 (dk_at dksX0_tells_0 8 rfl rfl)
theorem dX0_tells_10 : decode cX0_tells 10 = .ok (.ifCond .le 12, 3) := dk_158 0 12 (dk_at dksX0_tells_0 10 rfl rfl)
theorem dX0_tells_13 : decode cX0_tells 13 = .ok (.iload_n 3, 1) := dk_29 (dk_at dksX0_tells_0 13 rfl rfl)
theorem dX0_tells_14 : decode cX0_tells 14 = .ok (.iconst 0, 1) := dk_3 (dk_at dksX0_tells_0 14 rfl rfl)
theorem dX0_tells_15 : decode cX0_tells 15 = .ok (.iconst 1, 1) := dk_4 (dk_at dksX0_tells_0 15 rfl rfl)
theorem dX0_tells_16 : decode cX0_tells 16 = .ok (.invokestatic 190, 3) := dk_184 0 190 (dk_at dksX0_tells_0 16 rfl rfl)
theorem dX0_tells_19 : decode cX0_tells 19 = .ok (.ifCond .ne 5, 3) := dk_154 0 5 (dk_at dksX0_tells_0 19 rfl rfl)
theorem dX0_tells_22 : decode cX0_tells 22 = .ok (.iconst (-1), 1) := dk_2 (dk_at dksX0_tells_0 22 rfl rfl)
theorem dX0_tells_23 : decode cX0_tells 23 = .ok (.ireturn, 1) := dk_172 (dk_at dksX0_tells_0 23 rfl rfl)
theorem dX0_tells_24 : decode cX0_tells 24 = .ok (.iconst (-1), 1) := dk_2 (dk_at dksX0_tells_1 0 rfl rfl)
theorem dX0_tells_25 : decode cX0_tells 25 = .ok (.istore 5, 2) := dk_54 5 (dk_at dksX0_tells_1 1 rfl rfl)
theorem dX0_tells_27 : decode cX0_tells 27 = .ok (.ldc_w 284, 3) := dk_19 1 28 (dk_at dksX0_tells_1 3 rfl rfl)
theorem dX0_tells_30 : decode cX0_tells 30 = .ok (.istore 6, 2) := dk_54 6 (dk_at dksX0_tells_1 6 rfl rfl)
theorem dX0_tells_32 : decode cX0_tells 32 = .ok (.iconst 1, 1) := dk_4 (dk_at dksX0_tells_1 8 rfl rfl)
theorem dX0_tells_33 : decode cX0_tells 33 = .ok (.istore 7, 2) := dk_54 7 (dk_at dksX0_tells_1 9 rfl rfl)
theorem dX0_tells_35 : decode cX0_tells 35 = .ok (.aload_n 0, 1) := dk_42 (dk_at dksX0_tells_1 11 rfl rfl)
theorem dX0_tells_36 : decode cX0_tells 36 = .ok (.iload 7, 2) := dk_21 7 (dk_at dksX0_tells_1 12 rfl rfl)
theorem dX0_tells_38 : decode cX0_tells 38 = .ok (.iconst 1, 1) := dk_4 (dk_at dksX0_tells_1 14 rfl rfl)
theorem dX0_tells_39 : decode cX0_tells 39 = .ok (.bipush 30, 2) := dk_16 30 (dk_at dksX0_tells_1 15 rfl rfl)
theorem dX0_tells_41 : decode cX0_tells 41 = .ok (.invokevirtual 236, 3) := dk_182 0 236 (dk_at dksX0_tells_1 17 rfl rfl)
theorem dX0_tells_44 : decode cX0_tells 44 = .ok (.ifCond .eq 127, 3) := dk_153 0 127 (dk_at dksX0_tells_1 20 rfl rfl)
theorem dX0_tells_47 : decode cX0_tells 47 = .ok (.iconst 0, 1) := dk_3 (dk_at dksX0_tells_1 23 rfl rfl)
theorem dX0_tells_48 : decode cX0_tells 48 = .ok (.istore 8, 2) := dk_54 8 (dk_at dksX0_tells_2 0 rfl rfl)
theorem dX0_tells_50 : decode cX0_tells 50 = .ok (.iconst 0, 1) := dk_3 (dk_at dksX0_tells_2 2 rfl rfl)
theorem dX0_tells_51 : decode cX0_tells 51 = .ok (.istore 9, 2) := dk_54 9 (dk_at dksX0_tells_2 3 rfl rfl)
theorem dX0_tells_53 : decode cX0_tells 53 = .ok (.iload 9, 2) := dk_21 9 (dk_at dksX0_tells_2 5 rfl rfl)
theorem dX0_tells_55 : decode cX0_tells 55 = .ok (.bipush 10, 2) := dk_16 10 (dk_at dksX0_tells_2 7 rfl rfl)
theorem dX0_tells_57 : decode cX0_tells 57 = .ok (.if_icmp .ge 90, 3) := dk_162 0 90 (dk_at dksX0_tells_2 9 rfl rfl)
theorem dX0_tells_60 : decode cX0_tells 60 = .ok (.iconst 0, 1) := dk_3 (dk_at dksX0_tells_2 12 rfl rfl)
theorem dX0_tells_61 : decode cX0_tells 61 = .ok (.istore 10, 2) := dk_54 10 (dk_at dksX0_tells_2 13 rfl rfl)
theorem dX0_tells_63 : decode cX0_tells 63 = .ok (.iconst 0, 1) := dk_3 (dk_at dksX0_tells_2 15 rfl rfl)
theorem dX0_tells_64 : decode cX0_tells 64 = .ok (.istore 11, 2) := dk_54 11 (dk_at dksX0_tells_2 16 rfl rfl)
theorem dX0_tells_66 : decode cX0_tells 66 = .ok (.iload 11, 2) := dk_21 11 (dk_at dksX0_tells_2 18 rfl rfl)
theorem dX0_tells_68 : decode cX0_tells 68 = .ok (.bipush 10, 2) := dk_16 10 (dk_at dksX0_tells_2 20 rfl rfl)
theorem dX0_tells_70 : decode cX0_tells 70 = .ok (.if_icmp .ge 62, 3) := dk_162 0 62 (dk_at dksX0_tells_3 0 rfl rfl)
theorem dX0_tells_73 : decode cX0_tells 73 = .ok (.iload 10, 2) := dk_21 10 (dk_at dksX0_tells_3 3 rfl rfl)
theorem dX0_tells_75 : decode cX0_tells 75 = .ok (.iload 4, 2) := dk_21 4 (dk_at dksX0_tells_3 5 rfl rfl)
theorem dX0_tells_77 : decode cX0_tells 77 = .ok (.iload 9, 2) := dk_21 9 (dk_at dksX0_tells_3 7 rfl rfl)
theorem dX0_tells_79 : decode cX0_tells 79 = .ok (.invokestatic 258, 3) := dk_184 1 2 (dk_at dksX0_tells_3 9 rfl rfl)
theorem dX0_tells_82 : decode cX0_tells 82 = .ok (.ifCond .eq 40, 3) := dk_153 0 40 (dk_at dksX0_tells_3 12 rfl rfl)
theorem dX0_tells_85 : decode cX0_tells 85 = .ok (.iload 4, 2) := dk_21 4 (dk_at dksX0_tells_3 15 rfl rfl)
theorem dX0_tells_87 : decode cX0_tells 87 = .ok (.iload 11, 2) := dk_21 11 (dk_at dksX0_tells_3 17 rfl rfl)
theorem dX0_tells_89 : decode cX0_tells 89 = .ok (.invokestatic 258, 3) := dk_184 1 2 (dk_at dksX0_tells_3 19 rfl rfl)
theorem dX0_tells_92 : decode cX0_tells 92 = .ok (.ifCond .eq 30, 3) := dk_153 0 30 (dk_at dksX0_tells_4 0 rfl rfl)
theorem dX0_tells_95 : decode cX0_tells 95 = .ok (.aload_n 0, 1) := dk_42 (dk_at dksX0_tells_4 3 rfl rfl)
theorem dX0_tells_96 : decode cX0_tells 96 = .ok (.getfield 90, 3) := dk_180 0 90 (dk_at dksX0_tells_4 4 rfl rfl)
theorem dX0_tells_99 : decode cX0_tells 99 = .ok (.iload 9, 2) := dk_21 9 (dk_at dksX0_tells_4 7 rfl rfl)
theorem dX0_tells_101 : decode cX0_tells 101 = .ok (.aaload, 1) := dk_50 (dk_at dksX0_tells_4 9 rfl rfl)
theorem dX0_tells_102 : decode cX0_tells 102 = .ok (.iload 7, 2) := dk_21 7 (dk_at dksX0_tells_4 10 rfl rfl)
theorem dX0_tells_104 : decode cX0_tells 104 = .ok (.iaload, 1) := dk_46 (dk_at dksX0_tells_4 12 rfl rfl)
theorem dX0_tells_105 : decode cX0_tells 105 = .ok (.aload_n 0, 1) := dk_42 (dk_at dksX0_tells_4 13 rfl rfl)
theorem dX0_tells_106 : decode cX0_tells 106 = .ok (.getfield 90, 3) := dk_180 0 90 (dk_at dksX0_tells_4 14 rfl rfl)
theorem dX0_tells_109 : decode cX0_tells 109 = .ok (.iload 11, 2) := dk_21 11 (dk_at dksX0_tells_4 17 rfl rfl)
theorem dX0_tells_111 : decode cX0_tells 111 = .ok (.aaload, 1) := dk_50 (dk_at dksX0_tells_4 19 rfl rfl)
theorem dX0_tells_112 : decode cX0_tells 112 = .ok (.iload 7, 2) := dk_21 7 (dk_at dksX0_tells_4 20 rfl rfl)
theorem dX0_tells_114 : decode cX0_tells 114 = .ok (.iaload, 1) := dk_46 (dk_at dksX0_tells_4 22 rfl rfl)
theorem dX0_tells_115 : decode cX0_tells 115 = .ok (.if_icmp .ne 7, 3) := dk_160 0 7 (dk_at dksX0_tells_5 0 rfl rfl)
theorem dX0_tells_118 : decode cX0_tells 118 = .ok (.iconst 1, 1) := dk_4 (dk_at dksX0_tells_5 3 rfl rfl)
theorem dX0_tells_119 : decode cX0_tells 119 = .ok (.goto 4, 3) := dk_167 0 4 (dk_at dksX0_tells_5 4 rfl rfl)
theorem dX0_tells_122 : decode cX0_tells 122 = .ok (.iconst 0, 1) := dk_3 (dk_at dksX0_tells_5 7 rfl rfl)
theorem dX0_tells_123 : decode cX0_tells 123 = .ok (.iadd, 1) := dk_96 (dk_at dksX0_tells_5 8 rfl rfl)
theorem dX0_tells_124 : decode cX0_tells 124 = .ok (.istore 10, 2) := dk_54 10 (dk_at dksX0_tells_5 9 rfl rfl)
theorem dX0_tells_126 : decode cX0_tells 126 = .ok (.iinc 11 1, 3) := dk_132 11 1 (dk_at dksX0_tells_5 11 rfl rfl)
theorem dX0_tells_129 : decode cX0_tells 129 = .ok (.goto (-63), 3) := dk_167 255 193 (dk_at dksX0_tells_5 14 rfl rfl)
theorem dX0_tells_132 : decode cX0_tells 132 = .ok (.iload 8, 2) := dk_21 8 (dk_at dksX0_tells_5 17 rfl rfl)
theorem dX0_tells_134 : decode cX0_tells 134 = .ok (.iload 10, 2) := dk_21 10 (dk_at dksX0_tells_5 19 rfl rfl)
theorem dX0_tells_136 : decode cX0_tells 136 = .ok (.invokestatic 285, 3) := dk_184 1 29 (dk_at dksX0_tells_5 21 rfl rfl)
theorem dX0_tells_139 : decode cX0_tells 139 = .ok (.istore 8, 2) := dk_54 8 (dk_at dksX0_tells_6 0 rfl rfl)
theorem dX0_tells_141 : decode cX0_tells 141 = .ok (.iinc 9 1, 3) := dk_132 9 1 (dk_at dksX0_tells_6 2 rfl rfl)
theorem dX0_tells_144 : decode cX0_tells 144 = .ok (.goto (-91), 3) := dk_167 255 165 (dk_at dksX0_tells_6 5 rfl rfl)
theorem dX0_tells_147 : decode cX0_tells 147 = .ok (.iload 8, 2) := dk_21 8 (dk_at dksX0_tells_6 8 rfl rfl)
theorem dX0_tells_149 : decode cX0_tells 149 = .ok (.iload 6, 2) := dk_21 6 (dk_at dksX0_tells_6 10 rfl rfl)
theorem dX0_tells_151 : decode cX0_tells 151 = .ok (.if_icmp .lt 6, 3) := dk_161 0 6 (dk_at dksX0_tells_6 12 rfl rfl)
theorem dX0_tells_154 : decode cX0_tells 154 = .ok (.goto 11, 3) := dk_167 0 11 (dk_at dksX0_tells_6 15 rfl rfl)
theorem dX0_tells_157 : decode cX0_tells 157 = .ok (.iload 8, 2) := dk_21 8 (dk_at dksX0_tells_6 18 rfl rfl)
theorem dX0_tells_159 : decode cX0_tells 159 = .ok (.istore 6, 2) := dk_54 6 (dk_at dksX0_tells_6 20 rfl rfl)
theorem dX0_tells_161 : decode cX0_tells 161 = .ok (.iload 7, 2) := dk_21 7 (dk_at dksX0_tells_6 22 rfl rfl)
theorem dX0_tells_163 : decode cX0_tells 163 = .ok (.istore 5, 2) := dk_54 5 (dk_at dksX0_tells_7 0 rfl rfl)
theorem dX0_tells_165 : decode cX0_tells 165 = .ok (.iinc 7 1, 3) := dk_132 7 1 (dk_at dksX0_tells_7 2 rfl rfl)
theorem dX0_tells_168 : decode cX0_tells 168 = .ok (.goto (-133), 3) := dk_167 255 123 (dk_at dksX0_tells_7 5 rfl rfl)
theorem dX0_tells_171 : decode cX0_tells 171 = .ok (.iload 5, 2) := dk_21 5 (dk_at dksX0_tells_7 8 rfl rfl)
theorem dX0_tells_173 : decode cX0_tells 173 = .ok (.iconst (-1), 1) := dk_2 (dk_at dksX0_tells_7 10 rfl rfl)
theorem dX0_tells_174 : decode cX0_tells 174 = .ok (.if_icmp .eq 7, 3) := dk_159 0 7 (dk_at dksX0_tells_7 11 rfl rfl)
theorem dX0_tells_177 : decode cX0_tells 177 = .ok (.iload_n 3, 1) := dk_29 (dk_at dksX0_tells_7 14 rfl rfl)
theorem dX0_tells_178 : decode cX0_tells 178 = .ok (.ifCond .ne 8, 3) := dk_154 0 8 (dk_at dksX0_tells_7 15 rfl rfl)
theorem dX0_tells_181 : decode cX0_tells 181 = .ok (.iload 5, 2) := dk_21 5 (dk_at dksX0_tells_7 18 rfl rfl)
theorem dX0_tells_183 : decode cX0_tells 183 = .ok (.goto 5, 3) := dk_167 0 5 (dk_at dksX0_tells_7 20 rfl rfl)
theorem dX0_tells_186 : decode cX0_tells 186 = .ok (.iload 6, 2) := dk_21 6 (dk_at dksX0_tells_8 0 rfl rfl)
theorem dX0_tells_188 : decode cX0_tells 188 = .ok (.ireturn, 1) := dk_172 (dk_at dksX0_tells_8 2 rfl rfl)
abbrev cX0_undo : ByteArray := prog_1_method_47_code
def yX0_undo : MethodName := ⟨RX0, "undo", "()Z"⟩
def dkwX0_undo_2 : List UInt8 := [87, 4, 172]
abbrev dktX0_undo_2 : List UInt8 := dkwX0_undo_2 ++ []
def dkwX0_undo_1 : List UInt8 := [180, 0, 137, 4, 100, 181, 0, 137, 42, 180, 0, 69, 42, 180, 0, 93, 42, 180, 0, 137, 50, 182, 0, 239]
abbrev dktX0_undo_1 : List UInt8 := dkwX0_undo_1 ++ dktX0_undo_2
def dkwX0_undo_0 : List UInt8 := [42, 180, 0, 137, 154, 0, 17, 42, 7, 182, 0, 107, 155, 0, 7, 4, 167, 0, 4, 3, 172, 42, 89]
abbrev dktX0_undo_0 : List UInt8 := dkwX0_undo_0 ++ dktX0_undo_1
theorem dksX0_undo_0 : cX0_undo.data.toList.drop 0 = dktX0_undo_0 := by decide +kernel
theorem dksX0_undo_1 : cX0_undo.data.toList.drop 23 = dktX0_undo_1 := dk_seg dksX0_undo_0 23 rfl rfl
theorem dksX0_undo_2 : cX0_undo.data.toList.drop 47 = dktX0_undo_2 := dk_seg dksX0_undo_1 24 rfl rfl
theorem dX0_undo_0 : decode cX0_undo 0 = .ok (.aload_n 0, 1) := dk_42 (dk_at dksX0_undo_0 0 rfl rfl)
theorem dX0_undo_1 : decode cX0_undo 1 = .ok (.getfield 137, 3) := dk_180 0 137 (dk_at dksX0_undo_0 1 rfl rfl)
theorem dX0_undo_4 : decode cX0_undo 4 = .ok (.ifCond .ne 17, 3) := dk_154 0 17 (dk_at dksX0_undo_0 4 rfl rfl)
theorem dX0_undo_7 : decode cX0_undo 7 = .ok (.aload_n 0, 1) := dk_42 (dk_at dksX0_undo_0 7 rfl rfl)
theorem dX0_undo_8 : decode cX0_undo 8 = .ok (.iconst 4, 1) := dk_7 (dk_at dksX0_undo_0 8 rfl rfl)
theorem dX0_undo_9 : decode cX0_undo 9 = .ok (.invokevirtual 107, 3) := dk_182 0 107 (dk_at dksX0_undo_0 9 rfl rfl)
theorem dX0_undo_12 : decode cX0_undo 12 = .ok (.ifCond .lt 7, 3) := dk_155 0 7 (dk_at dksX0_undo_0 12 rfl rfl)
theorem dX0_undo_15 : decode cX0_undo 15 = .ok (.iconst 1, 1) := dk_4 (dk_at dksX0_undo_0 15 rfl rfl)
theorem dX0_undo_16 : decode cX0_undo 16 = .ok (.goto 4, 3) := dk_167 0 4 (dk_at dksX0_undo_0 16 rfl rfl)
theorem dX0_undo_19 : decode cX0_undo 19 = .ok (.iconst 0, 1) := dk_3 (dk_at dksX0_undo_0 19 rfl rfl)
theorem dX0_undo_20 : decode cX0_undo 20 = .ok (.ireturn, 1) := dk_172 (dk_at dksX0_undo_0 20 rfl rfl)
theorem dX0_undo_21 : decode cX0_undo 21 = .ok (.aload_n 0, 1) := dk_42 (dk_at dksX0_undo_0 21 rfl rfl)
theorem dX0_undo_22 : decode cX0_undo 22 = .ok (.dup, 1) := dk_89 (dk_at dksX0_undo_0 22 rfl rfl)
theorem dX0_undo_23 : decode cX0_undo 23 = .ok (.getfield 137, 3) := dk_180 0 137 (dk_at dksX0_undo_1 0 rfl rfl)
theorem dX0_undo_26 : decode cX0_undo 26 = .ok (.iconst 1, 1) := dk_4 (dk_at dksX0_undo_1 3 rfl rfl)
theorem dX0_undo_27 : decode cX0_undo 27 = .ok (.isub, 1) := dk_100 (dk_at dksX0_undo_1 4 rfl rfl)
theorem dX0_undo_28 : decode cX0_undo 28 = .ok (.putfield 137, 3) := dk_181 0 137 (dk_at dksX0_undo_1 5 rfl rfl)
theorem dX0_undo_31 : decode cX0_undo 31 = .ok (.aload_n 0, 1) := dk_42 (dk_at dksX0_undo_1 8 rfl rfl)
theorem dX0_undo_32 : decode cX0_undo 32 = .ok (.getfield 69, 3) := dk_180 0 69 (dk_at dksX0_undo_1 9 rfl rfl)
theorem dX0_undo_35 : decode cX0_undo 35 = .ok (.aload_n 0, 1) := dk_42 (dk_at dksX0_undo_1 12 rfl rfl)
theorem dX0_undo_36 : decode cX0_undo 36 = .ok (.getfield 93, 3) := dk_180 0 93 (dk_at dksX0_undo_1 13 rfl rfl)
theorem dX0_undo_39 : decode cX0_undo 39 = .ok (.aload_n 0, 1) := dk_42 (dk_at dksX0_undo_1 16 rfl rfl)
theorem dX0_undo_40 : decode cX0_undo 40 = .ok (.getfield 137, 3) := dk_180 0 137 (dk_at dksX0_undo_1 17 rfl rfl)
theorem dX0_undo_43 : decode cX0_undo 43 = .ok (.aaload, 1) := dk_50 (dk_at dksX0_undo_1 20 rfl rfl)
theorem dX0_undo_44 : decode cX0_undo 44 = .ok (.invokevirtual 239, 3) := dk_182 0 239 (dk_at dksX0_undo_1 21 rfl rfl)
theorem dX0_undo_47 : decode cX0_undo 47 = .ok (.pop, 1) := dk_87 (dk_at dksX0_undo_2 0 rfl rfl)
theorem dX0_undo_48 : decode cX0_undo 48 = .ok (.iconst 1, 1) := dk_4 (dk_at dksX0_undo_2 1 rfl rfl)
theorem dX0_undo_49 : decode cX0_undo 49 = .ok (.ireturn, 1) := dk_172 (dk_at dksX0_undo_2 2 rfl rfl)
abbrev cX0_change : ByteArray := prog_1_method_48_code
def yX0_change : MethodName := ⟨RX0, "change", "(II)Z"⟩
def dkwX0_change_3 : List UInt8 := [182, 0, 250, 87, 4, 172]
abbrev dktX0_change_3 : List UInt8 := dkwX0_change_3 ++ []
def dkwX0_change_2 : List UInt8 := [5, 182, 0, 107, 155, 0, 7, 4, 167, 0, 4, 3, 172, 42, 182, 1, 31, 42, 180, 0, 69, 27, 28]
abbrev dktX0_change_2 : List UInt8 := dkwX0_change_2 ++ dktX0_change_3
def dkwX0_change_1 : List UInt8 := [180, 0, 69, 27, 182, 0, 204, 2, 160, 0, 29, 42, 180, 0, 69, 28, 182, 0, 204, 2, 160, 0, 17, 42]
abbrev dktX0_change_1 : List UInt8 := dkwX0_change_1 ++ dktX0_change_2
def dkwX0_change_0 : List UInt8 := [42, 27, 182, 0, 201, 153, 0, 40, 42, 28, 182, 0, 201, 153, 0, 32, 27, 28, 159, 0, 27, 42]
abbrev dktX0_change_0 : List UInt8 := dkwX0_change_0 ++ dktX0_change_1
theorem dksX0_change_0 : cX0_change.data.toList.drop 0 = dktX0_change_0 := by decide +kernel
theorem dksX0_change_1 : cX0_change.data.toList.drop 22 = dktX0_change_1 := dk_seg dksX0_change_0 22 rfl rfl
theorem dksX0_change_2 : cX0_change.data.toList.drop 46 = dktX0_change_2 := dk_seg dksX0_change_1 24 rfl rfl
theorem dksX0_change_3 : cX0_change.data.toList.drop 69 = dktX0_change_3 := dk_seg dksX0_change_2 23 rfl rfl
theorem dX0_change_0 : decode cX0_change 0 = .ok (.aload_n 0, 1) := dk_42 (dk_at dksX0_change_0 0 rfl rfl)
theorem dX0_change_1 : decode cX0_change 1 = .ok (.iload_n 1, 1) := dk_27 (dk_at dksX0_change_0 1 rfl rfl)
theorem dX0_change_2 : decode cX0_change 2 = .ok (.invokevirtual 201, 3) := dk_182 0 201 (dk_at dksX0_change_0 2 rfl rfl)
theorem dX0_change_5 : decode cX0_change 5 = .ok (.ifCond .eq 40, 3) := dk_153 0 40 (dk_at dksX0_change_0 5 rfl rfl)
theorem dX0_change_8 : decode cX0_change 8 = .ok (.aload_n 0, 1) := dk_42 (dk_at dksX0_change_0 8 rfl rfl)
theorem dX0_change_9 : decode cX0_change 9 = .ok (.iload_n 2, 1) := dk_28 (dk_at dksX0_change_0 9 rfl rfl)
theorem dX0_change_10 : decode cX0_change 10 = .ok (.invokevirtual 201, 3) := dk_182 0 201 (dk_at dksX0_change_0 10 rfl rfl)
theorem dX0_change_13 : decode cX0_change 13 = .ok (.ifCond .eq 32, 3) := dk_153 0 32 (dk_at dksX0_change_0 13 rfl rfl)
theorem dX0_change_16 : decode cX0_change 16 = .ok (.iload_n 1, 1) := dk_27 (dk_at dksX0_change_0 16 rfl rfl)
theorem dX0_change_17 : decode cX0_change 17 = .ok (.iload_n 2, 1) := dk_28 (dk_at dksX0_change_0 17 rfl rfl)
theorem dX0_change_18 : decode cX0_change 18 = .ok (.if_icmp .eq 27, 3) := dk_159 0 27 (dk_at dksX0_change_0 18 rfl rfl)
theorem dX0_change_21 : decode cX0_change 21 = .ok (.aload_n 0, 1) := dk_42 (dk_at dksX0_change_0 21 rfl rfl)
theorem dX0_change_22 : decode cX0_change 22 = .ok (.getfield 69, 3) := dk_180 0 69 (dk_at dksX0_change_1 0 rfl rfl)
theorem dX0_change_25 : decode cX0_change 25 = .ok (.iload_n 1, 1) := dk_27 (dk_at dksX0_change_1 3 rfl rfl)
theorem dX0_change_26 : decode cX0_change 26 = .ok (.invokevirtual 204, 3) := dk_182 0 204 (dk_at dksX0_change_1 4 rfl rfl)
theorem dX0_change_29 : decode cX0_change 29 = .ok (.iconst (-1), 1) := dk_2 (dk_at dksX0_change_1 7 rfl rfl)
theorem dX0_change_30 : decode cX0_change 30 = .ok (.if_icmp .ne 29, 3) := dk_160 0 29 (dk_at dksX0_change_1 8 rfl rfl)
theorem dX0_change_33 : decode cX0_change 33 = .ok (.aload_n 0, 1) := dk_42 (dk_at dksX0_change_1 11 rfl rfl)
theorem dX0_change_34 : decode cX0_change 34 = .ok (.getfield 69, 3) := dk_180 0 69 (dk_at dksX0_change_1 12 rfl rfl)
theorem dX0_change_37 : decode cX0_change 37 = .ok (.iload_n 2, 1) := dk_28 (dk_at dksX0_change_1 15 rfl rfl)
theorem dX0_change_38 : decode cX0_change 38 = .ok (.invokevirtual 204, 3) := dk_182 0 204 (dk_at dksX0_change_1 16 rfl rfl)
theorem dX0_change_41 : decode cX0_change 41 = .ok (.iconst (-1), 1) := dk_2 (dk_at dksX0_change_1 19 rfl rfl)
theorem dX0_change_42 : decode cX0_change 42 = .ok (.if_icmp .ne 17, 3) := dk_160 0 17 (dk_at dksX0_change_1 20 rfl rfl)
theorem dX0_change_45 : decode cX0_change 45 = .ok (.aload_n 0, 1) := dk_42 (dk_at dksX0_change_1 23 rfl rfl)
theorem dX0_change_46 : decode cX0_change 46 = .ok (.iconst 2, 1) := dk_5 (dk_at dksX0_change_2 0 rfl rfl)
theorem dX0_change_47 : decode cX0_change 47 = .ok (.invokevirtual 107, 3) := dk_182 0 107 (dk_at dksX0_change_2 1 rfl rfl)
theorem dX0_change_50 : decode cX0_change 50 = .ok (.ifCond .lt 7, 3) := dk_155 0 7 (dk_at dksX0_change_2 4 rfl rfl)
theorem dX0_change_53 : decode cX0_change 53 = .ok (.iconst 1, 1) := dk_4 (dk_at dksX0_change_2 7 rfl rfl)
theorem dX0_change_54 : decode cX0_change 54 = .ok (.goto 4, 3) := dk_167 0 4 (dk_at dksX0_change_2 8 rfl rfl)
theorem dX0_change_57 : decode cX0_change 57 = .ok (.iconst 0, 1) := dk_3 (dk_at dksX0_change_2 11 rfl rfl)
theorem dX0_change_58 : decode cX0_change 58 = .ok (.ireturn, 1) := dk_172 (dk_at dksX0_change_2 12 rfl rfl)
theorem dX0_change_59 : decode cX0_change 59 = .ok (.aload_n 0, 1) := dk_42 (dk_at dksX0_change_2 13 rfl rfl)
theorem dX0_change_60 : decode cX0_change 60 = .ok (.invokevirtual 287, 3) := dk_182 1 31 (dk_at dksX0_change_2 14 rfl rfl)
theorem dX0_change_63 : decode cX0_change 63 = .ok (.aload_n 0, 1) := dk_42 (dk_at dksX0_change_2 17 rfl rfl)
theorem dX0_change_64 : decode cX0_change 64 = .ok (.getfield 69, 3) := dk_180 0 69 (dk_at dksX0_change_2 18 rfl rfl)
theorem dX0_change_67 : decode cX0_change 67 = .ok (.iload_n 1, 1) := dk_27 (dk_at dksX0_change_2 21 rfl rfl)
theorem dX0_change_68 : decode cX0_change 68 = .ok (.iload_n 2, 1) := dk_28 (dk_at dksX0_change_2 22 rfl rfl)
theorem dX0_change_69 : decode cX0_change 69 = .ok (.invokevirtual 250, 3) := dk_182 0 250 (dk_at dksX0_change_3 0 rfl rfl)
theorem dX0_change_72 : decode cX0_change 72 = .ok (.pop, 1) := dk_87 (dk_at dksX0_change_3 3 rfl rfl)
theorem dX0_change_73 : decode cX0_change 73 = .ok (.iconst 1, 1) := dk_4 (dk_at dksX0_change_3 4 rfl rfl)
theorem dX0_change_74 : decode cX0_change 74 = .ok (.ireturn, 1) := dk_172 (dk_at dksX0_change_3 5 rfl rfl)
abbrev cX0_keeps : ByteArray := prog_1_method_46_code
def yX0_keeps : MethodName := ⟨RX0, "keeps", "()V"⟩
def dkwX0_keeps_3 : List UInt8 := [180, 0, 69, 182, 0, 239, 87, 42, 89, 180, 0, 137, 4, 96, 181, 0, 137, 177]
abbrev dktX0_keeps_3 : List UInt8 := dkwX0_keeps_3 ++ []
def dkwX0_keeps_2 : List UInt8 := [16, 19, 43, 83, 42, 89, 180, 0, 137, 4, 100, 181, 0, 137, 42, 180, 0, 93, 42, 180, 0, 137, 50, 42]
abbrev dktX0_keeps_2 : List UInt8 := dkwX0_keeps_2 ++ dktX0_keeps_3
def dkwX0_keeps_1 : List UInt8 := [42, 180, 0, 93, 28, 4, 100, 42, 180, 0, 93, 28, 50, 83, 132, 2, 1, 167, 255, 233, 42, 180, 0, 93]
abbrev dktX0_keeps_1 : List UInt8 := dkwX0_keeps_1 ++ dktX0_keeps_2
def dkwX0_keeps_0 : List UInt8 := [42, 180, 0, 137, 16, 20, 160, 0, 56, 42, 180, 0, 93, 3, 50, 76, 4, 61, 28, 16, 20, 162, 0, 23]
abbrev dktX0_keeps_0 : List UInt8 := dkwX0_keeps_0 ++ dktX0_keeps_1
theorem dksX0_keeps_0 : cX0_keeps.data.toList.drop 0 = dktX0_keeps_0 := by decide +kernel
theorem dksX0_keeps_1 : cX0_keeps.data.toList.drop 24 = dktX0_keeps_1 := dk_seg dksX0_keeps_0 24 rfl rfl
theorem dksX0_keeps_2 : cX0_keeps.data.toList.drop 48 = dktX0_keeps_2 := dk_seg dksX0_keeps_1 24 rfl rfl
theorem dksX0_keeps_3 : cX0_keeps.data.toList.drop 72 = dktX0_keeps_3 := dk_seg dksX0_keeps_2 24 rfl rfl
theorem dX0_keeps_0 : decode cX0_keeps 0 = .ok (.aload_n 0, 1) := dk_42 (dk_at dksX0_keeps_0 0 rfl rfl)
theorem dX0_keeps_1 : decode cX0_keeps 1 = .ok (.getfield 137, 3) := dk_180 0 137 (dk_at dksX0_keeps_0 1 rfl rfl)
theorem dX0_keeps_4 : decode cX0_keeps 4 = .ok (.bipush 20, 2) := dk_16 20 (dk_at dksX0_keeps_0 4 rfl rfl)
theorem dX0_keeps_6 : decode cX0_keeps 6 = .ok (.if_icmp .ne 56, 3) := dk_160 0 56 (dk_at dksX0_keeps_0 6 rfl rfl)
theorem dX0_keeps_9 : decode cX0_keeps 9 = .ok (.aload_n 0, 1) := dk_42 (dk_at dksX0_keeps_0 9 rfl rfl)
theorem dX0_keeps_10 : decode cX0_keeps 10 = .ok (.getfield 93, 3) := dk_180 0 93 (dk_at dksX0_keeps_0 10 rfl rfl)
theorem dX0_keeps_13 : decode cX0_keeps 13 = .ok (.iconst 0, 1) := dk_3 (dk_at dksX0_keeps_0 13 rfl rfl)
theorem dX0_keeps_14 : decode cX0_keeps 14 = .ok (.aaload, 1) := dk_50 (dk_at dksX0_keeps_0 14 rfl rfl)
theorem dX0_keeps_15 : decode cX0_keeps 15 = .ok (.astore_n 1, 1) := dk_76 (dk_at dksX0_keeps_0 15 rfl rfl)
theorem dX0_keeps_16 : decode cX0_keeps 16 = .ok (.iconst 1, 1) := dk_4 (dk_at dksX0_keeps_0 16 rfl rfl)
theorem dX0_keeps_17 : decode cX0_keeps 17 = .ok (.istore_n 2, 1) := dk_61 (dk_at dksX0_keeps_0 17 rfl rfl)
theorem dX0_keeps_18 : decode cX0_keeps 18 = .ok (.iload_n 2, 1) := dk_28 (dk_at dksX0_keeps_0 18 rfl rfl)
theorem dX0_keeps_19 : decode cX0_keeps 19 = .ok (.bipush 20, 2) := dk_16 20 (dk_at dksX0_keeps_0 19 rfl rfl)
theorem dX0_keeps_21 : decode cX0_keeps 21 = .ok (.if_icmp .ge 23, 3) := dk_162 0 23 (dk_at dksX0_keeps_0 21 rfl rfl)
theorem dX0_keeps_24 : decode cX0_keeps 24 = .ok (.aload_n 0, 1) := dk_42 (dk_at dksX0_keeps_1 0 rfl rfl)
theorem dX0_keeps_25 : decode cX0_keeps 25 = .ok (.getfield 93, 3) := dk_180 0 93 (dk_at dksX0_keeps_1 1 rfl rfl)
theorem dX0_keeps_28 : decode cX0_keeps 28 = .ok (.iload_n 2, 1) := dk_28 (dk_at dksX0_keeps_1 4 rfl rfl)
theorem dX0_keeps_29 : decode cX0_keeps 29 = .ok (.iconst 1, 1) := dk_4 (dk_at dksX0_keeps_1 5 rfl rfl)
theorem dX0_keeps_30 : decode cX0_keeps 30 = .ok (.isub, 1) := dk_100 (dk_at dksX0_keeps_1 6 rfl rfl)
theorem dX0_keeps_31 : decode cX0_keeps 31 = .ok (.aload_n 0, 1) := dk_42 (dk_at dksX0_keeps_1 7 rfl rfl)
theorem dX0_keeps_32 : decode cX0_keeps 32 = .ok (.getfield 93, 3) := dk_180 0 93 (dk_at dksX0_keeps_1 8 rfl rfl)
theorem dX0_keeps_35 : decode cX0_keeps 35 = .ok (.iload_n 2, 1) := dk_28 (dk_at dksX0_keeps_1 11 rfl rfl)
theorem dX0_keeps_36 : decode cX0_keeps 36 = .ok (.aaload, 1) := dk_50 (dk_at dksX0_keeps_1 12 rfl rfl)
theorem dX0_keeps_37 : decode cX0_keeps 37 = .ok (.aastore, 1) := dk_83 (dk_at dksX0_keeps_1 13 rfl rfl)
theorem dX0_keeps_38 : decode cX0_keeps 38 = .ok (.iinc 2 1, 3) := dk_132 2 1 (dk_at dksX0_keeps_1 14 rfl rfl)
theorem dX0_keeps_41 : decode cX0_keeps 41 = .ok (.goto (-23), 3) := dk_167 255 233 (dk_at dksX0_keeps_1 17 rfl rfl)
theorem dX0_keeps_44 : decode cX0_keeps 44 = .ok (.aload_n 0, 1) := dk_42 (dk_at dksX0_keeps_1 20 rfl rfl)
theorem dX0_keeps_45 : decode cX0_keeps 45 = .ok (.getfield 93, 3) := dk_180 0 93 (dk_at dksX0_keeps_1 21 rfl rfl)
theorem dX0_keeps_48 : decode cX0_keeps 48 = .ok (.bipush 19, 2) := dk_16 19 (dk_at dksX0_keeps_2 0 rfl rfl)
theorem dX0_keeps_50 : decode cX0_keeps 50 = .ok (.aload_n 1, 1) := dk_43 (dk_at dksX0_keeps_2 2 rfl rfl)
theorem dX0_keeps_51 : decode cX0_keeps 51 = .ok (.aastore, 1) := dk_83 (dk_at dksX0_keeps_2 3 rfl rfl)
theorem dX0_keeps_52 : decode cX0_keeps 52 = .ok (.aload_n 0, 1) := dk_42 (dk_at dksX0_keeps_2 4 rfl rfl)
theorem dX0_keeps_53 : decode cX0_keeps 53 = .ok (.dup, 1) := dk_89 (dk_at dksX0_keeps_2 5 rfl rfl)
theorem dX0_keeps_54 : decode cX0_keeps 54 = .ok (.getfield 137, 3) := dk_180 0 137 (dk_at dksX0_keeps_2 6 rfl rfl)
theorem dX0_keeps_57 : decode cX0_keeps 57 = .ok (.iconst 1, 1) := dk_4 (dk_at dksX0_keeps_2 9 rfl rfl)
theorem dX0_keeps_58 : decode cX0_keeps 58 = .ok (.isub, 1) := dk_100 (dk_at dksX0_keeps_2 10 rfl rfl)
theorem dX0_keeps_59 : decode cX0_keeps 59 = .ok (.putfield 137, 3) := dk_181 0 137 (dk_at dksX0_keeps_2 11 rfl rfl)
theorem dX0_keeps_62 : decode cX0_keeps 62 = .ok (.aload_n 0, 1) := dk_42 (dk_at dksX0_keeps_2 14 rfl rfl)
theorem dX0_keeps_63 : decode cX0_keeps 63 = .ok (.getfield 93, 3) := dk_180 0 93 (dk_at dksX0_keeps_2 15 rfl rfl)
theorem dX0_keeps_66 : decode cX0_keeps 66 = .ok (.aload_n 0, 1) := dk_42 (dk_at dksX0_keeps_2 18 rfl rfl)
theorem dX0_keeps_67 : decode cX0_keeps 67 = .ok (.getfield 137, 3) := dk_180 0 137 (dk_at dksX0_keeps_2 19 rfl rfl)
theorem dX0_keeps_70 : decode cX0_keeps 70 = .ok (.aaload, 1) := dk_50 (dk_at dksX0_keeps_2 22 rfl rfl)
theorem dX0_keeps_71 : decode cX0_keeps 71 = .ok (.aload_n 0, 1) := dk_42 (dk_at dksX0_keeps_2 23 rfl rfl)
theorem dX0_keeps_72 : decode cX0_keeps 72 = .ok (.getfield 69, 3) := dk_180 0 69 (dk_at dksX0_keeps_3 0 rfl rfl)
theorem dX0_keeps_75 : decode cX0_keeps 75 = .ok (.invokevirtual 239, 3) := dk_182 0 239 (dk_at dksX0_keeps_3 3 rfl rfl)
theorem dX0_keeps_78 : decode cX0_keeps 78 = .ok (.pop, 1) := dk_87 (dk_at dksX0_keeps_3 6 rfl rfl)
theorem dX0_keeps_79 : decode cX0_keeps 79 = .ok (.aload_n 0, 1) := dk_42 (dk_at dksX0_keeps_3 7 rfl rfl)
theorem dX0_keeps_80 : decode cX0_keeps 80 = .ok (.dup, 1) := dk_89 (dk_at dksX0_keeps_3 8 rfl rfl)
theorem dX0_keeps_81 : decode cX0_keeps 81 = .ok (.getfield 137, 3) := dk_180 0 137 (dk_at dksX0_keeps_3 9 rfl rfl)
theorem dX0_keeps_84 : decode cX0_keeps 84 = .ok (.iconst 1, 1) := dk_4 (dk_at dksX0_keeps_3 12 rfl rfl)
theorem dX0_keeps_85 : decode cX0_keeps 85 = .ok (.iadd, 1) := dk_96 (dk_at dksX0_keeps_3 13 rfl rfl)
theorem dX0_keeps_86 : decode cX0_keeps 86 = .ok (.putfield 137, 3) := dk_181 0 137 (dk_at dksX0_keeps_3 14 rfl rfl)
theorem dX0_keeps_89 : decode cX0_keeps 89 = .ok (.return_, 1) := dk_177 (dk_at dksX0_keeps_3 17 rfl rfl)
abbrev cX0_right : ByteArray := prog_1_method_49_code
def yX0_right : MethodName := ⟨RX0, "right", "(I)Z"⟩
def dkwX0_right_3 : List UInt8 := [4, 172]
abbrev dktX0_right_3 : List UInt8 := dkwX0_right_3 ++ []
def dkwX0_right_2 : List UInt8 := [182, 1, 31, 42, 180, 0, 69, 180, 0, 174, 27, 16, 10, 42, 180, 0, 69, 180, 0, 210, 27, 46, 104, 79]
abbrev dktX0_right_2 : List UInt8 := dkwX0_right_2 ++ dktX0_right_3
def dkwX0_right_1 : List UInt8 := [180, 0, 210, 27, 46, 104, 160, 0, 17, 42, 5, 182, 0, 107, 155, 0, 7, 4, 167, 0, 4, 3, 172, 42]
abbrev dktX0_right_1 : List UInt8 := dkwX0_right_1 ++ dktX0_right_2
def dkwX0_right_0 : List UInt8 := [42, 27, 182, 0, 161, 153, 0, 27, 42, 180, 0, 69, 180, 0, 174, 27, 46, 16, 10, 42, 180, 0, 69]
abbrev dktX0_right_0 : List UInt8 := dkwX0_right_0 ++ dktX0_right_1
theorem dksX0_right_0 : cX0_right.data.toList.drop 0 = dktX0_right_0 := by decide +kernel
theorem dksX0_right_1 : cX0_right.data.toList.drop 23 = dktX0_right_1 := dk_seg dksX0_right_0 23 rfl rfl
theorem dksX0_right_2 : cX0_right.data.toList.drop 47 = dktX0_right_2 := dk_seg dksX0_right_1 24 rfl rfl
theorem dksX0_right_3 : cX0_right.data.toList.drop 71 = dktX0_right_3 := dk_seg dksX0_right_2 24 rfl rfl
theorem dX0_right_0 : decode cX0_right 0 = .ok (.aload_n 0, 1) := dk_42 (dk_at dksX0_right_0 0 rfl rfl)
theorem dX0_right_1 : decode cX0_right 1 = .ok (.iload_n 1, 1) := dk_27 (dk_at dksX0_right_0 1 rfl rfl)
theorem dX0_right_2 : decode cX0_right 2 = .ok (.invokevirtual 161, 3) := dk_182 0 161 (dk_at dksX0_right_0 2 rfl rfl)
theorem dX0_right_5 : decode cX0_right 5 = .ok (.ifCond .eq 27, 3) := dk_153 0 27 (dk_at dksX0_right_0 5 rfl rfl)
theorem dX0_right_8 : decode cX0_right 8 = .ok (.aload_n 0, 1) := dk_42 (dk_at dksX0_right_0 8 rfl rfl)
theorem dX0_right_9 : decode cX0_right 9 = .ok (.getfield 69, 3) := dk_180 0 69 (dk_at dksX0_right_0 9 rfl rfl)
theorem dX0_right_12 : decode cX0_right 12 = .ok (.getfield 174, 3) := dk_180 0 174 (dk_at dksX0_right_0 12 rfl rfl)
theorem dX0_right_15 : decode cX0_right 15 = .ok (.iload_n 1, 1) := dk_27 (dk_at dksX0_right_0 15 rfl rfl)
theorem dX0_right_16 : decode cX0_right 16 = .ok (.iaload, 1) := dk_46 (dk_at dksX0_right_0 16 rfl rfl)
theorem dX0_right_17 : decode cX0_right 17 = .ok (.bipush 10, 2) := dk_16 10 (dk_at dksX0_right_0 17 rfl rfl)
theorem dX0_right_19 : decode cX0_right 19 = .ok (.aload_n 0, 1) := dk_42 (dk_at dksX0_right_0 19 rfl rfl)
theorem dX0_right_20 : decode cX0_right 20 = .ok (.getfield 69, 3) := dk_180 0 69 (dk_at dksX0_right_0 20 rfl rfl)
theorem dX0_right_23 : decode cX0_right 23 = .ok (.getfield 210, 3) := dk_180 0 210 (dk_at dksX0_right_1 0 rfl rfl)
theorem dX0_right_26 : decode cX0_right 26 = .ok (.iload_n 1, 1) := dk_27 (dk_at dksX0_right_1 3 rfl rfl)
theorem dX0_right_27 : decode cX0_right 27 = .ok (.iaload, 1) := dk_46 (dk_at dksX0_right_1 4 rfl rfl)
theorem dX0_right_28 : decode cX0_right 28 = .ok (.imul, 1) := dk_104 (dk_at dksX0_right_1 5 rfl rfl)
theorem dX0_right_29 : decode cX0_right 29 = .ok (.if_icmp .ne 17, 3) := dk_160 0 17 (dk_at dksX0_right_1 6 rfl rfl)
theorem dX0_right_32 : decode cX0_right 32 = .ok (.aload_n 0, 1) := dk_42 (dk_at dksX0_right_1 9 rfl rfl)
theorem dX0_right_33 : decode cX0_right 33 = .ok (.iconst 2, 1) := dk_5 (dk_at dksX0_right_1 10 rfl rfl)
theorem dX0_right_34 : decode cX0_right 34 = .ok (.invokevirtual 107, 3) := dk_182 0 107 (dk_at dksX0_right_1 11 rfl rfl)
theorem dX0_right_37 : decode cX0_right 37 = .ok (.ifCond .lt 7, 3) := dk_155 0 7 (dk_at dksX0_right_1 14 rfl rfl)
theorem dX0_right_40 : decode cX0_right 40 = .ok (.iconst 1, 1) := dk_4 (dk_at dksX0_right_1 17 rfl rfl)
theorem dX0_right_41 : decode cX0_right 41 = .ok (.goto 4, 3) := dk_167 0 4 (dk_at dksX0_right_1 18 rfl rfl)
theorem dX0_right_44 : decode cX0_right 44 = .ok (.iconst 0, 1) := dk_3 (dk_at dksX0_right_1 21 rfl rfl)
theorem dX0_right_45 : decode cX0_right 45 = .ok (.ireturn, 1) := dk_172 (dk_at dksX0_right_1 22 rfl rfl)
theorem dX0_right_46 : decode cX0_right 46 = .ok (.aload_n 0, 1) := dk_42 (dk_at dksX0_right_1 23 rfl rfl)
theorem dX0_right_47 : decode cX0_right 47 = .ok (.invokevirtual 287, 3) := dk_182 1 31 (dk_at dksX0_right_2 0 rfl rfl)
theorem dX0_right_50 : decode cX0_right 50 = .ok (.aload_n 0, 1) := dk_42 (dk_at dksX0_right_2 3 rfl rfl)
theorem dX0_right_51 : decode cX0_right 51 = .ok (.getfield 69, 3) := dk_180 0 69 (dk_at dksX0_right_2 4 rfl rfl)
theorem dX0_right_54 : decode cX0_right 54 = .ok (.getfield 174, 3) := dk_180 0 174 (dk_at dksX0_right_2 7 rfl rfl)
theorem dX0_right_57 : decode cX0_right 57 = .ok (.iload_n 1, 1) := dk_27 (dk_at dksX0_right_2 10 rfl rfl)
theorem dX0_right_58 : decode cX0_right 58 = .ok (.bipush 10, 2) := dk_16 10 (dk_at dksX0_right_2 11 rfl rfl)
theorem dX0_right_60 : decode cX0_right 60 = .ok (.aload_n 0, 1) := dk_42 (dk_at dksX0_right_2 13 rfl rfl)
theorem dX0_right_61 : decode cX0_right 61 = .ok (.getfield 69, 3) := dk_180 0 69 (dk_at dksX0_right_2 14 rfl rfl)
theorem dX0_right_64 : decode cX0_right 64 = .ok (.getfield 210, 3) := dk_180 0 210 (dk_at dksX0_right_2 17 rfl rfl)
theorem dX0_right_67 : decode cX0_right 67 = .ok (.iload_n 1, 1) := dk_27 (dk_at dksX0_right_2 20 rfl rfl)
theorem dX0_right_68 : decode cX0_right 68 = .ok (.iaload, 1) := dk_46 (dk_at dksX0_right_2 21 rfl rfl)
theorem dX0_right_69 : decode cX0_right 69 = .ok (.imul, 1) := dk_104 (dk_at dksX0_right_2 22 rfl rfl)
theorem dX0_right_70 : decode cX0_right 70 = .ok (.iastore, 1) := dk_79 (dk_at dksX0_right_2 23 rfl rfl)
theorem dX0_right_71 : decode cX0_right 71 = .ok (.iconst 1, 1) := dk_4 (dk_at dksX0_right_3 0 rfl rfl)
theorem dX0_right_72 : decode cX0_right 72 = .ok (.ireturn, 1) := dk_172 (dk_at dksX0_right_3 1 rfl rfl)
abbrev cX0_spare : ByteArray := prog_1_method_50_code
def yX0_spare : MethodName := ⟨RX0, "spare", "(II)Z"⟩
def dkwX0_spare_3 : List UInt8 := [167, 0, 4, 3, 84, 4, 172]
abbrev dktX0_spare_3 : List UInt8 := dkwX0_spare_3 ++ []
def dkwX0_spare_2 : List UInt8 := [167, 0, 4, 3, 172, 42, 182, 1, 31, 42, 180, 0, 69, 180, 0, 177, 27, 28, 4, 160, 0, 7, 4]
abbrev dktX0_spare_2 : List UInt8 := dkwX0_spare_2 ++ dktX0_spare_3
def dkwX0_spare_1 : List UInt8 := [27, 51, 28, 4, 160, 0, 7, 4, 167, 0, 4, 3, 160, 0, 17, 42, 5, 182, 0, 107, 155, 0, 7, 4]
abbrev dktX0_spare_1 : List UInt8 := dkwX0_spare_1 ++ dktX0_spare_2
def dkwX0_spare_0 : List UInt8 := [42, 27, 182, 0, 161, 153, 0, 34, 28, 3, 4, 184, 0, 190, 153, 0, 25, 42, 180, 0, 69, 180, 0, 177]
abbrev dktX0_spare_0 : List UInt8 := dkwX0_spare_0 ++ dktX0_spare_1
theorem dksX0_spare_0 : cX0_spare.data.toList.drop 0 = dktX0_spare_0 := by decide +kernel
theorem dksX0_spare_1 : cX0_spare.data.toList.drop 24 = dktX0_spare_1 := dk_seg dksX0_spare_0 24 rfl rfl
theorem dksX0_spare_2 : cX0_spare.data.toList.drop 48 = dktX0_spare_2 := dk_seg dksX0_spare_1 24 rfl rfl
theorem dksX0_spare_3 : cX0_spare.data.toList.drop 71 = dktX0_spare_3 := dk_seg dksX0_spare_2 23 rfl rfl
theorem dX0_spare_0 : decode cX0_spare 0 = .ok (.aload_n 0, 1) := dk_42 (dk_at dksX0_spare_0 0 rfl rfl)
theorem dX0_spare_1 : decode cX0_spare 1 = .ok (.iload_n 1, 1) := dk_27 (dk_at dksX0_spare_0 1 rfl rfl)
theorem dX0_spare_2 : decode cX0_spare 2 = .ok (.invokevirtual 161, 3) := dk_182 0 161 (dk_at dksX0_spare_0 2 rfl rfl)
theorem dX0_spare_5 : decode cX0_spare 5 = .ok (.ifCond .eq 34, 3) := dk_153 0 34 (dk_at dksX0_spare_0 5 rfl rfl)
theorem dX0_spare_8 : decode cX0_spare 8 = .ok (.iload_n 2, 1) := dk_28 (dk_at dksX0_spare_0 8 rfl rfl)
theorem dX0_spare_9 : decode cX0_spare 9 = .ok (.iconst 0, 1) := dk_3 (dk_at dksX0_spare_0 9 rfl rfl)
theorem dX0_spare_10 : decode cX0_spare 10 = .ok (.iconst 1, 1) := dk_4 (dk_at dksX0_spare_0 10 rfl rfl)
theorem dX0_spare_11 : decode cX0_spare 11 = .ok (.invokestatic 190, 3) := dk_184 0 190 (dk_at dksX0_spare_0 11 rfl rfl)
theorem dX0_spare_14 : decode cX0_spare 14 = .ok (.ifCond .eq 25, 3) := dk_153 0 25 (dk_at dksX0_spare_0 14 rfl rfl)
theorem dX0_spare_17 : decode cX0_spare 17 = .ok (.aload_n 0, 1) := dk_42 (dk_at dksX0_spare_0 17 rfl rfl)
theorem dX0_spare_18 : decode cX0_spare 18 = .ok (.getfield 69, 3) := dk_180 0 69 (dk_at dksX0_spare_0 18 rfl rfl)
theorem dX0_spare_21 : decode cX0_spare 21 = .ok (.getfield 177, 3) := dk_180 0 177 (dk_at dksX0_spare_0 21 rfl rfl)
theorem dX0_spare_24 : decode cX0_spare 24 = .ok (.iload_n 1, 1) := dk_27 (dk_at dksX0_spare_1 0 rfl rfl)
theorem dX0_spare_25 : decode cX0_spare 25 = .ok (.baload, 1) := dk_51 (dk_at dksX0_spare_1 1 rfl rfl)
theorem dX0_spare_26 : decode cX0_spare 26 = .ok (.iload_n 2, 1) := dk_28 (dk_at dksX0_spare_1 2 rfl rfl)
theorem dX0_spare_27 : decode cX0_spare 27 = .ok (.iconst 1, 1) := dk_4 (dk_at dksX0_spare_1 3 rfl rfl)
theorem dX0_spare_28 : decode cX0_spare 28 = .ok (.if_icmp .ne 7, 3) := dk_160 0 7 (dk_at dksX0_spare_1 4 rfl rfl)
theorem dX0_spare_31 : decode cX0_spare 31 = .ok (.iconst 1, 1) := dk_4 (dk_at dksX0_spare_1 7 rfl rfl)
theorem dX0_spare_32 : decode cX0_spare 32 = .ok (.goto 4, 3) := dk_167 0 4 (dk_at dksX0_spare_1 8 rfl rfl)
theorem dX0_spare_35 : decode cX0_spare 35 = .ok (.iconst 0, 1) := dk_3 (dk_at dksX0_spare_1 11 rfl rfl)
theorem dX0_spare_36 : decode cX0_spare 36 = .ok (.if_icmp .ne 17, 3) := dk_160 0 17 (dk_at dksX0_spare_1 12 rfl rfl)
theorem dX0_spare_39 : decode cX0_spare 39 = .ok (.aload_n 0, 1) := dk_42 (dk_at dksX0_spare_1 15 rfl rfl)
theorem dX0_spare_40 : decode cX0_spare 40 = .ok (.iconst 2, 1) := dk_5 (dk_at dksX0_spare_1 16 rfl rfl)
theorem dX0_spare_41 : decode cX0_spare 41 = .ok (.invokevirtual 107, 3) := dk_182 0 107 (dk_at dksX0_spare_1 17 rfl rfl)
theorem dX0_spare_44 : decode cX0_spare 44 = .ok (.ifCond .lt 7, 3) := dk_155 0 7 (dk_at dksX0_spare_1 20 rfl rfl)
theorem dX0_spare_47 : decode cX0_spare 47 = .ok (.iconst 1, 1) := dk_4 (dk_at dksX0_spare_1 23 rfl rfl)
theorem dX0_spare_48 : decode cX0_spare 48 = .ok (.goto 4, 3) := dk_167 0 4 (dk_at dksX0_spare_2 0 rfl rfl)
theorem dX0_spare_51 : decode cX0_spare 51 = .ok (.iconst 0, 1) := dk_3 (dk_at dksX0_spare_2 3 rfl rfl)
theorem dX0_spare_52 : decode cX0_spare 52 = .ok (.ireturn, 1) := dk_172 (dk_at dksX0_spare_2 4 rfl rfl)
theorem dX0_spare_53 : decode cX0_spare 53 = .ok (.aload_n 0, 1) := dk_42 (dk_at dksX0_spare_2 5 rfl rfl)
theorem dX0_spare_54 : decode cX0_spare 54 = .ok (.invokevirtual 287, 3) := dk_182 1 31 (dk_at dksX0_spare_2 6 rfl rfl)
theorem dX0_spare_57 : decode cX0_spare 57 = .ok (.aload_n 0, 1) := dk_42 (dk_at dksX0_spare_2 9 rfl rfl)
theorem dX0_spare_58 : decode cX0_spare 58 = .ok (.getfield 69, 3) := dk_180 0 69 (dk_at dksX0_spare_2 10 rfl rfl)
theorem dX0_spare_61 : decode cX0_spare 61 = .ok (.getfield 177, 3) := dk_180 0 177 (dk_at dksX0_spare_2 13 rfl rfl)
theorem dX0_spare_64 : decode cX0_spare 64 = .ok (.iload_n 1, 1) := dk_27 (dk_at dksX0_spare_2 16 rfl rfl)
theorem dX0_spare_65 : decode cX0_spare 65 = .ok (.iload_n 2, 1) := dk_28 (dk_at dksX0_spare_2 17 rfl rfl)
theorem dX0_spare_66 : decode cX0_spare 66 = .ok (.iconst 1, 1) := dk_4 (dk_at dksX0_spare_2 18 rfl rfl)
theorem dX0_spare_67 : decode cX0_spare 67 = .ok (.if_icmp .ne 7, 3) := dk_160 0 7 (dk_at dksX0_spare_2 19 rfl rfl)
theorem dX0_spare_70 : decode cX0_spare 70 = .ok (.iconst 1, 1) := dk_4 (dk_at dksX0_spare_2 22 rfl rfl)
theorem dX0_spare_71 : decode cX0_spare 71 = .ok (.goto 4, 3) := dk_167 0 4 (dk_at dksX0_spare_3 0 rfl rfl)
theorem dX0_spare_74 : decode cX0_spare 74 = .ok (.iconst 0, 1) := dk_3 (dk_at dksX0_spare_3 3 rfl rfl)
theorem dX0_spare_75 : decode cX0_spare 75 = .ok (.bastore, 1) := dk_84 (dk_at dksX0_spare_3 4 rfl rfl)
theorem dX0_spare_76 : decode cX0_spare 76 = .ok (.iconst 1, 1) := dk_4 (dk_at dksX0_spare_3 5 rfl rfl)
theorem dX0_spare_77 : decode cX0_spare 77 = .ok (.ireturn, 1) := dk_172 (dk_at dksX0_spare_3 6 rfl rfl)
abbrev cX0_years : ByteArray := prog_1_method_51_code
def yX0_years : MethodName := ⟨RX0, "years", "(I)I"⟩
def dkwX0_years_1 : List UInt8 := [62, 29, 27, 162, 0, 19, 28, 42, 180, 0, 69, 182, 0, 247, 96, 61, 132, 3, 1, 167, 255, 238, 28, 172]
abbrev dktX0_years_1 : List UInt8 := dkwX0_years_1 ++ []
def dkwX0_years_0 : List UInt8 := [42, 27, 4, 16, 100, 182, 0, 236, 154, 0, 9, 42, 6, 182, 0, 107, 172, 42, 182, 1, 31, 3, 61, 3]
abbrev dktX0_years_0 : List UInt8 := dkwX0_years_0 ++ dktX0_years_1
theorem dksX0_years_0 : cX0_years.data.toList.drop 0 = dktX0_years_0 := by decide +kernel
theorem dksX0_years_1 : cX0_years.data.toList.drop 24 = dktX0_years_1 := dk_seg dksX0_years_0 24 rfl rfl
theorem dX0_years_0 : decode cX0_years 0 = .ok (.aload_n 0, 1) := dk_42 (dk_at dksX0_years_0 0 rfl rfl)
theorem dX0_years_1 : decode cX0_years 1 = .ok (.iload_n 1, 1) := dk_27 (dk_at dksX0_years_0 1 rfl rfl)
theorem dX0_years_2 : decode cX0_years 2 = .ok (.iconst 1, 1) := dk_4 (dk_at dksX0_years_0 2 rfl rfl)
theorem dX0_years_3 : decode cX0_years 3 = .ok (.bipush 100, 2) := dk_16 100 (dk_at dksX0_years_0 3 rfl rfl)
theorem dX0_years_5 : decode cX0_years 5 = .ok (.invokevirtual 236, 3) := dk_182 0 236 (dk_at dksX0_years_0 5 rfl rfl)
theorem dX0_years_8 : decode cX0_years 8 = .ok (.ifCond .ne 9, 3) := dk_154 0 9 (dk_at dksX0_years_0 8 rfl rfl)
theorem dX0_years_11 : decode cX0_years 11 = .ok (.aload_n 0, 1) := dk_42 (dk_at dksX0_years_0 11 rfl rfl)
theorem dX0_years_12 : decode cX0_years 12 = .ok (.iconst 3, 1) := dk_6 (dk_at dksX0_years_0 12 rfl rfl)
theorem dX0_years_13 : decode cX0_years 13 = .ok (.invokevirtual 107, 3) := dk_182 0 107 (dk_at dksX0_years_0 13 rfl rfl)
theorem dX0_years_16 : decode cX0_years 16 = .ok (.ireturn, 1) := dk_172 (dk_at dksX0_years_0 16 rfl rfl)
theorem dX0_years_17 : decode cX0_years 17 = .ok (.aload_n 0, 1) := dk_42 (dk_at dksX0_years_0 17 rfl rfl)
theorem dX0_years_18 : decode cX0_years 18 = .ok (.invokevirtual 287, 3) := dk_182 1 31 (dk_at dksX0_years_0 18 rfl rfl)
theorem dX0_years_21 : decode cX0_years 21 = .ok (.iconst 0, 1) := dk_3 (dk_at dksX0_years_0 21 rfl rfl)
theorem dX0_years_22 : decode cX0_years 22 = .ok (.istore_n 2, 1) := dk_61 (dk_at dksX0_years_0 22 rfl rfl)
theorem dX0_years_23 : decode cX0_years 23 = .ok (.iconst 0, 1) := dk_3 (dk_at dksX0_years_0 23 rfl rfl)
theorem dX0_years_24 : decode cX0_years 24 = .ok (.istore_n 3, 1) := dk_62 (dk_at dksX0_years_1 0 rfl rfl)
theorem dX0_years_25 : decode cX0_years 25 = .ok (.iload_n 3, 1) := dk_29 (dk_at dksX0_years_1 1 rfl rfl)
theorem dX0_years_26 : decode cX0_years 26 = .ok (.iload_n 1, 1) := dk_27 (dk_at dksX0_years_1 2 rfl rfl)
theorem dX0_years_27 : decode cX0_years 27 = .ok (.if_icmp .ge 19, 3) := dk_162 0 19 (dk_at dksX0_years_1 3 rfl rfl)
theorem dX0_years_30 : decode cX0_years 30 = .ok (.iload_n 2, 1) := dk_28 (dk_at dksX0_years_1 6 rfl rfl)
theorem dX0_years_31 : decode cX0_years 31 = .ok (.aload_n 0, 1) := dk_42 (dk_at dksX0_years_1 7 rfl rfl)
theorem dX0_years_32 : decode cX0_years 32 = .ok (.getfield 69, 3) := dk_180 0 69 (dk_at dksX0_years_1 8 rfl rfl)
theorem dX0_years_35 : decode cX0_years 35 = .ok (.invokevirtual 247, 3) := dk_182 0 247 (dk_at dksX0_years_1 11 rfl rfl)
theorem dX0_years_38 : decode cX0_years 38 = .ok (.iadd, 1) := dk_96 (dk_at dksX0_years_1 14 rfl rfl)
theorem dX0_years_39 : decode cX0_years 39 = .ok (.istore_n 2, 1) := dk_61 (dk_at dksX0_years_1 15 rfl rfl)
theorem dX0_years_40 : decode cX0_years 40 = .ok (.iinc 3 1, 3) := dk_132 3 1 (dk_at dksX0_years_1 16 rfl rfl)
theorem dX0_years_43 : decode cX0_years 43 = .ok (.goto (-18), 3) := dk_167 255 238 (dk_at dksX0_years_1 19 rfl rfl)
theorem dX0_years_46 : decode cX0_years 46 = .ok (.iload_n 2, 1) := dk_28 (dk_at dksX0_years_1 22 rfl rfl)
theorem dX0_years_47 : decode cX0_years 47 = .ok (.ireturn, 1) := dk_172 (dk_at dksX0_years_1 23 rfl rfl)
abbrev cX0_chance : ByteArray := prog_1_method_53_code
def yX0_chance : MethodName := ⟨RX0, "chance", "(I)I"⟩
def dkwX0_chance_4 : List UInt8 := [167, 255, 188, 28, 172]
abbrev dktX0_chance_4 : List UInt8 := dkwX0_chance_4 ++ []
def dkwX0_chance_3 : List UInt8 := [21, 4, 42, 16, 100, 182, 1, 41, 79, 132, 2, 1, 42, 180, 0, 69, 182, 0, 247, 87, 132, 3, 1]
abbrev dktX0_chance_3 : List UInt8 := dkwX0_chance_3 ++ dktX0_chance_4
def dkwX0_chance_2 : List UInt8 := [182, 0, 158, 158, 0, 32, 42, 42, 182, 0, 158, 182, 1, 41, 54, 4, 42, 180, 0, 69, 180, 0, 174]
abbrev dktX0_chance_2 : List UInt8 := dkwX0_chance_2 ++ dktX0_chance_3
def dkwX0_chance_1 : List UInt8 := [62, 29, 27, 162, 0, 69, 42, 16, 100, 182, 1, 41, 42, 180, 0, 31, 180, 1, 44, 162, 0, 39, 42]
abbrev dktX0_chance_1 : List UInt8 := dkwX0_chance_1 ++ dktX0_chance_2
def dkwX0_chance_0 : List UInt8 := [42, 27, 4, 16, 100, 182, 0, 236, 154, 0, 9, 42, 6, 182, 0, 107, 172, 42, 182, 1, 31, 3, 61, 3]
abbrev dktX0_chance_0 : List UInt8 := dkwX0_chance_0 ++ dktX0_chance_1
theorem dksX0_chance_0 : cX0_chance.data.toList.drop 0 = dktX0_chance_0 := by decide +kernel
theorem dksX0_chance_1 : cX0_chance.data.toList.drop 24 = dktX0_chance_1 := dk_seg dksX0_chance_0 24 rfl rfl
theorem dksX0_chance_2 : cX0_chance.data.toList.drop 47 = dktX0_chance_2 := dk_seg dksX0_chance_1 23 rfl rfl
theorem dksX0_chance_3 : cX0_chance.data.toList.drop 70 = dktX0_chance_3 := dk_seg dksX0_chance_2 23 rfl rfl
theorem dksX0_chance_4 : cX0_chance.data.toList.drop 93 = dktX0_chance_4 := dk_seg dksX0_chance_3 23 rfl rfl
theorem dX0_chance_0 : decode cX0_chance 0 = .ok (.aload_n 0, 1) := dk_42 (dk_at dksX0_chance_0 0 rfl rfl)
theorem dX0_chance_1 : decode cX0_chance 1 = .ok (.iload_n 1, 1) := dk_27 (dk_at dksX0_chance_0 1 rfl rfl)
theorem dX0_chance_2 : decode cX0_chance 2 = .ok (.iconst 1, 1) := dk_4 (dk_at dksX0_chance_0 2 rfl rfl)
theorem dX0_chance_3 : decode cX0_chance 3 = .ok (.bipush 100, 2) := dk_16 100 (dk_at dksX0_chance_0 3 rfl rfl)
theorem dX0_chance_5 : decode cX0_chance 5 = .ok (.invokevirtual 236, 3) := dk_182 0 236 (dk_at dksX0_chance_0 5 rfl rfl)
theorem dX0_chance_8 : decode cX0_chance 8 = .ok (.ifCond .ne 9, 3) := dk_154 0 9 (dk_at dksX0_chance_0 8 rfl rfl)
theorem dX0_chance_11 : decode cX0_chance 11 = .ok (.aload_n 0, 1) := dk_42 (dk_at dksX0_chance_0 11 rfl rfl)
theorem dX0_chance_12 : decode cX0_chance 12 = .ok (.iconst 3, 1) := dk_6 (dk_at dksX0_chance_0 12 rfl rfl)
theorem dX0_chance_13 : decode cX0_chance 13 = .ok (.invokevirtual 107, 3) := dk_182 0 107 (dk_at dksX0_chance_0 13 rfl rfl)
theorem dX0_chance_16 : decode cX0_chance 16 = .ok (.ireturn, 1) := dk_172 (dk_at dksX0_chance_0 16 rfl rfl)
theorem dX0_chance_17 : decode cX0_chance 17 = .ok (.aload_n 0, 1) := dk_42 (dk_at dksX0_chance_0 17 rfl rfl)
theorem dX0_chance_18 : decode cX0_chance 18 = .ok (.invokevirtual 287, 3) := dk_182 1 31 (dk_at dksX0_chance_0 18 rfl rfl)
theorem dX0_chance_21 : decode cX0_chance 21 = .ok (.iconst 0, 1) := dk_3 (dk_at dksX0_chance_0 21 rfl rfl)
theorem dX0_chance_22 : decode cX0_chance 22 = .ok (.istore_n 2, 1) := dk_61 (dk_at dksX0_chance_0 22 rfl rfl)
theorem dX0_chance_23 : decode cX0_chance 23 = .ok (.iconst 0, 1) := dk_3 (dk_at dksX0_chance_0 23 rfl rfl)
theorem dX0_chance_24 : decode cX0_chance 24 = .ok (.istore_n 3, 1) := dk_62 (dk_at dksX0_chance_1 0 rfl rfl)
theorem dX0_chance_25 : decode cX0_chance 25 = .ok (.iload_n 3, 1) := dk_29 (dk_at dksX0_chance_1 1 rfl rfl)
theorem dX0_chance_26 : decode cX0_chance 26 = .ok (.iload_n 1, 1) := dk_27 (dk_at dksX0_chance_1 2 rfl rfl)
theorem dX0_chance_27 : decode cX0_chance 27 = .ok (.if_icmp .ge 69, 3) := dk_162 0 69 (dk_at dksX0_chance_1 3 rfl rfl)
theorem dX0_chance_30 : decode cX0_chance 30 = .ok (.aload_n 0, 1) := dk_42 (dk_at dksX0_chance_1 6 rfl rfl)
theorem dX0_chance_31 : decode cX0_chance 31 = .ok (.bipush 100, 2) := dk_16 100 (dk_at dksX0_chance_1 7 rfl rfl)
theorem dX0_chance_33 : decode cX0_chance 33 = .ok (.invokevirtual 297, 3) := dk_182 1 41 (dk_at dksX0_chance_1 9 rfl rfl)
theorem dX0_chance_36 : decode cX0_chance 36 = .ok (.aload_n 0, 1) := dk_42 (dk_at dksX0_chance_1 12 rfl rfl)
theorem dX0_chance_37 : decode cX0_chance 37 = .ok (.getfield 31, 3) := dk_180 0 31 (dk_at dksX0_chance_1 13 rfl rfl)
theorem dX0_chance_40 : decode cX0_chance 40 = .ok (.getfield 300, 3) := dk_180 1 44 (dk_at dksX0_chance_1 16 rfl rfl)
theorem dX0_chance_43 : decode cX0_chance 43 = .ok (.if_icmp .ge 39, 3) := dk_162 0 39 (dk_at dksX0_chance_1 19 rfl rfl)
theorem dX0_chance_46 : decode cX0_chance 46 = .ok (.aload_n 0, 1) := dk_42 (dk_at dksX0_chance_1 22 rfl rfl)
theorem dX0_chance_47 : decode cX0_chance 47 = .ok (.invokevirtual 158, 3) := dk_182 0 158 (dk_at dksX0_chance_2 0 rfl rfl)
theorem dX0_chance_50 : decode cX0_chance 50 = .ok (.ifCond .le 32, 3) := dk_158 0 32 (dk_at dksX0_chance_2 3 rfl rfl)
theorem dX0_chance_53 : decode cX0_chance 53 = .ok (.aload_n 0, 1) := dk_42 (dk_at dksX0_chance_2 6 rfl rfl)
theorem dX0_chance_54 : decode cX0_chance 54 = .ok (.aload_n 0, 1) := dk_42 (dk_at dksX0_chance_2 7 rfl rfl)
theorem dX0_chance_55 : decode cX0_chance 55 = .ok (.invokevirtual 158, 3) := dk_182 0 158 (dk_at dksX0_chance_2 8 rfl rfl)
theorem dX0_chance_58 : decode cX0_chance 58 = .ok (.invokevirtual 297, 3) := dk_182 1 41 (dk_at dksX0_chance_2 11 rfl rfl)
theorem dX0_chance_61 : decode cX0_chance 61 = .ok (.istore 4, 2) := dk_54 4 (dk_at dksX0_chance_2 14 rfl rfl)
theorem dX0_chance_63 : decode cX0_chance 63 = .ok (.aload_n 0, 1) := dk_42 (dk_at dksX0_chance_2 16 rfl rfl)
theorem dX0_chance_64 : decode cX0_chance 64 = .ok (.getfield 69, 3) := dk_180 0 69 (dk_at dksX0_chance_2 17 rfl rfl)
theorem dX0_chance_67 : decode cX0_chance 67 = .ok (.getfield 174, 3) := dk_180 0 174 (dk_at dksX0_chance_2 20 rfl rfl)
theorem dX0_chance_70 : decode cX0_chance 70 = .ok (.iload 4, 2) := dk_21 4 (dk_at dksX0_chance_3 0 rfl rfl)
theorem dX0_chance_72 : decode cX0_chance 72 = .ok (.aload_n 0, 1) := dk_42 (dk_at dksX0_chance_3 2 rfl rfl)
theorem dX0_chance_73 : decode cX0_chance 73 = .ok (.bipush 100, 2) := dk_16 100 (dk_at dksX0_chance_3 3 rfl rfl)
theorem dX0_chance_75 : decode cX0_chance 75 = .ok (.invokevirtual 297, 3) := dk_182 1 41 (dk_at dksX0_chance_3 5 rfl rfl)
theorem dX0_chance_78 : decode cX0_chance 78 = .ok (.iastore, 1) := dk_79 (dk_at dksX0_chance_3 8 rfl rfl)
theorem dX0_chance_79 : decode cX0_chance 79 = .ok (.iinc 2 1, 3) := dk_132 2 1 (dk_at dksX0_chance_3 9 rfl rfl)
theorem dX0_chance_82 : decode cX0_chance 82 = .ok (.aload_n 0, 1) := dk_42 (dk_at dksX0_chance_3 12 rfl rfl)
theorem dX0_chance_83 : decode cX0_chance 83 = .ok (.getfield 69, 3) := dk_180 0 69 (dk_at dksX0_chance_3 13 rfl rfl)
theorem dX0_chance_86 : decode cX0_chance 86 = .ok (.invokevirtual 247, 3) := dk_182 0 247 (dk_at dksX0_chance_3 16 rfl rfl)
theorem dX0_chance_89 : decode cX0_chance 89 = .ok (.pop, 1) := dk_87 (dk_at dksX0_chance_3 19 rfl rfl)
theorem dX0_chance_90 : decode cX0_chance 90 = .ok (.iinc 3 1, 3) := dk_132 3 1 (dk_at dksX0_chance_3 20 rfl rfl)
theorem dX0_chance_93 : decode cX0_chance 93 = .ok (.goto (-68), 3) := dk_167 255 188 (dk_at dksX0_chance_4 0 rfl rfl)
theorem dX0_chance_96 : decode cX0_chance 96 = .ok (.iload_n 2, 1) := dk_28 (dk_at dksX0_chance_4 3 rfl rfl)
theorem dX0_chance_97 : decode cX0_chance 97 = .ok (.ireturn, 1) := dk_172 (dk_at dksX0_chance_4 4 rfl rfl)
abbrev cX0_draw : ByteArray := prog_1_method_52_code
def yX0_draw : MethodName := ⟨RX0, "draw", "(I)I"⟩
def dkwX0_draw_1 : List UInt8 := [20, 1, 39, 109, 27, 133, 113, 136, 172]
abbrev dktX0_draw_1 : List UInt8 := dkwX0_draw_1 ++ []
def dkwX0_draw_0 : List UInt8 := [42, 20, 1, 33, 42, 180, 0, 97, 105, 20, 1, 35, 97, 20, 1, 37, 113, 181, 0, 97, 42, 180, 0, 97]
abbrev dktX0_draw_0 : List UInt8 := dkwX0_draw_0 ++ dktX0_draw_1
theorem dksX0_draw_0 : cX0_draw.data.toList.drop 0 = dktX0_draw_0 := by decide +kernel
theorem dksX0_draw_1 : cX0_draw.data.toList.drop 24 = dktX0_draw_1 := dk_seg dksX0_draw_0 24 rfl rfl
theorem dX0_draw_0 : decode cX0_draw 0 = .ok (.aload_n 0, 1) := dk_42 (dk_at dksX0_draw_0 0 rfl rfl)
theorem dX0_draw_1 : decode cX0_draw 1 = .ok (.ldc2_w 289, 3) := dk_20 1 33 (dk_at dksX0_draw_0 1 rfl rfl)
theorem dX0_draw_4 : decode cX0_draw 4 = .ok (.aload_n 0, 1) := dk_42 (dk_at dksX0_draw_0 4 rfl rfl)
theorem dX0_draw_5 : decode cX0_draw 5 = .ok (.getfield 97, 3) := dk_180 0 97 (dk_at dksX0_draw_0 5 rfl rfl)
theorem dX0_draw_8 : decode cX0_draw 8 = .ok (.lmul, 1) := dk_105 (dk_at dksX0_draw_0 8 rfl rfl)
theorem dX0_draw_9 : decode cX0_draw 9 = .ok (.ldc2_w 291, 3) := dk_20 1 35 (dk_at dksX0_draw_0 9 rfl rfl)
theorem dX0_draw_12 : decode cX0_draw 12 = .ok (.ladd, 1) := dk_97 (dk_at dksX0_draw_0 12 rfl rfl)
theorem dX0_draw_13 : decode cX0_draw 13 = .ok (.ldc2_w 293, 3) := dk_20 1 37 (dk_at dksX0_draw_0 13 rfl rfl)
theorem dX0_draw_16 : decode cX0_draw 16 = .ok (.lrem, 1) := dk_113 (dk_at dksX0_draw_0 16 rfl rfl)
theorem dX0_draw_17 : decode cX0_draw 17 = .ok (.putfield 97, 3) := dk_181 0 97 (dk_at dksX0_draw_0 17 rfl rfl)
theorem dX0_draw_20 : decode cX0_draw 20 = .ok (.aload_n 0, 1) := dk_42 (dk_at dksX0_draw_0 20 rfl rfl)
theorem dX0_draw_21 : decode cX0_draw 21 = .ok (.getfield 97, 3) := dk_180 0 97 (dk_at dksX0_draw_0 21 rfl rfl)
theorem dX0_draw_24 : decode cX0_draw 24 = .ok (.ldc2_w 295, 3) := dk_20 1 39 (dk_at dksX0_draw_1 0 rfl rfl)
theorem dX0_draw_27 : decode cX0_draw 27 = .ok (.ldiv, 1) := dk_109 (dk_at dksX0_draw_1 3 rfl rfl)
theorem dX0_draw_28 : decode cX0_draw 28 = .ok (.iload_n 1, 1) := dk_27 (dk_at dksX0_draw_1 4 rfl rfl)
theorem dX0_draw_29 : decode cX0_draw 29 = .ok (.i2l, 1) := dk_133 (dk_at dksX0_draw_1 5 rfl rfl)
theorem dX0_draw_30 : decode cX0_draw 30 = .ok (.lrem, 1) := dk_113 (dk_at dksX0_draw_1 6 rfl rfl)
theorem dX0_draw_31 : decode cX0_draw 31 = .ok (.l2i, 1) := dk_136 (dk_at dksX0_draw_1 7 rfl rfl)
theorem dX0_draw_32 : decode cX0_draw 32 = .ok (.ireturn, 1) := dk_172 (dk_at dksX0_draw_1 8 rfl rfl)
abbrev cX0_seed : ByteArray := prog_1_method_54_code
def yX0_seed : MethodName := ⟨RX0, "seed", "(I)Z"⟩
def dkwX0_seed_1 : List UInt8 := [4, 172]
abbrev dktX0_seed_1 : List UInt8 := dkwX0_seed_1 ++ []
def dkwX0_seed_0 : List UInt8 := [27, 156, 0, 17, 42, 8, 182, 0, 107, 155, 0, 7, 4, 167, 0, 4, 3, 172, 42, 27, 133, 181, 0, 97]
abbrev dktX0_seed_0 : List UInt8 := dkwX0_seed_0 ++ dktX0_seed_1
theorem dksX0_seed_0 : cX0_seed.data.toList.drop 0 = dktX0_seed_0 := by decide +kernel
theorem dksX0_seed_1 : cX0_seed.data.toList.drop 24 = dktX0_seed_1 := dk_seg dksX0_seed_0 24 rfl rfl
theorem dX0_seed_0 : decode cX0_seed 0 = .ok (.iload_n 1, 1) := dk_27 (dk_at dksX0_seed_0 0 rfl rfl)
theorem dX0_seed_1 : decode cX0_seed 1 = .ok (.ifCond .ge 17, 3) := dk_156 0 17 (dk_at dksX0_seed_0 1 rfl rfl)
theorem dX0_seed_4 : decode cX0_seed 4 = .ok (.aload_n 0, 1) := dk_42 (dk_at dksX0_seed_0 4 rfl rfl)
theorem dX0_seed_5 : decode cX0_seed 5 = .ok (.iconst 5, 1) := dk_8 (dk_at dksX0_seed_0 5 rfl rfl)
theorem dX0_seed_6 : decode cX0_seed 6 = .ok (.invokevirtual 107, 3) := dk_182 0 107 (dk_at dksX0_seed_0 6 rfl rfl)
theorem dX0_seed_9 : decode cX0_seed 9 = .ok (.ifCond .lt 7, 3) := dk_155 0 7 (dk_at dksX0_seed_0 9 rfl rfl)
theorem dX0_seed_12 : decode cX0_seed 12 = .ok (.iconst 1, 1) := dk_4 (dk_at dksX0_seed_0 12 rfl rfl)
theorem dX0_seed_13 : decode cX0_seed 13 = .ok (.goto 4, 3) := dk_167 0 4 (dk_at dksX0_seed_0 13 rfl rfl)
theorem dX0_seed_16 : decode cX0_seed 16 = .ok (.iconst 0, 1) := dk_3 (dk_at dksX0_seed_0 16 rfl rfl)
theorem dX0_seed_17 : decode cX0_seed 17 = .ok (.ireturn, 1) := dk_172 (dk_at dksX0_seed_0 17 rfl rfl)
theorem dX0_seed_18 : decode cX0_seed 18 = .ok (.aload_n 0, 1) := dk_42 (dk_at dksX0_seed_0 18 rfl rfl)
theorem dX0_seed_19 : decode cX0_seed 19 = .ok (.iload_n 1, 1) := dk_27 (dk_at dksX0_seed_0 19 rfl rfl)
theorem dX0_seed_20 : decode cX0_seed 20 = .ok (.i2l, 1) := dk_133 (dk_at dksX0_seed_0 20 rfl rfl)
theorem dX0_seed_21 : decode cX0_seed 21 = .ok (.putfield 97, 3) := dk_181 0 97 (dk_at dksX0_seed_0 21 rfl rfl)
theorem dX0_seed_24 : decode cX0_seed 24 = .ok (.iconst 1, 1) := dk_4 (dk_at dksX0_seed_1 0 rfl rfl)
theorem dX0_seed_25 : decode cX0_seed 25 = .ok (.ireturn, 1) := dk_172 (dk_at dksX0_seed_1 1 rfl rfl)
abbrev cX0_ask : ByteArray := prog_1_method_56_code
def yX0_ask : MethodName := ⟨RX0, "ask", "()J"⟩
def dkwX0_ask_11 : List UInt8 := [182, 1, 66, 173]
abbrev dktX0_ask_11 : List UInt8 := dkwX0_ask_11 ++ []
def dkwX0_ask_10 : List UInt8 := [180, 1, 47, 42, 180, 0, 59, 182, 1, 60, 42, 89, 180, 1, 47, 4, 96, 181, 1, 47, 167, 255, 72, 44]
abbrev dktX0_ask_10 : List UInt8 := dkwX0_ask_10 ++ dktX0_ask_11
def dkwX0_ask_9 : List UInt8 := [180, 0, 69, 180, 0, 177, 42, 180, 1, 47, 51, 153, 0, 7, 10, 167, 0, 4, 9, 80, 44, 42]
abbrev dktX0_ask_9 : List UInt8 := dkwX0_ask_9 ++ dktX0_ask_10
def dkwX0_ask_8 : List UInt8 := [180, 0, 69, 180, 0, 207, 42, 180, 1, 47, 46, 133, 80, 42, 180, 0, 59, 180, 1, 56, 16, 10, 42]
abbrev dktX0_ask_8 : List UInt8 := dkwX0_ask_8 ++ dktX0_ask_9
def dkwX0_ask_7 : List UInt8 := [180, 0, 59, 180, 1, 56, 16, 8, 42, 180, 1, 47, 133, 80, 42, 180, 0, 59, 180, 1, 56, 16, 9, 42]
abbrev dktX0_ask_7 : List UInt8 := dkwX0_ask_7 ++ dktX0_ask_8
def dkwX0_ask_6 : List UInt8 := [180, 0, 59, 180, 1, 56, 7, 42, 180, 0, 69, 180, 0, 174, 42, 180, 1, 47, 46, 133, 80, 42]
abbrev dktX0_ask_6 : List UInt8 := dkwX0_ask_6 ++ dktX0_ask_7
def dkwX0_ask_5 : List UInt8 := [180, 1, 47, 46, 133, 80, 42, 180, 0, 59, 180, 1, 56, 6, 42, 180, 0, 69, 180, 0, 171, 133, 80, 42]
abbrev dktX0_ask_5 : List UInt8 := dkwX0_ask_5 ++ dktX0_ask_6
def dkwX0_ask_4 : List UInt8 := [180, 1, 47, 46, 133, 80, 42, 180, 0, 59, 180, 1, 56, 4, 42, 180, 0, 69, 180, 0, 213, 42]
abbrev dktX0_ask_4 : List UInt8 := dkwX0_ask_4 ++ dktX0_ask_5
def dkwX0_ask_3 : List UInt8 := [182, 0, 158, 162, 0, 179, 42, 180, 0, 59, 180, 1, 56, 3, 42, 180, 0, 69, 180, 0, 210, 42]
abbrev dktX0_ask_3 : List UInt8 := dkwX0_ask_3 ++ dktX0_ask_4
def dkwX0_ask_2 : List UInt8 := [42, 45, 180, 0, 131, 181, 0, 39, 20, 1, 50, 173, 42, 3, 181, 1, 47, 42, 180, 1, 47, 42]
abbrev dktX0_ask_2 : List UInt8 := dkwX0_ask_2 ++ dktX0_ask_3
def dkwX0_ask_1 : List UInt8 := [181, 0, 39, 42, 180, 0, 48, 27, 182, 1, 52, 77, 167, 0, 24, 78, 42, 45, 180, 0, 128, 181, 0, 115]
abbrev dktX0_ask_1 : List UInt8 := dkwX0_ask_1 ++ dktX0_ask_2
def dkwX0_ask_0 : List UInt8 := [42, 182, 0, 118, 60, 42, 182, 0, 232, 154, 0, 7, 20, 1, 50, 173, 42, 3, 181, 0, 115, 42, 2]
abbrev dktX0_ask_0 : List UInt8 := dkwX0_ask_0 ++ dktX0_ask_1
theorem dksX0_ask_0 : cX0_ask.data.toList.drop 0 = dktX0_ask_0 := by decide +kernel
theorem dksX0_ask_1 : cX0_ask.data.toList.drop 23 = dktX0_ask_1 := dk_seg dksX0_ask_0 23 rfl rfl
theorem dksX0_ask_2 : cX0_ask.data.toList.drop 47 = dktX0_ask_2 := dk_seg dksX0_ask_1 24 rfl rfl
theorem dksX0_ask_3 : cX0_ask.data.toList.drop 69 = dktX0_ask_3 := dk_seg dksX0_ask_2 22 rfl rfl
theorem dksX0_ask_4 : cX0_ask.data.toList.drop 91 = dktX0_ask_4 := dk_seg dksX0_ask_3 22 rfl rfl
theorem dksX0_ask_5 : cX0_ask.data.toList.drop 113 = dktX0_ask_5 := dk_seg dksX0_ask_4 22 rfl rfl
theorem dksX0_ask_6 : cX0_ask.data.toList.drop 137 = dktX0_ask_6 := dk_seg dksX0_ask_5 24 rfl rfl
theorem dksX0_ask_7 : cX0_ask.data.toList.drop 159 = dktX0_ask_7 := dk_seg dksX0_ask_6 22 rfl rfl
theorem dksX0_ask_8 : cX0_ask.data.toList.drop 183 = dktX0_ask_8 := dk_seg dksX0_ask_7 24 rfl rfl
theorem dksX0_ask_9 : cX0_ask.data.toList.drop 206 = dktX0_ask_9 := dk_seg dksX0_ask_8 23 rfl rfl
theorem dksX0_ask_10 : cX0_ask.data.toList.drop 228 = dktX0_ask_10 := dk_seg dksX0_ask_9 22 rfl rfl
theorem dksX0_ask_11 : cX0_ask.data.toList.drop 252 = dktX0_ask_11 := dk_seg dksX0_ask_10 24 rfl rfl
theorem dX0_ask_0 : decode cX0_ask 0 = .ok (.aload_n 0, 1) := dk_42 (dk_at dksX0_ask_0 0 rfl rfl)
theorem dX0_ask_1 : decode cX0_ask 1 = .ok (.invokevirtual 118, 3) := dk_182 0 118 (dk_at dksX0_ask_0 1 rfl rfl)
theorem dX0_ask_4 : decode cX0_ask 4 = .ok (.istore_n 1, 1) := dk_60 (dk_at dksX0_ask_0 4 rfl rfl)
theorem dX0_ask_5 : decode cX0_ask 5 = .ok (.aload_n 0, 1) := dk_42 (dk_at dksX0_ask_0 5 rfl rfl)
theorem dX0_ask_6 : decode cX0_ask 6 = .ok (.invokevirtual 232, 3) := dk_182 0 232 (dk_at dksX0_ask_0 6 rfl rfl)
theorem dX0_ask_9 : decode cX0_ask 9 = .ok (.ifCond .ne 7, 3) := dk_154 0 7 (dk_at dksX0_ask_0 9 rfl rfl)
theorem dX0_ask_12 : decode cX0_ask 12 = .ok (.ldc2_w 306, 3) := dk_20 1 50 (dk_at dksX0_ask_0 12 rfl rfl)
theorem dX0_ask_15 : decode cX0_ask 15 = .ok (.lreturn, 1) := dk_173 (dk_at dksX0_ask_0 15 rfl rfl)
theorem dX0_ask_16 : decode cX0_ask 16 = .ok (.aload_n 0, 1) := dk_42 (dk_at dksX0_ask_0 16 rfl rfl)
theorem dX0_ask_17 : decode cX0_ask 17 = .ok (.iconst 0, 1) := dk_3 (dk_at dksX0_ask_0 17 rfl rfl)
theorem dX0_ask_18 : decode cX0_ask 18 = .ok (.putfield 115, 3) := dk_181 0 115 (dk_at dksX0_ask_0 18 rfl rfl)
theorem dX0_ask_21 : decode cX0_ask 21 = .ok (.aload_n 0, 1) := dk_42 (dk_at dksX0_ask_0 21 rfl rfl)
theorem dX0_ask_22 : decode cX0_ask 22 = .ok (.iconst (-1), 1) := dk_2 (dk_at dksX0_ask_0 22 rfl rfl)
theorem dX0_ask_23 : decode cX0_ask 23 = .ok (.putfield 39, 3) := dk_181 0 39 (dk_at dksX0_ask_1 0 rfl rfl)
theorem dX0_ask_26 : decode cX0_ask 26 = .ok (.aload_n 0, 1) := dk_42 (dk_at dksX0_ask_1 3 rfl rfl)
theorem dX0_ask_27 : decode cX0_ask 27 = .ok (.getfield 48, 3) := dk_180 0 48 (dk_at dksX0_ask_1 4 rfl rfl)
theorem dX0_ask_30 : decode cX0_ask 30 = .ok (.iload_n 1, 1) := dk_27 (dk_at dksX0_ask_1 7 rfl rfl)
theorem dX0_ask_31 : decode cX0_ask 31 = .ok (.invokevirtual 308, 3) := dk_182 1 52 (dk_at dksX0_ask_1 8 rfl rfl)
theorem dX0_ask_34 : decode cX0_ask 34 = .ok (.astore_n 2, 1) := dk_77 (dk_at dksX0_ask_1 11 rfl rfl)
theorem dX0_ask_35 : decode cX0_ask 35 = .ok (.goto 24, 3) := dk_167 0 24 (dk_at dksX0_ask_1 12 rfl rfl)
theorem dX0_ask_38 : decode cX0_ask 38 = .ok (.astore_n 3, 1) := dk_78 (dk_at dksX0_ask_1 15 rfl rfl)
theorem dX0_ask_39 : decode cX0_ask 39 = .ok (.aload_n 0, 1) := dk_42 (dk_at dksX0_ask_1 16 rfl rfl)
theorem dX0_ask_40 : decode cX0_ask 40 = .ok (.aload_n 3, 1) := dk_45 (dk_at dksX0_ask_1 17 rfl rfl)
theorem dX0_ask_41 : decode cX0_ask 41 = .ok (.getfield 128, 3) := dk_180 0 128 (dk_at dksX0_ask_1 18 rfl rfl)
theorem dX0_ask_44 : decode cX0_ask 44 = .ok (.putfield 115, 3) := dk_181 0 115 (dk_at dksX0_ask_1 21 rfl rfl)
theorem dX0_ask_47 : decode cX0_ask 47 = .ok (.aload_n 0, 1) := dk_42 (dk_at dksX0_ask_2 0 rfl rfl)
theorem dX0_ask_48 : decode cX0_ask 48 = .ok (.aload_n 3, 1) := dk_45 (dk_at dksX0_ask_2 1 rfl rfl)
theorem dX0_ask_49 : decode cX0_ask 49 = .ok (.getfield 131, 3) := dk_180 0 131 (dk_at dksX0_ask_2 2 rfl rfl)
theorem dX0_ask_52 : decode cX0_ask 52 = .ok (.putfield 39, 3) := dk_181 0 39 (dk_at dksX0_ask_2 5 rfl rfl)
theorem dX0_ask_55 : decode cX0_ask 55 = .ok (.ldc2_w 306, 3) := dk_20 1 50 (dk_at dksX0_ask_2 8 rfl rfl)
theorem dX0_ask_58 : decode cX0_ask 58 = .ok (.lreturn, 1) := dk_173 (dk_at dksX0_ask_2 11 rfl rfl)
theorem dX0_ask_59 : decode cX0_ask 59 = .ok (.aload_n 0, 1) := dk_42 (dk_at dksX0_ask_2 12 rfl rfl)
theorem dX0_ask_60 : decode cX0_ask 60 = .ok (.iconst 0, 1) := dk_3 (dk_at dksX0_ask_2 13 rfl rfl)
theorem dX0_ask_61 : decode cX0_ask 61 = .ok (.putfield 303, 3) := dk_181 1 47 (dk_at dksX0_ask_2 14 rfl rfl)
theorem dX0_ask_64 : decode cX0_ask 64 = .ok (.aload_n 0, 1) := dk_42 (dk_at dksX0_ask_2 17 rfl rfl)
theorem dX0_ask_65 : decode cX0_ask 65 = .ok (.getfield 303, 3) := dk_180 1 47 (dk_at dksX0_ask_2 18 rfl rfl)
theorem dX0_ask_68 : decode cX0_ask 68 = .ok (.aload_n 0, 1) := dk_42 (dk_at dksX0_ask_2 21 rfl rfl)
theorem dX0_ask_69 : decode cX0_ask 69 = .ok (.invokevirtual 158, 3) := dk_182 0 158 (dk_at dksX0_ask_3 0 rfl rfl)
theorem dX0_ask_72 : decode cX0_ask 72 = .ok (.if_icmp .ge 179, 3) := dk_162 0 179 (dk_at dksX0_ask_3 3 rfl rfl)
theorem dX0_ask_75 : decode cX0_ask 75 = .ok (.aload_n 0, 1) := dk_42 (dk_at dksX0_ask_3 6 rfl rfl)
theorem dX0_ask_76 : decode cX0_ask 76 = .ok (.getfield 59, 3) := dk_180 0 59 (dk_at dksX0_ask_3 7 rfl rfl)
theorem dX0_ask_79 : decode cX0_ask 79 = .ok (.getfield 312, 3) := dk_180 1 56 (dk_at dksX0_ask_3 10 rfl rfl)
theorem dX0_ask_82 : decode cX0_ask 82 = .ok (.iconst 0, 1) := dk_3 (dk_at dksX0_ask_3 13 rfl rfl)
theorem dX0_ask_83 : decode cX0_ask 83 = .ok (.aload_n 0, 1) := dk_42 (dk_at dksX0_ask_3 14 rfl rfl)
theorem dX0_ask_84 : decode cX0_ask 84 = .ok (.getfield 69, 3) := dk_180 0 69 (dk_at dksX0_ask_3 15 rfl rfl)
theorem dX0_ask_87 : decode cX0_ask 87 = .ok (.getfield 210, 3) := dk_180 0 210 (dk_at dksX0_ask_3 18 rfl rfl)
theorem dX0_ask_90 : decode cX0_ask 90 = .ok (.aload_n 0, 1) := dk_42 (dk_at dksX0_ask_3 21 rfl rfl)
theorem dX0_ask_91 : decode cX0_ask 91 = .ok (.getfield 303, 3) := dk_180 1 47 (dk_at dksX0_ask_4 0 rfl rfl)
theorem dX0_ask_94 : decode cX0_ask 94 = .ok (.iaload, 1) := dk_46 (dk_at dksX0_ask_4 3 rfl rfl)
theorem dX0_ask_95 : decode cX0_ask 95 = .ok (.i2l, 1) := dk_133 (dk_at dksX0_ask_4 4 rfl rfl)
theorem dX0_ask_96 : decode cX0_ask 96 = .ok (.lastore, 1) := dk_80 (dk_at dksX0_ask_4 5 rfl rfl)
theorem dX0_ask_97 : decode cX0_ask 97 = .ok (.aload_n 0, 1) := dk_42 (dk_at dksX0_ask_4 6 rfl rfl)
theorem dX0_ask_98 : decode cX0_ask 98 = .ok (.getfield 59, 3) := dk_180 0 59 (dk_at dksX0_ask_4 7 rfl rfl)
theorem dX0_ask_101 : decode cX0_ask 101 = .ok (.getfield 312, 3) := dk_180 1 56 (dk_at dksX0_ask_4 10 rfl rfl)
theorem dX0_ask_104 : decode cX0_ask 104 = .ok (.iconst 1, 1) := dk_4 (dk_at dksX0_ask_4 13 rfl rfl)
theorem dX0_ask_105 : decode cX0_ask 105 = .ok (.aload_n 0, 1) := dk_42 (dk_at dksX0_ask_4 14 rfl rfl)
theorem dX0_ask_106 : decode cX0_ask 106 = .ok (.getfield 69, 3) := dk_180 0 69 (dk_at dksX0_ask_4 15 rfl rfl)
theorem dX0_ask_109 : decode cX0_ask 109 = .ok (.getfield 213, 3) := dk_180 0 213 (dk_at dksX0_ask_4 18 rfl rfl)
theorem dX0_ask_112 : decode cX0_ask 112 = .ok (.aload_n 0, 1) := dk_42 (dk_at dksX0_ask_4 21 rfl rfl)
theorem dX0_ask_113 : decode cX0_ask 113 = .ok (.getfield 303, 3) := dk_180 1 47 (dk_at dksX0_ask_5 0 rfl rfl)
theorem dX0_ask_116 : decode cX0_ask 116 = .ok (.iaload, 1) := dk_46 (dk_at dksX0_ask_5 3 rfl rfl)
theorem dX0_ask_117 : decode cX0_ask 117 = .ok (.i2l, 1) := dk_133 (dk_at dksX0_ask_5 4 rfl rfl)
theorem dX0_ask_118 : decode cX0_ask 118 = .ok (.lastore, 1) := dk_80 (dk_at dksX0_ask_5 5 rfl rfl)
theorem dX0_ask_119 : decode cX0_ask 119 = .ok (.aload_n 0, 1) := dk_42 (dk_at dksX0_ask_5 6 rfl rfl)
theorem dX0_ask_120 : decode cX0_ask 120 = .ok (.getfield 59, 3) := dk_180 0 59 (dk_at dksX0_ask_5 7 rfl rfl)
theorem dX0_ask_123 : decode cX0_ask 123 = .ok (.getfield 312, 3) := dk_180 1 56 (dk_at dksX0_ask_5 10 rfl rfl)
theorem dX0_ask_126 : decode cX0_ask 126 = .ok (.iconst 3, 1) := dk_6 (dk_at dksX0_ask_5 13 rfl rfl)
theorem dX0_ask_127 : decode cX0_ask 127 = .ok (.aload_n 0, 1) := dk_42 (dk_at dksX0_ask_5 14 rfl rfl)
theorem dX0_ask_128 : decode cX0_ask 128 = .ok (.getfield 69, 3) := dk_180 0 69 (dk_at dksX0_ask_5 15 rfl rfl)
theorem dX0_ask_131 : decode cX0_ask 131 = .ok (.getfield 171, 3) := dk_180 0 171 (dk_at dksX0_ask_5 18 rfl rfl)
theorem dX0_ask_134 : decode cX0_ask 134 = .ok (.i2l, 1) := dk_133 (dk_at dksX0_ask_5 21 rfl rfl)
theorem dX0_ask_135 : decode cX0_ask 135 = .ok (.lastore, 1) := dk_80 (dk_at dksX0_ask_5 22 rfl rfl)
theorem dX0_ask_136 : decode cX0_ask 136 = .ok (.aload_n 0, 1) := dk_42 (dk_at dksX0_ask_5 23 rfl rfl)
theorem dX0_ask_137 : decode cX0_ask 137 = .ok (.getfield 59, 3) := dk_180 0 59 (dk_at dksX0_ask_6 0 rfl rfl)
theorem dX0_ask_140 : decode cX0_ask 140 = .ok (.getfield 312, 3) := dk_180 1 56 (dk_at dksX0_ask_6 3 rfl rfl)
theorem dX0_ask_143 : decode cX0_ask 143 = .ok (.iconst 4, 1) := dk_7 (dk_at dksX0_ask_6 6 rfl rfl)
theorem dX0_ask_144 : decode cX0_ask 144 = .ok (.aload_n 0, 1) := dk_42 (dk_at dksX0_ask_6 7 rfl rfl)
theorem dX0_ask_145 : decode cX0_ask 145 = .ok (.getfield 69, 3) := dk_180 0 69 (dk_at dksX0_ask_6 8 rfl rfl)
theorem dX0_ask_148 : decode cX0_ask 148 = .ok (.getfield 174, 3) := dk_180 0 174 (dk_at dksX0_ask_6 11 rfl rfl)
theorem dX0_ask_151 : decode cX0_ask 151 = .ok (.aload_n 0, 1) := dk_42 (dk_at dksX0_ask_6 14 rfl rfl)
theorem dX0_ask_152 : decode cX0_ask 152 = .ok (.getfield 303, 3) := dk_180 1 47 (dk_at dksX0_ask_6 15 rfl rfl)
theorem dX0_ask_155 : decode cX0_ask 155 = .ok (.iaload, 1) := dk_46 (dk_at dksX0_ask_6 18 rfl rfl)
theorem dX0_ask_156 : decode cX0_ask 156 = .ok (.i2l, 1) := dk_133 (dk_at dksX0_ask_6 19 rfl rfl)
theorem dX0_ask_157 : decode cX0_ask 157 = .ok (.lastore, 1) := dk_80 (dk_at dksX0_ask_6 20 rfl rfl)
theorem dX0_ask_158 : decode cX0_ask 158 = .ok (.aload_n 0, 1) := dk_42 (dk_at dksX0_ask_6 21 rfl rfl)
theorem dX0_ask_159 : decode cX0_ask 159 = .ok (.getfield 59, 3) := dk_180 0 59 (dk_at dksX0_ask_7 0 rfl rfl)
theorem dX0_ask_162 : decode cX0_ask 162 = .ok (.getfield 312, 3) := dk_180 1 56 (dk_at dksX0_ask_7 3 rfl rfl)
theorem dX0_ask_165 : decode cX0_ask 165 = .ok (.bipush 8, 2) := dk_16 8 (dk_at dksX0_ask_7 6 rfl rfl)
theorem dX0_ask_167 : decode cX0_ask 167 = .ok (.aload_n 0, 1) := dk_42 (dk_at dksX0_ask_7 8 rfl rfl)
theorem dX0_ask_168 : decode cX0_ask 168 = .ok (.getfield 303, 3) := dk_180 1 47 (dk_at dksX0_ask_7 9 rfl rfl)
theorem dX0_ask_171 : decode cX0_ask 171 = .ok (.i2l, 1) := dk_133 (dk_at dksX0_ask_7 12 rfl rfl)
theorem dX0_ask_172 : decode cX0_ask 172 = .ok (.lastore, 1) := dk_80 (dk_at dksX0_ask_7 13 rfl rfl)
theorem dX0_ask_173 : decode cX0_ask 173 = .ok (.aload_n 0, 1) := dk_42 (dk_at dksX0_ask_7 14 rfl rfl)
theorem dX0_ask_174 : decode cX0_ask 174 = .ok (.getfield 59, 3) := dk_180 0 59 (dk_at dksX0_ask_7 15 rfl rfl)
theorem dX0_ask_177 : decode cX0_ask 177 = .ok (.getfield 312, 3) := dk_180 1 56 (dk_at dksX0_ask_7 18 rfl rfl)
theorem dX0_ask_180 : decode cX0_ask 180 = .ok (.bipush 9, 2) := dk_16 9 (dk_at dksX0_ask_7 21 rfl rfl)
theorem dX0_ask_182 : decode cX0_ask 182 = .ok (.aload_n 0, 1) := dk_42 (dk_at dksX0_ask_7 23 rfl rfl)
theorem dX0_ask_183 : decode cX0_ask 183 = .ok (.getfield 69, 3) := dk_180 0 69 (dk_at dksX0_ask_8 0 rfl rfl)
theorem dX0_ask_186 : decode cX0_ask 186 = .ok (.getfield 207, 3) := dk_180 0 207 (dk_at dksX0_ask_8 3 rfl rfl)
theorem dX0_ask_189 : decode cX0_ask 189 = .ok (.aload_n 0, 1) := dk_42 (dk_at dksX0_ask_8 6 rfl rfl)
theorem dX0_ask_190 : decode cX0_ask 190 = .ok (.getfield 303, 3) := dk_180 1 47 (dk_at dksX0_ask_8 7 rfl rfl)
theorem dX0_ask_193 : decode cX0_ask 193 = .ok (.iaload, 1) := dk_46 (dk_at dksX0_ask_8 10 rfl rfl)
theorem dX0_ask_194 : decode cX0_ask 194 = .ok (.i2l, 1) := dk_133 (dk_at dksX0_ask_8 11 rfl rfl)
theorem dX0_ask_195 : decode cX0_ask 195 = .ok (.lastore, 1) := dk_80 (dk_at dksX0_ask_8 12 rfl rfl)
theorem dX0_ask_196 : decode cX0_ask 196 = .ok (.aload_n 0, 1) := dk_42 (dk_at dksX0_ask_8 13 rfl rfl)
theorem dX0_ask_197 : decode cX0_ask 197 = .ok (.getfield 59, 3) := dk_180 0 59 (dk_at dksX0_ask_8 14 rfl rfl)
theorem dX0_ask_200 : decode cX0_ask 200 = .ok (.getfield 312, 3) := dk_180 1 56 (dk_at dksX0_ask_8 17 rfl rfl)
theorem dX0_ask_203 : decode cX0_ask 203 = .ok (.bipush 10, 2) := dk_16 10 (dk_at dksX0_ask_8 20 rfl rfl)
theorem dX0_ask_205 : decode cX0_ask 205 = .ok (.aload_n 0, 1) := dk_42 (dk_at dksX0_ask_8 22 rfl rfl)
theorem dX0_ask_206 : decode cX0_ask 206 = .ok (.getfield 69, 3) := dk_180 0 69 (dk_at dksX0_ask_9 0 rfl rfl)
theorem dX0_ask_209 : decode cX0_ask 209 = .ok (.getfield 177, 3) := dk_180 0 177 (dk_at dksX0_ask_9 3 rfl rfl)
theorem dX0_ask_212 : decode cX0_ask 212 = .ok (.aload_n 0, 1) := dk_42 (dk_at dksX0_ask_9 6 rfl rfl)
theorem dX0_ask_213 : decode cX0_ask 213 = .ok (.getfield 303, 3) := dk_180 1 47 (dk_at dksX0_ask_9 7 rfl rfl)
theorem dX0_ask_216 : decode cX0_ask 216 = .ok (.baload, 1) := dk_51 (dk_at dksX0_ask_9 10 rfl rfl)
theorem dX0_ask_217 : decode cX0_ask 217 = .ok (.ifCond .eq 7, 3) := dk_153 0 7 (dk_at dksX0_ask_9 11 rfl rfl)
theorem dX0_ask_220 : decode cX0_ask 220 = .ok (.lconst 1, 1) := dk_10 (dk_at dksX0_ask_9 14 rfl rfl)
theorem dX0_ask_221 : decode cX0_ask 221 = .ok (.goto 4, 3) := dk_167 0 4 (dk_at dksX0_ask_9 15 rfl rfl)
theorem dX0_ask_224 : decode cX0_ask 224 = .ok (.lconst 0, 1) := dk_9 (dk_at dksX0_ask_9 18 rfl rfl)
theorem dX0_ask_225 : decode cX0_ask 225 = .ok (.lastore, 1) := dk_80 (dk_at dksX0_ask_9 19 rfl rfl)
theorem dX0_ask_226 : decode cX0_ask 226 = .ok (.aload_n 2, 1) := dk_44 (dk_at dksX0_ask_9 20 rfl rfl)
theorem dX0_ask_227 : decode cX0_ask 227 = .ok (.aload_n 0, 1) := dk_42 (dk_at dksX0_ask_9 21 rfl rfl)
theorem dX0_ask_228 : decode cX0_ask 228 = .ok (.getfield 303, 3) := dk_180 1 47 (dk_at dksX0_ask_10 0 rfl rfl)
theorem dX0_ask_231 : decode cX0_ask 231 = .ok (.aload_n 0, 1) := dk_42 (dk_at dksX0_ask_10 3 rfl rfl)
theorem dX0_ask_232 : decode cX0_ask 232 = .ok (.getfield 59, 3) := dk_180 0 59 (dk_at dksX0_ask_10 4 rfl rfl)
theorem dX0_ask_235 : decode cX0_ask 235 = .ok (.invokevirtual 316, 3) := dk_182 1 60 (dk_at dksX0_ask_10 7 rfl rfl)
theorem dX0_ask_238 : decode cX0_ask 238 = .ok (.aload_n 0, 1) := dk_42 (dk_at dksX0_ask_10 10 rfl rfl)
theorem dX0_ask_239 : decode cX0_ask 239 = .ok (.dup, 1) := dk_89 (dk_at dksX0_ask_10 11 rfl rfl)
theorem dX0_ask_240 : decode cX0_ask 240 = .ok (.getfield 303, 3) := dk_180 1 47 (dk_at dksX0_ask_10 12 rfl rfl)
theorem dX0_ask_243 : decode cX0_ask 243 = .ok (.iconst 1, 1) := dk_4 (dk_at dksX0_ask_10 15 rfl rfl)
theorem dX0_ask_244 : decode cX0_ask 244 = .ok (.iadd, 1) := dk_96 (dk_at dksX0_ask_10 16 rfl rfl)
theorem dX0_ask_245 : decode cX0_ask 245 = .ok (.putfield 303, 3) := dk_181 1 47 (dk_at dksX0_ask_10 17 rfl rfl)
theorem dX0_ask_248 : decode cX0_ask 248 = .ok (.goto (-184), 3) := dk_167 255 72 (dk_at dksX0_ask_10 20 rfl rfl)
theorem dX0_ask_251 : decode cX0_ask 251 = .ok (.aload_n 2, 1) := dk_44 (dk_at dksX0_ask_10 23 rfl rfl)
theorem dX0_ask_252 : decode cX0_ask 252 = .ok (.invokevirtual 322, 3) := dk_182 1 66 (dk_at dksX0_ask_11 0 rfl rfl)
theorem dX0_ask_255 : decode cX0_ask 255 = .ok (.lreturn, 1) := dk_173 (dk_at dksX0_ask_11 3 rfl rfl)
abbrev cX0_image : ByteArray := prog_1_method_59_code
def yX0_image : MethodName := ⟨RX0, "image", "()I"⟩
def dkwX0_image_6 : List UInt8 := [182, 1, 73, 42, 180, 1, 70, 172]
abbrev dktX0_image_6 : List UInt8 := dkwX0_image_6 ++ []
def dkwX0_image_5 : List UInt8 := [132, 2, 1, 167, 255, 225, 132, 1, 1, 167, 255, 162, 42, 42, 180, 0, 101, 42, 180, 1, 70, 184, 1, 76]
abbrev dktX0_image_5 : List UInt8 := dkwX0_image_5 ++ dktX0_image_6
def dkwX0_image_4 : List UInt8 := [162, 0, 29, 28, 27, 159, 0, 18, 42, 42, 180, 0, 69, 180, 0, 223, 27, 50, 28, 46, 182, 1, 73]
abbrev dktX0_image_4 : List UInt8 := dkwX0_image_4 ++ dktX0_image_5
def dkwX0_image_3 : List UInt8 := [180, 0, 177, 27, 51, 153, 0, 7, 4, 167, 0, 4, 3, 182, 1, 73, 3, 61, 28, 42, 182, 0, 158]
abbrev dktX0_image_3 : List UInt8 := dkwX0_image_3 ++ dktX0_image_4
def dkwX0_image_2 : List UInt8 := [27, 46, 182, 1, 73, 42, 42, 180, 0, 69, 180, 0, 174, 27, 46, 182, 1, 73, 42, 42, 180, 0, 69]
abbrev dktX0_image_2 : List UInt8 := dkwX0_image_2 ++ dktX0_image_3
def dkwX0_image_1 : List UInt8 := [180, 0, 171, 182, 1, 73, 3, 60, 27, 42, 182, 0, 158, 162, 0, 92, 42, 42, 180, 0, 69, 180, 0, 207]
abbrev dktX0_image_1 : List UInt8 := dkwX0_image_1 ++ dktX0_image_2
def dkwX0_image_0 : List UInt8 := [42, 3, 181, 1, 70, 42, 42, 180, 0, 69, 180, 0, 171, 16, 8, 122, 182, 1, 73, 42, 42, 180, 0, 69]
abbrev dktX0_image_0 : List UInt8 := dkwX0_image_0 ++ dktX0_image_1
theorem dksX0_image_0 : cX0_image.data.toList.drop 0 = dktX0_image_0 := by decide +kernel
theorem dksX0_image_1 : cX0_image.data.toList.drop 24 = dktX0_image_1 := dk_seg dksX0_image_0 24 rfl rfl
theorem dksX0_image_2 : cX0_image.data.toList.drop 48 = dktX0_image_2 := dk_seg dksX0_image_1 24 rfl rfl
theorem dksX0_image_3 : cX0_image.data.toList.drop 71 = dktX0_image_3 := dk_seg dksX0_image_2 23 rfl rfl
theorem dksX0_image_4 : cX0_image.data.toList.drop 94 = dktX0_image_4 := dk_seg dksX0_image_3 23 rfl rfl
theorem dksX0_image_5 : cX0_image.data.toList.drop 117 = dktX0_image_5 := dk_seg dksX0_image_4 23 rfl rfl
theorem dksX0_image_6 : cX0_image.data.toList.drop 141 = dktX0_image_6 := dk_seg dksX0_image_5 24 rfl rfl
theorem dX0_image_0 : decode cX0_image 0 = .ok (.aload_n 0, 1) := dk_42 (dk_at dksX0_image_0 0 rfl rfl)
theorem dX0_image_1 : decode cX0_image 1 = .ok (.iconst 0, 1) := dk_3 (dk_at dksX0_image_0 1 rfl rfl)
theorem dX0_image_2 : decode cX0_image 2 = .ok (.putfield 326, 3) := dk_181 1 70 (dk_at dksX0_image_0 2 rfl rfl)
theorem dX0_image_5 : decode cX0_image 5 = .ok (.aload_n 0, 1) := dk_42 (dk_at dksX0_image_0 5 rfl rfl)
theorem dX0_image_6 : decode cX0_image 6 = .ok (.aload_n 0, 1) := dk_42 (dk_at dksX0_image_0 6 rfl rfl)
theorem dX0_image_7 : decode cX0_image 7 = .ok (.getfield 69, 3) := dk_180 0 69 (dk_at dksX0_image_0 7 rfl rfl)
theorem dX0_image_10 : decode cX0_image 10 = .ok (.getfield 171, 3) := dk_180 0 171 (dk_at dksX0_image_0 10 rfl rfl)
theorem dX0_image_13 : decode cX0_image 13 = .ok (.bipush 8, 2) := dk_16 8 (dk_at dksX0_image_0 13 rfl rfl)
theorem dX0_image_15 : decode cX0_image 15 = .ok (.ishr, 1) := dk_122 (dk_at dksX0_image_0 15 rfl rfl)
theorem dX0_image_16 : decode cX0_image 16 = .ok (.invokevirtual 329, 3) := dk_182 1 73 (dk_at dksX0_image_0 16 rfl rfl)
theorem dX0_image_19 : decode cX0_image 19 = .ok (.aload_n 0, 1) := dk_42 (dk_at dksX0_image_0 19 rfl rfl)
theorem dX0_image_20 : decode cX0_image 20 = .ok (.aload_n 0, 1) := dk_42 (dk_at dksX0_image_0 20 rfl rfl)
theorem dX0_image_21 : decode cX0_image 21 = .ok (.getfield 69, 3) := dk_180 0 69 (dk_at dksX0_image_0 21 rfl rfl)
theorem dX0_image_24 : decode cX0_image 24 = .ok (.getfield 171, 3) := dk_180 0 171 (dk_at dksX0_image_1 0 rfl rfl)
theorem dX0_image_27 : decode cX0_image 27 = .ok (.invokevirtual 329, 3) := dk_182 1 73 (dk_at dksX0_image_1 3 rfl rfl)
theorem dX0_image_30 : decode cX0_image 30 = .ok (.iconst 0, 1) := dk_3 (dk_at dksX0_image_1 6 rfl rfl)
theorem dX0_image_31 : decode cX0_image 31 = .ok (.istore_n 1, 1) := dk_60 (dk_at dksX0_image_1 7 rfl rfl)
theorem dX0_image_32 : decode cX0_image 32 = .ok (.iload_n 1, 1) := dk_27 (dk_at dksX0_image_1 8 rfl rfl)
theorem dX0_image_33 : decode cX0_image 33 = .ok (.aload_n 0, 1) := dk_42 (dk_at dksX0_image_1 9 rfl rfl)
theorem dX0_image_34 : decode cX0_image 34 = .ok (.invokevirtual 158, 3) := dk_182 0 158 (dk_at dksX0_image_1 10 rfl rfl)
theorem dX0_image_37 : decode cX0_image 37 = .ok (.if_icmp .ge 92, 3) := dk_162 0 92 (dk_at dksX0_image_1 13 rfl rfl)
theorem dX0_image_40 : decode cX0_image 40 = .ok (.aload_n 0, 1) := dk_42 (dk_at dksX0_image_1 16 rfl rfl)
theorem dX0_image_41 : decode cX0_image 41 = .ok (.aload_n 0, 1) := dk_42 (dk_at dksX0_image_1 17 rfl rfl)
theorem dX0_image_42 : decode cX0_image 42 = .ok (.getfield 69, 3) := dk_180 0 69 (dk_at dksX0_image_1 18 rfl rfl)
theorem dX0_image_45 : decode cX0_image 45 = .ok (.getfield 207, 3) := dk_180 0 207 (dk_at dksX0_image_1 21 rfl rfl)
theorem dX0_image_48 : decode cX0_image 48 = .ok (.iload_n 1, 1) := dk_27 (dk_at dksX0_image_2 0 rfl rfl)
theorem dX0_image_49 : decode cX0_image 49 = .ok (.iaload, 1) := dk_46 (dk_at dksX0_image_2 1 rfl rfl)
theorem dX0_image_50 : decode cX0_image 50 = .ok (.invokevirtual 329, 3) := dk_182 1 73 (dk_at dksX0_image_2 2 rfl rfl)
theorem dX0_image_53 : decode cX0_image 53 = .ok (.aload_n 0, 1) := dk_42 (dk_at dksX0_image_2 5 rfl rfl)
theorem dX0_image_54 : decode cX0_image 54 = .ok (.aload_n 0, 1) := dk_42 (dk_at dksX0_image_2 6 rfl rfl)
theorem dX0_image_55 : decode cX0_image 55 = .ok (.getfield 69, 3) := dk_180 0 69 (dk_at dksX0_image_2 7 rfl rfl)
theorem dX0_image_58 : decode cX0_image 58 = .ok (.getfield 174, 3) := dk_180 0 174 (dk_at dksX0_image_2 10 rfl rfl)
theorem dX0_image_61 : decode cX0_image 61 = .ok (.iload_n 1, 1) := dk_27 (dk_at dksX0_image_2 13 rfl rfl)
theorem dX0_image_62 : decode cX0_image 62 = .ok (.iaload, 1) := dk_46 (dk_at dksX0_image_2 14 rfl rfl)
theorem dX0_image_63 : decode cX0_image 63 = .ok (.invokevirtual 329, 3) := dk_182 1 73 (dk_at dksX0_image_2 15 rfl rfl)
theorem dX0_image_66 : decode cX0_image 66 = .ok (.aload_n 0, 1) := dk_42 (dk_at dksX0_image_2 18 rfl rfl)
theorem dX0_image_67 : decode cX0_image 67 = .ok (.aload_n 0, 1) := dk_42 (dk_at dksX0_image_2 19 rfl rfl)
theorem dX0_image_68 : decode cX0_image 68 = .ok (.getfield 69, 3) := dk_180 0 69 (dk_at dksX0_image_2 20 rfl rfl)
theorem dX0_image_71 : decode cX0_image 71 = .ok (.getfield 177, 3) := dk_180 0 177 (dk_at dksX0_image_3 0 rfl rfl)
theorem dX0_image_74 : decode cX0_image 74 = .ok (.iload_n 1, 1) := dk_27 (dk_at dksX0_image_3 3 rfl rfl)
theorem dX0_image_75 : decode cX0_image 75 = .ok (.baload, 1) := dk_51 (dk_at dksX0_image_3 4 rfl rfl)
theorem dX0_image_76 : decode cX0_image 76 = .ok (.ifCond .eq 7, 3) := dk_153 0 7 (dk_at dksX0_image_3 5 rfl rfl)
theorem dX0_image_79 : decode cX0_image 79 = .ok (.iconst 1, 1) := dk_4 (dk_at dksX0_image_3 8 rfl rfl)
theorem dX0_image_80 : decode cX0_image 80 = .ok (.goto 4, 3) := dk_167 0 4 (dk_at dksX0_image_3 9 rfl rfl)
theorem dX0_image_83 : decode cX0_image 83 = .ok (.iconst 0, 1) := dk_3 (dk_at dksX0_image_3 12 rfl rfl)
theorem dX0_image_84 : decode cX0_image 84 = .ok (.invokevirtual 329, 3) := dk_182 1 73 (dk_at dksX0_image_3 13 rfl rfl)
theorem dX0_image_87 : decode cX0_image 87 = .ok (.iconst 0, 1) := dk_3 (dk_at dksX0_image_3 16 rfl rfl)
theorem dX0_image_88 : decode cX0_image 88 = .ok (.istore_n 2, 1) := dk_61 (dk_at dksX0_image_3 17 rfl rfl)
theorem dX0_image_89 : decode cX0_image 89 = .ok (.iload_n 2, 1) := dk_28 (dk_at dksX0_image_3 18 rfl rfl)
theorem dX0_image_90 : decode cX0_image 90 = .ok (.aload_n 0, 1) := dk_42 (dk_at dksX0_image_3 19 rfl rfl)
theorem dX0_image_91 : decode cX0_image 91 = .ok (.invokevirtual 158, 3) := dk_182 0 158 (dk_at dksX0_image_3 20 rfl rfl)
theorem dX0_image_94 : decode cX0_image 94 = .ok (.if_icmp .ge 29, 3) := dk_162 0 29 (dk_at dksX0_image_4 0 rfl rfl)
theorem dX0_image_97 : decode cX0_image 97 = .ok (.iload_n 2, 1) := dk_28 (dk_at dksX0_image_4 3 rfl rfl)
theorem dX0_image_98 : decode cX0_image 98 = .ok (.iload_n 1, 1) := dk_27 (dk_at dksX0_image_4 4 rfl rfl)
theorem dX0_image_99 : decode cX0_image 99 = .ok (.if_icmp .eq 18, 3) := dk_159 0 18 (dk_at dksX0_image_4 5 rfl rfl)
theorem dX0_image_102 : decode cX0_image 102 = .ok (.aload_n 0, 1) := dk_42 (dk_at dksX0_image_4 8 rfl rfl)
theorem dX0_image_103 : decode cX0_image 103 = .ok (.aload_n 0, 1) := dk_42 (dk_at dksX0_image_4 9 rfl rfl)
theorem dX0_image_104 : decode cX0_image 104 = .ok (.getfield 69, 3) := dk_180 0 69 (dk_at dksX0_image_4 10 rfl rfl)
theorem dX0_image_107 : decode cX0_image 107 = .ok (.getfield 223, 3) := dk_180 0 223 (dk_at dksX0_image_4 13 rfl rfl)
theorem dX0_image_110 : decode cX0_image 110 = .ok (.iload_n 1, 1) := dk_27 (dk_at dksX0_image_4 16 rfl rfl)
theorem dX0_image_111 : decode cX0_image 111 = .ok (.aaload, 1) := dk_50 (dk_at dksX0_image_4 17 rfl rfl)
theorem dX0_image_112 : decode cX0_image 112 = .ok (.iload_n 2, 1) := dk_28 (dk_at dksX0_image_4 18 rfl rfl)
theorem dX0_image_113 : decode cX0_image 113 = .ok (.iaload, 1) := dk_46 (dk_at dksX0_image_4 19 rfl rfl)
theorem dX0_image_114 : decode cX0_image 114 = .ok (.invokevirtual 329, 3) := dk_182 1 73 (dk_at dksX0_image_4 20 rfl rfl)
theorem dX0_image_117 : decode cX0_image 117 = .ok (.iinc 2 1, 3) := dk_132 2 1 (dk_at dksX0_image_5 0 rfl rfl)
theorem dX0_image_120 : decode cX0_image 120 = .ok (.goto (-31), 3) := dk_167 255 225 (dk_at dksX0_image_5 3 rfl rfl)
theorem dX0_image_123 : decode cX0_image 123 = .ok (.iinc 1 1, 3) := dk_132 1 1 (dk_at dksX0_image_5 6 rfl rfl)
theorem dX0_image_126 : decode cX0_image 126 = .ok (.goto (-94), 3) := dk_167 255 162 (dk_at dksX0_image_5 9 rfl rfl)
theorem dX0_image_129 : decode cX0_image 129 = .ok (.aload_n 0, 1) := dk_42 (dk_at dksX0_image_5 12 rfl rfl)
theorem dX0_image_130 : decode cX0_image 130 = .ok (.aload_n 0, 1) := dk_42 (dk_at dksX0_image_5 13 rfl rfl)
theorem dX0_image_131 : decode cX0_image 131 = .ok (.getfield 101, 3) := dk_180 0 101 (dk_at dksX0_image_5 14 rfl rfl)
theorem dX0_image_134 : decode cX0_image 134 = .ok (.aload_n 0, 1) := dk_42 (dk_at dksX0_image_5 17 rfl rfl)
theorem dX0_image_135 : decode cX0_image 135 = .ok (.getfield 326, 3) := dk_180 1 70 (dk_at dksX0_image_5 18 rfl rfl)
theorem dX0_image_138 : decode cX0_image 138 = .ok (.invokestatic 332, 3) := dk_184 1 76 (dk_at dksX0_image_5 21 rfl rfl)
theorem dX0_image_141 : decode cX0_image 141 = .ok (.invokevirtual 329, 3) := dk_182 1 73 (dk_at dksX0_image_6 0 rfl rfl)
theorem dX0_image_144 : decode cX0_image 144 = .ok (.aload_n 0, 1) := dk_42 (dk_at dksX0_image_6 3 rfl rfl)
theorem dX0_image_145 : decode cX0_image 145 = .ok (.getfield 326, 3) := dk_180 1 70 (dk_at dksX0_image_6 4 rfl rfl)
theorem dX0_image_148 : decode cX0_image 148 = .ok (.ireturn, 1) := dk_172 (dk_at dksX0_image_6 7 rfl rfl)
abbrev cX0_writes : ByteArray := prog_1_method_57_code
def yX0_writes : MethodName := ⟨RX0, "writes", "(I)V"⟩
def dkwX0_writes_0 : List UInt8 := [42, 180, 0, 101, 42, 89, 180, 1, 70, 90, 4, 96, 181, 1, 70, 27, 145, 84, 177]
abbrev dktX0_writes_0 : List UInt8 := dkwX0_writes_0 ++ []
theorem dksX0_writes_0 : cX0_writes.data.toList.drop 0 = dktX0_writes_0 := by decide +kernel
theorem dX0_writes_0 : decode cX0_writes 0 = .ok (.aload_n 0, 1) := dk_42 (dk_at dksX0_writes_0 0 rfl rfl)
theorem dX0_writes_1 : decode cX0_writes 1 = .ok (.getfield 101, 3) := dk_180 0 101 (dk_at dksX0_writes_0 1 rfl rfl)
theorem dX0_writes_4 : decode cX0_writes 4 = .ok (.aload_n 0, 1) := dk_42 (dk_at dksX0_writes_0 4 rfl rfl)
theorem dX0_writes_5 : decode cX0_writes 5 = .ok (.dup, 1) := dk_89 (dk_at dksX0_writes_0 5 rfl rfl)
theorem dX0_writes_6 : decode cX0_writes 6 = .ok (.getfield 326, 3) := dk_180 1 70 (dk_at dksX0_writes_0 6 rfl rfl)
theorem dX0_writes_9 : decode cX0_writes 9 = .ok (.dup_x1, 1) := dk_90 (dk_at dksX0_writes_0 9 rfl rfl)
theorem dX0_writes_10 : decode cX0_writes 10 = .ok (.iconst 1, 1) := dk_4 (dk_at dksX0_writes_0 10 rfl rfl)
theorem dX0_writes_11 : decode cX0_writes 11 = .ok (.iadd, 1) := dk_96 (dk_at dksX0_writes_0 11 rfl rfl)
theorem dX0_writes_12 : decode cX0_writes 12 = .ok (.putfield 326, 3) := dk_181 1 70 (dk_at dksX0_writes_0 12 rfl rfl)
theorem dX0_writes_15 : decode cX0_writes 15 = .ok (.iload_n 1, 1) := dk_27 (dk_at dksX0_writes_0 15 rfl rfl)
theorem dX0_writes_16 : decode cX0_writes 16 = .ok (.i2b, 1) := dk_145 (dk_at dksX0_writes_0 16 rfl rfl)
theorem dX0_writes_17 : decode cX0_writes 17 = .ok (.bastore, 1) := dk_84 (dk_at dksX0_writes_0 17 rfl rfl)
theorem dX0_writes_18 : decode cX0_writes 18 = .ok (.return_, 1) := dk_177 (dk_at dksX0_writes_0 18 rfl rfl)
abbrev cX0_check : ByteArray := prog_1_method_58_code
def yX0_check : MethodName := ⟨RX0, "check", "([BI)I"⟩
def dkwX0_check_1 : List UInt8 := [17, 0, 251, 112, 61, 132, 3, 1, 167, 255, 232, 28, 172]
abbrev dktX0_check_1 : List UInt8 := dkwX0_check_1 ++ []
def dkwX0_check_0 : List UInt8 := [17, 0, 149, 61, 3, 62, 29, 27, 162, 0, 25, 6, 28, 104, 42, 29, 51, 17, 0, 255, 126, 96]
abbrev dktX0_check_0 : List UInt8 := dkwX0_check_0 ++ dktX0_check_1
theorem dksX0_check_0 : cX0_check.data.toList.drop 0 = dktX0_check_0 := by decide +kernel
theorem dksX0_check_1 : cX0_check.data.toList.drop 22 = dktX0_check_1 := dk_seg dksX0_check_0 22 rfl rfl
theorem dX0_check_0 : decode cX0_check 0 = .ok (.sipush 149, 3) := dk_17 0 149 (dk_at dksX0_check_0 0 rfl rfl)
theorem dX0_check_3 : decode cX0_check 3 = .ok (.istore_n 2, 1) := dk_61 (dk_at dksX0_check_0 3 rfl rfl)
theorem dX0_check_4 : decode cX0_check 4 = .ok (.iconst 0, 1) := dk_3 (dk_at dksX0_check_0 4 rfl rfl)
theorem dX0_check_5 : decode cX0_check 5 = .ok (.istore_n 3, 1) := dk_62 (dk_at dksX0_check_0 5 rfl rfl)
theorem dX0_check_6 : decode cX0_check 6 = .ok (.iload_n 3, 1) := dk_29 (dk_at dksX0_check_0 6 rfl rfl)
theorem dX0_check_7 : decode cX0_check 7 = .ok (.iload_n 1, 1) := dk_27 (dk_at dksX0_check_0 7 rfl rfl)
theorem dX0_check_8 : decode cX0_check 8 = .ok (.if_icmp .ge 25, 3) := dk_162 0 25 (dk_at dksX0_check_0 8 rfl rfl)
theorem dX0_check_11 : decode cX0_check 11 = .ok (.iconst 3, 1) := dk_6 (dk_at dksX0_check_0 11 rfl rfl)
theorem dX0_check_12 : decode cX0_check 12 = .ok (.iload_n 2, 1) := dk_28 (dk_at dksX0_check_0 12 rfl rfl)
theorem dX0_check_13 : decode cX0_check 13 = .ok (.imul, 1) := dk_104 (dk_at dksX0_check_0 13 rfl rfl)
theorem dX0_check_14 : decode cX0_check 14 = .ok (.aload_n 0, 1) := dk_42 (dk_at dksX0_check_0 14 rfl rfl)
theorem dX0_check_15 : decode cX0_check 15 = .ok (.iload_n 3, 1) := dk_29 (dk_at dksX0_check_0 15 rfl rfl)
theorem dX0_check_16 : decode cX0_check 16 = .ok (.baload, 1) := dk_51 (dk_at dksX0_check_0 16 rfl rfl)
theorem dX0_check_17 : decode cX0_check 17 = .ok (.sipush 255, 3) := dk_17 0 255 (dk_at dksX0_check_0 17 rfl rfl)
theorem dX0_check_20 : decode cX0_check 20 = .ok (.iand, 1) := dk_126 (dk_at dksX0_check_0 20 rfl rfl)
theorem dX0_check_21 : decode cX0_check 21 = .ok (.iadd, 1) := dk_96 (dk_at dksX0_check_0 21 rfl rfl)
theorem dX0_check_22 : decode cX0_check 22 = .ok (.sipush 251, 3) := dk_17 0 251 (dk_at dksX0_check_1 0 rfl rfl)
theorem dX0_check_25 : decode cX0_check 25 = .ok (.irem, 1) := dk_112 (dk_at dksX0_check_1 3 rfl rfl)
theorem dX0_check_26 : decode cX0_check 26 = .ok (.istore_n 2, 1) := dk_61 (dk_at dksX0_check_1 4 rfl rfl)
theorem dX0_check_27 : decode cX0_check 27 = .ok (.iinc 3 1, 3) := dk_132 3 1 (dk_at dksX0_check_1 5 rfl rfl)
theorem dX0_check_30 : decode cX0_check 30 = .ok (.goto (-24), 3) := dk_167 255 232 (dk_at dksX0_check_1 8 rfl rfl)
theorem dX0_check_33 : decode cX0_check 33 = .ok (.iload_n 2, 1) := dk_28 (dk_at dksX0_check_1 11 rfl rfl)
theorem dX0_check_34 : decode cX0_check 34 = .ok (.ireturn, 1) := dk_172 (dk_at dksX0_check_1 12 rfl rfl)
abbrev cX0_octet : ByteArray := prog_1_method_60_code
def yX0_octet : MethodName := ⟨RX0, "octet", "(I)I"⟩
def dkwX0_octet_1 : List UInt8 := [17, 0, 255, 126, 172]
abbrev dktX0_octet_1 : List UInt8 := dkwX0_octet_1 ++ []
def dkwX0_octet_0 : List UInt8 := [27, 155, 0, 11, 27, 42, 180, 1, 70, 161, 0, 7, 2, 167, 0, 13, 42, 180, 0, 101, 27, 51]
abbrev dktX0_octet_0 : List UInt8 := dkwX0_octet_0 ++ dktX0_octet_1
theorem dksX0_octet_0 : cX0_octet.data.toList.drop 0 = dktX0_octet_0 := by decide +kernel
theorem dksX0_octet_1 : cX0_octet.data.toList.drop 22 = dktX0_octet_1 := dk_seg dksX0_octet_0 22 rfl rfl
theorem dX0_octet_0 : decode cX0_octet 0 = .ok (.iload_n 1, 1) := dk_27 (dk_at dksX0_octet_0 0 rfl rfl)
theorem dX0_octet_1 : decode cX0_octet 1 = .ok (.ifCond .lt 11, 3) := dk_155 0 11 (dk_at dksX0_octet_0 1 rfl rfl)
theorem dX0_octet_4 : decode cX0_octet 4 = .ok (.iload_n 1, 1) := dk_27 (dk_at dksX0_octet_0 4 rfl rfl)
theorem dX0_octet_5 : decode cX0_octet 5 = .ok (.aload_n 0, 1) := dk_42 (dk_at dksX0_octet_0 5 rfl rfl)
theorem dX0_octet_6 : decode cX0_octet 6 = .ok (.getfield 326, 3) := dk_180 1 70 (dk_at dksX0_octet_0 6 rfl rfl)
theorem dX0_octet_9 : decode cX0_octet 9 = .ok (.if_icmp .lt 7, 3) := dk_161 0 7 (dk_at dksX0_octet_0 9 rfl rfl)
theorem dX0_octet_12 : decode cX0_octet 12 = .ok (.iconst (-1), 1) := dk_2 (dk_at dksX0_octet_0 12 rfl rfl)
theorem dX0_octet_13 : decode cX0_octet 13 = .ok (.goto 13, 3) := dk_167 0 13 (dk_at dksX0_octet_0 13 rfl rfl)
theorem dX0_octet_16 : decode cX0_octet 16 = .ok (.aload_n 0, 1) := dk_42 (dk_at dksX0_octet_0 16 rfl rfl)
theorem dX0_octet_17 : decode cX0_octet 17 = .ok (.getfield 101, 3) := dk_180 0 101 (dk_at dksX0_octet_0 17 rfl rfl)
theorem dX0_octet_20 : decode cX0_octet 20 = .ok (.iload_n 1, 1) := dk_27 (dk_at dksX0_octet_0 20 rfl rfl)
theorem dX0_octet_21 : decode cX0_octet 21 = .ok (.baload, 1) := dk_51 (dk_at dksX0_octet_0 21 rfl rfl)
theorem dX0_octet_22 : decode cX0_octet 22 = .ok (.sipush 255, 3) := dk_17 0 255 (dk_at dksX0_octet_1 0 rfl rfl)
theorem dX0_octet_25 : decode cX0_octet 25 = .ok (.iand, 1) := dk_126 (dk_at dksX0_octet_1 3 rfl rfl)
theorem dX0_octet_26 : decode cX0_octet 26 = .ok (.ireturn, 1) := dk_172 (dk_at dksX0_octet_1 4 rfl rfl)
abbrev cX0_on : ByteArray := prog_1_method_63_code
def yX0_on : MethodName := ⟨RX0, "on", "()Z"⟩
def dkwX0_on_1 : List UInt8 := [172, 42, 180, 0, 69, 42, 180, 0, 73, 182, 0, 239, 87, 42, 3, 181, 0, 137, 4, 172]
abbrev dktX0_on_1 : List UInt8 := dkwX0_on_1 ++ []
def dkwX0_on_0 : List UInt8 := [42, 42, 182, 0, 118, 182, 1, 83, 154, 0, 17, 42, 8, 182, 0, 107, 155, 0, 7, 4, 167, 0, 4, 3]
abbrev dktX0_on_0 : List UInt8 := dkwX0_on_0 ++ dktX0_on_1
theorem dksX0_on_0 : cX0_on.data.toList.drop 0 = dktX0_on_0 := by decide +kernel
theorem dksX0_on_1 : cX0_on.data.toList.drop 24 = dktX0_on_1 := dk_seg dksX0_on_0 24 rfl rfl
theorem dX0_on_0 : decode cX0_on 0 = .ok (.aload_n 0, 1) := dk_42 (dk_at dksX0_on_0 0 rfl rfl)
theorem dX0_on_1 : decode cX0_on 1 = .ok (.aload_n 0, 1) := dk_42 (dk_at dksX0_on_0 1 rfl rfl)
theorem dX0_on_2 : decode cX0_on 2 = .ok (.invokevirtual 118, 3) := dk_182 0 118 (dk_at dksX0_on_0 2 rfl rfl)
theorem dX0_on_5 : decode cX0_on 5 = .ok (.invokevirtual 339, 3) := dk_182 1 83 (dk_at dksX0_on_0 5 rfl rfl)
theorem dX0_on_8 : decode cX0_on 8 = .ok (.ifCond .ne 17, 3) := dk_154 0 17 (dk_at dksX0_on_0 8 rfl rfl)
theorem dX0_on_11 : decode cX0_on 11 = .ok (.aload_n 0, 1) := dk_42 (dk_at dksX0_on_0 11 rfl rfl)
theorem dX0_on_12 : decode cX0_on 12 = .ok (.iconst 5, 1) := dk_8 (dk_at dksX0_on_0 12 rfl rfl)
theorem dX0_on_13 : decode cX0_on 13 = .ok (.invokevirtual 107, 3) := dk_182 0 107 (dk_at dksX0_on_0 13 rfl rfl)
theorem dX0_on_16 : decode cX0_on 16 = .ok (.ifCond .lt 7, 3) := dk_155 0 7 (dk_at dksX0_on_0 16 rfl rfl)
theorem dX0_on_19 : decode cX0_on 19 = .ok (.iconst 1, 1) := dk_4 (dk_at dksX0_on_0 19 rfl rfl)
theorem dX0_on_20 : decode cX0_on 20 = .ok (.goto 4, 3) := dk_167 0 4 (dk_at dksX0_on_0 20 rfl rfl)
theorem dX0_on_23 : decode cX0_on 23 = .ok (.iconst 0, 1) := dk_3 (dk_at dksX0_on_0 23 rfl rfl)
theorem dX0_on_24 : decode cX0_on 24 = .ok (.ireturn, 1) := dk_172 (dk_at dksX0_on_1 0 rfl rfl)
theorem dX0_on_25 : decode cX0_on 25 = .ok (.aload_n 0, 1) := dk_42 (dk_at dksX0_on_1 1 rfl rfl)
theorem dX0_on_26 : decode cX0_on 26 = .ok (.getfield 69, 3) := dk_180 0 69 (dk_at dksX0_on_1 2 rfl rfl)
theorem dX0_on_29 : decode cX0_on 29 = .ok (.aload_n 0, 1) := dk_42 (dk_at dksX0_on_1 5 rfl rfl)
theorem dX0_on_30 : decode cX0_on 30 = .ok (.getfield 73, 3) := dk_180 0 73 (dk_at dksX0_on_1 6 rfl rfl)
theorem dX0_on_33 : decode cX0_on 33 = .ok (.invokevirtual 239, 3) := dk_182 0 239 (dk_at dksX0_on_1 9 rfl rfl)
theorem dX0_on_36 : decode cX0_on 36 = .ok (.pop, 1) := dk_87 (dk_at dksX0_on_1 12 rfl rfl)
theorem dX0_on_37 : decode cX0_on 37 = .ok (.aload_n 0, 1) := dk_42 (dk_at dksX0_on_1 13 rfl rfl)
theorem dX0_on_38 : decode cX0_on 38 = .ok (.iconst 0, 1) := dk_3 (dk_at dksX0_on_1 14 rfl rfl)
theorem dX0_on_39 : decode cX0_on 39 = .ok (.putfield 137, 3) := dk_181 0 137 (dk_at dksX0_on_1 15 rfl rfl)
theorem dX0_on_42 : decode cX0_on 42 = .ok (.iconst 1, 1) := dk_4 (dk_at dksX0_on_1 18 rfl rfl)
theorem dX0_on_43 : decode cX0_on 43 = .ok (.ireturn, 1) := dk_172 (dk_at dksX0_on_1 19 rfl rfl)
abbrev cX0_comesOn : ByteArray := prog_1_method_62_code
def yX0_comesOn : MethodName := ⟨RX0, "comesOn", "(I)Z"⟩
def dkwX0_comesOn_5 : List UInt8 := [154, 0, 5, 3, 172, 132, 4, 1, 167, 255, 227, 4, 172]
abbrev dktX0_comesOn_5 : List UInt8 := dkwX0_comesOn_5 ++ []
def dkwX0_comesOn_4 : List UInt8 := [3, 54, 4, 21, 4, 42, 182, 0, 158, 162, 0, 26, 42, 21, 4, 5, 28, 21, 4, 104, 96, 182, 1, 80]
abbrev dktX0_comesOn_4 : List UInt8 := dkwX0_comesOn_4 ++ dktX0_comesOn_5
def dkwX0_comesOn_3 : List UInt8 := [172, 42, 180, 0, 73, 42, 180, 0, 69, 182, 0, 239, 29, 181, 0, 171, 42, 180, 0, 73, 3, 181, 0, 187]
abbrev dktX0_comesOn_3 : List UInt8 := dkwX0_comesOn_3 ++ dktX0_comesOn_4
def dkwX0_comesOn_2 : List UInt8 := [182, 1, 19, 42, 180, 0, 35, 27, 4, 100, 184, 1, 76, 160, 0, 10, 29, 17, 3, 231, 164, 0, 5, 3]
abbrev dktX0_comesOn_2 : List UInt8 := dkwX0_comesOn_2 ++ dktX0_comesOn_3
def dkwX0_comesOn_1 : List UInt8 := [182, 0, 232, 153, 0, 42, 27, 6, 28, 42, 182, 0, 158, 104, 96, 160, 0, 30, 42, 27, 4, 100]
abbrev dktX0_comesOn_1 : List UInt8 := dkwX0_comesOn_1 ++ dktX0_comesOn_2
def dkwX0_comesOn_0 : List UInt8 := [5, 42, 182, 0, 158, 96, 61, 42, 3, 182, 1, 19, 16, 8, 120, 42, 4, 182, 1, 19, 128, 62, 42]
abbrev dktX0_comesOn_0 : List UInt8 := dkwX0_comesOn_0 ++ dktX0_comesOn_1
theorem dksX0_comesOn_0 : cX0_comesOn.data.toList.drop 0 = dktX0_comesOn_0 := by decide +kernel
theorem dksX0_comesOn_1 : cX0_comesOn.data.toList.drop 23 = dktX0_comesOn_1 := dk_seg dksX0_comesOn_0 23 rfl rfl
theorem dksX0_comesOn_2 : cX0_comesOn.data.toList.drop 45 = dktX0_comesOn_2 := dk_seg dksX0_comesOn_1 22 rfl rfl
theorem dksX0_comesOn_3 : cX0_comesOn.data.toList.drop 69 = dktX0_comesOn_3 := dk_seg dksX0_comesOn_2 24 rfl rfl
theorem dksX0_comesOn_4 : cX0_comesOn.data.toList.drop 93 = dktX0_comesOn_4 := dk_seg dksX0_comesOn_3 24 rfl rfl
theorem dksX0_comesOn_5 : cX0_comesOn.data.toList.drop 117 = dktX0_comesOn_5 := dk_seg dksX0_comesOn_4 24 rfl rfl
theorem dX0_comesOn_0 : decode cX0_comesOn 0 = .ok (.iconst 2, 1) := dk_5 (dk_at dksX0_comesOn_0 0 rfl rfl)
theorem dX0_comesOn_1 : decode cX0_comesOn 1 = .ok (.aload_n 0, 1) := dk_42 (dk_at dksX0_comesOn_0 1 rfl rfl)
theorem dX0_comesOn_2 : decode cX0_comesOn 2 = .ok (.invokevirtual 158, 3) := dk_182 0 158 (dk_at dksX0_comesOn_0 2 rfl rfl)
theorem dX0_comesOn_5 : decode cX0_comesOn 5 = .ok (.iadd, 1) := dk_96 (dk_at dksX0_comesOn_0 5 rfl rfl)
theorem dX0_comesOn_6 : decode cX0_comesOn 6 = .ok (.istore_n 2, 1) := dk_61 (dk_at dksX0_comesOn_0 6 rfl rfl)
theorem dX0_comesOn_7 : decode cX0_comesOn 7 = .ok (.aload_n 0, 1) := dk_42 (dk_at dksX0_comesOn_0 7 rfl rfl)
theorem dX0_comesOn_8 : decode cX0_comesOn 8 = .ok (.iconst 0, 1) := dk_3 (dk_at dksX0_comesOn_0 8 rfl rfl)
theorem dX0_comesOn_9 : decode cX0_comesOn 9 = .ok (.invokevirtual 275, 3) := dk_182 1 19 (dk_at dksX0_comesOn_0 9 rfl rfl)
theorem dX0_comesOn_12 : decode cX0_comesOn 12 = .ok (.bipush 8, 2) := dk_16 8 (dk_at dksX0_comesOn_0 12 rfl rfl)
theorem dX0_comesOn_14 : decode cX0_comesOn 14 = .ok (.ishl, 1) := dk_120 (dk_at dksX0_comesOn_0 14 rfl rfl)
theorem dX0_comesOn_15 : decode cX0_comesOn 15 = .ok (.aload_n 0, 1) := dk_42 (dk_at dksX0_comesOn_0 15 rfl rfl)
theorem dX0_comesOn_16 : decode cX0_comesOn 16 = .ok (.iconst 1, 1) := dk_4 (dk_at dksX0_comesOn_0 16 rfl rfl)
theorem dX0_comesOn_17 : decode cX0_comesOn 17 = .ok (.invokevirtual 275, 3) := dk_182 1 19 (dk_at dksX0_comesOn_0 17 rfl rfl)
theorem dX0_comesOn_20 : decode cX0_comesOn 20 = .ok (.ior, 1) := dk_128 (dk_at dksX0_comesOn_0 20 rfl rfl)
theorem dX0_comesOn_21 : decode cX0_comesOn 21 = .ok (.istore_n 3, 1) := dk_62 (dk_at dksX0_comesOn_0 21 rfl rfl)
theorem dX0_comesOn_22 : decode cX0_comesOn 22 = .ok (.aload_n 0, 1) := dk_42 (dk_at dksX0_comesOn_0 22 rfl rfl)
theorem dX0_comesOn_23 : decode cX0_comesOn 23 = .ok (.invokevirtual 232, 3) := dk_182 0 232 (dk_at dksX0_comesOn_1 0 rfl rfl)
theorem dX0_comesOn_26 : decode cX0_comesOn 26 = .ok (.ifCond .eq 42, 3) := dk_153 0 42 (dk_at dksX0_comesOn_1 3 rfl rfl)
theorem dX0_comesOn_29 : decode cX0_comesOn 29 = .ok (.iload_n 1, 1) := dk_27 (dk_at dksX0_comesOn_1 6 rfl rfl)
theorem dX0_comesOn_30 : decode cX0_comesOn 30 = .ok (.iconst 3, 1) := dk_6 (dk_at dksX0_comesOn_1 7 rfl rfl)
theorem dX0_comesOn_31 : decode cX0_comesOn 31 = .ok (.iload_n 2, 1) := dk_28 (dk_at dksX0_comesOn_1 8 rfl rfl)
theorem dX0_comesOn_32 : decode cX0_comesOn 32 = .ok (.aload_n 0, 1) := dk_42 (dk_at dksX0_comesOn_1 9 rfl rfl)
theorem dX0_comesOn_33 : decode cX0_comesOn 33 = .ok (.invokevirtual 158, 3) := dk_182 0 158 (dk_at dksX0_comesOn_1 10 rfl rfl)
theorem dX0_comesOn_36 : decode cX0_comesOn 36 = .ok (.imul, 1) := dk_104 (dk_at dksX0_comesOn_1 13 rfl rfl)
theorem dX0_comesOn_37 : decode cX0_comesOn 37 = .ok (.iadd, 1) := dk_96 (dk_at dksX0_comesOn_1 14 rfl rfl)
theorem dX0_comesOn_38 : decode cX0_comesOn 38 = .ok (.if_icmp .ne 30, 3) := dk_160 0 30 (dk_at dksX0_comesOn_1 15 rfl rfl)
theorem dX0_comesOn_41 : decode cX0_comesOn 41 = .ok (.aload_n 0, 1) := dk_42 (dk_at dksX0_comesOn_1 18 rfl rfl)
theorem dX0_comesOn_42 : decode cX0_comesOn 42 = .ok (.iload_n 1, 1) := dk_27 (dk_at dksX0_comesOn_1 19 rfl rfl)
theorem dX0_comesOn_43 : decode cX0_comesOn 43 = .ok (.iconst 1, 1) := dk_4 (dk_at dksX0_comesOn_1 20 rfl rfl)
theorem dX0_comesOn_44 : decode cX0_comesOn 44 = .ok (.isub, 1) := dk_100 (dk_at dksX0_comesOn_1 21 rfl rfl)
theorem dX0_comesOn_45 : decode cX0_comesOn 45 = .ok (.invokevirtual 275, 3) := dk_182 1 19 (dk_at dksX0_comesOn_2 0 rfl rfl)
theorem dX0_comesOn_48 : decode cX0_comesOn 48 = .ok (.aload_n 0, 1) := dk_42 (dk_at dksX0_comesOn_2 3 rfl rfl)
theorem dX0_comesOn_49 : decode cX0_comesOn 49 = .ok (.getfield 35, 3) := dk_180 0 35 (dk_at dksX0_comesOn_2 4 rfl rfl)
theorem dX0_comesOn_52 : decode cX0_comesOn 52 = .ok (.iload_n 1, 1) := dk_27 (dk_at dksX0_comesOn_2 7 rfl rfl)
theorem dX0_comesOn_53 : decode cX0_comesOn 53 = .ok (.iconst 1, 1) := dk_4 (dk_at dksX0_comesOn_2 8 rfl rfl)
theorem dX0_comesOn_54 : decode cX0_comesOn 54 = .ok (.isub, 1) := dk_100 (dk_at dksX0_comesOn_2 9 rfl rfl)
theorem dX0_comesOn_55 : decode cX0_comesOn 55 = .ok (.invokestatic 332, 3) := dk_184 1 76 (dk_at dksX0_comesOn_2 10 rfl rfl)
theorem dX0_comesOn_58 : decode cX0_comesOn 58 = .ok (.if_icmp .ne 10, 3) := dk_160 0 10 (dk_at dksX0_comesOn_2 13 rfl rfl)
theorem dX0_comesOn_61 : decode cX0_comesOn 61 = .ok (.iload_n 3, 1) := dk_29 (dk_at dksX0_comesOn_2 16 rfl rfl)
theorem dX0_comesOn_62 : decode cX0_comesOn 62 = .ok (.sipush 999, 3) := dk_17 3 231 (dk_at dksX0_comesOn_2 17 rfl rfl)
theorem dX0_comesOn_65 : decode cX0_comesOn 65 = .ok (.if_icmp .le 5, 3) := dk_164 0 5 (dk_at dksX0_comesOn_2 20 rfl rfl)
theorem dX0_comesOn_68 : decode cX0_comesOn 68 = .ok (.iconst 0, 1) := dk_3 (dk_at dksX0_comesOn_2 23 rfl rfl)
theorem dX0_comesOn_69 : decode cX0_comesOn 69 = .ok (.ireturn, 1) := dk_172 (dk_at dksX0_comesOn_3 0 rfl rfl)
theorem dX0_comesOn_70 : decode cX0_comesOn 70 = .ok (.aload_n 0, 1) := dk_42 (dk_at dksX0_comesOn_3 1 rfl rfl)
theorem dX0_comesOn_71 : decode cX0_comesOn 71 = .ok (.getfield 73, 3) := dk_180 0 73 (dk_at dksX0_comesOn_3 2 rfl rfl)
theorem dX0_comesOn_74 : decode cX0_comesOn 74 = .ok (.aload_n 0, 1) := dk_42 (dk_at dksX0_comesOn_3 5 rfl rfl)
theorem dX0_comesOn_75 : decode cX0_comesOn 75 = .ok (.getfield 69, 3) := dk_180 0 69 (dk_at dksX0_comesOn_3 6 rfl rfl)
theorem dX0_comesOn_78 : decode cX0_comesOn 78 = .ok (.invokevirtual 239, 3) := dk_182 0 239 (dk_at dksX0_comesOn_3 9 rfl rfl)
theorem dX0_comesOn_81 : decode cX0_comesOn 81 = .ok (.iload_n 3, 1) := dk_29 (dk_at dksX0_comesOn_3 12 rfl rfl)
theorem dX0_comesOn_82 : decode cX0_comesOn 82 = .ok (.putfield 171, 3) := dk_181 0 171 (dk_at dksX0_comesOn_3 13 rfl rfl)
theorem dX0_comesOn_85 : decode cX0_comesOn 85 = .ok (.aload_n 0, 1) := dk_42 (dk_at dksX0_comesOn_3 16 rfl rfl)
theorem dX0_comesOn_86 : decode cX0_comesOn 86 = .ok (.getfield 73, 3) := dk_180 0 73 (dk_at dksX0_comesOn_3 17 rfl rfl)
theorem dX0_comesOn_89 : decode cX0_comesOn 89 = .ok (.iconst 0, 1) := dk_3 (dk_at dksX0_comesOn_3 20 rfl rfl)
theorem dX0_comesOn_90 : decode cX0_comesOn 90 = .ok (.putfield 187, 3) := dk_181 0 187 (dk_at dksX0_comesOn_3 21 rfl rfl)
theorem dX0_comesOn_93 : decode cX0_comesOn 93 = .ok (.iconst 0, 1) := dk_3 (dk_at dksX0_comesOn_4 0 rfl rfl)
theorem dX0_comesOn_94 : decode cX0_comesOn 94 = .ok (.istore 4, 2) := dk_54 4 (dk_at dksX0_comesOn_4 1 rfl rfl)
theorem dX0_comesOn_96 : decode cX0_comesOn 96 = .ok (.iload 4, 2) := dk_21 4 (dk_at dksX0_comesOn_4 3 rfl rfl)
theorem dX0_comesOn_98 : decode cX0_comesOn 98 = .ok (.aload_n 0, 1) := dk_42 (dk_at dksX0_comesOn_4 5 rfl rfl)
theorem dX0_comesOn_99 : decode cX0_comesOn 99 = .ok (.invokevirtual 158, 3) := dk_182 0 158 (dk_at dksX0_comesOn_4 6 rfl rfl)
theorem dX0_comesOn_102 : decode cX0_comesOn 102 = .ok (.if_icmp .ge 26, 3) := dk_162 0 26 (dk_at dksX0_comesOn_4 9 rfl rfl)
theorem dX0_comesOn_105 : decode cX0_comesOn 105 = .ok (.aload_n 0, 1) := dk_42 (dk_at dksX0_comesOn_4 12 rfl rfl)
theorem dX0_comesOn_106 : decode cX0_comesOn 106 = .ok (.iload 4, 2) := dk_21 4 (dk_at dksX0_comesOn_4 13 rfl rfl)
theorem dX0_comesOn_108 : decode cX0_comesOn 108 = .ok (.iconst 2, 1) := dk_5 (dk_at dksX0_comesOn_4 15 rfl rfl)
theorem dX0_comesOn_109 : decode cX0_comesOn 109 = .ok (.iload_n 2, 1) := dk_28 (dk_at dksX0_comesOn_4 16 rfl rfl)
theorem dX0_comesOn_110 : decode cX0_comesOn 110 = .ok (.iload 4, 2) := dk_21 4 (dk_at dksX0_comesOn_4 17 rfl rfl)
theorem dX0_comesOn_112 : decode cX0_comesOn 112 = .ok (.imul, 1) := dk_104 (dk_at dksX0_comesOn_4 19 rfl rfl)
theorem dX0_comesOn_113 : decode cX0_comesOn 113 = .ok (.iadd, 1) := dk_96 (dk_at dksX0_comesOn_4 20 rfl rfl)
theorem dX0_comesOn_114 : decode cX0_comesOn 114 = .ok (.invokevirtual 336, 3) := dk_182 1 80 (dk_at dksX0_comesOn_4 21 rfl rfl)
theorem dX0_comesOn_117 : decode cX0_comesOn 117 = .ok (.ifCond .ne 5, 3) := dk_154 0 5 (dk_at dksX0_comesOn_5 0 rfl rfl)
theorem dX0_comesOn_120 : decode cX0_comesOn 120 = .ok (.iconst 0, 1) := dk_3 (dk_at dksX0_comesOn_5 3 rfl rfl)
theorem dX0_comesOn_121 : decode cX0_comesOn 121 = .ok (.ireturn, 1) := dk_172 (dk_at dksX0_comesOn_5 4 rfl rfl)
theorem dX0_comesOn_122 : decode cX0_comesOn 122 = .ok (.iinc 4 1, 3) := dk_132 4 1 (dk_at dksX0_comesOn_5 5 rfl rfl)
theorem dX0_comesOn_125 : decode cX0_comesOn 125 = .ok (.goto (-29), 3) := dk_167 255 227 (dk_at dksX0_comesOn_5 8 rfl rfl)
theorem dX0_comesOn_128 : decode cX0_comesOn 128 = .ok (.iconst 1, 1) := dk_4 (dk_at dksX0_comesOn_5 11 rfl rfl)
theorem dX0_comesOn_129 : decode cX0_comesOn 129 = .ok (.ireturn, 1) := dk_172 (dk_at dksX0_comesOn_5 12 rfl rfl)
abbrev cX0_personOn : ByteArray := prog_1_method_61_code
def yX0_personOn : MethodName := ⟨RX0, "personOn", "(II)Z"⟩
def dkwX0_personOn_7 : List UInt8 := [42, 29, 182, 1, 19, 16, 9, 164, 0, 5, 3, 172, 132, 3, 1, 132, 4, 1, 167, 255, 203, 4, 172]
abbrev dktX0_personOn_7 : List UInt8 := dkwX0_personOn_7 ++ []
def dkwX0_personOn_6 : List UInt8 := [27, 160, 0, 6, 167, 0, 35, 42, 180, 0, 73, 180, 0, 223, 27, 50, 21, 4, 42, 29, 182, 1, 19, 79]
abbrev dktX0_personOn_6 : List UInt8 := dkwX0_personOn_6 ++ dktX0_personOn_7
def dkwX0_personOn_5 : List UInt8 := [4, 167, 0, 4, 3, 84, 28, 6, 96, 62, 3, 54, 4, 21, 4, 42, 182, 0, 158, 162, 0, 50, 21, 4]
abbrev dktX0_personOn_5 : List UInt8 := dkwX0_personOn_5 ++ dktX0_personOn_6
def dkwX0_personOn_4 : List UInt8 := [96, 182, 1, 19, 79, 42, 180, 0, 73, 180, 0, 177, 27, 42, 28, 5, 96, 182, 1, 19, 4, 160, 0, 7]
abbrev dktX0_personOn_4 : List UInt8 := dkwX0_personOn_4 ++ dktX0_personOn_5
def dkwX0_personOn_3 : List UInt8 := [180, 0, 73, 180, 0, 207, 27, 42, 28, 182, 1, 19, 79, 42, 180, 0, 73, 180, 0, 174, 27, 42, 28, 4]
abbrev dktX0_personOn_3 : List UInt8 := dkwX0_personOn_3 ++ dktX0_personOn_4
def dkwX0_personOn_2 : List UInt8 := [180, 0, 207, 29, 46, 42, 28, 182, 1, 19, 160, 0, 5, 3, 172, 132, 3, 1, 167, 255, 229, 42]
abbrev dktX0_personOn_2 : List UInt8 := dkwX0_personOn_2 ++ dktX0_personOn_3
def dkwX0_personOn_1 : List UInt8 := [42, 28, 5, 96, 182, 1, 19, 4, 164, 0, 5, 3, 172, 3, 62, 29, 27, 162, 0, 28, 42, 180, 0, 73]
abbrev dktX0_personOn_1 : List UInt8 := dkwX0_personOn_1 ++ dktX0_personOn_2
def dkwX0_personOn_0 : List UInt8 := [42, 42, 28, 182, 1, 19, 182, 0, 201, 153, 0, 26, 42, 28, 4, 96, 182, 1, 19, 16, 99, 163, 0, 14]
abbrev dktX0_personOn_0 : List UInt8 := dkwX0_personOn_0 ++ dktX0_personOn_1
theorem dksX0_personOn_0 : cX0_personOn.data.toList.drop 0 = dktX0_personOn_0 := by decide +kernel
theorem dksX0_personOn_1 : cX0_personOn.data.toList.drop 24 = dktX0_personOn_1 := dk_seg dksX0_personOn_0 24 rfl rfl
theorem dksX0_personOn_2 : cX0_personOn.data.toList.drop 48 = dktX0_personOn_2 := dk_seg dksX0_personOn_1 24 rfl rfl
theorem dksX0_personOn_3 : cX0_personOn.data.toList.drop 70 = dktX0_personOn_3 := dk_seg dksX0_personOn_2 22 rfl rfl
theorem dksX0_personOn_4 : cX0_personOn.data.toList.drop 94 = dktX0_personOn_4 := dk_seg dksX0_personOn_3 24 rfl rfl
theorem dksX0_personOn_5 : cX0_personOn.data.toList.drop 118 = dktX0_personOn_5 := dk_seg dksX0_personOn_4 24 rfl rfl
theorem dksX0_personOn_6 : cX0_personOn.data.toList.drop 142 = dktX0_personOn_6 := dk_seg dksX0_personOn_5 24 rfl rfl
theorem dksX0_personOn_7 : cX0_personOn.data.toList.drop 166 = dktX0_personOn_7 := dk_seg dksX0_personOn_6 24 rfl rfl
theorem dX0_personOn_0 : decode cX0_personOn 0 = .ok (.aload_n 0, 1) := dk_42 (dk_at dksX0_personOn_0 0 rfl rfl)
theorem dX0_personOn_1 : decode cX0_personOn 1 = .ok (.aload_n 0, 1) := dk_42 (dk_at dksX0_personOn_0 1 rfl rfl)
theorem dX0_personOn_2 : decode cX0_personOn 2 = .ok (.iload_n 2, 1) := dk_28 (dk_at dksX0_personOn_0 2 rfl rfl)
theorem dX0_personOn_3 : decode cX0_personOn 3 = .ok (.invokevirtual 275, 3) := dk_182 1 19 (dk_at dksX0_personOn_0 3 rfl rfl)
theorem dX0_personOn_6 : decode cX0_personOn 6 = .ok (.invokevirtual 201, 3) := dk_182 0 201 (dk_at dksX0_personOn_0 6 rfl rfl)
theorem dX0_personOn_9 : decode cX0_personOn 9 = .ok (.ifCond .eq 26, 3) := dk_153 0 26 (dk_at dksX0_personOn_0 9 rfl rfl)
theorem dX0_personOn_12 : decode cX0_personOn 12 = .ok (.aload_n 0, 1) := dk_42 (dk_at dksX0_personOn_0 12 rfl rfl)
theorem dX0_personOn_13 : decode cX0_personOn 13 = .ok (.iload_n 2, 1) := dk_28 (dk_at dksX0_personOn_0 13 rfl rfl)
theorem dX0_personOn_14 : decode cX0_personOn 14 = .ok (.iconst 1, 1) := dk_4 (dk_at dksX0_personOn_0 14 rfl rfl)
theorem dX0_personOn_15 : decode cX0_personOn 15 = .ok (.iadd, 1) := dk_96 (dk_at dksX0_personOn_0 15 rfl rfl)
theorem dX0_personOn_16 : decode cX0_personOn 16 = .ok (.invokevirtual 275, 3) := dk_182 1 19 (dk_at dksX0_personOn_0 16 rfl rfl)
theorem dX0_personOn_19 : decode cX0_personOn 19 = .ok (.bipush 99, 2) := dk_16 99 (dk_at dksX0_personOn_0 19 rfl rfl)
theorem dX0_personOn_21 : decode cX0_personOn 21 = .ok (.if_icmp .gt 14, 3) := dk_163 0 14 (dk_at dksX0_personOn_0 21 rfl rfl)
theorem dX0_personOn_24 : decode cX0_personOn 24 = .ok (.aload_n 0, 1) := dk_42 (dk_at dksX0_personOn_1 0 rfl rfl)
theorem dX0_personOn_25 : decode cX0_personOn 25 = .ok (.iload_n 2, 1) := dk_28 (dk_at dksX0_personOn_1 1 rfl rfl)
theorem dX0_personOn_26 : decode cX0_personOn 26 = .ok (.iconst 2, 1) := dk_5 (dk_at dksX0_personOn_1 2 rfl rfl)
theorem dX0_personOn_27 : decode cX0_personOn 27 = .ok (.iadd, 1) := dk_96 (dk_at dksX0_personOn_1 3 rfl rfl)
theorem dX0_personOn_28 : decode cX0_personOn 28 = .ok (.invokevirtual 275, 3) := dk_182 1 19 (dk_at dksX0_personOn_1 4 rfl rfl)
theorem dX0_personOn_31 : decode cX0_personOn 31 = .ok (.iconst 1, 1) := dk_4 (dk_at dksX0_personOn_1 7 rfl rfl)
theorem dX0_personOn_32 : decode cX0_personOn 32 = .ok (.if_icmp .le 5, 3) := dk_164 0 5 (dk_at dksX0_personOn_1 8 rfl rfl)
theorem dX0_personOn_35 : decode cX0_personOn 35 = .ok (.iconst 0, 1) := dk_3 (dk_at dksX0_personOn_1 11 rfl rfl)
theorem dX0_personOn_36 : decode cX0_personOn 36 = .ok (.ireturn, 1) := dk_172 (dk_at dksX0_personOn_1 12 rfl rfl)
theorem dX0_personOn_37 : decode cX0_personOn 37 = .ok (.iconst 0, 1) := dk_3 (dk_at dksX0_personOn_1 13 rfl rfl)
theorem dX0_personOn_38 : decode cX0_personOn 38 = .ok (.istore_n 3, 1) := dk_62 (dk_at dksX0_personOn_1 14 rfl rfl)
theorem dX0_personOn_39 : decode cX0_personOn 39 = .ok (.iload_n 3, 1) := dk_29 (dk_at dksX0_personOn_1 15 rfl rfl)
theorem dX0_personOn_40 : decode cX0_personOn 40 = .ok (.iload_n 1, 1) := dk_27 (dk_at dksX0_personOn_1 16 rfl rfl)
theorem dX0_personOn_41 : decode cX0_personOn 41 = .ok (.if_icmp .ge 28, 3) := dk_162 0 28 (dk_at dksX0_personOn_1 17 rfl rfl)
theorem dX0_personOn_44 : decode cX0_personOn 44 = .ok (.aload_n 0, 1) := dk_42 (dk_at dksX0_personOn_1 20 rfl rfl)
theorem dX0_personOn_45 : decode cX0_personOn 45 = .ok (.getfield 73, 3) := dk_180 0 73 (dk_at dksX0_personOn_1 21 rfl rfl)
theorem dX0_personOn_48 : decode cX0_personOn 48 = .ok (.getfield 207, 3) := dk_180 0 207 (dk_at dksX0_personOn_2 0 rfl rfl)
theorem dX0_personOn_51 : decode cX0_personOn 51 = .ok (.iload_n 3, 1) := dk_29 (dk_at dksX0_personOn_2 3 rfl rfl)
theorem dX0_personOn_52 : decode cX0_personOn 52 = .ok (.iaload, 1) := dk_46 (dk_at dksX0_personOn_2 4 rfl rfl)
theorem dX0_personOn_53 : decode cX0_personOn 53 = .ok (.aload_n 0, 1) := dk_42 (dk_at dksX0_personOn_2 5 rfl rfl)
theorem dX0_personOn_54 : decode cX0_personOn 54 = .ok (.iload_n 2, 1) := dk_28 (dk_at dksX0_personOn_2 6 rfl rfl)
theorem dX0_personOn_55 : decode cX0_personOn 55 = .ok (.invokevirtual 275, 3) := dk_182 1 19 (dk_at dksX0_personOn_2 7 rfl rfl)
theorem dX0_personOn_58 : decode cX0_personOn 58 = .ok (.if_icmp .ne 5, 3) := dk_160 0 5 (dk_at dksX0_personOn_2 10 rfl rfl)
theorem dX0_personOn_61 : decode cX0_personOn 61 = .ok (.iconst 0, 1) := dk_3 (dk_at dksX0_personOn_2 13 rfl rfl)
theorem dX0_personOn_62 : decode cX0_personOn 62 = .ok (.ireturn, 1) := dk_172 (dk_at dksX0_personOn_2 14 rfl rfl)
theorem dX0_personOn_63 : decode cX0_personOn 63 = .ok (.iinc 3 1, 3) := dk_132 3 1 (dk_at dksX0_personOn_2 15 rfl rfl)
theorem dX0_personOn_66 : decode cX0_personOn 66 = .ok (.goto (-27), 3) := dk_167 255 229 (dk_at dksX0_personOn_2 18 rfl rfl)
theorem dX0_personOn_69 : decode cX0_personOn 69 = .ok (.aload_n 0, 1) := dk_42 (dk_at dksX0_personOn_2 21 rfl rfl)
theorem dX0_personOn_70 : decode cX0_personOn 70 = .ok (.getfield 73, 3) := dk_180 0 73 (dk_at dksX0_personOn_3 0 rfl rfl)
theorem dX0_personOn_73 : decode cX0_personOn 73 = .ok (.getfield 207, 3) := dk_180 0 207 (dk_at dksX0_personOn_3 3 rfl rfl)
theorem dX0_personOn_76 : decode cX0_personOn 76 = .ok (.iload_n 1, 1) := dk_27 (dk_at dksX0_personOn_3 6 rfl rfl)
theorem dX0_personOn_77 : decode cX0_personOn 77 = .ok (.aload_n 0, 1) := dk_42 (dk_at dksX0_personOn_3 7 rfl rfl)
theorem dX0_personOn_78 : decode cX0_personOn 78 = .ok (.iload_n 2, 1) := dk_28 (dk_at dksX0_personOn_3 8 rfl rfl)
theorem dX0_personOn_79 : decode cX0_personOn 79 = .ok (.invokevirtual 275, 3) := dk_182 1 19 (dk_at dksX0_personOn_3 9 rfl rfl)
theorem dX0_personOn_82 : decode cX0_personOn 82 = .ok (.iastore, 1) := dk_79 (dk_at dksX0_personOn_3 12 rfl rfl)
theorem dX0_personOn_83 : decode cX0_personOn 83 = .ok (.aload_n 0, 1) := dk_42 (dk_at dksX0_personOn_3 13 rfl rfl)
theorem dX0_personOn_84 : decode cX0_personOn 84 = .ok (.getfield 73, 3) := dk_180 0 73 (dk_at dksX0_personOn_3 14 rfl rfl)
theorem dX0_personOn_87 : decode cX0_personOn 87 = .ok (.getfield 174, 3) := dk_180 0 174 (dk_at dksX0_personOn_3 17 rfl rfl)
theorem dX0_personOn_90 : decode cX0_personOn 90 = .ok (.iload_n 1, 1) := dk_27 (dk_at dksX0_personOn_3 20 rfl rfl)
theorem dX0_personOn_91 : decode cX0_personOn 91 = .ok (.aload_n 0, 1) := dk_42 (dk_at dksX0_personOn_3 21 rfl rfl)
theorem dX0_personOn_92 : decode cX0_personOn 92 = .ok (.iload_n 2, 1) := dk_28 (dk_at dksX0_personOn_3 22 rfl rfl)
theorem dX0_personOn_93 : decode cX0_personOn 93 = .ok (.iconst 1, 1) := dk_4 (dk_at dksX0_personOn_3 23 rfl rfl)
theorem dX0_personOn_94 : decode cX0_personOn 94 = .ok (.iadd, 1) := dk_96 (dk_at dksX0_personOn_4 0 rfl rfl)
theorem dX0_personOn_95 : decode cX0_personOn 95 = .ok (.invokevirtual 275, 3) := dk_182 1 19 (dk_at dksX0_personOn_4 1 rfl rfl)
theorem dX0_personOn_98 : decode cX0_personOn 98 = .ok (.iastore, 1) := dk_79 (dk_at dksX0_personOn_4 4 rfl rfl)
theorem dX0_personOn_99 : decode cX0_personOn 99 = .ok (.aload_n 0, 1) := dk_42 (dk_at dksX0_personOn_4 5 rfl rfl)
theorem dX0_personOn_100 : decode cX0_personOn 100 = .ok (.getfield 73, 3) := dk_180 0 73 (dk_at dksX0_personOn_4 6 rfl rfl)
theorem dX0_personOn_103 : decode cX0_personOn 103 = .ok (.getfield 177, 3) := dk_180 0 177 (dk_at dksX0_personOn_4 9 rfl rfl)
theorem dX0_personOn_106 : decode cX0_personOn 106 = .ok (.iload_n 1, 1) := dk_27 (dk_at dksX0_personOn_4 12 rfl rfl)
theorem dX0_personOn_107 : decode cX0_personOn 107 = .ok (.aload_n 0, 1) := dk_42 (dk_at dksX0_personOn_4 13 rfl rfl)
theorem dX0_personOn_108 : decode cX0_personOn 108 = .ok (.iload_n 2, 1) := dk_28 (dk_at dksX0_personOn_4 14 rfl rfl)
theorem dX0_personOn_109 : decode cX0_personOn 109 = .ok (.iconst 2, 1) := dk_5 (dk_at dksX0_personOn_4 15 rfl rfl)
theorem dX0_personOn_110 : decode cX0_personOn 110 = .ok (.iadd, 1) := dk_96 (dk_at dksX0_personOn_4 16 rfl rfl)
theorem dX0_personOn_111 : decode cX0_personOn 111 = .ok (.invokevirtual 275, 3) := dk_182 1 19 (dk_at dksX0_personOn_4 17 rfl rfl)
theorem dX0_personOn_114 : decode cX0_personOn 114 = .ok (.iconst 1, 1) := dk_4 (dk_at dksX0_personOn_4 20 rfl rfl)
theorem dX0_personOn_115 : decode cX0_personOn 115 = .ok (.if_icmp .ne 7, 3) := dk_160 0 7 (dk_at dksX0_personOn_4 21 rfl rfl)
theorem dX0_personOn_118 : decode cX0_personOn 118 = .ok (.iconst 1, 1) := dk_4 (dk_at dksX0_personOn_5 0 rfl rfl)
theorem dX0_personOn_119 : decode cX0_personOn 119 = .ok (.goto 4, 3) := dk_167 0 4 (dk_at dksX0_personOn_5 1 rfl rfl)
theorem dX0_personOn_122 : decode cX0_personOn 122 = .ok (.iconst 0, 1) := dk_3 (dk_at dksX0_personOn_5 4 rfl rfl)
theorem dX0_personOn_123 : decode cX0_personOn 123 = .ok (.bastore, 1) := dk_84 (dk_at dksX0_personOn_5 5 rfl rfl)
theorem dX0_personOn_124 : decode cX0_personOn 124 = .ok (.iload_n 2, 1) := dk_28 (dk_at dksX0_personOn_5 6 rfl rfl)
theorem dX0_personOn_125 : decode cX0_personOn 125 = .ok (.iconst 3, 1) := dk_6 (dk_at dksX0_personOn_5 7 rfl rfl)
theorem dX0_personOn_126 : decode cX0_personOn 126 = .ok (.iadd, 1) := dk_96 (dk_at dksX0_personOn_5 8 rfl rfl)
theorem dX0_personOn_127 : decode cX0_personOn 127 = .ok (.istore_n 3, 1) := dk_62 (dk_at dksX0_personOn_5 9 rfl rfl)
theorem dX0_personOn_128 : decode cX0_personOn 128 = .ok (.iconst 0, 1) := dk_3 (dk_at dksX0_personOn_5 10 rfl rfl)
theorem dX0_personOn_129 : decode cX0_personOn 129 = .ok (.istore 4, 2) := dk_54 4 (dk_at dksX0_personOn_5 11 rfl rfl)
theorem dX0_personOn_131 : decode cX0_personOn 131 = .ok (.iload 4, 2) := dk_21 4 (dk_at dksX0_personOn_5 13 rfl rfl)
theorem dX0_personOn_133 : decode cX0_personOn 133 = .ok (.aload_n 0, 1) := dk_42 (dk_at dksX0_personOn_5 15 rfl rfl)
theorem dX0_personOn_134 : decode cX0_personOn 134 = .ok (.invokevirtual 158, 3) := dk_182 0 158 (dk_at dksX0_personOn_5 16 rfl rfl)
theorem dX0_personOn_137 : decode cX0_personOn 137 = .ok (.if_icmp .ge 50, 3) := dk_162 0 50 (dk_at dksX0_personOn_5 19 rfl rfl)
theorem dX0_personOn_140 : decode cX0_personOn 140 = .ok (.iload 4, 2) := dk_21 4 (dk_at dksX0_personOn_5 22 rfl rfl)
theorem dX0_personOn_142 : decode cX0_personOn 142 = .ok (.iload_n 1, 1) := dk_27 (dk_at dksX0_personOn_6 0 rfl rfl)
theorem dX0_personOn_143 : decode cX0_personOn 143 = .ok (.if_icmp .ne 6, 3) := dk_160 0 6 (dk_at dksX0_personOn_6 1 rfl rfl)
theorem dX0_personOn_146 : decode cX0_personOn 146 = .ok (.goto 35, 3) := dk_167 0 35 (dk_at dksX0_personOn_6 4 rfl rfl)
theorem dX0_personOn_149 : decode cX0_personOn 149 = .ok (.aload_n 0, 1) := dk_42 (dk_at dksX0_personOn_6 7 rfl rfl)
theorem dX0_personOn_150 : decode cX0_personOn 150 = .ok (.getfield 73, 3) := dk_180 0 73 (dk_at dksX0_personOn_6 8 rfl rfl)
theorem dX0_personOn_153 : decode cX0_personOn 153 = .ok (.getfield 223, 3) := dk_180 0 223 (dk_at dksX0_personOn_6 11 rfl rfl)
theorem dX0_personOn_156 : decode cX0_personOn 156 = .ok (.iload_n 1, 1) := dk_27 (dk_at dksX0_personOn_6 14 rfl rfl)
theorem dX0_personOn_157 : decode cX0_personOn 157 = .ok (.aaload, 1) := dk_50 (dk_at dksX0_personOn_6 15 rfl rfl)
theorem dX0_personOn_158 : decode cX0_personOn 158 = .ok (.iload 4, 2) := dk_21 4 (dk_at dksX0_personOn_6 16 rfl rfl)
theorem dX0_personOn_160 : decode cX0_personOn 160 = .ok (.aload_n 0, 1) := dk_42 (dk_at dksX0_personOn_6 18 rfl rfl)
theorem dX0_personOn_161 : decode cX0_personOn 161 = .ok (.iload_n 3, 1) := dk_29 (dk_at dksX0_personOn_6 19 rfl rfl)
theorem dX0_personOn_162 : decode cX0_personOn 162 = .ok (.invokevirtual 275, 3) := dk_182 1 19 (dk_at dksX0_personOn_6 20 rfl rfl)
theorem dX0_personOn_165 : decode cX0_personOn 165 = .ok (.iastore, 1) := dk_79 (dk_at dksX0_personOn_6 23 rfl rfl)
theorem dX0_personOn_166 : decode cX0_personOn 166 = .ok (.aload_n 0, 1) := dk_42 (dk_at dksX0_personOn_7 0 rfl rfl)
theorem dX0_personOn_167 : decode cX0_personOn 167 = .ok (.iload_n 3, 1) := dk_29 (dk_at dksX0_personOn_7 1 rfl rfl)
theorem dX0_personOn_168 : decode cX0_personOn 168 = .ok (.invokevirtual 275, 3) := dk_182 1 19 (dk_at dksX0_personOn_7 2 rfl rfl)
theorem dX0_personOn_171 : decode cX0_personOn 171 = .ok (.bipush 9, 2) := dk_16 9 (dk_at dksX0_personOn_7 5 rfl rfl)
theorem dX0_personOn_173 : decode cX0_personOn 173 = .ok (.if_icmp .le 5, 3) := dk_164 0 5 (dk_at dksX0_personOn_7 7 rfl rfl)
theorem dX0_personOn_176 : decode cX0_personOn 176 = .ok (.iconst 0, 1) := dk_3 (dk_at dksX0_personOn_7 10 rfl rfl)
theorem dX0_personOn_177 : decode cX0_personOn 177 = .ok (.ireturn, 1) := dk_172 (dk_at dksX0_personOn_7 11 rfl rfl)
theorem dX0_personOn_178 : decode cX0_personOn 178 = .ok (.iinc 3 1, 3) := dk_132 3 1 (dk_at dksX0_personOn_7 12 rfl rfl)
theorem dX0_personOn_181 : decode cX0_personOn 181 = .ok (.iinc 4 1, 3) := dk_132 4 1 (dk_at dksX0_personOn_7 15 rfl rfl)
theorem dX0_personOn_184 : decode cX0_personOn 184 = .ok (.goto (-53), 3) := dk_167 255 203 (dk_at dksX0_personOn_7 18 rfl rfl)
theorem dX0_personOn_187 : decode cX0_personOn 187 = .ok (.iconst 1, 1) := dk_4 (dk_at dksX0_personOn_7 21 rfl rfl)
theorem dX0_personOn_188 : decode cX0_personOn 188 = .ok (.ireturn, 1) := dk_172 (dk_at dksX0_personOn_7 22 rfl rfl)
abbrev cX0_status : ByteArray := prog_1_method_64_code
def yX0_status : MethodName := ⟨RX0, "status", "(I)I"⟩
def dkwX0_status_0 : List UInt8 := [27, 3, 8, 184, 0, 190, 153, 0, 12, 42, 180, 0, 62, 27, 46, 167, 0, 4, 2, 172]
abbrev dktX0_status_0 : List UInt8 := dkwX0_status_0 ++ []
theorem dksX0_status_0 : cX0_status.data.toList.drop 0 = dktX0_status_0 := by decide +kernel
theorem dX0_status_0 : decode cX0_status 0 = .ok (.iload_n 1, 1) := dk_27 (dk_at dksX0_status_0 0 rfl rfl)
theorem dX0_status_1 : decode cX0_status 1 = .ok (.iconst 0, 1) := dk_3 (dk_at dksX0_status_0 1 rfl rfl)
theorem dX0_status_2 : decode cX0_status 2 = .ok (.iconst 5, 1) := dk_8 (dk_at dksX0_status_0 2 rfl rfl)
theorem dX0_status_3 : decode cX0_status 3 = .ok (.invokestatic 190, 3) := dk_184 0 190 (dk_at dksX0_status_0 3 rfl rfl)
theorem dX0_status_6 : decode cX0_status 6 = .ok (.ifCond .eq 12, 3) := dk_153 0 12 (dk_at dksX0_status_0 6 rfl rfl)
theorem dX0_status_9 : decode cX0_status 9 = .ok (.aload_n 0, 1) := dk_42 (dk_at dksX0_status_0 9 rfl rfl)
theorem dX0_status_10 : decode cX0_status 10 = .ok (.getfield 62, 3) := dk_180 0 62 (dk_at dksX0_status_0 10 rfl rfl)
theorem dX0_status_13 : decode cX0_status 13 = .ok (.iload_n 1, 1) := dk_27 (dk_at dksX0_status_0 13 rfl rfl)
theorem dX0_status_14 : decode cX0_status 14 = .ok (.iaload, 1) := dk_46 (dk_at dksX0_status_0 14 rfl rfl)
theorem dX0_status_15 : decode cX0_status 15 = .ok (.goto 4, 3) := dk_167 0 4 (dk_at dksX0_status_0 15 rfl rfl)
theorem dX0_status_18 : decode cX0_status 18 = .ok (.iconst (-1), 1) := dk_2 (dk_at dksX0_status_0 18 rfl rfl)
theorem dX0_status_19 : decode cX0_status 19 = .ok (.ireturn, 1) := dk_172 (dk_at dksX0_status_0 19 rfl rfl)
theorem q145 : (Jvm.Cond.initialized "Retouched") ∈ lw_all := lw_g (lw_at lw_m1 1 rfl) rfl
theorem q184 : (Jvm.Cond.instantiable "Retouched" (23 : Nat)) ∈ lw_all := lw_g (lw_at lw_m1 40 rfl) rfl
theorem q186 : (Jvm.Cond.instanceMethod ({ cls := "Retouched", name := "<init>", desc := "()V" } : Jvm.MethodName)) ∈ lw_all := lw_g (lw_at lw_m1 42 rfl) rfl
theorem q187 : (Jvm.Cond.code ({ cls := "Retouched", name := "<init>", desc := "()V" } : Jvm.MethodName) prog_1_method_7_code (2 : Nat) (Option.none : Option Jvm.ClassFile.FieldType)) ∈ lw_all := lw_g (lw_at lw_m1 43 rfl) rfl
theorem q188 : (Jvm.Cond.methodLink "Retouched" (22 : Nat) ({ cls := "java/lang/Object", name := "<init>", desc := "()V" } : Jvm.MethodName)) ∈ lw_all := lw_g (lw_at lw_m1 44 rfl) rfl
theorem q191 : (Jvm.Cond.classLink "Retouched" (28 : Nat) "Retouched$Terrace") ∈ lw_all := lw_g (lw_at lw_m1 47 rfl) rfl
theorem q193 : (Jvm.Cond.methodLinkNest "Retouched" (30 : Nat) ({ cls := "Retouched$Terrace", name := "<init>", desc := "()V" } : Jvm.MethodName) "Retouched") ∈ lw_tbl := lw_at lw_m1 49 rfl
theorem q225 : (Jvm.Cond.fieldLinkNest "Retouched" (143 : Nat) "Retouched$Terrace" "statements" "I" "Retouched") ∈ lw_tbl := lw_at lw_m1 81 rfl
theorem q228 : (Jvm.Cond.fieldLinkNest "Retouched" (146 : Nat) "Retouched$Terrace" "houses" "I" "Retouched") ∈ lw_tbl := lw_at lw_m1 84 rfl
theorem q231 : (Jvm.Cond.fieldLinkNest "Retouched" (300 : Nat) "Retouched$Terrace" "slip" "I" "Retouched") ∈ lw_tbl := lw_at lw_m1 87 rfl
theorem q233 : (Jvm.Cond.fieldLinkNest "Retouched" (149 : Nat) "Retouched$Terrace" "souls" "Ljava/util/List;" "Retouched") ∈ lw_tbl := lw_at lw_m1 89 rfl
theorem q256 : (Jvm.Cond.classLink "Retouched" (43 : Nat) "Retouched$Reader") ∈ lw_all := lw_g (lw_at lw_m1 112 rfl) rfl
theorem q258 : (Jvm.Cond.methodLinkNest "Retouched" (45 : Nat) ({ cls := "Retouched$Reader", name := "<init>", desc := "(LRetouched;)V" } : Jvm.MethodName) "Retouched") ∈ lw_tbl := lw_at lw_m1 114 rfl
theorem q314 : (Jvm.Cond.fieldLinkNest "Retouched" (128 : Nat) "Retouched$Fault" "kind" "I" "Retouched") ∈ lw_tbl := lw_at lw_m1 170 rfl
theorem q316 : (Jvm.Cond.fieldLinkNest "Retouched" (131 : Nat) "Retouched$Fault" "place" "I" "Retouched") ∈ lw_tbl := lw_at lw_m1 172 rfl
theorem q360 : (Jvm.Cond.classLink "Retouched" (52 : Nat) "Retouched$Moment") ∈ lw_all := lw_g (lw_at lw_m1 216 rfl) rfl
theorem q362 : (Jvm.Cond.methodLinkNest "Retouched" (54 : Nat) ({ cls := "Retouched$Moment", name := "<init>", desc := "()V" } : Jvm.MethodName) "Retouched") ∈ lw_tbl := lw_at lw_m1 218 rfl
theorem q369 : (Jvm.Cond.fieldLinkNest "Retouched" (312 : Nat) "Retouched$Moment" "of" "[J" "Retouched") ∈ lw_tbl := lw_at lw_m1 225 rfl
theorem q374 : (Jvm.Cond.classLink "Retouched" (66 : Nat) "Retouched$State") ∈ lw_all := lw_g (lw_at lw_m1 230 rfl) rfl
theorem q376 : (Jvm.Cond.methodLinkNest "Retouched" (68 : Nat) ({ cls := "Retouched$State", name := "<init>", desc := "(LRetouched;)V" } : Jvm.MethodName) "Retouched") ∈ lw_tbl := lw_at lw_m1 232 rfl
theorem q383 : (Jvm.Cond.fieldLinkNest "Retouched" (171 : Nat) "Retouched$State" "year" "I" "Retouched") ∈ lw_tbl := lw_at lw_m1 239 rfl
theorem q386 : (Jvm.Cond.fieldLinkNest "Retouched" (187 : Nat) "Retouched$State" "keeps" "I" "Retouched") ∈ lw_tbl := lw_at lw_m2 2 rfl
theorem q388 : (Jvm.Cond.fieldLinkNest "Retouched" (207 : Nat) "Retouched$State" "house" "[I" "Retouched") ∈ lw_tbl := lw_at lw_m2 4 rfl
theorem q390 : (Jvm.Cond.fieldLinkNest "Retouched" (174 : Nat) "Retouched$State" "look" "[I" "Retouched") ∈ lw_tbl := lw_at lw_m2 6 rfl
theorem q392 : (Jvm.Cond.fieldLinkNest "Retouched" (210 : Nat) "Retouched$State" "face" "[I" "Retouched") ∈ lw_tbl := lw_at lw_m2 8 rfl
theorem q394 : (Jvm.Cond.fieldLinkNest "Retouched" (213 : Nat) "Retouched$State" "kind" "[I" "Retouched") ∈ lw_tbl := lw_at lw_m2 10 rfl
theorem q396 : (Jvm.Cond.fieldLinkNest "Retouched" (177 : Nat) "Retouched$State" "spares" "[Z" "Retouched") ∈ lw_tbl := lw_at lw_m2 12 rfl
theorem q398 : (Jvm.Cond.fieldLinkNest "Retouched" (223 : Nat) "Retouched$State" "thinks" "[[I" "Retouched") ∈ lw_tbl := lw_at lw_m2 14 rfl
theorem q400 : (Jvm.Cond.fieldLinkNest "Retouched" (230 : Nat) "Retouched$State" "rows" "[[I" "Retouched") ∈ lw_tbl := lw_at lw_m2 16 rfl
theorem q427 : (Jvm.Cond.classLink "Retouched" (76 : Nat) "[[I") ∈ lw_all := lw_g (lw_at lw_m2 43 rfl) rfl
theorem q430 : (Jvm.Cond.fieldLink "Retouched" (31 : Nat) "Retouched" "terrace" "LRetouched$Terrace;") ∈ lw_all := lw_g (lw_at lw_m2 46 rfl) rfl
theorem q432 : (Jvm.Cond.fieldLink "Retouched" (35 : Nat) "Retouched" "tape" "[B") ∈ lw_all := lw_g (lw_at lw_m2 48 rfl) rfl
theorem q433 : (Jvm.Cond.fieldLink "Retouched" (104 : Nat) "Retouched" "taped" "I") ∈ lw_all := lw_g (lw_at lw_m2 49 rfl) rfl
theorem q434 : (Jvm.Cond.fieldLink "Retouched" (115 : Nat) "Retouched" "faultKind" "I") ∈ lw_all := lw_g (lw_at lw_m2 50 rfl) rfl
theorem q435 : (Jvm.Cond.fieldLink "Retouched" (39 : Nat) "Retouched" "faultPlace" "I") ∈ lw_all := lw_g (lw_at lw_m2 51 rfl) rfl
theorem q436 : (Jvm.Cond.fieldLink "Retouched" (48 : Nat) "Retouched" "reader" "LRetouched$Reader;") ∈ lw_all := lw_g (lw_at lw_m2 52 rfl) rfl
theorem q438 : (Jvm.Cond.fieldLink "Retouched" (55 : Nat) "Retouched" "moment" "LRetouched$Moment;") ∈ lw_all := lw_g (lw_at lw_m2 54 rfl) rfl
theorem q439 : (Jvm.Cond.fieldLink "Retouched" (59 : Nat) "Retouched" "asked" "LRetouched$Moment;") ∈ lw_all := lw_g (lw_at lw_m2 55 rfl) rfl
theorem q440 : (Jvm.Cond.fieldLink "Retouched" (62 : Nat) "Retouched" "refused" "[I") ∈ lw_all := lw_g (lw_at lw_m2 56 rfl) rfl
theorem q441 : (Jvm.Cond.fieldLink "Retouched" (69 : Nat) "Retouched" "now" "LRetouched$State;") ∈ lw_all := lw_g (lw_at lw_m2 57 rfl) rfl
theorem q442 : (Jvm.Cond.fieldLink "Retouched" (73 : Nat) "Retouched" "tried" "LRetouched$State;") ∈ lw_all := lw_g (lw_at lw_m2 58 rfl) rfl
theorem q443 : (Jvm.Cond.fieldLink "Retouched" (78 : Nat) "Retouched" "lookBy" "[[I") ∈ lw_all := lw_g (lw_at lw_m2 59 rfl) rfl
theorem q444 : (Jvm.Cond.fieldLink "Retouched" (81 : Nat) "Retouched" "rowYear" "[I") ∈ lw_all := lw_g (lw_at lw_m2 60 rfl) rfl
theorem q445 : (Jvm.Cond.fieldLink "Retouched" (84 : Nat) "Retouched" "rowWho" "[I") ∈ lw_all := lw_g (lw_at lw_m2 61 rfl) rfl
theorem q446 : (Jvm.Cond.fieldLink "Retouched" (87 : Nat) "Retouched" "rowLook" "[I") ∈ lw_all := lw_g (lw_at lw_m2 62 rfl) rfl
theorem q447 : (Jvm.Cond.fieldLink "Retouched" (140 : Nat) "Retouched" "rows" "I") ∈ lw_all := lw_g (lw_at lw_m2 63 rfl) rfl
theorem q448 : (Jvm.Cond.fieldLink "Retouched" (90 : Nat) "Retouched" "looksOf" "[[I") ∈ lw_all := lw_g (lw_at lw_m2 64 rfl) rfl
theorem q449 : (Jvm.Cond.fieldLink "Retouched" (93 : Nat) "Retouched" "kept" "[LRetouched$State;") ∈ lw_all := lw_g (lw_at lw_m2 65 rfl) rfl
theorem q450 : (Jvm.Cond.fieldLink "Retouched" (137 : Nat) "Retouched" "undos" "I") ∈ lw_all := lw_g (lw_at lw_m2 66 rfl) rfl
theorem q451 : (Jvm.Cond.fieldLink "Retouched" (97 : Nat) "Retouched" "seeds" "J") ∈ lw_all := lw_g (lw_at lw_m2 67 rfl) rfl
theorem q452 : (Jvm.Cond.fieldLink "Retouched" (303 : Nat) "Retouched" "askedPerson" "I") ∈ lw_all := lw_g (lw_at lw_m2 68 rfl) rfl
theorem q453 : (Jvm.Cond.fieldLink "Retouched" (101 : Nat) "Retouched" "out" "[B") ∈ lw_all := lw_g (lw_at lw_m2 69 rfl) rfl
theorem q454 : (Jvm.Cond.fieldLink "Retouched" (326 : Nat) "Retouched" "outs" "I") ∈ lw_all := lw_g (lw_at lw_m2 70 rfl) rfl
theorem q455 : (Jvm.Cond.lays "Retouched" "Retouched" "terrace" "LRetouched$Terrace;") ∈ lw_all := lw_g (lw_at lw_m2 71 rfl) rfl
theorem q456 : (Jvm.Cond.soleField "Retouched" "terrace") ∈ lw_all := lw_g (lw_at lw_m2 72 rfl) rfl
theorem q457 : (Jvm.Cond.laysFinal "Retouched" "Retouched" "tape" "[B") ∈ lw_all := lw_g (lw_at lw_m2 73 rfl) rfl
theorem q458 : (Jvm.Cond.soleField "Retouched" "tape") ∈ lw_all := lw_g (lw_at lw_m2 74 rfl) rfl
theorem q459 : (Jvm.Cond.lays "Retouched" "Retouched" "taped" "I") ∈ lw_all := lw_g (lw_at lw_m2 75 rfl) rfl
theorem q460 : (Jvm.Cond.soleField "Retouched" "taped") ∈ lw_all := lw_g (lw_at lw_m2 76 rfl) rfl
theorem q461 : (Jvm.Cond.lays "Retouched" "Retouched" "faultKind" "I") ∈ lw_all := lw_g (lw_at lw_m2 77 rfl) rfl
theorem q462 : (Jvm.Cond.soleField "Retouched" "faultKind") ∈ lw_all := lw_g (lw_at lw_m2 78 rfl) rfl
theorem q463 : (Jvm.Cond.lays "Retouched" "Retouched" "faultPlace" "I") ∈ lw_all := lw_g (lw_at lw_m2 79 rfl) rfl
theorem q464 : (Jvm.Cond.soleField "Retouched" "faultPlace") ∈ lw_all := lw_g (lw_at lw_m2 80 rfl) rfl
theorem q465 : (Jvm.Cond.laysFinal "Retouched" "Retouched" "reader" "LRetouched$Reader;") ∈ lw_all := lw_g (lw_at lw_m2 81 rfl) rfl
theorem q466 : (Jvm.Cond.soleField "Retouched" "reader") ∈ lw_all := lw_g (lw_at lw_m2 82 rfl) rfl
theorem q467 : (Jvm.Cond.laysFinal "Retouched" "Retouched" "moment" "LRetouched$Moment;") ∈ lw_all := lw_g (lw_at lw_m2 83 rfl) rfl
theorem q468 : (Jvm.Cond.soleField "Retouched" "moment") ∈ lw_all := lw_g (lw_at lw_m2 84 rfl) rfl
theorem q469 : (Jvm.Cond.laysFinal "Retouched" "Retouched" "asked" "LRetouched$Moment;") ∈ lw_all := lw_g (lw_at lw_m2 85 rfl) rfl
theorem q470 : (Jvm.Cond.soleField "Retouched" "asked") ∈ lw_all := lw_g (lw_at lw_m2 86 rfl) rfl
theorem q471 : (Jvm.Cond.laysFinal "Retouched" "Retouched" "refused" "[I") ∈ lw_all := lw_g (lw_at lw_m2 87 rfl) rfl
theorem q472 : (Jvm.Cond.soleField "Retouched" "refused") ∈ lw_all := lw_g (lw_at lw_m2 88 rfl) rfl
theorem q473 : (Jvm.Cond.laysFinal "Retouched" "Retouched" "now" "LRetouched$State;") ∈ lw_all := lw_g (lw_at lw_m2 89 rfl) rfl
theorem q474 : (Jvm.Cond.soleField "Retouched" "now") ∈ lw_all := lw_g (lw_at lw_m2 90 rfl) rfl
theorem q475 : (Jvm.Cond.laysFinal "Retouched" "Retouched" "tried" "LRetouched$State;") ∈ lw_all := lw_g (lw_at lw_m2 91 rfl) rfl
theorem q476 : (Jvm.Cond.soleField "Retouched" "tried") ∈ lw_all := lw_g (lw_at lw_m2 92 rfl) rfl
theorem q477 : (Jvm.Cond.laysFinal "Retouched" "Retouched" "lookBy" "[[I") ∈ lw_all := lw_g (lw_at lw_m2 93 rfl) rfl
theorem q478 : (Jvm.Cond.soleField "Retouched" "lookBy") ∈ lw_all := lw_g (lw_at lw_m2 94 rfl) rfl
theorem q479 : (Jvm.Cond.laysFinal "Retouched" "Retouched" "rowYear" "[I") ∈ lw_all := lw_g (lw_at lw_m2 95 rfl) rfl
theorem q480 : (Jvm.Cond.soleField "Retouched" "rowYear") ∈ lw_all := lw_g (lw_at lw_m2 96 rfl) rfl
theorem q481 : (Jvm.Cond.laysFinal "Retouched" "Retouched" "rowWho" "[I") ∈ lw_all := lw_g (lw_at lw_m2 97 rfl) rfl
theorem q482 : (Jvm.Cond.soleField "Retouched" "rowWho") ∈ lw_all := lw_g (lw_at lw_m2 98 rfl) rfl
theorem q483 : (Jvm.Cond.laysFinal "Retouched" "Retouched" "rowLook" "[I") ∈ lw_all := lw_g (lw_at lw_m2 99 rfl) rfl
theorem q484 : (Jvm.Cond.soleField "Retouched" "rowLook") ∈ lw_all := lw_g (lw_at lw_m2 100 rfl) rfl
theorem q485 : (Jvm.Cond.lays "Retouched" "Retouched" "rows" "I") ∈ lw_all := lw_g (lw_at lw_m2 101 rfl) rfl
theorem q486 : (Jvm.Cond.soleField "Retouched" "rows") ∈ lw_all := lw_g (lw_at lw_m2 102 rfl) rfl
theorem q487 : (Jvm.Cond.laysFinal "Retouched" "Retouched" "looksOf" "[[I") ∈ lw_all := lw_g (lw_at lw_m2 103 rfl) rfl
theorem q488 : (Jvm.Cond.soleField "Retouched" "looksOf") ∈ lw_all := lw_g (lw_at lw_m2 104 rfl) rfl
theorem q489 : (Jvm.Cond.laysFinal "Retouched" "Retouched" "kept" "[LRetouched$State;") ∈ lw_all := lw_g (lw_at lw_m2 105 rfl) rfl
theorem q490 : (Jvm.Cond.soleField "Retouched" "kept") ∈ lw_all := lw_g (lw_at lw_m2 106 rfl) rfl
theorem q491 : (Jvm.Cond.lays "Retouched" "Retouched" "undos" "I") ∈ lw_all := lw_g (lw_at lw_m2 107 rfl) rfl
theorem q492 : (Jvm.Cond.soleField "Retouched" "undos") ∈ lw_all := lw_g (lw_at lw_m2 108 rfl) rfl
theorem q493 : (Jvm.Cond.lays "Retouched" "Retouched" "seeds" "J") ∈ lw_all := lw_g (lw_at lw_m2 109 rfl) rfl
theorem q494 : (Jvm.Cond.soleField "Retouched" "seeds") ∈ lw_all := lw_g (lw_at lw_m2 110 rfl) rfl
theorem q495 : (Jvm.Cond.lays "Retouched" "Retouched" "askedPerson" "I") ∈ lw_all := lw_g (lw_at lw_m2 111 rfl) rfl
theorem q496 : (Jvm.Cond.soleField "Retouched" "askedPerson") ∈ lw_all := lw_g (lw_at lw_m2 112 rfl) rfl
theorem q497 : (Jvm.Cond.laysFinal "Retouched" "Retouched" "out" "[B") ∈ lw_all := lw_g (lw_at lw_m2 113 rfl) rfl
theorem q498 : (Jvm.Cond.soleField "Retouched" "out") ∈ lw_all := lw_g (lw_at lw_m2 114 rfl) rfl
theorem q499 : (Jvm.Cond.lays "Retouched" "Retouched" "outs" "I") ∈ lw_all := lw_g (lw_at lw_m2 115 rfl) rfl
theorem q500 : (Jvm.Cond.soleField "Retouched" "outs") ∈ lw_all := lw_g (lw_at lw_m2 116 rfl) rfl
theorem q501 : (Jvm.Cond.superclass "Retouched" "java/lang/Object") ∈ lw_all := lw_g (lw_at lw_m2 117 rfl) rfl
theorem q503 : (Jvm.Cond.instanceMethod ({ cls := "Retouched", name := "feed", desc := "(IIIII)I" } : Jvm.MethodName)) ∈ lw_all := lw_g (lw_at lw_m2 119 rfl) rfl
theorem q504 : (Jvm.Cond.selects "Retouched" ({ cls := "Retouched", name := "feed", desc := "(IIIII)I" } : Jvm.MethodName) ({ cls := "Retouched", name := "feed", desc := "(IIIII)I" } : Jvm.MethodName)) ∈ lw_all := lw_g (lw_at lw_m2 120 rfl) rfl
theorem q505 : (Jvm.Cond.code ({ cls := "Retouched", name := "feed", desc := "(IIIII)I" } : Jvm.MethodName) prog_1_method_10_code (6 : Nat) (Option.some Jvm.ClassFile.FieldType.int)) ∈ lw_all := lw_g (lw_at lw_m2 121 rfl) rfl
theorem q506 : (Jvm.Cond.methodLink "Retouched" (107 : Nat) ({ cls := "Retouched", name := "refuses", desc := "(I)I" } : Jvm.MethodName)) ∈ lw_all := lw_g (lw_at lw_m2 122 rfl) rfl
theorem q507 : (Jvm.Cond.privateMethod ({ cls := "Retouched", name := "refuses", desc := "(I)I" } : Jvm.MethodName)) ∈ lw_tbl := lw_at lw_m2 123 rfl
theorem q508 : (Jvm.Cond.instanceMethod ({ cls := "Retouched", name := "refuses", desc := "(I)I" } : Jvm.MethodName)) ∈ lw_all := lw_g (lw_at lw_m2 124 rfl) rfl
theorem q509 : (Jvm.Cond.code ({ cls := "Retouched", name := "refuses", desc := "(I)I" } : Jvm.MethodName) prog_1_method_8_code (2 : Nat) (Option.some Jvm.ClassFile.FieldType.int)) ∈ lw_all := lw_g (lw_at lw_m2 125 rfl) rfl
theorem q510 : (Jvm.Cond.methodLink "Retouched" (111 : Nat) ({ cls := "Retouched", name := "put", desc := "(I)V" } : Jvm.MethodName)) ∈ lw_all := lw_g (lw_at lw_m2 126 rfl) rfl
theorem q511 : (Jvm.Cond.privateMethod ({ cls := "Retouched", name := "put", desc := "(I)V" } : Jvm.MethodName)) ∈ lw_tbl := lw_at lw_m2 127 rfl
theorem q512 : (Jvm.Cond.instanceMethod ({ cls := "Retouched", name := "put", desc := "(I)V" } : Jvm.MethodName)) ∈ lw_all := lw_g (lw_at lw_m2 128 rfl) rfl
theorem q513 : (Jvm.Cond.code ({ cls := "Retouched", name := "put", desc := "(I)V" } : Jvm.MethodName) prog_1_method_9_code (3 : Nat) (Option.none : Option Jvm.ClassFile.FieldType)) ∈ lw_all := lw_g (lw_at lw_m2 129 rfl) rfl
theorem q515 : (Jvm.Cond.instanceMethod ({ cls := "Retouched", name := "end", desc := "(I)Z" } : Jvm.MethodName)) ∈ lw_all := lw_g (lw_at lw_m2 131 rfl) rfl
theorem q516 : (Jvm.Cond.selects "Retouched" ({ cls := "Retouched", name := "end", desc := "(I)Z" } : Jvm.MethodName) ({ cls := "Retouched", name := "end", desc := "(I)Z" } : Jvm.MethodName)) ∈ lw_all := lw_g (lw_at lw_m2 132 rfl) rfl
theorem q517 : (Jvm.Cond.code ({ cls := "Retouched", name := "end", desc := "(I)Z" } : Jvm.MethodName) prog_1_method_11_code (2 : Nat) (Option.some Jvm.ClassFile.FieldType.boolean)) ∈ lw_all := lw_g (lw_at lw_m2 133 rfl) rfl
theorem q519 : (Jvm.Cond.instanceMethod ({ cls := "Retouched", name := "terrace", desc := "()I" } : Jvm.MethodName)) ∈ lw_all := lw_g (lw_at lw_m2 135 rfl) rfl
theorem q520 : (Jvm.Cond.selects "Retouched" ({ cls := "Retouched", name := "terrace", desc := "()I" } : Jvm.MethodName) ({ cls := "Retouched", name := "terrace", desc := "()I" } : Jvm.MethodName)) ∈ lw_all := lw_g (lw_at lw_m2 136 rfl) rfl
theorem q521 : (Jvm.Cond.codeWith ({ cls := "Retouched", name := "terrace", desc := "()I" } : Jvm.MethodName) prog_1_method_13_code (2 : Nat) (Option.some Jvm.ClassFile.FieldType.int) [((10 : Nat), (25 : Nat), (28 : Nat), (126 : Nat))]) ∈ lw_all := lw_g (lw_at lw_m2 137 rfl) rfl
theorem q522 : (Jvm.Cond.classLink "Retouched" (126 : Nat) "Retouched$Fault") ∈ lw_all := lw_g (lw_at lw_m2 138 rfl) rfl
theorem q523 : (Jvm.Cond.methodLink "Retouched" (118 : Nat) ({ cls := "Retouched", name := "taken", desc := "()I" } : Jvm.MethodName)) ∈ lw_all := lw_g (lw_at lw_m2 139 rfl) rfl
theorem q524 : (Jvm.Cond.privateMethod ({ cls := "Retouched", name := "taken", desc := "()I" } : Jvm.MethodName)) ∈ lw_tbl := lw_at lw_m2 140 rfl
theorem q525 : (Jvm.Cond.instanceMethod ({ cls := "Retouched", name := "taken", desc := "()I" } : Jvm.MethodName)) ∈ lw_all := lw_g (lw_at lw_m2 141 rfl) rfl
theorem q526 : (Jvm.Cond.code ({ cls := "Retouched", name := "taken", desc := "()I" } : Jvm.MethodName) prog_1_method_12_code (2 : Nat) (Option.some Jvm.ClassFile.FieldType.int)) ∈ lw_all := lw_g (lw_at lw_m2 142 rfl) rfl
theorem q527 : (Jvm.Cond.methodLink "Retouched" (122 : Nat) ({ cls := "Retouched$Reader", name := "all", desc := "(I)LRetouched$Terrace;" } : Jvm.MethodName)) ∈ lw_all := lw_g (lw_at lw_m2 143 rfl) rfl
theorem q551 : (Jvm.Cond.static ({ cls := "Retouched", name := "isLetter", desc := "(I)Z" } : Jvm.MethodName)) ∈ lw_all := lw_g (lw_at lw_m2 167 rfl) rfl
theorem q552 : (Jvm.Cond.code ({ cls := "Retouched", name := "isLetter", desc := "(I)Z" } : Jvm.MethodName) prog_1_method_4_code (1 : Nat) (Option.some Jvm.ClassFile.FieldType.boolean)) ∈ lw_all := lw_g (lw_at lw_m2 168 rfl) rfl
theorem q562 : (Jvm.Cond.static ({ cls := "Retouched", name := "isDigit", desc := "(I)Z" } : Jvm.MethodName)) ∈ lw_all := lw_g (lw_at lw_m2 178 rfl) rfl
theorem q563 : (Jvm.Cond.code ({ cls := "Retouched", name := "isDigit", desc := "(I)Z" } : Jvm.MethodName) prog_1_method_5_code (1 : Nat) (Option.some Jvm.ClassFile.FieldType.boolean)) ∈ lw_all := lw_g (lw_at lw_m2 179 rfl) rfl
theorem q654 : (Jvm.Cond.static ({ cls := "Retouched", name := "is", desc := "(III)Z" } : Jvm.MethodName)) ∈ lw_all := lw_g (lw_at lw_m3 30 rfl) rfl
theorem q655 : (Jvm.Cond.code ({ cls := "Retouched", name := "is", desc := "(III)Z" } : Jvm.MethodName) prog_1_method_1_code (3 : Nat) (Option.some Jvm.ClassFile.FieldType.boolean)) ∈ lw_all := lw_g (lw_at lw_m3 31 rfl) rfl
theorem q746 : (Jvm.Cond.laysStatic "Retouched" "OWN" "[Ljava/lang/String;") ∈ lw_tbl := lw_at lw_m3 122 rfl
theorem q748 : (Jvm.Cond.static ({ cls := "Retouched", name := "find", desc := "(Ljava/lang/String;[Ljava/lang/String;)I" } : Jvm.MethodName)) ∈ lw_all := lw_g (lw_at lw_m3 124 rfl) rfl
theorem q749 : (Jvm.Cond.code ({ cls := "Retouched", name := "find", desc := "(Ljava/lang/String;[Ljava/lang/String;)I" } : Jvm.MethodName) prog_1_method_6_code (3 : Nat) (Option.some Jvm.ClassFile.FieldType.int)) ∈ lw_all := lw_g (lw_at lw_m3 125 rfl) rfl
theorem q750 : (Jvm.Cond.methodLink "Retouched" (16 : Nat) ({ cls := "java/lang/String", name := "equals", desc := "(Ljava/lang/Object;)Z" } : Jvm.MethodName)) ∈ lw_all := lw_g (lw_at lw_m3 126 rfl) rfl
theorem q865 : (Jvm.Cond.selects "Retouched" ({ cls := "java/lang/Object", name := "getClass", desc := "()Ljava/lang/Class;" } : Jvm.MethodName) ({ cls := "java/lang/Object", name := "getClass", desc := "()Ljava/lang/Class;" } : Jvm.MethodName)) ∈ lw_all := lw_g (lw_at lw_m4 1 rfl) rfl
theorem q999 : (Jvm.Cond.laysStatic "Retouched" "ASKED" "[Ljava/lang/String;") ∈ lw_tbl := lw_at lw_m4 135 rfl
theorem q1001 : (Jvm.Cond.static ({ cls := "Retouched", name := "has", desc := "(II)Z" } : Jvm.MethodName)) ∈ lw_all := lw_g (lw_at lw_m4 137 rfl) rfl
theorem q1002 : (Jvm.Cond.code ({ cls := "Retouched", name := "has", desc := "(II)Z" } : Jvm.MethodName) prog_1_method_2_code (2 : Nat) (Option.some Jvm.ClassFile.FieldType.boolean)) ∈ lw_all := lw_g (lw_at lw_m4 138 rfl) rfl
theorem q1014 : (Jvm.Cond.laysStatic "Retouched" "LOOKED" "[Ljava/lang/String;") ∈ lw_tbl := lw_at lw_m4 150 rfl
theorem q1174 : (Jvm.Cond.methodLink "Retouched" (134 : Nat) ({ cls := "Retouched$State", name := "begins", desc := "()V" } : Jvm.MethodName)) ∈ lw_all := lw_g (lw_at lw_m5 70 rfl) rfl
theorem q1179 : (Jvm.Cond.privateMethod ({ cls := "Retouched", name := "people", desc := "()I" } : Jvm.MethodName)) ∈ lw_tbl := lw_at lw_m5 75 rfl
theorem q1180 : (Jvm.Cond.instanceMethod ({ cls := "Retouched", name := "people", desc := "()I" } : Jvm.MethodName)) ∈ lw_all := lw_g (lw_at lw_m5 76 rfl) rfl
theorem q1181 : (Jvm.Cond.code ({ cls := "Retouched", name := "people", desc := "()I" } : Jvm.MethodName) prog_1_method_16_code (1 : Nat) (Option.some Jvm.ClassFile.FieldType.int)) ∈ lw_all := lw_g (lw_at lw_m5 77 rfl) rfl
theorem q1182 : (Jvm.Cond.interfaceEntry "Retouched" (153 : Nat)) ∈ lw_tbl := lw_at lw_m5 78 rfl
theorem q1183 : (Jvm.Cond.methodLink "Retouched" (153 : Nat) ({ cls := "java/util/List", name := "size", desc := "()I" } : Jvm.MethodName)) ∈ lw_all := lw_g (lw_at lw_m5 79 rfl) rfl
theorem q1185 : (Jvm.Cond.privateMethod ({ cls := "Retouched", name := "soulOf", desc := "(I)LRetouched$Soul;" } : Jvm.MethodName)) ∈ lw_tbl := lw_at lw_m5 81 rfl
theorem q1186 : (Jvm.Cond.instanceMethod ({ cls := "Retouched", name := "soulOf", desc := "(I)LRetouched$Soul;" } : Jvm.MethodName)) ∈ lw_all := lw_g (lw_at lw_m5 82 rfl) rfl
theorem q1187 : (Jvm.Cond.code ({ cls := "Retouched", name := "soulOf", desc := "(I)LRetouched$Soul;" } : Jvm.MethodName) prog_1_method_20_code (2 : Nat) (Option.some (Jvm.ClassFile.FieldType.object "Retouched$Soul"))) ∈ lw_all := lw_g (lw_at lw_m5 83 rfl) rfl
theorem q1188 : (Jvm.Cond.interfaceEntry "Retouched" (165 : Nat)) ∈ lw_tbl := lw_at lw_m5 84 rfl
theorem q1189 : (Jvm.Cond.methodLink "Retouched" (165 : Nat) ({ cls := "java/util/List", name := "get", desc := "(I)Ljava/lang/Object;" } : Jvm.MethodName)) ∈ lw_all := lw_g (lw_at lw_m5 85 rfl) rfl
theorem q1190 : (Jvm.Cond.classLink "Retouched" (169 : Nat) "Retouched$Soul") ∈ lw_all := lw_g (lw_at lw_m5 86 rfl) rfl
theorem q1192 : (Jvm.Cond.instanceMethod ({ cls := "Retouched", name := "fault", desc := "(I)I" } : Jvm.MethodName)) ∈ lw_all := lw_g (lw_at lw_m5 88 rfl) rfl
theorem q1193 : (Jvm.Cond.selects "Retouched" ({ cls := "Retouched", name := "fault", desc := "(I)I" } : Jvm.MethodName) ({ cls := "Retouched", name := "fault", desc := "(I)I" } : Jvm.MethodName)) ∈ lw_all := lw_g (lw_at lw_m5 89 rfl) rfl
theorem q1194 : (Jvm.Cond.code ({ cls := "Retouched", name := "fault", desc := "(I)I" } : Jvm.MethodName) prog_1_method_14_code (2 : Nat) (Option.some Jvm.ClassFile.FieldType.int)) ∈ lw_all := lw_g (lw_at lw_m5 90 rfl) rfl
theorem q1196 : (Jvm.Cond.instanceMethod ({ cls := "Retouched", name := "has", desc := "(I)I" } : Jvm.MethodName)) ∈ lw_all := lw_g (lw_at lw_m5 92 rfl) rfl
theorem q1197 : (Jvm.Cond.selects "Retouched" ({ cls := "Retouched", name := "has", desc := "(I)I" } : Jvm.MethodName) ({ cls := "Retouched", name := "has", desc := "(I)I" } : Jvm.MethodName)) ∈ lw_all := lw_g (lw_at lw_m5 93 rfl) rfl
theorem q1198 : (Jvm.Cond.code ({ cls := "Retouched", name := "has", desc := "(I)I" } : Jvm.MethodName) prog_1_method_21_code (4 : Nat) (Option.some Jvm.ClassFile.FieldType.int)) ∈ lw_all := lw_g (lw_at lw_m5 94 rfl) rfl
theorem q1199 : (Jvm.Cond.methodLink "Retouched" (158 : Nat) ({ cls := "Retouched", name := "people", desc := "()I" } : Jvm.MethodName)) ∈ lw_all := lw_g (lw_at lw_m5 95 rfl) rfl
theorem q1200 : (Jvm.Cond.methodLink "Retouched" (181 : Nat) ({ cls := "Retouched$State", name := "feud", desc := "(I)Z" } : Jvm.MethodName)) ∈ lw_all := lw_g (lw_at lw_m5 96 rfl) rfl
theorem q1239 : (Jvm.Cond.static ({ cls := "Retouched", name := "held", desc := "(J)J" } : Jvm.MethodName)) ∈ lw_all := lw_g (lw_at lw_m5 135 rfl) rfl
theorem q1240 : (Jvm.Cond.code ({ cls := "Retouched", name := "held", desc := "(J)J" } : Jvm.MethodName) prog_1_method_3_code (2 : Nat) (Option.some Jvm.ClassFile.FieldType.long)) ∈ lw_all := lw_g (lw_at lw_m5 136 rfl) rfl
theorem q1241 : (Jvm.Cond.constantLong "Retouched" (3 : Nat) (-1000000 : Int64)) ∈ lw_all := lw_g (lw_at lw_m5 137 rfl) rfl
theorem q1242 : (Jvm.Cond.constantLong "Retouched" (5 : Nat) (1000000 : Int64)) ∈ lw_all := lw_g (lw_at lw_m5 138 rfl) rfl
theorem q1243 : (Jvm.Cond.methodLink "Retouched" (7 : Nat) ({ cls := "java/lang/Math", name := "min", desc := "(JJ)J" } : Jvm.MethodName)) ∈ lw_all := lw_g (lw_at lw_m5 139 rfl) rfl
theorem q1246 : (Jvm.Cond.methodLink "Retouched" (13 : Nat) ({ cls := "java/lang/Math", name := "max", desc := "(JJ)J" } : Jvm.MethodName)) ∈ lw_all := lw_g (lw_at lw_m5 142 rfl) rfl
theorem q1265 : (Jvm.Cond.privateMethod ({ cls := "Retouched", name := "looked", desc := "(IJ)J" } : Jvm.MethodName)) ∈ lw_tbl := lw_at lw_m5 161 rfl
theorem q1266 : (Jvm.Cond.instanceMethod ({ cls := "Retouched", name := "looked", desc := "(IJ)J" } : Jvm.MethodName)) ∈ lw_all := lw_g (lw_at lw_m5 162 rfl) rfl
theorem q1267 : (Jvm.Cond.code ({ cls := "Retouched", name := "looked", desc := "(IJ)J" } : Jvm.MethodName) prog_1_method_55_code (4 : Nat) (Option.some Jvm.ClassFile.FieldType.long)) ∈ lw_all := lw_g (lw_at lw_m5 163 rfl) rfl
theorem q1293 : (Jvm.Cond.methodLink "Retouched" (184 : Nat) ({ cls := "Retouched$State", name := "looks", desc := "()I" } : Jvm.MethodName)) ∈ lw_all := lw_g (lw_at lw_m5 189 rfl) rfl
theorem q1298 : (Jvm.Cond.instanceMethod ({ cls := "Retouched", name := "letter", desc := "(II)I" } : Jvm.MethodName)) ∈ lw_all := lw_g (lw_at lw_m5 194 rfl) rfl
theorem q1299 : (Jvm.Cond.selects "Retouched" ({ cls := "Retouched", name := "letter", desc := "(II)I" } : Jvm.MethodName) ({ cls := "Retouched", name := "letter", desc := "(II)I" } : Jvm.MethodName)) ∈ lw_all := lw_g (lw_at lw_m5 195 rfl) rfl
theorem q1300 : (Jvm.Cond.code ({ cls := "Retouched", name := "letter", desc := "(II)I" } : Jvm.MethodName) prog_1_method_22_code (3 : Nat) (Option.some Jvm.ClassFile.FieldType.int)) ∈ lw_all := lw_g (lw_at lw_m5 196 rfl) rfl
theorem q1301 : (Jvm.Cond.methodLink "Retouched" (161 : Nat) ({ cls := "Retouched", name := "isPerson", desc := "(I)Z" } : Jvm.MethodName)) ∈ lw_all := lw_g (lw_at lw_m5 197 rfl) rfl
theorem q1302 : (Jvm.Cond.privateMethod ({ cls := "Retouched", name := "isPerson", desc := "(I)Z" } : Jvm.MethodName)) ∈ lw_tbl := lw_at lw_m5 198 rfl
theorem q1303 : (Jvm.Cond.instanceMethod ({ cls := "Retouched", name := "isPerson", desc := "(I)Z" } : Jvm.MethodName)) ∈ lw_all := lw_g (lw_at lw_m5 199 rfl) rfl
theorem q1304 : (Jvm.Cond.code ({ cls := "Retouched", name := "isPerson", desc := "(I)Z" } : Jvm.MethodName) prog_1_method_17_code (2 : Nat) (Option.some Jvm.ClassFile.FieldType.boolean)) ∈ lw_all := lw_g (lw_at lw_m5 200 rfl) rfl
theorem q1305 : (Jvm.Cond.methodLink "Retouched" (190 : Nat) ({ cls := "Retouched", name := "is", desc := "(III)Z" } : Jvm.MethodName)) ∈ lw_all := lw_g (lw_at lw_m5 201 rfl) rfl
theorem q1306 : (Jvm.Cond.methodLink "Retouched" (194 : Nat) ({ cls := "Retouched", name := "soulOf", desc := "(I)LRetouched$Soul;" } : Jvm.MethodName)) ∈ lw_all := lw_g (lw_at lw_m5 202 rfl) rfl
theorem q1307 : (Jvm.Cond.methodLink "Retouched" (198 : Nat) ({ cls := "Retouched$Soul", name := "letter", desc := "(I)I" } : Jvm.MethodName)) ∈ lw_all := lw_g (lw_at lw_m5 203 rfl) rfl
theorem q1324 : (Jvm.Cond.instanceMethod ({ cls := "Retouched", name := "house", desc := "(I)I" } : Jvm.MethodName)) ∈ lw_all := lw_g (lw_at lw_m5 220 rfl) rfl
theorem q1325 : (Jvm.Cond.selects "Retouched" ({ cls := "Retouched", name := "house", desc := "(I)I" } : Jvm.MethodName) ({ cls := "Retouched", name := "house", desc := "(I)I" } : Jvm.MethodName)) ∈ lw_all := lw_g (lw_at lw_m5 221 rfl) rfl
theorem q1326 : (Jvm.Cond.code ({ cls := "Retouched", name := "house", desc := "(I)I" } : Jvm.MethodName) prog_1_method_23_code (2 : Nat) (Option.some Jvm.ClassFile.FieldType.int)) ∈ lw_all := lw_g (lw_at lw_m5 222 rfl) rfl
theorem q1327 : (Jvm.Cond.methodLink "Retouched" (201 : Nat) ({ cls := "Retouched", name := "isHouse", desc := "(I)Z" } : Jvm.MethodName)) ∈ lw_all := lw_g (lw_at lw_m5 223 rfl) rfl
theorem q1328 : (Jvm.Cond.privateMethod ({ cls := "Retouched", name := "isHouse", desc := "(I)Z" } : Jvm.MethodName)) ∈ lw_tbl := lw_at lw_m5 224 rfl
theorem q1329 : (Jvm.Cond.instanceMethod ({ cls := "Retouched", name := "isHouse", desc := "(I)Z" } : Jvm.MethodName)) ∈ lw_all := lw_g (lw_at lw_m5 225 rfl) rfl
theorem q1330 : (Jvm.Cond.code ({ cls := "Retouched", name := "isHouse", desc := "(I)Z" } : Jvm.MethodName) prog_1_method_18_code (2 : Nat) (Option.some Jvm.ClassFile.FieldType.boolean)) ∈ lw_all := lw_g (lw_at lw_m5 226 rfl) rfl
theorem q1331 : (Jvm.Cond.methodLink "Retouched" (204 : Nat) ({ cls := "Retouched$State", name := "who", desc := "(I)I" } : Jvm.MethodName)) ∈ lw_all := lw_g (lw_at lw_m5 227 rfl) rfl
theorem q1333 : (Jvm.Cond.instanceMethod ({ cls := "Retouched", name := "person", desc := "(II)I" } : Jvm.MethodName)) ∈ lw_all := lw_g (lw_at lw_m5 229 rfl) rfl
theorem q1334 : (Jvm.Cond.selects "Retouched" ({ cls := "Retouched", name := "person", desc := "(II)I" } : Jvm.MethodName) ({ cls := "Retouched", name := "person", desc := "(II)I" } : Jvm.MethodName)) ∈ lw_all := lw_g (lw_at lw_m5 230 rfl) rfl
theorem q1335 : (Jvm.Cond.code ({ cls := "Retouched", name := "person", desc := "(II)I" } : Jvm.MethodName) prog_1_method_24_code (3 : Nat) (Option.some Jvm.ClassFile.FieldType.int)) ∈ lw_all := lw_g (lw_at lw_m5 231 rfl) rfl
theorem q1336 : (Jvm.Cond.methodLink "Retouched" (215 : Nat) ({ cls := "Retouched$State", name := "beside", desc := "(II)I" } : Jvm.MethodName)) ∈ lw_all := lw_g (lw_at lw_m5 232 rfl) rfl
theorem q1341 : (Jvm.Cond.instanceMethod ({ cls := "Retouched", name := "thinks", desc := "(II)I" } : Jvm.MethodName)) ∈ lw_all := lw_g (lw_at lw_m5 237 rfl) rfl
theorem q1342 : (Jvm.Cond.selects "Retouched" ({ cls := "Retouched", name := "thinks", desc := "(II)I" } : Jvm.MethodName) ({ cls := "Retouched", name := "thinks", desc := "(II)I" } : Jvm.MethodName)) ∈ lw_all := lw_g (lw_at lw_m5 238 rfl) rfl
theorem q1343 : (Jvm.Cond.code ({ cls := "Retouched", name := "thinks", desc := "(II)I" } : Jvm.MethodName) prog_1_method_25_code (3 : Nat) (Option.some Jvm.ClassFile.FieldType.int)) ∈ lw_all := lw_g (lw_at lw_m5 239 rfl) rfl
theorem q1344 : (Jvm.Cond.methodLink "Retouched" (219 : Nat) ({ cls := "Retouched", name := "areTwo", desc := "(II)Z" } : Jvm.MethodName)) ∈ lw_all := lw_g (lw_at lw_m6 0 rfl) rfl
theorem q1345 : (Jvm.Cond.privateMethod ({ cls := "Retouched", name := "areTwo", desc := "(II)Z" } : Jvm.MethodName)) ∈ lw_tbl := lw_at lw_m6 1 rfl
theorem q1346 : (Jvm.Cond.instanceMethod ({ cls := "Retouched", name := "areTwo", desc := "(II)Z" } : Jvm.MethodName)) ∈ lw_all := lw_g (lw_at lw_m6 2 rfl) rfl
theorem q1347 : (Jvm.Cond.code ({ cls := "Retouched", name := "areTwo", desc := "(II)Z" } : Jvm.MethodName) prog_1_method_19_code (3 : Nat) (Option.some Jvm.ClassFile.FieldType.boolean)) ∈ lw_all := lw_g (lw_at lw_m6 3 rfl) rfl
theorem q1349 : (Jvm.Cond.instanceMethod ({ cls := "Retouched", name := "paints", desc := "(II)I" } : Jvm.MethodName)) ∈ lw_all := lw_g (lw_at lw_m6 5 rfl) rfl
theorem q1350 : (Jvm.Cond.selects "Retouched" ({ cls := "Retouched", name := "paints", desc := "(II)I" } : Jvm.MethodName) ({ cls := "Retouched", name := "paints", desc := "(II)I" } : Jvm.MethodName)) ∈ lw_all := lw_g (lw_at lw_m6 6 rfl) rfl
theorem q1351 : (Jvm.Cond.code ({ cls := "Retouched", name := "paints", desc := "(II)I" } : Jvm.MethodName) prog_1_method_26_code (3 : Nat) (Option.some Jvm.ClassFile.FieldType.int)) ∈ lw_all := lw_g (lw_at lw_m6 7 rfl) rfl
theorem q1352 : (Jvm.Cond.methodLink "Retouched" (226 : Nat) ({ cls := "Retouched$State", name := "paints", desc := "(III)I" } : Jvm.MethodName)) ∈ lw_all := lw_g (lw_at lw_m6 8 rfl) rfl
theorem q1361 : (Jvm.Cond.instanceMethod ({ cls := "Retouched", name := "feud", desc := "(I)I" } : Jvm.MethodName)) ∈ lw_all := lw_g (lw_at lw_m6 17 rfl) rfl
theorem q1362 : (Jvm.Cond.selects "Retouched" ({ cls := "Retouched", name := "feud", desc := "(I)I" } : Jvm.MethodName) ({ cls := "Retouched", name := "feud", desc := "(I)I" } : Jvm.MethodName)) ∈ lw_all := lw_g (lw_at lw_m6 18 rfl) rfl
theorem q1363 : (Jvm.Cond.code ({ cls := "Retouched", name := "feud", desc := "(I)I" } : Jvm.MethodName) prog_1_method_27_code (2 : Nat) (Option.some Jvm.ClassFile.FieldType.int)) ∈ lw_all := lw_g (lw_at lw_m6 19 rfl) rfl
theorem q1365 : (Jvm.Cond.instanceMethod ({ cls := "Retouched", name := "kept", desc := "(II)I" } : Jvm.MethodName)) ∈ lw_all := lw_g (lw_at lw_m6 21 rfl) rfl
theorem q1366 : (Jvm.Cond.selects "Retouched" ({ cls := "Retouched", name := "kept", desc := "(II)I" } : Jvm.MethodName) ({ cls := "Retouched", name := "kept", desc := "(II)I" } : Jvm.MethodName)) ∈ lw_all := lw_g (lw_at lw_m6 22 rfl) rfl
theorem q1367 : (Jvm.Cond.code ({ cls := "Retouched", name := "kept", desc := "(II)I" } : Jvm.MethodName) prog_1_method_28_code (3 : Nat) (Option.some Jvm.ClassFile.FieldType.int)) ∈ lw_all := lw_g (lw_at lw_m6 23 rfl) rfl
theorem q1369 : (Jvm.Cond.instanceMethod ({ cls := "Retouched", name := "later", desc := "(II)I" } : Jvm.MethodName)) ∈ lw_all := lw_g (lw_at lw_m6 25 rfl) rfl
theorem q1370 : (Jvm.Cond.selects "Retouched" ({ cls := "Retouched", name := "later", desc := "(II)I" } : Jvm.MethodName) ({ cls := "Retouched", name := "later", desc := "(II)I" } : Jvm.MethodName)) ∈ lw_all := lw_g (lw_at lw_m6 26 rfl) rfl
theorem q1371 : (Jvm.Cond.code ({ cls := "Retouched", name := "later", desc := "(II)I" } : Jvm.MethodName) prog_1_method_30_code (3 : Nat) (Option.some Jvm.ClassFile.FieldType.int)) ∈ lw_all := lw_g (lw_at lw_m6 27 rfl) rfl
theorem q1372 : (Jvm.Cond.methodLink "Retouched" (236 : Nat) ({ cls := "Retouched", name := "isAhead", desc := "(III)Z" } : Jvm.MethodName)) ∈ lw_all := lw_g (lw_at lw_m6 28 rfl) rfl
theorem q1373 : (Jvm.Cond.privateMethod ({ cls := "Retouched", name := "isAhead", desc := "(III)Z" } : Jvm.MethodName)) ∈ lw_tbl := lw_at lw_m6 29 rfl
theorem q1374 : (Jvm.Cond.instanceMethod ({ cls := "Retouched", name := "isAhead", desc := "(III)Z" } : Jvm.MethodName)) ∈ lw_all := lw_g (lw_at lw_m6 30 rfl) rfl
theorem q1375 : (Jvm.Cond.code ({ cls := "Retouched", name := "isAhead", desc := "(III)Z" } : Jvm.MethodName) prog_1_method_29_code (4 : Nat) (Option.some Jvm.ClassFile.FieldType.boolean)) ∈ lw_all := lw_g (lw_at lw_m6 31 rfl) rfl
theorem q1376 : (Jvm.Cond.methodLink "Retouched" (232 : Nat) ({ cls := "Retouched", name := "isTerrace", desc := "()Z" } : Jvm.MethodName)) ∈ lw_all := lw_g (lw_at lw_m6 32 rfl) rfl
theorem q1377 : (Jvm.Cond.privateMethod ({ cls := "Retouched", name := "isTerrace", desc := "()Z" } : Jvm.MethodName)) ∈ lw_tbl := lw_at lw_m6 33 rfl
theorem q1378 : (Jvm.Cond.instanceMethod ({ cls := "Retouched", name := "isTerrace", desc := "()Z" } : Jvm.MethodName)) ∈ lw_all := lw_g (lw_at lw_m6 34 rfl) rfl
theorem q1379 : (Jvm.Cond.code ({ cls := "Retouched", name := "isTerrace", desc := "()Z" } : Jvm.MethodName) prog_1_method_15_code (1 : Nat) (Option.some Jvm.ClassFile.FieldType.boolean)) ∈ lw_all := lw_g (lw_at lw_m6 35 rfl) rfl
theorem q1380 : (Jvm.Cond.methodLink "Retouched" (239 : Nat) ({ cls := "Retouched$State", name := "copy", desc := "(LRetouched$State;)LRetouched$State;" } : Jvm.MethodName)) ∈ lw_all := lw_g (lw_at lw_m6 36 rfl) rfl
theorem q1384 : (Jvm.Cond.methodLink "Retouched" (243 : Nat) ({ cls := "Retouched$State", name := "years", desc := "(I)LRetouched$State;" } : Jvm.MethodName)) ∈ lw_all := lw_g (lw_at lw_m6 40 rfl) rfl
theorem q1408 : (Jvm.Cond.instanceMethod ({ cls := "Retouched", name := "mind", desc := "(III)I" } : Jvm.MethodName)) ∈ lw_all := lw_g (lw_at lw_m6 64 rfl) rfl
theorem q1409 : (Jvm.Cond.selects "Retouched" ({ cls := "Retouched", name := "mind", desc := "(III)I" } : Jvm.MethodName) ({ cls := "Retouched", name := "mind", desc := "(III)I" } : Jvm.MethodName)) ∈ lw_all := lw_g (lw_at lw_m6 65 rfl) rfl
theorem q1410 : (Jvm.Cond.code ({ cls := "Retouched", name := "mind", desc := "(III)I" } : Jvm.MethodName) prog_1_method_31_code (4 : Nat) (Option.some Jvm.ClassFile.FieldType.int)) ∈ lw_all := lw_g (lw_at lw_m6 66 rfl) rfl
theorem q1412 : (Jvm.Cond.instanceMethod ({ cls := "Retouched", name := "curtain", desc := "(I)I" } : Jvm.MethodName)) ∈ lw_all := lw_g (lw_at lw_m6 68 rfl) rfl
theorem q1413 : (Jvm.Cond.selects "Retouched" ({ cls := "Retouched", name := "curtain", desc := "(I)I" } : Jvm.MethodName) ({ cls := "Retouched", name := "curtain", desc := "(I)I" } : Jvm.MethodName)) ∈ lw_all := lw_g (lw_at lw_m6 69 rfl) rfl
theorem q1414 : (Jvm.Cond.code ({ cls := "Retouched", name := "curtain", desc := "(I)I" } : Jvm.MethodName) prog_1_method_32_code (3 : Nat) (Option.some Jvm.ClassFile.FieldType.int)) ∈ lw_all := lw_g (lw_at lw_m6 70 rfl) rfl
theorem q1415 : (Jvm.Cond.methodLink "Retouched" (247 : Nat) ({ cls := "Retouched$State", name := "passes", desc := "()I" } : Jvm.MethodName)) ∈ lw_all := lw_g (lw_at lw_m6 71 rfl) rfl
theorem q1417 : (Jvm.Cond.instanceMethod ({ cls := "Retouched", name := "changed", desc := "(II)I" } : Jvm.MethodName)) ∈ lw_all := lw_g (lw_at lw_m6 73 rfl) rfl
theorem q1418 : (Jvm.Cond.selects "Retouched" ({ cls := "Retouched", name := "changed", desc := "(II)I" } : Jvm.MethodName) ({ cls := "Retouched", name := "changed", desc := "(II)I" } : Jvm.MethodName)) ∈ lw_all := lw_g (lw_at lw_m6 74 rfl) rfl
theorem q1419 : (Jvm.Cond.code ({ cls := "Retouched", name := "changed", desc := "(II)I" } : Jvm.MethodName) prog_1_method_33_code (9 : Nat) (Option.some Jvm.ClassFile.FieldType.int)) ∈ lw_all := lw_g (lw_at lw_m6 75 rfl) rfl
theorem q1420 : (Jvm.Cond.methodLink "Retouched" (250 : Nat) ({ cls := "Retouched$State", name := "changes", desc := "(II)LRetouched$State;" } : Jvm.MethodName)) ∈ lw_all := lw_g (lw_at lw_m6 76 rfl) rfl
theorem q1425 : (Jvm.Cond.instanceMethod ({ cls := "Retouched", name := "stranger", desc := "(IIII)I" } : Jvm.MethodName)) ∈ lw_all := lw_g (lw_at lw_m6 81 rfl) rfl
theorem q1426 : (Jvm.Cond.selects "Retouched" ({ cls := "Retouched", name := "stranger", desc := "(IIII)I" } : Jvm.MethodName) ({ cls := "Retouched", name := "stranger", desc := "(IIII)I" } : Jvm.MethodName)) ∈ lw_all := lw_g (lw_at lw_m6 82 rfl) rfl
theorem q1427 : (Jvm.Cond.code ({ cls := "Retouched", name := "stranger", desc := "(IIII)I" } : Jvm.MethodName) prog_1_method_34_code (9 : Nat) (Option.some Jvm.ClassFile.FieldType.int)) ∈ lw_all := lw_g (lw_at lw_m6 83 rfl) rfl
theorem q1428 : (Jvm.Cond.methodLink "Retouched" (254 : Nat) ({ cls := "Retouched$State", name := "comes", desc := "(III)LRetouched$State;" } : Jvm.MethodName)) ∈ lw_all := lw_g (lw_at lw_m6 84 rfl) rfl
theorem q1433 : (Jvm.Cond.instanceMethod ({ cls := "Retouched", name := "parted", desc := "()I" } : Jvm.MethodName)) ∈ lw_all := lw_g (lw_at lw_m6 89 rfl) rfl
theorem q1434 : (Jvm.Cond.selects "Retouched" ({ cls := "Retouched", name := "parted", desc := "()I" } : Jvm.MethodName) ({ cls := "Retouched", name := "parted", desc := "()I" } : Jvm.MethodName)) ∈ lw_all := lw_g (lw_at lw_m6 90 rfl) rfl
theorem q1435 : (Jvm.Cond.code ({ cls := "Retouched", name := "parted", desc := "()I" } : Jvm.MethodName) prog_1_method_37_code (3 : Nat) (Option.some Jvm.ClassFile.FieldType.int)) ∈ lw_all := lw_g (lw_at lw_m6 91 rfl) rfl
theorem q1436 : (Jvm.Cond.methodLink "Retouched" (266 : Nat) ({ cls := "Retouched", name := "isFewer", desc := "(II)Z" } : Jvm.MethodName)) ∈ lw_all := lw_g (lw_at lw_m6 92 rfl) rfl
theorem q1437 : (Jvm.Cond.static ({ cls := "Retouched", name := "isFewer", desc := "(II)Z" } : Jvm.MethodName)) ∈ lw_all := lw_g (lw_at lw_m6 93 rfl) rfl
theorem q1438 : (Jvm.Cond.code ({ cls := "Retouched", name := "isFewer", desc := "(II)Z" } : Jvm.MethodName) prog_1_method_36_code (2 : Nat) (Option.some Jvm.ClassFile.FieldType.boolean)) ∈ lw_all := lw_g (lw_at lw_m6 94 rfl) rfl
theorem q1439 : (Jvm.Cond.methodLink "Retouched" (261 : Nat) ({ cls := "java/lang/Integer", name := "bitCount", desc := "(I)I" } : Jvm.MethodName)) ∈ lw_all := lw_g (lw_at lw_m6 95 rfl) rfl
theorem q1445 : (Jvm.Cond.methodLink "Retouched" (269 : Nat) ({ cls := "Retouched", name := "isParted", desc := "(I)Z" } : Jvm.MethodName)) ∈ lw_all := lw_g (lw_at lw_m6 101 rfl) rfl
theorem q1446 : (Jvm.Cond.privateMethod ({ cls := "Retouched", name := "isParted", desc := "(I)Z" } : Jvm.MethodName)) ∈ lw_tbl := lw_at lw_m6 102 rfl
theorem q1447 : (Jvm.Cond.instanceMethod ({ cls := "Retouched", name := "isParted", desc := "(I)Z" } : Jvm.MethodName)) ∈ lw_all := lw_g (lw_at lw_m6 103 rfl) rfl
theorem q1448 : (Jvm.Cond.code ({ cls := "Retouched", name := "isParted", desc := "(I)Z" } : Jvm.MethodName) prog_1_method_35_code (3 : Nat) (Option.some Jvm.ClassFile.FieldType.boolean)) ∈ lw_all := lw_g (lw_at lw_m6 104 rfl) rfl
theorem q1449 : (Jvm.Cond.methodLink "Retouched" (258 : Nat) ({ cls := "Retouched", name := "has", desc := "(II)Z" } : Jvm.MethodName)) ∈ lw_all := lw_g (lw_at lw_m6 105 rfl) rfl
theorem q1451 : (Jvm.Cond.instanceMethod ({ cls := "Retouched", name := "rest", desc := "(I)I" } : Jvm.MethodName)) ∈ lw_all := lw_g (lw_at lw_m6 107 rfl) rfl
theorem q1452 : (Jvm.Cond.selects "Retouched" ({ cls := "Retouched", name := "rest", desc := "(I)I" } : Jvm.MethodName) ({ cls := "Retouched", name := "rest", desc := "(I)I" } : Jvm.MethodName)) ∈ lw_all := lw_g (lw_at lw_m6 108 rfl) rfl
theorem q1453 : (Jvm.Cond.code ({ cls := "Retouched", name := "rest", desc := "(I)I" } : Jvm.MethodName) prog_1_method_39_code (4 : Nat) (Option.some Jvm.ClassFile.FieldType.int)) ∈ lw_all := lw_g (lw_at lw_m6 109 rfl) rfl
theorem q1454 : (Jvm.Cond.methodLink "Retouched" (272 : Nat) ({ cls := "Retouched", name := "isRest", desc := "(I)Z" } : Jvm.MethodName)) ∈ lw_all := lw_g (lw_at lw_m6 110 rfl) rfl
theorem q1455 : (Jvm.Cond.privateMethod ({ cls := "Retouched", name := "isRest", desc := "(I)Z" } : Jvm.MethodName)) ∈ lw_tbl := lw_at lw_m6 111 rfl
theorem q1456 : (Jvm.Cond.instanceMethod ({ cls := "Retouched", name := "isRest", desc := "(I)Z" } : Jvm.MethodName)) ∈ lw_all := lw_g (lw_at lw_m6 112 rfl) rfl
theorem q1457 : (Jvm.Cond.code ({ cls := "Retouched", name := "isRest", desc := "(I)Z" } : Jvm.MethodName) prog_1_method_38_code (3 : Nat) (Option.some Jvm.ClassFile.FieldType.boolean)) ∈ lw_all := lw_g (lw_at lw_m6 113 rfl) rfl
theorem q1459 : (Jvm.Cond.instanceMethod ({ cls := "Retouched", name := "see", desc := "()I" } : Jvm.MethodName)) ∈ lw_all := lw_g (lw_at lw_m6 115 rfl) rfl
theorem q1460 : (Jvm.Cond.selects "Retouched" ({ cls := "Retouched", name := "see", desc := "()I" } : Jvm.MethodName) ({ cls := "Retouched", name := "see", desc := "()I" } : Jvm.MethodName)) ∈ lw_all := lw_g (lw_at lw_m6 116 rfl) rfl
theorem q1461 : (Jvm.Cond.code ({ cls := "Retouched", name := "see", desc := "()I" } : Jvm.MethodName) prog_1_method_41_code (4 : Nat) (Option.some Jvm.ClassFile.FieldType.int)) ∈ lw_all := lw_g (lw_at lw_m6 117 rfl) rfl
theorem q1462 : (Jvm.Cond.methodLink "Retouched" (275 : Nat) ({ cls := "Retouched", name := "byteAt", desc := "(I)I" } : Jvm.MethodName)) ∈ lw_all := lw_g (lw_at lw_m6 118 rfl) rfl
theorem q1463 : (Jvm.Cond.privateMethod ({ cls := "Retouched", name := "byteAt", desc := "(I)I" } : Jvm.MethodName)) ∈ lw_tbl := lw_at lw_m6 119 rfl
theorem q1464 : (Jvm.Cond.instanceMethod ({ cls := "Retouched", name := "byteAt", desc := "(I)I" } : Jvm.MethodName)) ∈ lw_all := lw_g (lw_at lw_m6 120 rfl) rfl
theorem q1465 : (Jvm.Cond.code ({ cls := "Retouched", name := "byteAt", desc := "(I)I" } : Jvm.MethodName) prog_1_method_40_code (2 : Nat) (Option.some Jvm.ClassFile.FieldType.int)) ∈ lw_all := lw_g (lw_at lw_m6 121 rfl) rfl
theorem q1467 : (Jvm.Cond.instanceMethod ({ cls := "Retouched", name := "thoughts", desc := "(II)I" } : Jvm.MethodName)) ∈ lw_all := lw_g (lw_at lw_m6 123 rfl) rfl
theorem q1468 : (Jvm.Cond.selects "Retouched" ({ cls := "Retouched", name := "thoughts", desc := "(II)I" } : Jvm.MethodName) ({ cls := "Retouched", name := "thoughts", desc := "(II)I" } : Jvm.MethodName)) ∈ lw_all := lw_g (lw_at lw_m6 124 rfl) rfl
theorem q1469 : (Jvm.Cond.code ({ cls := "Retouched", name := "thoughts", desc := "(II)I" } : Jvm.MethodName) prog_1_method_43_code (5 : Nat) (Option.some Jvm.ClassFile.FieldType.int)) ∈ lw_all := lw_g (lw_at lw_m6 125 rfl) rfl
theorem q1470 : (Jvm.Cond.methodLink "Retouched" (278 : Nat) ({ cls := "Retouched", name := "isSeen", desc := "(II)Z" } : Jvm.MethodName)) ∈ lw_all := lw_g (lw_at lw_m6 126 rfl) rfl
theorem q1471 : (Jvm.Cond.privateMethod ({ cls := "Retouched", name := "isSeen", desc := "(II)Z" } : Jvm.MethodName)) ∈ lw_tbl := lw_at lw_m6 127 rfl
theorem q1472 : (Jvm.Cond.instanceMethod ({ cls := "Retouched", name := "isSeen", desc := "(II)Z" } : Jvm.MethodName)) ∈ lw_all := lw_g (lw_at lw_m6 128 rfl) rfl
theorem q1473 : (Jvm.Cond.code ({ cls := "Retouched", name := "isSeen", desc := "(II)Z" } : Jvm.MethodName) prog_1_method_42_code (6 : Nat) (Option.some Jvm.ClassFile.FieldType.boolean)) ∈ lw_all := lw_g (lw_at lw_m6 129 rfl) rfl
theorem q1475 : (Jvm.Cond.instanceMethod ({ cls := "Retouched", name := "faces", desc := "(I)I" } : Jvm.MethodName)) ∈ lw_all := lw_g (lw_at lw_m6 131 rfl) rfl
theorem q1476 : (Jvm.Cond.selects "Retouched" ({ cls := "Retouched", name := "faces", desc := "(I)I" } : Jvm.MethodName) ({ cls := "Retouched", name := "faces", desc := "(I)I" } : Jvm.MethodName)) ∈ lw_all := lw_g (lw_at lw_m6 132 rfl) rfl
theorem q1477 : (Jvm.Cond.code ({ cls := "Retouched", name := "faces", desc := "(I)I" } : Jvm.MethodName) prog_1_method_44_code (4 : Nat) (Option.some Jvm.ClassFile.FieldType.int)) ∈ lw_all := lw_g (lw_at lw_m6 133 rfl) rfl
theorem q1479 : (Jvm.Cond.instanceMethod ({ cls := "Retouched", name := "tells", desc := "(III)I" } : Jvm.MethodName)) ∈ lw_all := lw_g (lw_at lw_m6 135 rfl) rfl
theorem q1480 : (Jvm.Cond.selects "Retouched" ({ cls := "Retouched", name := "tells", desc := "(III)I" } : Jvm.MethodName) ({ cls := "Retouched", name := "tells", desc := "(III)I" } : Jvm.MethodName)) ∈ lw_all := lw_g (lw_at lw_m6 136 rfl) rfl
theorem q1481 : (Jvm.Cond.code ({ cls := "Retouched", name := "tells", desc := "(III)I" } : Jvm.MethodName) prog_1_method_45_code (12 : Nat) (Option.some Jvm.ClassFile.FieldType.int)) ∈ lw_all := lw_g (lw_at lw_m6 137 rfl) rfl
theorem q1482 : (Jvm.Cond.methodLink "Retouched" (281 : Nat) ({ cls := "Retouched", name := "thoughts", desc := "(II)I" } : Jvm.MethodName)) ∈ lw_all := lw_g (lw_at lw_m6 138 rfl) rfl
theorem q1483 : (Jvm.Cond.constant "Retouched" (284 : Nat) (100000000 : Int32)) ∈ lw_all := lw_g (lw_at lw_m6 139 rfl) rfl
theorem q1484 : (Jvm.Cond.methodLink "Retouched" (285 : Nat) ({ cls := "java/lang/Math", name := "max", desc := "(II)I" } : Jvm.MethodName)) ∈ lw_all := lw_g (lw_at lw_m6 140 rfl) rfl
theorem q1486 : (Jvm.Cond.instanceMethod ({ cls := "Retouched", name := "undo", desc := "()Z" } : Jvm.MethodName)) ∈ lw_all := lw_g (lw_at lw_m6 142 rfl) rfl
theorem q1487 : (Jvm.Cond.selects "Retouched" ({ cls := "Retouched", name := "undo", desc := "()Z" } : Jvm.MethodName) ({ cls := "Retouched", name := "undo", desc := "()Z" } : Jvm.MethodName)) ∈ lw_all := lw_g (lw_at lw_m6 143 rfl) rfl
theorem q1488 : (Jvm.Cond.code ({ cls := "Retouched", name := "undo", desc := "()Z" } : Jvm.MethodName) prog_1_method_47_code (1 : Nat) (Option.some Jvm.ClassFile.FieldType.boolean)) ∈ lw_all := lw_g (lw_at lw_m6 144 rfl) rfl
theorem q1490 : (Jvm.Cond.instanceMethod ({ cls := "Retouched", name := "change", desc := "(II)Z" } : Jvm.MethodName)) ∈ lw_all := lw_g (lw_at lw_m6 146 rfl) rfl
theorem q1491 : (Jvm.Cond.selects "Retouched" ({ cls := "Retouched", name := "change", desc := "(II)Z" } : Jvm.MethodName) ({ cls := "Retouched", name := "change", desc := "(II)Z" } : Jvm.MethodName)) ∈ lw_all := lw_g (lw_at lw_m6 147 rfl) rfl
theorem q1492 : (Jvm.Cond.code ({ cls := "Retouched", name := "change", desc := "(II)Z" } : Jvm.MethodName) prog_1_method_48_code (3 : Nat) (Option.some Jvm.ClassFile.FieldType.boolean)) ∈ lw_all := lw_g (lw_at lw_m6 148 rfl) rfl
theorem q1493 : (Jvm.Cond.methodLink "Retouched" (287 : Nat) ({ cls := "Retouched", name := "keeps", desc := "()V" } : Jvm.MethodName)) ∈ lw_all := lw_g (lw_at lw_m6 149 rfl) rfl
theorem q1494 : (Jvm.Cond.privateMethod ({ cls := "Retouched", name := "keeps", desc := "()V" } : Jvm.MethodName)) ∈ lw_tbl := lw_at lw_m6 150 rfl
theorem q1495 : (Jvm.Cond.instanceMethod ({ cls := "Retouched", name := "keeps", desc := "()V" } : Jvm.MethodName)) ∈ lw_all := lw_g (lw_at lw_m6 151 rfl) rfl
theorem q1496 : (Jvm.Cond.code ({ cls := "Retouched", name := "keeps", desc := "()V" } : Jvm.MethodName) prog_1_method_46_code (3 : Nat) (Option.none : Option Jvm.ClassFile.FieldType)) ∈ lw_all := lw_g (lw_at lw_m6 152 rfl) rfl
theorem q1498 : (Jvm.Cond.instanceMethod ({ cls := "Retouched", name := "right", desc := "(I)Z" } : Jvm.MethodName)) ∈ lw_all := lw_g (lw_at lw_m6 154 rfl) rfl
theorem q1499 : (Jvm.Cond.selects "Retouched" ({ cls := "Retouched", name := "right", desc := "(I)Z" } : Jvm.MethodName) ({ cls := "Retouched", name := "right", desc := "(I)Z" } : Jvm.MethodName)) ∈ lw_all := lw_g (lw_at lw_m6 155 rfl) rfl
theorem q1500 : (Jvm.Cond.code ({ cls := "Retouched", name := "right", desc := "(I)Z" } : Jvm.MethodName) prog_1_method_49_code (2 : Nat) (Option.some Jvm.ClassFile.FieldType.boolean)) ∈ lw_all := lw_g (lw_at lw_m6 156 rfl) rfl
theorem q1502 : (Jvm.Cond.instanceMethod ({ cls := "Retouched", name := "spare", desc := "(II)Z" } : Jvm.MethodName)) ∈ lw_all := lw_g (lw_at lw_m6 158 rfl) rfl
theorem q1503 : (Jvm.Cond.selects "Retouched" ({ cls := "Retouched", name := "spare", desc := "(II)Z" } : Jvm.MethodName) ({ cls := "Retouched", name := "spare", desc := "(II)Z" } : Jvm.MethodName)) ∈ lw_all := lw_g (lw_at lw_m6 159 rfl) rfl
theorem q1504 : (Jvm.Cond.code ({ cls := "Retouched", name := "spare", desc := "(II)Z" } : Jvm.MethodName) prog_1_method_50_code (3 : Nat) (Option.some Jvm.ClassFile.FieldType.boolean)) ∈ lw_all := lw_g (lw_at lw_m6 160 rfl) rfl
theorem q1506 : (Jvm.Cond.instanceMethod ({ cls := "Retouched", name := "years", desc := "(I)I" } : Jvm.MethodName)) ∈ lw_all := lw_g (lw_at lw_m6 162 rfl) rfl
theorem q1507 : (Jvm.Cond.selects "Retouched" ({ cls := "Retouched", name := "years", desc := "(I)I" } : Jvm.MethodName) ({ cls := "Retouched", name := "years", desc := "(I)I" } : Jvm.MethodName)) ∈ lw_all := lw_g (lw_at lw_m6 163 rfl) rfl
theorem q1508 : (Jvm.Cond.code ({ cls := "Retouched", name := "years", desc := "(I)I" } : Jvm.MethodName) prog_1_method_51_code (4 : Nat) (Option.some Jvm.ClassFile.FieldType.int)) ∈ lw_all := lw_g (lw_at lw_m6 164 rfl) rfl
theorem q1510 : (Jvm.Cond.instanceMethod ({ cls := "Retouched", name := "chance", desc := "(I)I" } : Jvm.MethodName)) ∈ lw_all := lw_g (lw_at lw_m6 166 rfl) rfl
theorem q1511 : (Jvm.Cond.selects "Retouched" ({ cls := "Retouched", name := "chance", desc := "(I)I" } : Jvm.MethodName) ({ cls := "Retouched", name := "chance", desc := "(I)I" } : Jvm.MethodName)) ∈ lw_all := lw_g (lw_at lw_m6 167 rfl) rfl
theorem q1512 : (Jvm.Cond.code ({ cls := "Retouched", name := "chance", desc := "(I)I" } : Jvm.MethodName) prog_1_method_53_code (5 : Nat) (Option.some Jvm.ClassFile.FieldType.int)) ∈ lw_all := lw_g (lw_at lw_m6 168 rfl) rfl
theorem q1513 : (Jvm.Cond.methodLink "Retouched" (297 : Nat) ({ cls := "Retouched", name := "draw", desc := "(I)I" } : Jvm.MethodName)) ∈ lw_all := lw_g (lw_at lw_m6 169 rfl) rfl
theorem q1514 : (Jvm.Cond.privateMethod ({ cls := "Retouched", name := "draw", desc := "(I)I" } : Jvm.MethodName)) ∈ lw_tbl := lw_at lw_m6 170 rfl
theorem q1515 : (Jvm.Cond.instanceMethod ({ cls := "Retouched", name := "draw", desc := "(I)I" } : Jvm.MethodName)) ∈ lw_all := lw_g (lw_at lw_m6 171 rfl) rfl
theorem q1516 : (Jvm.Cond.code ({ cls := "Retouched", name := "draw", desc := "(I)I" } : Jvm.MethodName) prog_1_method_52_code (2 : Nat) (Option.some Jvm.ClassFile.FieldType.int)) ∈ lw_all := lw_g (lw_at lw_m6 172 rfl) rfl
theorem q1517 : (Jvm.Cond.constantLong "Retouched" (289 : Nat) (1103515245 : Int64)) ∈ lw_all := lw_g (lw_at lw_m6 173 rfl) rfl
theorem q1518 : (Jvm.Cond.constantLong "Retouched" (291 : Nat) (12345 : Int64)) ∈ lw_all := lw_g (lw_at lw_m6 174 rfl) rfl
theorem q1519 : (Jvm.Cond.constantLong "Retouched" (293 : Nat) (2147483648 : Int64)) ∈ lw_all := lw_g (lw_at lw_m6 175 rfl) rfl
theorem q1520 : (Jvm.Cond.constantLong "Retouched" (295 : Nat) (64 : Int64)) ∈ lw_all := lw_g (lw_at lw_m6 176 rfl) rfl
theorem q1522 : (Jvm.Cond.instanceMethod ({ cls := "Retouched", name := "seed", desc := "(I)Z" } : Jvm.MethodName)) ∈ lw_all := lw_g (lw_at lw_m6 178 rfl) rfl
theorem q1523 : (Jvm.Cond.selects "Retouched" ({ cls := "Retouched", name := "seed", desc := "(I)Z" } : Jvm.MethodName) ({ cls := "Retouched", name := "seed", desc := "(I)Z" } : Jvm.MethodName)) ∈ lw_all := lw_g (lw_at lw_m6 179 rfl) rfl
theorem q1524 : (Jvm.Cond.code ({ cls := "Retouched", name := "seed", desc := "(I)Z" } : Jvm.MethodName) prog_1_method_54_code (2 : Nat) (Option.some Jvm.ClassFile.FieldType.boolean)) ∈ lw_all := lw_g (lw_at lw_m6 180 rfl) rfl
theorem q1526 : (Jvm.Cond.instanceMethod ({ cls := "Retouched", name := "ask", desc := "()J" } : Jvm.MethodName)) ∈ lw_all := lw_g (lw_at lw_m6 182 rfl) rfl
theorem q1527 : (Jvm.Cond.selects "Retouched" ({ cls := "Retouched", name := "ask", desc := "()J" } : Jvm.MethodName) ({ cls := "Retouched", name := "ask", desc := "()J" } : Jvm.MethodName)) ∈ lw_all := lw_g (lw_at lw_m6 183 rfl) rfl
theorem q1528 : (Jvm.Cond.codeWith ({ cls := "Retouched", name := "ask", desc := "()J" } : Jvm.MethodName) prog_1_method_56_code (4 : Nat) (Option.some Jvm.ClassFile.FieldType.long) [((26 : Nat), (35 : Nat), (38 : Nat), (126 : Nat))]) ∈ lw_all := lw_g (lw_at lw_m6 184 rfl) rfl
theorem q1529 : (Jvm.Cond.constantLong "Retouched" (306 : Nat) (-1000000000000000 : Int64)) ∈ lw_all := lw_g (lw_at lw_m6 185 rfl) rfl
theorem q1530 : (Jvm.Cond.methodLink "Retouched" (308 : Nat) ({ cls := "Retouched$Reader", name := "question", desc := "(I)LRetouched$Question;" } : Jvm.MethodName)) ∈ lw_all := lw_g (lw_at lw_m6 186 rfl) rfl
theorem q1535 : (Jvm.Cond.laysStatic "Retouched" "TOLD_OF" "[Ljava/lang/String;") ∈ lw_tbl := lw_at lw_m6 191 rfl
theorem q1559 : (Jvm.Cond.methodLink "Retouched" (316 : Nat) ({ cls := "Retouched$Question", name := "meets", desc := "(ILRetouched$Moment;)V" } : Jvm.MethodName)) ∈ lw_all := lw_g (lw_at lw_m6 215 rfl) rfl
theorem q1567 : (Jvm.Cond.methodLink "Retouched" (322 : Nat) ({ cls := "Retouched$Question", name := "answer", desc := "()J" } : Jvm.MethodName)) ∈ lw_all := lw_g (lw_at lw_m6 223 rfl) rfl
theorem q1572 : (Jvm.Cond.instanceMethod ({ cls := "Retouched", name := "image", desc := "()I" } : Jvm.MethodName)) ∈ lw_all := lw_g (lw_at lw_m6 228 rfl) rfl
theorem q1573 : (Jvm.Cond.selects "Retouched" ({ cls := "Retouched", name := "image", desc := "()I" } : Jvm.MethodName) ({ cls := "Retouched", name := "image", desc := "()I" } : Jvm.MethodName)) ∈ lw_all := lw_g (lw_at lw_m6 229 rfl) rfl
theorem q1574 : (Jvm.Cond.code ({ cls := "Retouched", name := "image", desc := "()I" } : Jvm.MethodName) prog_1_method_59_code (3 : Nat) (Option.some Jvm.ClassFile.FieldType.int)) ∈ lw_all := lw_g (lw_at lw_m6 230 rfl) rfl
theorem q1575 : (Jvm.Cond.methodLink "Retouched" (329 : Nat) ({ cls := "Retouched", name := "writes", desc := "(I)V" } : Jvm.MethodName)) ∈ lw_all := lw_g (lw_at lw_m6 231 rfl) rfl
theorem q1576 : (Jvm.Cond.privateMethod ({ cls := "Retouched", name := "writes", desc := "(I)V" } : Jvm.MethodName)) ∈ lw_tbl := lw_at lw_m6 232 rfl
theorem q1577 : (Jvm.Cond.instanceMethod ({ cls := "Retouched", name := "writes", desc := "(I)V" } : Jvm.MethodName)) ∈ lw_all := lw_g (lw_at lw_m6 233 rfl) rfl
theorem q1578 : (Jvm.Cond.code ({ cls := "Retouched", name := "writes", desc := "(I)V" } : Jvm.MethodName) prog_1_method_57_code (2 : Nat) (Option.none : Option Jvm.ClassFile.FieldType)) ∈ lw_all := lw_g (lw_at lw_m6 234 rfl) rfl
theorem q1579 : (Jvm.Cond.methodLink "Retouched" (332 : Nat) ({ cls := "Retouched", name := "check", desc := "([BI)I" } : Jvm.MethodName)) ∈ lw_all := lw_g (lw_at lw_m6 235 rfl) rfl
theorem q1580 : (Jvm.Cond.static ({ cls := "Retouched", name := "check", desc := "([BI)I" } : Jvm.MethodName)) ∈ lw_all := lw_g (lw_at lw_m6 236 rfl) rfl
theorem q1581 : (Jvm.Cond.code ({ cls := "Retouched", name := "check", desc := "([BI)I" } : Jvm.MethodName) prog_1_method_58_code (4 : Nat) (Option.some Jvm.ClassFile.FieldType.int)) ∈ lw_all := lw_g (lw_at lw_m6 237 rfl) rfl
theorem q1583 : (Jvm.Cond.instanceMethod ({ cls := "Retouched", name := "octet", desc := "(I)I" } : Jvm.MethodName)) ∈ lw_all := lw_g (lw_at lw_m6 239 rfl) rfl
theorem q1584 : (Jvm.Cond.selects "Retouched" ({ cls := "Retouched", name := "octet", desc := "(I)I" } : Jvm.MethodName) ({ cls := "Retouched", name := "octet", desc := "(I)I" } : Jvm.MethodName)) ∈ lw_all := lw_g (lw_at lw_m7 0 rfl) rfl
theorem q1585 : (Jvm.Cond.code ({ cls := "Retouched", name := "octet", desc := "(I)I" } : Jvm.MethodName) prog_1_method_60_code (2 : Nat) (Option.some Jvm.ClassFile.FieldType.int)) ∈ lw_all := lw_g (lw_at lw_m7 1 rfl) rfl
theorem q1587 : (Jvm.Cond.instanceMethod ({ cls := "Retouched", name := "on", desc := "()Z" } : Jvm.MethodName)) ∈ lw_all := lw_g (lw_at lw_m7 3 rfl) rfl
theorem q1588 : (Jvm.Cond.selects "Retouched" ({ cls := "Retouched", name := "on", desc := "()Z" } : Jvm.MethodName) ({ cls := "Retouched", name := "on", desc := "()Z" } : Jvm.MethodName)) ∈ lw_all := lw_g (lw_at lw_m7 4 rfl) rfl
theorem q1589 : (Jvm.Cond.code ({ cls := "Retouched", name := "on", desc := "()Z" } : Jvm.MethodName) prog_1_method_63_code (1 : Nat) (Option.some Jvm.ClassFile.FieldType.boolean)) ∈ lw_all := lw_g (lw_at lw_m7 5 rfl) rfl
theorem q1590 : (Jvm.Cond.methodLink "Retouched" (339 : Nat) ({ cls := "Retouched", name := "comesOn", desc := "(I)Z" } : Jvm.MethodName)) ∈ lw_all := lw_g (lw_at lw_m7 6 rfl) rfl
theorem q1591 : (Jvm.Cond.privateMethod ({ cls := "Retouched", name := "comesOn", desc := "(I)Z" } : Jvm.MethodName)) ∈ lw_tbl := lw_at lw_m7 7 rfl
theorem q1592 : (Jvm.Cond.instanceMethod ({ cls := "Retouched", name := "comesOn", desc := "(I)Z" } : Jvm.MethodName)) ∈ lw_all := lw_g (lw_at lw_m7 8 rfl) rfl
theorem q1593 : (Jvm.Cond.code ({ cls := "Retouched", name := "comesOn", desc := "(I)Z" } : Jvm.MethodName) prog_1_method_62_code (5 : Nat) (Option.some Jvm.ClassFile.FieldType.boolean)) ∈ lw_all := lw_g (lw_at lw_m7 9 rfl) rfl
theorem q1594 : (Jvm.Cond.methodLink "Retouched" (336 : Nat) ({ cls := "Retouched", name := "personOn", desc := "(II)Z" } : Jvm.MethodName)) ∈ lw_all := lw_g (lw_at lw_m7 10 rfl) rfl
theorem q1595 : (Jvm.Cond.privateMethod ({ cls := "Retouched", name := "personOn", desc := "(II)Z" } : Jvm.MethodName)) ∈ lw_tbl := lw_at lw_m7 11 rfl
theorem q1596 : (Jvm.Cond.instanceMethod ({ cls := "Retouched", name := "personOn", desc := "(II)Z" } : Jvm.MethodName)) ∈ lw_all := lw_g (lw_at lw_m7 12 rfl) rfl
theorem q1597 : (Jvm.Cond.code ({ cls := "Retouched", name := "personOn", desc := "(II)Z" } : Jvm.MethodName) prog_1_method_61_code (5 : Nat) (Option.some Jvm.ClassFile.FieldType.boolean)) ∈ lw_all := lw_g (lw_at lw_m7 13 rfl) rfl
theorem q1599 : (Jvm.Cond.instanceMethod ({ cls := "Retouched", name := "status", desc := "(I)I" } : Jvm.MethodName)) ∈ lw_all := lw_g (lw_at lw_m7 15 rfl) rfl
theorem q1600 : (Jvm.Cond.selects "Retouched" ({ cls := "Retouched", name := "status", desc := "(I)I" } : Jvm.MethodName) ({ cls := "Retouched", name := "status", desc := "(I)I" } : Jvm.MethodName)) ∈ lw_all := lw_g (lw_at lw_m7 16 rfl) rfl
theorem q1601 : (Jvm.Cond.code ({ cls := "Retouched", name := "status", desc := "(I)I" } : Jvm.MethodName) prog_1_method_64_code (2 : Nat) (Option.some Jvm.ClassFile.FieldType.int)) ∈ lw_all := lw_g (lw_at lw_m7 17 rfl) rfl
theorem q2506 : (Jvm.Cond.castable "Retouched" "java/lang/Object") ∈ lw_tbl := lw_at lw_m10 202 rfl
theorem q2540 : (Jvm.Cond.stringRef "Retouched" (379 : Nat) "terrace") ∈ lw_tbl := lw_at lw_m10 236 rfl
theorem q2541 : (Jvm.Cond.stringRef "Retouched" (380 : Nat) "soul") ∈ lw_tbl := lw_at lw_m10 237 rfl
theorem q2542 : (Jvm.Cond.stringRef "Retouched" (382 : Nat) "at") ∈ lw_tbl := lw_at lw_m10 238 rfl
theorem q2543 : (Jvm.Cond.stringRef "Retouched" (342 : Nat) "face") ∈ lw_tbl := lw_at lw_m10 239 rfl
theorem q2544 : (Jvm.Cond.stringRef "Retouched" (343 : Nat) "kind") ∈ lw_tbl := lw_at lw_m11 0 rfl
theorem q2545 : (Jvm.Cond.stringRef "Retouched" (344 : Nat) "thinks") ∈ lw_tbl := lw_at lw_m11 1 rfl
theorem q2546 : (Jvm.Cond.stringRef "Retouched" (384 : Nat) "of") ∈ lw_tbl := lw_at lw_m11 2 rfl
theorem q2547 : (Jvm.Cond.stringRef "Retouched" (385 : Nat) "paints") ∈ lw_tbl := lw_at lw_m11 3 rfl
theorem q2548 : (Jvm.Cond.stringRef "Retouched" (386 : Nat) "minds") ∈ lw_tbl := lw_at lw_m11 4 rfl
theorem q2549 : (Jvm.Cond.stringRef "Retouched" (388 : Nat) "feud") ∈ lw_tbl := lw_at lw_m11 5 rfl
theorem q2550 : (Jvm.Cond.stringRef "Retouched" (389 : Nat) "slip") ∈ lw_tbl := lw_at lw_m11 6 rfl
theorem q2551 : (Jvm.Cond.stringRef "Retouched" (346 : Nat) "look") ∈ lw_tbl := lw_at lw_m11 7 rfl
theorem q2552 : (Jvm.Cond.stringRef "Retouched" (347 : Nat) "side") ∈ lw_tbl := lw_at lw_m11 8 rfl
theorem q2553 : (Jvm.Cond.stringRef "Retouched" (349 : Nat) "gain") ∈ lw_tbl := lw_at lw_m11 9 rfl
theorem q2554 : (Jvm.Cond.stringRef "Retouched" (351 : Nat) "back") ∈ lw_tbl := lw_at lw_m11 10 rfl
theorem q2555 : (Jvm.Cond.stringRef "Retouched" (345 : Nat) "year") ∈ lw_tbl := lw_at lw_m11 11 rfl
theorem q2556 : (Jvm.Cond.stringRef "Retouched" (353 : Nat) "number") ∈ lw_tbl := lw_at lw_m11 12 rfl
theorem q2557 : (Jvm.Cond.stringRef "Retouched" (355 : Nat) "house") ∈ lw_tbl := lw_at lw_m11 13 rfl
theorem q2558 : (Jvm.Cond.stringRef "Retouched" (356 : Nat) "spares") ∈ lw_tbl := lw_at lw_m11 14 rfl
theorem q2559 : (Jvm.Cond.stringRef "Retouched" (390 : Nat) "or") ∈ lw_tbl := lw_at lw_m11 15 rfl
theorem q2560 : (Jvm.Cond.stringRef "Retouched" (392 : Nat) "and") ∈ lw_tbl := lw_at lw_m11 16 rfl
theorem q2561 : (Jvm.Cond.stringRef "Retouched" (394 : Nat) "not") ∈ lw_tbl := lw_at lw_m11 17 rfl
theorem q2562 : (Jvm.Cond.stringRef "Retouched" (396 : Nat) "all") ∈ lw_tbl := lw_at lw_m11 18 rfl
theorem q2563 : (Jvm.Cond.stringRef "Retouched" (397 : Nat) "min") ∈ lw_tbl := lw_at lw_m11 19 rfl
theorem q2564 : (Jvm.Cond.stringRef "Retouched" (398 : Nat) "max") ∈ lw_tbl := lw_at lw_m11 20 rfl
theorem q2566 : (Jvm.Cond.stringRef "Retouched" (364 : Nat) "first") ∈ lw_tbl := lw_at lw_m11 22 rfl
theorem q2567 : (Jvm.Cond.stringRef "Retouched" (366 : Nat) "last") ∈ lw_tbl := lw_at lw_m11 23 rfl
theorem q2568 : (Jvm.Cond.stringRef "Retouched" (368 : Nat) "often") ∈ lw_tbl := lw_at lw_m11 24 rfl
theorem q2569 : (Jvm.Cond.stringRef "Retouched" (370 : Nat) "total") ∈ lw_tbl := lw_at lw_m11 25 rfl
theorem q2570 : (Jvm.Cond.stringRef "Retouched" (372 : Nat) "most") ∈ lw_tbl := lw_at lw_m11 26 rfl
theorem q2571 : (Jvm.Cond.stringRef "Retouched" (374 : Nat) "least") ∈ lw_tbl := lw_at lw_m11 27 rfl
theorem in_X0 : ∀ w ∈ wsX00, w ∈ lw_all := lw_in wsX00 [455, 457, 459, 461, 463, 465, 467, 469, 471, 473, 475, 477, 479, 481, 483, 485, 487, 489, 491, 493, 495, 497, 499] (by decide +kernel) (by decide +kernel)
