/-! Retouched$Reader -/
set_option maxRecDepth 100000
def RX2 : String := "Retouched$Reader"
def TX2 : u_T := fun k => match k with
  | 0 => ("Retouched$Reader", "fault", "LRetouched$Fault;", true)
  | 1 => ("Retouched$Reader", "size", "I", false)
  | 2 => ("Retouched$Reader", "at", "I", false)
  | 3 => ("Retouched$Reader", "from", "I", false)
  | 4 => ("Retouched$Reader", "open", "I", false)
  | 5 => ("Retouched$Reader", "context", "I", false)
  | 6 => ("Retouched$Reader", "to", "LRetouched$Terrace;", false)
  | _ => ("Retouched$Reader", "this$0", "LRetouched;", true)
def tyX2 : Nat → FieldType := fun k => match k with
  | 0 => .object "Retouched$Fault"
  | 1 => .int
  | 2 => .int
  | 3 => .int
  | 4 => .int
  | 5 => .int
  | 6 => .object "Retouched$Terrace"
  | _ => .object "Retouched"
abbrev wsX20 : List Cond := u_ws RX2 TX2 8
theorem nmX2 : ∀ a, a < 8 → ∀ b, b < 8 → a ≠ b → (TX2 a).2.1 ≠ (TX2 b).2.1 := by decide +kernel
theorem tyX2_ok : ∀ k, k < 8 → parseFieldDescriptor (TX2 k).2.2.1 = some (tyX2 k) := by decide +kernel
abbrev cX2_init : ByteArray := prog_13_method_1_code
def yX2_init : MethodName := ⟨RX2, "<init>", "(LRetouched;)V"⟩
def dkwX2_init_0 : List UInt8 := [42, 43, 181, 0, 3, 42, 183, 0, 9, 42, 187, 0, 15, 89, 183, 0, 17, 181, 0, 18, 177]
abbrev dktX2_init_0 : List UInt8 := dkwX2_init_0 ++ []
theorem dksX2_init_0 : cX2_init.data.toList.drop 0 = dktX2_init_0 := by decide +kernel
theorem dX2_init_0 : decode cX2_init 0 = .ok (.aload_n 0, 1) := dk_42 (dk_at dksX2_init_0 0 rfl rfl)
theorem dX2_init_1 : decode cX2_init 1 = .ok (.aload_n 1, 1) := dk_43 (dk_at dksX2_init_0 1 rfl rfl)
theorem dX2_init_2 : decode cX2_init 2 = .ok (.putfield 3, 3) := dk_181 0 3 (dk_at dksX2_init_0 2 rfl rfl)
theorem dX2_init_5 : decode cX2_init 5 = .ok (.aload_n 0, 1) := dk_42 (dk_at dksX2_init_0 5 rfl rfl)
theorem dX2_init_6 : decode cX2_init 6 = .ok (.invokespecial 9, 3) := dk_183 0 9 (dk_at dksX2_init_0 6 rfl rfl)
theorem dX2_init_9 : decode cX2_init 9 = .ok (.aload_n 0, 1) := dk_42 (dk_at dksX2_init_0 9 rfl rfl)
theorem dX2_init_10 : decode cX2_init 10 = .ok (.new 15, 3) := dk_187 0 15 (dk_at dksX2_init_0 10 rfl rfl)
theorem dX2_init_13 : decode cX2_init 13 = .ok (.dup, 1) := dk_89 (dk_at dksX2_init_0 13 rfl rfl)
theorem dX2_init_14 : decode cX2_init 14 = .ok (.invokespecial 17, 3) := dk_183 0 17 (dk_at dksX2_init_0 14 rfl rfl)
theorem dX2_init_17 : decode cX2_init 17 = .ok (.putfield 18, 3) := dk_181 0 18 (dk_at dksX2_init_0 17 rfl rfl)
theorem dX2_init_20 : decode cX2_init 20 = .ok (.return_, 1) := dk_177 (dk_at dksX2_init_0 20 rfl rfl)
abbrev cX2_all : ByteArray := prog_13_method_15_code
def yX2_all : MethodName := ⟨RX2, "all", "(I)LRetouched$Terrace;"⟩
def dkwX2_all_5 : List UInt8 := [182, 0, 132, 42, 16, 59, 182, 0, 121, 167, 255, 190, 42, 180, 0, 100, 176]
abbrev dktX2_all_5 : List UInt8 := dkwX2_all_5 ++ []
def dkwX2_all_4 : List UInt8 := [180, 0, 100, 89, 180, 0, 125, 4, 96, 181, 0, 125, 42, 182, 0, 70, 77, 42, 44, 42, 180, 0, 61]
abbrev dktX2_all_4 : List UInt8 := dkwX2_all_4 ++ dktX2_all_5
def dkwX2_all_3 : List UInt8 := [180, 0, 100, 180, 0, 125, 16, 80, 160, 0, 7, 4, 167, 0, 4, 3, 42, 180, 0, 36, 182, 0, 128, 42]
abbrev dktX2_all_3 : List UInt8 := dkwX2_all_3 ++ dktX2_all_4
def dkwX2_all_2 : List UInt8 := [16, 59, 182, 0, 121, 42, 180, 0, 100, 4, 181, 0, 125, 42, 182, 0, 43, 2, 159, 0, 64, 42, 42]
abbrev dktX2_all_2 : List UInt8 := dkwX2_all_2 ++ dktX2_all_3
def dkwX2_all_1 : List UInt8 := [181, 0, 113, 42, 18, 116, 182, 0, 93, 42, 180, 0, 100, 42, 5, 16, 9, 182, 0, 96, 181, 0, 118, 42]
abbrev dktX2_all_1 : List UInt8 := dkwX2_all_1 ++ dktX2_all_2
def dkwX2_all_0 : List UInt8 := [42, 187, 0, 108, 89, 183, 0, 112, 181, 0, 100, 42, 27, 181, 0, 29, 42, 3, 181, 0, 36, 42, 3]
abbrev dktX2_all_0 : List UInt8 := dkwX2_all_0 ++ dktX2_all_1
theorem dksX2_all_0 : cX2_all.data.toList.drop 0 = dktX2_all_0 := by decide +kernel
theorem dksX2_all_1 : cX2_all.data.toList.drop 23 = dktX2_all_1 := dk_seg dksX2_all_0 23 rfl rfl
theorem dksX2_all_2 : cX2_all.data.toList.drop 47 = dktX2_all_2 := dk_seg dksX2_all_1 24 rfl rfl
theorem dksX2_all_3 : cX2_all.data.toList.drop 70 = dktX2_all_3 := dk_seg dksX2_all_2 23 rfl rfl
theorem dksX2_all_4 : cX2_all.data.toList.drop 94 = dktX2_all_4 := dk_seg dksX2_all_3 24 rfl rfl
theorem dksX2_all_5 : cX2_all.data.toList.drop 117 = dktX2_all_5 := dk_seg dksX2_all_4 23 rfl rfl
theorem dX2_all_0 : decode cX2_all 0 = .ok (.aload_n 0, 1) := dk_42 (dk_at dksX2_all_0 0 rfl rfl)
theorem dX2_all_1 : decode cX2_all 1 = .ok (.new 108, 3) := dk_187 0 108 (dk_at dksX2_all_0 1 rfl rfl)
theorem dX2_all_4 : decode cX2_all 4 = .ok (.dup, 1) := dk_89 (dk_at dksX2_all_0 4 rfl rfl)
theorem dX2_all_5 : decode cX2_all 5 = .ok (.invokespecial 112, 3) := dk_183 0 112 (dk_at dksX2_all_0 5 rfl rfl)
theorem dX2_all_8 : decode cX2_all 8 = .ok (.putfield 100, 3) := dk_181 0 100 (dk_at dksX2_all_0 8 rfl rfl)
theorem dX2_all_11 : decode cX2_all 11 = .ok (.aload_n 0, 1) := dk_42 (dk_at dksX2_all_0 11 rfl rfl)
theorem dX2_all_12 : decode cX2_all 12 = .ok (.iload_n 1, 1) := dk_27 (dk_at dksX2_all_0 12 rfl rfl)
theorem dX2_all_13 : decode cX2_all 13 = .ok (.putfield 29, 3) := dk_181 0 29 (dk_at dksX2_all_0 13 rfl rfl)
theorem dX2_all_16 : decode cX2_all 16 = .ok (.aload_n 0, 1) := dk_42 (dk_at dksX2_all_0 16 rfl rfl)
theorem dX2_all_17 : decode cX2_all 17 = .ok (.iconst 0, 1) := dk_3 (dk_at dksX2_all_0 17 rfl rfl)
theorem dX2_all_18 : decode cX2_all 18 = .ok (.putfield 36, 3) := dk_181 0 36 (dk_at dksX2_all_0 18 rfl rfl)
theorem dX2_all_21 : decode cX2_all 21 = .ok (.aload_n 0, 1) := dk_42 (dk_at dksX2_all_0 21 rfl rfl)
theorem dX2_all_22 : decode cX2_all 22 = .ok (.iconst 0, 1) := dk_3 (dk_at dksX2_all_0 22 rfl rfl)
theorem dX2_all_23 : decode cX2_all 23 = .ok (.putfield 113, 3) := dk_181 0 113 (dk_at dksX2_all_1 0 rfl rfl)
theorem dX2_all_26 : decode cX2_all 26 = .ok (.aload_n 0, 1) := dk_42 (dk_at dksX2_all_1 3 rfl rfl)
theorem dX2_all_27 : decode cX2_all 27 = .ok (.ldc 116, 2) := dk_18 116 (dk_at dksX2_all_1 4 rfl rfl)
theorem dX2_all_29 : decode cX2_all 29 = .ok (.invokevirtual 93, 3) := dk_182 0 93 (dk_at dksX2_all_1 6 rfl rfl)
theorem dX2_all_32 : decode cX2_all 32 = .ok (.aload_n 0, 1) := dk_42 (dk_at dksX2_all_1 9 rfl rfl)
theorem dX2_all_33 : decode cX2_all 33 = .ok (.getfield 100, 3) := dk_180 0 100 (dk_at dksX2_all_1 10 rfl rfl)
theorem dX2_all_36 : decode cX2_all 36 = .ok (.aload_n 0, 1) := dk_42 (dk_at dksX2_all_1 13 rfl rfl)
theorem dX2_all_37 : decode cX2_all 37 = .ok (.iconst 2, 1) := dk_5 (dk_at dksX2_all_1 14 rfl rfl)
theorem dX2_all_38 : decode cX2_all 38 = .ok (.bipush 9, 2) := dk_16 9 (dk_at dksX2_all_1 15 rfl rfl)
theorem dX2_all_40 : decode cX2_all 40 = .ok (.invokevirtual 96, 3) := dk_182 0 96 (dk_at dksX2_all_1 17 rfl rfl)
theorem dX2_all_43 : decode cX2_all 43 = .ok (.putfield 118, 3) := dk_181 0 118 (dk_at dksX2_all_1 20 rfl rfl)
theorem dX2_all_46 : decode cX2_all 46 = .ok (.aload_n 0, 1) := dk_42 (dk_at dksX2_all_1 23 rfl rfl)
theorem dX2_all_47 : decode cX2_all 47 = .ok (.bipush 59, 2) := dk_16 59 (dk_at dksX2_all_2 0 rfl rfl)
theorem dX2_all_49 : decode cX2_all 49 = .ok (.invokevirtual 121, 3) := dk_182 0 121 (dk_at dksX2_all_2 2 rfl rfl)
theorem dX2_all_52 : decode cX2_all 52 = .ok (.aload_n 0, 1) := dk_42 (dk_at dksX2_all_2 5 rfl rfl)
theorem dX2_all_53 : decode cX2_all 53 = .ok (.getfield 100, 3) := dk_180 0 100 (dk_at dksX2_all_2 6 rfl rfl)
theorem dX2_all_56 : decode cX2_all 56 = .ok (.iconst 1, 1) := dk_4 (dk_at dksX2_all_2 9 rfl rfl)
theorem dX2_all_57 : decode cX2_all 57 = .ok (.putfield 125, 3) := dk_181 0 125 (dk_at dksX2_all_2 10 rfl rfl)
theorem dX2_all_60 : decode cX2_all 60 = .ok (.aload_n 0, 1) := dk_42 (dk_at dksX2_all_2 13 rfl rfl)
theorem dX2_all_61 : decode cX2_all 61 = .ok (.invokevirtual 43, 3) := dk_182 0 43 (dk_at dksX2_all_2 14 rfl rfl)
theorem dX2_all_64 : decode cX2_all 64 = .ok (.iconst (-1), 1) := dk_2 (dk_at dksX2_all_2 17 rfl rfl)
theorem dX2_all_65 : decode cX2_all 65 = .ok (.if_icmp .eq 64, 3) := dk_159 0 64 (dk_at dksX2_all_2 18 rfl rfl)
theorem dX2_all_68 : decode cX2_all 68 = .ok (.aload_n 0, 1) := dk_42 (dk_at dksX2_all_2 21 rfl rfl)
theorem dX2_all_69 : decode cX2_all 69 = .ok (.aload_n 0, 1) := dk_42 (dk_at dksX2_all_2 22 rfl rfl)
theorem dX2_all_70 : decode cX2_all 70 = .ok (.getfield 100, 3) := dk_180 0 100 (dk_at dksX2_all_3 0 rfl rfl)
theorem dX2_all_73 : decode cX2_all 73 = .ok (.getfield 125, 3) := dk_180 0 125 (dk_at dksX2_all_3 3 rfl rfl)
theorem dX2_all_76 : decode cX2_all 76 = .ok (.bipush 80, 2) := dk_16 80 (dk_at dksX2_all_3 6 rfl rfl)
theorem dX2_all_78 : decode cX2_all 78 = .ok (.if_icmp .ne 7, 3) := dk_160 0 7 (dk_at dksX2_all_3 8 rfl rfl)
theorem dX2_all_81 : decode cX2_all 81 = .ok (.iconst 1, 1) := dk_4 (dk_at dksX2_all_3 11 rfl rfl)
theorem dX2_all_82 : decode cX2_all 82 = .ok (.goto 4, 3) := dk_167 0 4 (dk_at dksX2_all_3 12 rfl rfl)
theorem dX2_all_85 : decode cX2_all 85 = .ok (.iconst 0, 1) := dk_3 (dk_at dksX2_all_3 15 rfl rfl)
theorem dX2_all_86 : decode cX2_all 86 = .ok (.aload_n 0, 1) := dk_42 (dk_at dksX2_all_3 16 rfl rfl)
theorem dX2_all_87 : decode cX2_all 87 = .ok (.getfield 36, 3) := dk_180 0 36 (dk_at dksX2_all_3 17 rfl rfl)
theorem dX2_all_90 : decode cX2_all 90 = .ok (.invokevirtual 128, 3) := dk_182 0 128 (dk_at dksX2_all_3 20 rfl rfl)
theorem dX2_all_93 : decode cX2_all 93 = .ok (.aload_n 0, 1) := dk_42 (dk_at dksX2_all_3 23 rfl rfl)
theorem dX2_all_94 : decode cX2_all 94 = .ok (.getfield 100, 3) := dk_180 0 100 (dk_at dksX2_all_4 0 rfl rfl)
theorem dX2_all_97 : decode cX2_all 97 = .ok (.dup, 1) := dk_89 (dk_at dksX2_all_4 3 rfl rfl)
theorem dX2_all_98 : decode cX2_all 98 = .ok (.getfield 125, 3) := dk_180 0 125 (dk_at dksX2_all_4 4 rfl rfl)
theorem dX2_all_101 : decode cX2_all 101 = .ok (.iconst 1, 1) := dk_4 (dk_at dksX2_all_4 7 rfl rfl)
theorem dX2_all_102 : decode cX2_all 102 = .ok (.iadd, 1) := dk_96 (dk_at dksX2_all_4 8 rfl rfl)
theorem dX2_all_103 : decode cX2_all 103 = .ok (.putfield 125, 3) := dk_181 0 125 (dk_at dksX2_all_4 9 rfl rfl)
theorem dX2_all_106 : decode cX2_all 106 = .ok (.aload_n 0, 1) := dk_42 (dk_at dksX2_all_4 12 rfl rfl)
theorem dX2_all_107 : decode cX2_all 107 = .ok (.invokevirtual 70, 3) := dk_182 0 70 (dk_at dksX2_all_4 13 rfl rfl)
theorem dX2_all_110 : decode cX2_all 110 = .ok (.astore_n 2, 1) := dk_77 (dk_at dksX2_all_4 16 rfl rfl)
theorem dX2_all_111 : decode cX2_all 111 = .ok (.aload_n 0, 1) := dk_42 (dk_at dksX2_all_4 17 rfl rfl)
theorem dX2_all_112 : decode cX2_all 112 = .ok (.aload_n 2, 1) := dk_44 (dk_at dksX2_all_4 18 rfl rfl)
theorem dX2_all_113 : decode cX2_all 113 = .ok (.aload_n 0, 1) := dk_42 (dk_at dksX2_all_4 19 rfl rfl)
theorem dX2_all_114 : decode cX2_all 114 = .ok (.getfield 61, 3) := dk_180 0 61 (dk_at dksX2_all_4 20 rfl rfl)
theorem dX2_all_117 : decode cX2_all 117 = .ok (.invokevirtual 132, 3) := dk_182 0 132 (dk_at dksX2_all_5 0 rfl rfl)
theorem dX2_all_120 : decode cX2_all 120 = .ok (.aload_n 0, 1) := dk_42 (dk_at dksX2_all_5 3 rfl rfl)
theorem dX2_all_121 : decode cX2_all 121 = .ok (.bipush 59, 2) := dk_16 59 (dk_at dksX2_all_5 4 rfl rfl)
theorem dX2_all_123 : decode cX2_all 123 = .ok (.invokevirtual 121, 3) := dk_182 0 121 (dk_at dksX2_all_5 6 rfl rfl)
theorem dX2_all_126 : decode cX2_all 126 = .ok (.goto (-66), 3) := dk_167 255 190 (dk_at dksX2_all_5 9 rfl rfl)
theorem dX2_all_129 : decode cX2_all 129 = .ok (.aload_n 0, 1) := dk_42 (dk_at dksX2_all_5 12 rfl rfl)
theorem dX2_all_130 : decode cX2_all 130 = .ok (.getfield 100, 3) := dk_180 0 100 (dk_at dksX2_all_5 13 rfl rfl)
theorem dX2_all_133 : decode cX2_all 133 = .ok (.areturn, 1) := dk_176 (dk_at dksX2_all_5 16 rfl rfl)
abbrev cX2_word : ByteArray := prog_13_method_8_code
def yX2_word : MethodName := ⟨RX2, "word", "(Ljava/lang/String;)V"⟩
def dkwX2_word_0 : List UInt8 := [42, 182, 0, 70, 43, 182, 0, 74, 154, 0, 13, 42, 4, 42, 180, 0, 61, 182, 0, 47, 191, 177]
abbrev dktX2_word_0 : List UInt8 := dkwX2_word_0 ++ []
theorem dksX2_word_0 : cX2_word.data.toList.drop 0 = dktX2_word_0 := by decide +kernel
theorem dX2_word_0 : decode cX2_word 0 = .ok (.aload_n 0, 1) := dk_42 (dk_at dksX2_word_0 0 rfl rfl)
theorem dX2_word_1 : decode cX2_word 1 = .ok (.invokevirtual 70, 3) := dk_182 0 70 (dk_at dksX2_word_0 1 rfl rfl)
theorem dX2_word_4 : decode cX2_word 4 = .ok (.aload_n 1, 1) := dk_43 (dk_at dksX2_word_0 4 rfl rfl)
theorem dX2_word_5 : decode cX2_word 5 = .ok (.invokevirtual 74, 3) := dk_182 0 74 (dk_at dksX2_word_0 5 rfl rfl)
theorem dX2_word_8 : decode cX2_word 8 = .ok (.ifCond .ne 13, 3) := dk_154 0 13 (dk_at dksX2_word_0 8 rfl rfl)
theorem dX2_word_11 : decode cX2_word 11 = .ok (.aload_n 0, 1) := dk_42 (dk_at dksX2_word_0 11 rfl rfl)
theorem dX2_word_12 : decode cX2_word 12 = .ok (.iconst 1, 1) := dk_4 (dk_at dksX2_word_0 12 rfl rfl)
theorem dX2_word_13 : decode cX2_word 13 = .ok (.aload_n 0, 1) := dk_42 (dk_at dksX2_word_0 13 rfl rfl)
theorem dX2_word_14 : decode cX2_word 14 = .ok (.getfield 61, 3) := dk_180 0 61 (dk_at dksX2_word_0 14 rfl rfl)
theorem dX2_word_17 : decode cX2_word 17 = .ok (.invokevirtual 47, 3) := dk_182 0 47 (dk_at dksX2_word_0 17 rfl rfl)
theorem dX2_word_20 : decode cX2_word 20 = .ok (.athrow, 1) := dk_191 (dk_at dksX2_word_0 20 rfl rfl)
theorem dX2_word_21 : decode cX2_word 21 = .ok (.return_, 1) := dk_177 (dk_at dksX2_word_0 21 rfl rfl)
abbrev cX2_word_2 : ByteArray := prog_13_method_7_code
def yX2_word_2 : MethodName := ⟨RX2, "word", "()Ljava/lang/String;"⟩
def dkwX2_word_2_4 : List UInt8 := [180, 0, 32, 28, 51, 146, 85, 132, 2, 1, 167, 255, 227, 43, 184, 0, 64, 176]
abbrev dktX2_word_2_4 : List UInt8 := dkwX2_word_2_4 ++ []
def dkwX2_word_2_3 : List UInt8 := [180, 0, 61, 61, 28, 42, 180, 0, 36, 162, 0, 27, 43, 28, 42, 180, 0, 61, 100, 42, 180, 0, 3]
abbrev dktX2_word_2_3 : List UInt8 := dkwX2_word_2_3 ++ dktX2_word_2_4
def dkwX2_word_2_2 : List UInt8 := [180, 0, 36, 4, 96, 181, 0, 36, 167, 255, 232, 42, 180, 0, 36, 42, 180, 0, 61, 100, 188, 5, 76, 42]
abbrev dktX2_word_2_2 : List UInt8 := dkwX2_word_2_2 ++ dktX2_word_2_3
def dkwX2_word_2_1 : List UInt8 := [42, 42, 180, 0, 36, 181, 0, 61, 42, 42, 180, 0, 36, 182, 0, 39, 184, 0, 51, 153, 0, 16, 42, 89]
abbrev dktX2_word_2_1 : List UInt8 := dkwX2_word_2_1 ++ dktX2_word_2_2
def dkwX2_word_2_0 : List UInt8 := [42, 182, 0, 43, 184, 0, 51, 154, 0, 13, 42, 4, 42, 180, 0, 36, 182, 0, 47, 191, 42, 182, 0, 58]
abbrev dktX2_word_2_0 : List UInt8 := dkwX2_word_2_0 ++ dktX2_word_2_1
theorem dksX2_word_2_0 : cX2_word_2.data.toList.drop 0 = dktX2_word_2_0 := by decide +kernel
theorem dksX2_word_2_1 : cX2_word_2.data.toList.drop 24 = dktX2_word_2_1 := dk_seg dksX2_word_2_0 24 rfl rfl
theorem dksX2_word_2_2 : cX2_word_2.data.toList.drop 48 = dktX2_word_2_2 := dk_seg dksX2_word_2_1 24 rfl rfl
theorem dksX2_word_2_3 : cX2_word_2.data.toList.drop 72 = dktX2_word_2_3 := dk_seg dksX2_word_2_2 24 rfl rfl
theorem dksX2_word_2_4 : cX2_word_2.data.toList.drop 95 = dktX2_word_2_4 := dk_seg dksX2_word_2_3 23 rfl rfl
theorem dX2_word_2_0 : decode cX2_word_2 0 = .ok (.aload_n 0, 1) := dk_42 (dk_at dksX2_word_2_0 0 rfl rfl)
theorem dX2_word_2_1 : decode cX2_word_2 1 = .ok (.invokevirtual 43, 3) := dk_182 0 43 (dk_at dksX2_word_2_0 1 rfl rfl)
theorem dX2_word_2_4 : decode cX2_word_2 4 = .ok (.invokestatic 51, 3) := dk_184 0 51 (dk_at dksX2_word_2_0 4 rfl rfl)
theorem dX2_word_2_7 : decode cX2_word_2 7 = .ok (.ifCond .ne 13, 3) := dk_154 0 13 (dk_at dksX2_word_2_0 7 rfl rfl)
theorem dX2_word_2_10 : decode cX2_word_2 10 = .ok (.aload_n 0, 1) := dk_42 (dk_at dksX2_word_2_0 10 rfl rfl)
theorem dX2_word_2_11 : decode cX2_word_2 11 = .ok (.iconst 1, 1) := dk_4 (dk_at dksX2_word_2_0 11 rfl rfl)
theorem dX2_word_2_12 : decode cX2_word_2 12 = .ok (.aload_n 0, 1) := dk_42 (dk_at dksX2_word_2_0 12 rfl rfl)
theorem dX2_word_2_13 : decode cX2_word_2 13 = .ok (.getfield 36, 3) := dk_180 0 36 (dk_at dksX2_word_2_0 13 rfl rfl)
theorem dX2_word_2_16 : decode cX2_word_2 16 = .ok (.invokevirtual 47, 3) := dk_182 0 47 (dk_at dksX2_word_2_0 16 rfl rfl)
theorem dX2_word_2_19 : decode cX2_word_2 19 = .ok (.athrow, 1) := dk_191 (dk_at dksX2_word_2_0 19 rfl rfl)
theorem dX2_word_2_20 : decode cX2_word_2 20 = .ok (.aload_n 0, 1) := dk_42 (dk_at dksX2_word_2_0 20 rfl rfl)
theorem dX2_word_2_21 : decode cX2_word_2 21 = .ok (.invokevirtual 58, 3) := dk_182 0 58 (dk_at dksX2_word_2_0 21 rfl rfl)
theorem dX2_word_2_24 : decode cX2_word_2 24 = .ok (.aload_n 0, 1) := dk_42 (dk_at dksX2_word_2_1 0 rfl rfl)
theorem dX2_word_2_25 : decode cX2_word_2 25 = .ok (.aload_n 0, 1) := dk_42 (dk_at dksX2_word_2_1 1 rfl rfl)
theorem dX2_word_2_26 : decode cX2_word_2 26 = .ok (.getfield 36, 3) := dk_180 0 36 (dk_at dksX2_word_2_1 2 rfl rfl)
theorem dX2_word_2_29 : decode cX2_word_2 29 = .ok (.putfield 61, 3) := dk_181 0 61 (dk_at dksX2_word_2_1 5 rfl rfl)
theorem dX2_word_2_32 : decode cX2_word_2 32 = .ok (.aload_n 0, 1) := dk_42 (dk_at dksX2_word_2_1 8 rfl rfl)
theorem dX2_word_2_33 : decode cX2_word_2 33 = .ok (.aload_n 0, 1) := dk_42 (dk_at dksX2_word_2_1 9 rfl rfl)
theorem dX2_word_2_34 : decode cX2_word_2 34 = .ok (.getfield 36, 3) := dk_180 0 36 (dk_at dksX2_word_2_1 10 rfl rfl)
theorem dX2_word_2_37 : decode cX2_word_2 37 = .ok (.invokevirtual 39, 3) := dk_182 0 39 (dk_at dksX2_word_2_1 13 rfl rfl)
theorem dX2_word_2_40 : decode cX2_word_2 40 = .ok (.invokestatic 51, 3) := dk_184 0 51 (dk_at dksX2_word_2_1 16 rfl rfl)
theorem dX2_word_2_43 : decode cX2_word_2 43 = .ok (.ifCond .eq 16, 3) := dk_153 0 16 (dk_at dksX2_word_2_1 19 rfl rfl)
theorem dX2_word_2_46 : decode cX2_word_2 46 = .ok (.aload_n 0, 1) := dk_42 (dk_at dksX2_word_2_1 22 rfl rfl)
theorem dX2_word_2_47 : decode cX2_word_2 47 = .ok (.dup, 1) := dk_89 (dk_at dksX2_word_2_1 23 rfl rfl)
theorem dX2_word_2_48 : decode cX2_word_2 48 = .ok (.getfield 36, 3) := dk_180 0 36 (dk_at dksX2_word_2_2 0 rfl rfl)
theorem dX2_word_2_51 : decode cX2_word_2 51 = .ok (.iconst 1, 1) := dk_4 (dk_at dksX2_word_2_2 3 rfl rfl)
theorem dX2_word_2_52 : decode cX2_word_2 52 = .ok (.iadd, 1) := dk_96 (dk_at dksX2_word_2_2 4 rfl rfl)
theorem dX2_word_2_53 : decode cX2_word_2 53 = .ok (.putfield 36, 3) := dk_181 0 36 (dk_at dksX2_word_2_2 5 rfl rfl)
theorem dX2_word_2_56 : decode cX2_word_2 56 = .ok (.goto (-24), 3) := dk_167 255 232 (dk_at dksX2_word_2_2 8 rfl rfl)
theorem dX2_word_2_59 : decode cX2_word_2 59 = .ok (.aload_n 0, 1) := dk_42 (dk_at dksX2_word_2_2 11 rfl rfl)
theorem dX2_word_2_60 : decode cX2_word_2 60 = .ok (.getfield 36, 3) := dk_180 0 36 (dk_at dksX2_word_2_2 12 rfl rfl)
theorem dX2_word_2_63 : decode cX2_word_2 63 = .ok (.aload_n 0, 1) := dk_42 (dk_at dksX2_word_2_2 15 rfl rfl)
theorem dX2_word_2_64 : decode cX2_word_2 64 = .ok (.getfield 61, 3) := dk_180 0 61 (dk_at dksX2_word_2_2 16 rfl rfl)
theorem dX2_word_2_67 : decode cX2_word_2 67 = .ok (.isub, 1) := dk_100 (dk_at dksX2_word_2_2 19 rfl rfl)
theorem dX2_word_2_68 : decode cX2_word_2 68 = .ok (.newarray .char, 2) := dk_188_5 (dk_at dksX2_word_2_2 20 rfl rfl)
theorem dX2_word_2_70 : decode cX2_word_2 70 = .ok (.astore_n 1, 1) := dk_76 (dk_at dksX2_word_2_2 22 rfl rfl)
theorem dX2_word_2_71 : decode cX2_word_2 71 = .ok (.aload_n 0, 1) := dk_42 (dk_at dksX2_word_2_2 23 rfl rfl)
theorem dX2_word_2_72 : decode cX2_word_2 72 = .ok (.getfield 61, 3) := dk_180 0 61 (dk_at dksX2_word_2_3 0 rfl rfl)
theorem dX2_word_2_75 : decode cX2_word_2 75 = .ok (.istore_n 2, 1) := dk_61 (dk_at dksX2_word_2_3 3 rfl rfl)
theorem dX2_word_2_76 : decode cX2_word_2 76 = .ok (.iload_n 2, 1) := dk_28 (dk_at dksX2_word_2_3 4 rfl rfl)
theorem dX2_word_2_77 : decode cX2_word_2 77 = .ok (.aload_n 0, 1) := dk_42 (dk_at dksX2_word_2_3 5 rfl rfl)
theorem dX2_word_2_78 : decode cX2_word_2 78 = .ok (.getfield 36, 3) := dk_180 0 36 (dk_at dksX2_word_2_3 6 rfl rfl)
theorem dX2_word_2_81 : decode cX2_word_2 81 = .ok (.if_icmp .ge 27, 3) := dk_162 0 27 (dk_at dksX2_word_2_3 9 rfl rfl)
theorem dX2_word_2_84 : decode cX2_word_2 84 = .ok (.aload_n 1, 1) := dk_43 (dk_at dksX2_word_2_3 12 rfl rfl)
theorem dX2_word_2_85 : decode cX2_word_2 85 = .ok (.iload_n 2, 1) := dk_28 (dk_at dksX2_word_2_3 13 rfl rfl)
theorem dX2_word_2_86 : decode cX2_word_2 86 = .ok (.aload_n 0, 1) := dk_42 (dk_at dksX2_word_2_3 14 rfl rfl)
theorem dX2_word_2_87 : decode cX2_word_2 87 = .ok (.getfield 61, 3) := dk_180 0 61 (dk_at dksX2_word_2_3 15 rfl rfl)
theorem dX2_word_2_90 : decode cX2_word_2 90 = .ok (.isub, 1) := dk_100 (dk_at dksX2_word_2_3 18 rfl rfl)
theorem dX2_word_2_91 : decode cX2_word_2 91 = .ok (.aload_n 0, 1) := dk_42 (dk_at dksX2_word_2_3 19 rfl rfl)
theorem dX2_word_2_92 : decode cX2_word_2 92 = .ok (.getfield 3, 3) := dk_180 0 3 (dk_at dksX2_word_2_3 20 rfl rfl)
theorem dX2_word_2_95 : decode cX2_word_2 95 = .ok (.getfield 32, 3) := dk_180 0 32 (dk_at dksX2_word_2_4 0 rfl rfl)
theorem dX2_word_2_98 : decode cX2_word_2 98 = .ok (.iload_n 2, 1) := dk_28 (dk_at dksX2_word_2_4 3 rfl rfl)
theorem dX2_word_2_99 : decode cX2_word_2 99 = .ok (.baload, 1) := dk_51 (dk_at dksX2_word_2_4 4 rfl rfl)
theorem dX2_word_2_100 : decode cX2_word_2 100 = .ok (.i2c, 1) := dk_146 (dk_at dksX2_word_2_4 5 rfl rfl)
theorem dX2_word_2_101 : decode cX2_word_2 101 = .ok (.castore, 1) := dk_85 (dk_at dksX2_word_2_4 6 rfl rfl)
theorem dX2_word_2_102 : decode cX2_word_2 102 = .ok (.iinc 2 1, 3) := dk_132 2 1 (dk_at dksX2_word_2_4 7 rfl rfl)
theorem dX2_word_2_105 : decode cX2_word_2 105 = .ok (.goto (-29), 3) := dk_167 255 227 (dk_at dksX2_word_2_4 10 rfl rfl)
theorem dX2_word_2_108 : decode cX2_word_2 108 = .ok (.aload_n 1, 1) := dk_43 (dk_at dksX2_word_2_4 13 rfl rfl)
theorem dX2_word_2_109 : decode cX2_word_2 109 = .ok (.invokestatic 64, 3) := dk_184 0 64 (dk_at dksX2_word_2_4 14 rfl rfl)
theorem dX2_word_2_112 : decode cX2_word_2 112 = .ok (.areturn, 1) := dk_176 (dk_at dksX2_word_2_4 17 rfl rfl)
abbrev cX2_here : ByteArray := prog_13_method_4_code
def yX2_here : MethodName := ⟨RX2, "here", "()I"⟩
def dkwX2_here_2 : List UInt8 := [172]
abbrev dktX2_here_2 : List UInt8 := dkwX2_here_2 ++ []
def dkwX2_here_1 : List UInt8 := [160, 0, 16, 42, 89, 180, 0, 36, 4, 96, 181, 0, 36, 167, 255, 220, 42, 42, 180, 0, 36, 182, 0, 39]
abbrev dktX2_here_1 : List UInt8 := dkwX2_here_1 ++ dktX2_here_2
def dkwX2_here_0 : List UInt8 := [42, 42, 180, 0, 36, 182, 0, 39, 16, 32, 159, 0, 16, 42, 42, 180, 0, 36, 182, 0, 39, 16, 10]
abbrev dktX2_here_0 : List UInt8 := dkwX2_here_0 ++ dktX2_here_1
theorem dksX2_here_0 : cX2_here.data.toList.drop 0 = dktX2_here_0 := by decide +kernel
theorem dksX2_here_1 : cX2_here.data.toList.drop 23 = dktX2_here_1 := dk_seg dksX2_here_0 23 rfl rfl
theorem dksX2_here_2 : cX2_here.data.toList.drop 47 = dktX2_here_2 := dk_seg dksX2_here_1 24 rfl rfl
theorem dX2_here_0 : decode cX2_here 0 = .ok (.aload_n 0, 1) := dk_42 (dk_at dksX2_here_0 0 rfl rfl)
theorem dX2_here_1 : decode cX2_here 1 = .ok (.aload_n 0, 1) := dk_42 (dk_at dksX2_here_0 1 rfl rfl)
theorem dX2_here_2 : decode cX2_here 2 = .ok (.getfield 36, 3) := dk_180 0 36 (dk_at dksX2_here_0 2 rfl rfl)
theorem dX2_here_5 : decode cX2_here 5 = .ok (.invokevirtual 39, 3) := dk_182 0 39 (dk_at dksX2_here_0 5 rfl rfl)
theorem dX2_here_8 : decode cX2_here 8 = .ok (.bipush 32, 2) := dk_16 32 (dk_at dksX2_here_0 8 rfl rfl)
theorem dX2_here_10 : decode cX2_here 10 = .ok (.if_icmp .eq 16, 3) := dk_159 0 16 (dk_at dksX2_here_0 10 rfl rfl)
theorem dX2_here_13 : decode cX2_here 13 = .ok (.aload_n 0, 1) := dk_42 (dk_at dksX2_here_0 13 rfl rfl)
theorem dX2_here_14 : decode cX2_here 14 = .ok (.aload_n 0, 1) := dk_42 (dk_at dksX2_here_0 14 rfl rfl)
theorem dX2_here_15 : decode cX2_here 15 = .ok (.getfield 36, 3) := dk_180 0 36 (dk_at dksX2_here_0 15 rfl rfl)
theorem dX2_here_18 : decode cX2_here 18 = .ok (.invokevirtual 39, 3) := dk_182 0 39 (dk_at dksX2_here_0 18 rfl rfl)
theorem dX2_here_21 : decode cX2_here 21 = .ok (.bipush 10, 2) := dk_16 10 (dk_at dksX2_here_0 21 rfl rfl)
theorem dX2_here_23 : decode cX2_here 23 = .ok (.if_icmp .ne 16, 3) := dk_160 0 16 (dk_at dksX2_here_1 0 rfl rfl)
theorem dX2_here_26 : decode cX2_here 26 = .ok (.aload_n 0, 1) := dk_42 (dk_at dksX2_here_1 3 rfl rfl)
theorem dX2_here_27 : decode cX2_here 27 = .ok (.dup, 1) := dk_89 (dk_at dksX2_here_1 4 rfl rfl)
theorem dX2_here_28 : decode cX2_here 28 = .ok (.getfield 36, 3) := dk_180 0 36 (dk_at dksX2_here_1 5 rfl rfl)
theorem dX2_here_31 : decode cX2_here 31 = .ok (.iconst 1, 1) := dk_4 (dk_at dksX2_here_1 8 rfl rfl)
theorem dX2_here_32 : decode cX2_here 32 = .ok (.iadd, 1) := dk_96 (dk_at dksX2_here_1 9 rfl rfl)
theorem dX2_here_33 : decode cX2_here 33 = .ok (.putfield 36, 3) := dk_181 0 36 (dk_at dksX2_here_1 10 rfl rfl)
theorem dX2_here_36 : decode cX2_here 36 = .ok (.goto (-36), 3) := dk_167 255 220 (dk_at dksX2_here_1 13 rfl rfl)
theorem dX2_here_39 : decode cX2_here 39 = .ok (.aload_n 0, 1) := dk_42 (dk_at dksX2_here_1 16 rfl rfl)
theorem dX2_here_40 : decode cX2_here 40 = .ok (.aload_n 0, 1) := dk_42 (dk_at dksX2_here_1 17 rfl rfl)
theorem dX2_here_41 : decode cX2_here 41 = .ok (.getfield 36, 3) := dk_180 0 36 (dk_at dksX2_here_1 18 rfl rfl)
theorem dX2_here_44 : decode cX2_here 44 = .ok (.invokevirtual 39, 3) := dk_182 0 39 (dk_at dksX2_here_1 21 rfl rfl)
theorem dX2_here_47 : decode cX2_here 47 = .ok (.ireturn, 1) := dk_172 (dk_at dksX2_here_2 0 rfl rfl)
abbrev cX2_byteAt : ByteArray := prog_13_method_3_code
def yX2_byteAt : MethodName := ⟨RX2, "byteAt", "(I)I"⟩
def dkwX2_byteAt_1 : List UInt8 := [126, 167, 0, 4, 2, 172]
abbrev dktX2_byteAt_1 : List UInt8 := dkwX2_byteAt_1 ++ []
def dkwX2_byteAt_0 : List UInt8 := [27, 155, 0, 27, 27, 42, 180, 0, 29, 162, 0, 19, 42, 180, 0, 3, 180, 0, 32, 27, 51, 17, 0, 255]
abbrev dktX2_byteAt_0 : List UInt8 := dkwX2_byteAt_0 ++ dktX2_byteAt_1
theorem dksX2_byteAt_0 : cX2_byteAt.data.toList.drop 0 = dktX2_byteAt_0 := by decide +kernel
theorem dksX2_byteAt_1 : cX2_byteAt.data.toList.drop 24 = dktX2_byteAt_1 := dk_seg dksX2_byteAt_0 24 rfl rfl
theorem dX2_byteAt_0 : decode cX2_byteAt 0 = .ok (.iload_n 1, 1) := dk_27 (dk_at dksX2_byteAt_0 0 rfl rfl)
theorem dX2_byteAt_1 : decode cX2_byteAt 1 = .ok (.ifCond .lt 27, 3) := dk_155 0 27 (dk_at dksX2_byteAt_0 1 rfl rfl)
theorem dX2_byteAt_4 : decode cX2_byteAt 4 = .ok (.iload_n 1, 1) := dk_27 (dk_at dksX2_byteAt_0 4 rfl rfl)
theorem dX2_byteAt_5 : decode cX2_byteAt 5 = .ok (.aload_n 0, 1) := dk_42 (dk_at dksX2_byteAt_0 5 rfl rfl)
theorem dX2_byteAt_6 : decode cX2_byteAt 6 = .ok (.getfield 29, 3) := dk_180 0 29 (dk_at dksX2_byteAt_0 6 rfl rfl)
theorem dX2_byteAt_9 : decode cX2_byteAt 9 = .ok (.if_icmp .ge 19, 3) := dk_162 0 19 (dk_at dksX2_byteAt_0 9 rfl rfl)
theorem dX2_byteAt_12 : decode cX2_byteAt 12 = .ok (.aload_n 0, 1) := dk_42 (dk_at dksX2_byteAt_0 12 rfl rfl)
theorem dX2_byteAt_13 : decode cX2_byteAt 13 = .ok (.getfield 3, 3) := dk_180 0 3 (dk_at dksX2_byteAt_0 13 rfl rfl)
theorem dX2_byteAt_16 : decode cX2_byteAt 16 = .ok (.getfield 32, 3) := dk_180 0 32 (dk_at dksX2_byteAt_0 16 rfl rfl)
theorem dX2_byteAt_19 : decode cX2_byteAt 19 = .ok (.iload_n 1, 1) := dk_27 (dk_at dksX2_byteAt_0 19 rfl rfl)
theorem dX2_byteAt_20 : decode cX2_byteAt 20 = .ok (.baload, 1) := dk_51 (dk_at dksX2_byteAt_0 20 rfl rfl)
theorem dX2_byteAt_21 : decode cX2_byteAt 21 = .ok (.sipush 255, 3) := dk_17 0 255 (dk_at dksX2_byteAt_0 21 rfl rfl)
theorem dX2_byteAt_24 : decode cX2_byteAt 24 = .ok (.iand, 1) := dk_126 (dk_at dksX2_byteAt_1 0 rfl rfl)
theorem dX2_byteAt_25 : decode cX2_byteAt 25 = .ok (.goto 4, 3) := dk_167 0 4 (dk_at dksX2_byteAt_1 1 rfl rfl)
theorem dX2_byteAt_28 : decode cX2_byteAt 28 = .ok (.iconst (-1), 1) := dk_2 (dk_at dksX2_byteAt_1 4 rfl rfl)
theorem dX2_byteAt_29 : decode cX2_byteAt 29 = .ok (.ireturn, 1) := dk_172 (dk_at dksX2_byteAt_1 5 rfl rfl)
abbrev cX2_wrong : ByteArray := prog_13_method_2_code
def yX2_wrong : MethodName := ⟨RX2, "wrong", "(II)LRetouched$Fault;"⟩
def dkwX2_wrong_0 : List UInt8 := [42, 180, 0, 18, 27, 181, 0, 22, 42, 180, 0, 18, 28, 181, 0, 26, 42, 180, 0, 18, 176]
abbrev dktX2_wrong_0 : List UInt8 := dkwX2_wrong_0 ++ []
theorem dksX2_wrong_0 : cX2_wrong.data.toList.drop 0 = dktX2_wrong_0 := by decide +kernel
theorem dX2_wrong_0 : decode cX2_wrong 0 = .ok (.aload_n 0, 1) := dk_42 (dk_at dksX2_wrong_0 0 rfl rfl)
theorem dX2_wrong_1 : decode cX2_wrong 1 = .ok (.getfield 18, 3) := dk_180 0 18 (dk_at dksX2_wrong_0 1 rfl rfl)
theorem dX2_wrong_4 : decode cX2_wrong 4 = .ok (.iload_n 1, 1) := dk_27 (dk_at dksX2_wrong_0 4 rfl rfl)
theorem dX2_wrong_5 : decode cX2_wrong 5 = .ok (.putfield 22, 3) := dk_181 0 22 (dk_at dksX2_wrong_0 5 rfl rfl)
theorem dX2_wrong_8 : decode cX2_wrong 8 = .ok (.aload_n 0, 1) := dk_42 (dk_at dksX2_wrong_0 8 rfl rfl)
theorem dX2_wrong_9 : decode cX2_wrong 9 = .ok (.getfield 18, 3) := dk_180 0 18 (dk_at dksX2_wrong_0 9 rfl rfl)
theorem dX2_wrong_12 : decode cX2_wrong 12 = .ok (.iload_n 2, 1) := dk_28 (dk_at dksX2_wrong_0 12 rfl rfl)
theorem dX2_wrong_13 : decode cX2_wrong 13 = .ok (.putfield 26, 3) := dk_181 0 26 (dk_at dksX2_wrong_0 13 rfl rfl)
theorem dX2_wrong_16 : decode cX2_wrong 16 = .ok (.aload_n 0, 1) := dk_42 (dk_at dksX2_wrong_0 16 rfl rfl)
theorem dX2_wrong_17 : decode cX2_wrong 17 = .ok (.getfield 18, 3) := dk_180 0 18 (dk_at dksX2_wrong_0 17 rfl rfl)
theorem dX2_wrong_20 : decode cX2_wrong 20 = .ok (.areturn, 1) := dk_176 (dk_at dksX2_wrong_0 20 rfl rfl)
abbrev cX2_parted : ByteArray := prog_13_method_6_code
def yX2_parted : MethodName := ⟨RX2, "parted", "()V"⟩
def dkwX2_parted_1 : List UInt8 := [182, 0, 39, 184, 0, 55, 153, 0, 13, 42, 4, 42, 180, 0, 36, 182, 0, 47, 191, 177]
abbrev dktX2_parted_1 : List UInt8 := dkwX2_parted_1 ++ []
def dkwX2_parted_0 : List UInt8 := [42, 42, 180, 0, 36, 4, 100, 182, 0, 39, 184, 0, 51, 154, 0, 19, 42, 42, 180, 0, 36, 4, 100]
abbrev dktX2_parted_0 : List UInt8 := dkwX2_parted_0 ++ dktX2_parted_1
theorem dksX2_parted_0 : cX2_parted.data.toList.drop 0 = dktX2_parted_0 := by decide +kernel
theorem dksX2_parted_1 : cX2_parted.data.toList.drop 23 = dktX2_parted_1 := dk_seg dksX2_parted_0 23 rfl rfl
theorem dX2_parted_0 : decode cX2_parted 0 = .ok (.aload_n 0, 1) := dk_42 (dk_at dksX2_parted_0 0 rfl rfl)
theorem dX2_parted_1 : decode cX2_parted 1 = .ok (.aload_n 0, 1) := dk_42 (dk_at dksX2_parted_0 1 rfl rfl)
theorem dX2_parted_2 : decode cX2_parted 2 = .ok (.getfield 36, 3) := dk_180 0 36 (dk_at dksX2_parted_0 2 rfl rfl)
theorem dX2_parted_5 : decode cX2_parted 5 = .ok (.iconst 1, 1) := dk_4 (dk_at dksX2_parted_0 5 rfl rfl)
theorem dX2_parted_6 : decode cX2_parted 6 = .ok (.isub, 1) := dk_100 (dk_at dksX2_parted_0 6 rfl rfl)
theorem dX2_parted_7 : decode cX2_parted 7 = .ok (.invokevirtual 39, 3) := dk_182 0 39 (dk_at dksX2_parted_0 7 rfl rfl)
theorem dX2_parted_10 : decode cX2_parted 10 = .ok (.invokestatic 51, 3) := dk_184 0 51 (dk_at dksX2_parted_0 10 rfl rfl)
theorem dX2_parted_13 : decode cX2_parted 13 = .ok (.ifCond .ne 19, 3) := dk_154 0 19 (dk_at dksX2_parted_0 13 rfl rfl)
theorem dX2_parted_16 : decode cX2_parted 16 = .ok (.aload_n 0, 1) := dk_42 (dk_at dksX2_parted_0 16 rfl rfl)
theorem dX2_parted_17 : decode cX2_parted 17 = .ok (.aload_n 0, 1) := dk_42 (dk_at dksX2_parted_0 17 rfl rfl)
theorem dX2_parted_18 : decode cX2_parted 18 = .ok (.getfield 36, 3) := dk_180 0 36 (dk_at dksX2_parted_0 18 rfl rfl)
theorem dX2_parted_21 : decode cX2_parted 21 = .ok (.iconst 1, 1) := dk_4 (dk_at dksX2_parted_0 21 rfl rfl)
theorem dX2_parted_22 : decode cX2_parted 22 = .ok (.isub, 1) := dk_100 (dk_at dksX2_parted_0 22 rfl rfl)
theorem dX2_parted_23 : decode cX2_parted 23 = .ok (.invokevirtual 39, 3) := dk_182 0 39 (dk_at dksX2_parted_1 0 rfl rfl)
theorem dX2_parted_26 : decode cX2_parted 26 = .ok (.invokestatic 55, 3) := dk_184 0 55 (dk_at dksX2_parted_1 3 rfl rfl)
theorem dX2_parted_29 : decode cX2_parted 29 = .ok (.ifCond .eq 13, 3) := dk_153 0 13 (dk_at dksX2_parted_1 6 rfl rfl)
theorem dX2_parted_32 : decode cX2_parted 32 = .ok (.aload_n 0, 1) := dk_42 (dk_at dksX2_parted_1 9 rfl rfl)
theorem dX2_parted_33 : decode cX2_parted 33 = .ok (.iconst 1, 1) := dk_4 (dk_at dksX2_parted_1 10 rfl rfl)
theorem dX2_parted_34 : decode cX2_parted 34 = .ok (.aload_n 0, 1) := dk_42 (dk_at dksX2_parted_1 11 rfl rfl)
theorem dX2_parted_35 : decode cX2_parted 35 = .ok (.getfield 36, 3) := dk_180 0 36 (dk_at dksX2_parted_1 12 rfl rfl)
theorem dX2_parted_38 : decode cX2_parted 38 = .ok (.invokevirtual 47, 3) := dk_182 0 47 (dk_at dksX2_parted_1 15 rfl rfl)
theorem dX2_parted_41 : decode cX2_parted 41 = .ok (.athrow, 1) := dk_191 (dk_at dksX2_parted_1 18 rfl rfl)
theorem dX2_parted_42 : decode cX2_parted 42 = .ok (.return_, 1) := dk_177 (dk_at dksX2_parted_1 19 rfl rfl)
abbrev cX2_number : ByteArray := prog_13_method_11_code
def yX2_number : MethodName := ⟨RX2, "number", "(II)I"⟩
def dkwX2_number_5 : List UInt8 := [191, 29, 172]
abbrev dktX2_number_5 : List UInt8 := dkwX2_number_5 ++ []
def dkwX2_number_4 : List UInt8 := [181, 0, 36, 167, 255, 192, 29, 27, 28, 184, 0, 89, 154, 0, 13, 42, 5, 42, 180, 0, 61, 182, 0, 47]
abbrev dktX2_number_4 : List UInt8 := dkwX2_number_4 ++ dktX2_number_5
def dkwX2_number_3 : List UInt8 := [16, 10, 29, 104, 42, 42, 180, 0, 36, 182, 0, 39, 96, 16, 48, 100, 62, 42, 89, 180, 0, 36, 4, 96]
abbrev dktX2_number_3 : List UInt8 := dkwX2_number_3 ++ dktX2_number_4
def dkwX2_number_2 : List UInt8 := [42, 180, 0, 36, 42, 180, 0, 61, 100, 7, 160, 0, 13, 42, 4, 42, 180, 0, 36, 182, 0, 47, 191]
abbrev dktX2_number_2 : List UInt8 := dkwX2_number_2 ++ dktX2_number_3
def dkwX2_number_1 : List UInt8 := [42, 42, 180, 0, 36, 181, 0, 61, 3, 62, 42, 42, 180, 0, 36, 182, 0, 39, 184, 0, 55, 153, 0, 56]
abbrev dktX2_number_1 : List UInt8 := dkwX2_number_1 ++ dktX2_number_2
def dkwX2_number_0 : List UInt8 := [42, 182, 0, 43, 184, 0, 55, 154, 0, 13, 42, 4, 42, 180, 0, 36, 182, 0, 47, 191, 42, 182, 0, 58]
abbrev dktX2_number_0 : List UInt8 := dkwX2_number_0 ++ dktX2_number_1
theorem dksX2_number_0 : cX2_number.data.toList.drop 0 = dktX2_number_0 := by decide +kernel
theorem dksX2_number_1 : cX2_number.data.toList.drop 24 = dktX2_number_1 := dk_seg dksX2_number_0 24 rfl rfl
theorem dksX2_number_2 : cX2_number.data.toList.drop 48 = dktX2_number_2 := dk_seg dksX2_number_1 24 rfl rfl
theorem dksX2_number_3 : cX2_number.data.toList.drop 71 = dktX2_number_3 := dk_seg dksX2_number_2 23 rfl rfl
theorem dksX2_number_4 : cX2_number.data.toList.drop 95 = dktX2_number_4 := dk_seg dksX2_number_3 24 rfl rfl
theorem dksX2_number_5 : cX2_number.data.toList.drop 119 = dktX2_number_5 := dk_seg dksX2_number_4 24 rfl rfl
theorem dX2_number_0 : decode cX2_number 0 = .ok (.aload_n 0, 1) := dk_42 (dk_at dksX2_number_0 0 rfl rfl)
theorem dX2_number_1 : decode cX2_number 1 = .ok (.invokevirtual 43, 3) := dk_182 0 43 (dk_at dksX2_number_0 1 rfl rfl)
theorem dX2_number_4 : decode cX2_number 4 = .ok (.invokestatic 55, 3) := dk_184 0 55 (dk_at dksX2_number_0 4 rfl rfl)
theorem dX2_number_7 : decode cX2_number 7 = .ok (.ifCond .ne 13, 3) := dk_154 0 13 (dk_at dksX2_number_0 7 rfl rfl)
theorem dX2_number_10 : decode cX2_number 10 = .ok (.aload_n 0, 1) := dk_42 (dk_at dksX2_number_0 10 rfl rfl)
theorem dX2_number_11 : decode cX2_number 11 = .ok (.iconst 1, 1) := dk_4 (dk_at dksX2_number_0 11 rfl rfl)
theorem dX2_number_12 : decode cX2_number 12 = .ok (.aload_n 0, 1) := dk_42 (dk_at dksX2_number_0 12 rfl rfl)
theorem dX2_number_13 : decode cX2_number 13 = .ok (.getfield 36, 3) := dk_180 0 36 (dk_at dksX2_number_0 13 rfl rfl)
theorem dX2_number_16 : decode cX2_number 16 = .ok (.invokevirtual 47, 3) := dk_182 0 47 (dk_at dksX2_number_0 16 rfl rfl)
theorem dX2_number_19 : decode cX2_number 19 = .ok (.athrow, 1) := dk_191 (dk_at dksX2_number_0 19 rfl rfl)
theorem dX2_number_20 : decode cX2_number 20 = .ok (.aload_n 0, 1) := dk_42 (dk_at dksX2_number_0 20 rfl rfl)
theorem dX2_number_21 : decode cX2_number 21 = .ok (.invokevirtual 58, 3) := dk_182 0 58 (dk_at dksX2_number_0 21 rfl rfl)
theorem dX2_number_24 : decode cX2_number 24 = .ok (.aload_n 0, 1) := dk_42 (dk_at dksX2_number_1 0 rfl rfl)
theorem dX2_number_25 : decode cX2_number 25 = .ok (.aload_n 0, 1) := dk_42 (dk_at dksX2_number_1 1 rfl rfl)
theorem dX2_number_26 : decode cX2_number 26 = .ok (.getfield 36, 3) := dk_180 0 36 (dk_at dksX2_number_1 2 rfl rfl)
theorem dX2_number_29 : decode cX2_number 29 = .ok (.putfield 61, 3) := dk_181 0 61 (dk_at dksX2_number_1 5 rfl rfl)
theorem dX2_number_32 : decode cX2_number 32 = .ok (.iconst 0, 1) := dk_3 (dk_at dksX2_number_1 8 rfl rfl)
theorem dX2_number_33 : decode cX2_number 33 = .ok (.istore_n 3, 1) := dk_62 (dk_at dksX2_number_1 9 rfl rfl)
theorem dX2_number_34 : decode cX2_number 34 = .ok (.aload_n 0, 1) := dk_42 (dk_at dksX2_number_1 10 rfl rfl)
theorem dX2_number_35 : decode cX2_number 35 = .ok (.aload_n 0, 1) := dk_42 (dk_at dksX2_number_1 11 rfl rfl)
theorem dX2_number_36 : decode cX2_number 36 = .ok (.getfield 36, 3) := dk_180 0 36 (dk_at dksX2_number_1 12 rfl rfl)
theorem dX2_number_39 : decode cX2_number 39 = .ok (.invokevirtual 39, 3) := dk_182 0 39 (dk_at dksX2_number_1 15 rfl rfl)
theorem dX2_number_42 : decode cX2_number 42 = .ok (.invokestatic 55, 3) := dk_184 0 55 (dk_at dksX2_number_1 18 rfl rfl)
theorem dX2_number_45 : decode cX2_number 45 = .ok (.ifCond .eq 56, 3) := dk_153 0 56 (dk_at dksX2_number_1 21 rfl rfl)
theorem dX2_number_48 : decode cX2_number 48 = .ok (.aload_n 0, 1) := dk_42 (dk_at dksX2_number_2 0 rfl rfl)
theorem dX2_number_49 : decode cX2_number 49 = .ok (.getfield 36, 3) := dk_180 0 36 (dk_at dksX2_number_2 1 rfl rfl)
theorem dX2_number_52 : decode cX2_number 52 = .ok (.aload_n 0, 1) := dk_42 (dk_at dksX2_number_2 4 rfl rfl)
theorem dX2_number_53 : decode cX2_number 53 = .ok (.getfield 61, 3) := dk_180 0 61 (dk_at dksX2_number_2 5 rfl rfl)
theorem dX2_number_56 : decode cX2_number 56 = .ok (.isub, 1) := dk_100 (dk_at dksX2_number_2 8 rfl rfl)
theorem dX2_number_57 : decode cX2_number 57 = .ok (.iconst 4, 1) := dk_7 (dk_at dksX2_number_2 9 rfl rfl)
theorem dX2_number_58 : decode cX2_number 58 = .ok (.if_icmp .ne 13, 3) := dk_160 0 13 (dk_at dksX2_number_2 10 rfl rfl)
theorem dX2_number_61 : decode cX2_number 61 = .ok (.aload_n 0, 1) := dk_42 (dk_at dksX2_number_2 13 rfl rfl)
theorem dX2_number_62 : decode cX2_number 62 = .ok (.iconst 1, 1) := dk_4 (dk_at dksX2_number_2 14 rfl rfl)
theorem dX2_number_63 : decode cX2_number 63 = .ok (.aload_n 0, 1) := dk_42 (dk_at dksX2_number_2 15 rfl rfl)
theorem dX2_number_64 : decode cX2_number 64 = .ok (.getfield 36, 3) := dk_180 0 36 (dk_at dksX2_number_2 16 rfl rfl)
theorem dX2_number_67 : decode cX2_number 67 = .ok (.invokevirtual 47, 3) := dk_182 0 47 (dk_at dksX2_number_2 19 rfl rfl)
theorem dX2_number_70 : decode cX2_number 70 = .ok (.athrow, 1) := dk_191 (dk_at dksX2_number_2 22 rfl rfl)
theorem dX2_number_71 : decode cX2_number 71 = .ok (.bipush 10, 2) := dk_16 10 (dk_at dksX2_number_3 0 rfl rfl)
theorem dX2_number_73 : decode cX2_number 73 = .ok (.iload_n 3, 1) := dk_29 (dk_at dksX2_number_3 2 rfl rfl)
theorem dX2_number_74 : decode cX2_number 74 = .ok (.imul, 1) := dk_104 (dk_at dksX2_number_3 3 rfl rfl)
theorem dX2_number_75 : decode cX2_number 75 = .ok (.aload_n 0, 1) := dk_42 (dk_at dksX2_number_3 4 rfl rfl)
theorem dX2_number_76 : decode cX2_number 76 = .ok (.aload_n 0, 1) := dk_42 (dk_at dksX2_number_3 5 rfl rfl)
theorem dX2_number_77 : decode cX2_number 77 = .ok (.getfield 36, 3) := dk_180 0 36 (dk_at dksX2_number_3 6 rfl rfl)
theorem dX2_number_80 : decode cX2_number 80 = .ok (.invokevirtual 39, 3) := dk_182 0 39 (dk_at dksX2_number_3 9 rfl rfl)
theorem dX2_number_83 : decode cX2_number 83 = .ok (.iadd, 1) := dk_96 (dk_at dksX2_number_3 12 rfl rfl)
theorem dX2_number_84 : decode cX2_number 84 = .ok (.bipush 48, 2) := dk_16 48 (dk_at dksX2_number_3 13 rfl rfl)
theorem dX2_number_86 : decode cX2_number 86 = .ok (.isub, 1) := dk_100 (dk_at dksX2_number_3 15 rfl rfl)
theorem dX2_number_87 : decode cX2_number 87 = .ok (.istore_n 3, 1) := dk_62 (dk_at dksX2_number_3 16 rfl rfl)
theorem dX2_number_88 : decode cX2_number 88 = .ok (.aload_n 0, 1) := dk_42 (dk_at dksX2_number_3 17 rfl rfl)
theorem dX2_number_89 : decode cX2_number 89 = .ok (.dup, 1) := dk_89 (dk_at dksX2_number_3 18 rfl rfl)
theorem dX2_number_90 : decode cX2_number 90 = .ok (.getfield 36, 3) := dk_180 0 36 (dk_at dksX2_number_3 19 rfl rfl)
theorem dX2_number_93 : decode cX2_number 93 = .ok (.iconst 1, 1) := dk_4 (dk_at dksX2_number_3 22 rfl rfl)
theorem dX2_number_94 : decode cX2_number 94 = .ok (.iadd, 1) := dk_96 (dk_at dksX2_number_3 23 rfl rfl)
theorem dX2_number_95 : decode cX2_number 95 = .ok (.putfield 36, 3) := dk_181 0 36 (dk_at dksX2_number_4 0 rfl rfl)
theorem dX2_number_98 : decode cX2_number 98 = .ok (.goto (-64), 3) := dk_167 255 192 (dk_at dksX2_number_4 3 rfl rfl)
theorem dX2_number_101 : decode cX2_number 101 = .ok (.iload_n 3, 1) := dk_29 (dk_at dksX2_number_4 6 rfl rfl)
theorem dX2_number_102 : decode cX2_number 102 = .ok (.iload_n 1, 1) := dk_27 (dk_at dksX2_number_4 7 rfl rfl)
theorem dX2_number_103 : decode cX2_number 103 = .ok (.iload_n 2, 1) := dk_28 (dk_at dksX2_number_4 8 rfl rfl)
theorem dX2_number_104 : decode cX2_number 104 = .ok (.invokestatic 89, 3) := dk_184 0 89 (dk_at dksX2_number_4 9 rfl rfl)
theorem dX2_number_107 : decode cX2_number 107 = .ok (.ifCond .ne 13, 3) := dk_154 0 13 (dk_at dksX2_number_4 12 rfl rfl)
theorem dX2_number_110 : decode cX2_number 110 = .ok (.aload_n 0, 1) := dk_42 (dk_at dksX2_number_4 15 rfl rfl)
theorem dX2_number_111 : decode cX2_number 111 = .ok (.iconst 2, 1) := dk_5 (dk_at dksX2_number_4 16 rfl rfl)
theorem dX2_number_112 : decode cX2_number 112 = .ok (.aload_n 0, 1) := dk_42 (dk_at dksX2_number_4 17 rfl rfl)
theorem dX2_number_113 : decode cX2_number 113 = .ok (.getfield 61, 3) := dk_180 0 61 (dk_at dksX2_number_4 18 rfl rfl)
theorem dX2_number_116 : decode cX2_number 116 = .ok (.invokevirtual 47, 3) := dk_182 0 47 (dk_at dksX2_number_4 21 rfl rfl)
theorem dX2_number_119 : decode cX2_number 119 = .ok (.athrow, 1) := dk_191 (dk_at dksX2_number_5 0 rfl rfl)
theorem dX2_number_120 : decode cX2_number 120 = .ok (.iload_n 3, 1) := dk_29 (dk_at dksX2_number_5 1 rfl rfl)
theorem dX2_number_121 : decode cX2_number 121 = .ok (.ireturn, 1) := dk_172 (dk_at dksX2_number_5 2 rfl rfl)
abbrev cX2_must : ByteArray := prog_13_method_5_code
def yX2_must : MethodName := ⟨RX2, "must", "(I)V"⟩
def dkwX2_must_1 : List UInt8 := [96, 181, 0, 36, 177]
abbrev dktX2_must_1 : List UInt8 := dkwX2_must_1 ++ []
def dkwX2_must_0 : List UInt8 := [42, 182, 0, 43, 27, 159, 0, 13, 42, 4, 42, 180, 0, 36, 182, 0, 47, 191, 42, 89, 180, 0, 36, 4]
abbrev dktX2_must_0 : List UInt8 := dkwX2_must_0 ++ dktX2_must_1
theorem dksX2_must_0 : cX2_must.data.toList.drop 0 = dktX2_must_0 := by decide +kernel
theorem dksX2_must_1 : cX2_must.data.toList.drop 24 = dktX2_must_1 := dk_seg dksX2_must_0 24 rfl rfl
theorem dX2_must_0 : decode cX2_must 0 = .ok (.aload_n 0, 1) := dk_42 (dk_at dksX2_must_0 0 rfl rfl)
theorem dX2_must_1 : decode cX2_must 1 = .ok (.invokevirtual 43, 3) := dk_182 0 43 (dk_at dksX2_must_0 1 rfl rfl)
theorem dX2_must_4 : decode cX2_must 4 = .ok (.iload_n 1, 1) := dk_27 (dk_at dksX2_must_0 4 rfl rfl)
theorem dX2_must_5 : decode cX2_must 5 = .ok (.if_icmp .eq 13, 3) := dk_159 0 13 (dk_at dksX2_must_0 5 rfl rfl)
theorem dX2_must_8 : decode cX2_must 8 = .ok (.aload_n 0, 1) := dk_42 (dk_at dksX2_must_0 8 rfl rfl)
theorem dX2_must_9 : decode cX2_must 9 = .ok (.iconst 1, 1) := dk_4 (dk_at dksX2_must_0 9 rfl rfl)
theorem dX2_must_10 : decode cX2_must 10 = .ok (.aload_n 0, 1) := dk_42 (dk_at dksX2_must_0 10 rfl rfl)
theorem dX2_must_11 : decode cX2_must 11 = .ok (.getfield 36, 3) := dk_180 0 36 (dk_at dksX2_must_0 11 rfl rfl)
theorem dX2_must_14 : decode cX2_must 14 = .ok (.invokevirtual 47, 3) := dk_182 0 47 (dk_at dksX2_must_0 14 rfl rfl)
theorem dX2_must_17 : decode cX2_must 17 = .ok (.athrow, 1) := dk_191 (dk_at dksX2_must_0 17 rfl rfl)
theorem dX2_must_18 : decode cX2_must 18 = .ok (.aload_n 0, 1) := dk_42 (dk_at dksX2_must_0 18 rfl rfl)
theorem dX2_must_19 : decode cX2_must 19 = .ok (.dup, 1) := dk_89 (dk_at dksX2_must_0 19 rfl rfl)
theorem dX2_must_20 : decode cX2_must 20 = .ok (.getfield 36, 3) := dk_180 0 36 (dk_at dksX2_must_0 20 rfl rfl)
theorem dX2_must_23 : decode cX2_must 23 = .ok (.iconst 1, 1) := dk_4 (dk_at dksX2_must_0 23 rfl rfl)
theorem dX2_must_24 : decode cX2_must 24 = .ok (.iadd, 1) := dk_96 (dk_at dksX2_must_1 0 rfl rfl)
theorem dX2_must_25 : decode cX2_must 25 = .ok (.putfield 36, 3) := dk_181 0 36 (dk_at dksX2_must_1 1 rfl rfl)
theorem dX2_must_28 : decode cX2_must 28 = .ok (.return_, 1) := dk_177 (dk_at dksX2_must_1 4 rfl rfl)
abbrev cX2_most : ByteArray := prog_13_method_13_code
def yX2_most : MethodName := ⟨RX2, "most", "(ZI)V"⟩
def dkwX2_most_0 : List UInt8 := [27, 153, 0, 10, 42, 8, 28, 182, 0, 47, 191, 177]
abbrev dktX2_most_0 : List UInt8 := dkwX2_most_0 ++ []
theorem dksX2_most_0 : cX2_most.data.toList.drop 0 = dktX2_most_0 := by decide +kernel
theorem dX2_most_0 : decode cX2_most 0 = .ok (.iload_n 1, 1) := dk_27 (dk_at dksX2_most_0 0 rfl rfl)
theorem dX2_most_1 : decode cX2_most 1 = .ok (.ifCond .eq 10, 3) := dk_153 0 10 (dk_at dksX2_most_0 1 rfl rfl)
theorem dX2_most_4 : decode cX2_most 4 = .ok (.aload_n 0, 1) := dk_42 (dk_at dksX2_most_0 4 rfl rfl)
theorem dX2_most_5 : decode cX2_most 5 = .ok (.iconst 5, 1) := dk_8 (dk_at dksX2_most_0 5 rfl rfl)
theorem dX2_most_6 : decode cX2_most 6 = .ok (.iload_n 2, 1) := dk_28 (dk_at dksX2_most_0 6 rfl rfl)
theorem dX2_most_7 : decode cX2_most 7 = .ok (.invokevirtual 47, 3) := dk_182 0 47 (dk_at dksX2_most_0 7 rfl rfl)
theorem dX2_most_10 : decode cX2_most 10 = .ok (.athrow, 1) := dk_191 (dk_at dksX2_most_0 10 rfl rfl)
theorem dX2_most_11 : decode cX2_most 11 = .ok (.return_, 1) := dk_177 (dk_at dksX2_most_0 11 rfl rfl)
abbrev cX2_told : ByteArray := prog_13_method_18_code
def yX2_told : MethodName := ⟨RX2, "told", "(Ljava/lang/String;I)V"⟩
def dkwX2_told_14 : List UInt8 := [181, 0, 214, 167, 0, 10, 42, 4, 28, 182, 0, 47, 191, 177]
abbrev dktX2_told_14 : List UInt8 := dkwX2_told_14 ++ []
def dkwX2_told_13 : List UInt8 := [180, 0, 100, 42, 182, 0, 210, 181, 0, 207, 167, 0, 27, 42, 180, 0, 100, 42, 3, 16, 100, 182, 0, 96]
abbrev dktX2_told_13 : List UInt8 := dkwX2_told_13 ++ dktX2_told_14
def dkwX2_told_12 : List UInt8 := [180, 0, 207, 198, 0, 7, 4, 167, 0, 4, 3, 28, 182, 0, 128, 42, 17, 0, 143, 181, 0, 162, 42]
abbrev dktX2_told_12 : List UInt8 := dkwX2_told_12 ++ dktX2_told_13
def dkwX2_told_11 : List UInt8 := [180, 0, 100, 180, 0, 205, 28, 16, 79, 182, 0, 201, 181, 0, 205, 167, 0, 68, 42, 42, 180, 0, 100]
abbrev dktX2_told_11 : List UInt8 := dkwX2_told_11 ++ dktX2_told_12
def dkwX2_told_10 : List UInt8 := [180, 0, 100, 180, 0, 198, 28, 16, 63, 182, 0, 201, 181, 0, 198, 167, 0, 92, 42, 180, 0, 100, 42, 42]
abbrev dktX2_told_10 : List UInt8 := dkwX2_told_10 ++ dktX2_told_11
def dkwX2_told_9 : List UInt8 := [180, 0, 195, 21, 6, 42, 3, 16, 9, 182, 0, 96, 79, 167, 0, 116, 42, 180, 0, 100, 42, 42]
abbrev dktX2_told_9 : List UInt8 := dkwX2_told_9 ++ dktX2_told_10
def dkwX2_told_8 : List UInt8 := [182, 0, 186, 54, 6, 42, 180, 0, 100, 180, 0, 136, 21, 5, 185, 0, 191, 2, 0, 192, 0, 153]
abbrev dktX2_told_8 : List UInt8 := dkwX2_told_8 ++ dktX2_told_9
def dkwX2_told_7 : List UInt8 := [42, 28, 182, 0, 184, 167, 0, 170, 42, 2, 182, 0, 186, 54, 5, 42, 18, 189, 182, 0, 93, 42, 21, 5]
abbrev dktX2_told_7 : List UInt8 := dkwX2_told_7 ++ dktX2_told_8
def dkwX2_told_6 : List UInt8 := [170, 0, 0, 0, 0, 0, 207, 0, 0, 0, 0, 0, 0, 0, 5, 0, 0, 0, 39, 0, 0, 0, 47, 0, 0, 0, 101, 0, 0, 0, 125, 0, 0, 0, 149, 0, 0, 0, 190]
abbrev dktX2_told_6 : List UInt8 := dkwX2_told_6 ++ dktX2_told_7
def dkwX2_told_5 : List UInt8 := [167, 0, 15, 45, 18, 182, 182, 0, 74, 153, 0, 6, 8, 54, 4, 21, 4]
abbrev dktX2_told_5 : List UInt8 := dkwX2_told_5 ++ dktX2_told_6
def dkwX2_told_4 : List UInt8 := [182, 0, 74, 153, 0, 36, 6, 54, 4, 167, 0, 30, 45, 18, 180, 182, 0, 74, 153, 0, 21, 7, 54, 4]
abbrev dktX2_told_4 : List UInt8 := dkwX2_told_4 ++ dktX2_told_5
def dkwX2_told_3 : List UInt8 := [4, 54, 4, 167, 0, 60, 45, 18, 176, 182, 0, 74, 153, 0, 51, 5, 54, 4, 167, 0, 45, 45, 18, 178]
abbrev dktX2_told_3 : List UInt8 := dkwX2_told_3 ++ dktX2_told_4
def dkwX2_told_2 : List UInt8 := [45, 18, 172, 182, 0, 74, 153, 0, 81, 3, 54, 4, 167, 0, 75, 45, 18, 174, 182, 0, 74, 153, 0, 66]
abbrev dktX2_told_2 : List UInt8 := dkwX2_told_2 ++ dktX2_told_3
def dkwX2_told_1 : List UInt8 := [171, 0, 0, 0, 0, 0, 146, 0, 0, 0, 6, 196, 167, 19, 213, 0, 0, 0, 89, 203, 221, 25, 193, 0, 0, 0, 74, 0, 47, 231, 142, 0, 0, 0, 119, 0, 53, 233, 64, 0, 0, 0, 134, 0, 53, 245, 243, 0, 0, 0, 59, 6, 49, 102, 97, 0, 0, 0, 104]
abbrev dktX2_told_1 : List UInt8 := dkwX2_told_1 ++ dktX2_told_2
def dkwX2_told_0 : List UInt8 := [43, 78, 2, 54, 4, 45, 182, 0, 169]
abbrev dktX2_told_0 : List UInt8 := dkwX2_told_0 ++ dktX2_told_1
theorem dksX2_told_0 : cX2_told.data.toList.drop 0 = dktX2_told_0 := by decide +kernel
theorem dksX2_told_1 : cX2_told.data.toList.drop 9 = dktX2_told_1 := dk_seg dksX2_told_0 9 rfl rfl
theorem dksX2_told_2 : cX2_told.data.toList.drop 68 = dktX2_told_2 := dk_seg dksX2_told_1 59 rfl rfl
theorem dksX2_told_3 : cX2_told.data.toList.drop 92 = dktX2_told_3 := dk_seg dksX2_told_2 24 rfl rfl
theorem dksX2_told_4 : cX2_told.data.toList.drop 116 = dktX2_told_4 := dk_seg dksX2_told_3 24 rfl rfl
theorem dksX2_told_5 : cX2_told.data.toList.drop 140 = dktX2_told_5 := dk_seg dksX2_told_4 24 rfl rfl
theorem dksX2_told_6 : cX2_told.data.toList.drop 157 = dktX2_told_6 := dk_seg dksX2_told_5 17 rfl rfl
theorem dksX2_told_7 : cX2_told.data.toList.drop 196 = dktX2_told_7 := dk_seg dksX2_told_6 39 rfl rfl
theorem dksX2_told_8 : cX2_told.data.toList.drop 220 = dktX2_told_8 := dk_seg dksX2_told_7 24 rfl rfl
theorem dksX2_told_9 : cX2_told.data.toList.drop 242 = dktX2_told_9 := dk_seg dksX2_told_8 22 rfl rfl
theorem dksX2_told_10 : cX2_told.data.toList.drop 264 = dktX2_told_10 := dk_seg dksX2_told_9 22 rfl rfl
theorem dksX2_told_11 : cX2_told.data.toList.drop 288 = dktX2_told_11 := dk_seg dksX2_told_10 24 rfl rfl
theorem dksX2_told_12 : cX2_told.data.toList.drop 311 = dktX2_told_12 := dk_seg dksX2_told_11 23 rfl rfl
theorem dksX2_told_13 : cX2_told.data.toList.drop 334 = dktX2_told_13 := dk_seg dksX2_told_12 23 rfl rfl
theorem dksX2_told_14 : cX2_told.data.toList.drop 358 = dktX2_told_14 := dk_seg dksX2_told_13 24 rfl rfl
theorem dX2_told_0 : decode cX2_told 0 = .ok (.aload_n 1, 1) := dk_43 (dk_at dksX2_told_0 0 rfl rfl)
theorem dX2_told_1 : decode cX2_told 1 = .ok (.astore_n 3, 1) := dk_78 (dk_at dksX2_told_0 1 rfl rfl)
theorem dX2_told_2 : decode cX2_told 2 = .ok (.iconst (-1), 1) := dk_2 (dk_at dksX2_told_0 2 rfl rfl)
theorem dX2_told_3 : decode cX2_told 3 = .ok (.istore 4, 2) := dk_54 4 (dk_at dksX2_told_0 3 rfl rfl)
theorem dX2_told_5 : decode cX2_told 5 = .ok (.aload_n 3, 1) := dk_45 (dk_at dksX2_told_0 5 rfl rfl)
theorem dX2_told_6 : decode cX2_told 6 = .ok (.invokevirtual 169, 3) := dk_182 0 169 (dk_at dksX2_told_0 6 rfl rfl)
theorem dX2_told_9 : decode cX2_told 9 = .ok (.lookupswitch 146 #[(-995683371, 89), (-874702399, 74), (3139470, 119), (3533120, 134), (3536371, 59), (103900769, 104)], 59) := by decide +kernel
theorem dX2_told_68 : decode cX2_told 68 = .ok (.aload_n 3, 1) := dk_45 (dk_at dksX2_told_2 0 rfl rfl)
theorem dX2_told_69 : decode cX2_told 69 = .ok (.ldc 172, 2) := dk_18 172 (dk_at dksX2_told_2 1 rfl rfl)
theorem dX2_told_71 : decode cX2_told 71 = .ok (.invokevirtual 74, 3) := dk_182 0 74 (dk_at dksX2_told_2 3 rfl rfl)
theorem dX2_told_74 : decode cX2_told 74 = .ok (.ifCond .eq 81, 3) := dk_153 0 81 (dk_at dksX2_told_2 6 rfl rfl)
theorem dX2_told_77 : decode cX2_told 77 = .ok (.iconst 0, 1) := dk_3 (dk_at dksX2_told_2 9 rfl rfl)
theorem dX2_told_78 : decode cX2_told 78 = .ok (.istore 4, 2) := dk_54 4 (dk_at dksX2_told_2 10 rfl rfl)
theorem dX2_told_80 : decode cX2_told 80 = .ok (.goto 75, 3) := dk_167 0 75 (dk_at dksX2_told_2 12 rfl rfl)
theorem dX2_told_83 : decode cX2_told 83 = .ok (.aload_n 3, 1) := dk_45 (dk_at dksX2_told_2 15 rfl rfl)
theorem dX2_told_84 : decode cX2_told 84 = .ok (.ldc 174, 2) := dk_18 174 (dk_at dksX2_told_2 16 rfl rfl)
theorem dX2_told_86 : decode cX2_told 86 = .ok (.invokevirtual 74, 3) := dk_182 0 74 (dk_at dksX2_told_2 18 rfl rfl)
theorem dX2_told_89 : decode cX2_told 89 = .ok (.ifCond .eq 66, 3) := dk_153 0 66 (dk_at dksX2_told_2 21 rfl rfl)
theorem dX2_told_92 : decode cX2_told 92 = .ok (.iconst 1, 1) := dk_4 (dk_at dksX2_told_3 0 rfl rfl)
theorem dX2_told_93 : decode cX2_told 93 = .ok (.istore 4, 2) := dk_54 4 (dk_at dksX2_told_3 1 rfl rfl)
theorem dX2_told_95 : decode cX2_told 95 = .ok (.goto 60, 3) := dk_167 0 60 (dk_at dksX2_told_3 3 rfl rfl)
theorem dX2_told_98 : decode cX2_told 98 = .ok (.aload_n 3, 1) := dk_45 (dk_at dksX2_told_3 6 rfl rfl)
theorem dX2_told_99 : decode cX2_told 99 = .ok (.ldc 176, 2) := dk_18 176 (dk_at dksX2_told_3 7 rfl rfl)
theorem dX2_told_101 : decode cX2_told 101 = .ok (.invokevirtual 74, 3) := dk_182 0 74 (dk_at dksX2_told_3 9 rfl rfl)
theorem dX2_told_104 : decode cX2_told 104 = .ok (.ifCond .eq 51, 3) := dk_153 0 51 (dk_at dksX2_told_3 12 rfl rfl)
theorem dX2_told_107 : decode cX2_told 107 = .ok (.iconst 2, 1) := dk_5 (dk_at dksX2_told_3 15 rfl rfl)
theorem dX2_told_108 : decode cX2_told 108 = .ok (.istore 4, 2) := dk_54 4 (dk_at dksX2_told_3 16 rfl rfl)
theorem dX2_told_110 : decode cX2_told 110 = .ok (.goto 45, 3) := dk_167 0 45 (dk_at dksX2_told_3 18 rfl rfl)
theorem dX2_told_113 : decode cX2_told 113 = .ok (.aload_n 3, 1) := dk_45 (dk_at dksX2_told_3 21 rfl rfl)
theorem dX2_told_114 : decode cX2_told 114 = .ok (.ldc 178, 2) := dk_18 178 (dk_at dksX2_told_3 22 rfl rfl)
theorem dX2_told_116 : decode cX2_told 116 = .ok (.invokevirtual 74, 3) := dk_182 0 74 (dk_at dksX2_told_4 0 rfl rfl)
theorem dX2_told_119 : decode cX2_told 119 = .ok (.ifCond .eq 36, 3) := dk_153 0 36 (dk_at dksX2_told_4 3 rfl rfl)
theorem dX2_told_122 : decode cX2_told 122 = .ok (.iconst 3, 1) := dk_6 (dk_at dksX2_told_4 6 rfl rfl)
theorem dX2_told_123 : decode cX2_told 123 = .ok (.istore 4, 2) := dk_54 4 (dk_at dksX2_told_4 7 rfl rfl)
theorem dX2_told_125 : decode cX2_told 125 = .ok (.goto 30, 3) := dk_167 0 30 (dk_at dksX2_told_4 9 rfl rfl)
theorem dX2_told_128 : decode cX2_told 128 = .ok (.aload_n 3, 1) := dk_45 (dk_at dksX2_told_4 12 rfl rfl)
theorem dX2_told_129 : decode cX2_told 129 = .ok (.ldc 180, 2) := dk_18 180 (dk_at dksX2_told_4 13 rfl rfl)
theorem dX2_told_131 : decode cX2_told 131 = .ok (.invokevirtual 74, 3) := dk_182 0 74 (dk_at dksX2_told_4 15 rfl rfl)
theorem dX2_told_134 : decode cX2_told 134 = .ok (.ifCond .eq 21, 3) := dk_153 0 21 (dk_at dksX2_told_4 18 rfl rfl)
theorem dX2_told_137 : decode cX2_told 137 = .ok (.iconst 4, 1) := dk_7 (dk_at dksX2_told_4 21 rfl rfl)
theorem dX2_told_138 : decode cX2_told 138 = .ok (.istore 4, 2) := dk_54 4 (dk_at dksX2_told_4 22 rfl rfl)
theorem dX2_told_140 : decode cX2_told 140 = .ok (.goto 15, 3) := dk_167 0 15 (dk_at dksX2_told_5 0 rfl rfl)
theorem dX2_told_143 : decode cX2_told 143 = .ok (.aload_n 3, 1) := dk_45 (dk_at dksX2_told_5 3 rfl rfl)
theorem dX2_told_144 : decode cX2_told 144 = .ok (.ldc 182, 2) := dk_18 182 (dk_at dksX2_told_5 4 rfl rfl)
theorem dX2_told_146 : decode cX2_told 146 = .ok (.invokevirtual 74, 3) := dk_182 0 74 (dk_at dksX2_told_5 6 rfl rfl)
theorem dX2_told_149 : decode cX2_told 149 = .ok (.ifCond .eq 6, 3) := dk_153 0 6 (dk_at dksX2_told_5 9 rfl rfl)
theorem dX2_told_152 : decode cX2_told 152 = .ok (.iconst 5, 1) := dk_8 (dk_at dksX2_told_5 12 rfl rfl)
theorem dX2_told_153 : decode cX2_told 153 = .ok (.istore 4, 2) := dk_54 4 (dk_at dksX2_told_5 13 rfl rfl)
theorem dX2_told_155 : decode cX2_told 155 = .ok (.iload 4, 2) := dk_21 4 (dk_at dksX2_told_5 15 rfl rfl)
theorem dX2_told_157 : decode cX2_told 157 = .ok (.tableswitch 207 0 5 #[39, 47, 101, 125, 149, 190], 39) := by decide +kernel
theorem dX2_told_196 : decode cX2_told 196 = .ok (.aload_n 0, 1) := dk_42 (dk_at dksX2_told_7 0 rfl rfl)
theorem dX2_told_197 : decode cX2_told 197 = .ok (.iload_n 2, 1) := dk_28 (dk_at dksX2_told_7 1 rfl rfl)
theorem dX2_told_198 : decode cX2_told 198 = .ok (.invokevirtual 184, 3) := dk_182 0 184 (dk_at dksX2_told_7 2 rfl rfl)
theorem dX2_told_201 : decode cX2_told 201 = .ok (.goto 170, 3) := dk_167 0 170 (dk_at dksX2_told_7 5 rfl rfl)
theorem dX2_told_204 : decode cX2_told 204 = .ok (.aload_n 0, 1) := dk_42 (dk_at dksX2_told_7 8 rfl rfl)
theorem dX2_told_205 : decode cX2_told 205 = .ok (.iconst (-1), 1) := dk_2 (dk_at dksX2_told_7 9 rfl rfl)
theorem dX2_told_206 : decode cX2_told 206 = .ok (.invokevirtual 186, 3) := dk_182 0 186 (dk_at dksX2_told_7 10 rfl rfl)
theorem dX2_told_209 : decode cX2_told 209 = .ok (.istore 5, 2) := dk_54 5 (dk_at dksX2_told_7 13 rfl rfl)
theorem dX2_told_211 : decode cX2_told 211 = .ok (.aload_n 0, 1) := dk_42 (dk_at dksX2_told_7 15 rfl rfl)
theorem dX2_told_212 : decode cX2_told 212 = .ok (.ldc 189, 2) := dk_18 189 (dk_at dksX2_told_7 16 rfl rfl)
theorem dX2_told_214 : decode cX2_told 214 = .ok (.invokevirtual 93, 3) := dk_182 0 93 (dk_at dksX2_told_7 18 rfl rfl)
theorem dX2_told_217 : decode cX2_told 217 = .ok (.aload_n 0, 1) := dk_42 (dk_at dksX2_told_7 21 rfl rfl)
theorem dX2_told_218 : decode cX2_told 218 = .ok (.iload 5, 2) := dk_21 5 (dk_at dksX2_told_7 22 rfl rfl)
theorem dX2_told_220 : decode cX2_told 220 = .ok (.invokevirtual 186, 3) := dk_182 0 186 (dk_at dksX2_told_8 0 rfl rfl)
theorem dX2_told_223 : decode cX2_told 223 = .ok (.istore 6, 2) := dk_54 6 (dk_at dksX2_told_8 3 rfl rfl)
theorem dX2_told_225 : decode cX2_told 225 = .ok (.aload_n 0, 1) := dk_42 (dk_at dksX2_told_8 5 rfl rfl)
theorem dX2_told_226 : decode cX2_told 226 = .ok (.getfield 100, 3) := dk_180 0 100 (dk_at dksX2_told_8 6 rfl rfl)
theorem dX2_told_229 : decode cX2_told 229 = .ok (.getfield 136, 3) := dk_180 0 136 (dk_at dksX2_told_8 9 rfl rfl)
theorem dX2_told_232 : decode cX2_told 232 = .ok (.iload 5, 2) := dk_21 5 (dk_at dksX2_told_8 12 rfl rfl)
theorem dX2_told_234 : decode cX2_told 234 = .ok (.invokeinterface 191 2, 5) := by decide +kernel
theorem dX2_told_239 : decode cX2_told 239 = .ok (.checkcast 153, 3) := dk_192 0 153 (dk_at dksX2_told_8 19 rfl rfl)
theorem dX2_told_242 : decode cX2_told 242 = .ok (.getfield 195, 3) := dk_180 0 195 (dk_at dksX2_told_9 0 rfl rfl)
theorem dX2_told_245 : decode cX2_told 245 = .ok (.iload 6, 2) := dk_21 6 (dk_at dksX2_told_9 3 rfl rfl)
theorem dX2_told_247 : decode cX2_told 247 = .ok (.aload_n 0, 1) := dk_42 (dk_at dksX2_told_9 5 rfl rfl)
theorem dX2_told_248 : decode cX2_told 248 = .ok (.iconst 0, 1) := dk_3 (dk_at dksX2_told_9 6 rfl rfl)
theorem dX2_told_249 : decode cX2_told 249 = .ok (.bipush 9, 2) := dk_16 9 (dk_at dksX2_told_9 7 rfl rfl)
theorem dX2_told_251 : decode cX2_told 251 = .ok (.invokevirtual 96, 3) := dk_182 0 96 (dk_at dksX2_told_9 9 rfl rfl)
theorem dX2_told_254 : decode cX2_told 254 = .ok (.iastore, 1) := dk_79 (dk_at dksX2_told_9 12 rfl rfl)
theorem dX2_told_255 : decode cX2_told 255 = .ok (.goto 116, 3) := dk_167 0 116 (dk_at dksX2_told_9 13 rfl rfl)
theorem dX2_told_258 : decode cX2_told 258 = .ok (.aload_n 0, 1) := dk_42 (dk_at dksX2_told_9 16 rfl rfl)
theorem dX2_told_259 : decode cX2_told 259 = .ok (.getfield 100, 3) := dk_180 0 100 (dk_at dksX2_told_9 17 rfl rfl)
theorem dX2_told_262 : decode cX2_told 262 = .ok (.aload_n 0, 1) := dk_42 (dk_at dksX2_told_9 20 rfl rfl)
theorem dX2_told_263 : decode cX2_told 263 = .ok (.aload_n 0, 1) := dk_42 (dk_at dksX2_told_9 21 rfl rfl)
theorem dX2_told_264 : decode cX2_told 264 = .ok (.getfield 100, 3) := dk_180 0 100 (dk_at dksX2_told_10 0 rfl rfl)
theorem dX2_told_267 : decode cX2_told 267 = .ok (.getfield 198, 3) := dk_180 0 198 (dk_at dksX2_told_10 3 rfl rfl)
theorem dX2_told_270 : decode cX2_told 270 = .ok (.iload_n 2, 1) := dk_28 (dk_at dksX2_told_10 6 rfl rfl)
theorem dX2_told_271 : decode cX2_told 271 = .ok (.bipush 63, 2) := dk_16 63 (dk_at dksX2_told_10 7 rfl rfl)
theorem dX2_told_273 : decode cX2_told 273 = .ok (.invokevirtual 201, 3) := dk_182 0 201 (dk_at dksX2_told_10 9 rfl rfl)
theorem dX2_told_276 : decode cX2_told 276 = .ok (.putfield 198, 3) := dk_181 0 198 (dk_at dksX2_told_10 12 rfl rfl)
theorem dX2_told_279 : decode cX2_told 279 = .ok (.goto 92, 3) := dk_167 0 92 (dk_at dksX2_told_10 15 rfl rfl)
theorem dX2_told_282 : decode cX2_told 282 = .ok (.aload_n 0, 1) := dk_42 (dk_at dksX2_told_10 18 rfl rfl)
theorem dX2_told_283 : decode cX2_told 283 = .ok (.getfield 100, 3) := dk_180 0 100 (dk_at dksX2_told_10 19 rfl rfl)
theorem dX2_told_286 : decode cX2_told 286 = .ok (.aload_n 0, 1) := dk_42 (dk_at dksX2_told_10 22 rfl rfl)
theorem dX2_told_287 : decode cX2_told 287 = .ok (.aload_n 0, 1) := dk_42 (dk_at dksX2_told_10 23 rfl rfl)
theorem dX2_told_288 : decode cX2_told 288 = .ok (.getfield 100, 3) := dk_180 0 100 (dk_at dksX2_told_11 0 rfl rfl)
theorem dX2_told_291 : decode cX2_told 291 = .ok (.getfield 205, 3) := dk_180 0 205 (dk_at dksX2_told_11 3 rfl rfl)
theorem dX2_told_294 : decode cX2_told 294 = .ok (.iload_n 2, 1) := dk_28 (dk_at dksX2_told_11 6 rfl rfl)
theorem dX2_told_295 : decode cX2_told 295 = .ok (.bipush 79, 2) := dk_16 79 (dk_at dksX2_told_11 7 rfl rfl)
theorem dX2_told_297 : decode cX2_told 297 = .ok (.invokevirtual 201, 3) := dk_182 0 201 (dk_at dksX2_told_11 9 rfl rfl)
theorem dX2_told_300 : decode cX2_told 300 = .ok (.putfield 205, 3) := dk_181 0 205 (dk_at dksX2_told_11 12 rfl rfl)
theorem dX2_told_303 : decode cX2_told 303 = .ok (.goto 68, 3) := dk_167 0 68 (dk_at dksX2_told_11 15 rfl rfl)
theorem dX2_told_306 : decode cX2_told 306 = .ok (.aload_n 0, 1) := dk_42 (dk_at dksX2_told_11 18 rfl rfl)
theorem dX2_told_307 : decode cX2_told 307 = .ok (.aload_n 0, 1) := dk_42 (dk_at dksX2_told_11 19 rfl rfl)
theorem dX2_told_308 : decode cX2_told 308 = .ok (.getfield 100, 3) := dk_180 0 100 (dk_at dksX2_told_11 20 rfl rfl)
theorem dX2_told_311 : decode cX2_told 311 = .ok (.getfield 207, 3) := dk_180 0 207 (dk_at dksX2_told_12 0 rfl rfl)
theorem dX2_told_314 : decode cX2_told 314 = .ok (.ifnull 7, 3) := dk_198 0 7 (dk_at dksX2_told_12 3 rfl rfl)
theorem dX2_told_317 : decode cX2_told 317 = .ok (.iconst 1, 1) := dk_4 (dk_at dksX2_told_12 6 rfl rfl)
theorem dX2_told_318 : decode cX2_told 318 = .ok (.goto 4, 3) := dk_167 0 4 (dk_at dksX2_told_12 7 rfl rfl)
theorem dX2_told_321 : decode cX2_told 321 = .ok (.iconst 0, 1) := dk_3 (dk_at dksX2_told_12 10 rfl rfl)
theorem dX2_told_322 : decode cX2_told 322 = .ok (.iload_n 2, 1) := dk_28 (dk_at dksX2_told_12 11 rfl rfl)
theorem dX2_told_323 : decode cX2_told 323 = .ok (.invokevirtual 128, 3) := dk_182 0 128 (dk_at dksX2_told_12 12 rfl rfl)
theorem dX2_told_326 : decode cX2_told 326 = .ok (.aload_n 0, 1) := dk_42 (dk_at dksX2_told_12 15 rfl rfl)
theorem dX2_told_327 : decode cX2_told 327 = .ok (.sipush 143, 3) := dk_17 0 143 (dk_at dksX2_told_12 16 rfl rfl)
theorem dX2_told_330 : decode cX2_told 330 = .ok (.putfield 162, 3) := dk_181 0 162 (dk_at dksX2_told_12 19 rfl rfl)
theorem dX2_told_333 : decode cX2_told 333 = .ok (.aload_n 0, 1) := dk_42 (dk_at dksX2_told_12 22 rfl rfl)
theorem dX2_told_334 : decode cX2_told 334 = .ok (.getfield 100, 3) := dk_180 0 100 (dk_at dksX2_told_13 0 rfl rfl)
theorem dX2_told_337 : decode cX2_told 337 = .ok (.aload_n 0, 1) := dk_42 (dk_at dksX2_told_13 3 rfl rfl)
theorem dX2_told_338 : decode cX2_told 338 = .ok (.invokevirtual 210, 3) := dk_182 0 210 (dk_at dksX2_told_13 4 rfl rfl)
theorem dX2_told_341 : decode cX2_told 341 = .ok (.putfield 207, 3) := dk_181 0 207 (dk_at dksX2_told_13 7 rfl rfl)
theorem dX2_told_344 : decode cX2_told 344 = .ok (.goto 27, 3) := dk_167 0 27 (dk_at dksX2_told_13 10 rfl rfl)
theorem dX2_told_347 : decode cX2_told 347 = .ok (.aload_n 0, 1) := dk_42 (dk_at dksX2_told_13 13 rfl rfl)
theorem dX2_told_348 : decode cX2_told 348 = .ok (.getfield 100, 3) := dk_180 0 100 (dk_at dksX2_told_13 14 rfl rfl)
theorem dX2_told_351 : decode cX2_told 351 = .ok (.aload_n 0, 1) := dk_42 (dk_at dksX2_told_13 17 rfl rfl)
theorem dX2_told_352 : decode cX2_told 352 = .ok (.iconst 0, 1) := dk_3 (dk_at dksX2_told_13 18 rfl rfl)
theorem dX2_told_353 : decode cX2_told 353 = .ok (.bipush 100, 2) := dk_16 100 (dk_at dksX2_told_13 19 rfl rfl)
theorem dX2_told_355 : decode cX2_told 355 = .ok (.invokevirtual 96, 3) := dk_182 0 96 (dk_at dksX2_told_13 21 rfl rfl)
theorem dX2_told_358 : decode cX2_told 358 = .ok (.putfield 214, 3) := dk_181 0 214 (dk_at dksX2_told_14 0 rfl rfl)
theorem dX2_told_361 : decode cX2_told 361 = .ok (.goto 10, 3) := dk_167 0 10 (dk_at dksX2_told_14 3 rfl rfl)
theorem dX2_told_364 : decode cX2_told 364 = .ok (.aload_n 0, 1) := dk_42 (dk_at dksX2_told_14 6 rfl rfl)
theorem dX2_told_365 : decode cX2_told 365 = .ok (.iconst 1, 1) := dk_4 (dk_at dksX2_told_14 7 rfl rfl)
theorem dX2_told_366 : decode cX2_told 366 = .ok (.iload_n 2, 1) := dk_28 (dk_at dksX2_told_14 8 rfl rfl)
theorem dX2_told_367 : decode cX2_told 367 = .ok (.invokevirtual 47, 3) := dk_182 0 47 (dk_at dksX2_told_14 9 rfl rfl)
theorem dX2_told_370 : decode cX2_told 370 = .ok (.athrow, 1) := dk_191 (dk_at dksX2_told_14 12 rfl rfl)
theorem dX2_told_371 : decode cX2_told 371 = .ok (.return_, 1) := dk_177 (dk_at dksX2_told_14 13 rfl rfl)
abbrev cX2_soul : ByteArray := prog_13_method_16_code
def yX2_soul : MethodName := ⟨RX2, "soul", "(I)V"⟩
def dkwX2_soul_5 : List UInt8 := [29, 21, 4, 42, 18, 155, 3, 16, 9, 182, 0, 150, 183, 0, 156, 185, 0, 159, 2, 0, 87, 177]
abbrev dktX2_soul_5 : List UInt8 := dkwX2_soul_5 ++ []
def dkwX2_soul_4 : List UInt8 := [191, 42, 18, 148, 3, 16, 9, 182, 0, 150, 54, 4, 42, 180, 0, 100, 180, 0, 136, 187, 0, 153, 89, 44]
abbrev dktX2_soul_4 : List UInt8 := dkwX2_soul_4 ++ dktX2_soul_5
def dkwX2_soul_3 : List UInt8 := [182, 0, 96, 62, 42, 180, 0, 100, 29, 182, 0, 145, 153, 0, 13, 42, 5, 42, 180, 0, 61, 182, 0, 47]
abbrev dktX2_soul_3 : List UInt8 := dkwX2_soul_3 ++ dktX2_soul_4
def dkwX2_soul_2 : List UInt8 := [180, 0, 61, 182, 0, 47, 191, 42, 18, 144, 182, 0, 93, 42, 3, 42, 180, 0, 100, 180, 0, 118, 4, 100]
abbrev dktX2_soul_2 : List UInt8 := dkwX2_soul_2 ++ dktX2_soul_3
def dkwX2_soul_1 : List UInt8 := [182, 0, 128, 42, 182, 0, 104, 77, 42, 180, 0, 100, 44, 182, 0, 107, 2, 159, 0, 13, 42, 6, 42]
abbrev dktX2_soul_1 : List UInt8 := dkwX2_soul_1 ++ dktX2_soul_2
def dkwX2_soul_0 : List UInt8 := [42, 42, 180, 0, 100, 180, 0, 136, 185, 0, 140, 1, 0, 16, 8, 160, 0, 7, 4, 167, 0, 4, 3, 27]
abbrev dktX2_soul_0 : List UInt8 := dkwX2_soul_0 ++ dktX2_soul_1
theorem dksX2_soul_0 : cX2_soul.data.toList.drop 0 = dktX2_soul_0 := by decide +kernel
theorem dksX2_soul_1 : cX2_soul.data.toList.drop 24 = dktX2_soul_1 := dk_seg dksX2_soul_0 24 rfl rfl
theorem dksX2_soul_2 : cX2_soul.data.toList.drop 47 = dktX2_soul_2 := dk_seg dksX2_soul_1 23 rfl rfl
theorem dksX2_soul_3 : cX2_soul.data.toList.drop 71 = dktX2_soul_3 := dk_seg dksX2_soul_2 24 rfl rfl
theorem dksX2_soul_4 : cX2_soul.data.toList.drop 95 = dktX2_soul_4 := dk_seg dksX2_soul_3 24 rfl rfl
theorem dksX2_soul_5 : cX2_soul.data.toList.drop 119 = dktX2_soul_5 := dk_seg dksX2_soul_4 24 rfl rfl
theorem dX2_soul_0 : decode cX2_soul 0 = .ok (.aload_n 0, 1) := dk_42 (dk_at dksX2_soul_0 0 rfl rfl)
theorem dX2_soul_1 : decode cX2_soul 1 = .ok (.aload_n 0, 1) := dk_42 (dk_at dksX2_soul_0 1 rfl rfl)
theorem dX2_soul_2 : decode cX2_soul 2 = .ok (.getfield 100, 3) := dk_180 0 100 (dk_at dksX2_soul_0 2 rfl rfl)
theorem dX2_soul_5 : decode cX2_soul 5 = .ok (.getfield 136, 3) := dk_180 0 136 (dk_at dksX2_soul_0 5 rfl rfl)
theorem dX2_soul_8 : decode cX2_soul 8 = .ok (.invokeinterface 140 1, 5) := by decide +kernel
theorem dX2_soul_13 : decode cX2_soul 13 = .ok (.bipush 8, 2) := dk_16 8 (dk_at dksX2_soul_0 13 rfl rfl)
theorem dX2_soul_15 : decode cX2_soul 15 = .ok (.if_icmp .ne 7, 3) := dk_160 0 7 (dk_at dksX2_soul_0 15 rfl rfl)
theorem dX2_soul_18 : decode cX2_soul 18 = .ok (.iconst 1, 1) := dk_4 (dk_at dksX2_soul_0 18 rfl rfl)
theorem dX2_soul_19 : decode cX2_soul 19 = .ok (.goto 4, 3) := dk_167 0 4 (dk_at dksX2_soul_0 19 rfl rfl)
theorem dX2_soul_22 : decode cX2_soul 22 = .ok (.iconst 0, 1) := dk_3 (dk_at dksX2_soul_0 22 rfl rfl)
theorem dX2_soul_23 : decode cX2_soul 23 = .ok (.iload_n 1, 1) := dk_27 (dk_at dksX2_soul_0 23 rfl rfl)
theorem dX2_soul_24 : decode cX2_soul 24 = .ok (.invokevirtual 128, 3) := dk_182 0 128 (dk_at dksX2_soul_1 0 rfl rfl)
theorem dX2_soul_27 : decode cX2_soul 27 = .ok (.aload_n 0, 1) := dk_42 (dk_at dksX2_soul_1 3 rfl rfl)
theorem dX2_soul_28 : decode cX2_soul 28 = .ok (.invokevirtual 104, 3) := dk_182 0 104 (dk_at dksX2_soul_1 4 rfl rfl)
theorem dX2_soul_31 : decode cX2_soul 31 = .ok (.astore_n 2, 1) := dk_77 (dk_at dksX2_soul_1 7 rfl rfl)
theorem dX2_soul_32 : decode cX2_soul 32 = .ok (.aload_n 0, 1) := dk_42 (dk_at dksX2_soul_1 8 rfl rfl)
theorem dX2_soul_33 : decode cX2_soul 33 = .ok (.getfield 100, 3) := dk_180 0 100 (dk_at dksX2_soul_1 9 rfl rfl)
theorem dX2_soul_36 : decode cX2_soul 36 = .ok (.aload_n 2, 1) := dk_44 (dk_at dksX2_soul_1 12 rfl rfl)
theorem dX2_soul_37 : decode cX2_soul 37 = .ok (.invokevirtual 107, 3) := dk_182 0 107 (dk_at dksX2_soul_1 13 rfl rfl)
theorem dX2_soul_40 : decode cX2_soul 40 = .ok (.iconst (-1), 1) := dk_2 (dk_at dksX2_soul_1 16 rfl rfl)
theorem dX2_soul_41 : decode cX2_soul 41 = .ok (.if_icmp .eq 13, 3) := dk_159 0 13 (dk_at dksX2_soul_1 17 rfl rfl)
theorem dX2_soul_44 : decode cX2_soul 44 = .ok (.aload_n 0, 1) := dk_42 (dk_at dksX2_soul_1 20 rfl rfl)
theorem dX2_soul_45 : decode cX2_soul 45 = .ok (.iconst 3, 1) := dk_6 (dk_at dksX2_soul_1 21 rfl rfl)
theorem dX2_soul_46 : decode cX2_soul 46 = .ok (.aload_n 0, 1) := dk_42 (dk_at dksX2_soul_1 22 rfl rfl)
theorem dX2_soul_47 : decode cX2_soul 47 = .ok (.getfield 61, 3) := dk_180 0 61 (dk_at dksX2_soul_2 0 rfl rfl)
theorem dX2_soul_50 : decode cX2_soul 50 = .ok (.invokevirtual 47, 3) := dk_182 0 47 (dk_at dksX2_soul_2 3 rfl rfl)
theorem dX2_soul_53 : decode cX2_soul 53 = .ok (.athrow, 1) := dk_191 (dk_at dksX2_soul_2 6 rfl rfl)
theorem dX2_soul_54 : decode cX2_soul 54 = .ok (.aload_n 0, 1) := dk_42 (dk_at dksX2_soul_2 7 rfl rfl)
theorem dX2_soul_55 : decode cX2_soul 55 = .ok (.ldc 144, 2) := dk_18 144 (dk_at dksX2_soul_2 8 rfl rfl)
theorem dX2_soul_57 : decode cX2_soul 57 = .ok (.invokevirtual 93, 3) := dk_182 0 93 (dk_at dksX2_soul_2 10 rfl rfl)
theorem dX2_soul_60 : decode cX2_soul 60 = .ok (.aload_n 0, 1) := dk_42 (dk_at dksX2_soul_2 13 rfl rfl)
theorem dX2_soul_61 : decode cX2_soul 61 = .ok (.iconst 0, 1) := dk_3 (dk_at dksX2_soul_2 14 rfl rfl)
theorem dX2_soul_62 : decode cX2_soul 62 = .ok (.aload_n 0, 1) := dk_42 (dk_at dksX2_soul_2 15 rfl rfl)
theorem dX2_soul_63 : decode cX2_soul 63 = .ok (.getfield 100, 3) := dk_180 0 100 (dk_at dksX2_soul_2 16 rfl rfl)
theorem dX2_soul_66 : decode cX2_soul 66 = .ok (.getfield 118, 3) := dk_180 0 118 (dk_at dksX2_soul_2 19 rfl rfl)
theorem dX2_soul_69 : decode cX2_soul 69 = .ok (.iconst 1, 1) := dk_4 (dk_at dksX2_soul_2 22 rfl rfl)
theorem dX2_soul_70 : decode cX2_soul 70 = .ok (.isub, 1) := dk_100 (dk_at dksX2_soul_2 23 rfl rfl)
theorem dX2_soul_71 : decode cX2_soul 71 = .ok (.invokevirtual 96, 3) := dk_182 0 96 (dk_at dksX2_soul_3 0 rfl rfl)
theorem dX2_soul_74 : decode cX2_soul 74 = .ok (.istore_n 3, 1) := dk_62 (dk_at dksX2_soul_3 3 rfl rfl)
theorem dX2_soul_75 : decode cX2_soul 75 = .ok (.aload_n 0, 1) := dk_42 (dk_at dksX2_soul_3 4 rfl rfl)
theorem dX2_soul_76 : decode cX2_soul 76 = .ok (.getfield 100, 3) := dk_180 0 100 (dk_at dksX2_soul_3 5 rfl rfl)
theorem dX2_soul_79 : decode cX2_soul 79 = .ok (.iload_n 3, 1) := dk_29 (dk_at dksX2_soul_3 8 rfl rfl)
theorem dX2_soul_80 : decode cX2_soul 80 = .ok (.invokevirtual 145, 3) := dk_182 0 145 (dk_at dksX2_soul_3 9 rfl rfl)
theorem dX2_soul_83 : decode cX2_soul 83 = .ok (.ifCond .eq 13, 3) := dk_153 0 13 (dk_at dksX2_soul_3 12 rfl rfl)
theorem dX2_soul_86 : decode cX2_soul 86 = .ok (.aload_n 0, 1) := dk_42 (dk_at dksX2_soul_3 15 rfl rfl)
theorem dX2_soul_87 : decode cX2_soul 87 = .ok (.iconst 2, 1) := dk_5 (dk_at dksX2_soul_3 16 rfl rfl)
theorem dX2_soul_88 : decode cX2_soul 88 = .ok (.aload_n 0, 1) := dk_42 (dk_at dksX2_soul_3 17 rfl rfl)
theorem dX2_soul_89 : decode cX2_soul 89 = .ok (.getfield 61, 3) := dk_180 0 61 (dk_at dksX2_soul_3 18 rfl rfl)
theorem dX2_soul_92 : decode cX2_soul 92 = .ok (.invokevirtual 47, 3) := dk_182 0 47 (dk_at dksX2_soul_3 21 rfl rfl)
theorem dX2_soul_95 : decode cX2_soul 95 = .ok (.athrow, 1) := dk_191 (dk_at dksX2_soul_4 0 rfl rfl)
theorem dX2_soul_96 : decode cX2_soul 96 = .ok (.aload_n 0, 1) := dk_42 (dk_at dksX2_soul_4 1 rfl rfl)
theorem dX2_soul_97 : decode cX2_soul 97 = .ok (.ldc 148, 2) := dk_18 148 (dk_at dksX2_soul_4 2 rfl rfl)
theorem dX2_soul_99 : decode cX2_soul 99 = .ok (.iconst 0, 1) := dk_3 (dk_at dksX2_soul_4 4 rfl rfl)
theorem dX2_soul_100 : decode cX2_soul 100 = .ok (.bipush 9, 2) := dk_16 9 (dk_at dksX2_soul_4 5 rfl rfl)
theorem dX2_soul_102 : decode cX2_soul 102 = .ok (.invokevirtual 150, 3) := dk_182 0 150 (dk_at dksX2_soul_4 7 rfl rfl)
theorem dX2_soul_105 : decode cX2_soul 105 = .ok (.istore 4, 2) := dk_54 4 (dk_at dksX2_soul_4 10 rfl rfl)
theorem dX2_soul_107 : decode cX2_soul 107 = .ok (.aload_n 0, 1) := dk_42 (dk_at dksX2_soul_4 12 rfl rfl)
theorem dX2_soul_108 : decode cX2_soul 108 = .ok (.getfield 100, 3) := dk_180 0 100 (dk_at dksX2_soul_4 13 rfl rfl)
theorem dX2_soul_111 : decode cX2_soul 111 = .ok (.getfield 136, 3) := dk_180 0 136 (dk_at dksX2_soul_4 16 rfl rfl)
theorem dX2_soul_114 : decode cX2_soul 114 = .ok (.new 153, 3) := dk_187 0 153 (dk_at dksX2_soul_4 19 rfl rfl)
theorem dX2_soul_117 : decode cX2_soul 117 = .ok (.dup, 1) := dk_89 (dk_at dksX2_soul_4 22 rfl rfl)
theorem dX2_soul_118 : decode cX2_soul 118 = .ok (.aload_n 2, 1) := dk_44 (dk_at dksX2_soul_4 23 rfl rfl)
theorem dX2_soul_119 : decode cX2_soul 119 = .ok (.iload_n 3, 1) := dk_29 (dk_at dksX2_soul_5 0 rfl rfl)
theorem dX2_soul_120 : decode cX2_soul 120 = .ok (.iload 4, 2) := dk_21 4 (dk_at dksX2_soul_5 1 rfl rfl)
theorem dX2_soul_122 : decode cX2_soul 122 = .ok (.aload_n 0, 1) := dk_42 (dk_at dksX2_soul_5 3 rfl rfl)
theorem dX2_soul_123 : decode cX2_soul 123 = .ok (.ldc 155, 2) := dk_18 155 (dk_at dksX2_soul_5 4 rfl rfl)
theorem dX2_soul_125 : decode cX2_soul 125 = .ok (.iconst 0, 1) := dk_3 (dk_at dksX2_soul_5 6 rfl rfl)
theorem dX2_soul_126 : decode cX2_soul 126 = .ok (.bipush 9, 2) := dk_16 9 (dk_at dksX2_soul_5 7 rfl rfl)
theorem dX2_soul_128 : decode cX2_soul 128 = .ok (.invokevirtual 150, 3) := dk_182 0 150 (dk_at dksX2_soul_5 9 rfl rfl)
theorem dX2_soul_131 : decode cX2_soul 131 = .ok (.invokespecial 156, 3) := dk_183 0 156 (dk_at dksX2_soul_5 12 rfl rfl)
theorem dX2_soul_134 : decode cX2_soul 134 = .ok (.invokeinterface 159 2, 5) := by decide +kernel
theorem dX2_soul_139 : decode cX2_soul 139 = .ok (.pop, 1) := dk_87 (dk_at dksX2_soul_5 20 rfl rfl)
theorem dX2_soul_140 : decode cX2_soul 140 = .ok (.return_, 1) := dk_177 (dk_at dksX2_soul_5 21 rfl rfl)
abbrev cX2_name : ByteArray := prog_13_method_10_code
def yX2_name : MethodName := ⟨RX2, "name", "()Ljava/lang/String;"⟩
def dkwX2_name_2 : List UInt8 := [182, 0, 47, 191, 43, 176]
abbrev dktX2_name_2 : List UInt8 := dkwX2_name_2 ++ []
def dkwX2_name_1 : List UInt8 := [182, 0, 47, 191, 43, 182, 0, 86, 16, 6, 164, 0, 16, 42, 4, 42, 180, 0, 61, 16, 6, 96]
abbrev dktX2_name_1 : List UInt8 := dkwX2_name_1 ++ dktX2_name_2
def dkwX2_name_0 : List UInt8 := [42, 182, 0, 70, 76, 43, 178, 0, 78, 184, 0, 82, 2, 159, 0, 13, 42, 4, 42, 180, 0, 61]
abbrev dktX2_name_0 : List UInt8 := dkwX2_name_0 ++ dktX2_name_1
theorem dksX2_name_0 : cX2_name.data.toList.drop 0 = dktX2_name_0 := by decide +kernel
theorem dksX2_name_1 : cX2_name.data.toList.drop 22 = dktX2_name_1 := dk_seg dksX2_name_0 22 rfl rfl
theorem dksX2_name_2 : cX2_name.data.toList.drop 44 = dktX2_name_2 := dk_seg dksX2_name_1 22 rfl rfl
theorem dX2_name_0 : decode cX2_name 0 = .ok (.aload_n 0, 1) := dk_42 (dk_at dksX2_name_0 0 rfl rfl)
theorem dX2_name_1 : decode cX2_name 1 = .ok (.invokevirtual 70, 3) := dk_182 0 70 (dk_at dksX2_name_0 1 rfl rfl)
theorem dX2_name_4 : decode cX2_name 4 = .ok (.astore_n 1, 1) := dk_76 (dk_at dksX2_name_0 4 rfl rfl)
theorem dX2_name_5 : decode cX2_name 5 = .ok (.aload_n 1, 1) := dk_43 (dk_at dksX2_name_0 5 rfl rfl)
theorem dX2_name_6 : decode cX2_name 6 = .ok (.getstatic 78, 3) := dk_178 0 78 (dk_at dksX2_name_0 6 rfl rfl)
theorem dX2_name_9 : decode cX2_name 9 = .ok (.invokestatic 82, 3) := dk_184 0 82 (dk_at dksX2_name_0 9 rfl rfl)
theorem dX2_name_12 : decode cX2_name 12 = .ok (.iconst (-1), 1) := dk_2 (dk_at dksX2_name_0 12 rfl rfl)
theorem dX2_name_13 : decode cX2_name 13 = .ok (.if_icmp .eq 13, 3) := dk_159 0 13 (dk_at dksX2_name_0 13 rfl rfl)
theorem dX2_name_16 : decode cX2_name 16 = .ok (.aload_n 0, 1) := dk_42 (dk_at dksX2_name_0 16 rfl rfl)
theorem dX2_name_17 : decode cX2_name 17 = .ok (.iconst 1, 1) := dk_4 (dk_at dksX2_name_0 17 rfl rfl)
theorem dX2_name_18 : decode cX2_name 18 = .ok (.aload_n 0, 1) := dk_42 (dk_at dksX2_name_0 18 rfl rfl)
theorem dX2_name_19 : decode cX2_name 19 = .ok (.getfield 61, 3) := dk_180 0 61 (dk_at dksX2_name_0 19 rfl rfl)
theorem dX2_name_22 : decode cX2_name 22 = .ok (.invokevirtual 47, 3) := dk_182 0 47 (dk_at dksX2_name_1 0 rfl rfl)
theorem dX2_name_25 : decode cX2_name 25 = .ok (.athrow, 1) := dk_191 (dk_at dksX2_name_1 3 rfl rfl)
theorem dX2_name_26 : decode cX2_name 26 = .ok (.aload_n 1, 1) := dk_43 (dk_at dksX2_name_1 4 rfl rfl)
theorem dX2_name_27 : decode cX2_name 27 = .ok (.invokevirtual 86, 3) := dk_182 0 86 (dk_at dksX2_name_1 5 rfl rfl)
theorem dX2_name_30 : decode cX2_name 30 = .ok (.bipush 6, 2) := dk_16 6 (dk_at dksX2_name_1 8 rfl rfl)
theorem dX2_name_32 : decode cX2_name 32 = .ok (.if_icmp .le 16, 3) := dk_164 0 16 (dk_at dksX2_name_1 10 rfl rfl)
theorem dX2_name_35 : decode cX2_name 35 = .ok (.aload_n 0, 1) := dk_42 (dk_at dksX2_name_1 13 rfl rfl)
theorem dX2_name_36 : decode cX2_name 36 = .ok (.iconst 1, 1) := dk_4 (dk_at dksX2_name_1 14 rfl rfl)
theorem dX2_name_37 : decode cX2_name 37 = .ok (.aload_n 0, 1) := dk_42 (dk_at dksX2_name_1 15 rfl rfl)
theorem dX2_name_38 : decode cX2_name 38 = .ok (.getfield 61, 3) := dk_180 0 61 (dk_at dksX2_name_1 16 rfl rfl)
theorem dX2_name_41 : decode cX2_name 41 = .ok (.bipush 6, 2) := dk_16 6 (dk_at dksX2_name_1 19 rfl rfl)
theorem dX2_name_43 : decode cX2_name 43 = .ok (.iadd, 1) := dk_96 (dk_at dksX2_name_1 21 rfl rfl)
theorem dX2_name_44 : decode cX2_name 44 = .ok (.invokevirtual 47, 3) := dk_182 0 47 (dk_at dksX2_name_2 0 rfl rfl)
theorem dX2_name_47 : decode cX2_name 47 = .ok (.athrow, 1) := dk_191 (dk_at dksX2_name_2 3 rfl rfl)
theorem dX2_name_48 : decode cX2_name 48 = .ok (.aload_n 1, 1) := dk_43 (dk_at dksX2_name_2 4 rfl rfl)
theorem dX2_name_49 : decode cX2_name 49 = .ok (.areturn, 1) := dk_176 (dk_at dksX2_name_2 5 rfl rfl)
abbrev cX2_number_2 : ByteArray := prog_13_method_12_code
def yX2_number_2 : MethodName := ⟨RX2, "number", "(Ljava/lang/String;II)I"⟩
def dkwX2_number_2_0 : List UInt8 := [42, 43, 182, 0, 93, 42, 28, 29, 182, 0, 96, 172]
abbrev dktX2_number_2_0 : List UInt8 := dkwX2_number_2_0 ++ []
theorem dksX2_number_2_0 : cX2_number_2.data.toList.drop 0 = dktX2_number_2_0 := by decide +kernel
theorem dX2_number_2_0 : decode cX2_number_2 0 = .ok (.aload_n 0, 1) := dk_42 (dk_at dksX2_number_2_0 0 rfl rfl)
theorem dX2_number_2_1 : decode cX2_number_2 1 = .ok (.aload_n 1, 1) := dk_43 (dk_at dksX2_number_2_0 1 rfl rfl)
theorem dX2_number_2_2 : decode cX2_number_2 2 = .ok (.invokevirtual 93, 3) := dk_182 0 93 (dk_at dksX2_number_2_0 2 rfl rfl)
theorem dX2_number_2_5 : decode cX2_number_2 5 = .ok (.aload_n 0, 1) := dk_42 (dk_at dksX2_number_2_0 5 rfl rfl)
theorem dX2_number_2_6 : decode cX2_number_2 6 = .ok (.iload_n 2, 1) := dk_28 (dk_at dksX2_number_2_0 6 rfl rfl)
theorem dX2_number_2_7 : decode cX2_number_2 7 = .ok (.iload_n 3, 1) := dk_29 (dk_at dksX2_number_2_0 7 rfl rfl)
theorem dX2_number_2_8 : decode cX2_number_2 8 = .ok (.invokevirtual 96, 3) := dk_182 0 96 (dk_at dksX2_number_2_0 8 rfl rfl)
theorem dX2_number_2_11 : decode cX2_number_2 11 = .ok (.ireturn, 1) := dk_172 (dk_at dksX2_number_2_0 11 rfl rfl)
abbrev cX2_other : ByteArray := prog_13_method_14_code
def yX2_other : MethodName := ⟨RX2, "other", "(I)I"⟩
def dkwX2_other_1 : List UInt8 := [42, 180, 0, 61, 182, 0, 47, 191, 28, 172]
abbrev dktX2_other_1 : List UInt8 := dkwX2_other_1 ++ []
def dkwX2_other_0 : List UInt8 := [42, 180, 0, 100, 42, 182, 0, 104, 182, 0, 107, 61, 28, 2, 159, 0, 8, 28, 27, 160, 0, 13, 42, 6]
abbrev dktX2_other_0 : List UInt8 := dkwX2_other_0 ++ dktX2_other_1
theorem dksX2_other_0 : cX2_other.data.toList.drop 0 = dktX2_other_0 := by decide +kernel
theorem dksX2_other_1 : cX2_other.data.toList.drop 24 = dktX2_other_1 := dk_seg dksX2_other_0 24 rfl rfl
theorem dX2_other_0 : decode cX2_other 0 = .ok (.aload_n 0, 1) := dk_42 (dk_at dksX2_other_0 0 rfl rfl)
theorem dX2_other_1 : decode cX2_other 1 = .ok (.getfield 100, 3) := dk_180 0 100 (dk_at dksX2_other_0 1 rfl rfl)
theorem dX2_other_4 : decode cX2_other 4 = .ok (.aload_n 0, 1) := dk_42 (dk_at dksX2_other_0 4 rfl rfl)
theorem dX2_other_5 : decode cX2_other 5 = .ok (.invokevirtual 104, 3) := dk_182 0 104 (dk_at dksX2_other_0 5 rfl rfl)
theorem dX2_other_8 : decode cX2_other 8 = .ok (.invokevirtual 107, 3) := dk_182 0 107 (dk_at dksX2_other_0 8 rfl rfl)
theorem dX2_other_11 : decode cX2_other 11 = .ok (.istore_n 2, 1) := dk_61 (dk_at dksX2_other_0 11 rfl rfl)
theorem dX2_other_12 : decode cX2_other 12 = .ok (.iload_n 2, 1) := dk_28 (dk_at dksX2_other_0 12 rfl rfl)
theorem dX2_other_13 : decode cX2_other 13 = .ok (.iconst (-1), 1) := dk_2 (dk_at dksX2_other_0 13 rfl rfl)
theorem dX2_other_14 : decode cX2_other 14 = .ok (.if_icmp .eq 8, 3) := dk_159 0 8 (dk_at dksX2_other_0 14 rfl rfl)
theorem dX2_other_17 : decode cX2_other 17 = .ok (.iload_n 2, 1) := dk_28 (dk_at dksX2_other_0 17 rfl rfl)
theorem dX2_other_18 : decode cX2_other 18 = .ok (.iload_n 1, 1) := dk_27 (dk_at dksX2_other_0 18 rfl rfl)
theorem dX2_other_19 : decode cX2_other 19 = .ok (.if_icmp .ne 13, 3) := dk_160 0 13 (dk_at dksX2_other_0 19 rfl rfl)
theorem dX2_other_22 : decode cX2_other 22 = .ok (.aload_n 0, 1) := dk_42 (dk_at dksX2_other_0 22 rfl rfl)
theorem dX2_other_23 : decode cX2_other 23 = .ok (.iconst 3, 1) := dk_6 (dk_at dksX2_other_0 23 rfl rfl)
theorem dX2_other_24 : decode cX2_other 24 = .ok (.aload_n 0, 1) := dk_42 (dk_at dksX2_other_1 0 rfl rfl)
theorem dX2_other_25 : decode cX2_other 25 = .ok (.getfield 61, 3) := dk_180 0 61 (dk_at dksX2_other_1 1 rfl rfl)
theorem dX2_other_28 : decode cX2_other 28 = .ok (.invokevirtual 47, 3) := dk_182 0 47 (dk_at dksX2_other_1 4 rfl rfl)
theorem dX2_other_31 : decode cX2_other 31 = .ok (.athrow, 1) := dk_191 (dk_at dksX2_other_1 7 rfl rfl)
theorem dX2_other_32 : decode cX2_other 32 = .ok (.iload_n 2, 1) := dk_28 (dk_at dksX2_other_1 8 rfl rfl)
theorem dX2_other_33 : decode cX2_other 33 = .ok (.ireturn, 1) := dk_172 (dk_at dksX2_other_1 9 rfl rfl)
abbrev cX2_once : ByteArray := prog_13_method_17_code
def yX2_once : MethodName := ⟨RX2, "once", "(LRetouched$Value;II)LRetouched$Value;"⟩
def dkwX2_once_0 : List UInt8 := [42, 43, 198, 0, 7, 4, 167, 0, 4, 3, 28, 182, 0, 128, 42, 29, 181, 0, 162, 42, 182, 0, 165, 176]
abbrev dktX2_once_0 : List UInt8 := dkwX2_once_0 ++ []
theorem dksX2_once_0 : cX2_once.data.toList.drop 0 = dktX2_once_0 := by decide +kernel
theorem dX2_once_0 : decode cX2_once 0 = .ok (.aload_n 0, 1) := dk_42 (dk_at dksX2_once_0 0 rfl rfl)
theorem dX2_once_1 : decode cX2_once 1 = .ok (.aload_n 1, 1) := dk_43 (dk_at dksX2_once_0 1 rfl rfl)
theorem dX2_once_2 : decode cX2_once 2 = .ok (.ifnull 7, 3) := dk_198 0 7 (dk_at dksX2_once_0 2 rfl rfl)
theorem dX2_once_5 : decode cX2_once 5 = .ok (.iconst 1, 1) := dk_4 (dk_at dksX2_once_0 5 rfl rfl)
theorem dX2_once_6 : decode cX2_once 6 = .ok (.goto 4, 3) := dk_167 0 4 (dk_at dksX2_once_0 6 rfl rfl)
theorem dX2_once_9 : decode cX2_once 9 = .ok (.iconst 0, 1) := dk_3 (dk_at dksX2_once_0 9 rfl rfl)
theorem dX2_once_10 : decode cX2_once 10 = .ok (.iload_n 2, 1) := dk_28 (dk_at dksX2_once_0 10 rfl rfl)
theorem dX2_once_11 : decode cX2_once 11 = .ok (.invokevirtual 128, 3) := dk_182 0 128 (dk_at dksX2_once_0 11 rfl rfl)
theorem dX2_once_14 : decode cX2_once 14 = .ok (.aload_n 0, 1) := dk_42 (dk_at dksX2_once_0 14 rfl rfl)
theorem dX2_once_15 : decode cX2_once 15 = .ok (.iload_n 3, 1) := dk_29 (dk_at dksX2_once_0 15 rfl rfl)
theorem dX2_once_16 : decode cX2_once 16 = .ok (.putfield 162, 3) := dk_181 0 162 (dk_at dksX2_once_0 16 rfl rfl)
theorem dX2_once_19 : decode cX2_once 19 = .ok (.aload_n 0, 1) := dk_42 (dk_at dksX2_once_0 19 rfl rfl)
theorem dX2_once_20 : decode cX2_once 20 = .ok (.invokevirtual 165, 3) := dk_182 0 165 (dk_at dksX2_once_0 20 rfl rfl)
theorem dX2_once_23 : decode cX2_once 23 = .ok (.areturn, 1) := dk_176 (dk_at dksX2_once_0 23 rfl rfl)
abbrev cX2_sum : ByteArray := prog_13_method_20_code
def yX2_sum : MethodName := ⟨RX2, "sum", "()LRetouched$Value;"⟩
def dkwX2_sum_3 : List UInt8 := [167, 255, 206, 43, 176]
abbrev dktX2_sum_3 : List UInt8 := dkwX2_sum_3 ++ []
def dkwX2_sum_2 : List UInt8 := [16, 45, 182, 0, 225, 153, 0, 16, 43, 16, 45, 42, 182, 0, 219, 182, 0, 222, 167, 255, 211, 3, 61]
abbrev dktX2_sum_2 : List UInt8 := dkwX2_sum_2 ++ dktX2_sum_3
def dkwX2_sum_1 : List UInt8 := [42, 16, 43, 182, 0, 225, 153, 0, 16, 43, 16, 43, 42, 182, 0, 219, 182, 0, 222, 167, 255, 233, 42]
abbrev dktX2_sum_1 : List UInt8 := dkwX2_sum_1 ++ dktX2_sum_2
def dkwX2_sum_0 : List UInt8 := [187, 0, 216, 89, 183, 0, 218, 76, 43, 16, 43, 42, 182, 0, 219, 182, 0, 222, 4, 61, 28, 153, 0, 52]
abbrev dktX2_sum_0 : List UInt8 := dkwX2_sum_0 ++ dktX2_sum_1
theorem dksX2_sum_0 : cX2_sum.data.toList.drop 0 = dktX2_sum_0 := by decide +kernel
theorem dksX2_sum_1 : cX2_sum.data.toList.drop 24 = dktX2_sum_1 := dk_seg dksX2_sum_0 24 rfl rfl
theorem dksX2_sum_2 : cX2_sum.data.toList.drop 47 = dktX2_sum_2 := dk_seg dksX2_sum_1 23 rfl rfl
theorem dksX2_sum_3 : cX2_sum.data.toList.drop 70 = dktX2_sum_3 := dk_seg dksX2_sum_2 23 rfl rfl
theorem dX2_sum_0 : decode cX2_sum 0 = .ok (.new 216, 3) := dk_187 0 216 (dk_at dksX2_sum_0 0 rfl rfl)
theorem dX2_sum_3 : decode cX2_sum 3 = .ok (.dup, 1) := dk_89 (dk_at dksX2_sum_0 3 rfl rfl)
theorem dX2_sum_4 : decode cX2_sum 4 = .ok (.invokespecial 218, 3) := dk_183 0 218 (dk_at dksX2_sum_0 4 rfl rfl)
theorem dX2_sum_7 : decode cX2_sum 7 = .ok (.astore_n 1, 1) := dk_76 (dk_at dksX2_sum_0 7 rfl rfl)
theorem dX2_sum_8 : decode cX2_sum 8 = .ok (.aload_n 1, 1) := dk_43 (dk_at dksX2_sum_0 8 rfl rfl)
theorem dX2_sum_9 : decode cX2_sum 9 = .ok (.bipush 43, 2) := dk_16 43 (dk_at dksX2_sum_0 9 rfl rfl)
theorem dX2_sum_11 : decode cX2_sum 11 = .ok (.aload_n 0, 1) := dk_42 (dk_at dksX2_sum_0 11 rfl rfl)
theorem dX2_sum_12 : decode cX2_sum 12 = .ok (.invokevirtual 219, 3) := dk_182 0 219 (dk_at dksX2_sum_0 12 rfl rfl)
theorem dX2_sum_15 : decode cX2_sum 15 = .ok (.invokevirtual 222, 3) := dk_182 0 222 (dk_at dksX2_sum_0 15 rfl rfl)
theorem dX2_sum_18 : decode cX2_sum 18 = .ok (.iconst 1, 1) := dk_4 (dk_at dksX2_sum_0 18 rfl rfl)
theorem dX2_sum_19 : decode cX2_sum 19 = .ok (.istore_n 2, 1) := dk_61 (dk_at dksX2_sum_0 19 rfl rfl)
theorem dX2_sum_20 : decode cX2_sum 20 = .ok (.iload_n 2, 1) := dk_28 (dk_at dksX2_sum_0 20 rfl rfl)
theorem dX2_sum_21 : decode cX2_sum 21 = .ok (.ifCond .eq 52, 3) := dk_153 0 52 (dk_at dksX2_sum_0 21 rfl rfl)
theorem dX2_sum_24 : decode cX2_sum 24 = .ok (.aload_n 0, 1) := dk_42 (dk_at dksX2_sum_1 0 rfl rfl)
theorem dX2_sum_25 : decode cX2_sum 25 = .ok (.bipush 43, 2) := dk_16 43 (dk_at dksX2_sum_1 1 rfl rfl)
theorem dX2_sum_27 : decode cX2_sum 27 = .ok (.invokevirtual 225, 3) := dk_182 0 225 (dk_at dksX2_sum_1 3 rfl rfl)
theorem dX2_sum_30 : decode cX2_sum 30 = .ok (.ifCond .eq 16, 3) := dk_153 0 16 (dk_at dksX2_sum_1 6 rfl rfl)
theorem dX2_sum_33 : decode cX2_sum 33 = .ok (.aload_n 1, 1) := dk_43 (dk_at dksX2_sum_1 9 rfl rfl)
theorem dX2_sum_34 : decode cX2_sum 34 = .ok (.bipush 43, 2) := dk_16 43 (dk_at dksX2_sum_1 10 rfl rfl)
theorem dX2_sum_36 : decode cX2_sum 36 = .ok (.aload_n 0, 1) := dk_42 (dk_at dksX2_sum_1 12 rfl rfl)
theorem dX2_sum_37 : decode cX2_sum 37 = .ok (.invokevirtual 219, 3) := dk_182 0 219 (dk_at dksX2_sum_1 13 rfl rfl)
theorem dX2_sum_40 : decode cX2_sum 40 = .ok (.invokevirtual 222, 3) := dk_182 0 222 (dk_at dksX2_sum_1 16 rfl rfl)
theorem dX2_sum_43 : decode cX2_sum 43 = .ok (.goto (-23), 3) := dk_167 255 233 (dk_at dksX2_sum_1 19 rfl rfl)
theorem dX2_sum_46 : decode cX2_sum 46 = .ok (.aload_n 0, 1) := dk_42 (dk_at dksX2_sum_1 22 rfl rfl)
theorem dX2_sum_47 : decode cX2_sum 47 = .ok (.bipush 45, 2) := dk_16 45 (dk_at dksX2_sum_2 0 rfl rfl)
theorem dX2_sum_49 : decode cX2_sum 49 = .ok (.invokevirtual 225, 3) := dk_182 0 225 (dk_at dksX2_sum_2 2 rfl rfl)
theorem dX2_sum_52 : decode cX2_sum 52 = .ok (.ifCond .eq 16, 3) := dk_153 0 16 (dk_at dksX2_sum_2 5 rfl rfl)
theorem dX2_sum_55 : decode cX2_sum 55 = .ok (.aload_n 1, 1) := dk_43 (dk_at dksX2_sum_2 8 rfl rfl)
theorem dX2_sum_56 : decode cX2_sum 56 = .ok (.bipush 45, 2) := dk_16 45 (dk_at dksX2_sum_2 9 rfl rfl)
theorem dX2_sum_58 : decode cX2_sum 58 = .ok (.aload_n 0, 1) := dk_42 (dk_at dksX2_sum_2 11 rfl rfl)
theorem dX2_sum_59 : decode cX2_sum 59 = .ok (.invokevirtual 219, 3) := dk_182 0 219 (dk_at dksX2_sum_2 12 rfl rfl)
theorem dX2_sum_62 : decode cX2_sum 62 = .ok (.invokevirtual 222, 3) := dk_182 0 222 (dk_at dksX2_sum_2 15 rfl rfl)
theorem dX2_sum_65 : decode cX2_sum 65 = .ok (.goto (-45), 3) := dk_167 255 211 (dk_at dksX2_sum_2 18 rfl rfl)
theorem dX2_sum_68 : decode cX2_sum 68 = .ok (.iconst 0, 1) := dk_3 (dk_at dksX2_sum_2 21 rfl rfl)
theorem dX2_sum_69 : decode cX2_sum 69 = .ok (.istore_n 2, 1) := dk_61 (dk_at dksX2_sum_2 22 rfl rfl)
theorem dX2_sum_70 : decode cX2_sum 70 = .ok (.goto (-50), 3) := dk_167 255 206 (dk_at dksX2_sum_3 0 rfl rfl)
theorem dX2_sum_73 : decode cX2_sum 73 = .ok (.aload_n 1, 1) := dk_43 (dk_at dksX2_sum_3 3 rfl rfl)
theorem dX2_sum_74 : decode cX2_sum 74 = .ok (.areturn, 1) := dk_176 (dk_at dksX2_sum_3 4 rfl rfl)
abbrev cX2_product : ByteArray := prog_13_method_21_code
def yX2_product : MethodName := ⟨RX2, "product", "()LRetouched$Value;"⟩
def dkwX2_product_3 : List UInt8 := [167, 255, 206, 43, 176]
abbrev dktX2_product_3 : List UInt8 := dkwX2_product_3 ++ []
def dkwX2_product_2 : List UInt8 := [16, 47, 182, 0, 225, 153, 0, 16, 43, 16, 47, 42, 182, 0, 228, 182, 0, 222, 167, 255, 211, 3, 61]
abbrev dktX2_product_2 : List UInt8 := dkwX2_product_2 ++ dktX2_product_3
def dkwX2_product_1 : List UInt8 := [42, 16, 42, 182, 0, 225, 153, 0, 16, 43, 16, 42, 42, 182, 0, 228, 182, 0, 222, 167, 255, 233, 42]
abbrev dktX2_product_1 : List UInt8 := dkwX2_product_1 ++ dktX2_product_2
def dkwX2_product_0 : List UInt8 := [187, 0, 216, 89, 183, 0, 218, 76, 43, 16, 42, 42, 182, 0, 228, 182, 0, 222, 4, 61, 28, 153, 0, 52]
abbrev dktX2_product_0 : List UInt8 := dkwX2_product_0 ++ dktX2_product_1
theorem dksX2_product_0 : cX2_product.data.toList.drop 0 = dktX2_product_0 := by decide +kernel
theorem dksX2_product_1 : cX2_product.data.toList.drop 24 = dktX2_product_1 := dk_seg dksX2_product_0 24 rfl rfl
theorem dksX2_product_2 : cX2_product.data.toList.drop 47 = dktX2_product_2 := dk_seg dksX2_product_1 23 rfl rfl
theorem dksX2_product_3 : cX2_product.data.toList.drop 70 = dktX2_product_3 := dk_seg dksX2_product_2 23 rfl rfl
theorem dX2_product_0 : decode cX2_product 0 = .ok (.new 216, 3) := dk_187 0 216 (dk_at dksX2_product_0 0 rfl rfl)
theorem dX2_product_3 : decode cX2_product 3 = .ok (.dup, 1) := dk_89 (dk_at dksX2_product_0 3 rfl rfl)
theorem dX2_product_4 : decode cX2_product 4 = .ok (.invokespecial 218, 3) := dk_183 0 218 (dk_at dksX2_product_0 4 rfl rfl)
theorem dX2_product_7 : decode cX2_product 7 = .ok (.astore_n 1, 1) := dk_76 (dk_at dksX2_product_0 7 rfl rfl)
theorem dX2_product_8 : decode cX2_product 8 = .ok (.aload_n 1, 1) := dk_43 (dk_at dksX2_product_0 8 rfl rfl)
theorem dX2_product_9 : decode cX2_product 9 = .ok (.bipush 42, 2) := dk_16 42 (dk_at dksX2_product_0 9 rfl rfl)
theorem dX2_product_11 : decode cX2_product 11 = .ok (.aload_n 0, 1) := dk_42 (dk_at dksX2_product_0 11 rfl rfl)
theorem dX2_product_12 : decode cX2_product 12 = .ok (.invokevirtual 228, 3) := dk_182 0 228 (dk_at dksX2_product_0 12 rfl rfl)
theorem dX2_product_15 : decode cX2_product 15 = .ok (.invokevirtual 222, 3) := dk_182 0 222 (dk_at dksX2_product_0 15 rfl rfl)
theorem dX2_product_18 : decode cX2_product 18 = .ok (.iconst 1, 1) := dk_4 (dk_at dksX2_product_0 18 rfl rfl)
theorem dX2_product_19 : decode cX2_product 19 = .ok (.istore_n 2, 1) := dk_61 (dk_at dksX2_product_0 19 rfl rfl)
theorem dX2_product_20 : decode cX2_product 20 = .ok (.iload_n 2, 1) := dk_28 (dk_at dksX2_product_0 20 rfl rfl)
theorem dX2_product_21 : decode cX2_product 21 = .ok (.ifCond .eq 52, 3) := dk_153 0 52 (dk_at dksX2_product_0 21 rfl rfl)
theorem dX2_product_24 : decode cX2_product 24 = .ok (.aload_n 0, 1) := dk_42 (dk_at dksX2_product_1 0 rfl rfl)
theorem dX2_product_25 : decode cX2_product 25 = .ok (.bipush 42, 2) := dk_16 42 (dk_at dksX2_product_1 1 rfl rfl)
theorem dX2_product_27 : decode cX2_product 27 = .ok (.invokevirtual 225, 3) := dk_182 0 225 (dk_at dksX2_product_1 3 rfl rfl)
theorem dX2_product_30 : decode cX2_product 30 = .ok (.ifCond .eq 16, 3) := dk_153 0 16 (dk_at dksX2_product_1 6 rfl rfl)
theorem dX2_product_33 : decode cX2_product 33 = .ok (.aload_n 1, 1) := dk_43 (dk_at dksX2_product_1 9 rfl rfl)
theorem dX2_product_34 : decode cX2_product 34 = .ok (.bipush 42, 2) := dk_16 42 (dk_at dksX2_product_1 10 rfl rfl)
theorem dX2_product_36 : decode cX2_product 36 = .ok (.aload_n 0, 1) := dk_42 (dk_at dksX2_product_1 12 rfl rfl)
theorem dX2_product_37 : decode cX2_product 37 = .ok (.invokevirtual 228, 3) := dk_182 0 228 (dk_at dksX2_product_1 13 rfl rfl)
theorem dX2_product_40 : decode cX2_product 40 = .ok (.invokevirtual 222, 3) := dk_182 0 222 (dk_at dksX2_product_1 16 rfl rfl)
theorem dX2_product_43 : decode cX2_product 43 = .ok (.goto (-23), 3) := dk_167 255 233 (dk_at dksX2_product_1 19 rfl rfl)
theorem dX2_product_46 : decode cX2_product 46 = .ok (.aload_n 0, 1) := dk_42 (dk_at dksX2_product_1 22 rfl rfl)
theorem dX2_product_47 : decode cX2_product 47 = .ok (.bipush 47, 2) := dk_16 47 (dk_at dksX2_product_2 0 rfl rfl)
theorem dX2_product_49 : decode cX2_product 49 = .ok (.invokevirtual 225, 3) := dk_182 0 225 (dk_at dksX2_product_2 2 rfl rfl)
theorem dX2_product_52 : decode cX2_product 52 = .ok (.ifCond .eq 16, 3) := dk_153 0 16 (dk_at dksX2_product_2 5 rfl rfl)
theorem dX2_product_55 : decode cX2_product 55 = .ok (.aload_n 1, 1) := dk_43 (dk_at dksX2_product_2 8 rfl rfl)
theorem dX2_product_56 : decode cX2_product 56 = .ok (.bipush 47, 2) := dk_16 47 (dk_at dksX2_product_2 9 rfl rfl)
theorem dX2_product_58 : decode cX2_product 58 = .ok (.aload_n 0, 1) := dk_42 (dk_at dksX2_product_2 11 rfl rfl)
theorem dX2_product_59 : decode cX2_product 59 = .ok (.invokevirtual 228, 3) := dk_182 0 228 (dk_at dksX2_product_2 12 rfl rfl)
theorem dX2_product_62 : decode cX2_product 62 = .ok (.invokevirtual 222, 3) := dk_182 0 222 (dk_at dksX2_product_2 15 rfl rfl)
theorem dX2_product_65 : decode cX2_product 65 = .ok (.goto (-45), 3) := dk_167 255 211 (dk_at dksX2_product_2 18 rfl rfl)
theorem dX2_product_68 : decode cX2_product 68 = .ok (.iconst 0, 1) := dk_3 (dk_at dksX2_product_2 21 rfl rfl)
theorem dX2_product_69 : decode cX2_product 69 = .ok (.istore_n 2, 1) := dk_61 (dk_at dksX2_product_2 22 rfl rfl)
theorem dX2_product_70 : decode cX2_product 70 = .ok (.goto (-50), 3) := dk_167 255 206 (dk_at dksX2_product_3 0 rfl rfl)
theorem dX2_product_73 : decode cX2_product 73 = .ok (.aload_n 1, 1) := dk_43 (dk_at dksX2_product_3 3 rfl rfl)
theorem dX2_product_74 : decode cX2_product 74 = .ok (.areturn, 1) := dk_176 (dk_at dksX2_product_3 4 rfl rfl)
abbrev cX2_atom : ByteArray := prog_13_method_24_code
def yX2_atom : MethodName := ⟨RX2, "atom", "()LRetouched$Value;"⟩
def dkwX2_atom_7 : List UInt8 := [182, 0, 239, 176]
abbrev dktX2_atom_7 : List UInt8 := dkwX2_atom_7 ++ []
def dkwX2_atom_6 : List UInt8 := [180, 0, 61, 182, 0, 47, 191, 42, 43, 19, 1, 9, 182, 0, 74, 153, 0, 7, 4, 167, 0, 4, 5]
abbrev dktX2_atom_6 : List UInt8 := dkwX2_atom_6 ++ dktX2_atom_7
def dkwX2_atom_5 : List UInt8 := [19, 1, 9, 182, 0, 74, 154, 0, 23, 43, 19, 1, 11, 182, 0, 74, 154, 0, 13, 42, 4, 42]
abbrev dktX2_atom_5 : List UInt8 := dkwX2_atom_5 ++ dktX2_atom_6
def dkwX2_atom_4 : List UInt8 := [178, 1, 3, 184, 0, 82, 167, 0, 4, 2, 61, 28, 2, 159, 0, 9, 42, 28, 182, 1, 6, 176, 43]
abbrev dktX2_atom_4 : List UInt8 := dkwX2_atom_4 ++ dktX2_atom_5
def dkwX2_atom_3 : List UInt8 := [153, 0, 12, 187, 0, 255, 89, 28, 183, 1, 1, 176, 42, 180, 0, 162, 17, 7, 27, 160, 0, 13, 43]
abbrev dktX2_atom_3 : List UInt8 := dkwX2_atom_3 ++ dktX2_atom_4
def dkwX2_atom_2 : List UInt8 := [76, 43, 178, 0, 248, 184, 0, 82, 61, 28, 2, 159, 0, 23, 42, 180, 0, 162, 28, 184, 0, 251]
abbrev dktX2_atom_2 : List UInt8 := dkwX2_atom_2 ++ dktX2_atom_3
def dkwX2_atom_1 : List UInt8 := [153, 0, 20, 187, 0, 243, 89, 42, 3, 17, 39, 15, 182, 0, 96, 133, 183, 0, 245, 176, 42, 182, 0, 70]
abbrev dktX2_atom_1 : List UInt8 := dkwX2_atom_1 ++ dktX2_atom_2
def dkwX2_atom_0 : List UInt8 := [42, 182, 0, 43, 16, 40, 160, 0, 9, 42, 3, 182, 0, 239, 176, 42, 182, 0, 43, 184, 0, 55]
abbrev dktX2_atom_0 : List UInt8 := dkwX2_atom_0 ++ dktX2_atom_1
theorem dksX2_atom_0 : cX2_atom.data.toList.drop 0 = dktX2_atom_0 := by decide +kernel
theorem dksX2_atom_1 : cX2_atom.data.toList.drop 22 = dktX2_atom_1 := dk_seg dksX2_atom_0 22 rfl rfl
theorem dksX2_atom_2 : cX2_atom.data.toList.drop 46 = dktX2_atom_2 := dk_seg dksX2_atom_1 24 rfl rfl
theorem dksX2_atom_3 : cX2_atom.data.toList.drop 68 = dktX2_atom_3 := dk_seg dksX2_atom_2 22 rfl rfl
theorem dksX2_atom_4 : cX2_atom.data.toList.drop 91 = dktX2_atom_4 := dk_seg dksX2_atom_3 23 rfl rfl
theorem dksX2_atom_5 : cX2_atom.data.toList.drop 114 = dktX2_atom_5 := dk_seg dksX2_atom_4 23 rfl rfl
theorem dksX2_atom_6 : cX2_atom.data.toList.drop 136 = dktX2_atom_6 := dk_seg dksX2_atom_5 22 rfl rfl
theorem dksX2_atom_7 : cX2_atom.data.toList.drop 159 = dktX2_atom_7 := dk_seg dksX2_atom_6 23 rfl rfl
theorem dX2_atom_0 : decode cX2_atom 0 = .ok (.aload_n 0, 1) := dk_42 (dk_at dksX2_atom_0 0 rfl rfl)
theorem dX2_atom_1 : decode cX2_atom 1 = .ok (.invokevirtual 43, 3) := dk_182 0 43 (dk_at dksX2_atom_0 1 rfl rfl)
theorem dX2_atom_4 : decode cX2_atom 4 = .ok (.bipush 40, 2) := dk_16 40 (dk_at dksX2_atom_0 4 rfl rfl)
theorem dX2_atom_6 : decode cX2_atom 6 = .ok (.if_icmp .ne 9, 3) := dk_160 0 9 (dk_at dksX2_atom_0 6 rfl rfl)
theorem dX2_atom_9 : decode cX2_atom 9 = .ok (.aload_n 0, 1) := dk_42 (dk_at dksX2_atom_0 9 rfl rfl)
theorem dX2_atom_10 : decode cX2_atom 10 = .ok (.iconst 0, 1) := dk_3 (dk_at dksX2_atom_0 10 rfl rfl)
theorem dX2_atom_11 : decode cX2_atom 11 = .ok (.invokevirtual 239, 3) := dk_182 0 239 (dk_at dksX2_atom_0 11 rfl rfl)
theorem dX2_atom_14 : decode cX2_atom 14 = .ok (.areturn, 1) := dk_176 (dk_at dksX2_atom_0 14 rfl rfl)
theorem dX2_atom_15 : decode cX2_atom 15 = .ok (.aload_n 0, 1) := dk_42 (dk_at dksX2_atom_0 15 rfl rfl)
theorem dX2_atom_16 : decode cX2_atom 16 = .ok (.invokevirtual 43, 3) := dk_182 0 43 (dk_at dksX2_atom_0 16 rfl rfl)
theorem dX2_atom_19 : decode cX2_atom 19 = .ok (.invokestatic 55, 3) := dk_184 0 55 (dk_at dksX2_atom_0 19 rfl rfl)
theorem dX2_atom_22 : decode cX2_atom 22 = .ok (.ifCond .eq 20, 3) := dk_153 0 20 (dk_at dksX2_atom_1 0 rfl rfl)
theorem dX2_atom_25 : decode cX2_atom 25 = .ok (.new 243, 3) := dk_187 0 243 (dk_at dksX2_atom_1 3 rfl rfl)
theorem dX2_atom_28 : decode cX2_atom 28 = .ok (.dup, 1) := dk_89 (dk_at dksX2_atom_1 6 rfl rfl)
theorem dX2_atom_29 : decode cX2_atom 29 = .ok (.aload_n 0, 1) := dk_42 (dk_at dksX2_atom_1 7 rfl rfl)
theorem dX2_atom_30 : decode cX2_atom 30 = .ok (.iconst 0, 1) := dk_3 (dk_at dksX2_atom_1 8 rfl rfl)
theorem dX2_atom_31 : decode cX2_atom 31 = .ok (.sipush 9999, 3) := dk_17 39 15 (dk_at dksX2_atom_1 9 rfl rfl)
theorem dX2_atom_34 : decode cX2_atom 34 = .ok (.invokevirtual 96, 3) := dk_182 0 96 (dk_at dksX2_atom_1 12 rfl rfl)
theorem dX2_atom_37 : decode cX2_atom 37 = .ok (.i2l, 1) := dk_133 (dk_at dksX2_atom_1 15 rfl rfl)
theorem dX2_atom_38 : decode cX2_atom 38 = .ok (.invokespecial 245, 3) := dk_183 0 245 (dk_at dksX2_atom_1 16 rfl rfl)
theorem dX2_atom_41 : decode cX2_atom 41 = .ok (.areturn, 1) := dk_176 (dk_at dksX2_atom_1 19 rfl rfl)
theorem dX2_atom_42 : decode cX2_atom 42 = .ok (.aload_n 0, 1) := dk_42 (dk_at dksX2_atom_1 20 rfl rfl)
theorem dX2_atom_43 : decode cX2_atom 43 = .ok (.invokevirtual 70, 3) := dk_182 0 70 (dk_at dksX2_atom_1 21 rfl rfl)
theorem dX2_atom_46 : decode cX2_atom 46 = .ok (.astore_n 1, 1) := dk_76 (dk_at dksX2_atom_2 0 rfl rfl)
theorem dX2_atom_47 : decode cX2_atom 47 = .ok (.aload_n 1, 1) := dk_43 (dk_at dksX2_atom_2 1 rfl rfl)
theorem dX2_atom_48 : decode cX2_atom 48 = .ok (.getstatic 248, 3) := dk_178 0 248 (dk_at dksX2_atom_2 2 rfl rfl)
theorem dX2_atom_51 : decode cX2_atom 51 = .ok (.invokestatic 82, 3) := dk_184 0 82 (dk_at dksX2_atom_2 5 rfl rfl)
theorem dX2_atom_54 : decode cX2_atom 54 = .ok (.istore_n 2, 1) := dk_61 (dk_at dksX2_atom_2 8 rfl rfl)
theorem dX2_atom_55 : decode cX2_atom 55 = .ok (.iload_n 2, 1) := dk_28 (dk_at dksX2_atom_2 9 rfl rfl)
theorem dX2_atom_56 : decode cX2_atom 56 = .ok (.iconst (-1), 1) := dk_2 (dk_at dksX2_atom_2 10 rfl rfl)
theorem dX2_atom_57 : decode cX2_atom 57 = .ok (.if_icmp .eq 23, 3) := dk_159 0 23 (dk_at dksX2_atom_2 11 rfl rfl)
theorem dX2_atom_60 : decode cX2_atom 60 = .ok (.aload_n 0, 1) := dk_42 (dk_at dksX2_atom_2 14 rfl rfl)
theorem dX2_atom_61 : decode cX2_atom 61 = .ok (.getfield 162, 3) := dk_180 0 162 (dk_at dksX2_atom_2 15 rfl rfl)
theorem dX2_atom_64 : decode cX2_atom 64 = .ok (.iload_n 2, 1) := dk_28 (dk_at dksX2_atom_2 18 rfl rfl)
theorem dX2_atom_65 : decode cX2_atom 65 = .ok (.invokestatic 251, 3) := dk_184 0 251 (dk_at dksX2_atom_2 19 rfl rfl)
theorem dX2_atom_68 : decode cX2_atom 68 = .ok (.ifCond .eq 12, 3) := dk_153 0 12 (dk_at dksX2_atom_3 0 rfl rfl)
theorem dX2_atom_71 : decode cX2_atom 71 = .ok (.new 255, 3) := dk_187 0 255 (dk_at dksX2_atom_3 3 rfl rfl)
theorem dX2_atom_74 : decode cX2_atom 74 = .ok (.dup, 1) := dk_89 (dk_at dksX2_atom_3 6 rfl rfl)
theorem dX2_atom_75 : decode cX2_atom 75 = .ok (.iload_n 2, 1) := dk_28 (dk_at dksX2_atom_3 7 rfl rfl)
theorem dX2_atom_76 : decode cX2_atom 76 = .ok (.invokespecial 257, 3) := dk_183 1 1 (dk_at dksX2_atom_3 8 rfl rfl)
theorem dX2_atom_79 : decode cX2_atom 79 = .ok (.areturn, 1) := dk_176 (dk_at dksX2_atom_3 11 rfl rfl)
theorem dX2_atom_80 : decode cX2_atom 80 = .ok (.aload_n 0, 1) := dk_42 (dk_at dksX2_atom_3 12 rfl rfl)
theorem dX2_atom_81 : decode cX2_atom 81 = .ok (.getfield 162, 3) := dk_180 0 162 (dk_at dksX2_atom_3 13 rfl rfl)
theorem dX2_atom_84 : decode cX2_atom 84 = .ok (.sipush 1819, 3) := dk_17 7 27 (dk_at dksX2_atom_3 16 rfl rfl)
theorem dX2_atom_87 : decode cX2_atom 87 = .ok (.if_icmp .ne 13, 3) := dk_160 0 13 (dk_at dksX2_atom_3 19 rfl rfl)
theorem dX2_atom_90 : decode cX2_atom 90 = .ok (.aload_n 1, 1) := dk_43 (dk_at dksX2_atom_3 22 rfl rfl)
theorem dX2_atom_91 : decode cX2_atom 91 = .ok (.getstatic 259, 3) := dk_178 1 3 (dk_at dksX2_atom_4 0 rfl rfl)
theorem dX2_atom_94 : decode cX2_atom 94 = .ok (.invokestatic 82, 3) := dk_184 0 82 (dk_at dksX2_atom_4 3 rfl rfl)
theorem dX2_atom_97 : decode cX2_atom 97 = .ok (.goto 4, 3) := dk_167 0 4 (dk_at dksX2_atom_4 6 rfl rfl)
theorem dX2_atom_100 : decode cX2_atom 100 = .ok (.iconst (-1), 1) := dk_2 (dk_at dksX2_atom_4 9 rfl rfl)
theorem dX2_atom_101 : decode cX2_atom 101 = .ok (.istore_n 2, 1) := dk_61 (dk_at dksX2_atom_4 10 rfl rfl)
theorem dX2_atom_102 : decode cX2_atom 102 = .ok (.iload_n 2, 1) := dk_28 (dk_at dksX2_atom_4 11 rfl rfl)
theorem dX2_atom_103 : decode cX2_atom 103 = .ok (.iconst (-1), 1) := dk_2 (dk_at dksX2_atom_4 12 rfl rfl)
theorem dX2_atom_104 : decode cX2_atom 104 = .ok (.if_icmp .eq 9, 3) := dk_159 0 9 (dk_at dksX2_atom_4 13 rfl rfl)
theorem dX2_atom_107 : decode cX2_atom 107 = .ok (.aload_n 0, 1) := dk_42 (dk_at dksX2_atom_4 16 rfl rfl)
theorem dX2_atom_108 : decode cX2_atom 108 = .ok (.iload_n 2, 1) := dk_28 (dk_at dksX2_atom_4 17 rfl rfl)
theorem dX2_atom_109 : decode cX2_atom 109 = .ok (.invokevirtual 262, 3) := dk_182 1 6 (dk_at dksX2_atom_4 18 rfl rfl)
theorem dX2_atom_112 : decode cX2_atom 112 = .ok (.areturn, 1) := dk_176 (dk_at dksX2_atom_4 21 rfl rfl)
theorem dX2_atom_113 : decode cX2_atom 113 = .ok (.aload_n 1, 1) := dk_43 (dk_at dksX2_atom_4 22 rfl rfl)
theorem dX2_atom_114 : decode cX2_atom 114 = .ok (.ldc_w 265, 3) := dk_19 1 9 (dk_at dksX2_atom_5 0 rfl rfl)
theorem dX2_atom_117 : decode cX2_atom 117 = .ok (.invokevirtual 74, 3) := dk_182 0 74 (dk_at dksX2_atom_5 3 rfl rfl)
theorem dX2_atom_120 : decode cX2_atom 120 = .ok (.ifCond .ne 23, 3) := dk_154 0 23 (dk_at dksX2_atom_5 6 rfl rfl)
theorem dX2_atom_123 : decode cX2_atom 123 = .ok (.aload_n 1, 1) := dk_43 (dk_at dksX2_atom_5 9 rfl rfl)
theorem dX2_atom_124 : decode cX2_atom 124 = .ok (.ldc_w 267, 3) := dk_19 1 11 (dk_at dksX2_atom_5 10 rfl rfl)
theorem dX2_atom_127 : decode cX2_atom 127 = .ok (.invokevirtual 74, 3) := dk_182 0 74 (dk_at dksX2_atom_5 13 rfl rfl)
theorem dX2_atom_130 : decode cX2_atom 130 = .ok (.ifCond .ne 13, 3) := dk_154 0 13 (dk_at dksX2_atom_5 16 rfl rfl)
theorem dX2_atom_133 : decode cX2_atom 133 = .ok (.aload_n 0, 1) := dk_42 (dk_at dksX2_atom_5 19 rfl rfl)
theorem dX2_atom_134 : decode cX2_atom 134 = .ok (.iconst 1, 1) := dk_4 (dk_at dksX2_atom_5 20 rfl rfl)
theorem dX2_atom_135 : decode cX2_atom 135 = .ok (.aload_n 0, 1) := dk_42 (dk_at dksX2_atom_5 21 rfl rfl)
theorem dX2_atom_136 : decode cX2_atom 136 = .ok (.getfield 61, 3) := dk_180 0 61 (dk_at dksX2_atom_6 0 rfl rfl)
theorem dX2_atom_139 : decode cX2_atom 139 = .ok (.invokevirtual 47, 3) := dk_182 0 47 (dk_at dksX2_atom_6 3 rfl rfl)
theorem dX2_atom_142 : decode cX2_atom 142 = .ok (.athrow, 1) := dk_191 (dk_at dksX2_atom_6 6 rfl rfl)
theorem dX2_atom_143 : decode cX2_atom 143 = .ok (.aload_n 0, 1) := dk_42 (dk_at dksX2_atom_6 7 rfl rfl)
theorem dX2_atom_144 : decode cX2_atom 144 = .ok (.aload_n 1, 1) := dk_43 (dk_at dksX2_atom_6 8 rfl rfl)
theorem dX2_atom_145 : decode cX2_atom 145 = .ok (.ldc_w 265, 3) := dk_19 1 9 (dk_at dksX2_atom_6 9 rfl rfl)
theorem dX2_atom_148 : decode cX2_atom 148 = .ok (.invokevirtual 74, 3) := dk_182 0 74 (dk_at dksX2_atom_6 12 rfl rfl)
theorem dX2_atom_151 : decode cX2_atom 151 = .ok (.ifCond .eq 7, 3) := dk_153 0 7 (dk_at dksX2_atom_6 15 rfl rfl)
theorem dX2_atom_154 : decode cX2_atom 154 = .ok (.iconst 1, 1) := dk_4 (dk_at dksX2_atom_6 18 rfl rfl)
theorem dX2_atom_155 : decode cX2_atom 155 = .ok (.goto 4, 3) := dk_167 0 4 (dk_at dksX2_atom_6 19 rfl rfl)
theorem dX2_atom_158 : decode cX2_atom 158 = .ok (.iconst 2, 1) := dk_5 (dk_at dksX2_atom_6 22 rfl rfl)
theorem dX2_atom_159 : decode cX2_atom 159 = .ok (.invokevirtual 239, 3) := dk_182 0 239 (dk_at dksX2_atom_7 0 rfl rfl)
theorem dX2_atom_162 : decode cX2_atom 162 = .ok (.areturn, 1) := dk_176 (dk_at dksX2_atom_7 3 rfl rfl)
abbrev cX2_within : ByteArray := prog_13_method_23_code
def yX2_within : MethodName := ⟨RX2, "within", "(I)LRetouched$Value;"⟩
def dkwX2_within_4 : List UInt8 := [176]
abbrev dktX2_within_4 : List UInt8 := dkwX2_within_4 ++ []
def dkwX2_within_3 : List UInt8 := [182, 0, 165, 183, 0, 236, 78, 42, 16, 41, 182, 0, 121, 42, 89, 180, 0, 113, 4, 100, 181, 0, 113, 45]
abbrev dktX2_within_3 : List UInt8 := dkwX2_within_3 ++ dktX2_within_4
def dkwX2_within_2 : List UInt8 := [42, 16, 44, 182, 0, 121, 187, 0, 234, 89, 27, 5, 160, 0, 7, 4, 167, 0, 4, 3, 44, 42]
abbrev dktX2_within_2 : List UInt8 := dkwX2_within_2 ++ dktX2_within_3
def dkwX2_within_1 : List UInt8 := [182, 0, 231, 42, 89, 180, 0, 36, 4, 96, 181, 0, 36, 42, 182, 0, 165, 77, 44, 78, 27, 158, 0, 32]
abbrev dktX2_within_1 : List UInt8 := dkwX2_within_1 ++ dktX2_within_2
def dkwX2_within_0 : List UInt8 := [42, 182, 0, 43, 16, 40, 159, 0, 13, 42, 4, 42, 180, 0, 36, 182, 0, 47, 191, 42, 42, 180, 0, 36]
abbrev dktX2_within_0 : List UInt8 := dkwX2_within_0 ++ dktX2_within_1
theorem dksX2_within_0 : cX2_within.data.toList.drop 0 = dktX2_within_0 := by decide +kernel
theorem dksX2_within_1 : cX2_within.data.toList.drop 24 = dktX2_within_1 := dk_seg dksX2_within_0 24 rfl rfl
theorem dksX2_within_2 : cX2_within.data.toList.drop 48 = dktX2_within_2 := dk_seg dksX2_within_1 24 rfl rfl
theorem dksX2_within_3 : cX2_within.data.toList.drop 70 = dktX2_within_3 := dk_seg dksX2_within_2 22 rfl rfl
theorem dksX2_within_4 : cX2_within.data.toList.drop 94 = dktX2_within_4 := dk_seg dksX2_within_3 24 rfl rfl
theorem dX2_within_0 : decode cX2_within 0 = .ok (.aload_n 0, 1) := dk_42 (dk_at dksX2_within_0 0 rfl rfl)
theorem dX2_within_1 : decode cX2_within 1 = .ok (.invokevirtual 43, 3) := dk_182 0 43 (dk_at dksX2_within_0 1 rfl rfl)
theorem dX2_within_4 : decode cX2_within 4 = .ok (.bipush 40, 2) := dk_16 40 (dk_at dksX2_within_0 4 rfl rfl)
theorem dX2_within_6 : decode cX2_within 6 = .ok (.if_icmp .eq 13, 3) := dk_159 0 13 (dk_at dksX2_within_0 6 rfl rfl)
theorem dX2_within_9 : decode cX2_within 9 = .ok (.aload_n 0, 1) := dk_42 (dk_at dksX2_within_0 9 rfl rfl)
theorem dX2_within_10 : decode cX2_within 10 = .ok (.iconst 1, 1) := dk_4 (dk_at dksX2_within_0 10 rfl rfl)
theorem dX2_within_11 : decode cX2_within 11 = .ok (.aload_n 0, 1) := dk_42 (dk_at dksX2_within_0 11 rfl rfl)
theorem dX2_within_12 : decode cX2_within 12 = .ok (.getfield 36, 3) := dk_180 0 36 (dk_at dksX2_within_0 12 rfl rfl)
theorem dX2_within_15 : decode cX2_within 15 = .ok (.invokevirtual 47, 3) := dk_182 0 47 (dk_at dksX2_within_0 15 rfl rfl)
theorem dX2_within_18 : decode cX2_within 18 = .ok (.athrow, 1) := dk_191 (dk_at dksX2_within_0 18 rfl rfl)
theorem dX2_within_19 : decode cX2_within 19 = .ok (.aload_n 0, 1) := dk_42 (dk_at dksX2_within_0 19 rfl rfl)
theorem dX2_within_20 : decode cX2_within 20 = .ok (.aload_n 0, 1) := dk_42 (dk_at dksX2_within_0 20 rfl rfl)
theorem dX2_within_21 : decode cX2_within 21 = .ok (.getfield 36, 3) := dk_180 0 36 (dk_at dksX2_within_0 21 rfl rfl)
theorem dX2_within_24 : decode cX2_within 24 = .ok (.invokevirtual 231, 3) := dk_182 0 231 (dk_at dksX2_within_1 0 rfl rfl)
theorem dX2_within_27 : decode cX2_within 27 = .ok (.aload_n 0, 1) := dk_42 (dk_at dksX2_within_1 3 rfl rfl)
theorem dX2_within_28 : decode cX2_within 28 = .ok (.dup, 1) := dk_89 (dk_at dksX2_within_1 4 rfl rfl)
theorem dX2_within_29 : decode cX2_within 29 = .ok (.getfield 36, 3) := dk_180 0 36 (dk_at dksX2_within_1 5 rfl rfl)
theorem dX2_within_32 : decode cX2_within 32 = .ok (.iconst 1, 1) := dk_4 (dk_at dksX2_within_1 8 rfl rfl)
theorem dX2_within_33 : decode cX2_within 33 = .ok (.iadd, 1) := dk_96 (dk_at dksX2_within_1 9 rfl rfl)
theorem dX2_within_34 : decode cX2_within 34 = .ok (.putfield 36, 3) := dk_181 0 36 (dk_at dksX2_within_1 10 rfl rfl)
theorem dX2_within_37 : decode cX2_within 37 = .ok (.aload_n 0, 1) := dk_42 (dk_at dksX2_within_1 13 rfl rfl)
theorem dX2_within_38 : decode cX2_within 38 = .ok (.invokevirtual 165, 3) := dk_182 0 165 (dk_at dksX2_within_1 14 rfl rfl)
theorem dX2_within_41 : decode cX2_within 41 = .ok (.astore_n 2, 1) := dk_77 (dk_at dksX2_within_1 17 rfl rfl)
theorem dX2_within_42 : decode cX2_within 42 = .ok (.aload_n 2, 1) := dk_44 (dk_at dksX2_within_1 18 rfl rfl)
theorem dX2_within_43 : decode cX2_within 43 = .ok (.astore_n 3, 1) := dk_78 (dk_at dksX2_within_1 19 rfl rfl)
theorem dX2_within_44 : decode cX2_within 44 = .ok (.iload_n 1, 1) := dk_27 (dk_at dksX2_within_1 20 rfl rfl)
theorem dX2_within_45 : decode cX2_within 45 = .ok (.ifCond .le 32, 3) := dk_158 0 32 (dk_at dksX2_within_1 21 rfl rfl)
theorem dX2_within_48 : decode cX2_within 48 = .ok (.aload_n 0, 1) := dk_42 (dk_at dksX2_within_2 0 rfl rfl)
theorem dX2_within_49 : decode cX2_within 49 = .ok (.bipush 44, 2) := dk_16 44 (dk_at dksX2_within_2 1 rfl rfl)
theorem dX2_within_51 : decode cX2_within 51 = .ok (.invokevirtual 121, 3) := dk_182 0 121 (dk_at dksX2_within_2 3 rfl rfl)
theorem dX2_within_54 : decode cX2_within 54 = .ok (.new 234, 3) := dk_187 0 234 (dk_at dksX2_within_2 6 rfl rfl)
theorem dX2_within_57 : decode cX2_within 57 = .ok (.dup, 1) := dk_89 (dk_at dksX2_within_2 9 rfl rfl)
theorem dX2_within_58 : decode cX2_within 58 = .ok (.iload_n 1, 1) := dk_27 (dk_at dksX2_within_2 10 rfl rfl)
theorem dX2_within_59 : decode cX2_within 59 = .ok (.iconst 2, 1) := dk_5 (dk_at dksX2_within_2 11 rfl rfl)
theorem dX2_within_60 : decode cX2_within 60 = .ok (.if_icmp .ne 7, 3) := dk_160 0 7 (dk_at dksX2_within_2 12 rfl rfl)
theorem dX2_within_63 : decode cX2_within 63 = .ok (.iconst 1, 1) := dk_4 (dk_at dksX2_within_2 15 rfl rfl)
theorem dX2_within_64 : decode cX2_within 64 = .ok (.goto 4, 3) := dk_167 0 4 (dk_at dksX2_within_2 16 rfl rfl)
theorem dX2_within_67 : decode cX2_within 67 = .ok (.iconst 0, 1) := dk_3 (dk_at dksX2_within_2 19 rfl rfl)
theorem dX2_within_68 : decode cX2_within 68 = .ok (.aload_n 2, 1) := dk_44 (dk_at dksX2_within_2 20 rfl rfl)
theorem dX2_within_69 : decode cX2_within 69 = .ok (.aload_n 0, 1) := dk_42 (dk_at dksX2_within_2 21 rfl rfl)
theorem dX2_within_70 : decode cX2_within 70 = .ok (.invokevirtual 165, 3) := dk_182 0 165 (dk_at dksX2_within_3 0 rfl rfl)
theorem dX2_within_73 : decode cX2_within 73 = .ok (.invokespecial 236, 3) := dk_183 0 236 (dk_at dksX2_within_3 3 rfl rfl)
theorem dX2_within_76 : decode cX2_within 76 = .ok (.astore_n 3, 1) := dk_78 (dk_at dksX2_within_3 6 rfl rfl)
theorem dX2_within_77 : decode cX2_within 77 = .ok (.aload_n 0, 1) := dk_42 (dk_at dksX2_within_3 7 rfl rfl)
theorem dX2_within_78 : decode cX2_within 78 = .ok (.bipush 41, 2) := dk_16 41 (dk_at dksX2_within_3 8 rfl rfl)
theorem dX2_within_80 : decode cX2_within 80 = .ok (.invokevirtual 121, 3) := dk_182 0 121 (dk_at dksX2_within_3 10 rfl rfl)
theorem dX2_within_83 : decode cX2_within 83 = .ok (.aload_n 0, 1) := dk_42 (dk_at dksX2_within_3 13 rfl rfl)
theorem dX2_within_84 : decode cX2_within 84 = .ok (.dup, 1) := dk_89 (dk_at dksX2_within_3 14 rfl rfl)
theorem dX2_within_85 : decode cX2_within 85 = .ok (.getfield 113, 3) := dk_180 0 113 (dk_at dksX2_within_3 15 rfl rfl)
theorem dX2_within_88 : decode cX2_within 88 = .ok (.iconst 1, 1) := dk_4 (dk_at dksX2_within_3 18 rfl rfl)
theorem dX2_within_89 : decode cX2_within 89 = .ok (.isub, 1) := dk_100 (dk_at dksX2_within_3 19 rfl rfl)
theorem dX2_within_90 : decode cX2_within 90 = .ok (.putfield 113, 3) := dk_181 0 113 (dk_at dksX2_within_3 20 rfl rfl)
theorem dX2_within_93 : decode cX2_within 93 = .ok (.aload_n 3, 1) := dk_45 (dk_at dksX2_within_3 23 rfl rfl)
theorem dX2_within_94 : decode cX2_within 94 = .ok (.areturn, 1) := dk_176 (dk_at dksX2_within_4 0 rfl rfl)
abbrev cX2_opens : ByteArray := prog_13_method_22_code
def yX2_opens : MethodName := ⟨RX2, "opens", "(I)V"⟩
def dkwX2_opens_1 : List UInt8 := [181, 0, 113, 177]
abbrev dktX2_opens_1 : List UInt8 := dkwX2_opens_1 ++ []
def dkwX2_opens_0 : List UInt8 := [42, 180, 0, 113, 16, 6, 160, 0, 10, 42, 7, 27, 182, 0, 47, 191, 42, 89, 180, 0, 113, 4, 96]
abbrev dktX2_opens_0 : List UInt8 := dkwX2_opens_0 ++ dktX2_opens_1
theorem dksX2_opens_0 : cX2_opens.data.toList.drop 0 = dktX2_opens_0 := by decide +kernel
theorem dksX2_opens_1 : cX2_opens.data.toList.drop 23 = dktX2_opens_1 := dk_seg dksX2_opens_0 23 rfl rfl
theorem dX2_opens_0 : decode cX2_opens 0 = .ok (.aload_n 0, 1) := dk_42 (dk_at dksX2_opens_0 0 rfl rfl)
theorem dX2_opens_1 : decode cX2_opens 1 = .ok (.getfield 113, 3) := dk_180 0 113 (dk_at dksX2_opens_0 1 rfl rfl)
theorem dX2_opens_4 : decode cX2_opens 4 = .ok (.bipush 6, 2) := dk_16 6 (dk_at dksX2_opens_0 4 rfl rfl)
theorem dX2_opens_6 : decode cX2_opens 6 = .ok (.if_icmp .ne 10, 3) := dk_160 0 10 (dk_at dksX2_opens_0 6 rfl rfl)
theorem dX2_opens_9 : decode cX2_opens 9 = .ok (.aload_n 0, 1) := dk_42 (dk_at dksX2_opens_0 9 rfl rfl)
theorem dX2_opens_10 : decode cX2_opens 10 = .ok (.iconst 4, 1) := dk_7 (dk_at dksX2_opens_0 10 rfl rfl)
theorem dX2_opens_11 : decode cX2_opens 11 = .ok (.iload_n 1, 1) := dk_27 (dk_at dksX2_opens_0 11 rfl rfl)
theorem dX2_opens_12 : decode cX2_opens 12 = .ok (.invokevirtual 47, 3) := dk_182 0 47 (dk_at dksX2_opens_0 12 rfl rfl)
theorem dX2_opens_15 : decode cX2_opens 15 = .ok (.athrow, 1) := dk_191 (dk_at dksX2_opens_0 15 rfl rfl)
theorem dX2_opens_16 : decode cX2_opens 16 = .ok (.aload_n 0, 1) := dk_42 (dk_at dksX2_opens_0 16 rfl rfl)
theorem dX2_opens_17 : decode cX2_opens 17 = .ok (.dup, 1) := dk_89 (dk_at dksX2_opens_0 17 rfl rfl)
theorem dX2_opens_18 : decode cX2_opens 18 = .ok (.getfield 113, 3) := dk_180 0 113 (dk_at dksX2_opens_0 18 rfl rfl)
theorem dX2_opens_21 : decode cX2_opens 21 = .ok (.iconst 1, 1) := dk_4 (dk_at dksX2_opens_0 21 rfl rfl)
theorem dX2_opens_22 : decode cX2_opens 22 = .ok (.iadd, 1) := dk_96 (dk_at dksX2_opens_0 22 rfl rfl)
theorem dX2_opens_23 : decode cX2_opens 23 = .ok (.putfield 113, 3) := dk_181 0 113 (dk_at dksX2_opens_1 0 rfl rfl)
theorem dX2_opens_26 : decode cX2_opens 26 = .ok (.return_, 1) := dk_177 (dk_at dksX2_opens_1 3 rfl rfl)
abbrev cX2_looked : ByteArray := prog_13_method_28_code
def yX2_looked : MethodName := ⟨RX2, "looked", "(I)LRetouched$Value;"⟩
def dkwX2_looked_1 : List UInt8 := [77, 42, 89, 180, 0, 113, 4, 100, 181, 0, 113, 44, 176]
abbrev dktX2_looked_1 : List UInt8 := dkwX2_looked_1 ++ []
def dkwX2_looked_0 : List UInt8 := [42, 42, 180, 0, 61, 182, 0, 231, 187, 1, 52, 89, 42, 180, 0, 3, 27, 42, 182, 0, 228, 183, 1, 54]
abbrev dktX2_looked_0 : List UInt8 := dkwX2_looked_0 ++ dktX2_looked_1
theorem dksX2_looked_0 : cX2_looked.data.toList.drop 0 = dktX2_looked_0 := by decide +kernel
theorem dksX2_looked_1 : cX2_looked.data.toList.drop 24 = dktX2_looked_1 := dk_seg dksX2_looked_0 24 rfl rfl
theorem dX2_looked_0 : decode cX2_looked 0 = .ok (.aload_n 0, 1) := dk_42 (dk_at dksX2_looked_0 0 rfl rfl)
theorem dX2_looked_1 : decode cX2_looked 1 = .ok (.aload_n 0, 1) := dk_42 (dk_at dksX2_looked_0 1 rfl rfl)
theorem dX2_looked_2 : decode cX2_looked 2 = .ok (.getfield 61, 3) := dk_180 0 61 (dk_at dksX2_looked_0 2 rfl rfl)
theorem dX2_looked_5 : decode cX2_looked 5 = .ok (.invokevirtual 231, 3) := dk_182 0 231 (dk_at dksX2_looked_0 5 rfl rfl)
theorem dX2_looked_8 : decode cX2_looked 8 = .ok (.new 308, 3) := dk_187 1 52 (dk_at dksX2_looked_0 8 rfl rfl)
theorem dX2_looked_11 : decode cX2_looked 11 = .ok (.dup, 1) := dk_89 (dk_at dksX2_looked_0 11 rfl rfl)
theorem dX2_looked_12 : decode cX2_looked 12 = .ok (.aload_n 0, 1) := dk_42 (dk_at dksX2_looked_0 12 rfl rfl)
theorem dX2_looked_13 : decode cX2_looked 13 = .ok (.getfield 3, 3) := dk_180 0 3 (dk_at dksX2_looked_0 13 rfl rfl)
theorem dX2_looked_16 : decode cX2_looked 16 = .ok (.iload_n 1, 1) := dk_27 (dk_at dksX2_looked_0 16 rfl rfl)
theorem dX2_looked_17 : decode cX2_looked 17 = .ok (.aload_n 0, 1) := dk_42 (dk_at dksX2_looked_0 17 rfl rfl)
theorem dX2_looked_18 : decode cX2_looked 18 = .ok (.invokevirtual 228, 3) := dk_182 0 228 (dk_at dksX2_looked_0 18 rfl rfl)
theorem dX2_looked_21 : decode cX2_looked 21 = .ok (.invokespecial 310, 3) := dk_183 1 54 (dk_at dksX2_looked_0 21 rfl rfl)
theorem dX2_looked_24 : decode cX2_looked 24 = .ok (.astore_n 2, 1) := dk_77 (dk_at dksX2_looked_1 0 rfl rfl)
theorem dX2_looked_25 : decode cX2_looked 25 = .ok (.aload_n 0, 1) := dk_42 (dk_at dksX2_looked_1 1 rfl rfl)
theorem dX2_looked_26 : decode cX2_looked 26 = .ok (.dup, 1) := dk_89 (dk_at dksX2_looked_1 2 rfl rfl)
theorem dX2_looked_27 : decode cX2_looked 27 = .ok (.getfield 113, 3) := dk_180 0 113 (dk_at dksX2_looked_1 3 rfl rfl)
theorem dX2_looked_30 : decode cX2_looked 30 = .ok (.iconst 1, 1) := dk_4 (dk_at dksX2_looked_1 6 rfl rfl)
theorem dX2_looked_31 : decode cX2_looked 31 = .ok (.isub, 1) := dk_100 (dk_at dksX2_looked_1 7 rfl rfl)
theorem dX2_looked_32 : decode cX2_looked 32 = .ok (.putfield 113, 3) := dk_181 0 113 (dk_at dksX2_looked_1 8 rfl rfl)
theorem dX2_looked_35 : decode cX2_looked 35 = .ok (.aload_n 2, 1) := dk_44 (dk_at dksX2_looked_1 11 rfl rfl)
theorem dX2_looked_36 : decode cX2_looked 36 = .ok (.areturn, 1) := dk_176 (dk_at dksX2_looked_1 12 rfl rfl)
abbrev cX2_takes : ByteArray := prog_13_method_19_code
def yX2_takes : MethodName := ⟨RX2, "takes", "(I)Z"⟩
def dkwX2_takes_1 : List UInt8 := [167, 0, 4, 3, 96, 181, 0, 36, 28, 172]
abbrev dktX2_takes_1 : List UInt8 := dkwX2_takes_1 ++ []
def dkwX2_takes_0 : List UInt8 := [42, 182, 0, 43, 27, 160, 0, 7, 4, 167, 0, 4, 3, 61, 42, 89, 180, 0, 36, 28, 153, 0, 7, 4]
abbrev dktX2_takes_0 : List UInt8 := dkwX2_takes_0 ++ dktX2_takes_1
theorem dksX2_takes_0 : cX2_takes.data.toList.drop 0 = dktX2_takes_0 := by decide +kernel
theorem dksX2_takes_1 : cX2_takes.data.toList.drop 24 = dktX2_takes_1 := dk_seg dksX2_takes_0 24 rfl rfl
theorem dX2_takes_0 : decode cX2_takes 0 = .ok (.aload_n 0, 1) := dk_42 (dk_at dksX2_takes_0 0 rfl rfl)
theorem dX2_takes_1 : decode cX2_takes 1 = .ok (.invokevirtual 43, 3) := dk_182 0 43 (dk_at dksX2_takes_0 1 rfl rfl)
theorem dX2_takes_4 : decode cX2_takes 4 = .ok (.iload_n 1, 1) := dk_27 (dk_at dksX2_takes_0 4 rfl rfl)
theorem dX2_takes_5 : decode cX2_takes 5 = .ok (.if_icmp .ne 7, 3) := dk_160 0 7 (dk_at dksX2_takes_0 5 rfl rfl)
theorem dX2_takes_8 : decode cX2_takes 8 = .ok (.iconst 1, 1) := dk_4 (dk_at dksX2_takes_0 8 rfl rfl)
theorem dX2_takes_9 : decode cX2_takes 9 = .ok (.goto 4, 3) := dk_167 0 4 (dk_at dksX2_takes_0 9 rfl rfl)
theorem dX2_takes_12 : decode cX2_takes 12 = .ok (.iconst 0, 1) := dk_3 (dk_at dksX2_takes_0 12 rfl rfl)
theorem dX2_takes_13 : decode cX2_takes 13 = .ok (.istore_n 2, 1) := dk_61 (dk_at dksX2_takes_0 13 rfl rfl)
theorem dX2_takes_14 : decode cX2_takes 14 = .ok (.aload_n 0, 1) := dk_42 (dk_at dksX2_takes_0 14 rfl rfl)
theorem dX2_takes_15 : decode cX2_takes 15 = .ok (.dup, 1) := dk_89 (dk_at dksX2_takes_0 15 rfl rfl)
theorem dX2_takes_16 : decode cX2_takes 16 = .ok (.getfield 36, 3) := dk_180 0 36 (dk_at dksX2_takes_0 16 rfl rfl)
theorem dX2_takes_19 : decode cX2_takes 19 = .ok (.iload_n 2, 1) := dk_28 (dk_at dksX2_takes_0 19 rfl rfl)
theorem dX2_takes_20 : decode cX2_takes 20 = .ok (.ifCond .eq 7, 3) := dk_153 0 7 (dk_at dksX2_takes_0 20 rfl rfl)
theorem dX2_takes_23 : decode cX2_takes 23 = .ok (.iconst 1, 1) := dk_4 (dk_at dksX2_takes_0 23 rfl rfl)
theorem dX2_takes_24 : decode cX2_takes 24 = .ok (.goto 4, 3) := dk_167 0 4 (dk_at dksX2_takes_1 0 rfl rfl)
theorem dX2_takes_27 : decode cX2_takes 27 = .ok (.iconst 0, 1) := dk_3 (dk_at dksX2_takes_1 3 rfl rfl)
theorem dX2_takes_28 : decode cX2_takes 28 = .ok (.iadd, 1) := dk_96 (dk_at dksX2_takes_1 4 rfl rfl)
theorem dX2_takes_29 : decode cX2_takes 29 = .ok (.putfield 36, 3) := dk_181 0 36 (dk_at dksX2_takes_1 5 rfl rfl)
theorem dX2_takes_32 : decode cX2_takes 32 = .ok (.iload_n 2, 1) := dk_28 (dk_at dksX2_takes_1 8 rfl rfl)
theorem dX2_takes_33 : decode cX2_takes 33 = .ok (.ireturn, 1) := dk_172 (dk_at dksX2_takes_1 9 rfl rfl)
abbrev cX2_test : ByteArray := prog_13_method_25_code
def yX2_test : MethodName := ⟨RX2, "test", "()LRetouched$Test;"⟩
def dkwX2_test_2 : List UInt8 := [167, 255, 232, 43, 176]
abbrev dktX2_test_2 : List UInt8 := dkwX2_test_2 ++ []
def dkwX2_test_1 : List UInt8 := [19, 1, 24, 182, 1, 26, 153, 0, 20, 43, 180, 1, 18, 42, 182, 1, 21, 185, 0, 159, 2, 0, 87]
abbrev dktX2_test_1 : List UInt8 := dkwX2_test_1 ++ dktX2_test_2
def dkwX2_test_0 : List UInt8 := [187, 1, 13, 89, 3, 183, 1, 15, 76, 43, 180, 1, 18, 42, 182, 1, 21, 185, 0, 159, 2, 0, 87, 42]
abbrev dktX2_test_0 : List UInt8 := dkwX2_test_0 ++ dktX2_test_1
theorem dksX2_test_0 : cX2_test.data.toList.drop 0 = dktX2_test_0 := by decide +kernel
theorem dksX2_test_1 : cX2_test.data.toList.drop 24 = dktX2_test_1 := dk_seg dksX2_test_0 24 rfl rfl
theorem dksX2_test_2 : cX2_test.data.toList.drop 47 = dktX2_test_2 := dk_seg dksX2_test_1 23 rfl rfl
theorem dX2_test_0 : decode cX2_test 0 = .ok (.new 269, 3) := dk_187 1 13 (dk_at dksX2_test_0 0 rfl rfl)
theorem dX2_test_3 : decode cX2_test 3 = .ok (.dup, 1) := dk_89 (dk_at dksX2_test_0 3 rfl rfl)
theorem dX2_test_4 : decode cX2_test 4 = .ok (.iconst 0, 1) := dk_3 (dk_at dksX2_test_0 4 rfl rfl)
theorem dX2_test_5 : decode cX2_test 5 = .ok (.invokespecial 271, 3) := dk_183 1 15 (dk_at dksX2_test_0 5 rfl rfl)
theorem dX2_test_8 : decode cX2_test 8 = .ok (.astore_n 1, 1) := dk_76 (dk_at dksX2_test_0 8 rfl rfl)
theorem dX2_test_9 : decode cX2_test 9 = .ok (.aload_n 1, 1) := dk_43 (dk_at dksX2_test_0 9 rfl rfl)
theorem dX2_test_10 : decode cX2_test 10 = .ok (.getfield 274, 3) := dk_180 1 18 (dk_at dksX2_test_0 10 rfl rfl)
theorem dX2_test_13 : decode cX2_test 13 = .ok (.aload_n 0, 1) := dk_42 (dk_at dksX2_test_0 13 rfl rfl)
theorem dX2_test_14 : decode cX2_test 14 = .ok (.invokevirtual 277, 3) := dk_182 1 21 (dk_at dksX2_test_0 14 rfl rfl)
theorem dX2_test_17 : decode cX2_test 17 = .ok (.invokeinterface 159 2, 5) := by decide +kernel
theorem dX2_test_22 : decode cX2_test 22 = .ok (.pop, 1) := dk_87 (dk_at dksX2_test_0 22 rfl rfl)
theorem dX2_test_23 : decode cX2_test 23 = .ok (.aload_n 0, 1) := dk_42 (dk_at dksX2_test_0 23 rfl rfl)
theorem dX2_test_24 : decode cX2_test 24 = .ok (.ldc_w 280, 3) := dk_19 1 24 (dk_at dksX2_test_1 0 rfl rfl)
theorem dX2_test_27 : decode cX2_test 27 = .ok (.invokevirtual 282, 3) := dk_182 1 26 (dk_at dksX2_test_1 3 rfl rfl)
theorem dX2_test_30 : decode cX2_test 30 = .ok (.ifCond .eq 20, 3) := dk_153 0 20 (dk_at dksX2_test_1 6 rfl rfl)
theorem dX2_test_33 : decode cX2_test 33 = .ok (.aload_n 1, 1) := dk_43 (dk_at dksX2_test_1 9 rfl rfl)
theorem dX2_test_34 : decode cX2_test 34 = .ok (.getfield 274, 3) := dk_180 1 18 (dk_at dksX2_test_1 10 rfl rfl)
theorem dX2_test_37 : decode cX2_test 37 = .ok (.aload_n 0, 1) := dk_42 (dk_at dksX2_test_1 13 rfl rfl)
theorem dX2_test_38 : decode cX2_test 38 = .ok (.invokevirtual 277, 3) := dk_182 1 21 (dk_at dksX2_test_1 14 rfl rfl)
theorem dX2_test_41 : decode cX2_test 41 = .ok (.invokeinterface 159 2, 5) := by decide +kernel
theorem dX2_test_46 : decode cX2_test 46 = .ok (.pop, 1) := dk_87 (dk_at dksX2_test_1 22 rfl rfl)
theorem dX2_test_47 : decode cX2_test 47 = .ok (.goto (-24), 3) := dk_167 255 232 (dk_at dksX2_test_2 0 rfl rfl)
theorem dX2_test_50 : decode cX2_test 50 = .ok (.aload_n 1, 1) := dk_43 (dk_at dksX2_test_2 3 rfl rfl)
theorem dX2_test_51 : decode cX2_test 51 = .ok (.areturn, 1) := dk_176 (dk_at dksX2_test_2 4 rfl rfl)
abbrev cX2_both : ByteArray := prog_13_method_26_code
def yX2_both : MethodName := ⟨RX2, "both", "()LRetouched$Test;"⟩
def dkwX2_both_2 : List UInt8 := [167, 255, 232, 43, 176]
abbrev dktX2_both_2 : List UInt8 := dkwX2_both_2 ++ []
def dkwX2_both_1 : List UInt8 := [19, 1, 33, 182, 1, 26, 153, 0, 20, 43, 180, 1, 18, 42, 182, 1, 30, 185, 0, 159, 2, 0, 87]
abbrev dktX2_both_1 : List UInt8 := dkwX2_both_1 ++ dktX2_both_2
def dkwX2_both_0 : List UInt8 := [187, 1, 13, 89, 4, 183, 1, 15, 76, 43, 180, 1, 18, 42, 182, 1, 30, 185, 0, 159, 2, 0, 87, 42]
abbrev dktX2_both_0 : List UInt8 := dkwX2_both_0 ++ dktX2_both_1
theorem dksX2_both_0 : cX2_both.data.toList.drop 0 = dktX2_both_0 := by decide +kernel
theorem dksX2_both_1 : cX2_both.data.toList.drop 24 = dktX2_both_1 := dk_seg dksX2_both_0 24 rfl rfl
theorem dksX2_both_2 : cX2_both.data.toList.drop 47 = dktX2_both_2 := dk_seg dksX2_both_1 23 rfl rfl
theorem dX2_both_0 : decode cX2_both 0 = .ok (.new 269, 3) := dk_187 1 13 (dk_at dksX2_both_0 0 rfl rfl)
theorem dX2_both_3 : decode cX2_both 3 = .ok (.dup, 1) := dk_89 (dk_at dksX2_both_0 3 rfl rfl)
theorem dX2_both_4 : decode cX2_both 4 = .ok (.iconst 1, 1) := dk_4 (dk_at dksX2_both_0 4 rfl rfl)
theorem dX2_both_5 : decode cX2_both 5 = .ok (.invokespecial 271, 3) := dk_183 1 15 (dk_at dksX2_both_0 5 rfl rfl)
theorem dX2_both_8 : decode cX2_both 8 = .ok (.astore_n 1, 1) := dk_76 (dk_at dksX2_both_0 8 rfl rfl)
theorem dX2_both_9 : decode cX2_both 9 = .ok (.aload_n 1, 1) := dk_43 (dk_at dksX2_both_0 9 rfl rfl)
theorem dX2_both_10 : decode cX2_both 10 = .ok (.getfield 274, 3) := dk_180 1 18 (dk_at dksX2_both_0 10 rfl rfl)
theorem dX2_both_13 : decode cX2_both 13 = .ok (.aload_n 0, 1) := dk_42 (dk_at dksX2_both_0 13 rfl rfl)
theorem dX2_both_14 : decode cX2_both 14 = .ok (.invokevirtual 286, 3) := dk_182 1 30 (dk_at dksX2_both_0 14 rfl rfl)
theorem dX2_both_17 : decode cX2_both 17 = .ok (.invokeinterface 159 2, 5) := by decide +kernel
theorem dX2_both_22 : decode cX2_both 22 = .ok (.pop, 1) := dk_87 (dk_at dksX2_both_0 22 rfl rfl)
theorem dX2_both_23 : decode cX2_both 23 = .ok (.aload_n 0, 1) := dk_42 (dk_at dksX2_both_0 23 rfl rfl)
theorem dX2_both_24 : decode cX2_both 24 = .ok (.ldc_w 289, 3) := dk_19 1 33 (dk_at dksX2_both_1 0 rfl rfl)
theorem dX2_both_27 : decode cX2_both 27 = .ok (.invokevirtual 282, 3) := dk_182 1 26 (dk_at dksX2_both_1 3 rfl rfl)
theorem dX2_both_30 : decode cX2_both 30 = .ok (.ifCond .eq 20, 3) := dk_153 0 20 (dk_at dksX2_both_1 6 rfl rfl)
theorem dX2_both_33 : decode cX2_both 33 = .ok (.aload_n 1, 1) := dk_43 (dk_at dksX2_both_1 9 rfl rfl)
theorem dX2_both_34 : decode cX2_both 34 = .ok (.getfield 274, 3) := dk_180 1 18 (dk_at dksX2_both_1 10 rfl rfl)
theorem dX2_both_37 : decode cX2_both 37 = .ok (.aload_n 0, 1) := dk_42 (dk_at dksX2_both_1 13 rfl rfl)
theorem dX2_both_38 : decode cX2_both 38 = .ok (.invokevirtual 286, 3) := dk_182 1 30 (dk_at dksX2_both_1 14 rfl rfl)
theorem dX2_both_41 : decode cX2_both 41 = .ok (.invokeinterface 159 2, 5) := by decide +kernel
theorem dX2_both_46 : decode cX2_both 46 = .ok (.pop, 1) := dk_87 (dk_at dksX2_both_1 22 rfl rfl)
theorem dX2_both_47 : decode cX2_both 47 = .ok (.goto (-24), 3) := dk_167 255 232 (dk_at dksX2_both_2 0 rfl rfl)
theorem dX2_both_50 : decode cX2_both 50 = .ok (.aload_n 1, 1) := dk_43 (dk_at dksX2_both_2 3 rfl rfl)
theorem dX2_both_51 : decode cX2_both 51 = .ok (.areturn, 1) := dk_176 (dk_at dksX2_both_2 4 rfl rfl)
abbrev cX2_fact : ByteArray := prog_13_method_27_code
def yX2_fact : MethodName := ⟨RX2, "fact", "()LRetouched$Test;"⟩
def dkwX2_fact_7 : List UInt8 := [183, 1, 49, 176]
abbrev dktX2_fact_7 : List UInt8 := dkwX2_fact_7 ++ []
def dkwX2_fact_6 : List UInt8 := [182, 0, 47, 191, 42, 89, 180, 0, 36, 4, 96, 181, 0, 36, 187, 1, 47, 89, 43, 28, 42, 182, 0, 165]
abbrev dktX2_fact_6 : List UInt8 := dkwX2_fact_6 ++ dktX2_fact_7
def dkwX2_fact_5 : List UInt8 := [28, 16, 60, 159, 0, 25, 28, 16, 62, 159, 0, 19, 28, 16, 61, 159, 0, 13, 42, 4, 42, 180, 0, 36]
abbrev dktX2_fact_5 : List UInt8 := dkwX2_fact_5 ++ dktX2_fact_6
def dkwX2_fact_4 : List UInt8 := [182, 1, 26, 153, 0, 11, 187, 1, 44, 89, 183, 1, 46, 176, 42, 182, 0, 165, 76, 42, 182, 0, 43, 61]
abbrev dktX2_fact_4 : List UInt8 := dkwX2_fact_4 ++ dktX2_fact_5
def dkwX2_fact_3 : List UInt8 := [42, 182, 1, 30, 183, 1, 39, 76, 42, 89, 180, 0, 113, 4, 100, 181, 0, 113, 43, 176, 42, 19, 1, 42]
abbrev dktX2_fact_3 : List UInt8 := dkwX2_fact_3 ++ dktX2_fact_4
def dkwX2_fact_2 : List UInt8 := [43, 176, 42, 19, 1, 35, 182, 1, 26, 153, 0, 35, 42, 42, 180, 0, 61, 182, 0, 231, 187, 1, 37, 89]
abbrev dktX2_fact_2 : List UInt8 := dkwX2_fact_2 ++ dktX2_fact_3
def dkwX2_fact_1 : List UInt8 := [181, 0, 36, 42, 182, 0, 210, 76, 42, 16, 93, 182, 0, 121, 42, 89, 180, 0, 113, 4, 100, 181, 0, 113]
abbrev dktX2_fact_1 : List UInt8 := dkwX2_fact_1 ++ dktX2_fact_2
def dkwX2_fact_0 : List UInt8 := [42, 182, 0, 43, 16, 91, 160, 0, 44, 42, 42, 180, 0, 36, 182, 0, 231, 42, 89, 180, 0, 36, 4, 96]
abbrev dktX2_fact_0 : List UInt8 := dkwX2_fact_0 ++ dktX2_fact_1
theorem dksX2_fact_0 : cX2_fact.data.toList.drop 0 = dktX2_fact_0 := by decide +kernel
theorem dksX2_fact_1 : cX2_fact.data.toList.drop 24 = dktX2_fact_1 := dk_seg dksX2_fact_0 24 rfl rfl
theorem dksX2_fact_2 : cX2_fact.data.toList.drop 48 = dktX2_fact_2 := dk_seg dksX2_fact_1 24 rfl rfl
theorem dksX2_fact_3 : cX2_fact.data.toList.drop 72 = dktX2_fact_3 := dk_seg dksX2_fact_2 24 rfl rfl
theorem dksX2_fact_4 : cX2_fact.data.toList.drop 96 = dktX2_fact_4 := dk_seg dksX2_fact_3 24 rfl rfl
theorem dksX2_fact_5 : cX2_fact.data.toList.drop 120 = dktX2_fact_5 := dk_seg dksX2_fact_4 24 rfl rfl
theorem dksX2_fact_6 : cX2_fact.data.toList.drop 144 = dktX2_fact_6 := dk_seg dksX2_fact_5 24 rfl rfl
theorem dksX2_fact_7 : cX2_fact.data.toList.drop 168 = dktX2_fact_7 := dk_seg dksX2_fact_6 24 rfl rfl
theorem dX2_fact_0 : decode cX2_fact 0 = .ok (.aload_n 0, 1) := dk_42 (dk_at dksX2_fact_0 0 rfl rfl)
theorem dX2_fact_1 : decode cX2_fact 1 = .ok (.invokevirtual 43, 3) := dk_182 0 43 (dk_at dksX2_fact_0 1 rfl rfl)
theorem dX2_fact_4 : decode cX2_fact 4 = .ok (.bipush 91, 2) := dk_16 91 (dk_at dksX2_fact_0 4 rfl rfl)
theorem dX2_fact_6 : decode cX2_fact 6 = .ok (.if_icmp .ne 44, 3) := dk_160 0 44 (dk_at dksX2_fact_0 6 rfl rfl)
theorem dX2_fact_9 : decode cX2_fact 9 = .ok (.aload_n 0, 1) := dk_42 (dk_at dksX2_fact_0 9 rfl rfl)
theorem dX2_fact_10 : decode cX2_fact 10 = .ok (.aload_n 0, 1) := dk_42 (dk_at dksX2_fact_0 10 rfl rfl)
theorem dX2_fact_11 : decode cX2_fact 11 = .ok (.getfield 36, 3) := dk_180 0 36 (dk_at dksX2_fact_0 11 rfl rfl)
theorem dX2_fact_14 : decode cX2_fact 14 = .ok (.invokevirtual 231, 3) := dk_182 0 231 (dk_at dksX2_fact_0 14 rfl rfl)
theorem dX2_fact_17 : decode cX2_fact 17 = .ok (.aload_n 0, 1) := dk_42 (dk_at dksX2_fact_0 17 rfl rfl)
theorem dX2_fact_18 : decode cX2_fact 18 = .ok (.dup, 1) := dk_89 (dk_at dksX2_fact_0 18 rfl rfl)
theorem dX2_fact_19 : decode cX2_fact 19 = .ok (.getfield 36, 3) := dk_180 0 36 (dk_at dksX2_fact_0 19 rfl rfl)
theorem dX2_fact_22 : decode cX2_fact 22 = .ok (.iconst 1, 1) := dk_4 (dk_at dksX2_fact_0 22 rfl rfl)
theorem dX2_fact_23 : decode cX2_fact 23 = .ok (.iadd, 1) := dk_96 (dk_at dksX2_fact_0 23 rfl rfl)
theorem dX2_fact_24 : decode cX2_fact 24 = .ok (.putfield 36, 3) := dk_181 0 36 (dk_at dksX2_fact_1 0 rfl rfl)
theorem dX2_fact_27 : decode cX2_fact 27 = .ok (.aload_n 0, 1) := dk_42 (dk_at dksX2_fact_1 3 rfl rfl)
theorem dX2_fact_28 : decode cX2_fact 28 = .ok (.invokevirtual 210, 3) := dk_182 0 210 (dk_at dksX2_fact_1 4 rfl rfl)
theorem dX2_fact_31 : decode cX2_fact 31 = .ok (.astore_n 1, 1) := dk_76 (dk_at dksX2_fact_1 7 rfl rfl)
theorem dX2_fact_32 : decode cX2_fact 32 = .ok (.aload_n 0, 1) := dk_42 (dk_at dksX2_fact_1 8 rfl rfl)
theorem dX2_fact_33 : decode cX2_fact 33 = .ok (.bipush 93, 2) := dk_16 93 (dk_at dksX2_fact_1 9 rfl rfl)
theorem dX2_fact_35 : decode cX2_fact 35 = .ok (.invokevirtual 121, 3) := dk_182 0 121 (dk_at dksX2_fact_1 11 rfl rfl)
theorem dX2_fact_38 : decode cX2_fact 38 = .ok (.aload_n 0, 1) := dk_42 (dk_at dksX2_fact_1 14 rfl rfl)
theorem dX2_fact_39 : decode cX2_fact 39 = .ok (.dup, 1) := dk_89 (dk_at dksX2_fact_1 15 rfl rfl)
theorem dX2_fact_40 : decode cX2_fact 40 = .ok (.getfield 113, 3) := dk_180 0 113 (dk_at dksX2_fact_1 16 rfl rfl)
theorem dX2_fact_43 : decode cX2_fact 43 = .ok (.iconst 1, 1) := dk_4 (dk_at dksX2_fact_1 19 rfl rfl)
theorem dX2_fact_44 : decode cX2_fact 44 = .ok (.isub, 1) := dk_100 (dk_at dksX2_fact_1 20 rfl rfl)
theorem dX2_fact_45 : decode cX2_fact 45 = .ok (.putfield 113, 3) := dk_181 0 113 (dk_at dksX2_fact_1 21 rfl rfl)
theorem dX2_fact_48 : decode cX2_fact 48 = .ok (.aload_n 1, 1) := dk_43 (dk_at dksX2_fact_2 0 rfl rfl)
theorem dX2_fact_49 : decode cX2_fact 49 = .ok (.areturn, 1) := dk_176 (dk_at dksX2_fact_2 1 rfl rfl)
theorem dX2_fact_50 : decode cX2_fact 50 = .ok (.aload_n 0, 1) := dk_42 (dk_at dksX2_fact_2 2 rfl rfl)
theorem dX2_fact_51 : decode cX2_fact 51 = .ok (.ldc_w 291, 3) := dk_19 1 35 (dk_at dksX2_fact_2 3 rfl rfl)
theorem dX2_fact_54 : decode cX2_fact 54 = .ok (.invokevirtual 282, 3) := dk_182 1 26 (dk_at dksX2_fact_2 6 rfl rfl)
theorem dX2_fact_57 : decode cX2_fact 57 = .ok (.ifCond .eq 35, 3) := dk_153 0 35 (dk_at dksX2_fact_2 9 rfl rfl)
theorem dX2_fact_60 : decode cX2_fact 60 = .ok (.aload_n 0, 1) := dk_42 (dk_at dksX2_fact_2 12 rfl rfl)
theorem dX2_fact_61 : decode cX2_fact 61 = .ok (.aload_n 0, 1) := dk_42 (dk_at dksX2_fact_2 13 rfl rfl)
theorem dX2_fact_62 : decode cX2_fact 62 = .ok (.getfield 61, 3) := dk_180 0 61 (dk_at dksX2_fact_2 14 rfl rfl)
theorem dX2_fact_65 : decode cX2_fact 65 = .ok (.invokevirtual 231, 3) := dk_182 0 231 (dk_at dksX2_fact_2 17 rfl rfl)
theorem dX2_fact_68 : decode cX2_fact 68 = .ok (.new 293, 3) := dk_187 1 37 (dk_at dksX2_fact_2 20 rfl rfl)
theorem dX2_fact_71 : decode cX2_fact 71 = .ok (.dup, 1) := dk_89 (dk_at dksX2_fact_2 23 rfl rfl)
theorem dX2_fact_72 : decode cX2_fact 72 = .ok (.aload_n 0, 1) := dk_42 (dk_at dksX2_fact_3 0 rfl rfl)
theorem dX2_fact_73 : decode cX2_fact 73 = .ok (.invokevirtual 286, 3) := dk_182 1 30 (dk_at dksX2_fact_3 1 rfl rfl)
theorem dX2_fact_76 : decode cX2_fact 76 = .ok (.invokespecial 295, 3) := dk_183 1 39 (dk_at dksX2_fact_3 4 rfl rfl)
theorem dX2_fact_79 : decode cX2_fact 79 = .ok (.astore_n 1, 1) := dk_76 (dk_at dksX2_fact_3 7 rfl rfl)
theorem dX2_fact_80 : decode cX2_fact 80 = .ok (.aload_n 0, 1) := dk_42 (dk_at dksX2_fact_3 8 rfl rfl)
theorem dX2_fact_81 : decode cX2_fact 81 = .ok (.dup, 1) := dk_89 (dk_at dksX2_fact_3 9 rfl rfl)
theorem dX2_fact_82 : decode cX2_fact 82 = .ok (.getfield 113, 3) := dk_180 0 113 (dk_at dksX2_fact_3 10 rfl rfl)
theorem dX2_fact_85 : decode cX2_fact 85 = .ok (.iconst 1, 1) := dk_4 (dk_at dksX2_fact_3 13 rfl rfl)
theorem dX2_fact_86 : decode cX2_fact 86 = .ok (.isub, 1) := dk_100 (dk_at dksX2_fact_3 14 rfl rfl)
theorem dX2_fact_87 : decode cX2_fact 87 = .ok (.putfield 113, 3) := dk_181 0 113 (dk_at dksX2_fact_3 15 rfl rfl)
theorem dX2_fact_90 : decode cX2_fact 90 = .ok (.aload_n 1, 1) := dk_43 (dk_at dksX2_fact_3 18 rfl rfl)
theorem dX2_fact_91 : decode cX2_fact 91 = .ok (.areturn, 1) := dk_176 (dk_at dksX2_fact_3 19 rfl rfl)
theorem dX2_fact_92 : decode cX2_fact 92 = .ok (.aload_n 0, 1) := dk_42 (dk_at dksX2_fact_3 20 rfl rfl)
theorem dX2_fact_93 : decode cX2_fact 93 = .ok (.ldc_w 298, 3) := dk_19 1 42 (dk_at dksX2_fact_3 21 rfl rfl)
theorem dX2_fact_96 : decode cX2_fact 96 = .ok (.invokevirtual 282, 3) := dk_182 1 26 (dk_at dksX2_fact_4 0 rfl rfl)
theorem dX2_fact_99 : decode cX2_fact 99 = .ok (.ifCond .eq 11, 3) := dk_153 0 11 (dk_at dksX2_fact_4 3 rfl rfl)
theorem dX2_fact_102 : decode cX2_fact 102 = .ok (.new 300, 3) := dk_187 1 44 (dk_at dksX2_fact_4 6 rfl rfl)
theorem dX2_fact_105 : decode cX2_fact 105 = .ok (.dup, 1) := dk_89 (dk_at dksX2_fact_4 9 rfl rfl)
theorem dX2_fact_106 : decode cX2_fact 106 = .ok (.invokespecial 302, 3) := dk_183 1 46 (dk_at dksX2_fact_4 10 rfl rfl)
theorem dX2_fact_109 : decode cX2_fact 109 = .ok (.areturn, 1) := dk_176 (dk_at dksX2_fact_4 13 rfl rfl)
theorem dX2_fact_110 : decode cX2_fact 110 = .ok (.aload_n 0, 1) := dk_42 (dk_at dksX2_fact_4 14 rfl rfl)
theorem dX2_fact_111 : decode cX2_fact 111 = .ok (.invokevirtual 165, 3) := dk_182 0 165 (dk_at dksX2_fact_4 15 rfl rfl)
theorem dX2_fact_114 : decode cX2_fact 114 = .ok (.astore_n 1, 1) := dk_76 (dk_at dksX2_fact_4 18 rfl rfl)
theorem dX2_fact_115 : decode cX2_fact 115 = .ok (.aload_n 0, 1) := dk_42 (dk_at dksX2_fact_4 19 rfl rfl)
theorem dX2_fact_116 : decode cX2_fact 116 = .ok (.invokevirtual 43, 3) := dk_182 0 43 (dk_at dksX2_fact_4 20 rfl rfl)
theorem dX2_fact_119 : decode cX2_fact 119 = .ok (.istore_n 2, 1) := dk_61 (dk_at dksX2_fact_4 23 rfl rfl)
theorem dX2_fact_120 : decode cX2_fact 120 = .ok (.iload_n 2, 1) := dk_28 (dk_at dksX2_fact_5 0 rfl rfl)
theorem dX2_fact_121 : decode cX2_fact 121 = .ok (.bipush 60, 2) := dk_16 60 (dk_at dksX2_fact_5 1 rfl rfl)
theorem dX2_fact_123 : decode cX2_fact 123 = .ok (.if_icmp .eq 25, 3) := dk_159 0 25 (dk_at dksX2_fact_5 3 rfl rfl)
theorem dX2_fact_126 : decode cX2_fact 126 = .ok (.iload_n 2, 1) := dk_28 (dk_at dksX2_fact_5 6 rfl rfl)
theorem dX2_fact_127 : decode cX2_fact 127 = .ok (.bipush 62, 2) := dk_16 62 (dk_at dksX2_fact_5 7 rfl rfl)
theorem dX2_fact_129 : decode cX2_fact 129 = .ok (.if_icmp .eq 19, 3) := dk_159 0 19 (dk_at dksX2_fact_5 9 rfl rfl)
theorem dX2_fact_132 : decode cX2_fact 132 = .ok (.iload_n 2, 1) := dk_28 (dk_at dksX2_fact_5 12 rfl rfl)
theorem dX2_fact_133 : decode cX2_fact 133 = .ok (.bipush 61, 2) := dk_16 61 (dk_at dksX2_fact_5 13 rfl rfl)
theorem dX2_fact_135 : decode cX2_fact 135 = .ok (.if_icmp .eq 13, 3) := dk_159 0 13 (dk_at dksX2_fact_5 15 rfl rfl)
theorem dX2_fact_138 : decode cX2_fact 138 = .ok (.aload_n 0, 1) := dk_42 (dk_at dksX2_fact_5 18 rfl rfl)
theorem dX2_fact_139 : decode cX2_fact 139 = .ok (.iconst 1, 1) := dk_4 (dk_at dksX2_fact_5 19 rfl rfl)
theorem dX2_fact_140 : decode cX2_fact 140 = .ok (.aload_n 0, 1) := dk_42 (dk_at dksX2_fact_5 20 rfl rfl)
theorem dX2_fact_141 : decode cX2_fact 141 = .ok (.getfield 36, 3) := dk_180 0 36 (dk_at dksX2_fact_5 21 rfl rfl)
theorem dX2_fact_144 : decode cX2_fact 144 = .ok (.invokevirtual 47, 3) := dk_182 0 47 (dk_at dksX2_fact_6 0 rfl rfl)
theorem dX2_fact_147 : decode cX2_fact 147 = .ok (.athrow, 1) := dk_191 (dk_at dksX2_fact_6 3 rfl rfl)
theorem dX2_fact_148 : decode cX2_fact 148 = .ok (.aload_n 0, 1) := dk_42 (dk_at dksX2_fact_6 4 rfl rfl)
theorem dX2_fact_149 : decode cX2_fact 149 = .ok (.dup, 1) := dk_89 (dk_at dksX2_fact_6 5 rfl rfl)
theorem dX2_fact_150 : decode cX2_fact 150 = .ok (.getfield 36, 3) := dk_180 0 36 (dk_at dksX2_fact_6 6 rfl rfl)
theorem dX2_fact_153 : decode cX2_fact 153 = .ok (.iconst 1, 1) := dk_4 (dk_at dksX2_fact_6 9 rfl rfl)
theorem dX2_fact_154 : decode cX2_fact 154 = .ok (.iadd, 1) := dk_96 (dk_at dksX2_fact_6 10 rfl rfl)
theorem dX2_fact_155 : decode cX2_fact 155 = .ok (.putfield 36, 3) := dk_181 0 36 (dk_at dksX2_fact_6 11 rfl rfl)
theorem dX2_fact_158 : decode cX2_fact 158 = .ok (.new 303, 3) := dk_187 1 47 (dk_at dksX2_fact_6 14 rfl rfl)
theorem dX2_fact_161 : decode cX2_fact 161 = .ok (.dup, 1) := dk_89 (dk_at dksX2_fact_6 17 rfl rfl)
theorem dX2_fact_162 : decode cX2_fact 162 = .ok (.aload_n 1, 1) := dk_43 (dk_at dksX2_fact_6 18 rfl rfl)
theorem dX2_fact_163 : decode cX2_fact 163 = .ok (.iload_n 2, 1) := dk_28 (dk_at dksX2_fact_6 19 rfl rfl)
theorem dX2_fact_164 : decode cX2_fact 164 = .ok (.aload_n 0, 1) := dk_42 (dk_at dksX2_fact_6 20 rfl rfl)
theorem dX2_fact_165 : decode cX2_fact 165 = .ok (.invokevirtual 165, 3) := dk_182 0 165 (dk_at dksX2_fact_6 21 rfl rfl)
theorem dX2_fact_168 : decode cX2_fact 168 = .ok (.invokespecial 305, 3) := dk_183 1 49 (dk_at dksX2_fact_7 0 rfl rfl)
theorem dX2_fact_171 : decode cX2_fact 171 = .ok (.areturn, 1) := dk_176 (dk_at dksX2_fact_7 3 rfl rfl)
abbrev cX2_passes : ByteArray := prog_13_method_9_code
def yX2_passes : MethodName := ⟨RX2, "passes", "(Ljava/lang/String;)Z"⟩
def dkwX2_passes_1 : List UInt8 := [182, 0, 74, 153, 0, 5, 4, 172, 42, 28, 181, 0, 36, 3, 172]
abbrev dktX2_passes_1 : List UInt8 := dkwX2_passes_1 ++ []
def dkwX2_passes_0 : List UInt8 := [42, 180, 0, 36, 61, 42, 182, 0, 43, 184, 0, 51, 154, 0, 5, 3, 172, 42, 182, 0, 70, 43]
abbrev dktX2_passes_0 : List UInt8 := dkwX2_passes_0 ++ dktX2_passes_1
theorem dksX2_passes_0 : cX2_passes.data.toList.drop 0 = dktX2_passes_0 := by decide +kernel
theorem dksX2_passes_1 : cX2_passes.data.toList.drop 22 = dktX2_passes_1 := dk_seg dksX2_passes_0 22 rfl rfl
theorem dX2_passes_0 : decode cX2_passes 0 = .ok (.aload_n 0, 1) := dk_42 (dk_at dksX2_passes_0 0 rfl rfl)
theorem dX2_passes_1 : decode cX2_passes 1 = .ok (.getfield 36, 3) := dk_180 0 36 (dk_at dksX2_passes_0 1 rfl rfl)
theorem dX2_passes_4 : decode cX2_passes 4 = .ok (.istore_n 2, 1) := dk_61 (dk_at dksX2_passes_0 4 rfl rfl)
theorem dX2_passes_5 : decode cX2_passes 5 = .ok (.aload_n 0, 1) := dk_42 (dk_at dksX2_passes_0 5 rfl rfl)
theorem dX2_passes_6 : decode cX2_passes 6 = .ok (.invokevirtual 43, 3) := dk_182 0 43 (dk_at dksX2_passes_0 6 rfl rfl)
theorem dX2_passes_9 : decode cX2_passes 9 = .ok (.invokestatic 51, 3) := dk_184 0 51 (dk_at dksX2_passes_0 9 rfl rfl)
theorem dX2_passes_12 : decode cX2_passes 12 = .ok (.ifCond .ne 5, 3) := dk_154 0 5 (dk_at dksX2_passes_0 12 rfl rfl)
theorem dX2_passes_15 : decode cX2_passes 15 = .ok (.iconst 0, 1) := dk_3 (dk_at dksX2_passes_0 15 rfl rfl)
theorem dX2_passes_16 : decode cX2_passes 16 = .ok (.ireturn, 1) := dk_172 (dk_at dksX2_passes_0 16 rfl rfl)
theorem dX2_passes_17 : decode cX2_passes 17 = .ok (.aload_n 0, 1) := dk_42 (dk_at dksX2_passes_0 17 rfl rfl)
theorem dX2_passes_18 : decode cX2_passes 18 = .ok (.invokevirtual 70, 3) := dk_182 0 70 (dk_at dksX2_passes_0 18 rfl rfl)
theorem dX2_passes_21 : decode cX2_passes 21 = .ok (.aload_n 1, 1) := dk_43 (dk_at dksX2_passes_0 21 rfl rfl)
theorem dX2_passes_22 : decode cX2_passes 22 = .ok (.invokevirtual 74, 3) := dk_182 0 74 (dk_at dksX2_passes_1 0 rfl rfl)
theorem dX2_passes_25 : decode cX2_passes 25 = .ok (.ifCond .eq 5, 3) := dk_153 0 5 (dk_at dksX2_passes_1 3 rfl rfl)
theorem dX2_passes_28 : decode cX2_passes 28 = .ok (.iconst 1, 1) := dk_4 (dk_at dksX2_passes_1 6 rfl rfl)
theorem dX2_passes_29 : decode cX2_passes 29 = .ok (.ireturn, 1) := dk_172 (dk_at dksX2_passes_1 7 rfl rfl)
theorem dX2_passes_30 : decode cX2_passes 30 = .ok (.aload_n 0, 1) := dk_42 (dk_at dksX2_passes_1 8 rfl rfl)
theorem dX2_passes_31 : decode cX2_passes 31 = .ok (.iload_n 2, 1) := dk_28 (dk_at dksX2_passes_1 9 rfl rfl)
theorem dX2_passes_32 : decode cX2_passes 32 = .ok (.putfield 36, 3) := dk_181 0 36 (dk_at dksX2_passes_1 10 rfl rfl)
theorem dX2_passes_35 : decode cX2_passes 35 = .ok (.iconst 0, 1) := dk_3 (dk_at dksX2_passes_1 13 rfl rfl)
theorem dX2_passes_36 : decode cX2_passes 36 = .ok (.ireturn, 1) := dk_172 (dk_at dksX2_passes_1 14 rfl rfl)
abbrev cX2_question : ByteArray := prog_13_method_29_code
def yX2_question : MethodName := ⟨RX2, "question", "(I)LRetouched$Question;"⟩
def dkwX2_question_4 : List UInt8 := [42, 180, 0, 36, 182, 0, 47, 191, 45, 176]
abbrev dktX2_question_4 : List UInt8 := dkwX2_question_4 ++ []
def dkwX2_question_3 : List UInt8 := [187, 1, 60, 89, 28, 1, 42, 182, 0, 165, 183, 1, 62, 78, 42, 182, 0, 43, 2, 159, 0, 13, 42, 4]
abbrev dktX2_question_3 : List UInt8 := dkwX2_question_3 ++ dktX2_question_4
def dkwX2_question_2 : List UInt8 := [191, 28, 6, 162, 0, 19, 187, 1, 60, 89, 28, 42, 182, 0, 210, 1, 183, 1, 62, 167, 0, 16]
abbrev dktX2_question_2 : List UInt8 := dkwX2_question_2 ++ dktX2_question_3
def dkwX2_question_1 : List UInt8 := [182, 0, 70, 178, 1, 57, 184, 0, 82, 61, 28, 2, 160, 0, 13, 42, 4, 42, 180, 0, 61, 182, 0, 47]
abbrev dktX2_question_1 : List UInt8 := dkwX2_question_1 ++ dktX2_question_2
def dkwX2_question_0 : List UInt8 := [42, 27, 181, 0, 29, 42, 3, 181, 0, 36, 42, 3, 181, 0, 113, 42, 17, 7, 27, 181, 0, 162, 42]
abbrev dktX2_question_0 : List UInt8 := dkwX2_question_0 ++ dktX2_question_1
theorem dksX2_question_0 : cX2_question.data.toList.drop 0 = dktX2_question_0 := by decide +kernel
theorem dksX2_question_1 : cX2_question.data.toList.drop 23 = dktX2_question_1 := dk_seg dksX2_question_0 23 rfl rfl
theorem dksX2_question_2 : cX2_question.data.toList.drop 47 = dktX2_question_2 := dk_seg dksX2_question_1 24 rfl rfl
theorem dksX2_question_3 : cX2_question.data.toList.drop 69 = dktX2_question_3 := dk_seg dksX2_question_2 22 rfl rfl
theorem dksX2_question_4 : cX2_question.data.toList.drop 93 = dktX2_question_4 := dk_seg dksX2_question_3 24 rfl rfl
theorem dX2_question_0 : decode cX2_question 0 = .ok (.aload_n 0, 1) := dk_42 (dk_at dksX2_question_0 0 rfl rfl)
theorem dX2_question_1 : decode cX2_question 1 = .ok (.iload_n 1, 1) := dk_27 (dk_at dksX2_question_0 1 rfl rfl)
theorem dX2_question_2 : decode cX2_question 2 = .ok (.putfield 29, 3) := dk_181 0 29 (dk_at dksX2_question_0 2 rfl rfl)
theorem dX2_question_5 : decode cX2_question 5 = .ok (.aload_n 0, 1) := dk_42 (dk_at dksX2_question_0 5 rfl rfl)
theorem dX2_question_6 : decode cX2_question 6 = .ok (.iconst 0, 1) := dk_3 (dk_at dksX2_question_0 6 rfl rfl)
theorem dX2_question_7 : decode cX2_question 7 = .ok (.putfield 36, 3) := dk_181 0 36 (dk_at dksX2_question_0 7 rfl rfl)
theorem dX2_question_10 : decode cX2_question 10 = .ok (.aload_n 0, 1) := dk_42 (dk_at dksX2_question_0 10 rfl rfl)
theorem dX2_question_11 : decode cX2_question 11 = .ok (.iconst 0, 1) := dk_3 (dk_at dksX2_question_0 11 rfl rfl)
theorem dX2_question_12 : decode cX2_question 12 = .ok (.putfield 113, 3) := dk_181 0 113 (dk_at dksX2_question_0 12 rfl rfl)
theorem dX2_question_15 : decode cX2_question 15 = .ok (.aload_n 0, 1) := dk_42 (dk_at dksX2_question_0 15 rfl rfl)
theorem dX2_question_16 : decode cX2_question 16 = .ok (.sipush 1819, 3) := dk_17 7 27 (dk_at dksX2_question_0 16 rfl rfl)
theorem dX2_question_19 : decode cX2_question 19 = .ok (.putfield 162, 3) := dk_181 0 162 (dk_at dksX2_question_0 19 rfl rfl)
theorem dX2_question_22 : decode cX2_question 22 = .ok (.aload_n 0, 1) := dk_42 (dk_at dksX2_question_0 22 rfl rfl)
theorem dX2_question_23 : decode cX2_question 23 = .ok (.invokevirtual 70, 3) := dk_182 0 70 (dk_at dksX2_question_1 0 rfl rfl)
theorem dX2_question_26 : decode cX2_question 26 = .ok (.getstatic 313, 3) := dk_178 1 57 (dk_at dksX2_question_1 3 rfl rfl)
theorem dX2_question_29 : decode cX2_question 29 = .ok (.invokestatic 82, 3) := dk_184 0 82 (dk_at dksX2_question_1 6 rfl rfl)
theorem dX2_question_32 : decode cX2_question 32 = .ok (.istore_n 2, 1) := dk_61 (dk_at dksX2_question_1 9 rfl rfl)
theorem dX2_question_33 : decode cX2_question 33 = .ok (.iload_n 2, 1) := dk_28 (dk_at dksX2_question_1 10 rfl rfl)
theorem dX2_question_34 : decode cX2_question 34 = .ok (.iconst (-1), 1) := dk_2 (dk_at dksX2_question_1 11 rfl rfl)
theorem dX2_question_35 : decode cX2_question 35 = .ok (.if_icmp .ne 13, 3) := dk_160 0 13 (dk_at dksX2_question_1 12 rfl rfl)
theorem dX2_question_38 : decode cX2_question 38 = .ok (.aload_n 0, 1) := dk_42 (dk_at dksX2_question_1 15 rfl rfl)
theorem dX2_question_39 : decode cX2_question 39 = .ok (.iconst 1, 1) := dk_4 (dk_at dksX2_question_1 16 rfl rfl)
theorem dX2_question_40 : decode cX2_question 40 = .ok (.aload_n 0, 1) := dk_42 (dk_at dksX2_question_1 17 rfl rfl)
theorem dX2_question_41 : decode cX2_question 41 = .ok (.getfield 61, 3) := dk_180 0 61 (dk_at dksX2_question_1 18 rfl rfl)
theorem dX2_question_44 : decode cX2_question 44 = .ok (.invokevirtual 47, 3) := dk_182 0 47 (dk_at dksX2_question_1 21 rfl rfl)
theorem dX2_question_47 : decode cX2_question 47 = .ok (.athrow, 1) := dk_191 (dk_at dksX2_question_2 0 rfl rfl)
theorem dX2_question_48 : decode cX2_question 48 = .ok (.iload_n 2, 1) := dk_28 (dk_at dksX2_question_2 1 rfl rfl)
theorem dX2_question_49 : decode cX2_question 49 = .ok (.iconst 3, 1) := dk_6 (dk_at dksX2_question_2 2 rfl rfl)
theorem dX2_question_50 : decode cX2_question 50 = .ok (.if_icmp .ge 19, 3) := dk_162 0 19 (dk_at dksX2_question_2 3 rfl rfl)
theorem dX2_question_53 : decode cX2_question 53 = .ok (.new 316, 3) := dk_187 1 60 (dk_at dksX2_question_2 6 rfl rfl)
theorem dX2_question_56 : decode cX2_question 56 = .ok (.dup, 1) := dk_89 (dk_at dksX2_question_2 9 rfl rfl)
theorem dX2_question_57 : decode cX2_question 57 = .ok (.iload_n 2, 1) := dk_28 (dk_at dksX2_question_2 10 rfl rfl)
theorem dX2_question_58 : decode cX2_question 58 = .ok (.aload_n 0, 1) := dk_42 (dk_at dksX2_question_2 11 rfl rfl)
theorem dX2_question_59 : decode cX2_question 59 = .ok (.invokevirtual 210, 3) := dk_182 0 210 (dk_at dksX2_question_2 12 rfl rfl)
theorem dX2_question_62 : decode cX2_question 62 = .ok (.aconst_null, 1) := dk_1 (dk_at dksX2_question_2 15 rfl rfl)
theorem dX2_question_63 : decode cX2_question 63 = .ok (.invokespecial 318, 3) := dk_183 1 62 (dk_at dksX2_question_2 16 rfl rfl)
theorem dX2_question_66 : decode cX2_question 66 = .ok (.goto 16, 3) := dk_167 0 16 (dk_at dksX2_question_2 19 rfl rfl)
theorem dX2_question_69 : decode cX2_question 69 = .ok (.new 316, 3) := dk_187 1 60 (dk_at dksX2_question_3 0 rfl rfl)
theorem dX2_question_72 : decode cX2_question 72 = .ok (.dup, 1) := dk_89 (dk_at dksX2_question_3 3 rfl rfl)
theorem dX2_question_73 : decode cX2_question 73 = .ok (.iload_n 2, 1) := dk_28 (dk_at dksX2_question_3 4 rfl rfl)
theorem dX2_question_74 : decode cX2_question 74 = .ok (.aconst_null, 1) := dk_1 (dk_at dksX2_question_3 5 rfl rfl)
theorem dX2_question_75 : decode cX2_question 75 = .ok (.aload_n 0, 1) := dk_42 (dk_at dksX2_question_3 6 rfl rfl)
theorem dX2_question_76 : decode cX2_question 76 = .ok (.invokevirtual 165, 3) := dk_182 0 165 (dk_at dksX2_question_3 7 rfl rfl)
theorem dX2_question_79 : decode cX2_question 79 = .ok (.invokespecial 318, 3) := dk_183 1 62 (dk_at dksX2_question_3 10 rfl rfl)
theorem dX2_question_82 : decode cX2_question 82 = .ok (.astore_n 3, 1) := dk_78 (dk_at dksX2_question_3 13 rfl rfl)
theorem dX2_question_83 : decode cX2_question 83 = .ok (.aload_n 0, 1) := dk_42 (dk_at dksX2_question_3 14 rfl rfl)
theorem dX2_question_84 : decode cX2_question 84 = .ok (.invokevirtual 43, 3) := dk_182 0 43 (dk_at dksX2_question_3 15 rfl rfl)
theorem dX2_question_87 : decode cX2_question 87 = .ok (.iconst (-1), 1) := dk_2 (dk_at dksX2_question_3 18 rfl rfl)
theorem dX2_question_88 : decode cX2_question 88 = .ok (.if_icmp .eq 13, 3) := dk_159 0 13 (dk_at dksX2_question_3 19 rfl rfl)
theorem dX2_question_91 : decode cX2_question 91 = .ok (.aload_n 0, 1) := dk_42 (dk_at dksX2_question_3 22 rfl rfl)
theorem dX2_question_92 : decode cX2_question 92 = .ok (.iconst 1, 1) := dk_4 (dk_at dksX2_question_3 23 rfl rfl)
theorem dX2_question_93 : decode cX2_question 93 = .ok (.aload_n 0, 1) := dk_42 (dk_at dksX2_question_4 0 rfl rfl)
theorem dX2_question_94 : decode cX2_question 94 = .ok (.getfield 36, 3) := dk_180 0 36 (dk_at dksX2_question_4 1 rfl rfl)
theorem dX2_question_97 : decode cX2_question 97 = .ok (.invokevirtual 47, 3) := dk_182 0 47 (dk_at dksX2_question_4 4 rfl rfl)
theorem dX2_question_100 : decode cX2_question 100 = .ok (.athrow, 1) := dk_191 (dk_at dksX2_question_4 7 rfl rfl)
theorem dX2_question_101 : decode cX2_question 101 = .ok (.aload_n 3, 1) := dk_45 (dk_at dksX2_question_4 8 rfl rfl)
theorem dX2_question_102 : decode cX2_question 102 = .ok (.areturn, 1) := dk_176 (dk_at dksX2_question_4 9 rfl rfl)
theorem q150 : (Jvm.Cond.initialized "Retouched$Reader") ∈ lw_all := lw_g (lw_at lw_m1 6 rfl) rfl
theorem q226 : (Jvm.Cond.fieldLinkNest "Retouched$Reader" (125 : Nat) "Retouched$Terrace" "statements" "I" "Retouched") ∈ lw_tbl := lw_at lw_m1 82 rfl
theorem q229 : (Jvm.Cond.fieldLinkNest "Retouched$Reader" (118 : Nat) "Retouched$Terrace" "houses" "I" "Retouched") ∈ lw_tbl := lw_at lw_m1 85 rfl
theorem q230 : (Jvm.Cond.fieldLinkNest "Retouched$Reader" (214 : Nat) "Retouched$Terrace" "slip" "I" "Retouched") ∈ lw_tbl := lw_at lw_m1 86 rfl
theorem q234 : (Jvm.Cond.fieldLinkNest "Retouched$Reader" (136 : Nat) "Retouched$Terrace" "souls" "Ljava/util/List;" "Retouched") ∈ lw_tbl := lw_at lw_m1 90 rfl
theorem q236 : (Jvm.Cond.fieldLinkNest "Retouched$Reader" (198 : Nat) "Retouched$Terrace" "paints" "LRetouched$Value;" "Retouched") ∈ lw_tbl := lw_at lw_m1 92 rfl
theorem q238 : (Jvm.Cond.fieldLinkNest "Retouched$Reader" (205 : Nat) "Retouched$Terrace" "minds" "LRetouched$Value;" "Retouched") ∈ lw_tbl := lw_at lw_m1 94 rfl
theorem q240 : (Jvm.Cond.fieldLinkNest "Retouched$Reader" (207 : Nat) "Retouched$Terrace" "feud" "LRetouched$Test;" "Retouched") ∈ lw_tbl := lw_at lw_m1 96 rfl
theorem q257 : (Jvm.Cond.instantiable "Retouched$Reader" (8 : Nat)) ∈ lw_all := lw_g (lw_at lw_m1 113 rfl) rfl
theorem q259 : (Jvm.Cond.instanceMethod ({ cls := "Retouched$Reader", name := "<init>", desc := "(LRetouched;)V" } : Jvm.MethodName)) ∈ lw_all := lw_g (lw_at lw_m1 115 rfl) rfl
theorem q260 : (Jvm.Cond.code ({ cls := "Retouched$Reader", name := "<init>", desc := "(LRetouched;)V" } : Jvm.MethodName) prog_13_method_1_code (2 : Nat) (Option.none : Option Jvm.ClassFile.FieldType)) ∈ lw_all := lw_g (lw_at lw_m1 116 rfl) rfl
theorem q261 : (Jvm.Cond.methodLink "Retouched$Reader" (9 : Nat) ({ cls := "java/lang/Object", name := "<init>", desc := "()V" } : Jvm.MethodName)) ∈ lw_all := lw_g (lw_at lw_m1 117 rfl) rfl
theorem q262 : (Jvm.Cond.classLink "Retouched$Reader" (15 : Nat) "Retouched$Fault") ∈ lw_all := lw_g (lw_at lw_m1 118 rfl) rfl
theorem q301 : (Jvm.Cond.methodLink "Retouched$Reader" (17 : Nat) ({ cls := "Retouched$Fault", name := "<init>", desc := "()V" } : Jvm.MethodName)) ∈ lw_all := lw_g (lw_at lw_m1 157 rfl) rfl
theorem q313 : (Jvm.Cond.fieldLinkNest "Retouched$Reader" (22 : Nat) "Retouched$Fault" "kind" "I" "Retouched") ∈ lw_tbl := lw_at lw_m1 169 rfl
theorem q315 : (Jvm.Cond.fieldLinkNest "Retouched$Reader" (26 : Nat) "Retouched$Fault" "place" "I" "Retouched") ∈ lw_tbl := lw_at lw_m1 171 rfl
theorem q335 : (Jvm.Cond.fieldLink "Retouched$Reader" (18 : Nat) "Retouched$Reader" "fault" "LRetouched$Fault;") ∈ lw_all := lw_g (lw_at lw_m1 191 rfl) rfl
theorem q336 : (Jvm.Cond.fieldLink "Retouched$Reader" (29 : Nat) "Retouched$Reader" "size" "I") ∈ lw_all := lw_g (lw_at lw_m1 192 rfl) rfl
theorem q337 : (Jvm.Cond.fieldLink "Retouched$Reader" (36 : Nat) "Retouched$Reader" "at" "I") ∈ lw_all := lw_g (lw_at lw_m1 193 rfl) rfl
theorem q338 : (Jvm.Cond.fieldLink "Retouched$Reader" (61 : Nat) "Retouched$Reader" "from" "I") ∈ lw_all := lw_g (lw_at lw_m1 194 rfl) rfl
theorem q339 : (Jvm.Cond.fieldLink "Retouched$Reader" (113 : Nat) "Retouched$Reader" "open" "I") ∈ lw_all := lw_g (lw_at lw_m1 195 rfl) rfl
theorem q340 : (Jvm.Cond.fieldLink "Retouched$Reader" (162 : Nat) "Retouched$Reader" "context" "I") ∈ lw_all := lw_g (lw_at lw_m1 196 rfl) rfl
theorem q341 : (Jvm.Cond.fieldLink "Retouched$Reader" (100 : Nat) "Retouched$Reader" "to" "LRetouched$Terrace;") ∈ lw_all := lw_g (lw_at lw_m1 197 rfl) rfl
theorem q342 : (Jvm.Cond.fieldLink "Retouched$Reader" (3 : Nat) "Retouched$Reader" "this$0" "LRetouched;") ∈ lw_all := lw_g (lw_at lw_m1 198 rfl) rfl
theorem q343 : (Jvm.Cond.laysFinal "Retouched$Reader" "Retouched$Reader" "fault" "LRetouched$Fault;") ∈ lw_all := lw_g (lw_at lw_m1 199 rfl) rfl
theorem q344 : (Jvm.Cond.soleField "Retouched$Reader" "fault") ∈ lw_all := lw_g (lw_at lw_m1 200 rfl) rfl
theorem q345 : (Jvm.Cond.lays "Retouched$Reader" "Retouched$Reader" "size" "I") ∈ lw_all := lw_g (lw_at lw_m1 201 rfl) rfl
theorem q346 : (Jvm.Cond.soleField "Retouched$Reader" "size") ∈ lw_all := lw_g (lw_at lw_m1 202 rfl) rfl
theorem q347 : (Jvm.Cond.lays "Retouched$Reader" "Retouched$Reader" "at" "I") ∈ lw_all := lw_g (lw_at lw_m1 203 rfl) rfl
theorem q348 : (Jvm.Cond.soleField "Retouched$Reader" "at") ∈ lw_all := lw_g (lw_at lw_m1 204 rfl) rfl
theorem q349 : (Jvm.Cond.lays "Retouched$Reader" "Retouched$Reader" "from" "I") ∈ lw_all := lw_g (lw_at lw_m1 205 rfl) rfl
theorem q350 : (Jvm.Cond.soleField "Retouched$Reader" "from") ∈ lw_all := lw_g (lw_at lw_m1 206 rfl) rfl
theorem q351 : (Jvm.Cond.lays "Retouched$Reader" "Retouched$Reader" "open" "I") ∈ lw_all := lw_g (lw_at lw_m1 207 rfl) rfl
theorem q352 : (Jvm.Cond.soleField "Retouched$Reader" "open") ∈ lw_all := lw_g (lw_at lw_m1 208 rfl) rfl
theorem q353 : (Jvm.Cond.lays "Retouched$Reader" "Retouched$Reader" "context" "I") ∈ lw_all := lw_g (lw_at lw_m1 209 rfl) rfl
theorem q354 : (Jvm.Cond.soleField "Retouched$Reader" "context") ∈ lw_all := lw_g (lw_at lw_m1 210 rfl) rfl
theorem q355 : (Jvm.Cond.lays "Retouched$Reader" "Retouched$Reader" "to" "LRetouched$Terrace;") ∈ lw_all := lw_g (lw_at lw_m1 211 rfl) rfl
theorem q356 : (Jvm.Cond.soleField "Retouched$Reader" "to") ∈ lw_all := lw_g (lw_at lw_m1 212 rfl) rfl
theorem q357 : (Jvm.Cond.laysFinal "Retouched$Reader" "Retouched$Reader" "this$0" "LRetouched;") ∈ lw_all := lw_g (lw_at lw_m1 213 rfl) rfl
theorem q358 : (Jvm.Cond.soleField "Retouched$Reader" "this$0") ∈ lw_all := lw_g (lw_at lw_m1 214 rfl) rfl
theorem q359 : (Jvm.Cond.superclass "Retouched$Reader" "java/lang/Object") ∈ lw_all := lw_g (lw_at lw_m1 215 rfl) rfl
theorem q431 : (Jvm.Cond.fieldLinkNest "Retouched$Reader" (32 : Nat) "Retouched" "tape" "[B" "Retouched") ∈ lw_tbl := lw_at lw_m2 47 rfl
theorem q528 : (Jvm.Cond.instanceMethod ({ cls := "Retouched$Reader", name := "all", desc := "(I)LRetouched$Terrace;" } : Jvm.MethodName)) ∈ lw_all := lw_g (lw_at lw_m2 144 rfl) rfl
theorem q529 : (Jvm.Cond.selects "Retouched$Reader" ({ cls := "Retouched$Reader", name := "all", desc := "(I)LRetouched$Terrace;" } : Jvm.MethodName) ({ cls := "Retouched$Reader", name := "all", desc := "(I)LRetouched$Terrace;" } : Jvm.MethodName)) ∈ lw_all := lw_g (lw_at lw_m2 145 rfl) rfl
theorem q530 : (Jvm.Cond.code ({ cls := "Retouched$Reader", name := "all", desc := "(I)LRetouched$Terrace;" } : Jvm.MethodName) prog_13_method_15_code (3 : Nat) (Option.some (Jvm.ClassFile.FieldType.object "Retouched$Terrace"))) ∈ lw_all := lw_g (lw_at lw_m2 146 rfl) rfl
theorem q531 : (Jvm.Cond.classLink "Retouched$Reader" (108 : Nat) "Retouched$Terrace") ∈ lw_all := lw_g (lw_at lw_m2 147 rfl) rfl
theorem q532 : (Jvm.Cond.methodLinkNest "Retouched$Reader" (112 : Nat) ({ cls := "Retouched$Terrace", name := "<init>", desc := "()V" } : Jvm.MethodName) "Retouched") ∈ lw_tbl := lw_at lw_m2 148 rfl
theorem q533 : (Jvm.Cond.stringRef "Retouched$Reader" (116 : Nat) "terrace") ∈ lw_tbl := lw_at lw_m2 149 rfl
theorem q534 : (Jvm.Cond.methodLink "Retouched$Reader" (93 : Nat) ({ cls := "Retouched$Reader", name := "word", desc := "(Ljava/lang/String;)V" } : Jvm.MethodName)) ∈ lw_all := lw_g (lw_at lw_m2 150 rfl) rfl
theorem q535 : (Jvm.Cond.privateMethod ({ cls := "Retouched$Reader", name := "word", desc := "(Ljava/lang/String;)V" } : Jvm.MethodName)) ∈ lw_tbl := lw_at lw_m2 151 rfl
theorem q536 : (Jvm.Cond.instanceMethod ({ cls := "Retouched$Reader", name := "word", desc := "(Ljava/lang/String;)V" } : Jvm.MethodName)) ∈ lw_all := lw_g (lw_at lw_m2 152 rfl) rfl
theorem q537 : (Jvm.Cond.code ({ cls := "Retouched$Reader", name := "word", desc := "(Ljava/lang/String;)V" } : Jvm.MethodName) prog_13_method_8_code (2 : Nat) (Option.none : Option Jvm.ClassFile.FieldType)) ∈ lw_all := lw_g (lw_at lw_m2 153 rfl) rfl
theorem q538 : (Jvm.Cond.methodLink "Retouched$Reader" (70 : Nat) ({ cls := "Retouched$Reader", name := "word", desc := "()Ljava/lang/String;" } : Jvm.MethodName)) ∈ lw_all := lw_g (lw_at lw_m2 154 rfl) rfl
theorem q539 : (Jvm.Cond.privateMethod ({ cls := "Retouched$Reader", name := "word", desc := "()Ljava/lang/String;" } : Jvm.MethodName)) ∈ lw_tbl := lw_at lw_m2 155 rfl
theorem q540 : (Jvm.Cond.instanceMethod ({ cls := "Retouched$Reader", name := "word", desc := "()Ljava/lang/String;" } : Jvm.MethodName)) ∈ lw_all := lw_g (lw_at lw_m2 156 rfl) rfl
theorem q541 : (Jvm.Cond.code ({ cls := "Retouched$Reader", name := "word", desc := "()Ljava/lang/String;" } : Jvm.MethodName) prog_13_method_7_code (3 : Nat) (Option.some (Jvm.ClassFile.FieldType.object "java/lang/String"))) ∈ lw_all := lw_g (lw_at lw_m2 157 rfl) rfl
theorem q542 : (Jvm.Cond.methodLink "Retouched$Reader" (43 : Nat) ({ cls := "Retouched$Reader", name := "here", desc := "()I" } : Jvm.MethodName)) ∈ lw_all := lw_g (lw_at lw_m2 158 rfl) rfl
theorem q543 : (Jvm.Cond.privateMethod ({ cls := "Retouched$Reader", name := "here", desc := "()I" } : Jvm.MethodName)) ∈ lw_tbl := lw_at lw_m2 159 rfl
theorem q544 : (Jvm.Cond.instanceMethod ({ cls := "Retouched$Reader", name := "here", desc := "()I" } : Jvm.MethodName)) ∈ lw_all := lw_g (lw_at lw_m2 160 rfl) rfl
theorem q545 : (Jvm.Cond.code ({ cls := "Retouched$Reader", name := "here", desc := "()I" } : Jvm.MethodName) prog_13_method_4_code (1 : Nat) (Option.some Jvm.ClassFile.FieldType.int)) ∈ lw_all := lw_g (lw_at lw_m2 161 rfl) rfl
theorem q546 : (Jvm.Cond.methodLink "Retouched$Reader" (39 : Nat) ({ cls := "Retouched$Reader", name := "byteAt", desc := "(I)I" } : Jvm.MethodName)) ∈ lw_all := lw_g (lw_at lw_m2 162 rfl) rfl
theorem q547 : (Jvm.Cond.privateMethod ({ cls := "Retouched$Reader", name := "byteAt", desc := "(I)I" } : Jvm.MethodName)) ∈ lw_tbl := lw_at lw_m2 163 rfl
theorem q548 : (Jvm.Cond.instanceMethod ({ cls := "Retouched$Reader", name := "byteAt", desc := "(I)I" } : Jvm.MethodName)) ∈ lw_all := lw_g (lw_at lw_m2 164 rfl) rfl
theorem q549 : (Jvm.Cond.code ({ cls := "Retouched$Reader", name := "byteAt", desc := "(I)I" } : Jvm.MethodName) prog_13_method_3_code (2 : Nat) (Option.some Jvm.ClassFile.FieldType.int)) ∈ lw_all := lw_g (lw_at lw_m2 165 rfl) rfl
theorem q550 : (Jvm.Cond.methodLinkNest "Retouched$Reader" (51 : Nat) ({ cls := "Retouched", name := "isLetter", desc := "(I)Z" } : Jvm.MethodName) "Retouched") ∈ lw_tbl := lw_at lw_m2 166 rfl
theorem q553 : (Jvm.Cond.methodLink "Retouched$Reader" (47 : Nat) ({ cls := "Retouched$Reader", name := "wrong", desc := "(II)LRetouched$Fault;" } : Jvm.MethodName)) ∈ lw_all := lw_g (lw_at lw_m2 169 rfl) rfl
theorem q554 : (Jvm.Cond.privateMethod ({ cls := "Retouched$Reader", name := "wrong", desc := "(II)LRetouched$Fault;" } : Jvm.MethodName)) ∈ lw_tbl := lw_at lw_m2 170 rfl
theorem q555 : (Jvm.Cond.instanceMethod ({ cls := "Retouched$Reader", name := "wrong", desc := "(II)LRetouched$Fault;" } : Jvm.MethodName)) ∈ lw_all := lw_g (lw_at lw_m2 171 rfl) rfl
theorem q556 : (Jvm.Cond.code ({ cls := "Retouched$Reader", name := "wrong", desc := "(II)LRetouched$Fault;" } : Jvm.MethodName) prog_13_method_2_code (3 : Nat) (Option.some (Jvm.ClassFile.FieldType.object "Retouched$Fault"))) ∈ lw_all := lw_g (lw_at lw_m2 172 rfl) rfl
theorem q557 : (Jvm.Cond.methodLink "Retouched$Reader" (58 : Nat) ({ cls := "Retouched$Reader", name := "parted", desc := "()V" } : Jvm.MethodName)) ∈ lw_all := lw_g (lw_at lw_m2 173 rfl) rfl
theorem q558 : (Jvm.Cond.privateMethod ({ cls := "Retouched$Reader", name := "parted", desc := "()V" } : Jvm.MethodName)) ∈ lw_tbl := lw_at lw_m2 174 rfl
theorem q559 : (Jvm.Cond.instanceMethod ({ cls := "Retouched$Reader", name := "parted", desc := "()V" } : Jvm.MethodName)) ∈ lw_all := lw_g (lw_at lw_m2 175 rfl) rfl
theorem q560 : (Jvm.Cond.code ({ cls := "Retouched$Reader", name := "parted", desc := "()V" } : Jvm.MethodName) prog_13_method_6_code (1 : Nat) (Option.none : Option Jvm.ClassFile.FieldType)) ∈ lw_all := lw_g (lw_at lw_m2 176 rfl) rfl
theorem q561 : (Jvm.Cond.methodLinkNest "Retouched$Reader" (55 : Nat) ({ cls := "Retouched", name := "isDigit", desc := "(I)Z" } : Jvm.MethodName) "Retouched") ∈ lw_tbl := lw_at lw_m2 177 rfl
theorem q564 : (Jvm.Cond.methodLink "Retouched$Reader" (64 : Nat) ({ cls := "java/lang/String", name := "valueOf", desc := "([C)Ljava/lang/String;" } : Jvm.MethodName)) ∈ lw_all := lw_g (lw_at lw_m2 180 rfl) rfl
theorem q642 : (Jvm.Cond.methodLink "Retouched$Reader" (74 : Nat) ({ cls := "java/lang/String", name := "equals", desc := "(Ljava/lang/Object;)Z" } : Jvm.MethodName)) ∈ lw_all := lw_g (lw_at lw_m3 18 rfl) rfl
theorem q649 : (Jvm.Cond.methodLink "Retouched$Reader" (96 : Nat) ({ cls := "Retouched$Reader", name := "number", desc := "(II)I" } : Jvm.MethodName)) ∈ lw_all := lw_g (lw_at lw_m3 25 rfl) rfl
theorem q650 : (Jvm.Cond.privateMethod ({ cls := "Retouched$Reader", name := "number", desc := "(II)I" } : Jvm.MethodName)) ∈ lw_tbl := lw_at lw_m3 26 rfl
theorem q651 : (Jvm.Cond.instanceMethod ({ cls := "Retouched$Reader", name := "number", desc := "(II)I" } : Jvm.MethodName)) ∈ lw_all := lw_g (lw_at lw_m3 27 rfl) rfl
theorem q652 : (Jvm.Cond.code ({ cls := "Retouched$Reader", name := "number", desc := "(II)I" } : Jvm.MethodName) prog_13_method_11_code (4 : Nat) (Option.some Jvm.ClassFile.FieldType.int)) ∈ lw_all := lw_g (lw_at lw_m3 28 rfl) rfl
theorem q653 : (Jvm.Cond.methodLinkNest "Retouched$Reader" (89 : Nat) ({ cls := "Retouched", name := "is", desc := "(III)Z" } : Jvm.MethodName) "Retouched") ∈ lw_tbl := lw_at lw_m3 29 rfl
theorem q656 : (Jvm.Cond.methodLink "Retouched$Reader" (121 : Nat) ({ cls := "Retouched$Reader", name := "must", desc := "(I)V" } : Jvm.MethodName)) ∈ lw_all := lw_g (lw_at lw_m3 32 rfl) rfl
theorem q657 : (Jvm.Cond.privateMethod ({ cls := "Retouched$Reader", name := "must", desc := "(I)V" } : Jvm.MethodName)) ∈ lw_tbl := lw_at lw_m3 33 rfl
theorem q658 : (Jvm.Cond.instanceMethod ({ cls := "Retouched$Reader", name := "must", desc := "(I)V" } : Jvm.MethodName)) ∈ lw_all := lw_g (lw_at lw_m3 34 rfl) rfl
theorem q659 : (Jvm.Cond.code ({ cls := "Retouched$Reader", name := "must", desc := "(I)V" } : Jvm.MethodName) prog_13_method_5_code (2 : Nat) (Option.none : Option Jvm.ClassFile.FieldType)) ∈ lw_all := lw_g (lw_at lw_m3 35 rfl) rfl
theorem q660 : (Jvm.Cond.methodLink "Retouched$Reader" (128 : Nat) ({ cls := "Retouched$Reader", name := "most", desc := "(ZI)V" } : Jvm.MethodName)) ∈ lw_all := lw_g (lw_at lw_m3 36 rfl) rfl
theorem q661 : (Jvm.Cond.privateMethod ({ cls := "Retouched$Reader", name := "most", desc := "(ZI)V" } : Jvm.MethodName)) ∈ lw_tbl := lw_at lw_m3 37 rfl
theorem q662 : (Jvm.Cond.instanceMethod ({ cls := "Retouched$Reader", name := "most", desc := "(ZI)V" } : Jvm.MethodName)) ∈ lw_all := lw_g (lw_at lw_m3 38 rfl) rfl
theorem q663 : (Jvm.Cond.code ({ cls := "Retouched$Reader", name := "most", desc := "(ZI)V" } : Jvm.MethodName) prog_13_method_13_code (3 : Nat) (Option.none : Option Jvm.ClassFile.FieldType)) ∈ lw_all := lw_g (lw_at lw_m3 39 rfl) rfl
theorem q664 : (Jvm.Cond.methodLink "Retouched$Reader" (132 : Nat) ({ cls := "Retouched$Reader", name := "told", desc := "(Ljava/lang/String;I)V" } : Jvm.MethodName)) ∈ lw_all := lw_g (lw_at lw_m3 40 rfl) rfl
theorem q665 : (Jvm.Cond.privateMethod ({ cls := "Retouched$Reader", name := "told", desc := "(Ljava/lang/String;I)V" } : Jvm.MethodName)) ∈ lw_tbl := lw_at lw_m3 41 rfl
theorem q666 : (Jvm.Cond.instanceMethod ({ cls := "Retouched$Reader", name := "told", desc := "(Ljava/lang/String;I)V" } : Jvm.MethodName)) ∈ lw_all := lw_g (lw_at lw_m3 42 rfl) rfl
theorem q667 : (Jvm.Cond.code ({ cls := "Retouched$Reader", name := "told", desc := "(Ljava/lang/String;I)V" } : Jvm.MethodName) prog_13_method_18_code (7 : Nat) (Option.none : Option Jvm.ClassFile.FieldType)) ∈ lw_all := lw_g (lw_at lw_m3 43 rfl) rfl
theorem q668 : (Jvm.Cond.methodLink "Retouched$Reader" (169 : Nat) ({ cls := "java/lang/String", name := "hashCode", desc := "()I" } : Jvm.MethodName)) ∈ lw_all := lw_g (lw_at lw_m3 44 rfl) rfl
theorem q721 : (Jvm.Cond.stringRef "Retouched$Reader" (172 : Nat) "soul") ∈ lw_tbl := lw_at lw_m3 97 rfl
theorem q722 : (Jvm.Cond.stringRef "Retouched$Reader" (174 : Nat) "thinks") ∈ lw_tbl := lw_at lw_m3 98 rfl
theorem q723 : (Jvm.Cond.stringRef "Retouched$Reader" (176 : Nat) "paints") ∈ lw_tbl := lw_at lw_m3 99 rfl
theorem q724 : (Jvm.Cond.stringRef "Retouched$Reader" (178 : Nat) "minds") ∈ lw_tbl := lw_at lw_m3 100 rfl
theorem q725 : (Jvm.Cond.stringRef "Retouched$Reader" (180 : Nat) "feud") ∈ lw_tbl := lw_at lw_m3 101 rfl
theorem q726 : (Jvm.Cond.stringRef "Retouched$Reader" (182 : Nat) "slip") ∈ lw_tbl := lw_at lw_m3 102 rfl
theorem q727 : (Jvm.Cond.methodLink "Retouched$Reader" (184 : Nat) ({ cls := "Retouched$Reader", name := "soul", desc := "(I)V" } : Jvm.MethodName)) ∈ lw_all := lw_g (lw_at lw_m3 103 rfl) rfl
theorem q728 : (Jvm.Cond.privateMethod ({ cls := "Retouched$Reader", name := "soul", desc := "(I)V" } : Jvm.MethodName)) ∈ lw_tbl := lw_at lw_m3 104 rfl
theorem q729 : (Jvm.Cond.instanceMethod ({ cls := "Retouched$Reader", name := "soul", desc := "(I)V" } : Jvm.MethodName)) ∈ lw_all := lw_g (lw_at lw_m3 105 rfl) rfl
theorem q730 : (Jvm.Cond.code ({ cls := "Retouched$Reader", name := "soul", desc := "(I)V" } : Jvm.MethodName) prog_13_method_16_code (5 : Nat) (Option.none : Option Jvm.ClassFile.FieldType)) ∈ lw_all := lw_g (lw_at lw_m3 106 rfl) rfl
theorem q731 : (Jvm.Cond.interfaceEntry "Retouched$Reader" (140 : Nat)) ∈ lw_tbl := lw_at lw_m3 107 rfl
theorem q732 : (Jvm.Cond.methodLink "Retouched$Reader" (140 : Nat) ({ cls := "java/util/List", name := "size", desc := "()I" } : Jvm.MethodName)) ∈ lw_all := lw_g (lw_at lw_m3 108 rfl) rfl
theorem q741 : (Jvm.Cond.methodLink "Retouched$Reader" (104 : Nat) ({ cls := "Retouched$Reader", name := "name", desc := "()Ljava/lang/String;" } : Jvm.MethodName)) ∈ lw_all := lw_g (lw_at lw_m3 117 rfl) rfl
theorem q742 : (Jvm.Cond.privateMethod ({ cls := "Retouched$Reader", name := "name", desc := "()Ljava/lang/String;" } : Jvm.MethodName)) ∈ lw_tbl := lw_at lw_m3 118 rfl
theorem q743 : (Jvm.Cond.instanceMethod ({ cls := "Retouched$Reader", name := "name", desc := "()Ljava/lang/String;" } : Jvm.MethodName)) ∈ lw_all := lw_g (lw_at lw_m3 119 rfl) rfl
theorem q744 : (Jvm.Cond.code ({ cls := "Retouched$Reader", name := "name", desc := "()Ljava/lang/String;" } : Jvm.MethodName) prog_13_method_10_code (2 : Nat) (Option.some (Jvm.ClassFile.FieldType.object "java/lang/String"))) ∈ lw_all := lw_g (lw_at lw_m3 120 rfl) rfl
theorem q745 : (Jvm.Cond.fieldLinkNest "Retouched$Reader" (78 : Nat) "Retouched" "OWN" "[Ljava/lang/String;" "Retouched") ∈ lw_tbl := lw_at lw_m3 121 rfl
theorem q747 : (Jvm.Cond.methodLinkNest "Retouched$Reader" (82 : Nat) ({ cls := "Retouched", name := "find", desc := "(Ljava/lang/String;[Ljava/lang/String;)I" } : Jvm.MethodName) "Retouched") ∈ lw_tbl := lw_at lw_m3 123 rfl
theorem q751 : (Jvm.Cond.methodLink "Retouched$Reader" (86 : Nat) ({ cls := "java/lang/String", name := "length", desc := "()I" } : Jvm.MethodName)) ∈ lw_all := lw_g (lw_at lw_m3 127 rfl) rfl
theorem q759 : (Jvm.Cond.methodLink "Retouched$Reader" (107 : Nat) ({ cls := "Retouched$Terrace", name := "find", desc := "(Ljava/lang/String;)I" } : Jvm.MethodName)) ∈ lw_all := lw_g (lw_at lw_m3 135 rfl) rfl
theorem q786 : (Jvm.Cond.stringRef "Retouched$Reader" (144 : Nat) "at") ∈ lw_tbl := lw_at lw_m3 162 rfl
theorem q787 : (Jvm.Cond.methodLink "Retouched$Reader" (145 : Nat) ({ cls := "Retouched$Terrace", name := "isFull", desc := "(I)Z" } : Jvm.MethodName)) ∈ lw_all := lw_g (lw_at lw_m3 163 rfl) rfl
theorem q791 : (Jvm.Cond.stringRef "Retouched$Reader" (148 : Nat) "face") ∈ lw_tbl := lw_at lw_m3 167 rfl
theorem q792 : (Jvm.Cond.methodLink "Retouched$Reader" (150 : Nat) ({ cls := "Retouched$Reader", name := "number", desc := "(Ljava/lang/String;II)I" } : Jvm.MethodName)) ∈ lw_all := lw_g (lw_at lw_m3 168 rfl) rfl
theorem q793 : (Jvm.Cond.privateMethod ({ cls := "Retouched$Reader", name := "number", desc := "(Ljava/lang/String;II)I" } : Jvm.MethodName)) ∈ lw_tbl := lw_at lw_m3 169 rfl
theorem q794 : (Jvm.Cond.instanceMethod ({ cls := "Retouched$Reader", name := "number", desc := "(Ljava/lang/String;II)I" } : Jvm.MethodName)) ∈ lw_all := lw_g (lw_at lw_m3 170 rfl) rfl
theorem q795 : (Jvm.Cond.code ({ cls := "Retouched$Reader", name := "number", desc := "(Ljava/lang/String;II)I" } : Jvm.MethodName) prog_13_method_12_code (4 : Nat) (Option.some Jvm.ClassFile.FieldType.int)) ∈ lw_all := lw_g (lw_at lw_m3 171 rfl) rfl
theorem q796 : (Jvm.Cond.classLink "Retouched$Reader" (153 : Nat) "Retouched$Soul") ∈ lw_all := lw_g (lw_at lw_m3 172 rfl) rfl
theorem q798 : (Jvm.Cond.stringRef "Retouched$Reader" (155 : Nat) "kind") ∈ lw_tbl := lw_at lw_m3 174 rfl
theorem q799 : (Jvm.Cond.methodLink "Retouched$Reader" (156 : Nat) ({ cls := "Retouched$Soul", name := "<init>", desc := "(Ljava/lang/String;III)V" } : Jvm.MethodName)) ∈ lw_all := lw_g (lw_at lw_m3 175 rfl) rfl
theorem q814 : (Jvm.Cond.fieldLinkNest "Retouched$Reader" (195 : Nat) "Retouched$Soul" "thinks" "[I" "Retouched") ∈ lw_tbl := lw_at lw_m3 190 rfl
theorem q826 : (Jvm.Cond.interfaceEntry "Retouched$Reader" (159 : Nat)) ∈ lw_tbl := lw_at lw_m3 202 rfl
theorem q827 : (Jvm.Cond.methodLink "Retouched$Reader" (159 : Nat) ({ cls := "java/util/List", name := "add", desc := "(Ljava/lang/Object;)Z" } : Jvm.MethodName)) ∈ lw_all := lw_g (lw_at lw_m3 203 rfl) rfl
theorem q877 : (Jvm.Cond.selects "Retouched$Reader" ({ cls := "java/lang/Object", name := "getClass", desc := "()Ljava/lang/Class;" } : Jvm.MethodName) ({ cls := "java/lang/Object", name := "getClass", desc := "()Ljava/lang/Class;" } : Jvm.MethodName)) ∈ lw_all := lw_g (lw_at lw_m4 13 rfl) rfl
theorem q900 : (Jvm.Cond.methodLink "Retouched$Reader" (186 : Nat) ({ cls := "Retouched$Reader", name := "other", desc := "(I)I" } : Jvm.MethodName)) ∈ lw_all := lw_g (lw_at lw_m4 36 rfl) rfl
theorem q901 : (Jvm.Cond.privateMethod ({ cls := "Retouched$Reader", name := "other", desc := "(I)I" } : Jvm.MethodName)) ∈ lw_tbl := lw_at lw_m4 37 rfl
theorem q902 : (Jvm.Cond.instanceMethod ({ cls := "Retouched$Reader", name := "other", desc := "(I)I" } : Jvm.MethodName)) ∈ lw_all := lw_g (lw_at lw_m4 38 rfl) rfl
theorem q903 : (Jvm.Cond.code ({ cls := "Retouched$Reader", name := "other", desc := "(I)I" } : Jvm.MethodName) prog_13_method_14_code (3 : Nat) (Option.some Jvm.ClassFile.FieldType.int)) ∈ lw_all := lw_g (lw_at lw_m4 39 rfl) rfl
theorem q904 : (Jvm.Cond.stringRef "Retouched$Reader" (189 : Nat) "of") ∈ lw_tbl := lw_at lw_m4 40 rfl
theorem q905 : (Jvm.Cond.interfaceEntry "Retouched$Reader" (191 : Nat)) ∈ lw_tbl := lw_at lw_m4 41 rfl
theorem q906 : (Jvm.Cond.methodLink "Retouched$Reader" (191 : Nat) ({ cls := "java/util/List", name := "get", desc := "(I)Ljava/lang/Object;" } : Jvm.MethodName)) ∈ lw_all := lw_g (lw_at lw_m4 42 rfl) rfl
theorem q907 : (Jvm.Cond.methodLink "Retouched$Reader" (201 : Nat) ({ cls := "Retouched$Reader", name := "once", desc := "(LRetouched$Value;II)LRetouched$Value;" } : Jvm.MethodName)) ∈ lw_all := lw_g (lw_at lw_m4 43 rfl) rfl
theorem q908 : (Jvm.Cond.privateMethod ({ cls := "Retouched$Reader", name := "once", desc := "(LRetouched$Value;II)LRetouched$Value;" } : Jvm.MethodName)) ∈ lw_tbl := lw_at lw_m4 44 rfl
theorem q909 : (Jvm.Cond.instanceMethod ({ cls := "Retouched$Reader", name := "once", desc := "(LRetouched$Value;II)LRetouched$Value;" } : Jvm.MethodName)) ∈ lw_all := lw_g (lw_at lw_m4 45 rfl) rfl
theorem q910 : (Jvm.Cond.code ({ cls := "Retouched$Reader", name := "once", desc := "(LRetouched$Value;II)LRetouched$Value;" } : Jvm.MethodName) prog_13_method_17_code (4 : Nat) (Option.some (Jvm.ClassFile.FieldType.object "Retouched$Value"))) ∈ lw_all := lw_g (lw_at lw_m4 46 rfl) rfl
theorem q911 : (Jvm.Cond.methodLink "Retouched$Reader" (165 : Nat) ({ cls := "Retouched$Reader", name := "sum", desc := "()LRetouched$Value;" } : Jvm.MethodName)) ∈ lw_all := lw_g (lw_at lw_m4 47 rfl) rfl
theorem q912 : (Jvm.Cond.privateMethod ({ cls := "Retouched$Reader", name := "sum", desc := "()LRetouched$Value;" } : Jvm.MethodName)) ∈ lw_tbl := lw_at lw_m4 48 rfl
theorem q913 : (Jvm.Cond.instanceMethod ({ cls := "Retouched$Reader", name := "sum", desc := "()LRetouched$Value;" } : Jvm.MethodName)) ∈ lw_all := lw_g (lw_at lw_m4 49 rfl) rfl
theorem q914 : (Jvm.Cond.code ({ cls := "Retouched$Reader", name := "sum", desc := "()LRetouched$Value;" } : Jvm.MethodName) prog_13_method_20_code (3 : Nat) (Option.some (Jvm.ClassFile.FieldType.object "Retouched$Value"))) ∈ lw_all := lw_g (lw_at lw_m4 50 rfl) rfl
theorem q915 : (Jvm.Cond.classLink "Retouched$Reader" (216 : Nat) "Retouched$Chain") ∈ lw_all := lw_g (lw_at lw_m4 51 rfl) rfl
theorem q917 : (Jvm.Cond.methodLinkNest "Retouched$Reader" (218 : Nat) ({ cls := "Retouched$Chain", name := "<init>", desc := "()V" } : Jvm.MethodName) "Retouched") ∈ lw_tbl := lw_at lw_m4 53 rfl
theorem q956 : (Jvm.Cond.methodLink "Retouched$Reader" (219 : Nat) ({ cls := "Retouched$Reader", name := "product", desc := "()LRetouched$Value;" } : Jvm.MethodName)) ∈ lw_all := lw_g (lw_at lw_m4 92 rfl) rfl
theorem q957 : (Jvm.Cond.privateMethod ({ cls := "Retouched$Reader", name := "product", desc := "()LRetouched$Value;" } : Jvm.MethodName)) ∈ lw_tbl := lw_at lw_m4 93 rfl
theorem q958 : (Jvm.Cond.instanceMethod ({ cls := "Retouched$Reader", name := "product", desc := "()LRetouched$Value;" } : Jvm.MethodName)) ∈ lw_all := lw_g (lw_at lw_m4 94 rfl) rfl
theorem q959 : (Jvm.Cond.code ({ cls := "Retouched$Reader", name := "product", desc := "()LRetouched$Value;" } : Jvm.MethodName) prog_13_method_21_code (3 : Nat) (Option.some (Jvm.ClassFile.FieldType.object "Retouched$Value"))) ∈ lw_all := lw_g (lw_at lw_m4 95 rfl) rfl
theorem q960 : (Jvm.Cond.methodLink "Retouched$Reader" (228 : Nat) ({ cls := "Retouched$Reader", name := "atom", desc := "()LRetouched$Value;" } : Jvm.MethodName)) ∈ lw_all := lw_g (lw_at lw_m4 96 rfl) rfl
theorem q961 : (Jvm.Cond.privateMethod ({ cls := "Retouched$Reader", name := "atom", desc := "()LRetouched$Value;" } : Jvm.MethodName)) ∈ lw_tbl := lw_at lw_m4 97 rfl
theorem q962 : (Jvm.Cond.instanceMethod ({ cls := "Retouched$Reader", name := "atom", desc := "()LRetouched$Value;" } : Jvm.MethodName)) ∈ lw_all := lw_g (lw_at lw_m4 98 rfl) rfl
theorem q963 : (Jvm.Cond.code ({ cls := "Retouched$Reader", name := "atom", desc := "()LRetouched$Value;" } : Jvm.MethodName) prog_13_method_24_code (3 : Nat) (Option.some (Jvm.ClassFile.FieldType.object "Retouched$Value"))) ∈ lw_all := lw_g (lw_at lw_m4 99 rfl) rfl
theorem q964 : (Jvm.Cond.methodLink "Retouched$Reader" (239 : Nat) ({ cls := "Retouched$Reader", name := "within", desc := "(I)LRetouched$Value;" } : Jvm.MethodName)) ∈ lw_all := lw_g (lw_at lw_m4 100 rfl) rfl
theorem q965 : (Jvm.Cond.privateMethod ({ cls := "Retouched$Reader", name := "within", desc := "(I)LRetouched$Value;" } : Jvm.MethodName)) ∈ lw_tbl := lw_at lw_m4 101 rfl
theorem q966 : (Jvm.Cond.instanceMethod ({ cls := "Retouched$Reader", name := "within", desc := "(I)LRetouched$Value;" } : Jvm.MethodName)) ∈ lw_all := lw_g (lw_at lw_m4 102 rfl) rfl
theorem q967 : (Jvm.Cond.code ({ cls := "Retouched$Reader", name := "within", desc := "(I)LRetouched$Value;" } : Jvm.MethodName) prog_13_method_23_code (4 : Nat) (Option.some (Jvm.ClassFile.FieldType.object "Retouched$Value"))) ∈ lw_all := lw_g (lw_at lw_m4 103 rfl) rfl
theorem q968 : (Jvm.Cond.methodLink "Retouched$Reader" (231 : Nat) ({ cls := "Retouched$Reader", name := "opens", desc := "(I)V" } : Jvm.MethodName)) ∈ lw_all := lw_g (lw_at lw_m4 104 rfl) rfl
theorem q969 : (Jvm.Cond.privateMethod ({ cls := "Retouched$Reader", name := "opens", desc := "(I)V" } : Jvm.MethodName)) ∈ lw_tbl := lw_at lw_m4 105 rfl
theorem q970 : (Jvm.Cond.instanceMethod ({ cls := "Retouched$Reader", name := "opens", desc := "(I)V" } : Jvm.MethodName)) ∈ lw_all := lw_g (lw_at lw_m4 106 rfl) rfl
theorem q971 : (Jvm.Cond.code ({ cls := "Retouched$Reader", name := "opens", desc := "(I)V" } : Jvm.MethodName) prog_13_method_22_code (2 : Nat) (Option.none : Option Jvm.ClassFile.FieldType)) ∈ lw_all := lw_g (lw_at lw_m4 107 rfl) rfl
theorem q972 : (Jvm.Cond.classLink "Retouched$Reader" (234 : Nat) "Retouched$Pair") ∈ lw_all := lw_g (lw_at lw_m4 108 rfl) rfl
theorem q974 : (Jvm.Cond.methodLink "Retouched$Reader" (236 : Nat) ({ cls := "Retouched$Pair", name := "<init>", desc := "(ZLRetouched$Value;LRetouched$Value;)V" } : Jvm.MethodName)) ∈ lw_all := lw_g (lw_at lw_m4 110 rfl) rfl
theorem q988 : (Jvm.Cond.classLink "Retouched$Reader" (243 : Nat) "Retouched$Fixed") ∈ lw_all := lw_g (lw_at lw_m4 124 rfl) rfl
theorem q990 : (Jvm.Cond.methodLink "Retouched$Reader" (245 : Nat) ({ cls := "Retouched$Fixed", name := "<init>", desc := "(J)V" } : Jvm.MethodName)) ∈ lw_all := lw_g (lw_at lw_m4 126 rfl) rfl
theorem q998 : (Jvm.Cond.fieldLinkNest "Retouched$Reader" (248 : Nat) "Retouched" "ASKED" "[Ljava/lang/String;" "Retouched") ∈ lw_tbl := lw_at lw_m4 134 rfl
theorem q1000 : (Jvm.Cond.methodLinkNest "Retouched$Reader" (251 : Nat) ({ cls := "Retouched", name := "has", desc := "(II)Z" } : Jvm.MethodName) "Retouched") ∈ lw_tbl := lw_at lw_m4 136 rfl
theorem q1003 : (Jvm.Cond.classLink "Retouched$Reader" (255 : Nat) "Retouched$Asked") ∈ lw_all := lw_g (lw_at lw_m4 139 rfl) rfl
theorem q1005 : (Jvm.Cond.methodLink "Retouched$Reader" (257 : Nat) ({ cls := "Retouched$Asked", name := "<init>", desc := "(I)V" } : Jvm.MethodName)) ∈ lw_all := lw_g (lw_at lw_m4 141 rfl) rfl
theorem q1013 : (Jvm.Cond.fieldLinkNest "Retouched$Reader" (259 : Nat) "Retouched" "LOOKED" "[Ljava/lang/String;" "Retouched") ∈ lw_tbl := lw_at lw_m4 149 rfl
theorem q1015 : (Jvm.Cond.methodLink "Retouched$Reader" (262 : Nat) ({ cls := "Retouched$Reader", name := "looked", desc := "(I)LRetouched$Value;" } : Jvm.MethodName)) ∈ lw_all := lw_g (lw_at lw_m4 151 rfl) rfl
theorem q1016 : (Jvm.Cond.privateMethod ({ cls := "Retouched$Reader", name := "looked", desc := "(I)LRetouched$Value;" } : Jvm.MethodName)) ∈ lw_tbl := lw_at lw_m4 152 rfl
theorem q1017 : (Jvm.Cond.instanceMethod ({ cls := "Retouched$Reader", name := "looked", desc := "(I)LRetouched$Value;" } : Jvm.MethodName)) ∈ lw_all := lw_g (lw_at lw_m4 153 rfl) rfl
theorem q1018 : (Jvm.Cond.code ({ cls := "Retouched$Reader", name := "looked", desc := "(I)LRetouched$Value;" } : Jvm.MethodName) prog_13_method_28_code (3 : Nat) (Option.some (Jvm.ClassFile.FieldType.object "Retouched$Value"))) ∈ lw_all := lw_g (lw_at lw_m4 154 rfl) rfl
theorem q1019 : (Jvm.Cond.classLink "Retouched$Reader" (308 : Nat) "Retouched$Looked") ∈ lw_all := lw_g (lw_at lw_m4 155 rfl) rfl
theorem q1021 : (Jvm.Cond.methodLink "Retouched$Reader" (310 : Nat) ({ cls := "Retouched$Looked", name := "<init>", desc := "(LRetouched;ILRetouched$Value;)V" } : Jvm.MethodName)) ∈ lw_all := lw_g (lw_at lw_m4 157 rfl) rfl
theorem q1035 : (Jvm.Cond.stringRef "Retouched$Reader" (265 : Nat) "min") ∈ lw_tbl := lw_at lw_m4 171 rfl
theorem q1036 : (Jvm.Cond.stringRef "Retouched$Reader" (267 : Nat) "max") ∈ lw_tbl := lw_at lw_m4 172 rfl
theorem q1037 : (Jvm.Cond.methodLink "Retouched$Reader" (222 : Nat) ({ cls := "Retouched$Chain", name := "add", desc := "(CLRetouched$Value;)V" } : Jvm.MethodName)) ∈ lw_all := lw_g (lw_at lw_m4 173 rfl) rfl
theorem q1098 : (Jvm.Cond.methodLink "Retouched$Reader" (225 : Nat) ({ cls := "Retouched$Reader", name := "takes", desc := "(I)Z" } : Jvm.MethodName)) ∈ lw_all := lw_g (lw_at lw_m4 234 rfl) rfl
theorem q1099 : (Jvm.Cond.privateMethod ({ cls := "Retouched$Reader", name := "takes", desc := "(I)Z" } : Jvm.MethodName)) ∈ lw_tbl := lw_at lw_m4 235 rfl
theorem q1100 : (Jvm.Cond.instanceMethod ({ cls := "Retouched$Reader", name := "takes", desc := "(I)Z" } : Jvm.MethodName)) ∈ lw_all := lw_g (lw_at lw_m4 236 rfl) rfl
theorem q1101 : (Jvm.Cond.code ({ cls := "Retouched$Reader", name := "takes", desc := "(I)Z" } : Jvm.MethodName) prog_13_method_19_code (3 : Nat) (Option.some Jvm.ClassFile.FieldType.boolean)) ∈ lw_all := lw_g (lw_at lw_m4 237 rfl) rfl
theorem q1102 : (Jvm.Cond.methodLink "Retouched$Reader" (210 : Nat) ({ cls := "Retouched$Reader", name := "test", desc := "()LRetouched$Test;" } : Jvm.MethodName)) ∈ lw_all := lw_g (lw_at lw_m4 238 rfl) rfl
theorem q1103 : (Jvm.Cond.privateMethod ({ cls := "Retouched$Reader", name := "test", desc := "()LRetouched$Test;" } : Jvm.MethodName)) ∈ lw_tbl := lw_at lw_m4 239 rfl
theorem q1104 : (Jvm.Cond.instanceMethod ({ cls := "Retouched$Reader", name := "test", desc := "()LRetouched$Test;" } : Jvm.MethodName)) ∈ lw_all := lw_g (lw_at lw_m5 0 rfl) rfl
theorem q1105 : (Jvm.Cond.code ({ cls := "Retouched$Reader", name := "test", desc := "()LRetouched$Test;" } : Jvm.MethodName) prog_13_method_25_code (2 : Nat) (Option.some (Jvm.ClassFile.FieldType.object "Retouched$Test"))) ∈ lw_all := lw_g (lw_at lw_m5 1 rfl) rfl
theorem q1106 : (Jvm.Cond.classLink "Retouched$Reader" (269 : Nat) "Retouched$Facts") ∈ lw_all := lw_g (lw_at lw_m5 2 rfl) rfl
theorem q1108 : (Jvm.Cond.methodLink "Retouched$Reader" (271 : Nat) ({ cls := "Retouched$Facts", name := "<init>", desc := "(Z)V" } : Jvm.MethodName)) ∈ lw_all := lw_g (lw_at lw_m5 4 rfl) rfl
theorem q1118 : (Jvm.Cond.fieldLinkNest "Retouched$Reader" (274 : Nat) "Retouched$Facts" "tests" "Ljava/util/List;" "Retouched") ∈ lw_tbl := lw_at lw_m5 14 rfl
theorem q1125 : (Jvm.Cond.methodLink "Retouched$Reader" (277 : Nat) ({ cls := "Retouched$Reader", name := "both", desc := "()LRetouched$Test;" } : Jvm.MethodName)) ∈ lw_all := lw_g (lw_at lw_m5 21 rfl) rfl
theorem q1126 : (Jvm.Cond.privateMethod ({ cls := "Retouched$Reader", name := "both", desc := "()LRetouched$Test;" } : Jvm.MethodName)) ∈ lw_tbl := lw_at lw_m5 22 rfl
theorem q1127 : (Jvm.Cond.instanceMethod ({ cls := "Retouched$Reader", name := "both", desc := "()LRetouched$Test;" } : Jvm.MethodName)) ∈ lw_all := lw_g (lw_at lw_m5 23 rfl) rfl
theorem q1128 : (Jvm.Cond.code ({ cls := "Retouched$Reader", name := "both", desc := "()LRetouched$Test;" } : Jvm.MethodName) prog_13_method_26_code (2 : Nat) (Option.some (Jvm.ClassFile.FieldType.object "Retouched$Test"))) ∈ lw_all := lw_g (lw_at lw_m5 24 rfl) rfl
theorem q1129 : (Jvm.Cond.methodLink "Retouched$Reader" (286 : Nat) ({ cls := "Retouched$Reader", name := "fact", desc := "()LRetouched$Test;" } : Jvm.MethodName)) ∈ lw_all := lw_g (lw_at lw_m5 25 rfl) rfl
theorem q1130 : (Jvm.Cond.privateMethod ({ cls := "Retouched$Reader", name := "fact", desc := "()LRetouched$Test;" } : Jvm.MethodName)) ∈ lw_tbl := lw_at lw_m5 26 rfl
theorem q1131 : (Jvm.Cond.instanceMethod ({ cls := "Retouched$Reader", name := "fact", desc := "()LRetouched$Test;" } : Jvm.MethodName)) ∈ lw_all := lw_g (lw_at lw_m5 27 rfl) rfl
theorem q1132 : (Jvm.Cond.code ({ cls := "Retouched$Reader", name := "fact", desc := "()LRetouched$Test;" } : Jvm.MethodName) prog_13_method_27_code (3 : Nat) (Option.some (Jvm.ClassFile.FieldType.object "Retouched$Test"))) ∈ lw_all := lw_g (lw_at lw_m5 28 rfl) rfl
theorem q1133 : (Jvm.Cond.stringRef "Retouched$Reader" (291 : Nat) "not") ∈ lw_tbl := lw_at lw_m5 29 rfl
theorem q1134 : (Jvm.Cond.methodLink "Retouched$Reader" (282 : Nat) ({ cls := "Retouched$Reader", name := "passes", desc := "(Ljava/lang/String;)Z" } : Jvm.MethodName)) ∈ lw_all := lw_g (lw_at lw_m5 30 rfl) rfl
theorem q1135 : (Jvm.Cond.privateMethod ({ cls := "Retouched$Reader", name := "passes", desc := "(Ljava/lang/String;)Z" } : Jvm.MethodName)) ∈ lw_tbl := lw_at lw_m5 31 rfl
theorem q1136 : (Jvm.Cond.instanceMethod ({ cls := "Retouched$Reader", name := "passes", desc := "(Ljava/lang/String;)Z" } : Jvm.MethodName)) ∈ lw_all := lw_g (lw_at lw_m5 32 rfl) rfl
theorem q1137 : (Jvm.Cond.code ({ cls := "Retouched$Reader", name := "passes", desc := "(Ljava/lang/String;)Z" } : Jvm.MethodName) prog_13_method_9_code (3 : Nat) (Option.some Jvm.ClassFile.FieldType.boolean)) ∈ lw_all := lw_g (lw_at lw_m5 33 rfl) rfl
theorem q1138 : (Jvm.Cond.classLink "Retouched$Reader" (293 : Nat) "Retouched$Not") ∈ lw_all := lw_g (lw_at lw_m5 34 rfl) rfl
theorem q1140 : (Jvm.Cond.methodLink "Retouched$Reader" (295 : Nat) ({ cls := "Retouched$Not", name := "<init>", desc := "(LRetouched$Test;)V" } : Jvm.MethodName)) ∈ lw_all := lw_g (lw_at lw_m5 36 rfl) rfl
theorem q1148 : (Jvm.Cond.stringRef "Retouched$Reader" (298 : Nat) "all") ∈ lw_tbl := lw_at lw_m5 44 rfl
theorem q1149 : (Jvm.Cond.classLink "Retouched$Reader" (300 : Nat) "Retouched$All") ∈ lw_all := lw_g (lw_at lw_m5 45 rfl) rfl
theorem q1151 : (Jvm.Cond.methodLinkNest "Retouched$Reader" (302 : Nat) ({ cls := "Retouched$All", name := "<init>", desc := "()V" } : Jvm.MethodName) "Retouched") ∈ lw_tbl := lw_at lw_m5 47 rfl
theorem q1156 : (Jvm.Cond.classLink "Retouched$Reader" (303 : Nat) "Retouched$Than") ∈ lw_all := lw_g (lw_at lw_m5 52 rfl) rfl
theorem q1158 : (Jvm.Cond.methodLink "Retouched$Reader" (305 : Nat) ({ cls := "Retouched$Than", name := "<init>", desc := "(LRetouched$Value;ILRetouched$Value;)V" } : Jvm.MethodName)) ∈ lw_all := lw_g (lw_at lw_m5 54 rfl) rfl
theorem q1172 : (Jvm.Cond.stringRef "Retouched$Reader" (289 : Nat) "and") ∈ lw_tbl := lw_at lw_m5 68 rfl
theorem q1173 : (Jvm.Cond.stringRef "Retouched$Reader" (280 : Nat) "or") ∈ lw_tbl := lw_at lw_m5 69 rfl
theorem q1531 : (Jvm.Cond.instanceMethod ({ cls := "Retouched$Reader", name := "question", desc := "(I)LRetouched$Question;" } : Jvm.MethodName)) ∈ lw_all := lw_g (lw_at lw_m6 187 rfl) rfl
theorem q1532 : (Jvm.Cond.selects "Retouched$Reader" ({ cls := "Retouched$Reader", name := "question", desc := "(I)LRetouched$Question;" } : Jvm.MethodName) ({ cls := "Retouched$Reader", name := "question", desc := "(I)LRetouched$Question;" } : Jvm.MethodName)) ∈ lw_all := lw_g (lw_at lw_m6 188 rfl) rfl
theorem q1533 : (Jvm.Cond.code ({ cls := "Retouched$Reader", name := "question", desc := "(I)LRetouched$Question;" } : Jvm.MethodName) prog_13_method_29_code (4 : Nat) (Option.some (Jvm.ClassFile.FieldType.object "Retouched$Question"))) ∈ lw_all := lw_g (lw_at lw_m6 189 rfl) rfl
theorem q1534 : (Jvm.Cond.fieldLinkNest "Retouched$Reader" (313 : Nat) "Retouched" "TOLD_OF" "[Ljava/lang/String;" "Retouched") ∈ lw_tbl := lw_at lw_m6 190 rfl
theorem q1536 : (Jvm.Cond.classLink "Retouched$Reader" (316 : Nat) "Retouched$Question") ∈ lw_all := lw_g (lw_at lw_m6 192 rfl) rfl
theorem q1538 : (Jvm.Cond.methodLink "Retouched$Reader" (318 : Nat) ({ cls := "Retouched$Question", name := "<init>", desc := "(ILRetouched$Test;LRetouched$Value;)V" } : Jvm.MethodName)) ∈ lw_all := lw_g (lw_at lw_m6 194 rfl) rfl
theorem q2509 : (Jvm.Cond.castable "Retouched$Reader" "java/lang/Object") ∈ lw_tbl := lw_at lw_m10 205 rfl
theorem in_X2 : ∀ w ∈ wsX20, w ∈ lw_all := lw_in wsX20 [343, 345, 347, 349, 351, 353, 355, 357] (by decide +kernel) (by decide +kernel)
/-! Retouched$State -/
set_option maxRecDepth 100000
def RX5 : String := "Retouched$State"
def TX5 : u_T := fun k => match k with
  | 0 => ("Retouched$State", "year", "I", false)
  | 1 => ("Retouched$State", "many", "I", false)
  | 2 => ("Retouched$State", "keeps", "I", false)
  | 3 => ("Retouched$State", "house", "[I", true)
  | 4 => ("Retouched$State", "look", "[I", true)
  | 5 => ("Retouched$State", "face", "[I", true)
  | 6 => ("Retouched$State", "kind", "[I", true)
  | 7 => ("Retouched$State", "spares", "[Z", true)
  | 8 => ("Retouched$State", "thinks", "[[I", true)
  | 9 => ("Retouched$State", "rows", "[[I", true)
  | _ => ("Retouched$State", "this$0", "LRetouched;", true)
def tyX5 : Nat → FieldType := fun k => match k with
  | 0 => .int
  | 1 => .int
  | 2 => .int
  | 3 => .array .int
  | 4 => .array .int
  | 5 => .array .int
  | 6 => .array .int
  | 7 => .array .boolean
  | 8 => .array (.array .int)
  | 9 => .array (.array .int)
  | _ => .object "Retouched"
abbrev wsX50 : List Cond := u_ws RX5 TX5 11
theorem nmX5 : ∀ a, a < 11 → ∀ b, b < 11 → a ≠ b → (TX5 a).2.1 ≠ (TX5 b).2.1 := by decide +kernel
theorem tyX5_ok : ∀ k, k < 11 → parseFieldDescriptor (TX5 k).2.2.1 = some (tyX5 k) := by decide +kernel
abbrev cX5_init : ByteArray := prog_15_method_1_code
def yX5_init : MethodName := ⟨RX5, "<init>", "(LRetouched;)V"⟩
def dkwX5_init_3 : List UInt8 := [181, 0, 37, 177]
abbrev dktX5_init_3 : List UInt8 := dkwX5_init_3 ++ []
def dkwX5_init_2 : List UInt8 := [181, 0, 28, 42, 16, 8, 16, 8, 197, 0, 32, 2, 181, 0, 34, 42, 16, 40, 6, 197, 0, 32, 2]
abbrev dktX5_init_2 : List UInt8 := dkwX5_init_2 ++ dktX5_init_3
def dkwX5_init_1 : List UInt8 := [181, 0, 19, 42, 16, 8, 188, 10, 181, 0, 22, 42, 16, 8, 188, 10, 181, 0, 25, 42, 16, 8, 188, 4]
abbrev dktX5_init_1 : List UInt8 := dkwX5_init_1 ++ dktX5_init_2
def dkwX5_init_0 : List UInt8 := [42, 43, 181, 0, 3, 42, 183, 0, 9, 42, 16, 8, 188, 10, 181, 0, 15, 42, 16, 8, 188, 10]
abbrev dktX5_init_0 : List UInt8 := dkwX5_init_0 ++ dktX5_init_1
theorem dksX5_init_0 : cX5_init.data.toList.drop 0 = dktX5_init_0 := by decide +kernel
theorem dksX5_init_1 : cX5_init.data.toList.drop 22 = dktX5_init_1 := dk_seg dksX5_init_0 22 rfl rfl
theorem dksX5_init_2 : cX5_init.data.toList.drop 46 = dktX5_init_2 := dk_seg dksX5_init_1 24 rfl rfl
theorem dksX5_init_3 : cX5_init.data.toList.drop 69 = dktX5_init_3 := dk_seg dksX5_init_2 23 rfl rfl
theorem dX5_init_0 : decode cX5_init 0 = .ok (.aload_n 0, 1) := dk_42 (dk_at dksX5_init_0 0 rfl rfl)
theorem dX5_init_1 : decode cX5_init 1 = .ok (.aload_n 1, 1) := dk_43 (dk_at dksX5_init_0 1 rfl rfl)
theorem dX5_init_2 : decode cX5_init 2 = .ok (.putfield 3, 3) := dk_181 0 3 (dk_at dksX5_init_0 2 rfl rfl)
theorem dX5_init_5 : decode cX5_init 5 = .ok (.aload_n 0, 1) := dk_42 (dk_at dksX5_init_0 5 rfl rfl)
theorem dX5_init_6 : decode cX5_init 6 = .ok (.invokespecial 9, 3) := dk_183 0 9 (dk_at dksX5_init_0 6 rfl rfl)
theorem dX5_init_9 : decode cX5_init 9 = .ok (.aload_n 0, 1) := dk_42 (dk_at dksX5_init_0 9 rfl rfl)
theorem dX5_init_10 : decode cX5_init 10 = .ok (.bipush 8, 2) := dk_16 8 (dk_at dksX5_init_0 10 rfl rfl)
theorem dX5_init_12 : decode cX5_init 12 = .ok (.newarray .int, 2) := dk_188_10 (dk_at dksX5_init_0 12 rfl rfl)
theorem dX5_init_14 : decode cX5_init 14 = .ok (.putfield 15, 3) := dk_181 0 15 (dk_at dksX5_init_0 14 rfl rfl)
theorem dX5_init_17 : decode cX5_init 17 = .ok (.aload_n 0, 1) := dk_42 (dk_at dksX5_init_0 17 rfl rfl)
theorem dX5_init_18 : decode cX5_init 18 = .ok (.bipush 8, 2) := dk_16 8 (dk_at dksX5_init_0 18 rfl rfl)
theorem dX5_init_20 : decode cX5_init 20 = .ok (.newarray .int, 2) := dk_188_10 (dk_at dksX5_init_0 20 rfl rfl)
theorem dX5_init_22 : decode cX5_init 22 = .ok (.putfield 19, 3) := dk_181 0 19 (dk_at dksX5_init_1 0 rfl rfl)
theorem dX5_init_25 : decode cX5_init 25 = .ok (.aload_n 0, 1) := dk_42 (dk_at dksX5_init_1 3 rfl rfl)
theorem dX5_init_26 : decode cX5_init 26 = .ok (.bipush 8, 2) := dk_16 8 (dk_at dksX5_init_1 4 rfl rfl)
theorem dX5_init_28 : decode cX5_init 28 = .ok (.newarray .int, 2) := dk_188_10 (dk_at dksX5_init_1 6 rfl rfl)
theorem dX5_init_30 : decode cX5_init 30 = .ok (.putfield 22, 3) := dk_181 0 22 (dk_at dksX5_init_1 8 rfl rfl)
theorem dX5_init_33 : decode cX5_init 33 = .ok (.aload_n 0, 1) := dk_42 (dk_at dksX5_init_1 11 rfl rfl)
theorem dX5_init_34 : decode cX5_init 34 = .ok (.bipush 8, 2) := dk_16 8 (dk_at dksX5_init_1 12 rfl rfl)
theorem dX5_init_36 : decode cX5_init 36 = .ok (.newarray .int, 2) := dk_188_10 (dk_at dksX5_init_1 14 rfl rfl)
theorem dX5_init_38 : decode cX5_init 38 = .ok (.putfield 25, 3) := dk_181 0 25 (dk_at dksX5_init_1 16 rfl rfl)
theorem dX5_init_41 : decode cX5_init 41 = .ok (.aload_n 0, 1) := dk_42 (dk_at dksX5_init_1 19 rfl rfl)
theorem dX5_init_42 : decode cX5_init 42 = .ok (.bipush 8, 2) := dk_16 8 (dk_at dksX5_init_1 20 rfl rfl)
theorem dX5_init_44 : decode cX5_init 44 = .ok (.newarray .boolean, 2) := dk_188_4 (dk_at dksX5_init_1 22 rfl rfl)
theorem dX5_init_46 : decode cX5_init 46 = .ok (.putfield 28, 3) := dk_181 0 28 (dk_at dksX5_init_2 0 rfl rfl)
theorem dX5_init_49 : decode cX5_init 49 = .ok (.aload_n 0, 1) := dk_42 (dk_at dksX5_init_2 3 rfl rfl)
theorem dX5_init_50 : decode cX5_init 50 = .ok (.bipush 8, 2) := dk_16 8 (dk_at dksX5_init_2 4 rfl rfl)
theorem dX5_init_52 : decode cX5_init 52 = .ok (.bipush 8, 2) := dk_16 8 (dk_at dksX5_init_2 6 rfl rfl)
theorem dX5_init_54 : decode cX5_init 54 = .ok (.multianewarray 32 2, 4) := by decide +kernel
theorem dX5_init_58 : decode cX5_init 58 = .ok (.putfield 34, 3) := dk_181 0 34 (dk_at dksX5_init_2 12 rfl rfl)
theorem dX5_init_61 : decode cX5_init 61 = .ok (.aload_n 0, 1) := dk_42 (dk_at dksX5_init_2 15 rfl rfl)
theorem dX5_init_62 : decode cX5_init 62 = .ok (.bipush 40, 2) := dk_16 40 (dk_at dksX5_init_2 16 rfl rfl)
theorem dX5_init_64 : decode cX5_init 64 = .ok (.iconst 3, 1) := dk_6 (dk_at dksX5_init_2 18 rfl rfl)
theorem dX5_init_65 : decode cX5_init 65 = .ok (.multianewarray 32 2, 4) := by decide +kernel
theorem dX5_init_69 : decode cX5_init 69 = .ok (.putfield 37, 3) := dk_181 0 37 (dk_at dksX5_init_3 0 rfl rfl)
theorem dX5_init_72 : decode cX5_init 72 = .ok (.return_, 1) := dk_177 (dk_at dksX5_init_3 3 rfl rfl)
abbrev cX5_begins : ByteArray := prog_15_method_2_code
def yX5_begins : MethodName := ⟨RX5, "begins", "()V"⟩
def dkwX5_begins_6 : List UInt8 := [167, 255, 137, 177]
abbrev dktX5_begins_6 : List UInt8 := dkwX5_begins_6 ++ []
def dkwX5_begins_5 : List UInt8 := [42, 180, 0, 3, 27, 182, 0, 54, 180, 0, 66, 28, 46, 79, 132, 2, 1, 167, 255, 226, 132, 1, 1]
abbrev dktX5_begins_5 : List UInt8 := dkwX5_begins_5 ++ dktX5_begins_6
def dkwX5_begins_4 : List UInt8 := [104, 79, 42, 180, 0, 28, 27, 3, 84, 3, 61, 28, 16, 8, 162, 0, 30, 42, 180, 0, 34, 27, 50, 28]
abbrev dktX5_begins_4 : List UInt8 := dkwX5_begins_4 ++ dktX5_begins_5
def dkwX5_begins_3 : List UInt8 := [180, 0, 3, 27, 182, 0, 54, 180, 0, 64, 79, 42, 180, 0, 19, 27, 16, 10, 42, 180, 0, 22, 27, 46]
abbrev dktX5_begins_3 : List UInt8 := dkwX5_begins_3 ++ dktX5_begins_4
def dkwX5_begins_2 : List UInt8 := [42, 180, 0, 22, 27, 42, 180, 0, 3, 27, 182, 0, 54, 180, 0, 62, 79, 42, 180, 0, 25, 27, 42]
abbrev dktX5_begins_2 : List UInt8 := dkwX5_begins_2 ++ dktX5_begins_3
def dkwX5_begins_1 : List UInt8 := [42, 180, 0, 51, 162, 0, 117, 42, 180, 0, 15, 27, 42, 180, 0, 3, 27, 182, 0, 54, 180, 0, 58, 79]
abbrev dktX5_begins_1 : List UInt8 := dkwX5_begins_1 ++ dktX5_begins_2
def dkwX5_begins_0 : List UInt8 := [42, 3, 181, 0, 40, 42, 3, 181, 0, 44, 42, 42, 180, 0, 3, 182, 0, 47, 181, 0, 51, 3, 60, 27]
abbrev dktX5_begins_0 : List UInt8 := dkwX5_begins_0 ++ dktX5_begins_1
theorem dksX5_begins_0 : cX5_begins.data.toList.drop 0 = dktX5_begins_0 := by decide +kernel
theorem dksX5_begins_1 : cX5_begins.data.toList.drop 24 = dktX5_begins_1 := dk_seg dksX5_begins_0 24 rfl rfl
theorem dksX5_begins_2 : cX5_begins.data.toList.drop 48 = dktX5_begins_2 := dk_seg dksX5_begins_1 24 rfl rfl
theorem dksX5_begins_3 : cX5_begins.data.toList.drop 71 = dktX5_begins_3 := dk_seg dksX5_begins_2 23 rfl rfl
theorem dksX5_begins_4 : cX5_begins.data.toList.drop 95 = dktX5_begins_4 := dk_seg dksX5_begins_3 24 rfl rfl
theorem dksX5_begins_5 : cX5_begins.data.toList.drop 119 = dktX5_begins_5 := dk_seg dksX5_begins_4 24 rfl rfl
theorem dksX5_begins_6 : cX5_begins.data.toList.drop 142 = dktX5_begins_6 := dk_seg dksX5_begins_5 23 rfl rfl
theorem dX5_begins_0 : decode cX5_begins 0 = .ok (.aload_n 0, 1) := dk_42 (dk_at dksX5_begins_0 0 rfl rfl)
theorem dX5_begins_1 : decode cX5_begins 1 = .ok (.iconst 0, 1) := dk_3 (dk_at dksX5_begins_0 1 rfl rfl)
theorem dX5_begins_2 : decode cX5_begins 2 = .ok (.putfield 40, 3) := dk_181 0 40 (dk_at dksX5_begins_0 2 rfl rfl)
theorem dX5_begins_5 : decode cX5_begins 5 = .ok (.aload_n 0, 1) := dk_42 (dk_at dksX5_begins_0 5 rfl rfl)
theorem dX5_begins_6 : decode cX5_begins 6 = .ok (.iconst 0, 1) := dk_3 (dk_at dksX5_begins_0 6 rfl rfl)
theorem dX5_begins_7 : decode cX5_begins 7 = .ok (.putfield 44, 3) := dk_181 0 44 (dk_at dksX5_begins_0 7 rfl rfl)
theorem dX5_begins_10 : decode cX5_begins 10 = .ok (.aload_n 0, 1) := dk_42 (dk_at dksX5_begins_0 10 rfl rfl)
theorem dX5_begins_11 : decode cX5_begins 11 = .ok (.aload_n 0, 1) := dk_42 (dk_at dksX5_begins_0 11 rfl rfl)
theorem dX5_begins_12 : decode cX5_begins 12 = .ok (.getfield 3, 3) := dk_180 0 3 (dk_at dksX5_begins_0 12 rfl rfl)
theorem dX5_begins_15 : decode cX5_begins 15 = .ok (.invokevirtual 47, 3) := dk_182 0 47 (dk_at dksX5_begins_0 15 rfl rfl)
theorem dX5_begins_18 : decode cX5_begins 18 = .ok (.putfield 51, 3) := dk_181 0 51 (dk_at dksX5_begins_0 18 rfl rfl)
theorem dX5_begins_21 : decode cX5_begins 21 = .ok (.iconst 0, 1) := dk_3 (dk_at dksX5_begins_0 21 rfl rfl)
theorem dX5_begins_22 : decode cX5_begins 22 = .ok (.istore_n 1, 1) := dk_60 (dk_at dksX5_begins_0 22 rfl rfl)
theorem dX5_begins_23 : decode cX5_begins 23 = .ok (.iload_n 1, 1) := dk_27 (dk_at dksX5_begins_0 23 rfl rfl)
theorem dX5_begins_24 : decode cX5_begins 24 = .ok (.aload_n 0, 1) := dk_42 (dk_at dksX5_begins_1 0 rfl rfl)
theorem dX5_begins_25 : decode cX5_begins 25 = .ok (.getfield 51, 3) := dk_180 0 51 (dk_at dksX5_begins_1 1 rfl rfl)
theorem dX5_begins_28 : decode cX5_begins 28 = .ok (.if_icmp .ge 117, 3) := dk_162 0 117 (dk_at dksX5_begins_1 4 rfl rfl)
theorem dX5_begins_31 : decode cX5_begins 31 = .ok (.aload_n 0, 1) := dk_42 (dk_at dksX5_begins_1 7 rfl rfl)
theorem dX5_begins_32 : decode cX5_begins 32 = .ok (.getfield 15, 3) := dk_180 0 15 (dk_at dksX5_begins_1 8 rfl rfl)
theorem dX5_begins_35 : decode cX5_begins 35 = .ok (.iload_n 1, 1) := dk_27 (dk_at dksX5_begins_1 11 rfl rfl)
theorem dX5_begins_36 : decode cX5_begins 36 = .ok (.aload_n 0, 1) := dk_42 (dk_at dksX5_begins_1 12 rfl rfl)
theorem dX5_begins_37 : decode cX5_begins 37 = .ok (.getfield 3, 3) := dk_180 0 3 (dk_at dksX5_begins_1 13 rfl rfl)
theorem dX5_begins_40 : decode cX5_begins 40 = .ok (.iload_n 1, 1) := dk_27 (dk_at dksX5_begins_1 16 rfl rfl)
theorem dX5_begins_41 : decode cX5_begins 41 = .ok (.invokevirtual 54, 3) := dk_182 0 54 (dk_at dksX5_begins_1 17 rfl rfl)
theorem dX5_begins_44 : decode cX5_begins 44 = .ok (.getfield 58, 3) := dk_180 0 58 (dk_at dksX5_begins_1 20 rfl rfl)
theorem dX5_begins_47 : decode cX5_begins 47 = .ok (.iastore, 1) := dk_79 (dk_at dksX5_begins_1 23 rfl rfl)
theorem dX5_begins_48 : decode cX5_begins 48 = .ok (.aload_n 0, 1) := dk_42 (dk_at dksX5_begins_2 0 rfl rfl)
theorem dX5_begins_49 : decode cX5_begins 49 = .ok (.getfield 22, 3) := dk_180 0 22 (dk_at dksX5_begins_2 1 rfl rfl)
theorem dX5_begins_52 : decode cX5_begins 52 = .ok (.iload_n 1, 1) := dk_27 (dk_at dksX5_begins_2 4 rfl rfl)
theorem dX5_begins_53 : decode cX5_begins 53 = .ok (.aload_n 0, 1) := dk_42 (dk_at dksX5_begins_2 5 rfl rfl)
theorem dX5_begins_54 : decode cX5_begins 54 = .ok (.getfield 3, 3) := dk_180 0 3 (dk_at dksX5_begins_2 6 rfl rfl)
theorem dX5_begins_57 : decode cX5_begins 57 = .ok (.iload_n 1, 1) := dk_27 (dk_at dksX5_begins_2 9 rfl rfl)
theorem dX5_begins_58 : decode cX5_begins 58 = .ok (.invokevirtual 54, 3) := dk_182 0 54 (dk_at dksX5_begins_2 10 rfl rfl)
theorem dX5_begins_61 : decode cX5_begins 61 = .ok (.getfield 62, 3) := dk_180 0 62 (dk_at dksX5_begins_2 13 rfl rfl)
theorem dX5_begins_64 : decode cX5_begins 64 = .ok (.iastore, 1) := dk_79 (dk_at dksX5_begins_2 16 rfl rfl)
theorem dX5_begins_65 : decode cX5_begins 65 = .ok (.aload_n 0, 1) := dk_42 (dk_at dksX5_begins_2 17 rfl rfl)
theorem dX5_begins_66 : decode cX5_begins 66 = .ok (.getfield 25, 3) := dk_180 0 25 (dk_at dksX5_begins_2 18 rfl rfl)
theorem dX5_begins_69 : decode cX5_begins 69 = .ok (.iload_n 1, 1) := dk_27 (dk_at dksX5_begins_2 21 rfl rfl)
theorem dX5_begins_70 : decode cX5_begins 70 = .ok (.aload_n 0, 1) := dk_42 (dk_at dksX5_begins_2 22 rfl rfl)
theorem dX5_begins_71 : decode cX5_begins 71 = .ok (.getfield 3, 3) := dk_180 0 3 (dk_at dksX5_begins_3 0 rfl rfl)
theorem dX5_begins_74 : decode cX5_begins 74 = .ok (.iload_n 1, 1) := dk_27 (dk_at dksX5_begins_3 3 rfl rfl)
theorem dX5_begins_75 : decode cX5_begins 75 = .ok (.invokevirtual 54, 3) := dk_182 0 54 (dk_at dksX5_begins_3 4 rfl rfl)
theorem dX5_begins_78 : decode cX5_begins 78 = .ok (.getfield 64, 3) := dk_180 0 64 (dk_at dksX5_begins_3 7 rfl rfl)
theorem dX5_begins_81 : decode cX5_begins 81 = .ok (.iastore, 1) := dk_79 (dk_at dksX5_begins_3 10 rfl rfl)
theorem dX5_begins_82 : decode cX5_begins 82 = .ok (.aload_n 0, 1) := dk_42 (dk_at dksX5_begins_3 11 rfl rfl)
theorem dX5_begins_83 : decode cX5_begins 83 = .ok (.getfield 19, 3) := dk_180 0 19 (dk_at dksX5_begins_3 12 rfl rfl)
theorem dX5_begins_86 : decode cX5_begins 86 = .ok (.iload_n 1, 1) := dk_27 (dk_at dksX5_begins_3 15 rfl rfl)
theorem dX5_begins_87 : decode cX5_begins 87 = .ok (.bipush 10, 2) := dk_16 10 (dk_at dksX5_begins_3 16 rfl rfl)
theorem dX5_begins_89 : decode cX5_begins 89 = .ok (.aload_n 0, 1) := dk_42 (dk_at dksX5_begins_3 18 rfl rfl)
theorem dX5_begins_90 : decode cX5_begins 90 = .ok (.getfield 22, 3) := dk_180 0 22 (dk_at dksX5_begins_3 19 rfl rfl)
theorem dX5_begins_93 : decode cX5_begins 93 = .ok (.iload_n 1, 1) := dk_27 (dk_at dksX5_begins_3 22 rfl rfl)
theorem dX5_begins_94 : decode cX5_begins 94 = .ok (.iaload, 1) := dk_46 (dk_at dksX5_begins_3 23 rfl rfl)
theorem dX5_begins_95 : decode cX5_begins 95 = .ok (.imul, 1) := dk_104 (dk_at dksX5_begins_4 0 rfl rfl)
theorem dX5_begins_96 : decode cX5_begins 96 = .ok (.iastore, 1) := dk_79 (dk_at dksX5_begins_4 1 rfl rfl)
theorem dX5_begins_97 : decode cX5_begins 97 = .ok (.aload_n 0, 1) := dk_42 (dk_at dksX5_begins_4 2 rfl rfl)
theorem dX5_begins_98 : decode cX5_begins 98 = .ok (.getfield 28, 3) := dk_180 0 28 (dk_at dksX5_begins_4 3 rfl rfl)
theorem dX5_begins_101 : decode cX5_begins 101 = .ok (.iload_n 1, 1) := dk_27 (dk_at dksX5_begins_4 6 rfl rfl)
theorem dX5_begins_102 : decode cX5_begins 102 = .ok (.iconst 0, 1) := dk_3 (dk_at dksX5_begins_4 7 rfl rfl)
theorem dX5_begins_103 : decode cX5_begins 103 = .ok (.bastore, 1) := dk_84 (dk_at dksX5_begins_4 8 rfl rfl)
theorem dX5_begins_104 : decode cX5_begins 104 = .ok (.iconst 0, 1) := dk_3 (dk_at dksX5_begins_4 9 rfl rfl)
theorem dX5_begins_105 : decode cX5_begins 105 = .ok (.istore_n 2, 1) := dk_61 (dk_at dksX5_begins_4 10 rfl rfl)
theorem dX5_begins_106 : decode cX5_begins 106 = .ok (.iload_n 2, 1) := dk_28 (dk_at dksX5_begins_4 11 rfl rfl)
theorem dX5_begins_107 : decode cX5_begins 107 = .ok (.bipush 8, 2) := dk_16 8 (dk_at dksX5_begins_4 12 rfl rfl)
theorem dX5_begins_109 : decode cX5_begins 109 = .ok (.if_icmp .ge 30, 3) := dk_162 0 30 (dk_at dksX5_begins_4 14 rfl rfl)
theorem dX5_begins_112 : decode cX5_begins 112 = .ok (.aload_n 0, 1) := dk_42 (dk_at dksX5_begins_4 17 rfl rfl)
theorem dX5_begins_113 : decode cX5_begins 113 = .ok (.getfield 34, 3) := dk_180 0 34 (dk_at dksX5_begins_4 18 rfl rfl)
theorem dX5_begins_116 : decode cX5_begins 116 = .ok (.iload_n 1, 1) := dk_27 (dk_at dksX5_begins_4 21 rfl rfl)
theorem dX5_begins_117 : decode cX5_begins 117 = .ok (.aaload, 1) := dk_50 (dk_at dksX5_begins_4 22 rfl rfl)
theorem dX5_begins_118 : decode cX5_begins 118 = .ok (.iload_n 2, 1) := dk_28 (dk_at dksX5_begins_4 23 rfl rfl)
theorem dX5_begins_119 : decode cX5_begins 119 = .ok (.aload_n 0, 1) := dk_42 (dk_at dksX5_begins_5 0 rfl rfl)
theorem dX5_begins_120 : decode cX5_begins 120 = .ok (.getfield 3, 3) := dk_180 0 3 (dk_at dksX5_begins_5 1 rfl rfl)
theorem dX5_begins_123 : decode cX5_begins 123 = .ok (.iload_n 1, 1) := dk_27 (dk_at dksX5_begins_5 4 rfl rfl)
theorem dX5_begins_124 : decode cX5_begins 124 = .ok (.invokevirtual 54, 3) := dk_182 0 54 (dk_at dksX5_begins_5 5 rfl rfl)
theorem dX5_begins_127 : decode cX5_begins 127 = .ok (.getfield 66, 3) := dk_180 0 66 (dk_at dksX5_begins_5 8 rfl rfl)
theorem dX5_begins_130 : decode cX5_begins 130 = .ok (.iload_n 2, 1) := dk_28 (dk_at dksX5_begins_5 11 rfl rfl)
theorem dX5_begins_131 : decode cX5_begins 131 = .ok (.iaload, 1) := dk_46 (dk_at dksX5_begins_5 12 rfl rfl)
theorem dX5_begins_132 : decode cX5_begins 132 = .ok (.iastore, 1) := dk_79 (dk_at dksX5_begins_5 13 rfl rfl)
theorem dX5_begins_133 : decode cX5_begins 133 = .ok (.iinc 2 1, 3) := dk_132 2 1 (dk_at dksX5_begins_5 14 rfl rfl)
theorem dX5_begins_136 : decode cX5_begins 136 = .ok (.goto (-30), 3) := dk_167 255 226 (dk_at dksX5_begins_5 17 rfl rfl)
theorem dX5_begins_139 : decode cX5_begins 139 = .ok (.iinc 1 1, 3) := dk_132 1 1 (dk_at dksX5_begins_5 20 rfl rfl)
theorem dX5_begins_142 : decode cX5_begins 142 = .ok (.goto (-119), 3) := dk_167 255 137 (dk_at dksX5_begins_6 0 rfl rfl)
theorem dX5_begins_145 : decode cX5_begins 145 = .ok (.return_, 1) := dk_177 (dk_at dksX5_begins_6 3 rfl rfl)
abbrev cX5_feud : ByteArray := prog_15_method_16_code
def yX5_feud : MethodName := ⟨RX5, "feud", "(I)Z"⟩
def dkwX5_feud_4 : List UInt8 := [80, 42, 180, 0, 3, 180, 0, 82, 180, 0, 141, 42, 180, 0, 3, 180, 0, 72, 182, 0, 145, 172]
abbrev dktX5_feud_4 : List UInt8 := dkwX5_feud_4 ++ []
def dkwX5_feud_3 : List UInt8 := [182, 0, 92, 42, 180, 0, 3, 180, 0, 72, 180, 0, 76, 16, 7, 42, 180, 0, 34, 29, 50, 28, 46, 133]
abbrev dktX5_feud_3 : List UInt8 := dkwX5_feud_3 ++ dktX5_feud_4
def dkwX5_feud_2 : List UInt8 := [180, 0, 34, 29, 50, 28, 46, 96, 16, 6, 162, 0, 7, 4, 167, 0, 4, 3, 172, 42, 29, 28, 28, 29]
abbrev dktX5_feud_2 : List UInt8 := dkwX5_feud_2 ++ dktX5_feud_3
def dkwX5_feud_1 : List UInt8 := [3, 172, 42, 180, 0, 3, 180, 0, 82, 180, 0, 141, 199, 0, 31, 42, 180, 0, 34, 28, 50, 29, 46, 42]
abbrev dktX5_feud_1 : List UInt8 := dkwX5_feud_1 ++ dktX5_feud_2
def dkwX5_feud_0 : List UInt8 := [42, 27, 182, 0, 68, 61, 42, 27, 4, 96, 182, 0, 68, 62, 28, 2, 159, 0, 8, 29, 2, 160, 0, 5]
abbrev dktX5_feud_0 : List UInt8 := dkwX5_feud_0 ++ dktX5_feud_1
theorem dksX5_feud_0 : cX5_feud.data.toList.drop 0 = dktX5_feud_0 := by decide +kernel
theorem dksX5_feud_1 : cX5_feud.data.toList.drop 24 = dktX5_feud_1 := dk_seg dksX5_feud_0 24 rfl rfl
theorem dksX5_feud_2 : cX5_feud.data.toList.drop 48 = dktX5_feud_2 := dk_seg dksX5_feud_1 24 rfl rfl
theorem dksX5_feud_3 : cX5_feud.data.toList.drop 72 = dktX5_feud_3 := dk_seg dksX5_feud_2 24 rfl rfl
theorem dksX5_feud_4 : cX5_feud.data.toList.drop 96 = dktX5_feud_4 := dk_seg dksX5_feud_3 24 rfl rfl
theorem dX5_feud_0 : decode cX5_feud 0 = .ok (.aload_n 0, 1) := dk_42 (dk_at dksX5_feud_0 0 rfl rfl)
theorem dX5_feud_1 : decode cX5_feud 1 = .ok (.iload_n 1, 1) := dk_27 (dk_at dksX5_feud_0 1 rfl rfl)
theorem dX5_feud_2 : decode cX5_feud 2 = .ok (.invokevirtual 68, 3) := dk_182 0 68 (dk_at dksX5_feud_0 2 rfl rfl)
theorem dX5_feud_5 : decode cX5_feud 5 = .ok (.istore_n 2, 1) := dk_61 (dk_at dksX5_feud_0 5 rfl rfl)
theorem dX5_feud_6 : decode cX5_feud 6 = .ok (.aload_n 0, 1) := dk_42 (dk_at dksX5_feud_0 6 rfl rfl)
theorem dX5_feud_7 : decode cX5_feud 7 = .ok (.iload_n 1, 1) := dk_27 (dk_at dksX5_feud_0 7 rfl rfl)
theorem dX5_feud_8 : decode cX5_feud 8 = .ok (.iconst 1, 1) := dk_4 (dk_at dksX5_feud_0 8 rfl rfl)
theorem dX5_feud_9 : decode cX5_feud 9 = .ok (.iadd, 1) := dk_96 (dk_at dksX5_feud_0 9 rfl rfl)
theorem dX5_feud_10 : decode cX5_feud 10 = .ok (.invokevirtual 68, 3) := dk_182 0 68 (dk_at dksX5_feud_0 10 rfl rfl)
theorem dX5_feud_13 : decode cX5_feud 13 = .ok (.istore_n 3, 1) := dk_62 (dk_at dksX5_feud_0 13 rfl rfl)
theorem dX5_feud_14 : decode cX5_feud 14 = .ok (.iload_n 2, 1) := dk_28 (dk_at dksX5_feud_0 14 rfl rfl)
theorem dX5_feud_15 : decode cX5_feud 15 = .ok (.iconst (-1), 1) := dk_2 (dk_at dksX5_feud_0 15 rfl rfl)
theorem dX5_feud_16 : decode cX5_feud 16 = .ok (.if_icmp .eq 8, 3) := dk_159 0 8 (dk_at dksX5_feud_0 16 rfl rfl)
theorem dX5_feud_19 : decode cX5_feud 19 = .ok (.iload_n 3, 1) := dk_29 (dk_at dksX5_feud_0 19 rfl rfl)
theorem dX5_feud_20 : decode cX5_feud 20 = .ok (.iconst (-1), 1) := dk_2 (dk_at dksX5_feud_0 20 rfl rfl)
theorem dX5_feud_21 : decode cX5_feud 21 = .ok (.if_icmp .ne 5, 3) := dk_160 0 5 (dk_at dksX5_feud_0 21 rfl rfl)
theorem dX5_feud_24 : decode cX5_feud 24 = .ok (.iconst 0, 1) := dk_3 (dk_at dksX5_feud_1 0 rfl rfl)
theorem dX5_feud_25 : decode cX5_feud 25 = .ok (.ireturn, 1) := dk_172 (dk_at dksX5_feud_1 1 rfl rfl)
theorem dX5_feud_26 : decode cX5_feud 26 = .ok (.aload_n 0, 1) := dk_42 (dk_at dksX5_feud_1 2 rfl rfl)
theorem dX5_feud_27 : decode cX5_feud 27 = .ok (.getfield 3, 3) := dk_180 0 3 (dk_at dksX5_feud_1 3 rfl rfl)
theorem dX5_feud_30 : decode cX5_feud 30 = .ok (.getfield 82, 3) := dk_180 0 82 (dk_at dksX5_feud_1 6 rfl rfl)
theorem dX5_feud_33 : decode cX5_feud 33 = .ok (.getfield 141, 3) := dk_180 0 141 (dk_at dksX5_feud_1 9 rfl rfl)
theorem dX5_feud_36 : decode cX5_feud 36 = .ok (.ifnonnull 31, 3) := dk_199 0 31 (dk_at dksX5_feud_1 12 rfl rfl)
theorem dX5_feud_39 : decode cX5_feud 39 = .ok (.aload_n 0, 1) := dk_42 (dk_at dksX5_feud_1 15 rfl rfl)
theorem dX5_feud_40 : decode cX5_feud 40 = .ok (.getfield 34, 3) := dk_180 0 34 (dk_at dksX5_feud_1 16 rfl rfl)
theorem dX5_feud_43 : decode cX5_feud 43 = .ok (.iload_n 2, 1) := dk_28 (dk_at dksX5_feud_1 19 rfl rfl)
theorem dX5_feud_44 : decode cX5_feud 44 = .ok (.aaload, 1) := dk_50 (dk_at dksX5_feud_1 20 rfl rfl)
theorem dX5_feud_45 : decode cX5_feud 45 = .ok (.iload_n 3, 1) := dk_29 (dk_at dksX5_feud_1 21 rfl rfl)
theorem dX5_feud_46 : decode cX5_feud 46 = .ok (.iaload, 1) := dk_46 (dk_at dksX5_feud_1 22 rfl rfl)
theorem dX5_feud_47 : decode cX5_feud 47 = .ok (.aload_n 0, 1) := dk_42 (dk_at dksX5_feud_1 23 rfl rfl)
theorem dX5_feud_48 : decode cX5_feud 48 = .ok (.getfield 34, 3) := dk_180 0 34 (dk_at dksX5_feud_2 0 rfl rfl)
theorem dX5_feud_51 : decode cX5_feud 51 = .ok (.iload_n 3, 1) := dk_29 (dk_at dksX5_feud_2 3 rfl rfl)
theorem dX5_feud_52 : decode cX5_feud 52 = .ok (.aaload, 1) := dk_50 (dk_at dksX5_feud_2 4 rfl rfl)
theorem dX5_feud_53 : decode cX5_feud 53 = .ok (.iload_n 2, 1) := dk_28 (dk_at dksX5_feud_2 5 rfl rfl)
theorem dX5_feud_54 : decode cX5_feud 54 = .ok (.iaload, 1) := dk_46 (dk_at dksX5_feud_2 6 rfl rfl)
theorem dX5_feud_55 : decode cX5_feud 55 = .ok (.iadd, 1) := dk_96 (dk_at dksX5_feud_2 7 rfl rfl)
theorem dX5_feud_56 : decode cX5_feud 56 = .ok (.bipush 6, 2) := dk_16 6 (dk_at dksX5_feud_2 8 rfl rfl)
theorem dX5_feud_58 : decode cX5_feud 58 = .ok (.if_icmp .ge 7, 3) := dk_162 0 7 (dk_at dksX5_feud_2 10 rfl rfl)
theorem dX5_feud_61 : decode cX5_feud 61 = .ok (.iconst 1, 1) := dk_4 (dk_at dksX5_feud_2 13 rfl rfl)
theorem dX5_feud_62 : decode cX5_feud 62 = .ok (.goto 4, 3) := dk_167 0 4 (dk_at dksX5_feud_2 14 rfl rfl)
theorem dX5_feud_65 : decode cX5_feud 65 = .ok (.iconst 0, 1) := dk_3 (dk_at dksX5_feud_2 17 rfl rfl)
theorem dX5_feud_66 : decode cX5_feud 66 = .ok (.ireturn, 1) := dk_172 (dk_at dksX5_feud_2 18 rfl rfl)
theorem dX5_feud_67 : decode cX5_feud 67 = .ok (.aload_n 0, 1) := dk_42 (dk_at dksX5_feud_2 19 rfl rfl)
theorem dX5_feud_68 : decode cX5_feud 68 = .ok (.iload_n 3, 1) := dk_29 (dk_at dksX5_feud_2 20 rfl rfl)
theorem dX5_feud_69 : decode cX5_feud 69 = .ok (.iload_n 2, 1) := dk_28 (dk_at dksX5_feud_2 21 rfl rfl)
theorem dX5_feud_70 : decode cX5_feud 70 = .ok (.iload_n 2, 1) := dk_28 (dk_at dksX5_feud_2 22 rfl rfl)
theorem dX5_feud_71 : decode cX5_feud 71 = .ok (.iload_n 3, 1) := dk_29 (dk_at dksX5_feud_2 23 rfl rfl)
theorem dX5_feud_72 : decode cX5_feud 72 = .ok (.invokevirtual 92, 3) := dk_182 0 92 (dk_at dksX5_feud_3 0 rfl rfl)
theorem dX5_feud_75 : decode cX5_feud 75 = .ok (.aload_n 0, 1) := dk_42 (dk_at dksX5_feud_3 3 rfl rfl)
theorem dX5_feud_76 : decode cX5_feud 76 = .ok (.getfield 3, 3) := dk_180 0 3 (dk_at dksX5_feud_3 4 rfl rfl)
theorem dX5_feud_79 : decode cX5_feud 79 = .ok (.getfield 72, 3) := dk_180 0 72 (dk_at dksX5_feud_3 7 rfl rfl)
theorem dX5_feud_82 : decode cX5_feud 82 = .ok (.getfield 76, 3) := dk_180 0 76 (dk_at dksX5_feud_3 10 rfl rfl)
theorem dX5_feud_85 : decode cX5_feud 85 = .ok (.bipush 7, 2) := dk_16 7 (dk_at dksX5_feud_3 13 rfl rfl)
theorem dX5_feud_87 : decode cX5_feud 87 = .ok (.aload_n 0, 1) := dk_42 (dk_at dksX5_feud_3 15 rfl rfl)
theorem dX5_feud_88 : decode cX5_feud 88 = .ok (.getfield 34, 3) := dk_180 0 34 (dk_at dksX5_feud_3 16 rfl rfl)
theorem dX5_feud_91 : decode cX5_feud 91 = .ok (.iload_n 3, 1) := dk_29 (dk_at dksX5_feud_3 19 rfl rfl)
theorem dX5_feud_92 : decode cX5_feud 92 = .ok (.aaload, 1) := dk_50 (dk_at dksX5_feud_3 20 rfl rfl)
theorem dX5_feud_93 : decode cX5_feud 93 = .ok (.iload_n 2, 1) := dk_28 (dk_at dksX5_feud_3 21 rfl rfl)
theorem dX5_feud_94 : decode cX5_feud 94 = .ok (.iaload, 1) := dk_46 (dk_at dksX5_feud_3 22 rfl rfl)
theorem dX5_feud_95 : decode cX5_feud 95 = .ok (.i2l, 1) := dk_133 (dk_at dksX5_feud_3 23 rfl rfl)
theorem dX5_feud_96 : decode cX5_feud 96 = .ok (.lastore, 1) := dk_80 (dk_at dksX5_feud_4 0 rfl rfl)
theorem dX5_feud_97 : decode cX5_feud 97 = .ok (.aload_n 0, 1) := dk_42 (dk_at dksX5_feud_4 1 rfl rfl)
theorem dX5_feud_98 : decode cX5_feud 98 = .ok (.getfield 3, 3) := dk_180 0 3 (dk_at dksX5_feud_4 2 rfl rfl)
theorem dX5_feud_101 : decode cX5_feud 101 = .ok (.getfield 82, 3) := dk_180 0 82 (dk_at dksX5_feud_4 5 rfl rfl)
theorem dX5_feud_104 : decode cX5_feud 104 = .ok (.getfield 141, 3) := dk_180 0 141 (dk_at dksX5_feud_4 8 rfl rfl)
theorem dX5_feud_107 : decode cX5_feud 107 = .ok (.aload_n 0, 1) := dk_42 (dk_at dksX5_feud_4 11 rfl rfl)
theorem dX5_feud_108 : decode cX5_feud 108 = .ok (.getfield 3, 3) := dk_180 0 3 (dk_at dksX5_feud_4 12 rfl rfl)
theorem dX5_feud_111 : decode cX5_feud 111 = .ok (.getfield 72, 3) := dk_180 0 72 (dk_at dksX5_feud_4 15 rfl rfl)
theorem dX5_feud_114 : decode cX5_feud 114 = .ok (.invokevirtual 145, 3) := dk_182 0 145 (dk_at dksX5_feud_4 18 rfl rfl)
theorem dX5_feud_117 : decode cX5_feud 117 = .ok (.ireturn, 1) := dk_172 (dk_at dksX5_feud_4 21 rfl rfl)
abbrev cX5_who : ByteArray := prog_15_method_4_code
def yX5_who : MethodName := ⟨RX5, "who", "(I)I"⟩
def dkwX5_who_1 : List UInt8 := [132, 2, 1, 167, 255, 233, 2, 172]
abbrev dktX5_who_1 : List UInt8 := dkwX5_who_1 ++ []
def dkwX5_who_0 : List UInt8 := [3, 61, 28, 42, 180, 0, 51, 162, 0, 21, 42, 180, 0, 15, 28, 46, 27, 160, 0, 5, 28, 172]
abbrev dktX5_who_0 : List UInt8 := dkwX5_who_0 ++ dktX5_who_1
theorem dksX5_who_0 : cX5_who.data.toList.drop 0 = dktX5_who_0 := by decide +kernel
theorem dksX5_who_1 : cX5_who.data.toList.drop 22 = dktX5_who_1 := dk_seg dksX5_who_0 22 rfl rfl
theorem dX5_who_0 : decode cX5_who 0 = .ok (.iconst 0, 1) := dk_3 (dk_at dksX5_who_0 0 rfl rfl)
theorem dX5_who_1 : decode cX5_who 1 = .ok (.istore_n 2, 1) := dk_61 (dk_at dksX5_who_0 1 rfl rfl)
theorem dX5_who_2 : decode cX5_who 2 = .ok (.iload_n 2, 1) := dk_28 (dk_at dksX5_who_0 2 rfl rfl)
theorem dX5_who_3 : decode cX5_who 3 = .ok (.aload_n 0, 1) := dk_42 (dk_at dksX5_who_0 3 rfl rfl)
theorem dX5_who_4 : decode cX5_who 4 = .ok (.getfield 51, 3) := dk_180 0 51 (dk_at dksX5_who_0 4 rfl rfl)
theorem dX5_who_7 : decode cX5_who 7 = .ok (.if_icmp .ge 21, 3) := dk_162 0 21 (dk_at dksX5_who_0 7 rfl rfl)
theorem dX5_who_10 : decode cX5_who 10 = .ok (.aload_n 0, 1) := dk_42 (dk_at dksX5_who_0 10 rfl rfl)
theorem dX5_who_11 : decode cX5_who 11 = .ok (.getfield 15, 3) := dk_180 0 15 (dk_at dksX5_who_0 11 rfl rfl)
theorem dX5_who_14 : decode cX5_who 14 = .ok (.iload_n 2, 1) := dk_28 (dk_at dksX5_who_0 14 rfl rfl)
theorem dX5_who_15 : decode cX5_who 15 = .ok (.iaload, 1) := dk_46 (dk_at dksX5_who_0 15 rfl rfl)
theorem dX5_who_16 : decode cX5_who 16 = .ok (.iload_n 1, 1) := dk_27 (dk_at dksX5_who_0 16 rfl rfl)
theorem dX5_who_17 : decode cX5_who 17 = .ok (.if_icmp .ne 5, 3) := dk_160 0 5 (dk_at dksX5_who_0 17 rfl rfl)
theorem dX5_who_20 : decode cX5_who 20 = .ok (.iload_n 2, 1) := dk_28 (dk_at dksX5_who_0 20 rfl rfl)
theorem dX5_who_21 : decode cX5_who 21 = .ok (.ireturn, 1) := dk_172 (dk_at dksX5_who_0 21 rfl rfl)
theorem dX5_who_22 : decode cX5_who 22 = .ok (.iinc 2 1, 3) := dk_132 2 1 (dk_at dksX5_who_1 0 rfl rfl)
theorem dX5_who_25 : decode cX5_who 25 = .ok (.goto (-23), 3) := dk_167 255 233 (dk_at dksX5_who_1 3 rfl rfl)
theorem dX5_who_28 : decode cX5_who 28 = .ok (.iconst (-1), 1) := dk_2 (dk_at dksX5_who_1 6 rfl rfl)
theorem dX5_who_29 : decode cX5_who 29 = .ok (.ireturn, 1) := dk_172 (dk_at dksX5_who_1 7 rfl rfl)
abbrev cX5_asks : ByteArray := prog_15_method_6_code
def yX5_asks : MethodName := ⟨RX5, "asks", "(IIII)V"⟩
def dkwX5_asks_3 : List UInt8 := [180, 0, 76, 6, 42, 180, 0, 40, 133, 80, 177]
abbrev dktX5_asks_3 : List UInt8 := dkwX5_asks_3 ++ []
def dkwX5_asks_2 : List UInt8 := [180, 0, 76, 5, 42, 180, 0, 34, 29, 50, 21, 4, 46, 133, 80, 42, 180, 0, 3, 180, 0, 72]
abbrev dktX5_asks_2 : List UInt8 := dkwX5_asks_2 ++ dktX5_asks_3
def dkwX5_asks_1 : List UInt8 := [180, 0, 72, 180, 0, 76, 4, 42, 180, 0, 25, 28, 46, 133, 80, 42, 180, 0, 3, 180, 0, 72]
abbrev dktX5_asks_1 : List UInt8 := dkwX5_asks_1 ++ dktX5_asks_2
def dkwX5_asks_0 : List UInt8 := [42, 180, 0, 3, 180, 0, 72, 180, 0, 76, 3, 42, 180, 0, 22, 27, 46, 133, 80, 42, 180, 0, 3]
abbrev dktX5_asks_0 : List UInt8 := dkwX5_asks_0 ++ dktX5_asks_1
theorem dksX5_asks_0 : cX5_asks.data.toList.drop 0 = dktX5_asks_0 := by decide +kernel
theorem dksX5_asks_1 : cX5_asks.data.toList.drop 23 = dktX5_asks_1 := dk_seg dksX5_asks_0 23 rfl rfl
theorem dksX5_asks_2 : cX5_asks.data.toList.drop 45 = dktX5_asks_2 := dk_seg dksX5_asks_1 22 rfl rfl
theorem dksX5_asks_3 : cX5_asks.data.toList.drop 67 = dktX5_asks_3 := dk_seg dksX5_asks_2 22 rfl rfl
theorem dX5_asks_0 : decode cX5_asks 0 = .ok (.aload_n 0, 1) := dk_42 (dk_at dksX5_asks_0 0 rfl rfl)
theorem dX5_asks_1 : decode cX5_asks 1 = .ok (.getfield 3, 3) := dk_180 0 3 (dk_at dksX5_asks_0 1 rfl rfl)
theorem dX5_asks_4 : decode cX5_asks 4 = .ok (.getfield 72, 3) := dk_180 0 72 (dk_at dksX5_asks_0 4 rfl rfl)
theorem dX5_asks_7 : decode cX5_asks 7 = .ok (.getfield 76, 3) := dk_180 0 76 (dk_at dksX5_asks_0 7 rfl rfl)
theorem dX5_asks_10 : decode cX5_asks 10 = .ok (.iconst 0, 1) := dk_3 (dk_at dksX5_asks_0 10 rfl rfl)
theorem dX5_asks_11 : decode cX5_asks 11 = .ok (.aload_n 0, 1) := dk_42 (dk_at dksX5_asks_0 11 rfl rfl)
theorem dX5_asks_12 : decode cX5_asks 12 = .ok (.getfield 22, 3) := dk_180 0 22 (dk_at dksX5_asks_0 12 rfl rfl)
theorem dX5_asks_15 : decode cX5_asks 15 = .ok (.iload_n 1, 1) := dk_27 (dk_at dksX5_asks_0 15 rfl rfl)
theorem dX5_asks_16 : decode cX5_asks 16 = .ok (.iaload, 1) := dk_46 (dk_at dksX5_asks_0 16 rfl rfl)
theorem dX5_asks_17 : decode cX5_asks 17 = .ok (.i2l, 1) := dk_133 (dk_at dksX5_asks_0 17 rfl rfl)
theorem dX5_asks_18 : decode cX5_asks 18 = .ok (.lastore, 1) := dk_80 (dk_at dksX5_asks_0 18 rfl rfl)
theorem dX5_asks_19 : decode cX5_asks 19 = .ok (.aload_n 0, 1) := dk_42 (dk_at dksX5_asks_0 19 rfl rfl)
theorem dX5_asks_20 : decode cX5_asks 20 = .ok (.getfield 3, 3) := dk_180 0 3 (dk_at dksX5_asks_0 20 rfl rfl)
theorem dX5_asks_23 : decode cX5_asks 23 = .ok (.getfield 72, 3) := dk_180 0 72 (dk_at dksX5_asks_1 0 rfl rfl)
theorem dX5_asks_26 : decode cX5_asks 26 = .ok (.getfield 76, 3) := dk_180 0 76 (dk_at dksX5_asks_1 3 rfl rfl)
theorem dX5_asks_29 : decode cX5_asks 29 = .ok (.iconst 1, 1) := dk_4 (dk_at dksX5_asks_1 6 rfl rfl)
theorem dX5_asks_30 : decode cX5_asks 30 = .ok (.aload_n 0, 1) := dk_42 (dk_at dksX5_asks_1 7 rfl rfl)
theorem dX5_asks_31 : decode cX5_asks 31 = .ok (.getfield 25, 3) := dk_180 0 25 (dk_at dksX5_asks_1 8 rfl rfl)
theorem dX5_asks_34 : decode cX5_asks 34 = .ok (.iload_n 2, 1) := dk_28 (dk_at dksX5_asks_1 11 rfl rfl)
theorem dX5_asks_35 : decode cX5_asks 35 = .ok (.iaload, 1) := dk_46 (dk_at dksX5_asks_1 12 rfl rfl)
theorem dX5_asks_36 : decode cX5_asks 36 = .ok (.i2l, 1) := dk_133 (dk_at dksX5_asks_1 13 rfl rfl)
theorem dX5_asks_37 : decode cX5_asks 37 = .ok (.lastore, 1) := dk_80 (dk_at dksX5_asks_1 14 rfl rfl)
theorem dX5_asks_38 : decode cX5_asks 38 = .ok (.aload_n 0, 1) := dk_42 (dk_at dksX5_asks_1 15 rfl rfl)
theorem dX5_asks_39 : decode cX5_asks 39 = .ok (.getfield 3, 3) := dk_180 0 3 (dk_at dksX5_asks_1 16 rfl rfl)
theorem dX5_asks_42 : decode cX5_asks 42 = .ok (.getfield 72, 3) := dk_180 0 72 (dk_at dksX5_asks_1 19 rfl rfl)
theorem dX5_asks_45 : decode cX5_asks 45 = .ok (.getfield 76, 3) := dk_180 0 76 (dk_at dksX5_asks_2 0 rfl rfl)
theorem dX5_asks_48 : decode cX5_asks 48 = .ok (.iconst 2, 1) := dk_5 (dk_at dksX5_asks_2 3 rfl rfl)
theorem dX5_asks_49 : decode cX5_asks 49 = .ok (.aload_n 0, 1) := dk_42 (dk_at dksX5_asks_2 4 rfl rfl)
theorem dX5_asks_50 : decode cX5_asks 50 = .ok (.getfield 34, 3) := dk_180 0 34 (dk_at dksX5_asks_2 5 rfl rfl)
theorem dX5_asks_53 : decode cX5_asks 53 = .ok (.iload_n 3, 1) := dk_29 (dk_at dksX5_asks_2 8 rfl rfl)
theorem dX5_asks_54 : decode cX5_asks 54 = .ok (.aaload, 1) := dk_50 (dk_at dksX5_asks_2 9 rfl rfl)
theorem dX5_asks_55 : decode cX5_asks 55 = .ok (.iload 4, 2) := dk_21 4 (dk_at dksX5_asks_2 10 rfl rfl)
theorem dX5_asks_57 : decode cX5_asks 57 = .ok (.iaload, 1) := dk_46 (dk_at dksX5_asks_2 12 rfl rfl)
theorem dX5_asks_58 : decode cX5_asks 58 = .ok (.i2l, 1) := dk_133 (dk_at dksX5_asks_2 13 rfl rfl)
theorem dX5_asks_59 : decode cX5_asks 59 = .ok (.lastore, 1) := dk_80 (dk_at dksX5_asks_2 14 rfl rfl)
theorem dX5_asks_60 : decode cX5_asks 60 = .ok (.aload_n 0, 1) := dk_42 (dk_at dksX5_asks_2 15 rfl rfl)
theorem dX5_asks_61 : decode cX5_asks 61 = .ok (.getfield 3, 3) := dk_180 0 3 (dk_at dksX5_asks_2 16 rfl rfl)
theorem dX5_asks_64 : decode cX5_asks 64 = .ok (.getfield 72, 3) := dk_180 0 72 (dk_at dksX5_asks_2 19 rfl rfl)
theorem dX5_asks_67 : decode cX5_asks 67 = .ok (.getfield 76, 3) := dk_180 0 76 (dk_at dksX5_asks_3 0 rfl rfl)
theorem dX5_asks_70 : decode cX5_asks 70 = .ok (.iconst 3, 1) := dk_6 (dk_at dksX5_asks_3 3 rfl rfl)
theorem dX5_asks_71 : decode cX5_asks 71 = .ok (.aload_n 0, 1) := dk_42 (dk_at dksX5_asks_3 4 rfl rfl)
theorem dX5_asks_72 : decode cX5_asks 72 = .ok (.getfield 40, 3) := dk_180 0 40 (dk_at dksX5_asks_3 5 rfl rfl)
theorem dX5_asks_75 : decode cX5_asks 75 = .ok (.i2l, 1) := dk_133 (dk_at dksX5_asks_3 8 rfl rfl)
theorem dX5_asks_76 : decode cX5_asks 76 = .ok (.lastore, 1) := dk_80 (dk_at dksX5_asks_3 9 rfl rfl)
theorem dX5_asks_77 : decode cX5_asks 77 = .ok (.return_, 1) := dk_177 (dk_at dksX5_asks_3 10 rfl rfl)
abbrev cX5_looks : ByteArray := prog_15_method_13_code
def yX5_looks : MethodName := ⟨RX5, "looks", "()I"⟩
def dkwX5_looks_1 : List UInt8 := [167, 255, 236, 27, 172]
abbrev dktX5_looks_1 : List UInt8 := dkwX5_looks_1 ++ []
def dkwX5_looks_0 : List UInt8 := [3, 60, 3, 61, 28, 42, 180, 0, 51, 162, 0, 18, 27, 42, 180, 0, 19, 28, 46, 96, 60, 132, 2, 1]
abbrev dktX5_looks_0 : List UInt8 := dkwX5_looks_0 ++ dktX5_looks_1
theorem dksX5_looks_0 : cX5_looks.data.toList.drop 0 = dktX5_looks_0 := by decide +kernel
theorem dksX5_looks_1 : cX5_looks.data.toList.drop 24 = dktX5_looks_1 := dk_seg dksX5_looks_0 24 rfl rfl
theorem dX5_looks_0 : decode cX5_looks 0 = .ok (.iconst 0, 1) := dk_3 (dk_at dksX5_looks_0 0 rfl rfl)
theorem dX5_looks_1 : decode cX5_looks 1 = .ok (.istore_n 1, 1) := dk_60 (dk_at dksX5_looks_0 1 rfl rfl)
theorem dX5_looks_2 : decode cX5_looks 2 = .ok (.iconst 0, 1) := dk_3 (dk_at dksX5_looks_0 2 rfl rfl)
theorem dX5_looks_3 : decode cX5_looks 3 = .ok (.istore_n 2, 1) := dk_61 (dk_at dksX5_looks_0 3 rfl rfl)
theorem dX5_looks_4 : decode cX5_looks 4 = .ok (.iload_n 2, 1) := dk_28 (dk_at dksX5_looks_0 4 rfl rfl)
theorem dX5_looks_5 : decode cX5_looks 5 = .ok (.aload_n 0, 1) := dk_42 (dk_at dksX5_looks_0 5 rfl rfl)
theorem dX5_looks_6 : decode cX5_looks 6 = .ok (.getfield 51, 3) := dk_180 0 51 (dk_at dksX5_looks_0 6 rfl rfl)
theorem dX5_looks_9 : decode cX5_looks 9 = .ok (.if_icmp .ge 18, 3) := dk_162 0 18 (dk_at dksX5_looks_0 9 rfl rfl)
theorem dX5_looks_12 : decode cX5_looks 12 = .ok (.iload_n 1, 1) := dk_27 (dk_at dksX5_looks_0 12 rfl rfl)
theorem dX5_looks_13 : decode cX5_looks 13 = .ok (.aload_n 0, 1) := dk_42 (dk_at dksX5_looks_0 13 rfl rfl)
theorem dX5_looks_14 : decode cX5_looks 14 = .ok (.getfield 19, 3) := dk_180 0 19 (dk_at dksX5_looks_0 14 rfl rfl)
theorem dX5_looks_17 : decode cX5_looks 17 = .ok (.iload_n 2, 1) := dk_28 (dk_at dksX5_looks_0 17 rfl rfl)
theorem dX5_looks_18 : decode cX5_looks 18 = .ok (.iaload, 1) := dk_46 (dk_at dksX5_looks_0 18 rfl rfl)
theorem dX5_looks_19 : decode cX5_looks 19 = .ok (.iadd, 1) := dk_96 (dk_at dksX5_looks_0 19 rfl rfl)
theorem dX5_looks_20 : decode cX5_looks 20 = .ok (.istore_n 1, 1) := dk_60 (dk_at dksX5_looks_0 20 rfl rfl)
theorem dX5_looks_21 : decode cX5_looks 21 = .ok (.iinc 2 1, 3) := dk_132 2 1 (dk_at dksX5_looks_0 21 rfl rfl)
theorem dX5_looks_24 : decode cX5_looks 24 = .ok (.goto (-20), 3) := dk_167 255 236 (dk_at dksX5_looks_1 0 rfl rfl)
theorem dX5_looks_27 : decode cX5_looks 27 = .ok (.iload_n 1, 1) := dk_27 (dk_at dksX5_looks_1 3 rfl rfl)
theorem dX5_looks_28 : decode cX5_looks 28 = .ok (.ireturn, 1) := dk_172 (dk_at dksX5_looks_1 4 rfl rfl)
abbrev cX5_beside : ByteArray := prog_15_method_5_code
def yX5_beside : MethodName := ⟨RX5, "beside", "(II)I"⟩
def dkwX5_beside_0 : List UInt8 := [42, 42, 180, 0, 15, 27, 46, 28, 154, 0, 7, 2, 167, 0, 4, 4, 96, 182, 0, 68, 172]
abbrev dktX5_beside_0 : List UInt8 := dkwX5_beside_0 ++ []
theorem dksX5_beside_0 : cX5_beside.data.toList.drop 0 = dktX5_beside_0 := by decide +kernel
theorem dX5_beside_0 : decode cX5_beside 0 = .ok (.aload_n 0, 1) := dk_42 (dk_at dksX5_beside_0 0 rfl rfl)
theorem dX5_beside_1 : decode cX5_beside 1 = .ok (.aload_n 0, 1) := dk_42 (dk_at dksX5_beside_0 1 rfl rfl)
theorem dX5_beside_2 : decode cX5_beside 2 = .ok (.getfield 15, 3) := dk_180 0 15 (dk_at dksX5_beside_0 2 rfl rfl)
theorem dX5_beside_5 : decode cX5_beside 5 = .ok (.iload_n 1, 1) := dk_27 (dk_at dksX5_beside_0 5 rfl rfl)
theorem dX5_beside_6 : decode cX5_beside 6 = .ok (.iaload, 1) := dk_46 (dk_at dksX5_beside_0 6 rfl rfl)
theorem dX5_beside_7 : decode cX5_beside 7 = .ok (.iload_n 2, 1) := dk_28 (dk_at dksX5_beside_0 7 rfl rfl)
theorem dX5_beside_8 : decode cX5_beside 8 = .ok (.ifCond .ne 7, 3) := dk_154 0 7 (dk_at dksX5_beside_0 8 rfl rfl)
theorem dX5_beside_11 : decode cX5_beside 11 = .ok (.iconst (-1), 1) := dk_2 (dk_at dksX5_beside_0 11 rfl rfl)
theorem dX5_beside_12 : decode cX5_beside 12 = .ok (.goto 4, 3) := dk_167 0 4 (dk_at dksX5_beside_0 12 rfl rfl)
theorem dX5_beside_15 : decode cX5_beside 15 = .ok (.iconst 1, 1) := dk_4 (dk_at dksX5_beside_0 15 rfl rfl)
theorem dX5_beside_16 : decode cX5_beside 16 = .ok (.iadd, 1) := dk_96 (dk_at dksX5_beside_0 16 rfl rfl)
theorem dX5_beside_17 : decode cX5_beside 17 = .ok (.invokevirtual 68, 3) := dk_182 0 68 (dk_at dksX5_beside_0 17 rfl rfl)
theorem dX5_beside_20 : decode cX5_beside 20 = .ok (.ireturn, 1) := dk_172 (dk_at dksX5_beside_0 20 rfl rfl)
abbrev cX5_paints : ByteArray := prog_15_method_7_code
def yX5_paints : MethodName := ⟨RX5, "paints", "(III)I"⟩
def dkwX5_paints_3 : List UInt8 := [180, 0, 86, 42, 180, 0, 3, 180, 0, 72, 182, 0, 98, 184, 0, 104, 184, 0, 110, 136, 172]
abbrev dktX5_paints_3 : List UInt8 := dkwX5_paints_3 ++ []
def dkwX5_paints_2 : List UInt8 := [180, 0, 3, 180, 0, 72, 180, 0, 76, 8, 29, 133, 80, 9, 20, 0, 96, 42, 180, 0, 3, 180, 0, 82]
abbrev dktX5_paints_2 : List UInt8 := dkwX5_paints_2 ++ dktX5_paints_3
def dkwX5_paints_1 : List UInt8 := [27, 182, 0, 92, 42, 180, 0, 3, 180, 0, 72, 180, 0, 76, 7, 42, 180, 0, 19, 27, 46, 133, 80, 42]
abbrev dktX5_paints_1 : List UInt8 := dkwX5_paints_1 ++ dktX5_paints_2
def dkwX5_paints_0 : List UInt8 := [42, 180, 0, 3, 180, 0, 82, 180, 0, 86, 199, 0, 10, 42, 180, 0, 19, 27, 46, 172, 42, 27, 28, 28]
abbrev dktX5_paints_0 : List UInt8 := dkwX5_paints_0 ++ dktX5_paints_1
theorem dksX5_paints_0 : cX5_paints.data.toList.drop 0 = dktX5_paints_0 := by decide +kernel
theorem dksX5_paints_1 : cX5_paints.data.toList.drop 24 = dktX5_paints_1 := dk_seg dksX5_paints_0 24 rfl rfl
theorem dksX5_paints_2 : cX5_paints.data.toList.drop 48 = dktX5_paints_2 := dk_seg dksX5_paints_1 24 rfl rfl
theorem dksX5_paints_3 : cX5_paints.data.toList.drop 72 = dktX5_paints_3 := dk_seg dksX5_paints_2 24 rfl rfl
theorem dX5_paints_0 : decode cX5_paints 0 = .ok (.aload_n 0, 1) := dk_42 (dk_at dksX5_paints_0 0 rfl rfl)
theorem dX5_paints_1 : decode cX5_paints 1 = .ok (.getfield 3, 3) := dk_180 0 3 (dk_at dksX5_paints_0 1 rfl rfl)
theorem dX5_paints_4 : decode cX5_paints 4 = .ok (.getfield 82, 3) := dk_180 0 82 (dk_at dksX5_paints_0 4 rfl rfl)
theorem dX5_paints_7 : decode cX5_paints 7 = .ok (.getfield 86, 3) := dk_180 0 86 (dk_at dksX5_paints_0 7 rfl rfl)
theorem dX5_paints_10 : decode cX5_paints 10 = .ok (.ifnonnull 10, 3) := dk_199 0 10 (dk_at dksX5_paints_0 10 rfl rfl)
theorem dX5_paints_13 : decode cX5_paints 13 = .ok (.aload_n 0, 1) := dk_42 (dk_at dksX5_paints_0 13 rfl rfl)
theorem dX5_paints_14 : decode cX5_paints 14 = .ok (.getfield 19, 3) := dk_180 0 19 (dk_at dksX5_paints_0 14 rfl rfl)
theorem dX5_paints_17 : decode cX5_paints 17 = .ok (.iload_n 1, 1) := dk_27 (dk_at dksX5_paints_0 17 rfl rfl)
theorem dX5_paints_18 : decode cX5_paints 18 = .ok (.iaload, 1) := dk_46 (dk_at dksX5_paints_0 18 rfl rfl)
theorem dX5_paints_19 : decode cX5_paints 19 = .ok (.ireturn, 1) := dk_172 (dk_at dksX5_paints_0 19 rfl rfl)
theorem dX5_paints_20 : decode cX5_paints 20 = .ok (.aload_n 0, 1) := dk_42 (dk_at dksX5_paints_0 20 rfl rfl)
theorem dX5_paints_21 : decode cX5_paints 21 = .ok (.iload_n 1, 1) := dk_27 (dk_at dksX5_paints_0 21 rfl rfl)
theorem dX5_paints_22 : decode cX5_paints 22 = .ok (.iload_n 2, 1) := dk_28 (dk_at dksX5_paints_0 22 rfl rfl)
theorem dX5_paints_23 : decode cX5_paints 23 = .ok (.iload_n 2, 1) := dk_28 (dk_at dksX5_paints_0 23 rfl rfl)
theorem dX5_paints_24 : decode cX5_paints 24 = .ok (.iload_n 1, 1) := dk_27 (dk_at dksX5_paints_1 0 rfl rfl)
theorem dX5_paints_25 : decode cX5_paints 25 = .ok (.invokevirtual 92, 3) := dk_182 0 92 (dk_at dksX5_paints_1 1 rfl rfl)
theorem dX5_paints_28 : decode cX5_paints 28 = .ok (.aload_n 0, 1) := dk_42 (dk_at dksX5_paints_1 4 rfl rfl)
theorem dX5_paints_29 : decode cX5_paints 29 = .ok (.getfield 3, 3) := dk_180 0 3 (dk_at dksX5_paints_1 5 rfl rfl)
theorem dX5_paints_32 : decode cX5_paints 32 = .ok (.getfield 72, 3) := dk_180 0 72 (dk_at dksX5_paints_1 8 rfl rfl)
theorem dX5_paints_35 : decode cX5_paints 35 = .ok (.getfield 76, 3) := dk_180 0 76 (dk_at dksX5_paints_1 11 rfl rfl)
theorem dX5_paints_38 : decode cX5_paints 38 = .ok (.iconst 4, 1) := dk_7 (dk_at dksX5_paints_1 14 rfl rfl)
theorem dX5_paints_39 : decode cX5_paints 39 = .ok (.aload_n 0, 1) := dk_42 (dk_at dksX5_paints_1 15 rfl rfl)
theorem dX5_paints_40 : decode cX5_paints 40 = .ok (.getfield 19, 3) := dk_180 0 19 (dk_at dksX5_paints_1 16 rfl rfl)
theorem dX5_paints_43 : decode cX5_paints 43 = .ok (.iload_n 1, 1) := dk_27 (dk_at dksX5_paints_1 19 rfl rfl)
theorem dX5_paints_44 : decode cX5_paints 44 = .ok (.iaload, 1) := dk_46 (dk_at dksX5_paints_1 20 rfl rfl)
theorem dX5_paints_45 : decode cX5_paints 45 = .ok (.i2l, 1) := dk_133 (dk_at dksX5_paints_1 21 rfl rfl)
theorem dX5_paints_46 : decode cX5_paints 46 = .ok (.lastore, 1) := dk_80 (dk_at dksX5_paints_1 22 rfl rfl)
theorem dX5_paints_47 : decode cX5_paints 47 = .ok (.aload_n 0, 1) := dk_42 (dk_at dksX5_paints_1 23 rfl rfl)
theorem dX5_paints_48 : decode cX5_paints 48 = .ok (.getfield 3, 3) := dk_180 0 3 (dk_at dksX5_paints_2 0 rfl rfl)
theorem dX5_paints_51 : decode cX5_paints 51 = .ok (.getfield 72, 3) := dk_180 0 72 (dk_at dksX5_paints_2 3 rfl rfl)
theorem dX5_paints_54 : decode cX5_paints 54 = .ok (.getfield 76, 3) := dk_180 0 76 (dk_at dksX5_paints_2 6 rfl rfl)
theorem dX5_paints_57 : decode cX5_paints 57 = .ok (.iconst 5, 1) := dk_8 (dk_at dksX5_paints_2 9 rfl rfl)
theorem dX5_paints_58 : decode cX5_paints 58 = .ok (.iload_n 3, 1) := dk_29 (dk_at dksX5_paints_2 10 rfl rfl)
theorem dX5_paints_59 : decode cX5_paints 59 = .ok (.i2l, 1) := dk_133 (dk_at dksX5_paints_2 11 rfl rfl)
theorem dX5_paints_60 : decode cX5_paints 60 = .ok (.lastore, 1) := dk_80 (dk_at dksX5_paints_2 12 rfl rfl)
theorem dX5_paints_61 : decode cX5_paints 61 = .ok (.lconst 0, 1) := dk_9 (dk_at dksX5_paints_2 13 rfl rfl)
theorem dX5_paints_62 : decode cX5_paints 62 = .ok (.ldc2_w 96, 3) := dk_20 0 96 (dk_at dksX5_paints_2 14 rfl rfl)
theorem dX5_paints_65 : decode cX5_paints 65 = .ok (.aload_n 0, 1) := dk_42 (dk_at dksX5_paints_2 17 rfl rfl)
theorem dX5_paints_66 : decode cX5_paints 66 = .ok (.getfield 3, 3) := dk_180 0 3 (dk_at dksX5_paints_2 18 rfl rfl)
theorem dX5_paints_69 : decode cX5_paints 69 = .ok (.getfield 82, 3) := dk_180 0 82 (dk_at dksX5_paints_2 21 rfl rfl)
theorem dX5_paints_72 : decode cX5_paints 72 = .ok (.getfield 86, 3) := dk_180 0 86 (dk_at dksX5_paints_3 0 rfl rfl)
theorem dX5_paints_75 : decode cX5_paints 75 = .ok (.aload_n 0, 1) := dk_42 (dk_at dksX5_paints_3 3 rfl rfl)
theorem dX5_paints_76 : decode cX5_paints 76 = .ok (.getfield 3, 3) := dk_180 0 3 (dk_at dksX5_paints_3 4 rfl rfl)
theorem dX5_paints_79 : decode cX5_paints 79 = .ok (.getfield 72, 3) := dk_180 0 72 (dk_at dksX5_paints_3 7 rfl rfl)
theorem dX5_paints_82 : decode cX5_paints 82 = .ok (.invokevirtual 98, 3) := dk_182 0 98 (dk_at dksX5_paints_3 10 rfl rfl)
theorem dX5_paints_85 : decode cX5_paints 85 = .ok (.invokestatic 104, 3) := dk_184 0 104 (dk_at dksX5_paints_3 13 rfl rfl)
theorem dX5_paints_88 : decode cX5_paints 88 = .ok (.invokestatic 110, 3) := dk_184 0 110 (dk_at dksX5_paints_3 16 rfl rfl)
theorem dX5_paints_91 : decode cX5_paints 91 = .ok (.l2i, 1) := dk_136 (dk_at dksX5_paints_3 19 rfl rfl)
theorem dX5_paints_92 : decode cX5_paints 92 = .ok (.ireturn, 1) := dk_172 (dk_at dksX5_paints_3 20 rfl rfl)
abbrev cX5_copy : ByteArray := prog_15_method_3_code
def yX5_copy : MethodName := ⟨RX5, "copy", "(LRetouched$State;)LRetouched$State;"⟩
def dkwX5_copy_7 : List UInt8 := [167, 255, 232, 132, 2, 1, 167, 255, 216, 42, 176]
abbrev dktX5_copy_7 : List UInt8 := dkwX5_copy_7 ++ []
def dkwX5_copy_6 : List UInt8 := [162, 0, 25, 42, 180, 0, 37, 28, 50, 29, 43, 180, 0, 37, 28, 50, 29, 46, 79, 132, 3, 1]
abbrev dktX5_copy_6 : List UInt8 := dkwX5_copy_6 ++ dktX5_copy_7
def dkwX5_copy_5 : List UInt8 := [167, 255, 231, 132, 2, 1, 167, 255, 157, 3, 61, 28, 42, 180, 0, 44, 162, 0, 38, 3, 62, 29, 6]
abbrev dktX5_copy_5 : List UInt8 := dkwX5_copy_5 ++ dktX5_copy_6
def dkwX5_copy_4 : List UInt8 := [16, 8, 162, 0, 25, 42, 180, 0, 34, 28, 50, 29, 43, 180, 0, 34, 28, 50, 29, 46, 79, 132, 3, 1]
abbrev dktX5_copy_4 : List UInt8 := dkwX5_copy_4 ++ dktX5_copy_5
def dkwX5_copy_3 : List UInt8 := [28, 43, 180, 0, 25, 28, 46, 79, 42, 180, 0, 28, 28, 43, 180, 0, 28, 28, 51, 84, 3, 62, 29]
abbrev dktX5_copy_3 : List UInt8 := dkwX5_copy_3 ++ dktX5_copy_4
def dkwX5_copy_2 : List UInt8 := [28, 43, 180, 0, 19, 28, 46, 79, 42, 180, 0, 22, 28, 43, 180, 0, 22, 28, 46, 79, 42, 180, 0, 25]
abbrev dktX5_copy_2 : List UInt8 := dkwX5_copy_2 ++ dktX5_copy_3
def dkwX5_copy_1 : List UInt8 := [3, 61, 28, 16, 8, 162, 0, 99, 42, 180, 0, 15, 28, 43, 180, 0, 15, 28, 46, 79, 42, 180, 0, 19]
abbrev dktX5_copy_1 : List UInt8 := dkwX5_copy_1 ++ dktX5_copy_2
def dkwX5_copy_0 : List UInt8 := [42, 43, 180, 0, 40, 181, 0, 40, 42, 43, 180, 0, 44, 181, 0, 44, 42, 43, 180, 0, 51, 181, 0, 51]
abbrev dktX5_copy_0 : List UInt8 := dkwX5_copy_0 ++ dktX5_copy_1
theorem dksX5_copy_0 : cX5_copy.data.toList.drop 0 = dktX5_copy_0 := by decide +kernel
theorem dksX5_copy_1 : cX5_copy.data.toList.drop 24 = dktX5_copy_1 := dk_seg dksX5_copy_0 24 rfl rfl
theorem dksX5_copy_2 : cX5_copy.data.toList.drop 48 = dktX5_copy_2 := dk_seg dksX5_copy_1 24 rfl rfl
theorem dksX5_copy_3 : cX5_copy.data.toList.drop 72 = dktX5_copy_3 := dk_seg dksX5_copy_2 24 rfl rfl
theorem dksX5_copy_4 : cX5_copy.data.toList.drop 95 = dktX5_copy_4 := dk_seg dksX5_copy_3 23 rfl rfl
theorem dksX5_copy_5 : cX5_copy.data.toList.drop 119 = dktX5_copy_5 := dk_seg dksX5_copy_4 24 rfl rfl
theorem dksX5_copy_6 : cX5_copy.data.toList.drop 142 = dktX5_copy_6 := dk_seg dksX5_copy_5 23 rfl rfl
theorem dksX5_copy_7 : cX5_copy.data.toList.drop 164 = dktX5_copy_7 := dk_seg dksX5_copy_6 22 rfl rfl
theorem dX5_copy_0 : decode cX5_copy 0 = .ok (.aload_n 0, 1) := dk_42 (dk_at dksX5_copy_0 0 rfl rfl)
theorem dX5_copy_1 : decode cX5_copy 1 = .ok (.aload_n 1, 1) := dk_43 (dk_at dksX5_copy_0 1 rfl rfl)
theorem dX5_copy_2 : decode cX5_copy 2 = .ok (.getfield 40, 3) := dk_180 0 40 (dk_at dksX5_copy_0 2 rfl rfl)
theorem dX5_copy_5 : decode cX5_copy 5 = .ok (.putfield 40, 3) := dk_181 0 40 (dk_at dksX5_copy_0 5 rfl rfl)
theorem dX5_copy_8 : decode cX5_copy 8 = .ok (.aload_n 0, 1) := dk_42 (dk_at dksX5_copy_0 8 rfl rfl)
theorem dX5_copy_9 : decode cX5_copy 9 = .ok (.aload_n 1, 1) := dk_43 (dk_at dksX5_copy_0 9 rfl rfl)
theorem dX5_copy_10 : decode cX5_copy 10 = .ok (.getfield 44, 3) := dk_180 0 44 (dk_at dksX5_copy_0 10 rfl rfl)
theorem dX5_copy_13 : decode cX5_copy 13 = .ok (.putfield 44, 3) := dk_181 0 44 (dk_at dksX5_copy_0 13 rfl rfl)
theorem dX5_copy_16 : decode cX5_copy 16 = .ok (.aload_n 0, 1) := dk_42 (dk_at dksX5_copy_0 16 rfl rfl)
theorem dX5_copy_17 : decode cX5_copy 17 = .ok (.aload_n 1, 1) := dk_43 (dk_at dksX5_copy_0 17 rfl rfl)
theorem dX5_copy_18 : decode cX5_copy 18 = .ok (.getfield 51, 3) := dk_180 0 51 (dk_at dksX5_copy_0 18 rfl rfl)
theorem dX5_copy_21 : decode cX5_copy 21 = .ok (.putfield 51, 3) := dk_181 0 51 (dk_at dksX5_copy_0 21 rfl rfl)
theorem dX5_copy_24 : decode cX5_copy 24 = .ok (.iconst 0, 1) := dk_3 (dk_at dksX5_copy_1 0 rfl rfl)
theorem dX5_copy_25 : decode cX5_copy 25 = .ok (.istore_n 2, 1) := dk_61 (dk_at dksX5_copy_1 1 rfl rfl)
theorem dX5_copy_26 : decode cX5_copy 26 = .ok (.iload_n 2, 1) := dk_28 (dk_at dksX5_copy_1 2 rfl rfl)
theorem dX5_copy_27 : decode cX5_copy 27 = .ok (.bipush 8, 2) := dk_16 8 (dk_at dksX5_copy_1 3 rfl rfl)
theorem dX5_copy_29 : decode cX5_copy 29 = .ok (.if_icmp .ge 99, 3) := dk_162 0 99 (dk_at dksX5_copy_1 5 rfl rfl)
theorem dX5_copy_32 : decode cX5_copy 32 = .ok (.aload_n 0, 1) := dk_42 (dk_at dksX5_copy_1 8 rfl rfl)
theorem dX5_copy_33 : decode cX5_copy 33 = .ok (.getfield 15, 3) := dk_180 0 15 (dk_at dksX5_copy_1 9 rfl rfl)
theorem dX5_copy_36 : decode cX5_copy 36 = .ok (.iload_n 2, 1) := dk_28 (dk_at dksX5_copy_1 12 rfl rfl)
theorem dX5_copy_37 : decode cX5_copy 37 = .ok (.aload_n 1, 1) := dk_43 (dk_at dksX5_copy_1 13 rfl rfl)
theorem dX5_copy_38 : decode cX5_copy 38 = .ok (.getfield 15, 3) := dk_180 0 15 (dk_at dksX5_copy_1 14 rfl rfl)
theorem dX5_copy_41 : decode cX5_copy 41 = .ok (.iload_n 2, 1) := dk_28 (dk_at dksX5_copy_1 17 rfl rfl)
theorem dX5_copy_42 : decode cX5_copy 42 = .ok (.iaload, 1) := dk_46 (dk_at dksX5_copy_1 18 rfl rfl)
theorem dX5_copy_43 : decode cX5_copy 43 = .ok (.iastore, 1) := dk_79 (dk_at dksX5_copy_1 19 rfl rfl)
theorem dX5_copy_44 : decode cX5_copy 44 = .ok (.aload_n 0, 1) := dk_42 (dk_at dksX5_copy_1 20 rfl rfl)
theorem dX5_copy_45 : decode cX5_copy 45 = .ok (.getfield 19, 3) := dk_180 0 19 (dk_at dksX5_copy_1 21 rfl rfl)
theorem dX5_copy_48 : decode cX5_copy 48 = .ok (.iload_n 2, 1) := dk_28 (dk_at dksX5_copy_2 0 rfl rfl)
theorem dX5_copy_49 : decode cX5_copy 49 = .ok (.aload_n 1, 1) := dk_43 (dk_at dksX5_copy_2 1 rfl rfl)
theorem dX5_copy_50 : decode cX5_copy 50 = .ok (.getfield 19, 3) := dk_180 0 19 (dk_at dksX5_copy_2 2 rfl rfl)
theorem dX5_copy_53 : decode cX5_copy 53 = .ok (.iload_n 2, 1) := dk_28 (dk_at dksX5_copy_2 5 rfl rfl)
theorem dX5_copy_54 : decode cX5_copy 54 = .ok (.iaload, 1) := dk_46 (dk_at dksX5_copy_2 6 rfl rfl)
theorem dX5_copy_55 : decode cX5_copy 55 = .ok (.iastore, 1) := dk_79 (dk_at dksX5_copy_2 7 rfl rfl)
theorem dX5_copy_56 : decode cX5_copy 56 = .ok (.aload_n 0, 1) := dk_42 (dk_at dksX5_copy_2 8 rfl rfl)
theorem dX5_copy_57 : decode cX5_copy 57 = .ok (.getfield 22, 3) := dk_180 0 22 (dk_at dksX5_copy_2 9 rfl rfl)
theorem dX5_copy_60 : decode cX5_copy 60 = .ok (.iload_n 2, 1) := dk_28 (dk_at dksX5_copy_2 12 rfl rfl)
theorem dX5_copy_61 : decode cX5_copy 61 = .ok (.aload_n 1, 1) := dk_43 (dk_at dksX5_copy_2 13 rfl rfl)
theorem dX5_copy_62 : decode cX5_copy 62 = .ok (.getfield 22, 3) := dk_180 0 22 (dk_at dksX5_copy_2 14 rfl rfl)
theorem dX5_copy_65 : decode cX5_copy 65 = .ok (.iload_n 2, 1) := dk_28 (dk_at dksX5_copy_2 17 rfl rfl)
theorem dX5_copy_66 : decode cX5_copy 66 = .ok (.iaload, 1) := dk_46 (dk_at dksX5_copy_2 18 rfl rfl)
theorem dX5_copy_67 : decode cX5_copy 67 = .ok (.iastore, 1) := dk_79 (dk_at dksX5_copy_2 19 rfl rfl)
theorem dX5_copy_68 : decode cX5_copy 68 = .ok (.aload_n 0, 1) := dk_42 (dk_at dksX5_copy_2 20 rfl rfl)
theorem dX5_copy_69 : decode cX5_copy 69 = .ok (.getfield 25, 3) := dk_180 0 25 (dk_at dksX5_copy_2 21 rfl rfl)
theorem dX5_copy_72 : decode cX5_copy 72 = .ok (.iload_n 2, 1) := dk_28 (dk_at dksX5_copy_3 0 rfl rfl)
theorem dX5_copy_73 : decode cX5_copy 73 = .ok (.aload_n 1, 1) := dk_43 (dk_at dksX5_copy_3 1 rfl rfl)
theorem dX5_copy_74 : decode cX5_copy 74 = .ok (.getfield 25, 3) := dk_180 0 25 (dk_at dksX5_copy_3 2 rfl rfl)
theorem dX5_copy_77 : decode cX5_copy 77 = .ok (.iload_n 2, 1) := dk_28 (dk_at dksX5_copy_3 5 rfl rfl)
theorem dX5_copy_78 : decode cX5_copy 78 = .ok (.iaload, 1) := dk_46 (dk_at dksX5_copy_3 6 rfl rfl)
theorem dX5_copy_79 : decode cX5_copy 79 = .ok (.iastore, 1) := dk_79 (dk_at dksX5_copy_3 7 rfl rfl)
theorem dX5_copy_80 : decode cX5_copy 80 = .ok (.aload_n 0, 1) := dk_42 (dk_at dksX5_copy_3 8 rfl rfl)
theorem dX5_copy_81 : decode cX5_copy 81 = .ok (.getfield 28, 3) := dk_180 0 28 (dk_at dksX5_copy_3 9 rfl rfl)
theorem dX5_copy_84 : decode cX5_copy 84 = .ok (.iload_n 2, 1) := dk_28 (dk_at dksX5_copy_3 12 rfl rfl)
theorem dX5_copy_85 : decode cX5_copy 85 = .ok (.aload_n 1, 1) := dk_43 (dk_at dksX5_copy_3 13 rfl rfl)
theorem dX5_copy_86 : decode cX5_copy 86 = .ok (.getfield 28, 3) := dk_180 0 28 (dk_at dksX5_copy_3 14 rfl rfl)
theorem dX5_copy_89 : decode cX5_copy 89 = .ok (.iload_n 2, 1) := dk_28 (dk_at dksX5_copy_3 17 rfl rfl)
theorem dX5_copy_90 : decode cX5_copy 90 = .ok (.baload, 1) := dk_51 (dk_at dksX5_copy_3 18 rfl rfl)
theorem dX5_copy_91 : decode cX5_copy 91 = .ok (.bastore, 1) := dk_84 (dk_at dksX5_copy_3 19 rfl rfl)
theorem dX5_copy_92 : decode cX5_copy 92 = .ok (.iconst 0, 1) := dk_3 (dk_at dksX5_copy_3 20 rfl rfl)
theorem dX5_copy_93 : decode cX5_copy 93 = .ok (.istore_n 3, 1) := dk_62 (dk_at dksX5_copy_3 21 rfl rfl)
theorem dX5_copy_94 : decode cX5_copy 94 = .ok (.iload_n 3, 1) := dk_29 (dk_at dksX5_copy_3 22 rfl rfl)
theorem dX5_copy_95 : decode cX5_copy 95 = .ok (.bipush 8, 2) := dk_16 8 (dk_at dksX5_copy_4 0 rfl rfl)
theorem dX5_copy_97 : decode cX5_copy 97 = .ok (.if_icmp .ge 25, 3) := dk_162 0 25 (dk_at dksX5_copy_4 2 rfl rfl)
theorem dX5_copy_100 : decode cX5_copy 100 = .ok (.aload_n 0, 1) := dk_42 (dk_at dksX5_copy_4 5 rfl rfl)
theorem dX5_copy_101 : decode cX5_copy 101 = .ok (.getfield 34, 3) := dk_180 0 34 (dk_at dksX5_copy_4 6 rfl rfl)
theorem dX5_copy_104 : decode cX5_copy 104 = .ok (.iload_n 2, 1) := dk_28 (dk_at dksX5_copy_4 9 rfl rfl)
theorem dX5_copy_105 : decode cX5_copy 105 = .ok (.aaload, 1) := dk_50 (dk_at dksX5_copy_4 10 rfl rfl)
theorem dX5_copy_106 : decode cX5_copy 106 = .ok (.iload_n 3, 1) := dk_29 (dk_at dksX5_copy_4 11 rfl rfl)
theorem dX5_copy_107 : decode cX5_copy 107 = .ok (.aload_n 1, 1) := dk_43 (dk_at dksX5_copy_4 12 rfl rfl)
theorem dX5_copy_108 : decode cX5_copy 108 = .ok (.getfield 34, 3) := dk_180 0 34 (dk_at dksX5_copy_4 13 rfl rfl)
theorem dX5_copy_111 : decode cX5_copy 111 = .ok (.iload_n 2, 1) := dk_28 (dk_at dksX5_copy_4 16 rfl rfl)
theorem dX5_copy_112 : decode cX5_copy 112 = .ok (.aaload, 1) := dk_50 (dk_at dksX5_copy_4 17 rfl rfl)
theorem dX5_copy_113 : decode cX5_copy 113 = .ok (.iload_n 3, 1) := dk_29 (dk_at dksX5_copy_4 18 rfl rfl)
theorem dX5_copy_114 : decode cX5_copy 114 = .ok (.iaload, 1) := dk_46 (dk_at dksX5_copy_4 19 rfl rfl)
theorem dX5_copy_115 : decode cX5_copy 115 = .ok (.iastore, 1) := dk_79 (dk_at dksX5_copy_4 20 rfl rfl)
theorem dX5_copy_116 : decode cX5_copy 116 = .ok (.iinc 3 1, 3) := dk_132 3 1 (dk_at dksX5_copy_4 21 rfl rfl)
theorem dX5_copy_119 : decode cX5_copy 119 = .ok (.goto (-25), 3) := dk_167 255 231 (dk_at dksX5_copy_5 0 rfl rfl)
theorem dX5_copy_122 : decode cX5_copy 122 = .ok (.iinc 2 1, 3) := dk_132 2 1 (dk_at dksX5_copy_5 3 rfl rfl)
theorem dX5_copy_125 : decode cX5_copy 125 = .ok (.goto (-99), 3) := dk_167 255 157 (dk_at dksX5_copy_5 6 rfl rfl)
theorem dX5_copy_128 : decode cX5_copy 128 = .ok (.iconst 0, 1) := dk_3 (dk_at dksX5_copy_5 9 rfl rfl)
theorem dX5_copy_129 : decode cX5_copy 129 = .ok (.istore_n 2, 1) := dk_61 (dk_at dksX5_copy_5 10 rfl rfl)
theorem dX5_copy_130 : decode cX5_copy 130 = .ok (.iload_n 2, 1) := dk_28 (dk_at dksX5_copy_5 11 rfl rfl)
theorem dX5_copy_131 : decode cX5_copy 131 = .ok (.aload_n 0, 1) := dk_42 (dk_at dksX5_copy_5 12 rfl rfl)
theorem dX5_copy_132 : decode cX5_copy 132 = .ok (.getfield 44, 3) := dk_180 0 44 (dk_at dksX5_copy_5 13 rfl rfl)
theorem dX5_copy_135 : decode cX5_copy 135 = .ok (.if_icmp .ge 38, 3) := dk_162 0 38 (dk_at dksX5_copy_5 16 rfl rfl)
theorem dX5_copy_138 : decode cX5_copy 138 = .ok (.iconst 0, 1) := dk_3 (dk_at dksX5_copy_5 19 rfl rfl)
theorem dX5_copy_139 : decode cX5_copy 139 = .ok (.istore_n 3, 1) := dk_62 (dk_at dksX5_copy_5 20 rfl rfl)
theorem dX5_copy_140 : decode cX5_copy 140 = .ok (.iload_n 3, 1) := dk_29 (dk_at dksX5_copy_5 21 rfl rfl)
theorem dX5_copy_141 : decode cX5_copy 141 = .ok (.iconst 3, 1) := dk_6 (dk_at dksX5_copy_5 22 rfl rfl)
theorem dX5_copy_142 : decode cX5_copy 142 = .ok (.if_icmp .ge 25, 3) := dk_162 0 25 (dk_at dksX5_copy_6 0 rfl rfl)
theorem dX5_copy_145 : decode cX5_copy 145 = .ok (.aload_n 0, 1) := dk_42 (dk_at dksX5_copy_6 3 rfl rfl)
theorem dX5_copy_146 : decode cX5_copy 146 = .ok (.getfield 37, 3) := dk_180 0 37 (dk_at dksX5_copy_6 4 rfl rfl)
theorem dX5_copy_149 : decode cX5_copy 149 = .ok (.iload_n 2, 1) := dk_28 (dk_at dksX5_copy_6 7 rfl rfl)
theorem dX5_copy_150 : decode cX5_copy 150 = .ok (.aaload, 1) := dk_50 (dk_at dksX5_copy_6 8 rfl rfl)
theorem dX5_copy_151 : decode cX5_copy 151 = .ok (.iload_n 3, 1) := dk_29 (dk_at dksX5_copy_6 9 rfl rfl)
theorem dX5_copy_152 : decode cX5_copy 152 = .ok (.aload_n 1, 1) := dk_43 (dk_at dksX5_copy_6 10 rfl rfl)
theorem dX5_copy_153 : decode cX5_copy 153 = .ok (.getfield 37, 3) := dk_180 0 37 (dk_at dksX5_copy_6 11 rfl rfl)
theorem dX5_copy_156 : decode cX5_copy 156 = .ok (.iload_n 2, 1) := dk_28 (dk_at dksX5_copy_6 14 rfl rfl)
theorem dX5_copy_157 : decode cX5_copy 157 = .ok (.aaload, 1) := dk_50 (dk_at dksX5_copy_6 15 rfl rfl)
theorem dX5_copy_158 : decode cX5_copy 158 = .ok (.iload_n 3, 1) := dk_29 (dk_at dksX5_copy_6 16 rfl rfl)
theorem dX5_copy_159 : decode cX5_copy 159 = .ok (.iaload, 1) := dk_46 (dk_at dksX5_copy_6 17 rfl rfl)
theorem dX5_copy_160 : decode cX5_copy 160 = .ok (.iastore, 1) := dk_79 (dk_at dksX5_copy_6 18 rfl rfl)
theorem dX5_copy_161 : decode cX5_copy 161 = .ok (.iinc 3 1, 3) := dk_132 3 1 (dk_at dksX5_copy_6 19 rfl rfl)
theorem dX5_copy_164 : decode cX5_copy 164 = .ok (.goto (-24), 3) := dk_167 255 232 (dk_at dksX5_copy_7 0 rfl rfl)
theorem dX5_copy_167 : decode cX5_copy 167 = .ok (.iinc 2 1, 3) := dk_132 2 1 (dk_at dksX5_copy_7 3 rfl rfl)
theorem dX5_copy_170 : decode cX5_copy 170 = .ok (.goto (-40), 3) := dk_167 255 216 (dk_at dksX5_copy_7 6 rfl rfl)
theorem dX5_copy_173 : decode cX5_copy 173 = .ok (.aload_n 0, 1) := dk_42 (dk_at dksX5_copy_7 9 rfl rfl)
theorem dX5_copy_174 : decode cX5_copy 174 = .ok (.areturn, 1) := dk_176 (dk_at dksX5_copy_7 10 rfl rfl)
abbrev cX5_years : ByteArray := prog_15_method_12_code
def yX5_years : MethodName := ⟨RX5, "years", "(I)LRetouched$State;"⟩
def dkwX5_years_0 : List UInt8 := [3, 61, 28, 27, 162, 0, 14, 42, 182, 0, 138, 87, 132, 2, 1, 167, 255, 243, 42, 176]
abbrev dktX5_years_0 : List UInt8 := dkwX5_years_0 ++ []
theorem dksX5_years_0 : cX5_years.data.toList.drop 0 = dktX5_years_0 := by decide +kernel
theorem dX5_years_0 : decode cX5_years 0 = .ok (.iconst 0, 1) := dk_3 (dk_at dksX5_years_0 0 rfl rfl)
theorem dX5_years_1 : decode cX5_years 1 = .ok (.istore_n 2, 1) := dk_61 (dk_at dksX5_years_0 1 rfl rfl)
theorem dX5_years_2 : decode cX5_years 2 = .ok (.iload_n 2, 1) := dk_28 (dk_at dksX5_years_0 2 rfl rfl)
theorem dX5_years_3 : decode cX5_years 3 = .ok (.iload_n 1, 1) := dk_27 (dk_at dksX5_years_0 3 rfl rfl)
theorem dX5_years_4 : decode cX5_years 4 = .ok (.if_icmp .ge 14, 3) := dk_162 0 14 (dk_at dksX5_years_0 4 rfl rfl)
theorem dX5_years_7 : decode cX5_years 7 = .ok (.aload_n 0, 1) := dk_42 (dk_at dksX5_years_0 7 rfl rfl)
theorem dX5_years_8 : decode cX5_years 8 = .ok (.invokevirtual 138, 3) := dk_182 0 138 (dk_at dksX5_years_0 8 rfl rfl)
theorem dX5_years_11 : decode cX5_years 11 = .ok (.pop, 1) := dk_87 (dk_at dksX5_years_0 11 rfl rfl)
theorem dX5_years_12 : decode cX5_years 12 = .ok (.iinc 2 1, 3) := dk_132 2 1 (dk_at dksX5_years_0 12 rfl rfl)
theorem dX5_years_15 : decode cX5_years 15 = .ok (.goto (-13), 3) := dk_167 255 243 (dk_at dksX5_years_0 15 rfl rfl)
theorem dX5_years_18 : decode cX5_years 18 = .ok (.aload_n 0, 1) := dk_42 (dk_at dksX5_years_0 18 rfl rfl)
theorem dX5_years_19 : decode cX5_years 19 = .ok (.areturn, 1) := dk_176 (dk_at dksX5_years_0 19 rfl rfl)
abbrev cX5_passes : ByteArray := prog_15_method_11_code
def yX5_passes : MethodName := ⟨RX5, "passes", "()I"⟩
def dkwX5_passes_3 : List UInt8 := [180, 0, 40, 4, 96, 181, 0, 40, 27, 172]
abbrev dktX5_passes_3 : List UInt8 := dkwX5_passes_3 ++ []
def dkwX5_passes_2 : List UInt8 := [153, 0, 7, 4, 167, 0, 4, 3, 96, 60, 132, 4, 1, 167, 255, 224, 132, 2, 1, 167, 255, 195, 42, 89]
abbrev dktX5_passes_2 : List UInt8 := dkwX5_passes_2 ++ dktX5_passes_3
def dkwX5_passes_1 : List UInt8 := [3, 54, 4, 21, 4, 5, 162, 0, 32, 29, 2, 159, 0, 27, 27, 42, 29, 21, 4, 182, 0, 134]
abbrev dktX5_passes_1 : List UInt8 := dkwX5_passes_1 ++ dktX5_passes_2
def dkwX5_passes_0 : List UInt8 := [3, 60, 3, 61, 28, 42, 180, 0, 3, 180, 0, 82, 180, 0, 131, 162, 0, 53, 42, 28, 182, 0, 68, 62]
abbrev dktX5_passes_0 : List UInt8 := dkwX5_passes_0 ++ dktX5_passes_1
theorem dksX5_passes_0 : cX5_passes.data.toList.drop 0 = dktX5_passes_0 := by decide +kernel
theorem dksX5_passes_1 : cX5_passes.data.toList.drop 24 = dktX5_passes_1 := dk_seg dksX5_passes_0 24 rfl rfl
theorem dksX5_passes_2 : cX5_passes.data.toList.drop 46 = dktX5_passes_2 := dk_seg dksX5_passes_1 22 rfl rfl
theorem dksX5_passes_3 : cX5_passes.data.toList.drop 70 = dktX5_passes_3 := dk_seg dksX5_passes_2 24 rfl rfl
theorem dX5_passes_0 : decode cX5_passes 0 = .ok (.iconst 0, 1) := dk_3 (dk_at dksX5_passes_0 0 rfl rfl)
theorem dX5_passes_1 : decode cX5_passes 1 = .ok (.istore_n 1, 1) := dk_60 (dk_at dksX5_passes_0 1 rfl rfl)
theorem dX5_passes_2 : decode cX5_passes 2 = .ok (.iconst 0, 1) := dk_3 (dk_at dksX5_passes_0 2 rfl rfl)
theorem dX5_passes_3 : decode cX5_passes 3 = .ok (.istore_n 2, 1) := dk_61 (dk_at dksX5_passes_0 3 rfl rfl)
theorem dX5_passes_4 : decode cX5_passes 4 = .ok (.iload_n 2, 1) := dk_28 (dk_at dksX5_passes_0 4 rfl rfl)
theorem dX5_passes_5 : decode cX5_passes 5 = .ok (.aload_n 0, 1) := dk_42 (dk_at dksX5_passes_0 5 rfl rfl)
theorem dX5_passes_6 : decode cX5_passes 6 = .ok (.getfield 3, 3) := dk_180 0 3 (dk_at dksX5_passes_0 6 rfl rfl)
theorem dX5_passes_9 : decode cX5_passes 9 = .ok (.getfield 82, 3) := dk_180 0 82 (dk_at dksX5_passes_0 9 rfl rfl)
theorem dX5_passes_12 : decode cX5_passes 12 = .ok (.getfield 131, 3) := dk_180 0 131 (dk_at dksX5_passes_0 12 rfl rfl)
theorem dX5_passes_15 : decode cX5_passes 15 = .ok (.if_icmp .ge 53, 3) := dk_162 0 53 (dk_at dksX5_passes_0 15 rfl rfl)
theorem dX5_passes_18 : decode cX5_passes 18 = .ok (.aload_n 0, 1) := dk_42 (dk_at dksX5_passes_0 18 rfl rfl)
theorem dX5_passes_19 : decode cX5_passes 19 = .ok (.iload_n 2, 1) := dk_28 (dk_at dksX5_passes_0 19 rfl rfl)
theorem dX5_passes_20 : decode cX5_passes 20 = .ok (.invokevirtual 68, 3) := dk_182 0 68 (dk_at dksX5_passes_0 20 rfl rfl)
theorem dX5_passes_23 : decode cX5_passes 23 = .ok (.istore_n 3, 1) := dk_62 (dk_at dksX5_passes_0 23 rfl rfl)
theorem dX5_passes_24 : decode cX5_passes 24 = .ok (.iconst 0, 1) := dk_3 (dk_at dksX5_passes_1 0 rfl rfl)
theorem dX5_passes_25 : decode cX5_passes 25 = .ok (.istore 4, 2) := dk_54 4 (dk_at dksX5_passes_1 1 rfl rfl)
theorem dX5_passes_27 : decode cX5_passes 27 = .ok (.iload 4, 2) := dk_21 4 (dk_at dksX5_passes_1 3 rfl rfl)
theorem dX5_passes_29 : decode cX5_passes 29 = .ok (.iconst 2, 1) := dk_5 (dk_at dksX5_passes_1 5 rfl rfl)
theorem dX5_passes_30 : decode cX5_passes 30 = .ok (.if_icmp .ge 32, 3) := dk_162 0 32 (dk_at dksX5_passes_1 6 rfl rfl)
theorem dX5_passes_33 : decode cX5_passes 33 = .ok (.iload_n 3, 1) := dk_29 (dk_at dksX5_passes_1 9 rfl rfl)
theorem dX5_passes_34 : decode cX5_passes 34 = .ok (.iconst (-1), 1) := dk_2 (dk_at dksX5_passes_1 10 rfl rfl)
theorem dX5_passes_35 : decode cX5_passes 35 = .ok (.if_icmp .eq 27, 3) := dk_159 0 27 (dk_at dksX5_passes_1 11 rfl rfl)
theorem dX5_passes_38 : decode cX5_passes 38 = .ok (.iload_n 1, 1) := dk_27 (dk_at dksX5_passes_1 14 rfl rfl)
theorem dX5_passes_39 : decode cX5_passes 39 = .ok (.aload_n 0, 1) := dk_42 (dk_at dksX5_passes_1 15 rfl rfl)
theorem dX5_passes_40 : decode cX5_passes 40 = .ok (.iload_n 3, 1) := dk_29 (dk_at dksX5_passes_1 16 rfl rfl)
theorem dX5_passes_41 : decode cX5_passes 41 = .ok (.iload 4, 2) := dk_21 4 (dk_at dksX5_passes_1 17 rfl rfl)
theorem dX5_passes_43 : decode cX5_passes 43 = .ok (.invokevirtual 134, 3) := dk_182 0 134 (dk_at dksX5_passes_1 19 rfl rfl)
theorem dX5_passes_46 : decode cX5_passes 46 = .ok (.ifCond .eq 7, 3) := dk_153 0 7 (dk_at dksX5_passes_2 0 rfl rfl)
theorem dX5_passes_49 : decode cX5_passes 49 = .ok (.iconst 1, 1) := dk_4 (dk_at dksX5_passes_2 3 rfl rfl)
theorem dX5_passes_50 : decode cX5_passes 50 = .ok (.goto 4, 3) := dk_167 0 4 (dk_at dksX5_passes_2 4 rfl rfl)
theorem dX5_passes_53 : decode cX5_passes 53 = .ok (.iconst 0, 1) := dk_3 (dk_at dksX5_passes_2 7 rfl rfl)
theorem dX5_passes_54 : decode cX5_passes 54 = .ok (.iadd, 1) := dk_96 (dk_at dksX5_passes_2 8 rfl rfl)
theorem dX5_passes_55 : decode cX5_passes 55 = .ok (.istore_n 1, 1) := dk_60 (dk_at dksX5_passes_2 9 rfl rfl)
theorem dX5_passes_56 : decode cX5_passes 56 = .ok (.iinc 4 1, 3) := dk_132 4 1 (dk_at dksX5_passes_2 10 rfl rfl)
theorem dX5_passes_59 : decode cX5_passes 59 = .ok (.goto (-32), 3) := dk_167 255 224 (dk_at dksX5_passes_2 13 rfl rfl)
theorem dX5_passes_62 : decode cX5_passes 62 = .ok (.iinc 2 1, 3) := dk_132 2 1 (dk_at dksX5_passes_2 16 rfl rfl)
theorem dX5_passes_65 : decode cX5_passes 65 = .ok (.goto (-61), 3) := dk_167 255 195 (dk_at dksX5_passes_2 19 rfl rfl)
theorem dX5_passes_68 : decode cX5_passes 68 = .ok (.aload_n 0, 1) := dk_42 (dk_at dksX5_passes_2 22 rfl rfl)
theorem dX5_passes_69 : decode cX5_passes 69 = .ok (.dup, 1) := dk_89 (dk_at dksX5_passes_2 23 rfl rfl)
theorem dX5_passes_70 : decode cX5_passes 70 = .ok (.getfield 40, 3) := dk_180 0 40 (dk_at dksX5_passes_3 0 rfl rfl)
theorem dX5_passes_73 : decode cX5_passes 73 = .ok (.iconst 1, 1) := dk_4 (dk_at dksX5_passes_3 3 rfl rfl)
theorem dX5_passes_74 : decode cX5_passes 74 = .ok (.iadd, 1) := dk_96 (dk_at dksX5_passes_3 4 rfl rfl)
theorem dX5_passes_75 : decode cX5_passes 75 = .ok (.putfield 40, 3) := dk_181 0 40 (dk_at dksX5_passes_3 5 rfl rfl)
theorem dX5_passes_78 : decode cX5_passes 78 = .ok (.iload_n 1, 1) := dk_27 (dk_at dksX5_passes_3 8 rfl rfl)
theorem dX5_passes_79 : decode cX5_passes 79 = .ok (.ireturn, 1) := dk_172 (dk_at dksX5_passes_3 9 rfl rfl)
abbrev cX5_strokes : ByteArray := prog_15_method_10_code
def yX5_strokes : MethodName := ⟨RX5, "strokes", "(II)Z"⟩
def dkwX5_strokes_4 : List UInt8 := [182, 0, 127, 21, 5, 172]
abbrev dktX5_strokes_4 : List UInt8 := dkwX5_strokes_4 ++ []
def dkwX5_strokes_3 : List UInt8 := [42, 180, 0, 19, 27, 46, 154, 0, 7, 4, 167, 0, 4, 3, 54, 5, 21, 5, 153, 0, 9, 42, 27, 29]
abbrev dktX5_strokes_3 : List UInt8 := dkwX5_strokes_3 ++ dktX5_strokes_4
def dkwX5_strokes_2 : List UInt8 := [27, 50, 29, 42, 27, 29, 42, 180, 0, 19, 27, 46, 21, 4, 100, 182, 0, 125, 79, 21, 4, 158, 0, 16]
abbrev dktX5_strokes_2 : List UInt8 := dkwX5_strokes_2 ++ dktX5_strokes_3
def dkwX5_strokes_1 : List UInt8 := [180, 0, 19, 27, 46, 54, 4, 42, 180, 0, 19, 27, 42, 27, 29, 28, 182, 0, 122, 79, 42, 180, 0, 34]
abbrev dktX5_strokes_1 : List UInt8 := dkwX5_strokes_1 ++ dktX5_strokes_2
def dkwX5_strokes_0 : List UInt8 := [42, 27, 28, 182, 0, 118, 62, 29, 2, 159, 0, 12, 42, 180, 0, 28, 29, 51, 153, 0, 5, 3, 172, 42]
abbrev dktX5_strokes_0 : List UInt8 := dkwX5_strokes_0 ++ dktX5_strokes_1
theorem dksX5_strokes_0 : cX5_strokes.data.toList.drop 0 = dktX5_strokes_0 := by decide +kernel
theorem dksX5_strokes_1 : cX5_strokes.data.toList.drop 24 = dktX5_strokes_1 := dk_seg dksX5_strokes_0 24 rfl rfl
theorem dksX5_strokes_2 : cX5_strokes.data.toList.drop 48 = dktX5_strokes_2 := dk_seg dksX5_strokes_1 24 rfl rfl
theorem dksX5_strokes_3 : cX5_strokes.data.toList.drop 72 = dktX5_strokes_3 := dk_seg dksX5_strokes_2 24 rfl rfl
theorem dksX5_strokes_4 : cX5_strokes.data.toList.drop 96 = dktX5_strokes_4 := dk_seg dksX5_strokes_3 24 rfl rfl
theorem dX5_strokes_0 : decode cX5_strokes 0 = .ok (.aload_n 0, 1) := dk_42 (dk_at dksX5_strokes_0 0 rfl rfl)
theorem dX5_strokes_1 : decode cX5_strokes 1 = .ok (.iload_n 1, 1) := dk_27 (dk_at dksX5_strokes_0 1 rfl rfl)
theorem dX5_strokes_2 : decode cX5_strokes 2 = .ok (.iload_n 2, 1) := dk_28 (dk_at dksX5_strokes_0 2 rfl rfl)
theorem dX5_strokes_3 : decode cX5_strokes 3 = .ok (.invokevirtual 118, 3) := dk_182 0 118 (dk_at dksX5_strokes_0 3 rfl rfl)
theorem dX5_strokes_6 : decode cX5_strokes 6 = .ok (.istore_n 3, 1) := dk_62 (dk_at dksX5_strokes_0 6 rfl rfl)
theorem dX5_strokes_7 : decode cX5_strokes 7 = .ok (.iload_n 3, 1) := dk_29 (dk_at dksX5_strokes_0 7 rfl rfl)
theorem dX5_strokes_8 : decode cX5_strokes 8 = .ok (.iconst (-1), 1) := dk_2 (dk_at dksX5_strokes_0 8 rfl rfl)
theorem dX5_strokes_9 : decode cX5_strokes 9 = .ok (.if_icmp .eq 12, 3) := dk_159 0 12 (dk_at dksX5_strokes_0 9 rfl rfl)
theorem dX5_strokes_12 : decode cX5_strokes 12 = .ok (.aload_n 0, 1) := dk_42 (dk_at dksX5_strokes_0 12 rfl rfl)
theorem dX5_strokes_13 : decode cX5_strokes 13 = .ok (.getfield 28, 3) := dk_180 0 28 (dk_at dksX5_strokes_0 13 rfl rfl)
theorem dX5_strokes_16 : decode cX5_strokes 16 = .ok (.iload_n 3, 1) := dk_29 (dk_at dksX5_strokes_0 16 rfl rfl)
theorem dX5_strokes_17 : decode cX5_strokes 17 = .ok (.baload, 1) := dk_51 (dk_at dksX5_strokes_0 17 rfl rfl)
theorem dX5_strokes_18 : decode cX5_strokes 18 = .ok (.ifCond .eq 5, 3) := dk_153 0 5 (dk_at dksX5_strokes_0 18 rfl rfl)
theorem dX5_strokes_21 : decode cX5_strokes 21 = .ok (.iconst 0, 1) := dk_3 (dk_at dksX5_strokes_0 21 rfl rfl)
theorem dX5_strokes_22 : decode cX5_strokes 22 = .ok (.ireturn, 1) := dk_172 (dk_at dksX5_strokes_0 22 rfl rfl)
theorem dX5_strokes_23 : decode cX5_strokes 23 = .ok (.aload_n 0, 1) := dk_42 (dk_at dksX5_strokes_0 23 rfl rfl)
theorem dX5_strokes_24 : decode cX5_strokes 24 = .ok (.getfield 19, 3) := dk_180 0 19 (dk_at dksX5_strokes_1 0 rfl rfl)
theorem dX5_strokes_27 : decode cX5_strokes 27 = .ok (.iload_n 1, 1) := dk_27 (dk_at dksX5_strokes_1 3 rfl rfl)
theorem dX5_strokes_28 : decode cX5_strokes 28 = .ok (.iaload, 1) := dk_46 (dk_at dksX5_strokes_1 4 rfl rfl)
theorem dX5_strokes_29 : decode cX5_strokes 29 = .ok (.istore 4, 2) := dk_54 4 (dk_at dksX5_strokes_1 5 rfl rfl)
theorem dX5_strokes_31 : decode cX5_strokes 31 = .ok (.aload_n 0, 1) := dk_42 (dk_at dksX5_strokes_1 7 rfl rfl)
theorem dX5_strokes_32 : decode cX5_strokes 32 = .ok (.getfield 19, 3) := dk_180 0 19 (dk_at dksX5_strokes_1 8 rfl rfl)
theorem dX5_strokes_35 : decode cX5_strokes 35 = .ok (.iload_n 1, 1) := dk_27 (dk_at dksX5_strokes_1 11 rfl rfl)
theorem dX5_strokes_36 : decode cX5_strokes 36 = .ok (.aload_n 0, 1) := dk_42 (dk_at dksX5_strokes_1 12 rfl rfl)
theorem dX5_strokes_37 : decode cX5_strokes 37 = .ok (.iload_n 1, 1) := dk_27 (dk_at dksX5_strokes_1 13 rfl rfl)
theorem dX5_strokes_38 : decode cX5_strokes 38 = .ok (.iload_n 3, 1) := dk_29 (dk_at dksX5_strokes_1 14 rfl rfl)
theorem dX5_strokes_39 : decode cX5_strokes 39 = .ok (.iload_n 2, 1) := dk_28 (dk_at dksX5_strokes_1 15 rfl rfl)
theorem dX5_strokes_40 : decode cX5_strokes 40 = .ok (.invokevirtual 122, 3) := dk_182 0 122 (dk_at dksX5_strokes_1 16 rfl rfl)
theorem dX5_strokes_43 : decode cX5_strokes 43 = .ok (.iastore, 1) := dk_79 (dk_at dksX5_strokes_1 19 rfl rfl)
theorem dX5_strokes_44 : decode cX5_strokes 44 = .ok (.aload_n 0, 1) := dk_42 (dk_at dksX5_strokes_1 20 rfl rfl)
theorem dX5_strokes_45 : decode cX5_strokes 45 = .ok (.getfield 34, 3) := dk_180 0 34 (dk_at dksX5_strokes_1 21 rfl rfl)
theorem dX5_strokes_48 : decode cX5_strokes 48 = .ok (.iload_n 1, 1) := dk_27 (dk_at dksX5_strokes_2 0 rfl rfl)
theorem dX5_strokes_49 : decode cX5_strokes 49 = .ok (.aaload, 1) := dk_50 (dk_at dksX5_strokes_2 1 rfl rfl)
theorem dX5_strokes_50 : decode cX5_strokes 50 = .ok (.iload_n 3, 1) := dk_29 (dk_at dksX5_strokes_2 2 rfl rfl)
theorem dX5_strokes_51 : decode cX5_strokes 51 = .ok (.aload_n 0, 1) := dk_42 (dk_at dksX5_strokes_2 3 rfl rfl)
theorem dX5_strokes_52 : decode cX5_strokes 52 = .ok (.iload_n 1, 1) := dk_27 (dk_at dksX5_strokes_2 4 rfl rfl)
theorem dX5_strokes_53 : decode cX5_strokes 53 = .ok (.iload_n 3, 1) := dk_29 (dk_at dksX5_strokes_2 5 rfl rfl)
theorem dX5_strokes_54 : decode cX5_strokes 54 = .ok (.aload_n 0, 1) := dk_42 (dk_at dksX5_strokes_2 6 rfl rfl)
theorem dX5_strokes_55 : decode cX5_strokes 55 = .ok (.getfield 19, 3) := dk_180 0 19 (dk_at dksX5_strokes_2 7 rfl rfl)
theorem dX5_strokes_58 : decode cX5_strokes 58 = .ok (.iload_n 1, 1) := dk_27 (dk_at dksX5_strokes_2 10 rfl rfl)
theorem dX5_strokes_59 : decode cX5_strokes 59 = .ok (.iaload, 1) := dk_46 (dk_at dksX5_strokes_2 11 rfl rfl)
theorem dX5_strokes_60 : decode cX5_strokes 60 = .ok (.iload 4, 2) := dk_21 4 (dk_at dksX5_strokes_2 12 rfl rfl)
theorem dX5_strokes_62 : decode cX5_strokes 62 = .ok (.isub, 1) := dk_100 (dk_at dksX5_strokes_2 14 rfl rfl)
theorem dX5_strokes_63 : decode cX5_strokes 63 = .ok (.invokevirtual 125, 3) := dk_182 0 125 (dk_at dksX5_strokes_2 15 rfl rfl)
theorem dX5_strokes_66 : decode cX5_strokes 66 = .ok (.iastore, 1) := dk_79 (dk_at dksX5_strokes_2 18 rfl rfl)
theorem dX5_strokes_67 : decode cX5_strokes 67 = .ok (.iload 4, 2) := dk_21 4 (dk_at dksX5_strokes_2 19 rfl rfl)
theorem dX5_strokes_69 : decode cX5_strokes 69 = .ok (.ifCond .le 16, 3) := dk_158 0 16 (dk_at dksX5_strokes_2 21 rfl rfl)
theorem dX5_strokes_72 : decode cX5_strokes 72 = .ok (.aload_n 0, 1) := dk_42 (dk_at dksX5_strokes_3 0 rfl rfl)
theorem dX5_strokes_73 : decode cX5_strokes 73 = .ok (.getfield 19, 3) := dk_180 0 19 (dk_at dksX5_strokes_3 1 rfl rfl)
theorem dX5_strokes_76 : decode cX5_strokes 76 = .ok (.iload_n 1, 1) := dk_27 (dk_at dksX5_strokes_3 4 rfl rfl)
theorem dX5_strokes_77 : decode cX5_strokes 77 = .ok (.iaload, 1) := dk_46 (dk_at dksX5_strokes_3 5 rfl rfl)
theorem dX5_strokes_78 : decode cX5_strokes 78 = .ok (.ifCond .ne 7, 3) := dk_154 0 7 (dk_at dksX5_strokes_3 6 rfl rfl)
theorem dX5_strokes_81 : decode cX5_strokes 81 = .ok (.iconst 1, 1) := dk_4 (dk_at dksX5_strokes_3 9 rfl rfl)
theorem dX5_strokes_82 : decode cX5_strokes 82 = .ok (.goto 4, 3) := dk_167 0 4 (dk_at dksX5_strokes_3 10 rfl rfl)
theorem dX5_strokes_85 : decode cX5_strokes 85 = .ok (.iconst 0, 1) := dk_3 (dk_at dksX5_strokes_3 13 rfl rfl)
theorem dX5_strokes_86 : decode cX5_strokes 86 = .ok (.istore 5, 2) := dk_54 5 (dk_at dksX5_strokes_3 14 rfl rfl)
theorem dX5_strokes_88 : decode cX5_strokes 88 = .ok (.iload 5, 2) := dk_21 5 (dk_at dksX5_strokes_3 16 rfl rfl)
theorem dX5_strokes_90 : decode cX5_strokes 90 = .ok (.ifCond .eq 9, 3) := dk_153 0 9 (dk_at dksX5_strokes_3 18 rfl rfl)
theorem dX5_strokes_93 : decode cX5_strokes 93 = .ok (.aload_n 0, 1) := dk_42 (dk_at dksX5_strokes_3 21 rfl rfl)
theorem dX5_strokes_94 : decode cX5_strokes 94 = .ok (.iload_n 1, 1) := dk_27 (dk_at dksX5_strokes_3 22 rfl rfl)
theorem dX5_strokes_95 : decode cX5_strokes 95 = .ok (.iload_n 3, 1) := dk_29 (dk_at dksX5_strokes_3 23 rfl rfl)
theorem dX5_strokes_96 : decode cX5_strokes 96 = .ok (.invokevirtual 127, 3) := dk_182 0 127 (dk_at dksX5_strokes_4 0 rfl rfl)
theorem dX5_strokes_99 : decode cX5_strokes 99 = .ok (.iload 5, 2) := dk_21 5 (dk_at dksX5_strokes_4 3 rfl rfl)
theorem dX5_strokes_101 : decode cX5_strokes 101 = .ok (.ireturn, 1) := dk_172 (dk_at dksX5_strokes_4 5 rfl rfl)
abbrev cX5_minds : ByteArray := prog_15_method_8_code
def yX5_minds : MethodName := ⟨RX5, "minds", "(III)I"⟩
def dkwX5_minds_3 : List UInt8 := [184, 0, 104, 184, 0, 110, 136, 172]
abbrev dktX5_minds_3 : List UInt8 := dkwX5_minds_3 ++ []
def dkwX5_minds_2 : List UInt8 := [20, 0, 116, 42, 180, 0, 3, 180, 0, 82, 180, 0, 113, 42, 180, 0, 3, 180, 0, 72, 182, 0, 98]
abbrev dktX5_minds_2 : List UInt8 := dkwX5_minds_2 ++ dktX5_minds_3
def dkwX5_minds_1 : List UInt8 := [27, 27, 28, 182, 0, 92, 42, 180, 0, 3, 180, 0, 72, 180, 0, 76, 16, 6, 29, 133, 80, 9]
abbrev dktX5_minds_1 : List UInt8 := dkwX5_minds_1 ++ dktX5_minds_2
def dkwX5_minds_0 : List UInt8 := [42, 180, 0, 3, 180, 0, 82, 180, 0, 113, 199, 0, 12, 42, 180, 0, 34, 27, 50, 28, 46, 172, 42, 28]
abbrev dktX5_minds_0 : List UInt8 := dkwX5_minds_0 ++ dktX5_minds_1
theorem dksX5_minds_0 : cX5_minds.data.toList.drop 0 = dktX5_minds_0 := by decide +kernel
theorem dksX5_minds_1 : cX5_minds.data.toList.drop 24 = dktX5_minds_1 := dk_seg dksX5_minds_0 24 rfl rfl
theorem dksX5_minds_2 : cX5_minds.data.toList.drop 46 = dktX5_minds_2 := dk_seg dksX5_minds_1 22 rfl rfl
theorem dksX5_minds_3 : cX5_minds.data.toList.drop 69 = dktX5_minds_3 := dk_seg dksX5_minds_2 23 rfl rfl
theorem dX5_minds_0 : decode cX5_minds 0 = .ok (.aload_n 0, 1) := dk_42 (dk_at dksX5_minds_0 0 rfl rfl)
theorem dX5_minds_1 : decode cX5_minds 1 = .ok (.getfield 3, 3) := dk_180 0 3 (dk_at dksX5_minds_0 1 rfl rfl)
theorem dX5_minds_4 : decode cX5_minds 4 = .ok (.getfield 82, 3) := dk_180 0 82 (dk_at dksX5_minds_0 4 rfl rfl)
theorem dX5_minds_7 : decode cX5_minds 7 = .ok (.getfield 113, 3) := dk_180 0 113 (dk_at dksX5_minds_0 7 rfl rfl)
theorem dX5_minds_10 : decode cX5_minds 10 = .ok (.ifnonnull 12, 3) := dk_199 0 12 (dk_at dksX5_minds_0 10 rfl rfl)
theorem dX5_minds_13 : decode cX5_minds 13 = .ok (.aload_n 0, 1) := dk_42 (dk_at dksX5_minds_0 13 rfl rfl)
theorem dX5_minds_14 : decode cX5_minds 14 = .ok (.getfield 34, 3) := dk_180 0 34 (dk_at dksX5_minds_0 14 rfl rfl)
theorem dX5_minds_17 : decode cX5_minds 17 = .ok (.iload_n 1, 1) := dk_27 (dk_at dksX5_minds_0 17 rfl rfl)
theorem dX5_minds_18 : decode cX5_minds 18 = .ok (.aaload, 1) := dk_50 (dk_at dksX5_minds_0 18 rfl rfl)
theorem dX5_minds_19 : decode cX5_minds 19 = .ok (.iload_n 2, 1) := dk_28 (dk_at dksX5_minds_0 19 rfl rfl)
theorem dX5_minds_20 : decode cX5_minds 20 = .ok (.iaload, 1) := dk_46 (dk_at dksX5_minds_0 20 rfl rfl)
theorem dX5_minds_21 : decode cX5_minds 21 = .ok (.ireturn, 1) := dk_172 (dk_at dksX5_minds_0 21 rfl rfl)
theorem dX5_minds_22 : decode cX5_minds 22 = .ok (.aload_n 0, 1) := dk_42 (dk_at dksX5_minds_0 22 rfl rfl)
theorem dX5_minds_23 : decode cX5_minds 23 = .ok (.iload_n 2, 1) := dk_28 (dk_at dksX5_minds_0 23 rfl rfl)
theorem dX5_minds_24 : decode cX5_minds 24 = .ok (.iload_n 1, 1) := dk_27 (dk_at dksX5_minds_1 0 rfl rfl)
theorem dX5_minds_25 : decode cX5_minds 25 = .ok (.iload_n 1, 1) := dk_27 (dk_at dksX5_minds_1 1 rfl rfl)
theorem dX5_minds_26 : decode cX5_minds 26 = .ok (.iload_n 2, 1) := dk_28 (dk_at dksX5_minds_1 2 rfl rfl)
theorem dX5_minds_27 : decode cX5_minds 27 = .ok (.invokevirtual 92, 3) := dk_182 0 92 (dk_at dksX5_minds_1 3 rfl rfl)
theorem dX5_minds_30 : decode cX5_minds 30 = .ok (.aload_n 0, 1) := dk_42 (dk_at dksX5_minds_1 6 rfl rfl)
theorem dX5_minds_31 : decode cX5_minds 31 = .ok (.getfield 3, 3) := dk_180 0 3 (dk_at dksX5_minds_1 7 rfl rfl)
theorem dX5_minds_34 : decode cX5_minds 34 = .ok (.getfield 72, 3) := dk_180 0 72 (dk_at dksX5_minds_1 10 rfl rfl)
theorem dX5_minds_37 : decode cX5_minds 37 = .ok (.getfield 76, 3) := dk_180 0 76 (dk_at dksX5_minds_1 13 rfl rfl)
theorem dX5_minds_40 : decode cX5_minds 40 = .ok (.bipush 6, 2) := dk_16 6 (dk_at dksX5_minds_1 16 rfl rfl)
theorem dX5_minds_42 : decode cX5_minds 42 = .ok (.iload_n 3, 1) := dk_29 (dk_at dksX5_minds_1 18 rfl rfl)
theorem dX5_minds_43 : decode cX5_minds 43 = .ok (.i2l, 1) := dk_133 (dk_at dksX5_minds_1 19 rfl rfl)
theorem dX5_minds_44 : decode cX5_minds 44 = .ok (.lastore, 1) := dk_80 (dk_at dksX5_minds_1 20 rfl rfl)
theorem dX5_minds_45 : decode cX5_minds 45 = .ok (.lconst 0, 1) := dk_9 (dk_at dksX5_minds_1 21 rfl rfl)
theorem dX5_minds_46 : decode cX5_minds 46 = .ok (.ldc2_w 116, 3) := dk_20 0 116 (dk_at dksX5_minds_2 0 rfl rfl)
theorem dX5_minds_49 : decode cX5_minds 49 = .ok (.aload_n 0, 1) := dk_42 (dk_at dksX5_minds_2 3 rfl rfl)
theorem dX5_minds_50 : decode cX5_minds 50 = .ok (.getfield 3, 3) := dk_180 0 3 (dk_at dksX5_minds_2 4 rfl rfl)
theorem dX5_minds_53 : decode cX5_minds 53 = .ok (.getfield 82, 3) := dk_180 0 82 (dk_at dksX5_minds_2 7 rfl rfl)
theorem dX5_minds_56 : decode cX5_minds 56 = .ok (.getfield 113, 3) := dk_180 0 113 (dk_at dksX5_minds_2 10 rfl rfl)
theorem dX5_minds_59 : decode cX5_minds 59 = .ok (.aload_n 0, 1) := dk_42 (dk_at dksX5_minds_2 13 rfl rfl)
theorem dX5_minds_60 : decode cX5_minds 60 = .ok (.getfield 3, 3) := dk_180 0 3 (dk_at dksX5_minds_2 14 rfl rfl)
theorem dX5_minds_63 : decode cX5_minds 63 = .ok (.getfield 72, 3) := dk_180 0 72 (dk_at dksX5_minds_2 17 rfl rfl)
theorem dX5_minds_66 : decode cX5_minds 66 = .ok (.invokevirtual 98, 3) := dk_182 0 98 (dk_at dksX5_minds_2 20 rfl rfl)
theorem dX5_minds_69 : decode cX5_minds 69 = .ok (.invokestatic 104, 3) := dk_184 0 104 (dk_at dksX5_minds_3 0 rfl rfl)
theorem dX5_minds_72 : decode cX5_minds 72 = .ok (.invokestatic 110, 3) := dk_184 0 110 (dk_at dksX5_minds_3 3 rfl rfl)
theorem dX5_minds_75 : decode cX5_minds 75 = .ok (.l2i, 1) := dk_136 (dk_at dksX5_minds_3 6 rfl rfl)
theorem dX5_minds_76 : decode cX5_minds 76 = .ok (.ireturn, 1) := dk_172 (dk_at dksX5_minds_3 7 rfl rfl)
abbrev cX5_tells : ByteArray := prog_15_method_9_code
def yX5_tells : MethodName := ⟨RX5, "tells", "(II)V"⟩
def dkwX5_tells_5 : List UInt8 := [177]
abbrev dktX5_tells_5 : List UInt8 := dkwX5_tells_5 ++ []
def dkwX5_tells_4 : List UInt8 := [27, 79, 42, 180, 0, 37, 42, 180, 0, 44, 50, 5, 28, 79, 42, 89, 180, 0, 44, 4, 96, 181, 0, 44]
abbrev dktX5_tells_4 : List UInt8 := dkwX5_tells_4 ++ dktX5_tells_5
def dkwX5_tells_3 : List UInt8 := [180, 0, 37, 42, 180, 0, 44, 50, 3, 42, 180, 0, 40, 79, 42, 180, 0, 37, 42, 180, 0, 44, 50, 4]
abbrev dktX5_tells_3 : List UInt8 := dkwX5_tells_3 ++ dktX5_tells_4
def dkwX5_tells_2 : List UInt8 := [167, 255, 230, 42, 180, 0, 37, 16, 39, 45, 83, 42, 89, 180, 0, 44, 4, 100, 181, 0, 44, 42]
abbrev dktX5_tells_2 : List UInt8 := dkwX5_tells_2 ++ dktX5_tells_3
def dkwX5_tells_1 : List UInt8 := [162, 0, 25, 42, 180, 0, 37, 21, 4, 4, 100, 42, 180, 0, 37, 21, 4, 50, 83, 132, 4, 1]
abbrev dktX5_tells_1 : List UInt8 := dkwX5_tells_1 ++ dktX5_tells_2
def dkwX5_tells_0 : List UInt8 := [42, 180, 0, 44, 16, 40, 160, 0, 60, 42, 180, 0, 37, 3, 50, 78, 4, 54, 4, 21, 4, 16, 40]
abbrev dktX5_tells_0 : List UInt8 := dkwX5_tells_0 ++ dktX5_tells_1
theorem dksX5_tells_0 : cX5_tells.data.toList.drop 0 = dktX5_tells_0 := by decide +kernel
theorem dksX5_tells_1 : cX5_tells.data.toList.drop 23 = dktX5_tells_1 := dk_seg dksX5_tells_0 23 rfl rfl
theorem dksX5_tells_2 : cX5_tells.data.toList.drop 45 = dktX5_tells_2 := dk_seg dksX5_tells_1 22 rfl rfl
theorem dksX5_tells_3 : cX5_tells.data.toList.drop 67 = dktX5_tells_3 := dk_seg dksX5_tells_2 22 rfl rfl
theorem dksX5_tells_4 : cX5_tells.data.toList.drop 91 = dktX5_tells_4 := dk_seg dksX5_tells_3 24 rfl rfl
theorem dksX5_tells_5 : cX5_tells.data.toList.drop 115 = dktX5_tells_5 := dk_seg dksX5_tells_4 24 rfl rfl
theorem dX5_tells_0 : decode cX5_tells 0 = .ok (.aload_n 0, 1) := dk_42 (dk_at dksX5_tells_0 0 rfl rfl)
theorem dX5_tells_1 : decode cX5_tells 1 = .ok (.getfield 44, 3) := dk_180 0 44 (dk_at dksX5_tells_0 1 rfl rfl)
theorem dX5_tells_4 : decode cX5_tells 4 = .ok (.bipush 40, 2) := dk_16 40 (dk_at dksX5_tells_0 4 rfl rfl)
theorem dX5_tells_6 : decode cX5_tells 6 = .ok (.if_icmp .ne 60, 3) := dk_160 0 60 (dk_at dksX5_tells_0 6 rfl rfl)
theorem dX5_tells_9 : decode cX5_tells 9 = .ok (.aload_n 0, 1) := dk_42 (dk_at dksX5_tells_0 9 rfl rfl)
theorem dX5_tells_10 : decode cX5_tells 10 = .ok (.getfield 37, 3) := dk_180 0 37 (dk_at dksX5_tells_0 10 rfl rfl)
theorem dX5_tells_13 : decode cX5_tells 13 = .ok (.iconst 0, 1) := dk_3 (dk_at dksX5_tells_0 13 rfl rfl)
theorem dX5_tells_14 : decode cX5_tells 14 = .ok (.aaload, 1) := dk_50 (dk_at dksX5_tells_0 14 rfl rfl)
theorem dX5_tells_15 : decode cX5_tells 15 = .ok (.astore_n 3, 1) := dk_78 (dk_at dksX5_tells_0 15 rfl rfl)
theorem dX5_tells_16 : decode cX5_tells 16 = .ok (.iconst 1, 1) := dk_4 (dk_at dksX5_tells_0 16 rfl rfl)
theorem dX5_tells_17 : decode cX5_tells 17 = .ok (.istore 4, 2) := dk_54 4 (dk_at dksX5_tells_0 17 rfl rfl)
theorem dX5_tells_19 : decode cX5_tells 19 = .ok (.iload 4, 2) := dk_21 4 (dk_at dksX5_tells_0 19 rfl rfl)
theorem dX5_tells_21 : decode cX5_tells 21 = .ok (.bipush 40, 2) := dk_16 40 (dk_at dksX5_tells_0 21 rfl rfl)
theorem dX5_tells_23 : decode cX5_tells 23 = .ok (.if_icmp .ge 25, 3) := dk_162 0 25 (dk_at dksX5_tells_1 0 rfl rfl)
theorem dX5_tells_26 : decode cX5_tells 26 = .ok (.aload_n 0, 1) := dk_42 (dk_at dksX5_tells_1 3 rfl rfl)
theorem dX5_tells_27 : decode cX5_tells 27 = .ok (.getfield 37, 3) := dk_180 0 37 (dk_at dksX5_tells_1 4 rfl rfl)
theorem dX5_tells_30 : decode cX5_tells 30 = .ok (.iload 4, 2) := dk_21 4 (dk_at dksX5_tells_1 7 rfl rfl)
theorem dX5_tells_32 : decode cX5_tells 32 = .ok (.iconst 1, 1) := dk_4 (dk_at dksX5_tells_1 9 rfl rfl)
theorem dX5_tells_33 : decode cX5_tells 33 = .ok (.isub, 1) := dk_100 (dk_at dksX5_tells_1 10 rfl rfl)
theorem dX5_tells_34 : decode cX5_tells 34 = .ok (.aload_n 0, 1) := dk_42 (dk_at dksX5_tells_1 11 rfl rfl)
theorem dX5_tells_35 : decode cX5_tells 35 = .ok (.getfield 37, 3) := dk_180 0 37 (dk_at dksX5_tells_1 12 rfl rfl)
theorem dX5_tells_38 : decode cX5_tells 38 = .ok (.iload 4, 2) := dk_21 4 (dk_at dksX5_tells_1 15 rfl rfl)
theorem dX5_tells_40 : decode cX5_tells 40 = .ok (.aaload, 1) := dk_50 (dk_at dksX5_tells_1 17 rfl rfl)
theorem dX5_tells_41 : decode cX5_tells 41 = .ok (.aastore, 1) := dk_83 (dk_at dksX5_tells_1 18 rfl rfl)
theorem dX5_tells_42 : decode cX5_tells 42 = .ok (.iinc 4 1, 3) := dk_132 4 1 (dk_at dksX5_tells_1 19 rfl rfl)
theorem dX5_tells_45 : decode cX5_tells 45 = .ok (.goto (-26), 3) := dk_167 255 230 (dk_at dksX5_tells_2 0 rfl rfl)
theorem dX5_tells_48 : decode cX5_tells 48 = .ok (.aload_n 0, 1) := dk_42 (dk_at dksX5_tells_2 3 rfl rfl)
theorem dX5_tells_49 : decode cX5_tells 49 = .ok (.getfield 37, 3) := dk_180 0 37 (dk_at dksX5_tells_2 4 rfl rfl)
theorem dX5_tells_52 : decode cX5_tells 52 = .ok (.bipush 39, 2) := dk_16 39 (dk_at dksX5_tells_2 7 rfl rfl)
theorem dX5_tells_54 : decode cX5_tells 54 = .ok (.aload_n 3, 1) := dk_45 (dk_at dksX5_tells_2 9 rfl rfl)
theorem dX5_tells_55 : decode cX5_tells 55 = .ok (.aastore, 1) := dk_83 (dk_at dksX5_tells_2 10 rfl rfl)
theorem dX5_tells_56 : decode cX5_tells 56 = .ok (.aload_n 0, 1) := dk_42 (dk_at dksX5_tells_2 11 rfl rfl)
theorem dX5_tells_57 : decode cX5_tells 57 = .ok (.dup, 1) := dk_89 (dk_at dksX5_tells_2 12 rfl rfl)
theorem dX5_tells_58 : decode cX5_tells 58 = .ok (.getfield 44, 3) := dk_180 0 44 (dk_at dksX5_tells_2 13 rfl rfl)
theorem dX5_tells_61 : decode cX5_tells 61 = .ok (.iconst 1, 1) := dk_4 (dk_at dksX5_tells_2 16 rfl rfl)
theorem dX5_tells_62 : decode cX5_tells 62 = .ok (.isub, 1) := dk_100 (dk_at dksX5_tells_2 17 rfl rfl)
theorem dX5_tells_63 : decode cX5_tells 63 = .ok (.putfield 44, 3) := dk_181 0 44 (dk_at dksX5_tells_2 18 rfl rfl)
theorem dX5_tells_66 : decode cX5_tells 66 = .ok (.aload_n 0, 1) := dk_42 (dk_at dksX5_tells_2 21 rfl rfl)
theorem dX5_tells_67 : decode cX5_tells 67 = .ok (.getfield 37, 3) := dk_180 0 37 (dk_at dksX5_tells_3 0 rfl rfl)
theorem dX5_tells_70 : decode cX5_tells 70 = .ok (.aload_n 0, 1) := dk_42 (dk_at dksX5_tells_3 3 rfl rfl)
theorem dX5_tells_71 : decode cX5_tells 71 = .ok (.getfield 44, 3) := dk_180 0 44 (dk_at dksX5_tells_3 4 rfl rfl)
theorem dX5_tells_74 : decode cX5_tells 74 = .ok (.aaload, 1) := dk_50 (dk_at dksX5_tells_3 7 rfl rfl)
theorem dX5_tells_75 : decode cX5_tells 75 = .ok (.iconst 0, 1) := dk_3 (dk_at dksX5_tells_3 8 rfl rfl)
theorem dX5_tells_76 : decode cX5_tells 76 = .ok (.aload_n 0, 1) := dk_42 (dk_at dksX5_tells_3 9 rfl rfl)
theorem dX5_tells_77 : decode cX5_tells 77 = .ok (.getfield 40, 3) := dk_180 0 40 (dk_at dksX5_tells_3 10 rfl rfl)
theorem dX5_tells_80 : decode cX5_tells 80 = .ok (.iastore, 1) := dk_79 (dk_at dksX5_tells_3 13 rfl rfl)
theorem dX5_tells_81 : decode cX5_tells 81 = .ok (.aload_n 0, 1) := dk_42 (dk_at dksX5_tells_3 14 rfl rfl)
theorem dX5_tells_82 : decode cX5_tells 82 = .ok (.getfield 37, 3) := dk_180 0 37 (dk_at dksX5_tells_3 15 rfl rfl)
theorem dX5_tells_85 : decode cX5_tells 85 = .ok (.aload_n 0, 1) := dk_42 (dk_at dksX5_tells_3 18 rfl rfl)
theorem dX5_tells_86 : decode cX5_tells 86 = .ok (.getfield 44, 3) := dk_180 0 44 (dk_at dksX5_tells_3 19 rfl rfl)
theorem dX5_tells_89 : decode cX5_tells 89 = .ok (.aaload, 1) := dk_50 (dk_at dksX5_tells_3 22 rfl rfl)
theorem dX5_tells_90 : decode cX5_tells 90 = .ok (.iconst 1, 1) := dk_4 (dk_at dksX5_tells_3 23 rfl rfl)
theorem dX5_tells_91 : decode cX5_tells 91 = .ok (.iload_n 1, 1) := dk_27 (dk_at dksX5_tells_4 0 rfl rfl)
theorem dX5_tells_92 : decode cX5_tells 92 = .ok (.iastore, 1) := dk_79 (dk_at dksX5_tells_4 1 rfl rfl)
theorem dX5_tells_93 : decode cX5_tells 93 = .ok (.aload_n 0, 1) := dk_42 (dk_at dksX5_tells_4 2 rfl rfl)
theorem dX5_tells_94 : decode cX5_tells 94 = .ok (.getfield 37, 3) := dk_180 0 37 (dk_at dksX5_tells_4 3 rfl rfl)
theorem dX5_tells_97 : decode cX5_tells 97 = .ok (.aload_n 0, 1) := dk_42 (dk_at dksX5_tells_4 6 rfl rfl)
theorem dX5_tells_98 : decode cX5_tells 98 = .ok (.getfield 44, 3) := dk_180 0 44 (dk_at dksX5_tells_4 7 rfl rfl)
theorem dX5_tells_101 : decode cX5_tells 101 = .ok (.aaload, 1) := dk_50 (dk_at dksX5_tells_4 10 rfl rfl)
theorem dX5_tells_102 : decode cX5_tells 102 = .ok (.iconst 2, 1) := dk_5 (dk_at dksX5_tells_4 11 rfl rfl)
theorem dX5_tells_103 : decode cX5_tells 103 = .ok (.iload_n 2, 1) := dk_28 (dk_at dksX5_tells_4 12 rfl rfl)
theorem dX5_tells_104 : decode cX5_tells 104 = .ok (.iastore, 1) := dk_79 (dk_at dksX5_tells_4 13 rfl rfl)
theorem dX5_tells_105 : decode cX5_tells 105 = .ok (.aload_n 0, 1) := dk_42 (dk_at dksX5_tells_4 14 rfl rfl)
theorem dX5_tells_106 : decode cX5_tells 106 = .ok (.dup, 1) := dk_89 (dk_at dksX5_tells_4 15 rfl rfl)
theorem dX5_tells_107 : decode cX5_tells 107 = .ok (.getfield 44, 3) := dk_180 0 44 (dk_at dksX5_tells_4 16 rfl rfl)
theorem dX5_tells_110 : decode cX5_tells 110 = .ok (.iconst 1, 1) := dk_4 (dk_at dksX5_tells_4 19 rfl rfl)
theorem dX5_tells_111 : decode cX5_tells 111 = .ok (.iadd, 1) := dk_96 (dk_at dksX5_tells_4 20 rfl rfl)
theorem dX5_tells_112 : decode cX5_tells 112 = .ok (.putfield 44, 3) := dk_181 0 44 (dk_at dksX5_tells_4 21 rfl rfl)
theorem dX5_tells_115 : decode cX5_tells 115 = .ok (.return_, 1) := dk_177 (dk_at dksX5_tells_5 0 rfl rfl)
abbrev cX5_changes : ByteArray := prog_15_method_14_code
def yX5_changes : MethodName := ⟨RX5, "changes", "(II)LRetouched$State;"⟩
def dkwX5_changes_1 : List UInt8 := [79, 21, 4, 2, 159, 0, 11, 42, 180, 0, 15, 21, 4, 27, 79, 42, 176]
abbrev dktX5_changes_1 : List UInt8 := dkwX5_changes_1 ++ []
def dkwX5_changes_0 : List UInt8 := [42, 27, 182, 0, 68, 62, 42, 28, 182, 0, 68, 54, 4, 29, 2, 159, 0, 10, 42, 180, 0, 15, 29, 28]
abbrev dktX5_changes_0 : List UInt8 := dkwX5_changes_0 ++ dktX5_changes_1
theorem dksX5_changes_0 : cX5_changes.data.toList.drop 0 = dktX5_changes_0 := by decide +kernel
theorem dksX5_changes_1 : cX5_changes.data.toList.drop 24 = dktX5_changes_1 := dk_seg dksX5_changes_0 24 rfl rfl
theorem dX5_changes_0 : decode cX5_changes 0 = .ok (.aload_n 0, 1) := dk_42 (dk_at dksX5_changes_0 0 rfl rfl)
theorem dX5_changes_1 : decode cX5_changes 1 = .ok (.iload_n 1, 1) := dk_27 (dk_at dksX5_changes_0 1 rfl rfl)
theorem dX5_changes_2 : decode cX5_changes 2 = .ok (.invokevirtual 68, 3) := dk_182 0 68 (dk_at dksX5_changes_0 2 rfl rfl)
theorem dX5_changes_5 : decode cX5_changes 5 = .ok (.istore_n 3, 1) := dk_62 (dk_at dksX5_changes_0 5 rfl rfl)
theorem dX5_changes_6 : decode cX5_changes 6 = .ok (.aload_n 0, 1) := dk_42 (dk_at dksX5_changes_0 6 rfl rfl)
theorem dX5_changes_7 : decode cX5_changes 7 = .ok (.iload_n 2, 1) := dk_28 (dk_at dksX5_changes_0 7 rfl rfl)
theorem dX5_changes_8 : decode cX5_changes 8 = .ok (.invokevirtual 68, 3) := dk_182 0 68 (dk_at dksX5_changes_0 8 rfl rfl)
theorem dX5_changes_11 : decode cX5_changes 11 = .ok (.istore 4, 2) := dk_54 4 (dk_at dksX5_changes_0 11 rfl rfl)
theorem dX5_changes_13 : decode cX5_changes 13 = .ok (.iload_n 3, 1) := dk_29 (dk_at dksX5_changes_0 13 rfl rfl)
theorem dX5_changes_14 : decode cX5_changes 14 = .ok (.iconst (-1), 1) := dk_2 (dk_at dksX5_changes_0 14 rfl rfl)
theorem dX5_changes_15 : decode cX5_changes 15 = .ok (.if_icmp .eq 10, 3) := dk_159 0 10 (dk_at dksX5_changes_0 15 rfl rfl)
theorem dX5_changes_18 : decode cX5_changes 18 = .ok (.aload_n 0, 1) := dk_42 (dk_at dksX5_changes_0 18 rfl rfl)
theorem dX5_changes_19 : decode cX5_changes 19 = .ok (.getfield 15, 3) := dk_180 0 15 (dk_at dksX5_changes_0 19 rfl rfl)
theorem dX5_changes_22 : decode cX5_changes 22 = .ok (.iload_n 3, 1) := dk_29 (dk_at dksX5_changes_0 22 rfl rfl)
theorem dX5_changes_23 : decode cX5_changes 23 = .ok (.iload_n 2, 1) := dk_28 (dk_at dksX5_changes_0 23 rfl rfl)
theorem dX5_changes_24 : decode cX5_changes 24 = .ok (.iastore, 1) := dk_79 (dk_at dksX5_changes_1 0 rfl rfl)
theorem dX5_changes_25 : decode cX5_changes 25 = .ok (.iload 4, 2) := dk_21 4 (dk_at dksX5_changes_1 1 rfl rfl)
theorem dX5_changes_27 : decode cX5_changes 27 = .ok (.iconst (-1), 1) := dk_2 (dk_at dksX5_changes_1 3 rfl rfl)
theorem dX5_changes_28 : decode cX5_changes 28 = .ok (.if_icmp .eq 11, 3) := dk_159 0 11 (dk_at dksX5_changes_1 4 rfl rfl)
theorem dX5_changes_31 : decode cX5_changes 31 = .ok (.aload_n 0, 1) := dk_42 (dk_at dksX5_changes_1 7 rfl rfl)
theorem dX5_changes_32 : decode cX5_changes 32 = .ok (.getfield 15, 3) := dk_180 0 15 (dk_at dksX5_changes_1 8 rfl rfl)
theorem dX5_changes_35 : decode cX5_changes 35 = .ok (.iload 4, 2) := dk_21 4 (dk_at dksX5_changes_1 11 rfl rfl)
theorem dX5_changes_37 : decode cX5_changes 37 = .ok (.iload_n 1, 1) := dk_27 (dk_at dksX5_changes_1 13 rfl rfl)
theorem dX5_changes_38 : decode cX5_changes 38 = .ok (.iastore, 1) := dk_79 (dk_at dksX5_changes_1 14 rfl rfl)
theorem dX5_changes_39 : decode cX5_changes 39 = .ok (.aload_n 0, 1) := dk_42 (dk_at dksX5_changes_1 15 rfl rfl)
theorem dX5_changes_40 : decode cX5_changes 40 = .ok (.areturn, 1) := dk_176 (dk_at dksX5_changes_1 16 rfl rfl)
abbrev cX5_comes : ByteArray := prog_15_method_15_code
def yX5_comes : MethodName := ⟨RX5, "comes", "(III)LRetouched$State;"⟩
def dkwX5_comes_4 : List UInt8 := [181, 0, 51, 42, 176]
abbrev dktX5_comes_4 : List UInt8 := dkwX5_comes_4 ++ []
def dkwX5_comes_3 : List UInt8 := [180, 0, 34, 21, 5, 50, 21, 4, 8, 79, 132, 5, 1, 167, 255, 224, 42, 89, 180, 0, 51, 4, 96]
abbrev dktX5_comes_3 : List UInt8 := dkwX5_comes_3 ++ dktX5_comes_4
def dkwX5_comes_2 : List UInt8 := [3, 84, 3, 54, 5, 21, 5, 16, 8, 162, 0, 31, 42, 180, 0, 34, 21, 4, 50, 21, 5, 8, 79, 42]
abbrev dktX5_comes_2 : List UInt8 := dkwX5_comes_2 ++ dktX5_comes_3
def dkwX5_comes_1 : List UInt8 := [180, 0, 25, 21, 4, 29, 79, 42, 180, 0, 19, 21, 4, 16, 10, 28, 104, 79, 42, 180, 0, 28, 21, 4]
abbrev dktX5_comes_1 : List UInt8 := dkwX5_comes_1 ++ dktX5_comes_2
def dkwX5_comes_0 : List UInt8 := [42, 180, 0, 51, 54, 4, 42, 180, 0, 15, 21, 4, 27, 79, 42, 180, 0, 22, 21, 4, 28, 79, 42]
abbrev dktX5_comes_0 : List UInt8 := dkwX5_comes_0 ++ dktX5_comes_1
theorem dksX5_comes_0 : cX5_comes.data.toList.drop 0 = dktX5_comes_0 := by decide +kernel
theorem dksX5_comes_1 : cX5_comes.data.toList.drop 23 = dktX5_comes_1 := dk_seg dksX5_comes_0 23 rfl rfl
theorem dksX5_comes_2 : cX5_comes.data.toList.drop 47 = dktX5_comes_2 := dk_seg dksX5_comes_1 24 rfl rfl
theorem dksX5_comes_3 : cX5_comes.data.toList.drop 71 = dktX5_comes_3 := dk_seg dksX5_comes_2 24 rfl rfl
theorem dksX5_comes_4 : cX5_comes.data.toList.drop 94 = dktX5_comes_4 := dk_seg dksX5_comes_3 23 rfl rfl
theorem dX5_comes_0 : decode cX5_comes 0 = .ok (.aload_n 0, 1) := dk_42 (dk_at dksX5_comes_0 0 rfl rfl)
theorem dX5_comes_1 : decode cX5_comes 1 = .ok (.getfield 51, 3) := dk_180 0 51 (dk_at dksX5_comes_0 1 rfl rfl)
theorem dX5_comes_4 : decode cX5_comes 4 = .ok (.istore 4, 2) := dk_54 4 (dk_at dksX5_comes_0 4 rfl rfl)
theorem dX5_comes_6 : decode cX5_comes 6 = .ok (.aload_n 0, 1) := dk_42 (dk_at dksX5_comes_0 6 rfl rfl)
theorem dX5_comes_7 : decode cX5_comes 7 = .ok (.getfield 15, 3) := dk_180 0 15 (dk_at dksX5_comes_0 7 rfl rfl)
theorem dX5_comes_10 : decode cX5_comes 10 = .ok (.iload 4, 2) := dk_21 4 (dk_at dksX5_comes_0 10 rfl rfl)
theorem dX5_comes_12 : decode cX5_comes 12 = .ok (.iload_n 1, 1) := dk_27 (dk_at dksX5_comes_0 12 rfl rfl)
theorem dX5_comes_13 : decode cX5_comes 13 = .ok (.iastore, 1) := dk_79 (dk_at dksX5_comes_0 13 rfl rfl)
theorem dX5_comes_14 : decode cX5_comes 14 = .ok (.aload_n 0, 1) := dk_42 (dk_at dksX5_comes_0 14 rfl rfl)
theorem dX5_comes_15 : decode cX5_comes 15 = .ok (.getfield 22, 3) := dk_180 0 22 (dk_at dksX5_comes_0 15 rfl rfl)
theorem dX5_comes_18 : decode cX5_comes 18 = .ok (.iload 4, 2) := dk_21 4 (dk_at dksX5_comes_0 18 rfl rfl)
theorem dX5_comes_20 : decode cX5_comes 20 = .ok (.iload_n 2, 1) := dk_28 (dk_at dksX5_comes_0 20 rfl rfl)
theorem dX5_comes_21 : decode cX5_comes 21 = .ok (.iastore, 1) := dk_79 (dk_at dksX5_comes_0 21 rfl rfl)
theorem dX5_comes_22 : decode cX5_comes 22 = .ok (.aload_n 0, 1) := dk_42 (dk_at dksX5_comes_0 22 rfl rfl)
theorem dX5_comes_23 : decode cX5_comes 23 = .ok (.getfield 25, 3) := dk_180 0 25 (dk_at dksX5_comes_1 0 rfl rfl)
theorem dX5_comes_26 : decode cX5_comes 26 = .ok (.iload 4, 2) := dk_21 4 (dk_at dksX5_comes_1 3 rfl rfl)
theorem dX5_comes_28 : decode cX5_comes 28 = .ok (.iload_n 3, 1) := dk_29 (dk_at dksX5_comes_1 5 rfl rfl)
theorem dX5_comes_29 : decode cX5_comes 29 = .ok (.iastore, 1) := dk_79 (dk_at dksX5_comes_1 6 rfl rfl)
theorem dX5_comes_30 : decode cX5_comes 30 = .ok (.aload_n 0, 1) := dk_42 (dk_at dksX5_comes_1 7 rfl rfl)
theorem dX5_comes_31 : decode cX5_comes 31 = .ok (.getfield 19, 3) := dk_180 0 19 (dk_at dksX5_comes_1 8 rfl rfl)
theorem dX5_comes_34 : decode cX5_comes 34 = .ok (.iload 4, 2) := dk_21 4 (dk_at dksX5_comes_1 11 rfl rfl)
theorem dX5_comes_36 : decode cX5_comes 36 = .ok (.bipush 10, 2) := dk_16 10 (dk_at dksX5_comes_1 13 rfl rfl)
theorem dX5_comes_38 : decode cX5_comes 38 = .ok (.iload_n 2, 1) := dk_28 (dk_at dksX5_comes_1 15 rfl rfl)
theorem dX5_comes_39 : decode cX5_comes 39 = .ok (.imul, 1) := dk_104 (dk_at dksX5_comes_1 16 rfl rfl)
theorem dX5_comes_40 : decode cX5_comes 40 = .ok (.iastore, 1) := dk_79 (dk_at dksX5_comes_1 17 rfl rfl)
theorem dX5_comes_41 : decode cX5_comes 41 = .ok (.aload_n 0, 1) := dk_42 (dk_at dksX5_comes_1 18 rfl rfl)
theorem dX5_comes_42 : decode cX5_comes 42 = .ok (.getfield 28, 3) := dk_180 0 28 (dk_at dksX5_comes_1 19 rfl rfl)
theorem dX5_comes_45 : decode cX5_comes 45 = .ok (.iload 4, 2) := dk_21 4 (dk_at dksX5_comes_1 22 rfl rfl)
theorem dX5_comes_47 : decode cX5_comes 47 = .ok (.iconst 0, 1) := dk_3 (dk_at dksX5_comes_2 0 rfl rfl)
theorem dX5_comes_48 : decode cX5_comes 48 = .ok (.bastore, 1) := dk_84 (dk_at dksX5_comes_2 1 rfl rfl)
theorem dX5_comes_49 : decode cX5_comes 49 = .ok (.iconst 0, 1) := dk_3 (dk_at dksX5_comes_2 2 rfl rfl)
theorem dX5_comes_50 : decode cX5_comes 50 = .ok (.istore 5, 2) := dk_54 5 (dk_at dksX5_comes_2 3 rfl rfl)
theorem dX5_comes_52 : decode cX5_comes 52 = .ok (.iload 5, 2) := dk_21 5 (dk_at dksX5_comes_2 5 rfl rfl)
theorem dX5_comes_54 : decode cX5_comes 54 = .ok (.bipush 8, 2) := dk_16 8 (dk_at dksX5_comes_2 7 rfl rfl)
theorem dX5_comes_56 : decode cX5_comes 56 = .ok (.if_icmp .ge 31, 3) := dk_162 0 31 (dk_at dksX5_comes_2 9 rfl rfl)
theorem dX5_comes_59 : decode cX5_comes 59 = .ok (.aload_n 0, 1) := dk_42 (dk_at dksX5_comes_2 12 rfl rfl)
theorem dX5_comes_60 : decode cX5_comes 60 = .ok (.getfield 34, 3) := dk_180 0 34 (dk_at dksX5_comes_2 13 rfl rfl)
theorem dX5_comes_63 : decode cX5_comes 63 = .ok (.iload 4, 2) := dk_21 4 (dk_at dksX5_comes_2 16 rfl rfl)
theorem dX5_comes_65 : decode cX5_comes 65 = .ok (.aaload, 1) := dk_50 (dk_at dksX5_comes_2 18 rfl rfl)
theorem dX5_comes_66 : decode cX5_comes 66 = .ok (.iload 5, 2) := dk_21 5 (dk_at dksX5_comes_2 19 rfl rfl)
theorem dX5_comes_68 : decode cX5_comes 68 = .ok (.iconst 5, 1) := dk_8 (dk_at dksX5_comes_2 21 rfl rfl)
theorem dX5_comes_69 : decode cX5_comes 69 = .ok (.iastore, 1) := dk_79 (dk_at dksX5_comes_2 22 rfl rfl)
theorem dX5_comes_70 : decode cX5_comes 70 = .ok (.aload_n 0, 1) := dk_42 (dk_at dksX5_comes_2 23 rfl rfl)
theorem dX5_comes_71 : decode cX5_comes 71 = .ok (.getfield 34, 3) := dk_180 0 34 (dk_at dksX5_comes_3 0 rfl rfl)
theorem dX5_comes_74 : decode cX5_comes 74 = .ok (.iload 5, 2) := dk_21 5 (dk_at dksX5_comes_3 3 rfl rfl)
theorem dX5_comes_76 : decode cX5_comes 76 = .ok (.aaload, 1) := dk_50 (dk_at dksX5_comes_3 5 rfl rfl)
theorem dX5_comes_77 : decode cX5_comes 77 = .ok (.iload 4, 2) := dk_21 4 (dk_at dksX5_comes_3 6 rfl rfl)
theorem dX5_comes_79 : decode cX5_comes 79 = .ok (.iconst 5, 1) := dk_8 (dk_at dksX5_comes_3 8 rfl rfl)
theorem dX5_comes_80 : decode cX5_comes 80 = .ok (.iastore, 1) := dk_79 (dk_at dksX5_comes_3 9 rfl rfl)
theorem dX5_comes_81 : decode cX5_comes 81 = .ok (.iinc 5 1, 3) := dk_132 5 1 (dk_at dksX5_comes_3 10 rfl rfl)
theorem dX5_comes_84 : decode cX5_comes 84 = .ok (.goto (-32), 3) := dk_167 255 224 (dk_at dksX5_comes_3 13 rfl rfl)
theorem dX5_comes_87 : decode cX5_comes 87 = .ok (.aload_n 0, 1) := dk_42 (dk_at dksX5_comes_3 16 rfl rfl)
theorem dX5_comes_88 : decode cX5_comes 88 = .ok (.dup, 1) := dk_89 (dk_at dksX5_comes_3 17 rfl rfl)
theorem dX5_comes_89 : decode cX5_comes 89 = .ok (.getfield 51, 3) := dk_180 0 51 (dk_at dksX5_comes_3 18 rfl rfl)
theorem dX5_comes_92 : decode cX5_comes 92 = .ok (.iconst 1, 1) := dk_4 (dk_at dksX5_comes_3 21 rfl rfl)
theorem dX5_comes_93 : decode cX5_comes 93 = .ok (.iadd, 1) := dk_96 (dk_at dksX5_comes_3 22 rfl rfl)
theorem dX5_comes_94 : decode cX5_comes 94 = .ok (.putfield 51, 3) := dk_181 0 51 (dk_at dksX5_comes_4 0 rfl rfl)
theorem dX5_comes_97 : decode cX5_comes 97 = .ok (.aload_n 0, 1) := dk_42 (dk_at dksX5_comes_4 3 rfl rfl)
theorem dX5_comes_98 : decode cX5_comes 98 = .ok (.areturn, 1) := dk_176 (dk_at dksX5_comes_4 4 rfl rfl)
theorem q156 : (Jvm.Cond.initialized "Retouched$State") ∈ lw_all := lw_g (lw_at lw_m1 12 rfl) rfl
theorem q227 : (Jvm.Cond.fieldLinkNest "Retouched$State" (131 : Nat) "Retouched$Terrace" "houses" "I" "Retouched") ∈ lw_tbl := lw_at lw_m1 83 rfl
theorem q235 : (Jvm.Cond.fieldLinkNest "Retouched$State" (86 : Nat) "Retouched$Terrace" "paints" "LRetouched$Value;" "Retouched") ∈ lw_tbl := lw_at lw_m1 91 rfl
theorem q237 : (Jvm.Cond.fieldLinkNest "Retouched$State" (113 : Nat) "Retouched$Terrace" "minds" "LRetouched$Value;" "Retouched") ∈ lw_tbl := lw_at lw_m1 93 rfl
theorem q239 : (Jvm.Cond.fieldLinkNest "Retouched$State" (141 : Nat) "Retouched$Terrace" "feud" "LRetouched$Test;" "Retouched") ∈ lw_tbl := lw_at lw_m1 95 rfl
theorem q368 : (Jvm.Cond.fieldLinkNest "Retouched$State" (76 : Nat) "Retouched$Moment" "of" "[J" "Retouched") ∈ lw_tbl := lw_at lw_m1 224 rfl
theorem q375 : (Jvm.Cond.instantiable "Retouched$State" (11 : Nat)) ∈ lw_all := lw_g (lw_at lw_m1 231 rfl) rfl
theorem q377 : (Jvm.Cond.instanceMethod ({ cls := "Retouched$State", name := "<init>", desc := "(LRetouched;)V" } : Jvm.MethodName)) ∈ lw_all := lw_g (lw_at lw_m1 233 rfl) rfl
theorem q378 : (Jvm.Cond.code ({ cls := "Retouched$State", name := "<init>", desc := "(LRetouched;)V" } : Jvm.MethodName) prog_15_method_1_code (2 : Nat) (Option.none : Option Jvm.ClassFile.FieldType)) ∈ lw_all := lw_g (lw_at lw_m1 234 rfl) rfl
theorem q379 : (Jvm.Cond.methodLink "Retouched$State" (9 : Nat) ({ cls := "java/lang/Object", name := "<init>", desc := "()V" } : Jvm.MethodName)) ∈ lw_all := lw_g (lw_at lw_m1 235 rfl) rfl
theorem q380 : (Jvm.Cond.classLink "Retouched$State" (32 : Nat) "[[I") ∈ lw_all := lw_g (lw_at lw_m1 236 rfl) rfl
theorem q382 : (Jvm.Cond.fieldLink "Retouched$State" (40 : Nat) "Retouched$State" "year" "I") ∈ lw_all := lw_g (lw_at lw_m1 238 rfl) rfl
theorem q384 : (Jvm.Cond.fieldLink "Retouched$State" (51 : Nat) "Retouched$State" "many" "I") ∈ lw_all := lw_g (lw_at lw_m2 0 rfl) rfl
theorem q385 : (Jvm.Cond.fieldLink "Retouched$State" (44 : Nat) "Retouched$State" "keeps" "I") ∈ lw_all := lw_g (lw_at lw_m2 1 rfl) rfl
theorem q387 : (Jvm.Cond.fieldLink "Retouched$State" (15 : Nat) "Retouched$State" "house" "[I") ∈ lw_all := lw_g (lw_at lw_m2 3 rfl) rfl
theorem q389 : (Jvm.Cond.fieldLink "Retouched$State" (19 : Nat) "Retouched$State" "look" "[I") ∈ lw_all := lw_g (lw_at lw_m2 5 rfl) rfl
theorem q391 : (Jvm.Cond.fieldLink "Retouched$State" (22 : Nat) "Retouched$State" "face" "[I") ∈ lw_all := lw_g (lw_at lw_m2 7 rfl) rfl
theorem q393 : (Jvm.Cond.fieldLink "Retouched$State" (25 : Nat) "Retouched$State" "kind" "[I") ∈ lw_all := lw_g (lw_at lw_m2 9 rfl) rfl
theorem q395 : (Jvm.Cond.fieldLink "Retouched$State" (28 : Nat) "Retouched$State" "spares" "[Z") ∈ lw_all := lw_g (lw_at lw_m2 11 rfl) rfl
theorem q397 : (Jvm.Cond.fieldLink "Retouched$State" (34 : Nat) "Retouched$State" "thinks" "[[I") ∈ lw_all := lw_g (lw_at lw_m2 13 rfl) rfl
theorem q399 : (Jvm.Cond.fieldLink "Retouched$State" (37 : Nat) "Retouched$State" "rows" "[[I") ∈ lw_all := lw_g (lw_at lw_m2 15 rfl) rfl
theorem q401 : (Jvm.Cond.fieldLink "Retouched$State" (3 : Nat) "Retouched$State" "this$0" "LRetouched;") ∈ lw_all := lw_g (lw_at lw_m2 17 rfl) rfl
theorem q402 : (Jvm.Cond.lays "Retouched$State" "Retouched$State" "year" "I") ∈ lw_all := lw_g (lw_at lw_m2 18 rfl) rfl
theorem q403 : (Jvm.Cond.soleField "Retouched$State" "year") ∈ lw_all := lw_g (lw_at lw_m2 19 rfl) rfl
theorem q404 : (Jvm.Cond.lays "Retouched$State" "Retouched$State" "many" "I") ∈ lw_all := lw_g (lw_at lw_m2 20 rfl) rfl
theorem q405 : (Jvm.Cond.soleField "Retouched$State" "many") ∈ lw_all := lw_g (lw_at lw_m2 21 rfl) rfl
theorem q406 : (Jvm.Cond.lays "Retouched$State" "Retouched$State" "keeps" "I") ∈ lw_all := lw_g (lw_at lw_m2 22 rfl) rfl
theorem q407 : (Jvm.Cond.soleField "Retouched$State" "keeps") ∈ lw_all := lw_g (lw_at lw_m2 23 rfl) rfl
theorem q408 : (Jvm.Cond.laysFinal "Retouched$State" "Retouched$State" "house" "[I") ∈ lw_all := lw_g (lw_at lw_m2 24 rfl) rfl
theorem q409 : (Jvm.Cond.soleField "Retouched$State" "house") ∈ lw_all := lw_g (lw_at lw_m2 25 rfl) rfl
theorem q410 : (Jvm.Cond.laysFinal "Retouched$State" "Retouched$State" "look" "[I") ∈ lw_all := lw_g (lw_at lw_m2 26 rfl) rfl
theorem q411 : (Jvm.Cond.soleField "Retouched$State" "look") ∈ lw_all := lw_g (lw_at lw_m2 27 rfl) rfl
theorem q412 : (Jvm.Cond.laysFinal "Retouched$State" "Retouched$State" "face" "[I") ∈ lw_all := lw_g (lw_at lw_m2 28 rfl) rfl
theorem q413 : (Jvm.Cond.soleField "Retouched$State" "face") ∈ lw_all := lw_g (lw_at lw_m2 29 rfl) rfl
theorem q414 : (Jvm.Cond.laysFinal "Retouched$State" "Retouched$State" "kind" "[I") ∈ lw_all := lw_g (lw_at lw_m2 30 rfl) rfl
theorem q415 : (Jvm.Cond.soleField "Retouched$State" "kind") ∈ lw_all := lw_g (lw_at lw_m2 31 rfl) rfl
theorem q416 : (Jvm.Cond.laysFinal "Retouched$State" "Retouched$State" "spares" "[Z") ∈ lw_all := lw_g (lw_at lw_m2 32 rfl) rfl
theorem q417 : (Jvm.Cond.soleField "Retouched$State" "spares") ∈ lw_all := lw_g (lw_at lw_m2 33 rfl) rfl
theorem q418 : (Jvm.Cond.laysFinal "Retouched$State" "Retouched$State" "thinks" "[[I") ∈ lw_all := lw_g (lw_at lw_m2 34 rfl) rfl
theorem q419 : (Jvm.Cond.soleField "Retouched$State" "thinks") ∈ lw_all := lw_g (lw_at lw_m2 35 rfl) rfl
theorem q420 : (Jvm.Cond.laysFinal "Retouched$State" "Retouched$State" "rows" "[[I") ∈ lw_all := lw_g (lw_at lw_m2 36 rfl) rfl
theorem q421 : (Jvm.Cond.soleField "Retouched$State" "rows") ∈ lw_all := lw_g (lw_at lw_m2 37 rfl) rfl
theorem q422 : (Jvm.Cond.laysFinal "Retouched$State" "Retouched$State" "this$0" "LRetouched;") ∈ lw_all := lw_g (lw_at lw_m2 38 rfl) rfl
theorem q423 : (Jvm.Cond.soleField "Retouched$State" "this$0") ∈ lw_all := lw_g (lw_at lw_m2 39 rfl) rfl
theorem q424 : (Jvm.Cond.superclass "Retouched$State" "java/lang/Object") ∈ lw_all := lw_g (lw_at lw_m2 40 rfl) rfl
theorem q429 : (Jvm.Cond.fieldLinkNest "Retouched$State" (82 : Nat) "Retouched" "terrace" "LRetouched$Terrace;" "Retouched") ∈ lw_tbl := lw_at lw_m2 45 rfl
theorem q437 : (Jvm.Cond.fieldLinkNest "Retouched$State" (72 : Nat) "Retouched" "moment" "LRetouched$Moment;" "Retouched") ∈ lw_tbl := lw_at lw_m2 53 rfl
theorem q806 : (Jvm.Cond.fieldLinkNest "Retouched$State" (58 : Nat) "Retouched$Soul" "house" "I" "Retouched") ∈ lw_tbl := lw_at lw_m3 182 rfl
theorem q809 : (Jvm.Cond.fieldLinkNest "Retouched$State" (62 : Nat) "Retouched$Soul" "face" "I" "Retouched") ∈ lw_tbl := lw_at lw_m3 185 rfl
theorem q811 : (Jvm.Cond.fieldLinkNest "Retouched$State" (64 : Nat) "Retouched$Soul" "kind" "I" "Retouched") ∈ lw_tbl := lw_at lw_m3 187 rfl
theorem q813 : (Jvm.Cond.fieldLinkNest "Retouched$State" (66 : Nat) "Retouched$Soul" "thinks" "[I" "Retouched") ∈ lw_tbl := lw_at lw_m3 189 rfl
theorem q879 : (Jvm.Cond.selects "Retouched$State" ({ cls := "java/lang/Object", name := "getClass", desc := "()Ljava/lang/Class;" } : Jvm.MethodName) ({ cls := "java/lang/Object", name := "getClass", desc := "()Ljava/lang/Class;" } : Jvm.MethodName)) ∈ lw_all := lw_g (lw_at lw_m4 15 rfl) rfl
theorem q1175 : (Jvm.Cond.instanceMethod ({ cls := "Retouched$State", name := "begins", desc := "()V" } : Jvm.MethodName)) ∈ lw_all := lw_g (lw_at lw_m5 71 rfl) rfl
theorem q1176 : (Jvm.Cond.selects "Retouched$State" ({ cls := "Retouched$State", name := "begins", desc := "()V" } : Jvm.MethodName) ({ cls := "Retouched$State", name := "begins", desc := "()V" } : Jvm.MethodName)) ∈ lw_all := lw_g (lw_at lw_m5 72 rfl) rfl
theorem q1177 : (Jvm.Cond.code ({ cls := "Retouched$State", name := "begins", desc := "()V" } : Jvm.MethodName) prog_15_method_2_code (3 : Nat) (Option.none : Option Jvm.ClassFile.FieldType)) ∈ lw_all := lw_g (lw_at lw_m5 73 rfl) rfl
theorem q1178 : (Jvm.Cond.methodLinkNest "Retouched$State" (47 : Nat) ({ cls := "Retouched", name := "people", desc := "()I" } : Jvm.MethodName) "Retouched") ∈ lw_tbl := lw_at lw_m5 74 rfl
theorem q1184 : (Jvm.Cond.methodLinkNest "Retouched$State" (54 : Nat) ({ cls := "Retouched", name := "soulOf", desc := "(I)LRetouched$Soul;" } : Jvm.MethodName) "Retouched") ∈ lw_tbl := lw_at lw_m5 80 rfl
theorem q1201 : (Jvm.Cond.instanceMethod ({ cls := "Retouched$State", name := "feud", desc := "(I)Z" } : Jvm.MethodName)) ∈ lw_all := lw_g (lw_at lw_m5 97 rfl) rfl
theorem q1202 : (Jvm.Cond.selects "Retouched$State" ({ cls := "Retouched$State", name := "feud", desc := "(I)Z" } : Jvm.MethodName) ({ cls := "Retouched$State", name := "feud", desc := "(I)Z" } : Jvm.MethodName)) ∈ lw_all := lw_g (lw_at lw_m5 98 rfl) rfl
theorem q1203 : (Jvm.Cond.code ({ cls := "Retouched$State", name := "feud", desc := "(I)Z" } : Jvm.MethodName) prog_15_method_16_code (4 : Nat) (Option.some Jvm.ClassFile.FieldType.boolean)) ∈ lw_all := lw_g (lw_at lw_m5 99 rfl) rfl
theorem q1204 : (Jvm.Cond.methodLink "Retouched$State" (68 : Nat) ({ cls := "Retouched$State", name := "who", desc := "(I)I" } : Jvm.MethodName)) ∈ lw_all := lw_g (lw_at lw_m5 100 rfl) rfl
theorem q1205 : (Jvm.Cond.instanceMethod ({ cls := "Retouched$State", name := "who", desc := "(I)I" } : Jvm.MethodName)) ∈ lw_all := lw_g (lw_at lw_m5 101 rfl) rfl
theorem q1206 : (Jvm.Cond.selects "Retouched$State" ({ cls := "Retouched$State", name := "who", desc := "(I)I" } : Jvm.MethodName) ({ cls := "Retouched$State", name := "who", desc := "(I)I" } : Jvm.MethodName)) ∈ lw_all := lw_g (lw_at lw_m5 102 rfl) rfl
theorem q1207 : (Jvm.Cond.code ({ cls := "Retouched$State", name := "who", desc := "(I)I" } : Jvm.MethodName) prog_15_method_4_code (3 : Nat) (Option.some Jvm.ClassFile.FieldType.int)) ∈ lw_all := lw_g (lw_at lw_m5 103 rfl) rfl
theorem q1208 : (Jvm.Cond.methodLink "Retouched$State" (92 : Nat) ({ cls := "Retouched$State", name := "asks", desc := "(IIII)V" } : Jvm.MethodName)) ∈ lw_all := lw_g (lw_at lw_m5 104 rfl) rfl
theorem q1209 : (Jvm.Cond.privateMethod ({ cls := "Retouched$State", name := "asks", desc := "(IIII)V" } : Jvm.MethodName)) ∈ lw_tbl := lw_at lw_m5 105 rfl
theorem q1210 : (Jvm.Cond.instanceMethod ({ cls := "Retouched$State", name := "asks", desc := "(IIII)V" } : Jvm.MethodName)) ∈ lw_all := lw_g (lw_at lw_m5 106 rfl) rfl
theorem q1211 : (Jvm.Cond.code ({ cls := "Retouched$State", name := "asks", desc := "(IIII)V" } : Jvm.MethodName) prog_15_method_6_code (5 : Nat) (Option.none : Option Jvm.ClassFile.FieldType)) ∈ lw_all := lw_g (lw_at lw_m5 107 rfl) rfl
theorem q1212 : (Jvm.Cond.methodLink "Retouched$State" (145 : Nat) ({ cls := "Retouched$Test", name := "holds", desc := "(LRetouched$Moment;)Z" } : Jvm.MethodName)) ∈ lw_all := lw_g (lw_at lw_m5 108 rfl) rfl
theorem q1294 : (Jvm.Cond.instanceMethod ({ cls := "Retouched$State", name := "looks", desc := "()I" } : Jvm.MethodName)) ∈ lw_all := lw_g (lw_at lw_m5 190 rfl) rfl
theorem q1295 : (Jvm.Cond.selects "Retouched$State" ({ cls := "Retouched$State", name := "looks", desc := "()I" } : Jvm.MethodName) ({ cls := "Retouched$State", name := "looks", desc := "()I" } : Jvm.MethodName)) ∈ lw_all := lw_g (lw_at lw_m5 191 rfl) rfl
theorem q1296 : (Jvm.Cond.code ({ cls := "Retouched$State", name := "looks", desc := "()I" } : Jvm.MethodName) prog_15_method_13_code (3 : Nat) (Option.some Jvm.ClassFile.FieldType.int)) ∈ lw_all := lw_g (lw_at lw_m5 192 rfl) rfl
theorem q1337 : (Jvm.Cond.instanceMethod ({ cls := "Retouched$State", name := "beside", desc := "(II)I" } : Jvm.MethodName)) ∈ lw_all := lw_g (lw_at lw_m5 233 rfl) rfl
theorem q1338 : (Jvm.Cond.selects "Retouched$State" ({ cls := "Retouched$State", name := "beside", desc := "(II)I" } : Jvm.MethodName) ({ cls := "Retouched$State", name := "beside", desc := "(II)I" } : Jvm.MethodName)) ∈ lw_all := lw_g (lw_at lw_m5 234 rfl) rfl
theorem q1339 : (Jvm.Cond.code ({ cls := "Retouched$State", name := "beside", desc := "(II)I" } : Jvm.MethodName) prog_15_method_5_code (3 : Nat) (Option.some Jvm.ClassFile.FieldType.int)) ∈ lw_all := lw_g (lw_at lw_m5 235 rfl) rfl
theorem q1353 : (Jvm.Cond.instanceMethod ({ cls := "Retouched$State", name := "paints", desc := "(III)I" } : Jvm.MethodName)) ∈ lw_all := lw_g (lw_at lw_m6 9 rfl) rfl
theorem q1354 : (Jvm.Cond.selects "Retouched$State" ({ cls := "Retouched$State", name := "paints", desc := "(III)I" } : Jvm.MethodName) ({ cls := "Retouched$State", name := "paints", desc := "(III)I" } : Jvm.MethodName)) ∈ lw_all := lw_g (lw_at lw_m6 10 rfl) rfl
theorem q1355 : (Jvm.Cond.code ({ cls := "Retouched$State", name := "paints", desc := "(III)I" } : Jvm.MethodName) prog_15_method_7_code (4 : Nat) (Option.some Jvm.ClassFile.FieldType.int)) ∈ lw_all := lw_g (lw_at lw_m6 11 rfl) rfl
theorem q1356 : (Jvm.Cond.constantLong "Retouched$State" (96 : Nat) (99 : Int64)) ∈ lw_all := lw_g (lw_at lw_m6 12 rfl) rfl
theorem q1357 : (Jvm.Cond.methodLink "Retouched$State" (98 : Nat) ({ cls := "Retouched$Value", name := "at", desc := "(LRetouched$Moment;)J" } : Jvm.MethodName)) ∈ lw_all := lw_g (lw_at lw_m6 13 rfl) rfl
theorem q1358 : (Jvm.Cond.methodLink "Retouched$State" (104 : Nat) ({ cls := "java/lang/Math", name := "min", desc := "(JJ)J" } : Jvm.MethodName)) ∈ lw_all := lw_g (lw_at lw_m6 14 rfl) rfl
theorem q1359 : (Jvm.Cond.methodLink "Retouched$State" (110 : Nat) ({ cls := "java/lang/Math", name := "max", desc := "(JJ)J" } : Jvm.MethodName)) ∈ lw_all := lw_g (lw_at lw_m6 15 rfl) rfl
theorem q1381 : (Jvm.Cond.instanceMethod ({ cls := "Retouched$State", name := "copy", desc := "(LRetouched$State;)LRetouched$State;" } : Jvm.MethodName)) ∈ lw_all := lw_g (lw_at lw_m6 37 rfl) rfl
theorem q1382 : (Jvm.Cond.selects "Retouched$State" ({ cls := "Retouched$State", name := "copy", desc := "(LRetouched$State;)LRetouched$State;" } : Jvm.MethodName) ({ cls := "Retouched$State", name := "copy", desc := "(LRetouched$State;)LRetouched$State;" } : Jvm.MethodName)) ∈ lw_all := lw_g (lw_at lw_m6 38 rfl) rfl
theorem q1383 : (Jvm.Cond.code ({ cls := "Retouched$State", name := "copy", desc := "(LRetouched$State;)LRetouched$State;" } : Jvm.MethodName) prog_15_method_3_code (4 : Nat) (Option.some (Jvm.ClassFile.FieldType.object "Retouched$State"))) ∈ lw_all := lw_g (lw_at lw_m6 39 rfl) rfl
theorem q1385 : (Jvm.Cond.instanceMethod ({ cls := "Retouched$State", name := "years", desc := "(I)LRetouched$State;" } : Jvm.MethodName)) ∈ lw_all := lw_g (lw_at lw_m6 41 rfl) rfl
theorem q1386 : (Jvm.Cond.selects "Retouched$State" ({ cls := "Retouched$State", name := "years", desc := "(I)LRetouched$State;" } : Jvm.MethodName) ({ cls := "Retouched$State", name := "years", desc := "(I)LRetouched$State;" } : Jvm.MethodName)) ∈ lw_all := lw_g (lw_at lw_m6 42 rfl) rfl
theorem q1387 : (Jvm.Cond.code ({ cls := "Retouched$State", name := "years", desc := "(I)LRetouched$State;" } : Jvm.MethodName) prog_15_method_12_code (3 : Nat) (Option.some (Jvm.ClassFile.FieldType.object "Retouched$State"))) ∈ lw_all := lw_g (lw_at lw_m6 43 rfl) rfl
theorem q1388 : (Jvm.Cond.methodLink "Retouched$State" (138 : Nat) ({ cls := "Retouched$State", name := "passes", desc := "()I" } : Jvm.MethodName)) ∈ lw_all := lw_g (lw_at lw_m6 44 rfl) rfl
theorem q1389 : (Jvm.Cond.instanceMethod ({ cls := "Retouched$State", name := "passes", desc := "()I" } : Jvm.MethodName)) ∈ lw_all := lw_g (lw_at lw_m6 45 rfl) rfl
theorem q1390 : (Jvm.Cond.selects "Retouched$State" ({ cls := "Retouched$State", name := "passes", desc := "()I" } : Jvm.MethodName) ({ cls := "Retouched$State", name := "passes", desc := "()I" } : Jvm.MethodName)) ∈ lw_all := lw_g (lw_at lw_m6 46 rfl) rfl
theorem q1391 : (Jvm.Cond.code ({ cls := "Retouched$State", name := "passes", desc := "()I" } : Jvm.MethodName) prog_15_method_11_code (5 : Nat) (Option.some Jvm.ClassFile.FieldType.int)) ∈ lw_all := lw_g (lw_at lw_m6 47 rfl) rfl
theorem q1392 : (Jvm.Cond.methodLink "Retouched$State" (134 : Nat) ({ cls := "Retouched$State", name := "strokes", desc := "(II)Z" } : Jvm.MethodName)) ∈ lw_all := lw_g (lw_at lw_m6 48 rfl) rfl
theorem q1393 : (Jvm.Cond.privateMethod ({ cls := "Retouched$State", name := "strokes", desc := "(II)Z" } : Jvm.MethodName)) ∈ lw_tbl := lw_at lw_m6 49 rfl
theorem q1394 : (Jvm.Cond.instanceMethod ({ cls := "Retouched$State", name := "strokes", desc := "(II)Z" } : Jvm.MethodName)) ∈ lw_all := lw_g (lw_at lw_m6 50 rfl) rfl
theorem q1395 : (Jvm.Cond.code ({ cls := "Retouched$State", name := "strokes", desc := "(II)Z" } : Jvm.MethodName) prog_15_method_10_code (6 : Nat) (Option.some Jvm.ClassFile.FieldType.boolean)) ∈ lw_all := lw_g (lw_at lw_m6 51 rfl) rfl
theorem q1396 : (Jvm.Cond.methodLink "Retouched$State" (118 : Nat) ({ cls := "Retouched$State", name := "beside", desc := "(II)I" } : Jvm.MethodName)) ∈ lw_all := lw_g (lw_at lw_m6 52 rfl) rfl
theorem q1397 : (Jvm.Cond.methodLink "Retouched$State" (122 : Nat) ({ cls := "Retouched$State", name := "paints", desc := "(III)I" } : Jvm.MethodName)) ∈ lw_all := lw_g (lw_at lw_m6 53 rfl) rfl
theorem q1398 : (Jvm.Cond.methodLink "Retouched$State" (125 : Nat) ({ cls := "Retouched$State", name := "minds", desc := "(III)I" } : Jvm.MethodName)) ∈ lw_all := lw_g (lw_at lw_m6 54 rfl) rfl
theorem q1399 : (Jvm.Cond.privateMethod ({ cls := "Retouched$State", name := "minds", desc := "(III)I" } : Jvm.MethodName)) ∈ lw_tbl := lw_at lw_m6 55 rfl
theorem q1400 : (Jvm.Cond.instanceMethod ({ cls := "Retouched$State", name := "minds", desc := "(III)I" } : Jvm.MethodName)) ∈ lw_all := lw_g (lw_at lw_m6 56 rfl) rfl
theorem q1401 : (Jvm.Cond.code ({ cls := "Retouched$State", name := "minds", desc := "(III)I" } : Jvm.MethodName) prog_15_method_8_code (4 : Nat) (Option.some Jvm.ClassFile.FieldType.int)) ∈ lw_all := lw_g (lw_at lw_m6 57 rfl) rfl
theorem q1402 : (Jvm.Cond.constantLong "Retouched$State" (116 : Nat) (9 : Int64)) ∈ lw_all := lw_g (lw_at lw_m6 58 rfl) rfl
theorem q1403 : (Jvm.Cond.methodLink "Retouched$State" (127 : Nat) ({ cls := "Retouched$State", name := "tells", desc := "(II)V" } : Jvm.MethodName)) ∈ lw_all := lw_g (lw_at lw_m6 59 rfl) rfl
theorem q1404 : (Jvm.Cond.privateMethod ({ cls := "Retouched$State", name := "tells", desc := "(II)V" } : Jvm.MethodName)) ∈ lw_tbl := lw_at lw_m6 60 rfl
theorem q1405 : (Jvm.Cond.instanceMethod ({ cls := "Retouched$State", name := "tells", desc := "(II)V" } : Jvm.MethodName)) ∈ lw_all := lw_g (lw_at lw_m6 61 rfl) rfl
theorem q1406 : (Jvm.Cond.code ({ cls := "Retouched$State", name := "tells", desc := "(II)V" } : Jvm.MethodName) prog_15_method_9_code (5 : Nat) (Option.none : Option Jvm.ClassFile.FieldType)) ∈ lw_all := lw_g (lw_at lw_m6 62 rfl) rfl
theorem q1421 : (Jvm.Cond.instanceMethod ({ cls := "Retouched$State", name := "changes", desc := "(II)LRetouched$State;" } : Jvm.MethodName)) ∈ lw_all := lw_g (lw_at lw_m6 77 rfl) rfl
theorem q1422 : (Jvm.Cond.selects "Retouched$State" ({ cls := "Retouched$State", name := "changes", desc := "(II)LRetouched$State;" } : Jvm.MethodName) ({ cls := "Retouched$State", name := "changes", desc := "(II)LRetouched$State;" } : Jvm.MethodName)) ∈ lw_all := lw_g (lw_at lw_m6 78 rfl) rfl
theorem q1423 : (Jvm.Cond.code ({ cls := "Retouched$State", name := "changes", desc := "(II)LRetouched$State;" } : Jvm.MethodName) prog_15_method_14_code (5 : Nat) (Option.some (Jvm.ClassFile.FieldType.object "Retouched$State"))) ∈ lw_all := lw_g (lw_at lw_m6 79 rfl) rfl
theorem q1429 : (Jvm.Cond.instanceMethod ({ cls := "Retouched$State", name := "comes", desc := "(III)LRetouched$State;" } : Jvm.MethodName)) ∈ lw_all := lw_g (lw_at lw_m6 85 rfl) rfl
theorem q1430 : (Jvm.Cond.selects "Retouched$State" ({ cls := "Retouched$State", name := "comes", desc := "(III)LRetouched$State;" } : Jvm.MethodName) ({ cls := "Retouched$State", name := "comes", desc := "(III)LRetouched$State;" } : Jvm.MethodName)) ∈ lw_all := lw_g (lw_at lw_m6 86 rfl) rfl
theorem q1431 : (Jvm.Cond.code ({ cls := "Retouched$State", name := "comes", desc := "(III)LRetouched$State;" } : Jvm.MethodName) prog_15_method_15_code (6 : Nat) (Option.some (Jvm.ClassFile.FieldType.object "Retouched$State"))) ∈ lw_all := lw_g (lw_at lw_m6 87 rfl) rfl
theorem q2504 : (Jvm.Cond.castable "Retouched$State" "java/lang/Object") ∈ lw_tbl := lw_at lw_m10 200 rfl
theorem in_X5 : ∀ w ∈ wsX50, w ∈ lw_all := lw_in wsX50 [402, 404, 406, 408, 410, 412, 414, 416, 418, 420, 422] (by decide +kernel) (by decide +kernel)
