/-! Retouched$Terrace -/
set_option maxRecDepth 100000
def RX1 : String := "Retouched$Terrace"
def TX1 : u_T := fun k => match k with
  | 0 => ("Retouched$Terrace", "statements", "I", false)
  | 1 => ("Retouched$Terrace", "houses", "I", false)
  | 2 => ("Retouched$Terrace", "slip", "I", false)
  | 3 => ("Retouched$Terrace", "souls", "Ljava/util/List;", true)
  | 4 => ("Retouched$Terrace", "paints", "LRetouched$Value;", false)
  | 5 => ("Retouched$Terrace", "minds", "LRetouched$Value;", false)
  | _ => ("Retouched$Terrace", "feud", "LRetouched$Test;", false)
def tyX1 : Nat → FieldType := fun k => match k with
  | 0 => .int
  | 1 => .int
  | 2 => .int
  | 3 => .object "java/util/List"
  | 4 => .object "Retouched$Value"
  | 5 => .object "Retouched$Value"
  | _ => .object "Retouched$Test"
abbrev wsX10 : List Cond := u_ws RX1 TX1 7
theorem nmX1 : ∀ a, a < 7 → ∀ b, b < 7 → a ≠ b → (TX1 a).2.1 ≠ (TX1 b).2.1 := by decide +kernel
theorem tyX1_ok : ∀ k, k < 7 → parseFieldDescriptor (TX1 k).2.2.1 = some (tyX1 k) := by decide +kernel
abbrev cX1_init : ByteArray := prog_16_method_1_code
def yX1_init : MethodName := ⟨RX1, "<init>", "()V"⟩
def dkwX1_init_0 : List UInt8 := [42, 183, 0, 3, 42, 187, 0, 9, 89, 7, 183, 0, 11, 181, 0, 14, 177]
abbrev dktX1_init_0 : List UInt8 := dkwX1_init_0 ++ []
theorem dksX1_init_0 : cX1_init.data.toList.drop 0 = dktX1_init_0 := by decide +kernel
theorem dX1_init_0 : decode cX1_init 0 = .ok (.aload_n 0, 1) := dk_42 (dk_at dksX1_init_0 0 rfl rfl)
theorem dX1_init_1 : decode cX1_init 1 = .ok (.invokespecial 3, 3) := dk_183 0 3 (dk_at dksX1_init_0 1 rfl rfl)
theorem dX1_init_4 : decode cX1_init 4 = .ok (.aload_n 0, 1) := dk_42 (dk_at dksX1_init_0 4 rfl rfl)
theorem dX1_init_5 : decode cX1_init 5 = .ok (.new 9, 3) := dk_187 0 9 (dk_at dksX1_init_0 5 rfl rfl)
theorem dX1_init_8 : decode cX1_init 8 = .ok (.dup, 1) := dk_89 (dk_at dksX1_init_0 8 rfl rfl)
theorem dX1_init_9 : decode cX1_init 9 = .ok (.iconst 4, 1) := dk_7 (dk_at dksX1_init_0 9 rfl rfl)
theorem dX1_init_10 : decode cX1_init 10 = .ok (.invokespecial 11, 3) := dk_183 0 11 (dk_at dksX1_init_0 10 rfl rfl)
theorem dX1_init_13 : decode cX1_init 13 = .ok (.putfield 14, 3) := dk_181 0 14 (dk_at dksX1_init_0 13 rfl rfl)
theorem dX1_init_16 : decode cX1_init 16 = .ok (.return_, 1) := dk_177 (dk_at dksX1_init_0 16 rfl rfl)
abbrev cX1_find : ByteArray := prog_16_method_2_code
def yX1_find : MethodName := ⟨RX1, "find", "(Ljava/lang/String;)I"⟩
def dkwX1_find_2 : List UInt8 := [167, 255, 215, 2, 172]
abbrev dktX1_find_2 : List UInt8 := dkwX1_find_2 ++ []
def dkwX1_find_1 : List UInt8 := [185, 0, 26, 2, 0, 192, 0, 30, 180, 0, 32, 43, 182, 0, 36, 153, 0, 5, 28, 172, 132, 2, 1]
abbrev dktX1_find_1 : List UInt8 := dkwX1_find_1 ++ dktX1_find_2
def dkwX1_find_0 : List UInt8 := [3, 61, 28, 42, 180, 0, 14, 185, 0, 20, 1, 0, 162, 0, 34, 42, 180, 0, 14, 28]
abbrev dktX1_find_0 : List UInt8 := dkwX1_find_0 ++ dktX1_find_1
theorem dksX1_find_0 : cX1_find.data.toList.drop 0 = dktX1_find_0 := by decide +kernel
theorem dksX1_find_1 : cX1_find.data.toList.drop 20 = dktX1_find_1 := dk_seg dksX1_find_0 20 rfl rfl
theorem dksX1_find_2 : cX1_find.data.toList.drop 43 = dktX1_find_2 := dk_seg dksX1_find_1 23 rfl rfl
theorem dX1_find_0 : decode cX1_find 0 = .ok (.iconst 0, 1) := dk_3 (dk_at dksX1_find_0 0 rfl rfl)
theorem dX1_find_1 : decode cX1_find 1 = .ok (.istore_n 2, 1) := dk_61 (dk_at dksX1_find_0 1 rfl rfl)
theorem dX1_find_2 : decode cX1_find 2 = .ok (.iload_n 2, 1) := dk_28 (dk_at dksX1_find_0 2 rfl rfl)
theorem dX1_find_3 : decode cX1_find 3 = .ok (.aload_n 0, 1) := dk_42 (dk_at dksX1_find_0 3 rfl rfl)
theorem dX1_find_4 : decode cX1_find 4 = .ok (.getfield 14, 3) := dk_180 0 14 (dk_at dksX1_find_0 4 rfl rfl)
theorem dX1_find_7 : decode cX1_find 7 = .ok (.invokeinterface 20 1, 5) := by decide +kernel
theorem dX1_find_12 : decode cX1_find 12 = .ok (.if_icmp .ge 34, 3) := dk_162 0 34 (dk_at dksX1_find_0 12 rfl rfl)
theorem dX1_find_15 : decode cX1_find 15 = .ok (.aload_n 0, 1) := dk_42 (dk_at dksX1_find_0 15 rfl rfl)
theorem dX1_find_16 : decode cX1_find 16 = .ok (.getfield 14, 3) := dk_180 0 14 (dk_at dksX1_find_0 16 rfl rfl)
theorem dX1_find_19 : decode cX1_find 19 = .ok (.iload_n 2, 1) := dk_28 (dk_at dksX1_find_0 19 rfl rfl)
theorem dX1_find_20 : decode cX1_find 20 = .ok (.invokeinterface 26 2, 5) := by decide +kernel
theorem dX1_find_25 : decode cX1_find 25 = .ok (.checkcast 30, 3) := dk_192 0 30 (dk_at dksX1_find_1 5 rfl rfl)
theorem dX1_find_28 : decode cX1_find 28 = .ok (.getfield 32, 3) := dk_180 0 32 (dk_at dksX1_find_1 8 rfl rfl)
theorem dX1_find_31 : decode cX1_find 31 = .ok (.aload_n 1, 1) := dk_43 (dk_at dksX1_find_1 11 rfl rfl)
theorem dX1_find_32 : decode cX1_find 32 = .ok (.invokevirtual 36, 3) := dk_182 0 36 (dk_at dksX1_find_1 12 rfl rfl)
theorem dX1_find_35 : decode cX1_find 35 = .ok (.ifCond .eq 5, 3) := dk_153 0 5 (dk_at dksX1_find_1 15 rfl rfl)
theorem dX1_find_38 : decode cX1_find 38 = .ok (.iload_n 2, 1) := dk_28 (dk_at dksX1_find_1 18 rfl rfl)
theorem dX1_find_39 : decode cX1_find 39 = .ok (.ireturn, 1) := dk_172 (dk_at dksX1_find_1 19 rfl rfl)
theorem dX1_find_40 : decode cX1_find 40 = .ok (.iinc 2 1, 3) := dk_132 2 1 (dk_at dksX1_find_1 20 rfl rfl)
theorem dX1_find_43 : decode cX1_find 43 = .ok (.goto (-41), 3) := dk_167 255 215 (dk_at dksX1_find_2 0 rfl rfl)
theorem dX1_find_46 : decode cX1_find 46 = .ok (.iconst (-1), 1) := dk_2 (dk_at dksX1_find_2 3 rfl rfl)
theorem dX1_find_47 : decode cX1_find 47 = .ok (.ireturn, 1) := dk_172 (dk_at dksX1_find_2 4 rfl rfl)
abbrev cX1_isFull : ByteArray := prog_16_method_3_code
def yX1_isFull : MethodName := ⟨RX1, "isFull", "(I)Z"⟩
def dkwX1_isFull_2 : List UInt8 := [172]
abbrev dktX1_isFull_2 : List UInt8 := dkwX1_isFull_2 ++ []
def dkwX1_isFull_1 : List UInt8 := [185, 0, 26, 2, 0, 192, 0, 30, 180, 0, 42, 27, 160, 0, 5, 4, 172, 132, 2, 1, 167, 255, 218, 3]
abbrev dktX1_isFull_1 : List UInt8 := dkwX1_isFull_1 ++ dktX1_isFull_2
def dkwX1_isFull_0 : List UInt8 := [3, 61, 28, 42, 180, 0, 14, 185, 0, 20, 1, 0, 162, 0, 31, 42, 180, 0, 14, 28]
abbrev dktX1_isFull_0 : List UInt8 := dkwX1_isFull_0 ++ dktX1_isFull_1
theorem dksX1_isFull_0 : cX1_isFull.data.toList.drop 0 = dktX1_isFull_0 := by decide +kernel
theorem dksX1_isFull_1 : cX1_isFull.data.toList.drop 20 = dktX1_isFull_1 := dk_seg dksX1_isFull_0 20 rfl rfl
theorem dksX1_isFull_2 : cX1_isFull.data.toList.drop 44 = dktX1_isFull_2 := dk_seg dksX1_isFull_1 24 rfl rfl
theorem dX1_isFull_0 : decode cX1_isFull 0 = .ok (.iconst 0, 1) := dk_3 (dk_at dksX1_isFull_0 0 rfl rfl)
theorem dX1_isFull_1 : decode cX1_isFull 1 = .ok (.istore_n 2, 1) := dk_61 (dk_at dksX1_isFull_0 1 rfl rfl)
theorem dX1_isFull_2 : decode cX1_isFull 2 = .ok (.iload_n 2, 1) := dk_28 (dk_at dksX1_isFull_0 2 rfl rfl)
theorem dX1_isFull_3 : decode cX1_isFull 3 = .ok (.aload_n 0, 1) := dk_42 (dk_at dksX1_isFull_0 3 rfl rfl)
theorem dX1_isFull_4 : decode cX1_isFull 4 = .ok (.getfield 14, 3) := dk_180 0 14 (dk_at dksX1_isFull_0 4 rfl rfl)
theorem dX1_isFull_7 : decode cX1_isFull 7 = .ok (.invokeinterface 20 1, 5) := by decide +kernel
theorem dX1_isFull_12 : decode cX1_isFull 12 = .ok (.if_icmp .ge 31, 3) := dk_162 0 31 (dk_at dksX1_isFull_0 12 rfl rfl)
theorem dX1_isFull_15 : decode cX1_isFull 15 = .ok (.aload_n 0, 1) := dk_42 (dk_at dksX1_isFull_0 15 rfl rfl)
theorem dX1_isFull_16 : decode cX1_isFull 16 = .ok (.getfield 14, 3) := dk_180 0 14 (dk_at dksX1_isFull_0 16 rfl rfl)
theorem dX1_isFull_19 : decode cX1_isFull 19 = .ok (.iload_n 2, 1) := dk_28 (dk_at dksX1_isFull_0 19 rfl rfl)
theorem dX1_isFull_20 : decode cX1_isFull 20 = .ok (.invokeinterface 26 2, 5) := by decide +kernel
theorem dX1_isFull_25 : decode cX1_isFull 25 = .ok (.checkcast 30, 3) := dk_192 0 30 (dk_at dksX1_isFull_1 5 rfl rfl)
theorem dX1_isFull_28 : decode cX1_isFull 28 = .ok (.getfield 42, 3) := dk_180 0 42 (dk_at dksX1_isFull_1 8 rfl rfl)
theorem dX1_isFull_31 : decode cX1_isFull 31 = .ok (.iload_n 1, 1) := dk_27 (dk_at dksX1_isFull_1 11 rfl rfl)
theorem dX1_isFull_32 : decode cX1_isFull 32 = .ok (.if_icmp .ne 5, 3) := dk_160 0 5 (dk_at dksX1_isFull_1 12 rfl rfl)
theorem dX1_isFull_35 : decode cX1_isFull 35 = .ok (.iconst 1, 1) := dk_4 (dk_at dksX1_isFull_1 15 rfl rfl)
theorem dX1_isFull_36 : decode cX1_isFull 36 = .ok (.ireturn, 1) := dk_172 (dk_at dksX1_isFull_1 16 rfl rfl)
theorem dX1_isFull_37 : decode cX1_isFull 37 = .ok (.iinc 2 1, 3) := dk_132 2 1 (dk_at dksX1_isFull_1 17 rfl rfl)
theorem dX1_isFull_40 : decode cX1_isFull 40 = .ok (.goto (-38), 3) := dk_167 255 218 (dk_at dksX1_isFull_1 20 rfl rfl)
theorem dX1_isFull_43 : decode cX1_isFull 43 = .ok (.iconst 0, 1) := dk_3 (dk_at dksX1_isFull_1 23 rfl rfl)
theorem dX1_isFull_44 : decode cX1_isFull 44 = .ok (.ireturn, 1) := dk_172 (dk_at dksX1_isFull_2 0 rfl rfl)
theorem q146 : (Jvm.Cond.initialized "Retouched$Terrace") ∈ lw_all := lw_g (lw_at lw_m1 2 rfl) rfl
theorem q192 : (Jvm.Cond.instantiable "Retouched$Terrace" (7 : Nat)) ∈ lw_all := lw_g (lw_at lw_m1 48 rfl) rfl
theorem q194 : (Jvm.Cond.instanceMethod ({ cls := "Retouched$Terrace", name := "<init>", desc := "()V" } : Jvm.MethodName)) ∈ lw_all := lw_g (lw_at lw_m1 50 rfl) rfl
theorem q195 : (Jvm.Cond.code ({ cls := "Retouched$Terrace", name := "<init>", desc := "()V" } : Jvm.MethodName) prog_16_method_1_code (1 : Nat) (Option.none : Option Jvm.ClassFile.FieldType)) ∈ lw_all := lw_g (lw_at lw_m1 51 rfl) rfl
theorem q196 : (Jvm.Cond.methodLink "Retouched$Terrace" (3 : Nat) ({ cls := "java/lang/Object", name := "<init>", desc := "()V" } : Jvm.MethodName)) ∈ lw_all := lw_g (lw_at lw_m1 52 rfl) rfl
theorem q197 : (Jvm.Cond.classLink "Retouched$Terrace" (9 : Nat) "java/util/ArrayList") ∈ lw_all := lw_g (lw_at lw_m1 53 rfl) rfl
theorem q199 : (Jvm.Cond.methodLink "Retouched$Terrace" (11 : Nat) ({ cls := "java/util/ArrayList", name := "<init>", desc := "(I)V" } : Jvm.MethodName)) ∈ lw_all := lw_g (lw_at lw_m1 55 rfl) rfl
theorem q232 : (Jvm.Cond.fieldLink "Retouched$Terrace" (14 : Nat) "Retouched$Terrace" "souls" "Ljava/util/List;") ∈ lw_all := lw_g (lw_at lw_m1 88 rfl) rfl
theorem q241 : (Jvm.Cond.lays "Retouched$Terrace" "Retouched$Terrace" "statements" "I") ∈ lw_all := lw_g (lw_at lw_m1 97 rfl) rfl
theorem q242 : (Jvm.Cond.soleField "Retouched$Terrace" "statements") ∈ lw_all := lw_g (lw_at lw_m1 98 rfl) rfl
theorem q243 : (Jvm.Cond.lays "Retouched$Terrace" "Retouched$Terrace" "houses" "I") ∈ lw_all := lw_g (lw_at lw_m1 99 rfl) rfl
theorem q244 : (Jvm.Cond.soleField "Retouched$Terrace" "houses") ∈ lw_all := lw_g (lw_at lw_m1 100 rfl) rfl
theorem q245 : (Jvm.Cond.lays "Retouched$Terrace" "Retouched$Terrace" "slip" "I") ∈ lw_all := lw_g (lw_at lw_m1 101 rfl) rfl
theorem q246 : (Jvm.Cond.soleField "Retouched$Terrace" "slip") ∈ lw_all := lw_g (lw_at lw_m1 102 rfl) rfl
theorem q247 : (Jvm.Cond.laysFinal "Retouched$Terrace" "Retouched$Terrace" "souls" "Ljava/util/List;") ∈ lw_all := lw_g (lw_at lw_m1 103 rfl) rfl
theorem q248 : (Jvm.Cond.soleField "Retouched$Terrace" "souls") ∈ lw_all := lw_g (lw_at lw_m1 104 rfl) rfl
theorem q249 : (Jvm.Cond.lays "Retouched$Terrace" "Retouched$Terrace" "paints" "LRetouched$Value;") ∈ lw_all := lw_g (lw_at lw_m1 105 rfl) rfl
theorem q250 : (Jvm.Cond.soleField "Retouched$Terrace" "paints") ∈ lw_all := lw_g (lw_at lw_m1 106 rfl) rfl
theorem q251 : (Jvm.Cond.lays "Retouched$Terrace" "Retouched$Terrace" "minds" "LRetouched$Value;") ∈ lw_all := lw_g (lw_at lw_m1 107 rfl) rfl
theorem q252 : (Jvm.Cond.soleField "Retouched$Terrace" "minds") ∈ lw_all := lw_g (lw_at lw_m1 108 rfl) rfl
theorem q253 : (Jvm.Cond.lays "Retouched$Terrace" "Retouched$Terrace" "feud" "LRetouched$Test;") ∈ lw_all := lw_g (lw_at lw_m1 109 rfl) rfl
theorem q254 : (Jvm.Cond.soleField "Retouched$Terrace" "feud") ∈ lw_all := lw_g (lw_at lw_m1 110 rfl) rfl
theorem q255 : (Jvm.Cond.superclass "Retouched$Terrace" "java/lang/Object") ∈ lw_all := lw_g (lw_at lw_m1 111 rfl) rfl
theorem q760 : (Jvm.Cond.instanceMethod ({ cls := "Retouched$Terrace", name := "find", desc := "(Ljava/lang/String;)I" } : Jvm.MethodName)) ∈ lw_all := lw_g (lw_at lw_m3 136 rfl) rfl
theorem q761 : (Jvm.Cond.selects "Retouched$Terrace" ({ cls := "Retouched$Terrace", name := "find", desc := "(Ljava/lang/String;)I" } : Jvm.MethodName) ({ cls := "Retouched$Terrace", name := "find", desc := "(Ljava/lang/String;)I" } : Jvm.MethodName)) ∈ lw_all := lw_g (lw_at lw_m3 137 rfl) rfl
theorem q762 : (Jvm.Cond.code ({ cls := "Retouched$Terrace", name := "find", desc := "(Ljava/lang/String;)I" } : Jvm.MethodName) prog_16_method_2_code (3 : Nat) (Option.some Jvm.ClassFile.FieldType.int)) ∈ lw_all := lw_g (lw_at lw_m3 138 rfl) rfl
theorem q763 : (Jvm.Cond.interfaceEntry "Retouched$Terrace" (20 : Nat)) ∈ lw_tbl := lw_at lw_m3 139 rfl
theorem q764 : (Jvm.Cond.methodLink "Retouched$Terrace" (20 : Nat) ({ cls := "java/util/List", name := "size", desc := "()I" } : Jvm.MethodName)) ∈ lw_all := lw_g (lw_at lw_m3 140 rfl) rfl
theorem q765 : (Jvm.Cond.interfaceEntry "Retouched$Terrace" (26 : Nat)) ∈ lw_tbl := lw_at lw_m3 141 rfl
theorem q766 : (Jvm.Cond.methodLink "Retouched$Terrace" (26 : Nat) ({ cls := "java/util/List", name := "get", desc := "(I)Ljava/lang/Object;" } : Jvm.MethodName)) ∈ lw_all := lw_g (lw_at lw_m3 142 rfl) rfl
theorem q784 : (Jvm.Cond.classLink "Retouched$Terrace" (30 : Nat) "Retouched$Soul") ∈ lw_all := lw_g (lw_at lw_m3 160 rfl) rfl
theorem q785 : (Jvm.Cond.methodLink "Retouched$Terrace" (36 : Nat) ({ cls := "java/lang/String", name := "equals", desc := "(Ljava/lang/Object;)Z" } : Jvm.MethodName)) ∈ lw_all := lw_g (lw_at lw_m3 161 rfl) rfl
theorem q788 : (Jvm.Cond.instanceMethod ({ cls := "Retouched$Terrace", name := "isFull", desc := "(I)Z" } : Jvm.MethodName)) ∈ lw_all := lw_g (lw_at lw_m3 164 rfl) rfl
theorem q789 : (Jvm.Cond.selects "Retouched$Terrace" ({ cls := "Retouched$Terrace", name := "isFull", desc := "(I)Z" } : Jvm.MethodName) ({ cls := "Retouched$Terrace", name := "isFull", desc := "(I)Z" } : Jvm.MethodName)) ∈ lw_all := lw_g (lw_at lw_m3 165 rfl) rfl
theorem q790 : (Jvm.Cond.code ({ cls := "Retouched$Terrace", name := "isFull", desc := "(I)Z" } : Jvm.MethodName) prog_16_method_3_code (3 : Nat) (Option.some Jvm.ClassFile.FieldType.boolean)) ∈ lw_all := lw_g (lw_at lw_m3 166 rfl) rfl
theorem q804 : (Jvm.Cond.fieldLinkNest "Retouched$Terrace" (32 : Nat) "Retouched$Soul" "name" "Ljava/lang/String;" "Retouched") ∈ lw_tbl := lw_at lw_m3 180 rfl
theorem q807 : (Jvm.Cond.fieldLinkNest "Retouched$Terrace" (42 : Nat) "Retouched$Soul" "house" "I" "Retouched") ∈ lw_tbl := lw_at lw_m3 183 rfl
theorem q880 : (Jvm.Cond.selects "Retouched$Terrace" ({ cls := "java/lang/Object", name := "getClass", desc := "()Ljava/lang/Class;" } : Jvm.MethodName) ({ cls := "java/lang/Object", name := "getClass", desc := "()Ljava/lang/Class;" } : Jvm.MethodName)) ∈ lw_all := lw_g (lw_at lw_m4 16 rfl) rfl
theorem q2507 : (Jvm.Cond.castable "Retouched$Terrace" "java/lang/Object") ∈ lw_tbl := lw_at lw_m10 203 rfl
theorem in_X1 : ∀ w ∈ wsX10, w ∈ lw_all := lw_in wsX10 [241, 243, 245, 247, 249, 251, 253] (by decide +kernel) (by decide +kernel)
/-! Retouched$Fault -/
set_option maxRecDepth 100000
def RX3 : String := "Retouched$Fault"
def TX3 : u_T := fun k => match k with
  | 0 => ("java/lang/Throwable", "cause", "Ljava/lang/Throwable;", false)
  | 1 => ("java/lang/Throwable", "stackTrace", "[Ljava/lang/StackTraceElement;", false)
  | 2 => ("java/lang/Throwable", "suppressedExceptions", "Ljava/util/List;", false)
  | 3 => ("java/lang/Throwable", "detailMessage", "Ljava/lang/String;", false)
  | 4 => ("java/lang/Throwable", "backtrace", "Ljava/lang/Object;", false)
  | 5 => ("java/lang/Throwable", "depth", "I", false)
  | 6 => ("Retouched$Fault", "kind", "I", false)
  | _ => ("Retouched$Fault", "place", "I", false)
def tyX3 : Nat → FieldType := fun k => match k with
  | 0 => .object "java/lang/Throwable"
  | 1 => .array (.object "java/lang/StackTraceElement")
  | 2 => .object "java/util/List"
  | 3 => .object "java/lang/String"
  | 4 => .object "java/lang/Object"
  | 5 => .int
  | 6 => .int
  | _ => .int
abbrev wsX30 : List Cond := u_ws RX3 TX3 8
theorem nmX3 : ∀ a, a < 8 → ∀ b, b < 8 → a ≠ b → (TX3 a).2.1 ≠ (TX3 b).2.1 := by decide +kernel
theorem tyX3_ok : ∀ k, k < 8 → parseFieldDescriptor (TX3 k).2.2.1 = some (tyX3 k) := by decide +kernel
abbrev cX3_init : ByteArray := prog_6_method_1_code
def yX3_init : MethodName := ⟨RX3, "<init>", "()V"⟩
def dkwX3_init_0 : List UInt8 := [42, 1, 1, 3, 3, 183, 0, 1, 177]
abbrev dktX3_init_0 : List UInt8 := dkwX3_init_0 ++ []
theorem dksX3_init_0 : cX3_init.data.toList.drop 0 = dktX3_init_0 := by decide +kernel
theorem dX3_init_0 : decode cX3_init 0 = .ok (.aload_n 0, 1) := dk_42 (dk_at dksX3_init_0 0 rfl rfl)
theorem dX3_init_1 : decode cX3_init 1 = .ok (.aconst_null, 1) := dk_1 (dk_at dksX3_init_0 1 rfl rfl)
theorem dX3_init_2 : decode cX3_init 2 = .ok (.aconst_null, 1) := dk_1 (dk_at dksX3_init_0 2 rfl rfl)
theorem dX3_init_3 : decode cX3_init 3 = .ok (.iconst 0, 1) := dk_3 (dk_at dksX3_init_0 3 rfl rfl)
theorem dX3_init_4 : decode cX3_init 4 = .ok (.iconst 0, 1) := dk_3 (dk_at dksX3_init_0 4 rfl rfl)
theorem dX3_init_5 : decode cX3_init 5 = .ok (.invokespecial 1, 3) := dk_183 0 1 (dk_at dksX3_init_0 5 rfl rfl)
theorem dX3_init_8 : decode cX3_init 8 = .ok (.return_, 1) := dk_177 (dk_at dksX3_init_0 8 rfl rfl)
theorem q154 : (Jvm.Cond.initialized "Retouched$Fault") ∈ lw_all := lw_g (lw_at lw_m1 10 rfl) rfl
theorem q263 : (Jvm.Cond.instantiable "Retouched$Fault" (8 : Nat)) ∈ lw_all := lw_g (lw_at lw_m1 119 rfl) rfl
theorem q264 : (Jvm.Cond.castable "Retouched$Fault" "Retouched$Fault") ∈ lw_tbl := lw_at lw_m1 120 rfl
theorem q271 : (Jvm.Cond.selects "Retouched$Fault" ({ cls := "java/lang/Throwable", name := "fillInStackTrace", desc := "(I)Ljava/lang/Throwable;" } : Jvm.MethodName) ({ cls := "java/lang/Throwable", name := "fillInStackTrace", desc := "(I)Ljava/lang/Throwable;" } : Jvm.MethodName)) ∈ lw_all := lw_g (lw_at lw_m1 127 rfl) rfl
theorem q272 : (Jvm.Cond.selects "Retouched$Fault" ({ cls := "java/lang/Throwable", name := "fillInStackTrace", desc := "()Ljava/lang/Throwable;" } : Jvm.MethodName) ({ cls := "java/lang/Throwable", name := "fillInStackTrace", desc := "()Ljava/lang/Throwable;" } : Jvm.MethodName)) ∈ lw_all := lw_g (lw_at lw_m1 128 rfl) rfl
theorem q273 : (Jvm.Cond.lays "Retouched$Fault" "java/lang/Throwable" "cause" "Ljava/lang/Throwable;") ∈ lw_all := lw_g (lw_at lw_m1 129 rfl) rfl
theorem q275 : (Jvm.Cond.lays "Retouched$Fault" "java/lang/Throwable" "stackTrace" "[Ljava/lang/StackTraceElement;") ∈ lw_all := lw_g (lw_at lw_m1 131 rfl) rfl
theorem q277 : (Jvm.Cond.lays "Retouched$Fault" "java/lang/Throwable" "suppressedExceptions" "Ljava/util/List;") ∈ lw_all := lw_g (lw_at lw_m1 133 rfl) rfl
theorem q279 : (Jvm.Cond.lays "Retouched$Fault" "java/lang/Throwable" "detailMessage" "Ljava/lang/String;") ∈ lw_all := lw_g (lw_at lw_m1 135 rfl) rfl
theorem q281 : (Jvm.Cond.lays "Retouched$Fault" "java/lang/Throwable" "backtrace" "Ljava/lang/Object;") ∈ lw_all := lw_g (lw_at lw_m1 137 rfl) rfl
theorem q302 : (Jvm.Cond.instanceMethod ({ cls := "Retouched$Fault", name := "<init>", desc := "()V" } : Jvm.MethodName)) ∈ lw_all := lw_g (lw_at lw_m1 158 rfl) rfl
theorem q303 : (Jvm.Cond.code ({ cls := "Retouched$Fault", name := "<init>", desc := "()V" } : Jvm.MethodName) prog_6_method_1_code (1 : Nat) (Option.none : Option Jvm.ClassFile.FieldType)) ∈ lw_all := lw_g (lw_at lw_m1 159 rfl) rfl
theorem q304 : (Jvm.Cond.methodLink "Retouched$Fault" (1 : Nat) ({ cls := "java/lang/RuntimeException", name := "<init>", desc := "(Ljava/lang/String;Ljava/lang/Throwable;ZZ)V" } : Jvm.MethodName)) ∈ lw_all := lw_g (lw_at lw_m1 160 rfl) rfl
theorem q322 : (Jvm.Cond.lays "Retouched$Fault" "Retouched$Fault" "kind" "I") ∈ lw_all := lw_g (lw_at lw_m1 178 rfl) rfl
theorem q323 : (Jvm.Cond.soleField "Retouched$Fault" "kind") ∈ lw_all := lw_g (lw_at lw_m1 179 rfl) rfl
theorem q324 : (Jvm.Cond.lays "Retouched$Fault" "Retouched$Fault" "place" "I") ∈ lw_all := lw_g (lw_at lw_m1 180 rfl) rfl
theorem q325 : (Jvm.Cond.soleField "Retouched$Fault" "place") ∈ lw_all := lw_g (lw_at lw_m1 181 rfl) rfl
theorem q330 : (Jvm.Cond.lays "Retouched$Fault" "java/lang/Throwable" "depth" "I") ∈ lw_all := lw_g (lw_at lw_m1 186 rfl) rfl
theorem q333 : (Jvm.Cond.superclass "Retouched$Fault" "java/lang/RuntimeException") ∈ lw_all := lw_g (lw_at lw_m1 189 rfl) rfl
theorem q870 : (Jvm.Cond.selects "Retouched$Fault" ({ cls := "java/lang/Object", name := "getClass", desc := "()Ljava/lang/Class;" } : Jvm.MethodName) ({ cls := "java/lang/Object", name := "getClass", desc := "()Ljava/lang/Class;" } : Jvm.MethodName)) ∈ lw_all := lw_g (lw_at lw_m4 6 rfl) rfl
theorem q2510 : (Jvm.Cond.castable "Retouched$Fault" "java/lang/Object") ∈ lw_tbl := lw_at lw_m10 206 rfl
theorem in_X3 : ∀ w ∈ wsX30, w ∈ lw_all := lw_in wsX30 [273, 275, 277, 279, 281, 330, 322, 324] (by decide +kernel) (by decide +kernel)
/-! Retouched$Moment -/
set_option maxRecDepth 100000
def RX4 : String := "Retouched$Moment"
def TX4 : u_T := fun k => match k with
  | _ => ("Retouched$Moment", "of", "[J", true)
def tyX4 : Nat → FieldType := fun k => match k with
  | _ => .array .long
abbrev wsX40 : List Cond := u_ws RX4 TX4 1
theorem nmX4 : ∀ a, a < 1 → ∀ b, b < 1 → a ≠ b → (TX4 a).2.1 ≠ (TX4 b).2.1 := by decide +kernel
theorem tyX4_ok : ∀ k, k < 1 → parseFieldDescriptor (TX4 k).2.2.1 = some (tyX4 k) := by decide +kernel
abbrev cX4_init : ByteArray := prog_9_method_1_code
def yX4_init : MethodName := ⟨RX4, "<init>", "()V"⟩
def dkwX4_init_0 : List UInt8 := [42, 183, 0, 1, 42, 16, 11, 188, 11, 181, 0, 7, 177]
abbrev dktX4_init_0 : List UInt8 := dkwX4_init_0 ++ []
theorem dksX4_init_0 : cX4_init.data.toList.drop 0 = dktX4_init_0 := by decide +kernel
theorem dX4_init_0 : decode cX4_init 0 = .ok (.aload_n 0, 1) := dk_42 (dk_at dksX4_init_0 0 rfl rfl)
theorem dX4_init_1 : decode cX4_init 1 = .ok (.invokespecial 1, 3) := dk_183 0 1 (dk_at dksX4_init_0 1 rfl rfl)
theorem dX4_init_4 : decode cX4_init 4 = .ok (.aload_n 0, 1) := dk_42 (dk_at dksX4_init_0 4 rfl rfl)
theorem dX4_init_5 : decode cX4_init 5 = .ok (.bipush 11, 2) := dk_16 11 (dk_at dksX4_init_0 5 rfl rfl)
theorem dX4_init_7 : decode cX4_init 7 = .ok (.newarray .long, 2) := dk_188_11 (dk_at dksX4_init_0 7 rfl rfl)
theorem dX4_init_9 : decode cX4_init 9 = .ok (.putfield 7, 3) := dk_181 0 7 (dk_at dksX4_init_0 9 rfl rfl)
theorem dX4_init_12 : decode cX4_init 12 = .ok (.return_, 1) := dk_177 (dk_at dksX4_init_0 12 rfl rfl)
theorem q155 : (Jvm.Cond.initialized "Retouched$Moment") ∈ lw_all := lw_g (lw_at lw_m1 11 rfl) rfl
theorem q361 : (Jvm.Cond.instantiable "Retouched$Moment" (1 : Nat)) ∈ lw_all := lw_g (lw_at lw_m1 217 rfl) rfl
theorem q363 : (Jvm.Cond.instanceMethod ({ cls := "Retouched$Moment", name := "<init>", desc := "()V" } : Jvm.MethodName)) ∈ lw_all := lw_g (lw_at lw_m1 219 rfl) rfl
theorem q364 : (Jvm.Cond.code ({ cls := "Retouched$Moment", name := "<init>", desc := "()V" } : Jvm.MethodName) prog_9_method_1_code (1 : Nat) (Option.none : Option Jvm.ClassFile.FieldType)) ∈ lw_all := lw_g (lw_at lw_m1 220 rfl) rfl
theorem q365 : (Jvm.Cond.methodLink "Retouched$Moment" (1 : Nat) ({ cls := "java/lang/Object", name := "<init>", desc := "()V" } : Jvm.MethodName)) ∈ lw_all := lw_g (lw_at lw_m1 221 rfl) rfl
theorem q366 : (Jvm.Cond.fieldLink "Retouched$Moment" (7 : Nat) "Retouched$Moment" "of" "[J") ∈ lw_all := lw_g (lw_at lw_m1 222 rfl) rfl
theorem q370 : (Jvm.Cond.laysFinal "Retouched$Moment" "Retouched$Moment" "of" "[J") ∈ lw_all := lw_g (lw_at lw_m1 226 rfl) rfl
theorem q371 : (Jvm.Cond.soleField "Retouched$Moment" "of") ∈ lw_all := lw_g (lw_at lw_m1 227 rfl) rfl
theorem q372 : (Jvm.Cond.superclass "Retouched$Moment" "java/lang/Object") ∈ lw_all := lw_g (lw_at lw_m1 228 rfl) rfl
theorem q873 : (Jvm.Cond.selects "Retouched$Moment" ({ cls := "java/lang/Object", name := "getClass", desc := "()Ljava/lang/Class;" } : Jvm.MethodName) ({ cls := "java/lang/Object", name := "getClass", desc := "()Ljava/lang/Class;" } : Jvm.MethodName)) ∈ lw_all := lw_g (lw_at lw_m4 9 rfl) rfl
theorem q2511 : (Jvm.Cond.castable "Retouched$Moment" "java/lang/Object") ∈ lw_tbl := lw_at lw_m10 207 rfl
theorem in_X4 : ∀ w ∈ wsX40, w ∈ lw_all := lw_in wsX40 [370] (by decide +kernel) (by decide +kernel)
/-! Retouched$Soul -/
set_option maxRecDepth 100000
def RX7 : String := "Retouched$Soul"
def TX7 : u_T := fun k => match k with
  | 0 => ("Retouched$Soul", "name", "Ljava/lang/String;", true)
  | 1 => ("Retouched$Soul", "house", "I", true)
  | 2 => ("Retouched$Soul", "face", "I", true)
  | 3 => ("Retouched$Soul", "kind", "I", true)
  | _ => ("Retouched$Soul", "thinks", "[I", true)
def tyX7 : Nat → FieldType := fun k => match k with
  | 0 => .object "java/lang/String"
  | 1 => .int
  | 2 => .int
  | 3 => .int
  | _ => .array .int
abbrev wsX70 : List Cond := u_ws RX7 TX7 5
theorem nmX7 : ∀ a, a < 5 → ∀ b, b < 5 → a ≠ b → (TX7 a).2.1 ≠ (TX7 b).2.1 := by decide +kernel
theorem tyX7_ok : ∀ k, k < 5 → parseFieldDescriptor (TX7 k).2.2.1 = some (tyX7 k) := by decide +kernel
abbrev cX7_init : ByteArray := prog_14_method_1_code
def yX7_init : MethodName := ⟨RX7, "<init>", "(Ljava/lang/String;III)V"⟩
def dkwX7_init_2 : List UInt8 := [21, 5, 8, 79, 132, 5, 1, 167, 255, 238, 177]
abbrev dktX7_init_2 : List UInt8 := dkwX7_init_2 ++ []
def dkwX7_init_1 : List UInt8 := [181, 0, 23, 42, 21, 4, 181, 0, 26, 3, 54, 5, 21, 5, 16, 8, 162, 0, 17, 42, 180, 0, 9]
abbrev dktX7_init_1 : List UInt8 := dkwX7_init_1 ++ dktX7_init_2
def dkwX7_init_0 : List UInt8 := [42, 183, 0, 3, 42, 16, 8, 188, 10, 181, 0, 9, 42, 43, 181, 0, 15, 42, 28, 181, 0, 19, 42, 29]
abbrev dktX7_init_0 : List UInt8 := dkwX7_init_0 ++ dktX7_init_1
theorem dksX7_init_0 : cX7_init.data.toList.drop 0 = dktX7_init_0 := by decide +kernel
theorem dksX7_init_1 : cX7_init.data.toList.drop 24 = dktX7_init_1 := dk_seg dksX7_init_0 24 rfl rfl
theorem dksX7_init_2 : cX7_init.data.toList.drop 47 = dktX7_init_2 := dk_seg dksX7_init_1 23 rfl rfl
theorem dX7_init_0 : decode cX7_init 0 = .ok (.aload_n 0, 1) := dk_42 (dk_at dksX7_init_0 0 rfl rfl)
theorem dX7_init_1 : decode cX7_init 1 = .ok (.invokespecial 3, 3) := dk_183 0 3 (dk_at dksX7_init_0 1 rfl rfl)
theorem dX7_init_4 : decode cX7_init 4 = .ok (.aload_n 0, 1) := dk_42 (dk_at dksX7_init_0 4 rfl rfl)
theorem dX7_init_5 : decode cX7_init 5 = .ok (.bipush 8, 2) := dk_16 8 (dk_at dksX7_init_0 5 rfl rfl)
theorem dX7_init_7 : decode cX7_init 7 = .ok (.newarray .int, 2) := dk_188_10 (dk_at dksX7_init_0 7 rfl rfl)
theorem dX7_init_9 : decode cX7_init 9 = .ok (.putfield 9, 3) := dk_181 0 9 (dk_at dksX7_init_0 9 rfl rfl)
theorem dX7_init_12 : decode cX7_init 12 = .ok (.aload_n 0, 1) := dk_42 (dk_at dksX7_init_0 12 rfl rfl)
theorem dX7_init_13 : decode cX7_init 13 = .ok (.aload_n 1, 1) := dk_43 (dk_at dksX7_init_0 13 rfl rfl)
theorem dX7_init_14 : decode cX7_init 14 = .ok (.putfield 15, 3) := dk_181 0 15 (dk_at dksX7_init_0 14 rfl rfl)
theorem dX7_init_17 : decode cX7_init 17 = .ok (.aload_n 0, 1) := dk_42 (dk_at dksX7_init_0 17 rfl rfl)
theorem dX7_init_18 : decode cX7_init 18 = .ok (.iload_n 2, 1) := dk_28 (dk_at dksX7_init_0 18 rfl rfl)
theorem dX7_init_19 : decode cX7_init 19 = .ok (.putfield 19, 3) := dk_181 0 19 (dk_at dksX7_init_0 19 rfl rfl)
theorem dX7_init_22 : decode cX7_init 22 = .ok (.aload_n 0, 1) := dk_42 (dk_at dksX7_init_0 22 rfl rfl)
theorem dX7_init_23 : decode cX7_init 23 = .ok (.iload_n 3, 1) := dk_29 (dk_at dksX7_init_0 23 rfl rfl)
theorem dX7_init_24 : decode cX7_init 24 = .ok (.putfield 23, 3) := dk_181 0 23 (dk_at dksX7_init_1 0 rfl rfl)
theorem dX7_init_27 : decode cX7_init 27 = .ok (.aload_n 0, 1) := dk_42 (dk_at dksX7_init_1 3 rfl rfl)
theorem dX7_init_28 : decode cX7_init 28 = .ok (.iload 4, 2) := dk_21 4 (dk_at dksX7_init_1 4 rfl rfl)
theorem dX7_init_30 : decode cX7_init 30 = .ok (.putfield 26, 3) := dk_181 0 26 (dk_at dksX7_init_1 6 rfl rfl)
theorem dX7_init_33 : decode cX7_init 33 = .ok (.iconst 0, 1) := dk_3 (dk_at dksX7_init_1 9 rfl rfl)
theorem dX7_init_34 : decode cX7_init 34 = .ok (.istore 5, 2) := dk_54 5 (dk_at dksX7_init_1 10 rfl rfl)
theorem dX7_init_36 : decode cX7_init 36 = .ok (.iload 5, 2) := dk_21 5 (dk_at dksX7_init_1 12 rfl rfl)
theorem dX7_init_38 : decode cX7_init 38 = .ok (.bipush 8, 2) := dk_16 8 (dk_at dksX7_init_1 14 rfl rfl)
theorem dX7_init_40 : decode cX7_init 40 = .ok (.if_icmp .ge 17, 3) := dk_162 0 17 (dk_at dksX7_init_1 16 rfl rfl)
theorem dX7_init_43 : decode cX7_init 43 = .ok (.aload_n 0, 1) := dk_42 (dk_at dksX7_init_1 19 rfl rfl)
theorem dX7_init_44 : decode cX7_init 44 = .ok (.getfield 9, 3) := dk_180 0 9 (dk_at dksX7_init_1 20 rfl rfl)
theorem dX7_init_47 : decode cX7_init 47 = .ok (.iload 5, 2) := dk_21 5 (dk_at dksX7_init_2 0 rfl rfl)
theorem dX7_init_49 : decode cX7_init 49 = .ok (.iconst 5, 1) := dk_8 (dk_at dksX7_init_2 2 rfl rfl)
theorem dX7_init_50 : decode cX7_init 50 = .ok (.iastore, 1) := dk_79 (dk_at dksX7_init_2 3 rfl rfl)
theorem dX7_init_51 : decode cX7_init 51 = .ok (.iinc 5 1, 3) := dk_132 5 1 (dk_at dksX7_init_2 4 rfl rfl)
theorem dX7_init_54 : decode cX7_init 54 = .ok (.goto (-18), 3) := dk_167 255 238 (dk_at dksX7_init_2 7 rfl rfl)
theorem dX7_init_57 : decode cX7_init 57 = .ok (.return_, 1) := dk_177 (dk_at dksX7_init_2 10 rfl rfl)
abbrev cX7_letter : ByteArray := prog_14_method_2_code
def yX7_letter : MethodName := ⟨RX7, "letter", "(I)I"⟩
def dkwX7_letter_1 : List UInt8 := [167, 0, 4, 3, 172]
abbrev dktX7_letter_1 : List UInt8 := dkwX7_letter_1 ++ []
def dkwX7_letter_0 : List UInt8 := [27, 42, 180, 0, 15, 182, 0, 29, 162, 0, 19, 42, 180, 0, 15, 27, 182, 0, 35, 16, 97, 100, 4, 96]
abbrev dktX7_letter_0 : List UInt8 := dkwX7_letter_0 ++ dktX7_letter_1
theorem dksX7_letter_0 : cX7_letter.data.toList.drop 0 = dktX7_letter_0 := by decide +kernel
theorem dksX7_letter_1 : cX7_letter.data.toList.drop 24 = dktX7_letter_1 := dk_seg dksX7_letter_0 24 rfl rfl
theorem dX7_letter_0 : decode cX7_letter 0 = .ok (.iload_n 1, 1) := dk_27 (dk_at dksX7_letter_0 0 rfl rfl)
theorem dX7_letter_1 : decode cX7_letter 1 = .ok (.aload_n 0, 1) := dk_42 (dk_at dksX7_letter_0 1 rfl rfl)
theorem dX7_letter_2 : decode cX7_letter 2 = .ok (.getfield 15, 3) := dk_180 0 15 (dk_at dksX7_letter_0 2 rfl rfl)
theorem dX7_letter_5 : decode cX7_letter 5 = .ok (.invokevirtual 29, 3) := dk_182 0 29 (dk_at dksX7_letter_0 5 rfl rfl)
theorem dX7_letter_8 : decode cX7_letter 8 = .ok (.if_icmp .ge 19, 3) := dk_162 0 19 (dk_at dksX7_letter_0 8 rfl rfl)
theorem dX7_letter_11 : decode cX7_letter 11 = .ok (.aload_n 0, 1) := dk_42 (dk_at dksX7_letter_0 11 rfl rfl)
theorem dX7_letter_12 : decode cX7_letter 12 = .ok (.getfield 15, 3) := dk_180 0 15 (dk_at dksX7_letter_0 12 rfl rfl)
theorem dX7_letter_15 : decode cX7_letter 15 = .ok (.iload_n 1, 1) := dk_27 (dk_at dksX7_letter_0 15 rfl rfl)
theorem dX7_letter_16 : decode cX7_letter 16 = .ok (.invokevirtual 35, 3) := dk_182 0 35 (dk_at dksX7_letter_0 16 rfl rfl)
theorem dX7_letter_19 : decode cX7_letter 19 = .ok (.bipush 97, 2) := dk_16 97 (dk_at dksX7_letter_0 19 rfl rfl)
theorem dX7_letter_21 : decode cX7_letter 21 = .ok (.isub, 1) := dk_100 (dk_at dksX7_letter_0 21 rfl rfl)
theorem dX7_letter_22 : decode cX7_letter 22 = .ok (.iconst 1, 1) := dk_4 (dk_at dksX7_letter_0 22 rfl rfl)
theorem dX7_letter_23 : decode cX7_letter 23 = .ok (.iadd, 1) := dk_96 (dk_at dksX7_letter_0 23 rfl rfl)
theorem dX7_letter_24 : decode cX7_letter 24 = .ok (.goto 4, 3) := dk_167 0 4 (dk_at dksX7_letter_1 0 rfl rfl)
theorem dX7_letter_27 : decode cX7_letter 27 = .ok (.iconst 0, 1) := dk_3 (dk_at dksX7_letter_1 3 rfl rfl)
theorem dX7_letter_28 : decode cX7_letter 28 = .ok (.ireturn, 1) := dk_172 (dk_at dksX7_letter_1 4 rfl rfl)
theorem q164 : (Jvm.Cond.initialized "Retouched$Soul") ∈ lw_all := lw_g (lw_at lw_m1 20 rfl) rfl
theorem q797 : (Jvm.Cond.instantiable "Retouched$Soul" (5 : Nat)) ∈ lw_all := lw_g (lw_at lw_m3 173 rfl) rfl
theorem q800 : (Jvm.Cond.instanceMethod ({ cls := "Retouched$Soul", name := "<init>", desc := "(Ljava/lang/String;III)V" } : Jvm.MethodName)) ∈ lw_all := lw_g (lw_at lw_m3 176 rfl) rfl
theorem q801 : (Jvm.Cond.code ({ cls := "Retouched$Soul", name := "<init>", desc := "(Ljava/lang/String;III)V" } : Jvm.MethodName) prog_14_method_1_code (6 : Nat) (Option.none : Option Jvm.ClassFile.FieldType)) ∈ lw_all := lw_g (lw_at lw_m3 177 rfl) rfl
theorem q802 : (Jvm.Cond.methodLink "Retouched$Soul" (3 : Nat) ({ cls := "java/lang/Object", name := "<init>", desc := "()V" } : Jvm.MethodName)) ∈ lw_all := lw_g (lw_at lw_m3 178 rfl) rfl
theorem q803 : (Jvm.Cond.fieldLink "Retouched$Soul" (15 : Nat) "Retouched$Soul" "name" "Ljava/lang/String;") ∈ lw_all := lw_g (lw_at lw_m3 179 rfl) rfl
theorem q805 : (Jvm.Cond.fieldLink "Retouched$Soul" (19 : Nat) "Retouched$Soul" "house" "I") ∈ lw_all := lw_g (lw_at lw_m3 181 rfl) rfl
theorem q808 : (Jvm.Cond.fieldLink "Retouched$Soul" (23 : Nat) "Retouched$Soul" "face" "I") ∈ lw_all := lw_g (lw_at lw_m3 184 rfl) rfl
theorem q810 : (Jvm.Cond.fieldLink "Retouched$Soul" (26 : Nat) "Retouched$Soul" "kind" "I") ∈ lw_all := lw_g (lw_at lw_m3 186 rfl) rfl
theorem q812 : (Jvm.Cond.fieldLink "Retouched$Soul" (9 : Nat) "Retouched$Soul" "thinks" "[I") ∈ lw_all := lw_g (lw_at lw_m3 188 rfl) rfl
theorem q815 : (Jvm.Cond.laysFinal "Retouched$Soul" "Retouched$Soul" "name" "Ljava/lang/String;") ∈ lw_all := lw_g (lw_at lw_m3 191 rfl) rfl
theorem q816 : (Jvm.Cond.soleField "Retouched$Soul" "name") ∈ lw_all := lw_g (lw_at lw_m3 192 rfl) rfl
theorem q817 : (Jvm.Cond.laysFinal "Retouched$Soul" "Retouched$Soul" "house" "I") ∈ lw_all := lw_g (lw_at lw_m3 193 rfl) rfl
theorem q818 : (Jvm.Cond.soleField "Retouched$Soul" "house") ∈ lw_all := lw_g (lw_at lw_m3 194 rfl) rfl
theorem q819 : (Jvm.Cond.laysFinal "Retouched$Soul" "Retouched$Soul" "face" "I") ∈ lw_all := lw_g (lw_at lw_m3 195 rfl) rfl
theorem q820 : (Jvm.Cond.soleField "Retouched$Soul" "face") ∈ lw_all := lw_g (lw_at lw_m3 196 rfl) rfl
theorem q821 : (Jvm.Cond.laysFinal "Retouched$Soul" "Retouched$Soul" "kind" "I") ∈ lw_all := lw_g (lw_at lw_m3 197 rfl) rfl
theorem q822 : (Jvm.Cond.soleField "Retouched$Soul" "kind") ∈ lw_all := lw_g (lw_at lw_m3 198 rfl) rfl
theorem q823 : (Jvm.Cond.laysFinal "Retouched$Soul" "Retouched$Soul" "thinks" "[I") ∈ lw_all := lw_g (lw_at lw_m3 199 rfl) rfl
theorem q824 : (Jvm.Cond.soleField "Retouched$Soul" "thinks") ∈ lw_all := lw_g (lw_at lw_m3 200 rfl) rfl
theorem q825 : (Jvm.Cond.superclass "Retouched$Soul" "java/lang/Object") ∈ lw_all := lw_g (lw_at lw_m3 201 rfl) rfl
theorem q878 : (Jvm.Cond.selects "Retouched$Soul" ({ cls := "java/lang/Object", name := "getClass", desc := "()Ljava/lang/Class;" } : Jvm.MethodName) ({ cls := "java/lang/Object", name := "getClass", desc := "()Ljava/lang/Class;" } : Jvm.MethodName)) ∈ lw_all := lw_g (lw_at lw_m4 14 rfl) rfl
theorem q1308 : (Jvm.Cond.instanceMethod ({ cls := "Retouched$Soul", name := "letter", desc := "(I)I" } : Jvm.MethodName)) ∈ lw_all := lw_g (lw_at lw_m5 204 rfl) rfl
theorem q1309 : (Jvm.Cond.selects "Retouched$Soul" ({ cls := "Retouched$Soul", name := "letter", desc := "(I)I" } : Jvm.MethodName) ({ cls := "Retouched$Soul", name := "letter", desc := "(I)I" } : Jvm.MethodName)) ∈ lw_all := lw_g (lw_at lw_m5 205 rfl) rfl
theorem q1310 : (Jvm.Cond.code ({ cls := "Retouched$Soul", name := "letter", desc := "(I)I" } : Jvm.MethodName) prog_14_method_2_code (2 : Nat) (Option.some Jvm.ClassFile.FieldType.int)) ∈ lw_all := lw_g (lw_at lw_m5 206 rfl) rfl
theorem q1311 : (Jvm.Cond.methodLink "Retouched$Soul" (29 : Nat) ({ cls := "java/lang/String", name := "length", desc := "()I" } : Jvm.MethodName)) ∈ lw_all := lw_g (lw_at lw_m5 207 rfl) rfl
theorem q1312 : (Jvm.Cond.methodLink "Retouched$Soul" (35 : Nat) ({ cls := "java/lang/String", name := "charAt", desc := "(I)C" } : Jvm.MethodName)) ∈ lw_all := lw_g (lw_at lw_m5 208 rfl) rfl
theorem q2514 : (Jvm.Cond.castable "Retouched$Soul" "java/lang/Object") ∈ lw_tbl := lw_at lw_m10 210 rfl
theorem in_X7 : ∀ w ∈ wsX70, w ∈ lw_all := lw_in wsX70 [815, 817, 819, 821, 823] (by decide +kernel) (by decide +kernel)
/-! Retouched$Value -/
set_option maxRecDepth 100000
def RX8 : String := "Retouched$Value"
abbrev cX8_init : ByteArray := prog_19_method_1_code
def yX8_init : MethodName := ⟨RX8, "<init>", "()V"⟩
theorem dX8_init_0 : decode cX8_init 0 = .ok (.aload_n 0, 1) := by decide +kernel
theorem dX8_init_1 : decode cX8_init 1 = .ok (.invokespecial 1, 3) := by decide +kernel
theorem dX8_init_4 : decode cX8_init 4 = .ok (.return_, 1) := by decide +kernel
theorem q168 : (Jvm.Cond.initialized "Retouched$Value") ∈ lw_all := lw_g (lw_at lw_m1 24 rfl) rfl
theorem q921 : (Jvm.Cond.instanceMethod ({ cls := "Retouched$Value", name := "<init>", desc := "()V" } : Jvm.MethodName)) ∈ lw_all := lw_g (lw_at lw_m4 57 rfl) rfl
theorem q922 : (Jvm.Cond.code ({ cls := "Retouched$Value", name := "<init>", desc := "()V" } : Jvm.MethodName) prog_19_method_1_code (1 : Nat) (Option.none : Option Jvm.ClassFile.FieldType)) ∈ lw_all := lw_g (lw_at lw_m4 58 rfl) rfl
theorem q923 : (Jvm.Cond.methodLink "Retouched$Value" (1 : Nat) ({ cls := "java/lang/Object", name := "<init>", desc := "()V" } : Jvm.MethodName)) ∈ lw_all := lw_g (lw_at lw_m4 59 rfl) rfl
theorem q1233 : (Jvm.Cond.declares ({ cls := "Retouched$Value", name := "at", desc := "(LRetouched$Moment;)J" } : Jvm.MethodName)) ∈ lw_tbl := lw_at lw_m5 129 rfl
theorem q1234 : (Jvm.Cond.sameMethod "Retouched$Value" "Retouched$Value" "at" "(LRetouched$Moment;)J") ∈ lw_all := lw_g (lw_at lw_m5 130 rfl) rfl
/-! Retouched$Chain -/
set_option maxRecDepth 100000
def RX9 : String := "Retouched$Chain"
def TX9 : u_T := fun k => match k with
  | 0 => ("Retouched$Chain", "values", "Ljava/util/List;", true)
  | _ => ("Retouched$Chain", "signs", "Ljava/lang/StringBuilder;", true)
def tyX9 : Nat → FieldType := fun k => match k with
  | 0 => .object "java/util/List"
  | _ => .object "java/lang/StringBuilder"
abbrev wsX90 : List Cond := u_ws RX9 TX9 2
theorem nmX9 : ∀ a, a < 2 → ∀ b, b < 2 → a ≠ b → (TX9 a).2.1 ≠ (TX9 b).2.1 := by decide +kernel
theorem tyX9_ok : ∀ k, k < 2 → parseFieldDescriptor (TX9 k).2.2.1 = some (tyX9 k) := by decide +kernel
abbrev cX9_init : ByteArray := prog_4_method_1_code
def yX9_init : MethodName := ⟨RX9, "<init>", "()V"⟩
def dkwX9_init_1 : List UInt8 := [181, 0, 21, 177]
abbrev dktX9_init_1 : List UInt8 := dkwX9_init_1 ++ []
def dkwX9_init_0 : List UInt8 := [42, 183, 0, 1, 42, 187, 0, 7, 89, 5, 183, 0, 9, 181, 0, 12, 42, 187, 0, 18, 89, 183, 0, 20]
abbrev dktX9_init_0 : List UInt8 := dkwX9_init_0 ++ dktX9_init_1
theorem dksX9_init_0 : cX9_init.data.toList.drop 0 = dktX9_init_0 := by decide +kernel
theorem dksX9_init_1 : cX9_init.data.toList.drop 24 = dktX9_init_1 := dk_seg dksX9_init_0 24 rfl rfl
theorem dX9_init_0 : decode cX9_init 0 = .ok (.aload_n 0, 1) := dk_42 (dk_at dksX9_init_0 0 rfl rfl)
theorem dX9_init_1 : decode cX9_init 1 = .ok (.invokespecial 1, 3) := dk_183 0 1 (dk_at dksX9_init_0 1 rfl rfl)
theorem dX9_init_4 : decode cX9_init 4 = .ok (.aload_n 0, 1) := dk_42 (dk_at dksX9_init_0 4 rfl rfl)
theorem dX9_init_5 : decode cX9_init 5 = .ok (.new 7, 3) := dk_187 0 7 (dk_at dksX9_init_0 5 rfl rfl)
theorem dX9_init_8 : decode cX9_init 8 = .ok (.dup, 1) := dk_89 (dk_at dksX9_init_0 8 rfl rfl)
theorem dX9_init_9 : decode cX9_init 9 = .ok (.iconst 2, 1) := dk_5 (dk_at dksX9_init_0 9 rfl rfl)
theorem dX9_init_10 : decode cX9_init 10 = .ok (.invokespecial 9, 3) := dk_183 0 9 (dk_at dksX9_init_0 10 rfl rfl)
theorem dX9_init_13 : decode cX9_init 13 = .ok (.putfield 12, 3) := dk_181 0 12 (dk_at dksX9_init_0 13 rfl rfl)
theorem dX9_init_16 : decode cX9_init 16 = .ok (.aload_n 0, 1) := dk_42 (dk_at dksX9_init_0 16 rfl rfl)
theorem dX9_init_17 : decode cX9_init 17 = .ok (.new 18, 3) := dk_187 0 18 (dk_at dksX9_init_0 17 rfl rfl)
theorem dX9_init_20 : decode cX9_init 20 = .ok (.dup, 1) := dk_89 (dk_at dksX9_init_0 20 rfl rfl)
theorem dX9_init_21 : decode cX9_init 21 = .ok (.invokespecial 20, 3) := dk_183 0 20 (dk_at dksX9_init_0 21 rfl rfl)
theorem dX9_init_24 : decode cX9_init 24 = .ok (.putfield 21, 3) := dk_181 0 21 (dk_at dksX9_init_1 0 rfl rfl)
theorem dX9_init_27 : decode cX9_init 27 = .ok (.return_, 1) := dk_177 (dk_at dksX9_init_1 3 rfl rfl)
abbrev cX9_add : ByteArray := prog_4_method_2_code
def yX9_add : MethodName := ⟨RX9, "add", "(CLRetouched$Value;)V"⟩
def dkwX9_add_0 : List UInt8 := [42, 180, 0, 21, 27, 182, 0, 25, 87, 42, 180, 0, 12, 44, 185, 0, 29, 2, 0, 87, 177]
abbrev dktX9_add_0 : List UInt8 := dkwX9_add_0 ++ []
theorem dksX9_add_0 : cX9_add.data.toList.drop 0 = dktX9_add_0 := by decide +kernel
theorem dX9_add_0 : decode cX9_add 0 = .ok (.aload_n 0, 1) := dk_42 (dk_at dksX9_add_0 0 rfl rfl)
theorem dX9_add_1 : decode cX9_add 1 = .ok (.getfield 21, 3) := dk_180 0 21 (dk_at dksX9_add_0 1 rfl rfl)
theorem dX9_add_4 : decode cX9_add 4 = .ok (.iload_n 1, 1) := dk_27 (dk_at dksX9_add_0 4 rfl rfl)
theorem dX9_add_5 : decode cX9_add 5 = .ok (.invokevirtual 25, 3) := dk_182 0 25 (dk_at dksX9_add_0 5 rfl rfl)
theorem dX9_add_8 : decode cX9_add 8 = .ok (.pop, 1) := dk_87 (dk_at dksX9_add_0 8 rfl rfl)
theorem dX9_add_9 : decode cX9_add 9 = .ok (.aload_n 0, 1) := dk_42 (dk_at dksX9_add_0 9 rfl rfl)
theorem dX9_add_10 : decode cX9_add 10 = .ok (.getfield 12, 3) := dk_180 0 12 (dk_at dksX9_add_0 10 rfl rfl)
theorem dX9_add_13 : decode cX9_add 13 = .ok (.aload_n 2, 1) := dk_44 (dk_at dksX9_add_0 13 rfl rfl)
theorem dX9_add_14 : decode cX9_add 14 = .ok (.invokeinterface 29 2, 5) := by decide +kernel
theorem dX9_add_19 : decode cX9_add 19 = .ok (.pop, 1) := dk_87 (dk_at dksX9_add_0 19 rfl rfl)
theorem dX9_add_20 : decode cX9_add 20 = .ok (.return_, 1) := dk_177 (dk_at dksX9_add_0 20 rfl rfl)
abbrev cX9_at : ByteArray := prog_4_method_3_code
def yX9_at : MethodName := ⟨RX9, "at", "(LRetouched$Moment;)J"⟩
def dkwX9_at_3 : List UInt8 := [132, 4, 1, 167, 255, 204, 32, 173]
abbrev dktX9_at_3 : List UInt8 := dkwX9_at_3 ++ []
def dkwX9_at_2 : List UInt8 := [180, 0, 12, 21, 4, 185, 0, 35, 2, 0, 192, 0, 2, 43, 182, 0, 39, 184, 0, 51, 184, 0, 55, 65]
abbrev dktX9_at_2 : List UInt8 := dkwX9_at_2 ++ dktX9_at_3
def dkwX9_at_1 : List UInt8 := [180, 0, 12, 185, 0, 43, 1, 0, 162, 0, 44, 42, 180, 0, 21, 21, 4, 182, 0, 47, 32, 42]
abbrev dktX9_at_1 : List UInt8 := dkwX9_at_1 ++ dktX9_at_2
def dkwX9_at_0 : List UInt8 := [42, 180, 0, 12, 3, 185, 0, 35, 2, 0, 192, 0, 2, 43, 182, 0, 39, 65, 4, 54, 4, 21, 4, 42]
abbrev dktX9_at_0 : List UInt8 := dkwX9_at_0 ++ dktX9_at_1
theorem dksX9_at_0 : cX9_at.data.toList.drop 0 = dktX9_at_0 := by decide +kernel
theorem dksX9_at_1 : cX9_at.data.toList.drop 24 = dktX9_at_1 := dk_seg dksX9_at_0 24 rfl rfl
theorem dksX9_at_2 : cX9_at.data.toList.drop 46 = dktX9_at_2 := dk_seg dksX9_at_1 22 rfl rfl
theorem dksX9_at_3 : cX9_at.data.toList.drop 70 = dktX9_at_3 := dk_seg dksX9_at_2 24 rfl rfl
theorem dX9_at_0 : decode cX9_at 0 = .ok (.aload_n 0, 1) := dk_42 (dk_at dksX9_at_0 0 rfl rfl)
theorem dX9_at_1 : decode cX9_at 1 = .ok (.getfield 12, 3) := dk_180 0 12 (dk_at dksX9_at_0 1 rfl rfl)
theorem dX9_at_4 : decode cX9_at 4 = .ok (.iconst 0, 1) := dk_3 (dk_at dksX9_at_0 4 rfl rfl)
theorem dX9_at_5 : decode cX9_at 5 = .ok (.invokeinterface 35 2, 5) := by decide +kernel
theorem dX9_at_10 : decode cX9_at 10 = .ok (.checkcast 2, 3) := dk_192 0 2 (dk_at dksX9_at_0 10 rfl rfl)
theorem dX9_at_13 : decode cX9_at 13 = .ok (.aload_n 1, 1) := dk_43 (dk_at dksX9_at_0 13 rfl rfl)
theorem dX9_at_14 : decode cX9_at 14 = .ok (.invokevirtual 39, 3) := dk_182 0 39 (dk_at dksX9_at_0 14 rfl rfl)
theorem dX9_at_17 : decode cX9_at 17 = .ok (.lstore_n 2, 1) := dk_65 (dk_at dksX9_at_0 17 rfl rfl)
theorem dX9_at_18 : decode cX9_at 18 = .ok (.iconst 1, 1) := dk_4 (dk_at dksX9_at_0 18 rfl rfl)
theorem dX9_at_19 : decode cX9_at 19 = .ok (.istore 4, 2) := dk_54 4 (dk_at dksX9_at_0 19 rfl rfl)
theorem dX9_at_21 : decode cX9_at 21 = .ok (.iload 4, 2) := dk_21 4 (dk_at dksX9_at_0 21 rfl rfl)
theorem dX9_at_23 : decode cX9_at 23 = .ok (.aload_n 0, 1) := dk_42 (dk_at dksX9_at_0 23 rfl rfl)
theorem dX9_at_24 : decode cX9_at 24 = .ok (.getfield 12, 3) := dk_180 0 12 (dk_at dksX9_at_1 0 rfl rfl)
theorem dX9_at_27 : decode cX9_at 27 = .ok (.invokeinterface 43 1, 5) := by decide +kernel
theorem dX9_at_32 : decode cX9_at 32 = .ok (.if_icmp .ge 44, 3) := dk_162 0 44 (dk_at dksX9_at_1 8 rfl rfl)
theorem dX9_at_35 : decode cX9_at 35 = .ok (.aload_n 0, 1) := dk_42 (dk_at dksX9_at_1 11 rfl rfl)
theorem dX9_at_36 : decode cX9_at 36 = .ok (.getfield 21, 3) := dk_180 0 21 (dk_at dksX9_at_1 12 rfl rfl)
theorem dX9_at_39 : decode cX9_at 39 = .ok (.iload 4, 2) := dk_21 4 (dk_at dksX9_at_1 15 rfl rfl)
theorem dX9_at_41 : decode cX9_at 41 = .ok (.invokevirtual 47, 3) := dk_182 0 47 (dk_at dksX9_at_1 17 rfl rfl)
theorem dX9_at_44 : decode cX9_at 44 = .ok (.lload_n 2, 1) := dk_32 (dk_at dksX9_at_1 20 rfl rfl)
theorem dX9_at_45 : decode cX9_at 45 = .ok (.aload_n 0, 1) := dk_42 (dk_at dksX9_at_1 21 rfl rfl)
theorem dX9_at_46 : decode cX9_at 46 = .ok (.getfield 12, 3) := dk_180 0 12 (dk_at dksX9_at_2 0 rfl rfl)
theorem dX9_at_49 : decode cX9_at 49 = .ok (.iload 4, 2) := dk_21 4 (dk_at dksX9_at_2 3 rfl rfl)
theorem dX9_at_51 : decode cX9_at 51 = .ok (.invokeinterface 35 2, 5) := by decide +kernel
theorem dX9_at_56 : decode cX9_at 56 = .ok (.checkcast 2, 3) := dk_192 0 2 (dk_at dksX9_at_2 10 rfl rfl)
theorem dX9_at_59 : decode cX9_at 59 = .ok (.aload_n 1, 1) := dk_43 (dk_at dksX9_at_2 13 rfl rfl)
theorem dX9_at_60 : decode cX9_at 60 = .ok (.invokevirtual 39, 3) := dk_182 0 39 (dk_at dksX9_at_2 14 rfl rfl)
theorem dX9_at_63 : decode cX9_at 63 = .ok (.invokestatic 51, 3) := dk_184 0 51 (dk_at dksX9_at_2 17 rfl rfl)
theorem dX9_at_66 : decode cX9_at 66 = .ok (.invokestatic 55, 3) := dk_184 0 55 (dk_at dksX9_at_2 20 rfl rfl)
theorem dX9_at_69 : decode cX9_at 69 = .ok (.lstore_n 2, 1) := dk_65 (dk_at dksX9_at_2 23 rfl rfl)
theorem dX9_at_70 : decode cX9_at 70 = .ok (.iinc 4 1, 3) := dk_132 4 1 (dk_at dksX9_at_3 0 rfl rfl)
theorem dX9_at_73 : decode cX9_at 73 = .ok (.goto (-52), 3) := dk_167 255 204 (dk_at dksX9_at_3 3 rfl rfl)
theorem dX9_at_76 : decode cX9_at 76 = .ok (.lload_n 2, 1) := dk_32 (dk_at dksX9_at_3 6 rfl rfl)
theorem dX9_at_77 : decode cX9_at 77 = .ok (.lreturn, 1) := dk_173 (dk_at dksX9_at_3 7 rfl rfl)
abbrev cX9_two : ByteArray := prog_4_method_4_code
def yX9_two : MethodName := ⟨RX9, "two", "(CJJ)J"⟩
def dkwX9_two_3 : List UInt8 := [184, 0, 61, 173]
abbrev dktX9_two_3 : List UInt8 := dkwX9_two_3 ++ []
def dkwX9_two_2 : List UInt8 := [31, 33, 97, 173, 31, 33, 101, 173, 31, 33, 105, 173, 33, 9, 148, 154, 0, 7, 9, 167, 0, 8, 31, 33]
abbrev dktX9_two_2 : List UInt8 := dkwX9_two_2 ++ dktX9_two_3
def dkwX9_two_1 : List UInt8 := [170, 0, 0, 0, 0, 0, 43, 0, 0, 0, 42, 0, 0, 0, 45, 0, 0, 0, 39, 0, 0, 0, 31, 0, 0, 0, 43, 0, 0, 0, 35]
abbrev dktX9_two_1 : List UInt8 := dkwX9_two_1 ++ dktX9_two_2
def dkwX9_two_0 : List UInt8 := [26]
abbrev dktX9_two_0 : List UInt8 := dkwX9_two_0 ++ dktX9_two_1
theorem dksX9_two_0 : cX9_two.data.toList.drop 0 = dktX9_two_0 := by decide +kernel
theorem dksX9_two_1 : cX9_two.data.toList.drop 1 = dktX9_two_1 := dk_seg dksX9_two_0 1 rfl rfl
theorem dksX9_two_2 : cX9_two.data.toList.drop 32 = dktX9_two_2 := dk_seg dksX9_two_1 31 rfl rfl
theorem dksX9_two_3 : cX9_two.data.toList.drop 56 = dktX9_two_3 := dk_seg dksX9_two_2 24 rfl rfl
theorem dX9_two_0 : decode cX9_two 0 = .ok (.iload_n 0, 1) := dk_26 (dk_at dksX9_two_0 0 rfl rfl)
theorem dX9_two_1 : decode cX9_two 1 = .ok (.tableswitch 43 42 45 #[39, 31, 43, 35], 31) := by decide +kernel
theorem dX9_two_32 : decode cX9_two 32 = .ok (.lload_n 1, 1) := dk_31 (dk_at dksX9_two_2 0 rfl rfl)
theorem dX9_two_33 : decode cX9_two 33 = .ok (.lload_n 3, 1) := dk_33 (dk_at dksX9_two_2 1 rfl rfl)
theorem dX9_two_34 : decode cX9_two 34 = .ok (.ladd, 1) := dk_97 (dk_at dksX9_two_2 2 rfl rfl)
theorem dX9_two_35 : decode cX9_two 35 = .ok (.lreturn, 1) := dk_173 (dk_at dksX9_two_2 3 rfl rfl)
theorem dX9_two_36 : decode cX9_two 36 = .ok (.lload_n 1, 1) := dk_31 (dk_at dksX9_two_2 4 rfl rfl)
theorem dX9_two_37 : decode cX9_two 37 = .ok (.lload_n 3, 1) := dk_33 (dk_at dksX9_two_2 5 rfl rfl)
theorem dX9_two_38 : decode cX9_two 38 = .ok (.lsub, 1) := dk_101 (dk_at dksX9_two_2 6 rfl rfl)
theorem dX9_two_39 : decode cX9_two 39 = .ok (.lreturn, 1) := dk_173 (dk_at dksX9_two_2 7 rfl rfl)
theorem dX9_two_40 : decode cX9_two 40 = .ok (.lload_n 1, 1) := dk_31 (dk_at dksX9_two_2 8 rfl rfl)
theorem dX9_two_41 : decode cX9_two 41 = .ok (.lload_n 3, 1) := dk_33 (dk_at dksX9_two_2 9 rfl rfl)
theorem dX9_two_42 : decode cX9_two 42 = .ok (.lmul, 1) := dk_105 (dk_at dksX9_two_2 10 rfl rfl)
theorem dX9_two_43 : decode cX9_two 43 = .ok (.lreturn, 1) := dk_173 (dk_at dksX9_two_2 11 rfl rfl)
theorem dX9_two_44 : decode cX9_two 44 = .ok (.lload_n 3, 1) := dk_33 (dk_at dksX9_two_2 12 rfl rfl)
theorem dX9_two_45 : decode cX9_two 45 = .ok (.lconst 0, 1) := dk_9 (dk_at dksX9_two_2 13 rfl rfl)
theorem dX9_two_46 : decode cX9_two 46 = .ok (.lcmp, 1) := dk_148 (dk_at dksX9_two_2 14 rfl rfl)
theorem dX9_two_47 : decode cX9_two 47 = .ok (.ifCond .ne 7, 3) := dk_154 0 7 (dk_at dksX9_two_2 15 rfl rfl)
theorem dX9_two_50 : decode cX9_two 50 = .ok (.lconst 0, 1) := dk_9 (dk_at dksX9_two_2 18 rfl rfl)
theorem dX9_two_51 : decode cX9_two 51 = .ok (.goto 8, 3) := dk_167 0 8 (dk_at dksX9_two_2 19 rfl rfl)
theorem dX9_two_54 : decode cX9_two 54 = .ok (.lload_n 1, 1) := dk_31 (dk_at dksX9_two_2 22 rfl rfl)
theorem dX9_two_55 : decode cX9_two 55 = .ok (.lload_n 3, 1) := dk_33 (dk_at dksX9_two_2 23 rfl rfl)
theorem dX9_two_56 : decode cX9_two 56 = .ok (.invokestatic 61, 3) := dk_184 0 61 (dk_at dksX9_two_3 0 rfl rfl)
theorem dX9_two_59 : decode cX9_two 59 = .ok (.lreturn, 1) := dk_173 (dk_at dksX9_two_3 3 rfl rfl)
theorem q169 : (Jvm.Cond.initialized "Retouched$Chain") ∈ lw_all := lw_g (lw_at lw_m1 25 rfl) rfl
theorem q868 : (Jvm.Cond.selects "Retouched$Chain" ({ cls := "java/lang/Object", name := "getClass", desc := "()Ljava/lang/Class;" } : Jvm.MethodName) ({ cls := "java/lang/Object", name := "getClass", desc := "()Ljava/lang/Class;" } : Jvm.MethodName)) ∈ lw_all := lw_g (lw_at lw_m4 4 rfl) rfl
theorem q916 : (Jvm.Cond.instantiable "Retouched$Chain" (2 : Nat)) ∈ lw_all := lw_g (lw_at lw_m4 52 rfl) rfl
theorem q918 : (Jvm.Cond.instanceMethod ({ cls := "Retouched$Chain", name := "<init>", desc := "()V" } : Jvm.MethodName)) ∈ lw_all := lw_g (lw_at lw_m4 54 rfl) rfl
theorem q919 : (Jvm.Cond.code ({ cls := "Retouched$Chain", name := "<init>", desc := "()V" } : Jvm.MethodName) prog_4_method_1_code (1 : Nat) (Option.none : Option Jvm.ClassFile.FieldType)) ∈ lw_all := lw_g (lw_at lw_m4 55 rfl) rfl
theorem q920 : (Jvm.Cond.methodLinkNest "Retouched$Chain" (1 : Nat) ({ cls := "Retouched$Value", name := "<init>", desc := "()V" } : Jvm.MethodName) "Retouched") ∈ lw_tbl := lw_at lw_m4 56 rfl
theorem q924 : (Jvm.Cond.classLink "Retouched$Chain" (7 : Nat) "java/util/ArrayList") ∈ lw_all := lw_g (lw_at lw_m4 60 rfl) rfl
theorem q925 : (Jvm.Cond.methodLink "Retouched$Chain" (9 : Nat) ({ cls := "java/util/ArrayList", name := "<init>", desc := "(I)V" } : Jvm.MethodName)) ∈ lw_all := lw_g (lw_at lw_m4 61 rfl) rfl
theorem q926 : (Jvm.Cond.classLink "Retouched$Chain" (18 : Nat) "java/lang/StringBuilder") ∈ lw_all := lw_g (lw_at lw_m4 62 rfl) rfl
theorem q928 : (Jvm.Cond.methodLink "Retouched$Chain" (20 : Nat) ({ cls := "java/lang/StringBuilder", name := "<init>", desc := "()V" } : Jvm.MethodName)) ∈ lw_all := lw_g (lw_at lw_m4 64 rfl) rfl
theorem q949 : (Jvm.Cond.fieldLink "Retouched$Chain" (12 : Nat) "Retouched$Chain" "values" "Ljava/util/List;") ∈ lw_all := lw_g (lw_at lw_m4 85 rfl) rfl
theorem q950 : (Jvm.Cond.fieldLink "Retouched$Chain" (21 : Nat) "Retouched$Chain" "signs" "Ljava/lang/StringBuilder;") ∈ lw_all := lw_g (lw_at lw_m4 86 rfl) rfl
theorem q951 : (Jvm.Cond.laysFinal "Retouched$Chain" "Retouched$Chain" "values" "Ljava/util/List;") ∈ lw_all := lw_g (lw_at lw_m4 87 rfl) rfl
theorem q952 : (Jvm.Cond.soleField "Retouched$Chain" "values") ∈ lw_all := lw_g (lw_at lw_m4 88 rfl) rfl
theorem q953 : (Jvm.Cond.laysFinal "Retouched$Chain" "Retouched$Chain" "signs" "Ljava/lang/StringBuilder;") ∈ lw_all := lw_g (lw_at lw_m4 89 rfl) rfl
theorem q954 : (Jvm.Cond.soleField "Retouched$Chain" "signs") ∈ lw_all := lw_g (lw_at lw_m4 90 rfl) rfl
theorem q955 : (Jvm.Cond.superclass "Retouched$Chain" "Retouched$Value") ∈ lw_all := lw_g (lw_at lw_m4 91 rfl) rfl
theorem q1038 : (Jvm.Cond.instanceMethod ({ cls := "Retouched$Chain", name := "add", desc := "(CLRetouched$Value;)V" } : Jvm.MethodName)) ∈ lw_all := lw_g (lw_at lw_m4 174 rfl) rfl
theorem q1039 : (Jvm.Cond.selects "Retouched$Chain" ({ cls := "Retouched$Chain", name := "add", desc := "(CLRetouched$Value;)V" } : Jvm.MethodName) ({ cls := "Retouched$Chain", name := "add", desc := "(CLRetouched$Value;)V" } : Jvm.MethodName)) ∈ lw_all := lw_g (lw_at lw_m4 175 rfl) rfl
theorem q1040 : (Jvm.Cond.code ({ cls := "Retouched$Chain", name := "add", desc := "(CLRetouched$Value;)V" } : Jvm.MethodName) prog_4_method_2_code (3 : Nat) (Option.none : Option Jvm.ClassFile.FieldType)) ∈ lw_all := lw_g (lw_at lw_m4 176 rfl) rfl
theorem q1041 : (Jvm.Cond.methodLink "Retouched$Chain" (25 : Nat) ({ cls := "java/lang/StringBuilder", name := "append", desc := "(C)Ljava/lang/StringBuilder;" } : Jvm.MethodName)) ∈ lw_all := lw_g (lw_at lw_m4 177 rfl) rfl
theorem q1096 : (Jvm.Cond.interfaceEntry "Retouched$Chain" (29 : Nat)) ∈ lw_tbl := lw_at lw_m4 232 rfl
theorem q1097 : (Jvm.Cond.methodLink "Retouched$Chain" (29 : Nat) ({ cls := "java/util/List", name := "add", desc := "(Ljava/lang/Object;)Z" } : Jvm.MethodName)) ∈ lw_all := lw_g (lw_at lw_m4 233 rfl) rfl
theorem q1249 : (Jvm.Cond.selects "Retouched$Chain" ({ cls := "Retouched$Value", name := "at", desc := "(LRetouched$Moment;)J" } : Jvm.MethodName) ({ cls := "Retouched$Chain", name := "at", desc := "(LRetouched$Moment;)J" } : Jvm.MethodName)) ∈ lw_all := lw_g (lw_at lw_m5 145 rfl) rfl
theorem q1250 : (Jvm.Cond.instanceMethod ({ cls := "Retouched$Chain", name := "at", desc := "(LRetouched$Moment;)J" } : Jvm.MethodName)) ∈ lw_all := lw_g (lw_at lw_m5 146 rfl) rfl
theorem q1251 : (Jvm.Cond.code ({ cls := "Retouched$Chain", name := "at", desc := "(LRetouched$Moment;)J" } : Jvm.MethodName) prog_4_method_3_code (5 : Nat) (Option.some Jvm.ClassFile.FieldType.long)) ∈ lw_all := lw_g (lw_at lw_m5 147 rfl) rfl
theorem q1252 : (Jvm.Cond.interfaceEntry "Retouched$Chain" (35 : Nat)) ∈ lw_tbl := lw_at lw_m5 148 rfl
theorem q1253 : (Jvm.Cond.methodLink "Retouched$Chain" (35 : Nat) ({ cls := "java/util/List", name := "get", desc := "(I)Ljava/lang/Object;" } : Jvm.MethodName)) ∈ lw_all := lw_g (lw_at lw_m5 149 rfl) rfl
theorem q1254 : (Jvm.Cond.classLink "Retouched$Chain" (2 : Nat) "Retouched$Value") ∈ lw_all := lw_g (lw_at lw_m5 150 rfl) rfl
theorem q1255 : (Jvm.Cond.methodLink "Retouched$Chain" (39 : Nat) ({ cls := "Retouched$Value", name := "at", desc := "(LRetouched$Moment;)J" } : Jvm.MethodName)) ∈ lw_all := lw_g (lw_at lw_m5 151 rfl) rfl
theorem q1269 : (Jvm.Cond.interfaceEntry "Retouched$Chain" (43 : Nat)) ∈ lw_tbl := lw_at lw_m5 165 rfl
theorem q1270 : (Jvm.Cond.methodLink "Retouched$Chain" (43 : Nat) ({ cls := "java/util/List", name := "size", desc := "()I" } : Jvm.MethodName)) ∈ lw_all := lw_g (lw_at lw_m5 166 rfl) rfl
theorem q1271 : (Jvm.Cond.methodLink "Retouched$Chain" (47 : Nat) ({ cls := "java/lang/StringBuilder", name := "charAt", desc := "(I)C" } : Jvm.MethodName)) ∈ lw_all := lw_g (lw_at lw_m5 167 rfl) rfl
theorem q1281 : (Jvm.Cond.methodLink "Retouched$Chain" (51 : Nat) ({ cls := "Retouched$Chain", name := "two", desc := "(CJJ)J" } : Jvm.MethodName)) ∈ lw_all := lw_g (lw_at lw_m5 177 rfl) rfl
theorem q1282 : (Jvm.Cond.static ({ cls := "Retouched$Chain", name := "two", desc := "(CJJ)J" } : Jvm.MethodName)) ∈ lw_all := lw_g (lw_at lw_m5 178 rfl) rfl
theorem q1283 : (Jvm.Cond.code ({ cls := "Retouched$Chain", name := "two", desc := "(CJJ)J" } : Jvm.MethodName) prog_4_method_4_code (5 : Nat) (Option.some Jvm.ClassFile.FieldType.long)) ∈ lw_all := lw_g (lw_at lw_m5 179 rfl) rfl
theorem q1284 : (Jvm.Cond.methodLink "Retouched$Chain" (61 : Nat) ({ cls := "java/lang/Math", name := "floorDiv", desc := "(JJ)J" } : Jvm.MethodName)) ∈ lw_all := lw_g (lw_at lw_m5 180 rfl) rfl
theorem q1287 : (Jvm.Cond.methodLinkNest "Retouched$Chain" (55 : Nat) ({ cls := "Retouched", name := "held", desc := "(J)J" } : Jvm.MethodName) "Retouched") ∈ lw_tbl := lw_at lw_m5 183 rfl
theorem q2500 : (Jvm.Cond.castable "Retouched$Chain" "Retouched$Value") ∈ lw_tbl := lw_at lw_m10 196 rfl
theorem q2515 : (Jvm.Cond.castable "Retouched$Chain" "java/lang/Object") ∈ lw_tbl := lw_at lw_m10 211 rfl
theorem in_X9 : ∀ w ∈ wsX90, w ∈ lw_all := lw_in wsX90 [951, 953] (by decide +kernel) (by decide +kernel)
/-! Retouched$Pair -/
set_option maxRecDepth 100000
def RX10 : String := "Retouched$Pair"
def TX10 : u_T := fun k => match k with
  | 0 => ("Retouched$Pair", "most", "Z", true)
  | 1 => ("Retouched$Pair", "first", "LRetouched$Value;", true)
  | _ => ("Retouched$Pair", "second", "LRetouched$Value;", true)
def tyX10 : Nat → FieldType := fun k => match k with
  | 0 => .boolean
  | 1 => .object "Retouched$Value"
  | _ => .object "Retouched$Value"
abbrev wsX100 : List Cond := u_ws RX10 TX10 3
theorem nmX10 : ∀ a, a < 3 → ∀ b, b < 3 → a ≠ b → (TX10 a).2.1 ≠ (TX10 b).2.1 := by decide +kernel
theorem tyX10_ok : ∀ k, k < 3 → parseFieldDescriptor (TX10 k).2.2.1 = some (tyX10 k) := by decide +kernel
abbrev cX10_init : ByteArray := prog_11_method_1_code
def yX10_init : MethodName := ⟨RX10, "<init>", "(ZLRetouched$Value;LRetouched$Value;)V"⟩
def dkwX10_init_0 : List UInt8 := [42, 183, 0, 1, 42, 27, 181, 0, 7, 42, 44, 181, 0, 13, 42, 45, 181, 0, 17, 177]
abbrev dktX10_init_0 : List UInt8 := dkwX10_init_0 ++ []
theorem dksX10_init_0 : cX10_init.data.toList.drop 0 = dktX10_init_0 := by decide +kernel
theorem dX10_init_0 : decode cX10_init 0 = .ok (.aload_n 0, 1) := dk_42 (dk_at dksX10_init_0 0 rfl rfl)
theorem dX10_init_1 : decode cX10_init 1 = .ok (.invokespecial 1, 3) := dk_183 0 1 (dk_at dksX10_init_0 1 rfl rfl)
theorem dX10_init_4 : decode cX10_init 4 = .ok (.aload_n 0, 1) := dk_42 (dk_at dksX10_init_0 4 rfl rfl)
theorem dX10_init_5 : decode cX10_init 5 = .ok (.iload_n 1, 1) := dk_27 (dk_at dksX10_init_0 5 rfl rfl)
theorem dX10_init_6 : decode cX10_init 6 = .ok (.putfield 7, 3) := dk_181 0 7 (dk_at dksX10_init_0 6 rfl rfl)
theorem dX10_init_9 : decode cX10_init 9 = .ok (.aload_n 0, 1) := dk_42 (dk_at dksX10_init_0 9 rfl rfl)
theorem dX10_init_10 : decode cX10_init 10 = .ok (.aload_n 2, 1) := dk_44 (dk_at dksX10_init_0 10 rfl rfl)
theorem dX10_init_11 : decode cX10_init 11 = .ok (.putfield 13, 3) := dk_181 0 13 (dk_at dksX10_init_0 11 rfl rfl)
theorem dX10_init_14 : decode cX10_init 14 = .ok (.aload_n 0, 1) := dk_42 (dk_at dksX10_init_0 14 rfl rfl)
theorem dX10_init_15 : decode cX10_init 15 = .ok (.aload_n 3, 1) := dk_45 (dk_at dksX10_init_0 15 rfl rfl)
theorem dX10_init_16 : decode cX10_init 16 = .ok (.putfield 17, 3) := dk_181 0 17 (dk_at dksX10_init_0 16 rfl rfl)
theorem dX10_init_19 : decode cX10_init 19 = .ok (.return_, 1) := dk_177 (dk_at dksX10_init_0 19 rfl rfl)
abbrev cX10_at : ByteArray := prog_11_method_2_code
def yX10_at : MethodName := ⟨RX10, "at", "(LRetouched$Moment;)J"⟩
def dkwX10_at_1 : List UInt8 := [22, 4, 148, 158, 0, 7, 4, 167, 0, 4, 3, 160, 0, 7, 32, 167, 0, 5, 22, 4, 173]
abbrev dktX10_at_1 : List UInt8 := dkwX10_at_1 ++ []
def dkwX10_at_0 : List UInt8 := [42, 180, 0, 13, 43, 182, 0, 20, 65, 42, 180, 0, 17, 43, 182, 0, 20, 55, 4, 42, 180, 0, 7, 32]
abbrev dktX10_at_0 : List UInt8 := dkwX10_at_0 ++ dktX10_at_1
theorem dksX10_at_0 : cX10_at.data.toList.drop 0 = dktX10_at_0 := by decide +kernel
theorem dksX10_at_1 : cX10_at.data.toList.drop 24 = dktX10_at_1 := dk_seg dksX10_at_0 24 rfl rfl
theorem dX10_at_0 : decode cX10_at 0 = .ok (.aload_n 0, 1) := dk_42 (dk_at dksX10_at_0 0 rfl rfl)
theorem dX10_at_1 : decode cX10_at 1 = .ok (.getfield 13, 3) := dk_180 0 13 (dk_at dksX10_at_0 1 rfl rfl)
theorem dX10_at_4 : decode cX10_at 4 = .ok (.aload_n 1, 1) := dk_43 (dk_at dksX10_at_0 4 rfl rfl)
theorem dX10_at_5 : decode cX10_at 5 = .ok (.invokevirtual 20, 3) := dk_182 0 20 (dk_at dksX10_at_0 5 rfl rfl)
theorem dX10_at_8 : decode cX10_at 8 = .ok (.lstore_n 2, 1) := dk_65 (dk_at dksX10_at_0 8 rfl rfl)
theorem dX10_at_9 : decode cX10_at 9 = .ok (.aload_n 0, 1) := dk_42 (dk_at dksX10_at_0 9 rfl rfl)
theorem dX10_at_10 : decode cX10_at 10 = .ok (.getfield 17, 3) := dk_180 0 17 (dk_at dksX10_at_0 10 rfl rfl)
theorem dX10_at_13 : decode cX10_at 13 = .ok (.aload_n 1, 1) := dk_43 (dk_at dksX10_at_0 13 rfl rfl)
theorem dX10_at_14 : decode cX10_at 14 = .ok (.invokevirtual 20, 3) := dk_182 0 20 (dk_at dksX10_at_0 14 rfl rfl)
theorem dX10_at_17 : decode cX10_at 17 = .ok (.lstore 4, 2) := dk_55 4 (dk_at dksX10_at_0 17 rfl rfl)
theorem dX10_at_19 : decode cX10_at 19 = .ok (.aload_n 0, 1) := dk_42 (dk_at dksX10_at_0 19 rfl rfl)
theorem dX10_at_20 : decode cX10_at 20 = .ok (.getfield 7, 3) := dk_180 0 7 (dk_at dksX10_at_0 20 rfl rfl)
theorem dX10_at_23 : decode cX10_at 23 = .ok (.lload_n 2, 1) := dk_32 (dk_at dksX10_at_0 23 rfl rfl)
theorem dX10_at_24 : decode cX10_at 24 = .ok (.lload 4, 2) := dk_22 4 (dk_at dksX10_at_1 0 rfl rfl)
theorem dX10_at_26 : decode cX10_at 26 = .ok (.lcmp, 1) := dk_148 (dk_at dksX10_at_1 2 rfl rfl)
theorem dX10_at_27 : decode cX10_at 27 = .ok (.ifCond .le 7, 3) := dk_158 0 7 (dk_at dksX10_at_1 3 rfl rfl)
theorem dX10_at_30 : decode cX10_at 30 = .ok (.iconst 1, 1) := dk_4 (dk_at dksX10_at_1 6 rfl rfl)
theorem dX10_at_31 : decode cX10_at 31 = .ok (.goto 4, 3) := dk_167 0 4 (dk_at dksX10_at_1 7 rfl rfl)
theorem dX10_at_34 : decode cX10_at 34 = .ok (.iconst 0, 1) := dk_3 (dk_at dksX10_at_1 10 rfl rfl)
theorem dX10_at_35 : decode cX10_at 35 = .ok (.if_icmp .ne 7, 3) := dk_160 0 7 (dk_at dksX10_at_1 11 rfl rfl)
theorem dX10_at_38 : decode cX10_at 38 = .ok (.lload_n 2, 1) := dk_32 (dk_at dksX10_at_1 14 rfl rfl)
theorem dX10_at_39 : decode cX10_at 39 = .ok (.goto 5, 3) := dk_167 0 5 (dk_at dksX10_at_1 15 rfl rfl)
theorem dX10_at_42 : decode cX10_at 42 = .ok (.lload 4, 2) := dk_22 4 (dk_at dksX10_at_1 18 rfl rfl)
theorem dX10_at_44 : decode cX10_at 44 = .ok (.lreturn, 1) := dk_173 (dk_at dksX10_at_1 20 rfl rfl)
theorem q172 : (Jvm.Cond.initialized "Retouched$Pair") ∈ lw_all := lw_g (lw_at lw_m1 28 rfl) rfl
theorem q875 : (Jvm.Cond.selects "Retouched$Pair" ({ cls := "java/lang/Object", name := "getClass", desc := "()Ljava/lang/Class;" } : Jvm.MethodName) ({ cls := "java/lang/Object", name := "getClass", desc := "()Ljava/lang/Class;" } : Jvm.MethodName)) ∈ lw_all := lw_g (lw_at lw_m4 11 rfl) rfl
theorem q973 : (Jvm.Cond.instantiable "Retouched$Pair" (3 : Nat)) ∈ lw_all := lw_g (lw_at lw_m4 109 rfl) rfl
theorem q975 : (Jvm.Cond.instanceMethod ({ cls := "Retouched$Pair", name := "<init>", desc := "(ZLRetouched$Value;LRetouched$Value;)V" } : Jvm.MethodName)) ∈ lw_all := lw_g (lw_at lw_m4 111 rfl) rfl
theorem q976 : (Jvm.Cond.code ({ cls := "Retouched$Pair", name := "<init>", desc := "(ZLRetouched$Value;LRetouched$Value;)V" } : Jvm.MethodName) prog_11_method_1_code (4 : Nat) (Option.none : Option Jvm.ClassFile.FieldType)) ∈ lw_all := lw_g (lw_at lw_m4 112 rfl) rfl
theorem q977 : (Jvm.Cond.methodLinkNest "Retouched$Pair" (1 : Nat) ({ cls := "Retouched$Value", name := "<init>", desc := "()V" } : Jvm.MethodName) "Retouched") ∈ lw_tbl := lw_at lw_m4 113 rfl
theorem q978 : (Jvm.Cond.fieldLink "Retouched$Pair" (7 : Nat) "Retouched$Pair" "most" "Z") ∈ lw_all := lw_g (lw_at lw_m4 114 rfl) rfl
theorem q979 : (Jvm.Cond.fieldLink "Retouched$Pair" (13 : Nat) "Retouched$Pair" "first" "LRetouched$Value;") ∈ lw_all := lw_g (lw_at lw_m4 115 rfl) rfl
theorem q980 : (Jvm.Cond.fieldLink "Retouched$Pair" (17 : Nat) "Retouched$Pair" "second" "LRetouched$Value;") ∈ lw_all := lw_g (lw_at lw_m4 116 rfl) rfl
theorem q981 : (Jvm.Cond.laysFinal "Retouched$Pair" "Retouched$Pair" "most" "Z") ∈ lw_all := lw_g (lw_at lw_m4 117 rfl) rfl
theorem q982 : (Jvm.Cond.soleField "Retouched$Pair" "most") ∈ lw_all := lw_g (lw_at lw_m4 118 rfl) rfl
theorem q983 : (Jvm.Cond.laysFinal "Retouched$Pair" "Retouched$Pair" "first" "LRetouched$Value;") ∈ lw_all := lw_g (lw_at lw_m4 119 rfl) rfl
theorem q984 : (Jvm.Cond.soleField "Retouched$Pair" "first") ∈ lw_all := lw_g (lw_at lw_m4 120 rfl) rfl
theorem q985 : (Jvm.Cond.laysFinal "Retouched$Pair" "Retouched$Pair" "second" "LRetouched$Value;") ∈ lw_all := lw_g (lw_at lw_m4 121 rfl) rfl
theorem q986 : (Jvm.Cond.soleField "Retouched$Pair" "second") ∈ lw_all := lw_g (lw_at lw_m4 122 rfl) rfl
theorem q987 : (Jvm.Cond.superclass "Retouched$Pair" "Retouched$Value") ∈ lw_all := lw_g (lw_at lw_m4 123 rfl) rfl
theorem q1261 : (Jvm.Cond.instanceMethod ({ cls := "Retouched$Pair", name := "at", desc := "(LRetouched$Moment;)J" } : Jvm.MethodName)) ∈ lw_all := lw_g (lw_at lw_m5 157 rfl) rfl
theorem q1262 : (Jvm.Cond.code ({ cls := "Retouched$Pair", name := "at", desc := "(LRetouched$Moment;)J" } : Jvm.MethodName) prog_11_method_2_code (6 : Nat) (Option.some Jvm.ClassFile.FieldType.long)) ∈ lw_all := lw_g (lw_at lw_m5 158 rfl) rfl
theorem q1263 : (Jvm.Cond.methodLink "Retouched$Pair" (20 : Nat) ({ cls := "Retouched$Value", name := "at", desc := "(LRetouched$Moment;)J" } : Jvm.MethodName)) ∈ lw_all := lw_g (lw_at lw_m5 159 rfl) rfl
theorem q1290 : (Jvm.Cond.selects "Retouched$Pair" ({ cls := "Retouched$Value", name := "at", desc := "(LRetouched$Moment;)J" } : Jvm.MethodName) ({ cls := "Retouched$Pair", name := "at", desc := "(LRetouched$Moment;)J" } : Jvm.MethodName)) ∈ lw_all := lw_g (lw_at lw_m5 186 rfl) rfl
theorem q2503 : (Jvm.Cond.castable "Retouched$Pair" "Retouched$Value") ∈ lw_tbl := lw_at lw_m10 199 rfl
theorem q2517 : (Jvm.Cond.castable "Retouched$Pair" "java/lang/Object") ∈ lw_tbl := lw_at lw_m10 213 rfl
theorem in_X10 : ∀ w ∈ wsX100, w ∈ lw_all := lw_in wsX100 [981, 983, 985] (by decide +kernel) (by decide +kernel)
/-! Retouched$Fixed -/
set_option maxRecDepth 100000
def RX11 : String := "Retouched$Fixed"
def TX11 : u_T := fun k => match k with
  | _ => ("Retouched$Fixed", "value", "J", true)
def tyX11 : Nat → FieldType := fun k => match k with
  | _ => .long
abbrev wsX110 : List Cond := u_ws RX11 TX11 1
theorem nmX11 : ∀ a, a < 1 → ∀ b, b < 1 → a ≠ b → (TX11 a).2.1 ≠ (TX11 b).2.1 := by decide +kernel
theorem tyX11_ok : ∀ k, k < 1 → parseFieldDescriptor (TX11 k).2.2.1 = some (tyX11 k) := by decide +kernel
abbrev cX11_init : ByteArray := prog_7_method_1_code
def yX11_init : MethodName := ⟨RX11, "<init>", "(J)V"⟩
def dkwX11_init_0 : List UInt8 := [42, 183, 0, 1, 42, 31, 181, 0, 7, 177]
abbrev dktX11_init_0 : List UInt8 := dkwX11_init_0 ++ []
theorem dksX11_init_0 : cX11_init.data.toList.drop 0 = dktX11_init_0 := by decide +kernel
theorem dX11_init_0 : decode cX11_init 0 = .ok (.aload_n 0, 1) := dk_42 (dk_at dksX11_init_0 0 rfl rfl)
theorem dX11_init_1 : decode cX11_init 1 = .ok (.invokespecial 1, 3) := dk_183 0 1 (dk_at dksX11_init_0 1 rfl rfl)
theorem dX11_init_4 : decode cX11_init 4 = .ok (.aload_n 0, 1) := dk_42 (dk_at dksX11_init_0 4 rfl rfl)
theorem dX11_init_5 : decode cX11_init 5 = .ok (.lload_n 1, 1) := dk_31 (dk_at dksX11_init_0 5 rfl rfl)
theorem dX11_init_6 : decode cX11_init 6 = .ok (.putfield 7, 3) := dk_181 0 7 (dk_at dksX11_init_0 6 rfl rfl)
theorem dX11_init_9 : decode cX11_init 9 = .ok (.return_, 1) := dk_177 (dk_at dksX11_init_0 9 rfl rfl)
abbrev cX11_at : ByteArray := prog_7_method_2_code
def yX11_at : MethodName := ⟨RX11, "at", "(LRetouched$Moment;)J"⟩
theorem dX11_at_0 : decode cX11_at 0 = .ok (.aload_n 0, 1) := by decide +kernel
theorem dX11_at_1 : decode cX11_at 1 = .ok (.getfield 7, 3) := by decide +kernel
theorem dX11_at_4 : decode cX11_at 4 = .ok (.lreturn, 1) := by decide +kernel
theorem q173 : (Jvm.Cond.initialized "Retouched$Fixed") ∈ lw_all := lw_g (lw_at lw_m1 29 rfl) rfl
theorem q871 : (Jvm.Cond.selects "Retouched$Fixed" ({ cls := "java/lang/Object", name := "getClass", desc := "()Ljava/lang/Class;" } : Jvm.MethodName) ({ cls := "java/lang/Object", name := "getClass", desc := "()Ljava/lang/Class;" } : Jvm.MethodName)) ∈ lw_all := lw_g (lw_at lw_m4 7 rfl) rfl
theorem q989 : (Jvm.Cond.instantiable "Retouched$Fixed" (1 : Nat)) ∈ lw_all := lw_g (lw_at lw_m4 125 rfl) rfl
theorem q991 : (Jvm.Cond.instanceMethod ({ cls := "Retouched$Fixed", name := "<init>", desc := "(J)V" } : Jvm.MethodName)) ∈ lw_all := lw_g (lw_at lw_m4 127 rfl) rfl
theorem q992 : (Jvm.Cond.code ({ cls := "Retouched$Fixed", name := "<init>", desc := "(J)V" } : Jvm.MethodName) prog_7_method_1_code (3 : Nat) (Option.none : Option Jvm.ClassFile.FieldType)) ∈ lw_all := lw_g (lw_at lw_m4 128 rfl) rfl
theorem q993 : (Jvm.Cond.methodLinkNest "Retouched$Fixed" (1 : Nat) ({ cls := "Retouched$Value", name := "<init>", desc := "()V" } : Jvm.MethodName) "Retouched") ∈ lw_tbl := lw_at lw_m4 129 rfl
theorem q994 : (Jvm.Cond.fieldLink "Retouched$Fixed" (7 : Nat) "Retouched$Fixed" "value" "J") ∈ lw_all := lw_g (lw_at lw_m4 130 rfl) rfl
theorem q995 : (Jvm.Cond.laysFinal "Retouched$Fixed" "Retouched$Fixed" "value" "J") ∈ lw_all := lw_g (lw_at lw_m4 131 rfl) rfl
theorem q996 : (Jvm.Cond.soleField "Retouched$Fixed" "value") ∈ lw_all := lw_g (lw_at lw_m4 132 rfl) rfl
theorem q997 : (Jvm.Cond.superclass "Retouched$Fixed" "Retouched$Value") ∈ lw_all := lw_g (lw_at lw_m4 133 rfl) rfl
theorem q1256 : (Jvm.Cond.instanceMethod ({ cls := "Retouched$Fixed", name := "at", desc := "(LRetouched$Moment;)J" } : Jvm.MethodName)) ∈ lw_all := lw_g (lw_at lw_m5 152 rfl) rfl
theorem q1257 : (Jvm.Cond.code ({ cls := "Retouched$Fixed", name := "at", desc := "(LRetouched$Moment;)J" } : Jvm.MethodName) prog_7_method_2_code (2 : Nat) (Option.some Jvm.ClassFile.FieldType.long)) ∈ lw_all := lw_g (lw_at lw_m5 153 rfl) rfl
theorem q1288 : (Jvm.Cond.selects "Retouched$Fixed" ({ cls := "Retouched$Value", name := "at", desc := "(LRetouched$Moment;)J" } : Jvm.MethodName) ({ cls := "Retouched$Fixed", name := "at", desc := "(LRetouched$Moment;)J" } : Jvm.MethodName)) ∈ lw_all := lw_g (lw_at lw_m5 184 rfl) rfl
theorem q2501 : (Jvm.Cond.castable "Retouched$Fixed" "Retouched$Value") ∈ lw_tbl := lw_at lw_m10 197 rfl
theorem q2518 : (Jvm.Cond.castable "Retouched$Fixed" "java/lang/Object") ∈ lw_tbl := lw_at lw_m10 214 rfl
theorem in_X11 : ∀ w ∈ wsX110, w ∈ lw_all := lw_in wsX110 [995] (by decide +kernel) (by decide +kernel)
/-! Retouched$Asked -/
set_option maxRecDepth 100000
def RX12 : String := "Retouched$Asked"
def TX12 : u_T := fun k => match k with
  | _ => ("Retouched$Asked", "what", "I", true)
def tyX12 : Nat → FieldType := fun k => match k with
  | _ => .int
abbrev wsX120 : List Cond := u_ws RX12 TX12 1
theorem nmX12 : ∀ a, a < 1 → ∀ b, b < 1 → a ≠ b → (TX12 a).2.1 ≠ (TX12 b).2.1 := by decide +kernel
theorem tyX12_ok : ∀ k, k < 1 → parseFieldDescriptor (TX12 k).2.2.1 = some (tyX12 k) := by decide +kernel
abbrev cX12_init : ByteArray := prog_3_method_1_code
def yX12_init : MethodName := ⟨RX12, "<init>", "(I)V"⟩
def dkwX12_init_0 : List UInt8 := [42, 183, 0, 1, 42, 27, 181, 0, 7, 177]
abbrev dktX12_init_0 : List UInt8 := dkwX12_init_0 ++ []
theorem dksX12_init_0 : cX12_init.data.toList.drop 0 = dktX12_init_0 := by decide +kernel
theorem dX12_init_0 : decode cX12_init 0 = .ok (.aload_n 0, 1) := dk_42 (dk_at dksX12_init_0 0 rfl rfl)
theorem dX12_init_1 : decode cX12_init 1 = .ok (.invokespecial 1, 3) := dk_183 0 1 (dk_at dksX12_init_0 1 rfl rfl)
theorem dX12_init_4 : decode cX12_init 4 = .ok (.aload_n 0, 1) := dk_42 (dk_at dksX12_init_0 4 rfl rfl)
theorem dX12_init_5 : decode cX12_init 5 = .ok (.iload_n 1, 1) := dk_27 (dk_at dksX12_init_0 5 rfl rfl)
theorem dX12_init_6 : decode cX12_init 6 = .ok (.putfield 7, 3) := dk_181 0 7 (dk_at dksX12_init_0 6 rfl rfl)
theorem dX12_init_9 : decode cX12_init 9 = .ok (.return_, 1) := dk_177 (dk_at dksX12_init_0 9 rfl rfl)
abbrev cX12_at : ByteArray := prog_3_method_2_code
def yX12_at : MethodName := ⟨RX12, "at", "(LRetouched$Moment;)J"⟩
def dkwX12_at_0 : List UInt8 := [43, 180, 0, 13, 42, 180, 0, 7, 47, 184, 0, 19, 173]
abbrev dktX12_at_0 : List UInt8 := dkwX12_at_0 ++ []
theorem dksX12_at_0 : cX12_at.data.toList.drop 0 = dktX12_at_0 := by decide +kernel
theorem dX12_at_0 : decode cX12_at 0 = .ok (.aload_n 1, 1) := dk_43 (dk_at dksX12_at_0 0 rfl rfl)
theorem dX12_at_1 : decode cX12_at 1 = .ok (.getfield 13, 3) := dk_180 0 13 (dk_at dksX12_at_0 1 rfl rfl)
theorem dX12_at_4 : decode cX12_at 4 = .ok (.aload_n 0, 1) := dk_42 (dk_at dksX12_at_0 4 rfl rfl)
theorem dX12_at_5 : decode cX12_at 5 = .ok (.getfield 7, 3) := dk_180 0 7 (dk_at dksX12_at_0 5 rfl rfl)
theorem dX12_at_8 : decode cX12_at 8 = .ok (.laload, 1) := dk_47 (dk_at dksX12_at_0 8 rfl rfl)
theorem dX12_at_9 : decode cX12_at 9 = .ok (.invokestatic 19, 3) := dk_184 0 19 (dk_at dksX12_at_0 9 rfl rfl)
theorem dX12_at_12 : decode cX12_at 12 = .ok (.lreturn, 1) := dk_173 (dk_at dksX12_at_0 12 rfl rfl)
theorem q174 : (Jvm.Cond.initialized "Retouched$Asked") ∈ lw_all := lw_g (lw_at lw_m1 30 rfl) rfl
theorem q367 : (Jvm.Cond.fieldLinkNest "Retouched$Asked" (13 : Nat) "Retouched$Moment" "of" "[J" "Retouched") ∈ lw_tbl := lw_at lw_m1 223 rfl
theorem q867 : (Jvm.Cond.selects "Retouched$Asked" ({ cls := "java/lang/Object", name := "getClass", desc := "()Ljava/lang/Class;" } : Jvm.MethodName) ({ cls := "java/lang/Object", name := "getClass", desc := "()Ljava/lang/Class;" } : Jvm.MethodName)) ∈ lw_all := lw_g (lw_at lw_m4 3 rfl) rfl
theorem q1004 : (Jvm.Cond.instantiable "Retouched$Asked" (1 : Nat)) ∈ lw_all := lw_g (lw_at lw_m4 140 rfl) rfl
theorem q1006 : (Jvm.Cond.instanceMethod ({ cls := "Retouched$Asked", name := "<init>", desc := "(I)V" } : Jvm.MethodName)) ∈ lw_all := lw_g (lw_at lw_m4 142 rfl) rfl
theorem q1007 : (Jvm.Cond.code ({ cls := "Retouched$Asked", name := "<init>", desc := "(I)V" } : Jvm.MethodName) prog_3_method_1_code (2 : Nat) (Option.none : Option Jvm.ClassFile.FieldType)) ∈ lw_all := lw_g (lw_at lw_m4 143 rfl) rfl
theorem q1008 : (Jvm.Cond.methodLinkNest "Retouched$Asked" (1 : Nat) ({ cls := "Retouched$Value", name := "<init>", desc := "()V" } : Jvm.MethodName) "Retouched") ∈ lw_tbl := lw_at lw_m4 144 rfl
theorem q1009 : (Jvm.Cond.fieldLink "Retouched$Asked" (7 : Nat) "Retouched$Asked" "what" "I") ∈ lw_all := lw_g (lw_at lw_m4 145 rfl) rfl
theorem q1010 : (Jvm.Cond.laysFinal "Retouched$Asked" "Retouched$Asked" "what" "I") ∈ lw_all := lw_g (lw_at lw_m4 146 rfl) rfl
theorem q1011 : (Jvm.Cond.soleField "Retouched$Asked" "what") ∈ lw_all := lw_g (lw_at lw_m4 147 rfl) rfl
theorem q1012 : (Jvm.Cond.superclass "Retouched$Asked" "Retouched$Value") ∈ lw_all := lw_g (lw_at lw_m4 148 rfl) rfl
theorem q1235 : (Jvm.Cond.selects "Retouched$Asked" ({ cls := "Retouched$Value", name := "at", desc := "(LRetouched$Moment;)J" } : Jvm.MethodName) ({ cls := "Retouched$Asked", name := "at", desc := "(LRetouched$Moment;)J" } : Jvm.MethodName)) ∈ lw_all := lw_g (lw_at lw_m5 131 rfl) rfl
theorem q1236 : (Jvm.Cond.instanceMethod ({ cls := "Retouched$Asked", name := "at", desc := "(LRetouched$Moment;)J" } : Jvm.MethodName)) ∈ lw_all := lw_g (lw_at lw_m5 132 rfl) rfl
theorem q1237 : (Jvm.Cond.code ({ cls := "Retouched$Asked", name := "at", desc := "(LRetouched$Moment;)J" } : Jvm.MethodName) prog_3_method_2_code (2 : Nat) (Option.some Jvm.ClassFile.FieldType.long)) ∈ lw_all := lw_g (lw_at lw_m5 133 rfl) rfl
theorem q1238 : (Jvm.Cond.methodLinkNest "Retouched$Asked" (19 : Nat) ({ cls := "Retouched", name := "held", desc := "(J)J" } : Jvm.MethodName) "Retouched") ∈ lw_tbl := lw_at lw_m5 134 rfl
theorem q2499 : (Jvm.Cond.castable "Retouched$Asked" "Retouched$Value") ∈ lw_tbl := lw_at lw_m10 195 rfl
theorem q2519 : (Jvm.Cond.castable "Retouched$Asked" "java/lang/Object") ∈ lw_tbl := lw_at lw_m10 215 rfl
theorem in_X12 : ∀ w ∈ wsX120, w ∈ lw_all := lw_in wsX120 [1010] (by decide +kernel) (by decide +kernel)
/-! Retouched$Looked -/
set_option maxRecDepth 100000
def RX13 : String := "Retouched$Looked"
def TX13 : u_T := fun k => match k with
  | 0 => ("Retouched$Looked", "what", "I", true)
  | 1 => ("Retouched$Looked", "of", "LRetouched$Value;", true)
  | _ => ("Retouched$Looked", "this$0", "LRetouched;", true)
def tyX13 : Nat → FieldType := fun k => match k with
  | 0 => .int
  | 1 => .object "Retouched$Value"
  | _ => .object "Retouched"
abbrev wsX130 : List Cond := u_ws RX13 TX13 3
theorem nmX13 : ∀ a, a < 3 → ∀ b, b < 3 → a ≠ b → (TX13 a).2.1 ≠ (TX13 b).2.1 := by decide +kernel
theorem tyX13_ok : ∀ k, k < 3 → parseFieldDescriptor (TX13 k).2.2.1 = some (tyX13 k) := by decide +kernel
abbrev cX13_init : ByteArray := prog_8_method_1_code
def yX13_init : MethodName := ⟨RX13, "<init>", "(LRetouched;ILRetouched$Value;)V"⟩
def dkwX13_init_0 : List UInt8 := [42, 43, 181, 0, 1, 42, 183, 0, 7, 42, 28, 181, 0, 13, 42, 45, 181, 0, 17, 177]
abbrev dktX13_init_0 : List UInt8 := dkwX13_init_0 ++ []
theorem dksX13_init_0 : cX13_init.data.toList.drop 0 = dktX13_init_0 := by decide +kernel
theorem dX13_init_0 : decode cX13_init 0 = .ok (.aload_n 0, 1) := dk_42 (dk_at dksX13_init_0 0 rfl rfl)
theorem dX13_init_1 : decode cX13_init 1 = .ok (.aload_n 1, 1) := dk_43 (dk_at dksX13_init_0 1 rfl rfl)
theorem dX13_init_2 : decode cX13_init 2 = .ok (.putfield 1, 3) := dk_181 0 1 (dk_at dksX13_init_0 2 rfl rfl)
theorem dX13_init_5 : decode cX13_init 5 = .ok (.aload_n 0, 1) := dk_42 (dk_at dksX13_init_0 5 rfl rfl)
theorem dX13_init_6 : decode cX13_init 6 = .ok (.invokespecial 7, 3) := dk_183 0 7 (dk_at dksX13_init_0 6 rfl rfl)
theorem dX13_init_9 : decode cX13_init 9 = .ok (.aload_n 0, 1) := dk_42 (dk_at dksX13_init_0 9 rfl rfl)
theorem dX13_init_10 : decode cX13_init 10 = .ok (.iload_n 2, 1) := dk_28 (dk_at dksX13_init_0 10 rfl rfl)
theorem dX13_init_11 : decode cX13_init 11 = .ok (.putfield 13, 3) := dk_181 0 13 (dk_at dksX13_init_0 11 rfl rfl)
theorem dX13_init_14 : decode cX13_init 14 = .ok (.aload_n 0, 1) := dk_42 (dk_at dksX13_init_0 14 rfl rfl)
theorem dX13_init_15 : decode cX13_init 15 = .ok (.aload_n 3, 1) := dk_45 (dk_at dksX13_init_0 15 rfl rfl)
theorem dX13_init_16 : decode cX13_init 16 = .ok (.putfield 17, 3) := dk_181 0 17 (dk_at dksX13_init_0 16 rfl rfl)
theorem dX13_init_19 : decode cX13_init 19 = .ok (.return_, 1) := dk_177 (dk_at dksX13_init_0 19 rfl rfl)
abbrev cX13_at : ByteArray := prog_8_method_2_code
def yX13_at : MethodName := ⟨RX13, "at", "(LRetouched$Moment;)J"⟩
def dkwX13_at_0 : List UInt8 := [42, 180, 0, 1, 42, 180, 0, 13, 42, 180, 0, 17, 43, 182, 0, 21, 182, 0, 25, 184, 0, 31, 173]
abbrev dktX13_at_0 : List UInt8 := dkwX13_at_0 ++ []
theorem dksX13_at_0 : cX13_at.data.toList.drop 0 = dktX13_at_0 := by decide +kernel
theorem dX13_at_0 : decode cX13_at 0 = .ok (.aload_n 0, 1) := dk_42 (dk_at dksX13_at_0 0 rfl rfl)
theorem dX13_at_1 : decode cX13_at 1 = .ok (.getfield 1, 3) := dk_180 0 1 (dk_at dksX13_at_0 1 rfl rfl)
theorem dX13_at_4 : decode cX13_at 4 = .ok (.aload_n 0, 1) := dk_42 (dk_at dksX13_at_0 4 rfl rfl)
theorem dX13_at_5 : decode cX13_at 5 = .ok (.getfield 13, 3) := dk_180 0 13 (dk_at dksX13_at_0 5 rfl rfl)
theorem dX13_at_8 : decode cX13_at 8 = .ok (.aload_n 0, 1) := dk_42 (dk_at dksX13_at_0 8 rfl rfl)
theorem dX13_at_9 : decode cX13_at 9 = .ok (.getfield 17, 3) := dk_180 0 17 (dk_at dksX13_at_0 9 rfl rfl)
theorem dX13_at_12 : decode cX13_at 12 = .ok (.aload_n 1, 1) := dk_43 (dk_at dksX13_at_0 12 rfl rfl)
theorem dX13_at_13 : decode cX13_at 13 = .ok (.invokevirtual 21, 3) := dk_182 0 21 (dk_at dksX13_at_0 13 rfl rfl)
theorem dX13_at_16 : decode cX13_at 16 = .ok (.invokevirtual 25, 3) := dk_182 0 25 (dk_at dksX13_at_0 16 rfl rfl)
theorem dX13_at_19 : decode cX13_at 19 = .ok (.invokestatic 31, 3) := dk_184 0 31 (dk_at dksX13_at_0 19 rfl rfl)
theorem dX13_at_22 : decode cX13_at 22 = .ok (.lreturn, 1) := dk_173 (dk_at dksX13_at_0 22 rfl rfl)
theorem q175 : (Jvm.Cond.initialized "Retouched$Looked") ∈ lw_all := lw_g (lw_at lw_m1 31 rfl) rfl
theorem q872 : (Jvm.Cond.selects "Retouched$Looked" ({ cls := "java/lang/Object", name := "getClass", desc := "()Ljava/lang/Class;" } : Jvm.MethodName) ({ cls := "java/lang/Object", name := "getClass", desc := "()Ljava/lang/Class;" } : Jvm.MethodName)) ∈ lw_all := lw_g (lw_at lw_m4 8 rfl) rfl
theorem q1020 : (Jvm.Cond.instantiable "Retouched$Looked" (3 : Nat)) ∈ lw_all := lw_g (lw_at lw_m4 156 rfl) rfl
theorem q1022 : (Jvm.Cond.instanceMethod ({ cls := "Retouched$Looked", name := "<init>", desc := "(LRetouched;ILRetouched$Value;)V" } : Jvm.MethodName)) ∈ lw_all := lw_g (lw_at lw_m4 158 rfl) rfl
theorem q1023 : (Jvm.Cond.code ({ cls := "Retouched$Looked", name := "<init>", desc := "(LRetouched;ILRetouched$Value;)V" } : Jvm.MethodName) prog_8_method_1_code (4 : Nat) (Option.none : Option Jvm.ClassFile.FieldType)) ∈ lw_all := lw_g (lw_at lw_m4 159 rfl) rfl
theorem q1024 : (Jvm.Cond.methodLinkNest "Retouched$Looked" (7 : Nat) ({ cls := "Retouched$Value", name := "<init>", desc := "()V" } : Jvm.MethodName) "Retouched") ∈ lw_tbl := lw_at lw_m4 160 rfl
theorem q1025 : (Jvm.Cond.fieldLink "Retouched$Looked" (13 : Nat) "Retouched$Looked" "what" "I") ∈ lw_all := lw_g (lw_at lw_m4 161 rfl) rfl
theorem q1026 : (Jvm.Cond.fieldLink "Retouched$Looked" (17 : Nat) "Retouched$Looked" "of" "LRetouched$Value;") ∈ lw_all := lw_g (lw_at lw_m4 162 rfl) rfl
theorem q1027 : (Jvm.Cond.fieldLink "Retouched$Looked" (1 : Nat) "Retouched$Looked" "this$0" "LRetouched;") ∈ lw_all := lw_g (lw_at lw_m4 163 rfl) rfl
theorem q1028 : (Jvm.Cond.laysFinal "Retouched$Looked" "Retouched$Looked" "what" "I") ∈ lw_all := lw_g (lw_at lw_m4 164 rfl) rfl
theorem q1029 : (Jvm.Cond.soleField "Retouched$Looked" "what") ∈ lw_all := lw_g (lw_at lw_m4 165 rfl) rfl
theorem q1030 : (Jvm.Cond.laysFinal "Retouched$Looked" "Retouched$Looked" "of" "LRetouched$Value;") ∈ lw_all := lw_g (lw_at lw_m4 166 rfl) rfl
theorem q1031 : (Jvm.Cond.soleField "Retouched$Looked" "of") ∈ lw_all := lw_g (lw_at lw_m4 167 rfl) rfl
theorem q1032 : (Jvm.Cond.laysFinal "Retouched$Looked" "Retouched$Looked" "this$0" "LRetouched;") ∈ lw_all := lw_g (lw_at lw_m4 168 rfl) rfl
theorem q1033 : (Jvm.Cond.soleField "Retouched$Looked" "this$0") ∈ lw_all := lw_g (lw_at lw_m4 169 rfl) rfl
theorem q1034 : (Jvm.Cond.superclass "Retouched$Looked" "Retouched$Value") ∈ lw_all := lw_g (lw_at lw_m4 170 rfl) rfl
theorem q1258 : (Jvm.Cond.instanceMethod ({ cls := "Retouched$Looked", name := "at", desc := "(LRetouched$Moment;)J" } : Jvm.MethodName)) ∈ lw_all := lw_g (lw_at lw_m5 154 rfl) rfl
theorem q1259 : (Jvm.Cond.code ({ cls := "Retouched$Looked", name := "at", desc := "(LRetouched$Moment;)J" } : Jvm.MethodName) prog_8_method_2_code (2 : Nat) (Option.some Jvm.ClassFile.FieldType.long)) ∈ lw_all := lw_g (lw_at lw_m5 155 rfl) rfl
theorem q1260 : (Jvm.Cond.methodLink "Retouched$Looked" (21 : Nat) ({ cls := "Retouched$Value", name := "at", desc := "(LRetouched$Moment;)J" } : Jvm.MethodName)) ∈ lw_all := lw_g (lw_at lw_m5 156 rfl) rfl
theorem q1264 : (Jvm.Cond.methodLinkNest "Retouched$Looked" (25 : Nat) ({ cls := "Retouched", name := "looked", desc := "(IJ)J" } : Jvm.MethodName) "Retouched") ∈ lw_tbl := lw_at lw_m5 160 rfl
theorem q1268 : (Jvm.Cond.methodLinkNest "Retouched$Looked" (31 : Nat) ({ cls := "Retouched", name := "held", desc := "(J)J" } : Jvm.MethodName) "Retouched") ∈ lw_tbl := lw_at lw_m5 164 rfl
theorem q1289 : (Jvm.Cond.selects "Retouched$Looked" ({ cls := "Retouched$Value", name := "at", desc := "(LRetouched$Moment;)J" } : Jvm.MethodName) ({ cls := "Retouched$Looked", name := "at", desc := "(LRetouched$Moment;)J" } : Jvm.MethodName)) ∈ lw_all := lw_g (lw_at lw_m5 185 rfl) rfl
theorem q2502 : (Jvm.Cond.castable "Retouched$Looked" "Retouched$Value") ∈ lw_tbl := lw_at lw_m10 198 rfl
theorem q2520 : (Jvm.Cond.castable "Retouched$Looked" "java/lang/Object") ∈ lw_tbl := lw_at lw_m10 216 rfl
theorem in_X13 : ∀ w ∈ wsX130, w ∈ lw_all := lw_in wsX130 [1028, 1030, 1032] (by decide +kernel) (by decide +kernel)
/-! Retouched$Test -/
set_option maxRecDepth 100000
def RX14 : String := "Retouched$Test"
abbrev cX14_init : ByteArray := prog_17_method_1_code
def yX14_init : MethodName := ⟨RX14, "<init>", "()V"⟩
theorem dX14_init_0 : decode cX14_init 0 = .ok (.aload_n 0, 1) := by decide +kernel
theorem dX14_init_1 : decode cX14_init 1 = .ok (.invokespecial 1, 3) := by decide +kernel
theorem dX14_init_4 : decode cX14_init 4 = .ok (.return_, 1) := by decide +kernel
theorem q176 : (Jvm.Cond.initialized "Retouched$Test") ∈ lw_all := lw_g (lw_at lw_m1 32 rfl) rfl
theorem q1112 : (Jvm.Cond.instanceMethod ({ cls := "Retouched$Test", name := "<init>", desc := "()V" } : Jvm.MethodName)) ∈ lw_all := lw_g (lw_at lw_m5 8 rfl) rfl
theorem q1113 : (Jvm.Cond.code ({ cls := "Retouched$Test", name := "<init>", desc := "()V" } : Jvm.MethodName) prog_17_method_1_code (1 : Nat) (Option.none : Option Jvm.ClassFile.FieldType)) ∈ lw_all := lw_g (lw_at lw_m5 9 rfl) rfl
theorem q1114 : (Jvm.Cond.methodLink "Retouched$Test" (1 : Nat) ({ cls := "java/lang/Object", name := "<init>", desc := "()V" } : Jvm.MethodName)) ∈ lw_all := lw_g (lw_at lw_m5 10 rfl) rfl
theorem q1213 : (Jvm.Cond.declares ({ cls := "Retouched$Test", name := "holds", desc := "(LRetouched$Moment;)Z" } : Jvm.MethodName)) ∈ lw_tbl := lw_at lw_m5 109 rfl
theorem q1214 : (Jvm.Cond.sameMethod "Retouched$Test" "Retouched$Test" "holds" "(LRetouched$Moment;)Z") ∈ lw_all := lw_g (lw_at lw_m5 110 rfl) rfl
/-! Retouched$Facts -/
set_option maxRecDepth 100000
def RX15 : String := "Retouched$Facts"
def TX15 : u_T := fun k => match k with
  | 0 => ("Retouched$Facts", "tests", "Ljava/util/List;", true)
  | _ => ("Retouched$Facts", "all", "Z", true)
def tyX15 : Nat → FieldType := fun k => match k with
  | 0 => .object "java/util/List"
  | _ => .boolean
abbrev wsX150 : List Cond := u_ws RX15 TX15 2
theorem nmX15 : ∀ a, a < 2 → ∀ b, b < 2 → a ≠ b → (TX15 a).2.1 ≠ (TX15 b).2.1 := by decide +kernel
theorem tyX15_ok : ∀ k, k < 2 → parseFieldDescriptor (TX15 k).2.2.1 = some (tyX15 k) := by decide +kernel
abbrev cX15_init : ByteArray := prog_5_method_1_code
def yX15_init : MethodName := ⟨RX15, "<init>", "(Z)V"⟩
def dkwX15_init_0 : List UInt8 := [42, 183, 0, 1, 42, 187, 0, 7, 89, 5, 183, 0, 9, 181, 0, 12, 42, 27, 181, 0, 18, 177]
abbrev dktX15_init_0 : List UInt8 := dkwX15_init_0 ++ []
theorem dksX15_init_0 : cX15_init.data.toList.drop 0 = dktX15_init_0 := by decide +kernel
theorem dX15_init_0 : decode cX15_init 0 = .ok (.aload_n 0, 1) := dk_42 (dk_at dksX15_init_0 0 rfl rfl)
theorem dX15_init_1 : decode cX15_init 1 = .ok (.invokespecial 1, 3) := dk_183 0 1 (dk_at dksX15_init_0 1 rfl rfl)
theorem dX15_init_4 : decode cX15_init 4 = .ok (.aload_n 0, 1) := dk_42 (dk_at dksX15_init_0 4 rfl rfl)
theorem dX15_init_5 : decode cX15_init 5 = .ok (.new 7, 3) := dk_187 0 7 (dk_at dksX15_init_0 5 rfl rfl)
theorem dX15_init_8 : decode cX15_init 8 = .ok (.dup, 1) := dk_89 (dk_at dksX15_init_0 8 rfl rfl)
theorem dX15_init_9 : decode cX15_init 9 = .ok (.iconst 2, 1) := dk_5 (dk_at dksX15_init_0 9 rfl rfl)
theorem dX15_init_10 : decode cX15_init 10 = .ok (.invokespecial 9, 3) := dk_183 0 9 (dk_at dksX15_init_0 10 rfl rfl)
theorem dX15_init_13 : decode cX15_init 13 = .ok (.putfield 12, 3) := dk_181 0 12 (dk_at dksX15_init_0 13 rfl rfl)
theorem dX15_init_16 : decode cX15_init 16 = .ok (.aload_n 0, 1) := dk_42 (dk_at dksX15_init_0 16 rfl rfl)
theorem dX15_init_17 : decode cX15_init 17 = .ok (.iload_n 1, 1) := dk_27 (dk_at dksX15_init_0 17 rfl rfl)
theorem dX15_init_18 : decode cX15_init 18 = .ok (.putfield 18, 3) := dk_181 0 18 (dk_at dksX15_init_0 18 rfl rfl)
theorem dX15_init_21 : decode cX15_init 21 = .ok (.return_, 1) := dk_177 (dk_at dksX15_init_0 21 rfl rfl)
abbrev cX15_holds : ByteArray := prog_5_method_2_code
def yX15_holds : MethodName := ⟨RX15, "holds", "(LRetouched$Moment;)Z"⟩
def dkwX15_holds_2 : List UInt8 := [154, 0, 7, 4, 167, 0, 4, 3, 172, 132, 2, 1, 167, 255, 203, 42, 180, 0, 18, 172]
abbrev dktX15_holds_2 : List UInt8 := dkwX15_holds_2 ++ []
def dkwX15_holds_1 : List UInt8 := [185, 0, 28, 2, 0, 192, 0, 2, 43, 182, 0, 32, 42, 180, 0, 18, 159, 0, 16, 42, 180, 0, 18]
abbrev dktX15_holds_1 : List UInt8 := dkwX15_holds_1 ++ dktX15_holds_2
def dkwX15_holds_0 : List UInt8 := [3, 61, 28, 42, 180, 0, 12, 185, 0, 22, 1, 0, 162, 0, 46, 42, 180, 0, 12, 28]
abbrev dktX15_holds_0 : List UInt8 := dkwX15_holds_0 ++ dktX15_holds_1
theorem dksX15_holds_0 : cX15_holds.data.toList.drop 0 = dktX15_holds_0 := by decide +kernel
theorem dksX15_holds_1 : cX15_holds.data.toList.drop 20 = dktX15_holds_1 := dk_seg dksX15_holds_0 20 rfl rfl
theorem dksX15_holds_2 : cX15_holds.data.toList.drop 43 = dktX15_holds_2 := dk_seg dksX15_holds_1 23 rfl rfl
theorem dX15_holds_0 : decode cX15_holds 0 = .ok (.iconst 0, 1) := dk_3 (dk_at dksX15_holds_0 0 rfl rfl)
theorem dX15_holds_1 : decode cX15_holds 1 = .ok (.istore_n 2, 1) := dk_61 (dk_at dksX15_holds_0 1 rfl rfl)
theorem dX15_holds_2 : decode cX15_holds 2 = .ok (.iload_n 2, 1) := dk_28 (dk_at dksX15_holds_0 2 rfl rfl)
theorem dX15_holds_3 : decode cX15_holds 3 = .ok (.aload_n 0, 1) := dk_42 (dk_at dksX15_holds_0 3 rfl rfl)
theorem dX15_holds_4 : decode cX15_holds 4 = .ok (.getfield 12, 3) := dk_180 0 12 (dk_at dksX15_holds_0 4 rfl rfl)
theorem dX15_holds_7 : decode cX15_holds 7 = .ok (.invokeinterface 22 1, 5) := by decide +kernel
theorem dX15_holds_12 : decode cX15_holds 12 = .ok (.if_icmp .ge 46, 3) := dk_162 0 46 (dk_at dksX15_holds_0 12 rfl rfl)
theorem dX15_holds_15 : decode cX15_holds 15 = .ok (.aload_n 0, 1) := dk_42 (dk_at dksX15_holds_0 15 rfl rfl)
theorem dX15_holds_16 : decode cX15_holds 16 = .ok (.getfield 12, 3) := dk_180 0 12 (dk_at dksX15_holds_0 16 rfl rfl)
theorem dX15_holds_19 : decode cX15_holds 19 = .ok (.iload_n 2, 1) := dk_28 (dk_at dksX15_holds_0 19 rfl rfl)
theorem dX15_holds_20 : decode cX15_holds 20 = .ok (.invokeinterface 28 2, 5) := by decide +kernel
theorem dX15_holds_25 : decode cX15_holds 25 = .ok (.checkcast 2, 3) := dk_192 0 2 (dk_at dksX15_holds_1 5 rfl rfl)
theorem dX15_holds_28 : decode cX15_holds 28 = .ok (.aload_n 1, 1) := dk_43 (dk_at dksX15_holds_1 8 rfl rfl)
theorem dX15_holds_29 : decode cX15_holds 29 = .ok (.invokevirtual 32, 3) := dk_182 0 32 (dk_at dksX15_holds_1 9 rfl rfl)
theorem dX15_holds_32 : decode cX15_holds 32 = .ok (.aload_n 0, 1) := dk_42 (dk_at dksX15_holds_1 12 rfl rfl)
theorem dX15_holds_33 : decode cX15_holds 33 = .ok (.getfield 18, 3) := dk_180 0 18 (dk_at dksX15_holds_1 13 rfl rfl)
theorem dX15_holds_36 : decode cX15_holds 36 = .ok (.if_icmp .eq 16, 3) := dk_159 0 16 (dk_at dksX15_holds_1 16 rfl rfl)
theorem dX15_holds_39 : decode cX15_holds 39 = .ok (.aload_n 0, 1) := dk_42 (dk_at dksX15_holds_1 19 rfl rfl)
theorem dX15_holds_40 : decode cX15_holds 40 = .ok (.getfield 18, 3) := dk_180 0 18 (dk_at dksX15_holds_1 20 rfl rfl)
theorem dX15_holds_43 : decode cX15_holds 43 = .ok (.ifCond .ne 7, 3) := dk_154 0 7 (dk_at dksX15_holds_2 0 rfl rfl)
theorem dX15_holds_46 : decode cX15_holds 46 = .ok (.iconst 1, 1) := dk_4 (dk_at dksX15_holds_2 3 rfl rfl)
theorem dX15_holds_47 : decode cX15_holds 47 = .ok (.goto 4, 3) := dk_167 0 4 (dk_at dksX15_holds_2 4 rfl rfl)
theorem dX15_holds_50 : decode cX15_holds 50 = .ok (.iconst 0, 1) := dk_3 (dk_at dksX15_holds_2 7 rfl rfl)
theorem dX15_holds_51 : decode cX15_holds 51 = .ok (.ireturn, 1) := dk_172 (dk_at dksX15_holds_2 8 rfl rfl)
theorem dX15_holds_52 : decode cX15_holds 52 = .ok (.iinc 2 1, 3) := dk_132 2 1 (dk_at dksX15_holds_2 9 rfl rfl)
theorem dX15_holds_55 : decode cX15_holds 55 = .ok (.goto (-53), 3) := dk_167 255 203 (dk_at dksX15_holds_2 12 rfl rfl)
theorem dX15_holds_58 : decode cX15_holds 58 = .ok (.aload_n 0, 1) := dk_42 (dk_at dksX15_holds_2 15 rfl rfl)
theorem dX15_holds_59 : decode cX15_holds 59 = .ok (.getfield 18, 3) := dk_180 0 18 (dk_at dksX15_holds_2 16 rfl rfl)
theorem dX15_holds_62 : decode cX15_holds 62 = .ok (.ireturn, 1) := dk_172 (dk_at dksX15_holds_2 19 rfl rfl)
theorem q177 : (Jvm.Cond.initialized "Retouched$Facts") ∈ lw_all := lw_g (lw_at lw_m1 33 rfl) rfl
theorem q869 : (Jvm.Cond.selects "Retouched$Facts" ({ cls := "java/lang/Object", name := "getClass", desc := "()Ljava/lang/Class;" } : Jvm.MethodName) ({ cls := "java/lang/Object", name := "getClass", desc := "()Ljava/lang/Class;" } : Jvm.MethodName)) ∈ lw_all := lw_g (lw_at lw_m4 5 rfl) rfl
theorem q1107 : (Jvm.Cond.instantiable "Retouched$Facts" (2 : Nat)) ∈ lw_all := lw_g (lw_at lw_m5 3 rfl) rfl
theorem q1109 : (Jvm.Cond.instanceMethod ({ cls := "Retouched$Facts", name := "<init>", desc := "(Z)V" } : Jvm.MethodName)) ∈ lw_all := lw_g (lw_at lw_m5 5 rfl) rfl
theorem q1110 : (Jvm.Cond.code ({ cls := "Retouched$Facts", name := "<init>", desc := "(Z)V" } : Jvm.MethodName) prog_5_method_1_code (2 : Nat) (Option.none : Option Jvm.ClassFile.FieldType)) ∈ lw_all := lw_g (lw_at lw_m5 6 rfl) rfl
theorem q1111 : (Jvm.Cond.methodLinkNest "Retouched$Facts" (1 : Nat) ({ cls := "Retouched$Test", name := "<init>", desc := "()V" } : Jvm.MethodName) "Retouched") ∈ lw_tbl := lw_at lw_m5 7 rfl
theorem q1115 : (Jvm.Cond.classLink "Retouched$Facts" (7 : Nat) "java/util/ArrayList") ∈ lw_all := lw_g (lw_at lw_m5 11 rfl) rfl
theorem q1116 : (Jvm.Cond.methodLink "Retouched$Facts" (9 : Nat) ({ cls := "java/util/ArrayList", name := "<init>", desc := "(I)V" } : Jvm.MethodName)) ∈ lw_all := lw_g (lw_at lw_m5 12 rfl) rfl
theorem q1117 : (Jvm.Cond.fieldLink "Retouched$Facts" (12 : Nat) "Retouched$Facts" "tests" "Ljava/util/List;") ∈ lw_all := lw_g (lw_at lw_m5 13 rfl) rfl
theorem q1119 : (Jvm.Cond.fieldLink "Retouched$Facts" (18 : Nat) "Retouched$Facts" "all" "Z") ∈ lw_all := lw_g (lw_at lw_m5 15 rfl) rfl
theorem q1120 : (Jvm.Cond.laysFinal "Retouched$Facts" "Retouched$Facts" "tests" "Ljava/util/List;") ∈ lw_all := lw_g (lw_at lw_m5 16 rfl) rfl
theorem q1121 : (Jvm.Cond.soleField "Retouched$Facts" "tests") ∈ lw_all := lw_g (lw_at lw_m5 17 rfl) rfl
theorem q1122 : (Jvm.Cond.laysFinal "Retouched$Facts" "Retouched$Facts" "all" "Z") ∈ lw_all := lw_g (lw_at lw_m5 18 rfl) rfl
theorem q1123 : (Jvm.Cond.soleField "Retouched$Facts" "all") ∈ lw_all := lw_g (lw_at lw_m5 19 rfl) rfl
theorem q1124 : (Jvm.Cond.superclass "Retouched$Facts" "Retouched$Test") ∈ lw_all := lw_g (lw_at lw_m5 20 rfl) rfl
theorem q1218 : (Jvm.Cond.selects "Retouched$Facts" ({ cls := "Retouched$Test", name := "holds", desc := "(LRetouched$Moment;)Z" } : Jvm.MethodName) ({ cls := "Retouched$Facts", name := "holds", desc := "(LRetouched$Moment;)Z" } : Jvm.MethodName)) ∈ lw_all := lw_g (lw_at lw_m5 114 rfl) rfl
theorem q1219 : (Jvm.Cond.instanceMethod ({ cls := "Retouched$Facts", name := "holds", desc := "(LRetouched$Moment;)Z" } : Jvm.MethodName)) ∈ lw_all := lw_g (lw_at lw_m5 115 rfl) rfl
theorem q1220 : (Jvm.Cond.code ({ cls := "Retouched$Facts", name := "holds", desc := "(LRetouched$Moment;)Z" } : Jvm.MethodName) prog_5_method_2_code (3 : Nat) (Option.some Jvm.ClassFile.FieldType.boolean)) ∈ lw_all := lw_g (lw_at lw_m5 116 rfl) rfl
theorem q1221 : (Jvm.Cond.interfaceEntry "Retouched$Facts" (22 : Nat)) ∈ lw_tbl := lw_at lw_m5 117 rfl
theorem q1222 : (Jvm.Cond.methodLink "Retouched$Facts" (22 : Nat) ({ cls := "java/util/List", name := "size", desc := "()I" } : Jvm.MethodName)) ∈ lw_all := lw_g (lw_at lw_m5 118 rfl) rfl
theorem q1223 : (Jvm.Cond.interfaceEntry "Retouched$Facts" (28 : Nat)) ∈ lw_tbl := lw_at lw_m5 119 rfl
theorem q1224 : (Jvm.Cond.methodLink "Retouched$Facts" (28 : Nat) ({ cls := "java/util/List", name := "get", desc := "(I)Ljava/lang/Object;" } : Jvm.MethodName)) ∈ lw_all := lw_g (lw_at lw_m5 120 rfl) rfl
theorem q1225 : (Jvm.Cond.classLink "Retouched$Facts" (2 : Nat) "Retouched$Test") ∈ lw_all := lw_g (lw_at lw_m5 121 rfl) rfl
theorem q1226 : (Jvm.Cond.methodLink "Retouched$Facts" (32 : Nat) ({ cls := "Retouched$Test", name := "holds", desc := "(LRetouched$Moment;)Z" } : Jvm.MethodName)) ∈ lw_all := lw_g (lw_at lw_m5 122 rfl) rfl
theorem q2496 : (Jvm.Cond.castable "Retouched$Facts" "Retouched$Test") ∈ lw_tbl := lw_at lw_m10 192 rfl
theorem q2521 : (Jvm.Cond.castable "Retouched$Facts" "java/lang/Object") ∈ lw_tbl := lw_at lw_m10 217 rfl
theorem in_X15 : ∀ w ∈ wsX150, w ∈ lw_all := lw_in wsX150 [1120, 1122] (by decide +kernel) (by decide +kernel)
/-! Retouched$Not -/
set_option maxRecDepth 100000
def RX16 : String := "Retouched$Not"
def TX16 : u_T := fun k => match k with
  | _ => ("Retouched$Not", "test", "LRetouched$Test;", true)
def tyX16 : Nat → FieldType := fun k => match k with
  | _ => .object "Retouched$Test"
abbrev wsX160 : List Cond := u_ws RX16 TX16 1
theorem nmX16 : ∀ a, a < 1 → ∀ b, b < 1 → a ≠ b → (TX16 a).2.1 ≠ (TX16 b).2.1 := by decide +kernel
theorem tyX16_ok : ∀ k, k < 1 → parseFieldDescriptor (TX16 k).2.2.1 = some (tyX16 k) := by decide +kernel
abbrev cX16_init : ByteArray := prog_10_method_1_code
def yX16_init : MethodName := ⟨RX16, "<init>", "(LRetouched$Test;)V"⟩
def dkwX16_init_0 : List UInt8 := [42, 183, 0, 1, 42, 43, 181, 0, 7, 177]
abbrev dktX16_init_0 : List UInt8 := dkwX16_init_0 ++ []
theorem dksX16_init_0 : cX16_init.data.toList.drop 0 = dktX16_init_0 := by decide +kernel
theorem dX16_init_0 : decode cX16_init 0 = .ok (.aload_n 0, 1) := dk_42 (dk_at dksX16_init_0 0 rfl rfl)
theorem dX16_init_1 : decode cX16_init 1 = .ok (.invokespecial 1, 3) := dk_183 0 1 (dk_at dksX16_init_0 1 rfl rfl)
theorem dX16_init_4 : decode cX16_init 4 = .ok (.aload_n 0, 1) := dk_42 (dk_at dksX16_init_0 4 rfl rfl)
theorem dX16_init_5 : decode cX16_init 5 = .ok (.aload_n 1, 1) := dk_43 (dk_at dksX16_init_0 5 rfl rfl)
theorem dX16_init_6 : decode cX16_init 6 = .ok (.putfield 7, 3) := dk_181 0 7 (dk_at dksX16_init_0 6 rfl rfl)
theorem dX16_init_9 : decode cX16_init 9 = .ok (.return_, 1) := dk_177 (dk_at dksX16_init_0 9 rfl rfl)
abbrev cX16_holds : ByteArray := prog_10_method_2_code
def yX16_holds : MethodName := ⟨RX16, "holds", "(LRetouched$Moment;)Z"⟩
def dkwX16_holds_0 : List UInt8 := [42, 180, 0, 7, 43, 182, 0, 13, 154, 0, 7, 4, 167, 0, 4, 3, 172]
abbrev dktX16_holds_0 : List UInt8 := dkwX16_holds_0 ++ []
theorem dksX16_holds_0 : cX16_holds.data.toList.drop 0 = dktX16_holds_0 := by decide +kernel
theorem dX16_holds_0 : decode cX16_holds 0 = .ok (.aload_n 0, 1) := dk_42 (dk_at dksX16_holds_0 0 rfl rfl)
theorem dX16_holds_1 : decode cX16_holds 1 = .ok (.getfield 7, 3) := dk_180 0 7 (dk_at dksX16_holds_0 1 rfl rfl)
theorem dX16_holds_4 : decode cX16_holds 4 = .ok (.aload_n 1, 1) := dk_43 (dk_at dksX16_holds_0 4 rfl rfl)
theorem dX16_holds_5 : decode cX16_holds 5 = .ok (.invokevirtual 13, 3) := dk_182 0 13 (dk_at dksX16_holds_0 5 rfl rfl)
theorem dX16_holds_8 : decode cX16_holds 8 = .ok (.ifCond .ne 7, 3) := dk_154 0 7 (dk_at dksX16_holds_0 8 rfl rfl)
theorem dX16_holds_11 : decode cX16_holds 11 = .ok (.iconst 1, 1) := dk_4 (dk_at dksX16_holds_0 11 rfl rfl)
theorem dX16_holds_12 : decode cX16_holds 12 = .ok (.goto 4, 3) := dk_167 0 4 (dk_at dksX16_holds_0 12 rfl rfl)
theorem dX16_holds_15 : decode cX16_holds 15 = .ok (.iconst 0, 1) := dk_3 (dk_at dksX16_holds_0 15 rfl rfl)
theorem dX16_holds_16 : decode cX16_holds 16 = .ok (.ireturn, 1) := dk_172 (dk_at dksX16_holds_0 16 rfl rfl)
theorem q178 : (Jvm.Cond.initialized "Retouched$Not") ∈ lw_all := lw_g (lw_at lw_m1 34 rfl) rfl
theorem q874 : (Jvm.Cond.selects "Retouched$Not" ({ cls := "java/lang/Object", name := "getClass", desc := "()Ljava/lang/Class;" } : Jvm.MethodName) ({ cls := "java/lang/Object", name := "getClass", desc := "()Ljava/lang/Class;" } : Jvm.MethodName)) ∈ lw_all := lw_g (lw_at lw_m4 10 rfl) rfl
theorem q1139 : (Jvm.Cond.instantiable "Retouched$Not" (1 : Nat)) ∈ lw_all := lw_g (lw_at lw_m5 35 rfl) rfl
theorem q1141 : (Jvm.Cond.instanceMethod ({ cls := "Retouched$Not", name := "<init>", desc := "(LRetouched$Test;)V" } : Jvm.MethodName)) ∈ lw_all := lw_g (lw_at lw_m5 37 rfl) rfl
theorem q1142 : (Jvm.Cond.code ({ cls := "Retouched$Not", name := "<init>", desc := "(LRetouched$Test;)V" } : Jvm.MethodName) prog_10_method_1_code (2 : Nat) (Option.none : Option Jvm.ClassFile.FieldType)) ∈ lw_all := lw_g (lw_at lw_m5 38 rfl) rfl
theorem q1143 : (Jvm.Cond.methodLinkNest "Retouched$Not" (1 : Nat) ({ cls := "Retouched$Test", name := "<init>", desc := "()V" } : Jvm.MethodName) "Retouched") ∈ lw_tbl := lw_at lw_m5 39 rfl
theorem q1144 : (Jvm.Cond.fieldLink "Retouched$Not" (7 : Nat) "Retouched$Not" "test" "LRetouched$Test;") ∈ lw_all := lw_g (lw_at lw_m5 40 rfl) rfl
theorem q1145 : (Jvm.Cond.laysFinal "Retouched$Not" "Retouched$Not" "test" "LRetouched$Test;") ∈ lw_all := lw_g (lw_at lw_m5 41 rfl) rfl
theorem q1146 : (Jvm.Cond.soleField "Retouched$Not" "test") ∈ lw_all := lw_g (lw_at lw_m5 42 rfl) rfl
theorem q1147 : (Jvm.Cond.superclass "Retouched$Not" "Retouched$Test") ∈ lw_all := lw_g (lw_at lw_m5 43 rfl) rfl
theorem q1227 : (Jvm.Cond.instanceMethod ({ cls := "Retouched$Not", name := "holds", desc := "(LRetouched$Moment;)Z" } : Jvm.MethodName)) ∈ lw_all := lw_g (lw_at lw_m5 123 rfl) rfl
theorem q1228 : (Jvm.Cond.code ({ cls := "Retouched$Not", name := "holds", desc := "(LRetouched$Moment;)Z" } : Jvm.MethodName) prog_10_method_2_code (2 : Nat) (Option.some Jvm.ClassFile.FieldType.boolean)) ∈ lw_all := lw_g (lw_at lw_m5 124 rfl) rfl
theorem q1229 : (Jvm.Cond.methodLink "Retouched$Not" (13 : Nat) ({ cls := "Retouched$Test", name := "holds", desc := "(LRetouched$Moment;)Z" } : Jvm.MethodName)) ∈ lw_all := lw_g (lw_at lw_m5 125 rfl) rfl
theorem q1291 : (Jvm.Cond.selects "Retouched$Not" ({ cls := "Retouched$Test", name := "holds", desc := "(LRetouched$Moment;)Z" } : Jvm.MethodName) ({ cls := "Retouched$Not", name := "holds", desc := "(LRetouched$Moment;)Z" } : Jvm.MethodName)) ∈ lw_all := lw_g (lw_at lw_m5 187 rfl) rfl
theorem q2497 : (Jvm.Cond.castable "Retouched$Not" "Retouched$Test") ∈ lw_tbl := lw_at lw_m10 193 rfl
theorem q2522 : (Jvm.Cond.castable "Retouched$Not" "java/lang/Object") ∈ lw_tbl := lw_at lw_m10 218 rfl
theorem in_X16 : ∀ w ∈ wsX160, w ∈ lw_all := lw_in wsX160 [1145] (by decide +kernel) (by decide +kernel)
/-! Retouched$All -/
set_option maxRecDepth 100000
def RX17 : String := "Retouched$All"
abbrev cX17_init : ByteArray := prog_2_method_1_code
def yX17_init : MethodName := ⟨RX17, "<init>", "()V"⟩
theorem dX17_init_0 : decode cX17_init 0 = .ok (.aload_n 0, 1) := by decide +kernel
theorem dX17_init_1 : decode cX17_init 1 = .ok (.invokespecial 1, 3) := by decide +kernel
theorem dX17_init_4 : decode cX17_init 4 = .ok (.return_, 1) := by decide +kernel
abbrev cX17_holds : ByteArray := prog_2_method_2_code
def yX17_holds : MethodName := ⟨RX17, "holds", "(LRetouched$Moment;)Z"⟩
theorem dX17_holds_0 : decode cX17_holds 0 = .ok (.iconst 1, 1) := by decide +kernel
theorem dX17_holds_1 : decode cX17_holds 1 = .ok (.ireturn, 1) := by decide +kernel
theorem q179 : (Jvm.Cond.initialized "Retouched$All") ∈ lw_all := lw_g (lw_at lw_m1 35 rfl) rfl
theorem q866 : (Jvm.Cond.selects "Retouched$All" ({ cls := "java/lang/Object", name := "getClass", desc := "()Ljava/lang/Class;" } : Jvm.MethodName) ({ cls := "java/lang/Object", name := "getClass", desc := "()Ljava/lang/Class;" } : Jvm.MethodName)) ∈ lw_all := lw_g (lw_at lw_m4 2 rfl) rfl
theorem q1150 : (Jvm.Cond.instantiable "Retouched$All" (0 : Nat)) ∈ lw_all := lw_g (lw_at lw_m5 46 rfl) rfl
theorem q1152 : (Jvm.Cond.instanceMethod ({ cls := "Retouched$All", name := "<init>", desc := "()V" } : Jvm.MethodName)) ∈ lw_all := lw_g (lw_at lw_m5 48 rfl) rfl
theorem q1153 : (Jvm.Cond.code ({ cls := "Retouched$All", name := "<init>", desc := "()V" } : Jvm.MethodName) prog_2_method_1_code (1 : Nat) (Option.none : Option Jvm.ClassFile.FieldType)) ∈ lw_all := lw_g (lw_at lw_m5 49 rfl) rfl
theorem q1154 : (Jvm.Cond.methodLinkNest "Retouched$All" (1 : Nat) ({ cls := "Retouched$Test", name := "<init>", desc := "()V" } : Jvm.MethodName) "Retouched") ∈ lw_tbl := lw_at lw_m5 50 rfl
theorem q1155 : (Jvm.Cond.superclass "Retouched$All" "Retouched$Test") ∈ lw_all := lw_g (lw_at lw_m5 51 rfl) rfl
theorem q1215 : (Jvm.Cond.selects "Retouched$All" ({ cls := "Retouched$Test", name := "holds", desc := "(LRetouched$Moment;)Z" } : Jvm.MethodName) ({ cls := "Retouched$All", name := "holds", desc := "(LRetouched$Moment;)Z" } : Jvm.MethodName)) ∈ lw_all := lw_g (lw_at lw_m5 111 rfl) rfl
theorem q1216 : (Jvm.Cond.instanceMethod ({ cls := "Retouched$All", name := "holds", desc := "(LRetouched$Moment;)Z" } : Jvm.MethodName)) ∈ lw_all := lw_g (lw_at lw_m5 112 rfl) rfl
theorem q1217 : (Jvm.Cond.code ({ cls := "Retouched$All", name := "holds", desc := "(LRetouched$Moment;)Z" } : Jvm.MethodName) prog_2_method_2_code (2 : Nat) (Option.some Jvm.ClassFile.FieldType.boolean)) ∈ lw_all := lw_g (lw_at lw_m5 113 rfl) rfl
theorem q2495 : (Jvm.Cond.castable "Retouched$All" "Retouched$Test") ∈ lw_tbl := lw_at lw_m10 191 rfl
theorem q2523 : (Jvm.Cond.castable "Retouched$All" "java/lang/Object") ∈ lw_tbl := lw_at lw_m10 219 rfl
/-! Retouched$Than -/
set_option maxRecDepth 100000
def RX18 : String := "Retouched$Than"
def TX18 : u_T := fun k => match k with
  | 0 => ("Retouched$Than", "a", "LRetouched$Value;", true)
  | 1 => ("Retouched$Than", "b", "LRetouched$Value;", true)
  | _ => ("Retouched$Than", "sign", "I", true)
def tyX18 : Nat → FieldType := fun k => match k with
  | 0 => .object "Retouched$Value"
  | 1 => .object "Retouched$Value"
  | _ => .int
abbrev wsX180 : List Cond := u_ws RX18 TX18 3
theorem nmX18 : ∀ a, a < 3 → ∀ b, b < 3 → a ≠ b → (TX18 a).2.1 ≠ (TX18 b).2.1 := by decide +kernel
theorem tyX18_ok : ∀ k, k < 3 → parseFieldDescriptor (TX18 k).2.2.1 = some (tyX18 k) := by decide +kernel
abbrev cX18_init : ByteArray := prog_18_method_1_code
def yX18_init : MethodName := ⟨RX18, "<init>", "(LRetouched$Value;ILRetouched$Value;)V"⟩
def dkwX18_init_0 : List UInt8 := [42, 183, 0, 1, 42, 43, 181, 0, 7, 42, 28, 181, 0, 13, 42, 45, 181, 0, 17, 177]
abbrev dktX18_init_0 : List UInt8 := dkwX18_init_0 ++ []
theorem dksX18_init_0 : cX18_init.data.toList.drop 0 = dktX18_init_0 := by decide +kernel
theorem dX18_init_0 : decode cX18_init 0 = .ok (.aload_n 0, 1) := dk_42 (dk_at dksX18_init_0 0 rfl rfl)
theorem dX18_init_1 : decode cX18_init 1 = .ok (.invokespecial 1, 3) := dk_183 0 1 (dk_at dksX18_init_0 1 rfl rfl)
theorem dX18_init_4 : decode cX18_init 4 = .ok (.aload_n 0, 1) := dk_42 (dk_at dksX18_init_0 4 rfl rfl)
theorem dX18_init_5 : decode cX18_init 5 = .ok (.aload_n 1, 1) := dk_43 (dk_at dksX18_init_0 5 rfl rfl)
theorem dX18_init_6 : decode cX18_init 6 = .ok (.putfield 7, 3) := dk_181 0 7 (dk_at dksX18_init_0 6 rfl rfl)
theorem dX18_init_9 : decode cX18_init 9 = .ok (.aload_n 0, 1) := dk_42 (dk_at dksX18_init_0 9 rfl rfl)
theorem dX18_init_10 : decode cX18_init 10 = .ok (.iload_n 2, 1) := dk_28 (dk_at dksX18_init_0 10 rfl rfl)
theorem dX18_init_11 : decode cX18_init 11 = .ok (.putfield 13, 3) := dk_181 0 13 (dk_at dksX18_init_0 11 rfl rfl)
theorem dX18_init_14 : decode cX18_init 14 = .ok (.aload_n 0, 1) := dk_42 (dk_at dksX18_init_0 14 rfl rfl)
theorem dX18_init_15 : decode cX18_init 15 = .ok (.aload_n 3, 1) := dk_45 (dk_at dksX18_init_0 15 rfl rfl)
theorem dX18_init_16 : decode cX18_init 16 = .ok (.putfield 17, 3) := dk_181 0 17 (dk_at dksX18_init_0 16 rfl rfl)
theorem dX18_init_19 : decode cX18_init 19 = .ok (.return_, 1) := dk_177 (dk_at dksX18_init_0 19 rfl rfl)
abbrev cX18_holds : ByteArray := prog_18_method_2_code
def yX18_holds : MethodName := ⟨RX18, "holds", "(LRetouched$Moment;)Z"⟩
def dkwX18_holds_3 : List UInt8 := [154, 0, 7, 4, 167, 0, 4, 3, 172]
abbrev dktX18_holds_3 : List UInt8 := dkwX18_holds_3 ++ []
def dkwX18_holds_2 : List UInt8 := [16, 62, 160, 0, 18, 32, 22, 4, 148, 158, 0, 7, 4, 167, 0, 19, 3, 167, 0, 15, 32, 22, 4, 148]
abbrev dktX18_holds_2 : List UInt8 := dkwX18_holds_2 ++ dktX18_holds_3
def dkwX18_holds_1 : List UInt8 := [16, 60, 160, 0, 18, 32, 22, 4, 148, 156, 0, 7, 4, 167, 0, 43, 3, 167, 0, 39, 42, 180, 0, 13]
abbrev dktX18_holds_1 : List UInt8 := dkwX18_holds_1 ++ dktX18_holds_2
def dkwX18_holds_0 : List UInt8 := [42, 180, 0, 7, 43, 182, 0, 20, 65, 42, 180, 0, 17, 43, 182, 0, 20, 55, 4, 42, 180, 0, 13]
abbrev dktX18_holds_0 : List UInt8 := dkwX18_holds_0 ++ dktX18_holds_1
theorem dksX18_holds_0 : cX18_holds.data.toList.drop 0 = dktX18_holds_0 := by decide +kernel
theorem dksX18_holds_1 : cX18_holds.data.toList.drop 23 = dktX18_holds_1 := dk_seg dksX18_holds_0 23 rfl rfl
theorem dksX18_holds_2 : cX18_holds.data.toList.drop 47 = dktX18_holds_2 := dk_seg dksX18_holds_1 24 rfl rfl
theorem dksX18_holds_3 : cX18_holds.data.toList.drop 71 = dktX18_holds_3 := dk_seg dksX18_holds_2 24 rfl rfl
theorem dX18_holds_0 : decode cX18_holds 0 = .ok (.aload_n 0, 1) := dk_42 (dk_at dksX18_holds_0 0 rfl rfl)
theorem dX18_holds_1 : decode cX18_holds 1 = .ok (.getfield 7, 3) := dk_180 0 7 (dk_at dksX18_holds_0 1 rfl rfl)
theorem dX18_holds_4 : decode cX18_holds 4 = .ok (.aload_n 1, 1) := dk_43 (dk_at dksX18_holds_0 4 rfl rfl)
theorem dX18_holds_5 : decode cX18_holds 5 = .ok (.invokevirtual 20, 3) := dk_182 0 20 (dk_at dksX18_holds_0 5 rfl rfl)
theorem dX18_holds_8 : decode cX18_holds 8 = .ok (.lstore_n 2, 1) := dk_65 (dk_at dksX18_holds_0 8 rfl rfl)
theorem dX18_holds_9 : decode cX18_holds 9 = .ok (.aload_n 0, 1) := dk_42 (dk_at dksX18_holds_0 9 rfl rfl)
theorem dX18_holds_10 : decode cX18_holds 10 = .ok (.getfield 17, 3) := dk_180 0 17 (dk_at dksX18_holds_0 10 rfl rfl)
theorem dX18_holds_13 : decode cX18_holds 13 = .ok (.aload_n 1, 1) := dk_43 (dk_at dksX18_holds_0 13 rfl rfl)
theorem dX18_holds_14 : decode cX18_holds 14 = .ok (.invokevirtual 20, 3) := dk_182 0 20 (dk_at dksX18_holds_0 14 rfl rfl)
theorem dX18_holds_17 : decode cX18_holds 17 = .ok (.lstore 4, 2) := dk_55 4 (dk_at dksX18_holds_0 17 rfl rfl)
theorem dX18_holds_19 : decode cX18_holds 19 = .ok (.aload_n 0, 1) := dk_42 (dk_at dksX18_holds_0 19 rfl rfl)
theorem dX18_holds_20 : decode cX18_holds 20 = .ok (.getfield 13, 3) := dk_180 0 13 (dk_at dksX18_holds_0 20 rfl rfl)
theorem dX18_holds_23 : decode cX18_holds 23 = .ok (.bipush 60, 2) := dk_16 60 (dk_at dksX18_holds_1 0 rfl rfl)
theorem dX18_holds_25 : decode cX18_holds 25 = .ok (.if_icmp .ne 18, 3) := dk_160 0 18 (dk_at dksX18_holds_1 2 rfl rfl)
theorem dX18_holds_28 : decode cX18_holds 28 = .ok (.lload_n 2, 1) := dk_32 (dk_at dksX18_holds_1 5 rfl rfl)
theorem dX18_holds_29 : decode cX18_holds 29 = .ok (.lload 4, 2) := dk_22 4 (dk_at dksX18_holds_1 6 rfl rfl)
theorem dX18_holds_31 : decode cX18_holds 31 = .ok (.lcmp, 1) := dk_148 (dk_at dksX18_holds_1 8 rfl rfl)
theorem dX18_holds_32 : decode cX18_holds 32 = .ok (.ifCond .ge 7, 3) := dk_156 0 7 (dk_at dksX18_holds_1 9 rfl rfl)
theorem dX18_holds_35 : decode cX18_holds 35 = .ok (.iconst 1, 1) := dk_4 (dk_at dksX18_holds_1 12 rfl rfl)
theorem dX18_holds_36 : decode cX18_holds 36 = .ok (.goto 43, 3) := dk_167 0 43 (dk_at dksX18_holds_1 13 rfl rfl)
theorem dX18_holds_39 : decode cX18_holds 39 = .ok (.iconst 0, 1) := dk_3 (dk_at dksX18_holds_1 16 rfl rfl)
theorem dX18_holds_40 : decode cX18_holds 40 = .ok (.goto 39, 3) := dk_167 0 39 (dk_at dksX18_holds_1 17 rfl rfl)
theorem dX18_holds_43 : decode cX18_holds 43 = .ok (.aload_n 0, 1) := dk_42 (dk_at dksX18_holds_1 20 rfl rfl)
theorem dX18_holds_44 : decode cX18_holds 44 = .ok (.getfield 13, 3) := dk_180 0 13 (dk_at dksX18_holds_1 21 rfl rfl)
theorem dX18_holds_47 : decode cX18_holds 47 = .ok (.bipush 62, 2) := dk_16 62 (dk_at dksX18_holds_2 0 rfl rfl)
theorem dX18_holds_49 : decode cX18_holds 49 = .ok (.if_icmp .ne 18, 3) := dk_160 0 18 (dk_at dksX18_holds_2 2 rfl rfl)
theorem dX18_holds_52 : decode cX18_holds 52 = .ok (.lload_n 2, 1) := dk_32 (dk_at dksX18_holds_2 5 rfl rfl)
theorem dX18_holds_53 : decode cX18_holds 53 = .ok (.lload 4, 2) := dk_22 4 (dk_at dksX18_holds_2 6 rfl rfl)
theorem dX18_holds_55 : decode cX18_holds 55 = .ok (.lcmp, 1) := dk_148 (dk_at dksX18_holds_2 8 rfl rfl)
theorem dX18_holds_56 : decode cX18_holds 56 = .ok (.ifCond .le 7, 3) := dk_158 0 7 (dk_at dksX18_holds_2 9 rfl rfl)
theorem dX18_holds_59 : decode cX18_holds 59 = .ok (.iconst 1, 1) := dk_4 (dk_at dksX18_holds_2 12 rfl rfl)
theorem dX18_holds_60 : decode cX18_holds 60 = .ok (.goto 19, 3) := dk_167 0 19 (dk_at dksX18_holds_2 13 rfl rfl)
theorem dX18_holds_63 : decode cX18_holds 63 = .ok (.iconst 0, 1) := dk_3 (dk_at dksX18_holds_2 16 rfl rfl)
theorem dX18_holds_64 : decode cX18_holds 64 = .ok (.goto 15, 3) := dk_167 0 15 (dk_at dksX18_holds_2 17 rfl rfl)
theorem dX18_holds_67 : decode cX18_holds 67 = .ok (.lload_n 2, 1) := dk_32 (dk_at dksX18_holds_2 20 rfl rfl)
theorem dX18_holds_68 : decode cX18_holds 68 = .ok (.lload 4, 2) := dk_22 4 (dk_at dksX18_holds_2 21 rfl rfl)
theorem dX18_holds_70 : decode cX18_holds 70 = .ok (.lcmp, 1) := dk_148 (dk_at dksX18_holds_2 23 rfl rfl)
theorem dX18_holds_71 : decode cX18_holds 71 = .ok (.ifCond .ne 7, 3) := dk_154 0 7 (dk_at dksX18_holds_3 0 rfl rfl)
theorem dX18_holds_74 : decode cX18_holds 74 = .ok (.iconst 1, 1) := dk_4 (dk_at dksX18_holds_3 3 rfl rfl)
theorem dX18_holds_75 : decode cX18_holds 75 = .ok (.goto 4, 3) := dk_167 0 4 (dk_at dksX18_holds_3 4 rfl rfl)
theorem dX18_holds_78 : decode cX18_holds 78 = .ok (.iconst 0, 1) := dk_3 (dk_at dksX18_holds_3 7 rfl rfl)
theorem dX18_holds_79 : decode cX18_holds 79 = .ok (.ireturn, 1) := dk_172 (dk_at dksX18_holds_3 8 rfl rfl)
theorem q180 : (Jvm.Cond.initialized "Retouched$Than") ∈ lw_all := lw_g (lw_at lw_m1 36 rfl) rfl
theorem q881 : (Jvm.Cond.selects "Retouched$Than" ({ cls := "java/lang/Object", name := "getClass", desc := "()Ljava/lang/Class;" } : Jvm.MethodName) ({ cls := "java/lang/Object", name := "getClass", desc := "()Ljava/lang/Class;" } : Jvm.MethodName)) ∈ lw_all := lw_g (lw_at lw_m4 17 rfl) rfl
theorem q1157 : (Jvm.Cond.instantiable "Retouched$Than" (3 : Nat)) ∈ lw_all := lw_g (lw_at lw_m5 53 rfl) rfl
theorem q1159 : (Jvm.Cond.instanceMethod ({ cls := "Retouched$Than", name := "<init>", desc := "(LRetouched$Value;ILRetouched$Value;)V" } : Jvm.MethodName)) ∈ lw_all := lw_g (lw_at lw_m5 55 rfl) rfl
theorem q1160 : (Jvm.Cond.code ({ cls := "Retouched$Than", name := "<init>", desc := "(LRetouched$Value;ILRetouched$Value;)V" } : Jvm.MethodName) prog_18_method_1_code (4 : Nat) (Option.none : Option Jvm.ClassFile.FieldType)) ∈ lw_all := lw_g (lw_at lw_m5 56 rfl) rfl
theorem q1161 : (Jvm.Cond.methodLinkNest "Retouched$Than" (1 : Nat) ({ cls := "Retouched$Test", name := "<init>", desc := "()V" } : Jvm.MethodName) "Retouched") ∈ lw_tbl := lw_at lw_m5 57 rfl
theorem q1162 : (Jvm.Cond.fieldLink "Retouched$Than" (7 : Nat) "Retouched$Than" "a" "LRetouched$Value;") ∈ lw_all := lw_g (lw_at lw_m5 58 rfl) rfl
theorem q1163 : (Jvm.Cond.fieldLink "Retouched$Than" (17 : Nat) "Retouched$Than" "b" "LRetouched$Value;") ∈ lw_all := lw_g (lw_at lw_m5 59 rfl) rfl
theorem q1164 : (Jvm.Cond.fieldLink "Retouched$Than" (13 : Nat) "Retouched$Than" "sign" "I") ∈ lw_all := lw_g (lw_at lw_m5 60 rfl) rfl
theorem q1165 : (Jvm.Cond.laysFinal "Retouched$Than" "Retouched$Than" "a" "LRetouched$Value;") ∈ lw_all := lw_g (lw_at lw_m5 61 rfl) rfl
theorem q1166 : (Jvm.Cond.soleField "Retouched$Than" "a") ∈ lw_all := lw_g (lw_at lw_m5 62 rfl) rfl
theorem q1167 : (Jvm.Cond.laysFinal "Retouched$Than" "Retouched$Than" "b" "LRetouched$Value;") ∈ lw_all := lw_g (lw_at lw_m5 63 rfl) rfl
theorem q1168 : (Jvm.Cond.soleField "Retouched$Than" "b") ∈ lw_all := lw_g (lw_at lw_m5 64 rfl) rfl
theorem q1169 : (Jvm.Cond.laysFinal "Retouched$Than" "Retouched$Than" "sign" "I") ∈ lw_all := lw_g (lw_at lw_m5 65 rfl) rfl
theorem q1170 : (Jvm.Cond.soleField "Retouched$Than" "sign") ∈ lw_all := lw_g (lw_at lw_m5 66 rfl) rfl
theorem q1171 : (Jvm.Cond.superclass "Retouched$Than" "Retouched$Test") ∈ lw_all := lw_g (lw_at lw_m5 67 rfl) rfl
theorem q1230 : (Jvm.Cond.instanceMethod ({ cls := "Retouched$Than", name := "holds", desc := "(LRetouched$Moment;)Z" } : Jvm.MethodName)) ∈ lw_all := lw_g (lw_at lw_m5 126 rfl) rfl
theorem q1231 : (Jvm.Cond.code ({ cls := "Retouched$Than", name := "holds", desc := "(LRetouched$Moment;)Z" } : Jvm.MethodName) prog_18_method_2_code (6 : Nat) (Option.some Jvm.ClassFile.FieldType.boolean)) ∈ lw_all := lw_g (lw_at lw_m5 127 rfl) rfl
theorem q1232 : (Jvm.Cond.methodLink "Retouched$Than" (20 : Nat) ({ cls := "Retouched$Value", name := "at", desc := "(LRetouched$Moment;)J" } : Jvm.MethodName)) ∈ lw_all := lw_g (lw_at lw_m5 128 rfl) rfl
theorem q1292 : (Jvm.Cond.selects "Retouched$Than" ({ cls := "Retouched$Test", name := "holds", desc := "(LRetouched$Moment;)Z" } : Jvm.MethodName) ({ cls := "Retouched$Than", name := "holds", desc := "(LRetouched$Moment;)Z" } : Jvm.MethodName)) ∈ lw_all := lw_g (lw_at lw_m5 188 rfl) rfl
theorem q2498 : (Jvm.Cond.castable "Retouched$Than" "Retouched$Test") ∈ lw_tbl := lw_at lw_m10 194 rfl
theorem q2524 : (Jvm.Cond.castable "Retouched$Than" "java/lang/Object") ∈ lw_tbl := lw_at lw_m10 220 rfl
theorem in_X18 : ∀ w ∈ wsX180, w ∈ lw_all := lw_in wsX180 [1165, 1167, 1169] (by decide +kernel) (by decide +kernel)
/-! Retouched$Question -/
set_option maxRecDepth 100000
def RX19 : String := "Retouched$Question"
def TX19 : u_T := fun k => match k with
  | 0 => ("Retouched$Question", "what", "I", true)
  | 1 => ("Retouched$Question", "test", "LRetouched$Test;", true)
  | 2 => ("Retouched$Question", "sum", "LRetouched$Value;", true)
  | 3 => ("Retouched$Question", "found", "J", false)
  | _ => ("Retouched$Question", "has", "Z", false)
def tyX19 : Nat → FieldType := fun k => match k with
  | 0 => .int
  | 1 => .object "Retouched$Test"
  | 2 => .object "Retouched$Value"
  | 3 => .long
  | _ => .boolean
abbrev wsX190 : List Cond := u_ws RX19 TX19 5
theorem nmX19 : ∀ a, a < 5 → ∀ b, b < 5 → a ≠ b → (TX19 a).2.1 ≠ (TX19 b).2.1 := by decide +kernel
theorem tyX19_ok : ∀ k, k < 5 → parseFieldDescriptor (TX19 k).2.2.1 = some (tyX19 k) := by decide +kernel
abbrev cX19_init : ByteArray := prog_12_method_1_code
def yX19_init : MethodName := ⟨RX19, "<init>", "(ILRetouched$Test;LRetouched$Value;)V"⟩
def dkwX19_init_1 : List UInt8 := [181, 0, 25, 177]
abbrev dktX19_init_1 : List UInt8 := dkwX19_init_1 ++ []
def dkwX19_init_0 : List UInt8 := [42, 183, 0, 3, 42, 20, 0, 9, 181, 0, 11, 42, 27, 181, 0, 17, 42, 44, 181, 0, 21, 42, 45]
abbrev dktX19_init_0 : List UInt8 := dkwX19_init_0 ++ dktX19_init_1
theorem dksX19_init_0 : cX19_init.data.toList.drop 0 = dktX19_init_0 := by decide +kernel
theorem dksX19_init_1 : cX19_init.data.toList.drop 23 = dktX19_init_1 := dk_seg dksX19_init_0 23 rfl rfl
theorem dX19_init_0 : decode cX19_init 0 = .ok (.aload_n 0, 1) := dk_42 (dk_at dksX19_init_0 0 rfl rfl)
theorem dX19_init_1 : decode cX19_init 1 = .ok (.invokespecial 3, 3) := dk_183 0 3 (dk_at dksX19_init_0 1 rfl rfl)
theorem dX19_init_4 : decode cX19_init 4 = .ok (.aload_n 0, 1) := dk_42 (dk_at dksX19_init_0 4 rfl rfl)
theorem dX19_init_5 : decode cX19_init 5 = .ok (.ldc2_w 9, 3) := dk_20 0 9 (dk_at dksX19_init_0 5 rfl rfl)
theorem dX19_init_8 : decode cX19_init 8 = .ok (.putfield 11, 3) := dk_181 0 11 (dk_at dksX19_init_0 8 rfl rfl)
theorem dX19_init_11 : decode cX19_init 11 = .ok (.aload_n 0, 1) := dk_42 (dk_at dksX19_init_0 11 rfl rfl)
theorem dX19_init_12 : decode cX19_init 12 = .ok (.iload_n 1, 1) := dk_27 (dk_at dksX19_init_0 12 rfl rfl)
theorem dX19_init_13 : decode cX19_init 13 = .ok (.putfield 17, 3) := dk_181 0 17 (dk_at dksX19_init_0 13 rfl rfl)
theorem dX19_init_16 : decode cX19_init 16 = .ok (.aload_n 0, 1) := dk_42 (dk_at dksX19_init_0 16 rfl rfl)
theorem dX19_init_17 : decode cX19_init 17 = .ok (.aload_n 2, 1) := dk_44 (dk_at dksX19_init_0 17 rfl rfl)
theorem dX19_init_18 : decode cX19_init 18 = .ok (.putfield 21, 3) := dk_181 0 21 (dk_at dksX19_init_0 18 rfl rfl)
theorem dX19_init_21 : decode cX19_init 21 = .ok (.aload_n 0, 1) := dk_42 (dk_at dksX19_init_0 21 rfl rfl)
theorem dX19_init_22 : decode cX19_init 22 = .ok (.aload_n 3, 1) := dk_45 (dk_at dksX19_init_0 22 rfl rfl)
theorem dX19_init_23 : decode cX19_init 23 = .ok (.putfield 25, 3) := dk_181 0 25 (dk_at dksX19_init_1 0 rfl rfl)
theorem dX19_init_26 : decode cX19_init 26 = .ok (.return_, 1) := dk_177 (dk_at dksX19_init_1 3 rfl rfl)
abbrev cX19_meets : ByteArray := prog_12_method_2_code
def yX19_meets : MethodName := ⟨RX19, "meets", "(ILRetouched$Moment;)V"⟩
def dkwX19_meets_6 : List UInt8 := [181, 0, 11, 42, 4, 181, 0, 41, 177]
abbrev dktX19_meets_6 : List UInt8 := dkwX19_meets_6 ++ []
def dkwX19_meets_5 : List UInt8 := [7, 160, 0, 14, 42, 180, 0, 11, 33, 184, 0, 35, 167, 0, 11, 42, 180, 0, 11, 33, 184, 0, 51]
abbrev dktX19_meets_5 : List UInt8 := dkwX19_meets_5 ++ dktX19_meets_6
def dkwX19_meets_4 : List UInt8 := [167, 0, 47, 42, 180, 0, 17, 6, 160, 0, 12, 42, 180, 0, 11, 33, 97, 167, 0, 30, 42, 180, 0, 17]
abbrev dktX19_meets_4 : List UInt8 := dkwX19_meets_4 ++ dktX19_meets_5
def dkwX19_meets_3 : List UInt8 := [181, 0, 41, 177, 42, 180, 0, 25, 44, 182, 0, 45, 66, 42, 42, 180, 0, 41, 154, 0, 7, 33]
abbrev dktX19_meets_3 : List UInt8 := dkwX19_meets_3 ++ dktX19_meets_4
def dkwX19_meets_2 : List UInt8 := [154, 0, 17, 42, 180, 0, 41, 153, 0, 10, 42, 180, 0, 11, 167, 0, 5, 27, 133, 181, 0, 11, 42, 4]
abbrev dktX19_meets_2 : List UInt8 := dkwX19_meets_2 ++ dktX19_meets_3
def dkwX19_meets_1 : List UInt8 := [180, 0, 17, 5, 160, 0, 16, 9, 42, 180, 0, 11, 184, 0, 35, 10, 97, 167, 0, 26, 42, 180, 0, 17]
abbrev dktX19_meets_1 : List UInt8 := dkwX19_meets_1 ++ dktX19_meets_2
def dkwX19_meets_0 : List UInt8 := [42, 180, 0, 17, 6, 162, 0, 69, 42, 180, 0, 21, 44, 182, 0, 29, 154, 0, 4, 177, 42, 42]
abbrev dktX19_meets_0 : List UInt8 := dkwX19_meets_0 ++ dktX19_meets_1
theorem dksX19_meets_0 : cX19_meets.data.toList.drop 0 = dktX19_meets_0 := by decide +kernel
theorem dksX19_meets_1 : cX19_meets.data.toList.drop 22 = dktX19_meets_1 := dk_seg dksX19_meets_0 22 rfl rfl
theorem dksX19_meets_2 : cX19_meets.data.toList.drop 46 = dktX19_meets_2 := dk_seg dksX19_meets_1 24 rfl rfl
theorem dksX19_meets_3 : cX19_meets.data.toList.drop 70 = dktX19_meets_3 := dk_seg dksX19_meets_2 24 rfl rfl
theorem dksX19_meets_4 : cX19_meets.data.toList.drop 92 = dktX19_meets_4 := dk_seg dksX19_meets_3 22 rfl rfl
theorem dksX19_meets_5 : cX19_meets.data.toList.drop 116 = dktX19_meets_5 := dk_seg dksX19_meets_4 24 rfl rfl
theorem dksX19_meets_6 : cX19_meets.data.toList.drop 139 = dktX19_meets_6 := dk_seg dksX19_meets_5 23 rfl rfl
theorem dX19_meets_0 : decode cX19_meets 0 = .ok (.aload_n 0, 1) := dk_42 (dk_at dksX19_meets_0 0 rfl rfl)
theorem dX19_meets_1 : decode cX19_meets 1 = .ok (.getfield 17, 3) := dk_180 0 17 (dk_at dksX19_meets_0 1 rfl rfl)
theorem dX19_meets_4 : decode cX19_meets 4 = .ok (.iconst 3, 1) := dk_6 (dk_at dksX19_meets_0 4 rfl rfl)
theorem dX19_meets_5 : decode cX19_meets 5 = .ok (.if_icmp .ge 69, 3) := dk_162 0 69 (dk_at dksX19_meets_0 5 rfl rfl)
theorem dX19_meets_8 : decode cX19_meets 8 = .ok (.aload_n 0, 1) := dk_42 (dk_at dksX19_meets_0 8 rfl rfl)
theorem dX19_meets_9 : decode cX19_meets 9 = .ok (.getfield 21, 3) := dk_180 0 21 (dk_at dksX19_meets_0 9 rfl rfl)
theorem dX19_meets_12 : decode cX19_meets 12 = .ok (.aload_n 2, 1) := dk_44 (dk_at dksX19_meets_0 12 rfl rfl)
theorem dX19_meets_13 : decode cX19_meets 13 = .ok (.invokevirtual 29, 3) := dk_182 0 29 (dk_at dksX19_meets_0 13 rfl rfl)
theorem dX19_meets_16 : decode cX19_meets 16 = .ok (.ifCond .ne 4, 3) := dk_154 0 4 (dk_at dksX19_meets_0 16 rfl rfl)
theorem dX19_meets_19 : decode cX19_meets 19 = .ok (.return_, 1) := dk_177 (dk_at dksX19_meets_0 19 rfl rfl)
theorem dX19_meets_20 : decode cX19_meets 20 = .ok (.aload_n 0, 1) := dk_42 (dk_at dksX19_meets_0 20 rfl rfl)
theorem dX19_meets_21 : decode cX19_meets 21 = .ok (.aload_n 0, 1) := dk_42 (dk_at dksX19_meets_0 21 rfl rfl)
theorem dX19_meets_22 : decode cX19_meets 22 = .ok (.getfield 17, 3) := dk_180 0 17 (dk_at dksX19_meets_1 0 rfl rfl)
theorem dX19_meets_25 : decode cX19_meets 25 = .ok (.iconst 2, 1) := dk_5 (dk_at dksX19_meets_1 3 rfl rfl)
theorem dX19_meets_26 : decode cX19_meets 26 = .ok (.if_icmp .ne 16, 3) := dk_160 0 16 (dk_at dksX19_meets_1 4 rfl rfl)
theorem dX19_meets_29 : decode cX19_meets 29 = .ok (.lconst 0, 1) := dk_9 (dk_at dksX19_meets_1 7 rfl rfl)
theorem dX19_meets_30 : decode cX19_meets 30 = .ok (.aload_n 0, 1) := dk_42 (dk_at dksX19_meets_1 8 rfl rfl)
theorem dX19_meets_31 : decode cX19_meets 31 = .ok (.getfield 11, 3) := dk_180 0 11 (dk_at dksX19_meets_1 9 rfl rfl)
theorem dX19_meets_34 : decode cX19_meets 34 = .ok (.invokestatic 35, 3) := dk_184 0 35 (dk_at dksX19_meets_1 12 rfl rfl)
theorem dX19_meets_37 : decode cX19_meets 37 = .ok (.lconst 1, 1) := dk_10 (dk_at dksX19_meets_1 15 rfl rfl)
theorem dX19_meets_38 : decode cX19_meets 38 = .ok (.ladd, 1) := dk_97 (dk_at dksX19_meets_1 16 rfl rfl)
theorem dX19_meets_39 : decode cX19_meets 39 = .ok (.goto 26, 3) := dk_167 0 26 (dk_at dksX19_meets_1 17 rfl rfl)
theorem dX19_meets_42 : decode cX19_meets 42 = .ok (.aload_n 0, 1) := dk_42 (dk_at dksX19_meets_1 20 rfl rfl)
theorem dX19_meets_43 : decode cX19_meets 43 = .ok (.getfield 17, 3) := dk_180 0 17 (dk_at dksX19_meets_1 21 rfl rfl)
theorem dX19_meets_46 : decode cX19_meets 46 = .ok (.ifCond .ne 17, 3) := dk_154 0 17 (dk_at dksX19_meets_2 0 rfl rfl)
theorem dX19_meets_49 : decode cX19_meets 49 = .ok (.aload_n 0, 1) := dk_42 (dk_at dksX19_meets_2 3 rfl rfl)
theorem dX19_meets_50 : decode cX19_meets 50 = .ok (.getfield 41, 3) := dk_180 0 41 (dk_at dksX19_meets_2 4 rfl rfl)
theorem dX19_meets_53 : decode cX19_meets 53 = .ok (.ifCond .eq 10, 3) := dk_153 0 10 (dk_at dksX19_meets_2 7 rfl rfl)
theorem dX19_meets_56 : decode cX19_meets 56 = .ok (.aload_n 0, 1) := dk_42 (dk_at dksX19_meets_2 10 rfl rfl)
theorem dX19_meets_57 : decode cX19_meets 57 = .ok (.getfield 11, 3) := dk_180 0 11 (dk_at dksX19_meets_2 11 rfl rfl)
theorem dX19_meets_60 : decode cX19_meets 60 = .ok (.goto 5, 3) := dk_167 0 5 (dk_at dksX19_meets_2 14 rfl rfl)
theorem dX19_meets_63 : decode cX19_meets 63 = .ok (.iload_n 1, 1) := dk_27 (dk_at dksX19_meets_2 17 rfl rfl)
theorem dX19_meets_64 : decode cX19_meets 64 = .ok (.i2l, 1) := dk_133 (dk_at dksX19_meets_2 18 rfl rfl)
theorem dX19_meets_65 : decode cX19_meets 65 = .ok (.putfield 11, 3) := dk_181 0 11 (dk_at dksX19_meets_2 19 rfl rfl)
theorem dX19_meets_68 : decode cX19_meets 68 = .ok (.aload_n 0, 1) := dk_42 (dk_at dksX19_meets_2 22 rfl rfl)
theorem dX19_meets_69 : decode cX19_meets 69 = .ok (.iconst 1, 1) := dk_4 (dk_at dksX19_meets_2 23 rfl rfl)
theorem dX19_meets_70 : decode cX19_meets 70 = .ok (.putfield 41, 3) := dk_181 0 41 (dk_at dksX19_meets_3 0 rfl rfl)
theorem dX19_meets_73 : decode cX19_meets 73 = .ok (.return_, 1) := dk_177 (dk_at dksX19_meets_3 3 rfl rfl)
theorem dX19_meets_74 : decode cX19_meets 74 = .ok (.aload_n 0, 1) := dk_42 (dk_at dksX19_meets_3 4 rfl rfl)
theorem dX19_meets_75 : decode cX19_meets 75 = .ok (.getfield 25, 3) := dk_180 0 25 (dk_at dksX19_meets_3 5 rfl rfl)
theorem dX19_meets_78 : decode cX19_meets 78 = .ok (.aload_n 2, 1) := dk_44 (dk_at dksX19_meets_3 8 rfl rfl)
theorem dX19_meets_79 : decode cX19_meets 79 = .ok (.invokevirtual 45, 3) := dk_182 0 45 (dk_at dksX19_meets_3 9 rfl rfl)
theorem dX19_meets_82 : decode cX19_meets 82 = .ok (.lstore_n 3, 1) := dk_66 (dk_at dksX19_meets_3 12 rfl rfl)
theorem dX19_meets_83 : decode cX19_meets 83 = .ok (.aload_n 0, 1) := dk_42 (dk_at dksX19_meets_3 13 rfl rfl)
theorem dX19_meets_84 : decode cX19_meets 84 = .ok (.aload_n 0, 1) := dk_42 (dk_at dksX19_meets_3 14 rfl rfl)
theorem dX19_meets_85 : decode cX19_meets 85 = .ok (.getfield 41, 3) := dk_180 0 41 (dk_at dksX19_meets_3 15 rfl rfl)
theorem dX19_meets_88 : decode cX19_meets 88 = .ok (.ifCond .ne 7, 3) := dk_154 0 7 (dk_at dksX19_meets_3 18 rfl rfl)
theorem dX19_meets_91 : decode cX19_meets 91 = .ok (.lload_n 3, 1) := dk_33 (dk_at dksX19_meets_3 21 rfl rfl)
theorem dX19_meets_92 : decode cX19_meets 92 = .ok (.goto 47, 3) := dk_167 0 47 (dk_at dksX19_meets_4 0 rfl rfl)
theorem dX19_meets_95 : decode cX19_meets 95 = .ok (.aload_n 0, 1) := dk_42 (dk_at dksX19_meets_4 3 rfl rfl)
theorem dX19_meets_96 : decode cX19_meets 96 = .ok (.getfield 17, 3) := dk_180 0 17 (dk_at dksX19_meets_4 4 rfl rfl)
theorem dX19_meets_99 : decode cX19_meets 99 = .ok (.iconst 3, 1) := dk_6 (dk_at dksX19_meets_4 7 rfl rfl)
theorem dX19_meets_100 : decode cX19_meets 100 = .ok (.if_icmp .ne 12, 3) := dk_160 0 12 (dk_at dksX19_meets_4 8 rfl rfl)
theorem dX19_meets_103 : decode cX19_meets 103 = .ok (.aload_n 0, 1) := dk_42 (dk_at dksX19_meets_4 11 rfl rfl)
theorem dX19_meets_104 : decode cX19_meets 104 = .ok (.getfield 11, 3) := dk_180 0 11 (dk_at dksX19_meets_4 12 rfl rfl)
theorem dX19_meets_107 : decode cX19_meets 107 = .ok (.lload_n 3, 1) := dk_33 (dk_at dksX19_meets_4 15 rfl rfl)
theorem dX19_meets_108 : decode cX19_meets 108 = .ok (.ladd, 1) := dk_97 (dk_at dksX19_meets_4 16 rfl rfl)
theorem dX19_meets_109 : decode cX19_meets 109 = .ok (.goto 30, 3) := dk_167 0 30 (dk_at dksX19_meets_4 17 rfl rfl)
theorem dX19_meets_112 : decode cX19_meets 112 = .ok (.aload_n 0, 1) := dk_42 (dk_at dksX19_meets_4 20 rfl rfl)
theorem dX19_meets_113 : decode cX19_meets 113 = .ok (.getfield 17, 3) := dk_180 0 17 (dk_at dksX19_meets_4 21 rfl rfl)
theorem dX19_meets_116 : decode cX19_meets 116 = .ok (.iconst 4, 1) := dk_7 (dk_at dksX19_meets_5 0 rfl rfl)
theorem dX19_meets_117 : decode cX19_meets 117 = .ok (.if_icmp .ne 14, 3) := dk_160 0 14 (dk_at dksX19_meets_5 1 rfl rfl)
theorem dX19_meets_120 : decode cX19_meets 120 = .ok (.aload_n 0, 1) := dk_42 (dk_at dksX19_meets_5 4 rfl rfl)
theorem dX19_meets_121 : decode cX19_meets 121 = .ok (.getfield 11, 3) := dk_180 0 11 (dk_at dksX19_meets_5 5 rfl rfl)
theorem dX19_meets_124 : decode cX19_meets 124 = .ok (.lload_n 3, 1) := dk_33 (dk_at dksX19_meets_5 8 rfl rfl)
theorem dX19_meets_125 : decode cX19_meets 125 = .ok (.invokestatic 35, 3) := dk_184 0 35 (dk_at dksX19_meets_5 9 rfl rfl)
theorem dX19_meets_128 : decode cX19_meets 128 = .ok (.goto 11, 3) := dk_167 0 11 (dk_at dksX19_meets_5 12 rfl rfl)
theorem dX19_meets_131 : decode cX19_meets 131 = .ok (.aload_n 0, 1) := dk_42 (dk_at dksX19_meets_5 15 rfl rfl)
theorem dX19_meets_132 : decode cX19_meets 132 = .ok (.getfield 11, 3) := dk_180 0 11 (dk_at dksX19_meets_5 16 rfl rfl)
theorem dX19_meets_135 : decode cX19_meets 135 = .ok (.lload_n 3, 1) := dk_33 (dk_at dksX19_meets_5 19 rfl rfl)
theorem dX19_meets_136 : decode cX19_meets 136 = .ok (.invokestatic 51, 3) := dk_184 0 51 (dk_at dksX19_meets_5 20 rfl rfl)
theorem dX19_meets_139 : decode cX19_meets 139 = .ok (.putfield 11, 3) := dk_181 0 11 (dk_at dksX19_meets_6 0 rfl rfl)
theorem dX19_meets_142 : decode cX19_meets 142 = .ok (.aload_n 0, 1) := dk_42 (dk_at dksX19_meets_6 3 rfl rfl)
theorem dX19_meets_143 : decode cX19_meets 143 = .ok (.iconst 1, 1) := dk_4 (dk_at dksX19_meets_6 4 rfl rfl)
theorem dX19_meets_144 : decode cX19_meets 144 = .ok (.putfield 41, 3) := dk_181 0 41 (dk_at dksX19_meets_6 5 rfl rfl)
theorem dX19_meets_147 : decode cX19_meets 147 = .ok (.return_, 1) := dk_177 (dk_at dksX19_meets_6 8 rfl rfl)
abbrev cX19_answer : ByteArray := prog_12_method_3_code
def yX19_answer : MethodName := ⟨RX19, "answer", "()J"⟩
def dkwX19_answer_0 : List UInt8 := [42, 180, 0, 41, 154, 0, 11, 42, 180, 0, 17, 5, 162, 0, 10, 42, 180, 0, 11, 167, 0, 4, 9, 173]
abbrev dktX19_answer_0 : List UInt8 := dkwX19_answer_0 ++ []
theorem dksX19_answer_0 : cX19_answer.data.toList.drop 0 = dktX19_answer_0 := by decide +kernel
theorem dX19_answer_0 : decode cX19_answer 0 = .ok (.aload_n 0, 1) := dk_42 (dk_at dksX19_answer_0 0 rfl rfl)
theorem dX19_answer_1 : decode cX19_answer 1 = .ok (.getfield 41, 3) := dk_180 0 41 (dk_at dksX19_answer_0 1 rfl rfl)
theorem dX19_answer_4 : decode cX19_answer 4 = .ok (.ifCond .ne 11, 3) := dk_154 0 11 (dk_at dksX19_answer_0 4 rfl rfl)
theorem dX19_answer_7 : decode cX19_answer 7 = .ok (.aload_n 0, 1) := dk_42 (dk_at dksX19_answer_0 7 rfl rfl)
theorem dX19_answer_8 : decode cX19_answer 8 = .ok (.getfield 17, 3) := dk_180 0 17 (dk_at dksX19_answer_0 8 rfl rfl)
theorem dX19_answer_11 : decode cX19_answer 11 = .ok (.iconst 2, 1) := dk_5 (dk_at dksX19_answer_0 11 rfl rfl)
theorem dX19_answer_12 : decode cX19_answer 12 = .ok (.if_icmp .ge 10, 3) := dk_162 0 10 (dk_at dksX19_answer_0 12 rfl rfl)
theorem dX19_answer_15 : decode cX19_answer 15 = .ok (.aload_n 0, 1) := dk_42 (dk_at dksX19_answer_0 15 rfl rfl)
theorem dX19_answer_16 : decode cX19_answer 16 = .ok (.getfield 11, 3) := dk_180 0 11 (dk_at dksX19_answer_0 16 rfl rfl)
theorem dX19_answer_19 : decode cX19_answer 19 = .ok (.goto 4, 3) := dk_167 0 4 (dk_at dksX19_answer_0 19 rfl rfl)
theorem dX19_answer_22 : decode cX19_answer 22 = .ok (.lconst 0, 1) := dk_9 (dk_at dksX19_answer_0 22 rfl rfl)
theorem dX19_answer_23 : decode cX19_answer 23 = .ok (.lreturn, 1) := dk_173 (dk_at dksX19_answer_0 23 rfl rfl)
theorem q182 : (Jvm.Cond.initialized "Retouched$Question") ∈ lw_all := lw_g (lw_at lw_m1 38 rfl) rfl
theorem q876 : (Jvm.Cond.selects "Retouched$Question" ({ cls := "java/lang/Object", name := "getClass", desc := "()Ljava/lang/Class;" } : Jvm.MethodName) ({ cls := "java/lang/Object", name := "getClass", desc := "()Ljava/lang/Class;" } : Jvm.MethodName)) ∈ lw_all := lw_g (lw_at lw_m4 12 rfl) rfl
theorem q1537 : (Jvm.Cond.instantiable "Retouched$Question" (5 : Nat)) ∈ lw_all := lw_g (lw_at lw_m6 193 rfl) rfl
theorem q1539 : (Jvm.Cond.instanceMethod ({ cls := "Retouched$Question", name := "<init>", desc := "(ILRetouched$Test;LRetouched$Value;)V" } : Jvm.MethodName)) ∈ lw_all := lw_g (lw_at lw_m6 195 rfl) rfl
theorem q1540 : (Jvm.Cond.code ({ cls := "Retouched$Question", name := "<init>", desc := "(ILRetouched$Test;LRetouched$Value;)V" } : Jvm.MethodName) prog_12_method_1_code (4 : Nat) (Option.none : Option Jvm.ClassFile.FieldType)) ∈ lw_all := lw_g (lw_at lw_m6 196 rfl) rfl
theorem q1541 : (Jvm.Cond.methodLink "Retouched$Question" (3 : Nat) ({ cls := "java/lang/Object", name := "<init>", desc := "()V" } : Jvm.MethodName)) ∈ lw_all := lw_g (lw_at lw_m6 197 rfl) rfl
theorem q1542 : (Jvm.Cond.constantLong "Retouched$Question" (9 : Nat) (-1 : Int64)) ∈ lw_all := lw_g (lw_at lw_m6 198 rfl) rfl
theorem q1543 : (Jvm.Cond.fieldLink "Retouched$Question" (17 : Nat) "Retouched$Question" "what" "I") ∈ lw_all := lw_g (lw_at lw_m6 199 rfl) rfl
theorem q1544 : (Jvm.Cond.fieldLink "Retouched$Question" (21 : Nat) "Retouched$Question" "test" "LRetouched$Test;") ∈ lw_all := lw_g (lw_at lw_m6 200 rfl) rfl
theorem q1545 : (Jvm.Cond.fieldLink "Retouched$Question" (25 : Nat) "Retouched$Question" "sum" "LRetouched$Value;") ∈ lw_all := lw_g (lw_at lw_m6 201 rfl) rfl
theorem q1546 : (Jvm.Cond.fieldLink "Retouched$Question" (11 : Nat) "Retouched$Question" "found" "J") ∈ lw_all := lw_g (lw_at lw_m6 202 rfl) rfl
theorem q1547 : (Jvm.Cond.fieldLink "Retouched$Question" (41 : Nat) "Retouched$Question" "has" "Z") ∈ lw_all := lw_g (lw_at lw_m6 203 rfl) rfl
theorem q1548 : (Jvm.Cond.laysFinal "Retouched$Question" "Retouched$Question" "what" "I") ∈ lw_all := lw_g (lw_at lw_m6 204 rfl) rfl
theorem q1549 : (Jvm.Cond.soleField "Retouched$Question" "what") ∈ lw_all := lw_g (lw_at lw_m6 205 rfl) rfl
theorem q1550 : (Jvm.Cond.laysFinal "Retouched$Question" "Retouched$Question" "test" "LRetouched$Test;") ∈ lw_all := lw_g (lw_at lw_m6 206 rfl) rfl
theorem q1551 : (Jvm.Cond.soleField "Retouched$Question" "test") ∈ lw_all := lw_g (lw_at lw_m6 207 rfl) rfl
theorem q1552 : (Jvm.Cond.laysFinal "Retouched$Question" "Retouched$Question" "sum" "LRetouched$Value;") ∈ lw_all := lw_g (lw_at lw_m6 208 rfl) rfl
theorem q1553 : (Jvm.Cond.soleField "Retouched$Question" "sum") ∈ lw_all := lw_g (lw_at lw_m6 209 rfl) rfl
theorem q1554 : (Jvm.Cond.lays "Retouched$Question" "Retouched$Question" "found" "J") ∈ lw_all := lw_g (lw_at lw_m6 210 rfl) rfl
theorem q1555 : (Jvm.Cond.soleField "Retouched$Question" "found") ∈ lw_all := lw_g (lw_at lw_m6 211 rfl) rfl
theorem q1556 : (Jvm.Cond.lays "Retouched$Question" "Retouched$Question" "has" "Z") ∈ lw_all := lw_g (lw_at lw_m6 212 rfl) rfl
theorem q1557 : (Jvm.Cond.soleField "Retouched$Question" "has") ∈ lw_all := lw_g (lw_at lw_m6 213 rfl) rfl
theorem q1558 : (Jvm.Cond.superclass "Retouched$Question" "java/lang/Object") ∈ lw_all := lw_g (lw_at lw_m6 214 rfl) rfl
theorem q1560 : (Jvm.Cond.instanceMethod ({ cls := "Retouched$Question", name := "meets", desc := "(ILRetouched$Moment;)V" } : Jvm.MethodName)) ∈ lw_all := lw_g (lw_at lw_m6 216 rfl) rfl
theorem q1561 : (Jvm.Cond.selects "Retouched$Question" ({ cls := "Retouched$Question", name := "meets", desc := "(ILRetouched$Moment;)V" } : Jvm.MethodName) ({ cls := "Retouched$Question", name := "meets", desc := "(ILRetouched$Moment;)V" } : Jvm.MethodName)) ∈ lw_all := lw_g (lw_at lw_m6 217 rfl) rfl
theorem q1562 : (Jvm.Cond.code ({ cls := "Retouched$Question", name := "meets", desc := "(ILRetouched$Moment;)V" } : Jvm.MethodName) prog_12_method_2_code (5 : Nat) (Option.none : Option Jvm.ClassFile.FieldType)) ∈ lw_all := lw_g (lw_at lw_m6 218 rfl) rfl
theorem q1563 : (Jvm.Cond.methodLink "Retouched$Question" (29 : Nat) ({ cls := "Retouched$Test", name := "holds", desc := "(LRetouched$Moment;)Z" } : Jvm.MethodName)) ∈ lw_all := lw_g (lw_at lw_m6 219 rfl) rfl
theorem q1564 : (Jvm.Cond.methodLink "Retouched$Question" (35 : Nat) ({ cls := "java/lang/Math", name := "max", desc := "(JJ)J" } : Jvm.MethodName)) ∈ lw_all := lw_g (lw_at lw_m6 220 rfl) rfl
theorem q1565 : (Jvm.Cond.methodLink "Retouched$Question" (45 : Nat) ({ cls := "Retouched$Value", name := "at", desc := "(LRetouched$Moment;)J" } : Jvm.MethodName)) ∈ lw_all := lw_g (lw_at lw_m6 221 rfl) rfl
theorem q1566 : (Jvm.Cond.methodLink "Retouched$Question" (51 : Nat) ({ cls := "java/lang/Math", name := "min", desc := "(JJ)J" } : Jvm.MethodName)) ∈ lw_all := lw_g (lw_at lw_m6 222 rfl) rfl
theorem q1568 : (Jvm.Cond.instanceMethod ({ cls := "Retouched$Question", name := "answer", desc := "()J" } : Jvm.MethodName)) ∈ lw_all := lw_g (lw_at lw_m6 224 rfl) rfl
theorem q1569 : (Jvm.Cond.selects "Retouched$Question" ({ cls := "Retouched$Question", name := "answer", desc := "()J" } : Jvm.MethodName) ({ cls := "Retouched$Question", name := "answer", desc := "()J" } : Jvm.MethodName)) ∈ lw_all := lw_g (lw_at lw_m6 225 rfl) rfl
theorem q1570 : (Jvm.Cond.code ({ cls := "Retouched$Question", name := "answer", desc := "()J" } : Jvm.MethodName) prog_12_method_3_code (1 : Nat) (Option.some Jvm.ClassFile.FieldType.long)) ∈ lw_all := lw_g (lw_at lw_m6 226 rfl) rfl
theorem q2525 : (Jvm.Cond.castable "Retouched$Question" "java/lang/Object") ∈ lw_tbl := lw_at lw_m10 221 rfl
theorem in_X19 : ∀ w ∈ wsX190, w ∈ lw_all := lw_in wsX190 [1548, 1550, 1552, 1554, 1556] (by decide +kernel) (by decide +kernel)
