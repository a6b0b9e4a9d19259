set_option maxRecDepth 100000
abbrev cJ18_equals : ByteArray := prog_23_method_34_code
def yJ18_equals : MethodName := ⟨RJ18, "equals", "(Ljava/lang/Object;)Z"⟩
def dkwJ18_equals_1 : List UInt8 := [167, 0, 4, 3, 172, 3, 172]
abbrev dktJ18_equals_1 : List UInt8 := dkwJ18_equals_1 ++ []
def dkwJ18_equals_0 : List UInt8 := [43, 193, 0, 1, 153, 0, 23, 42, 180, 0, 205, 43, 192, 0, 1, 182, 0, 211, 160, 0, 7, 4]
abbrev dktJ18_equals_0 : List UInt8 := dkwJ18_equals_0 ++ dktJ18_equals_1
theorem dksJ18_equals_0 : cJ18_equals.data.toList.drop 0 = dktJ18_equals_0 := by decide +kernel
theorem dksJ18_equals_1 : cJ18_equals.data.toList.drop 22 = dktJ18_equals_1 := dk_seg dksJ18_equals_0 22 rfl rfl
theorem dJ18_equals_0 : decode cJ18_equals 0 = .ok (.aload_n 1, 1) := dk_43 (dk_at dksJ18_equals_0 0 rfl rfl)
theorem dJ18_equals_1 : decode cJ18_equals 1 = .ok (.instanceof 1, 3) := dk_193 0 1 (dk_at dksJ18_equals_0 1 rfl rfl)
theorem dJ18_equals_4 : decode cJ18_equals 4 = .ok (.ifCond .eq 23, 3) := dk_153 0 23 (dk_at dksJ18_equals_0 4 rfl rfl)
theorem dJ18_equals_7 : decode cJ18_equals 7 = .ok (.aload_n 0, 1) := dk_42 (dk_at dksJ18_equals_0 7 rfl rfl)
theorem dJ18_equals_8 : decode cJ18_equals 8 = .ok (.getfield 205, 3) := dk_180 0 205 (dk_at dksJ18_equals_0 8 rfl rfl)
theorem dJ18_equals_11 : decode cJ18_equals 11 = .ok (.aload_n 1, 1) := dk_43 (dk_at dksJ18_equals_0 11 rfl rfl)
theorem dJ18_equals_12 : decode cJ18_equals 12 = .ok (.checkcast 1, 3) := dk_192 0 1 (dk_at dksJ18_equals_0 12 rfl rfl)
theorem dJ18_equals_15 : decode cJ18_equals 15 = .ok (.invokevirtual 211, 3) := dk_182 0 211 (dk_at dksJ18_equals_0 15 rfl rfl)
theorem dJ18_equals_18 : decode cJ18_equals 18 = .ok (.if_icmp .ne 7, 3) := dk_160 0 7 (dk_at dksJ18_equals_0 18 rfl rfl)
theorem dJ18_equals_21 : decode cJ18_equals 21 = .ok (.iconst 1, 1) := dk_4 (dk_at dksJ18_equals_0 21 rfl rfl)
theorem dJ18_equals_22 : decode cJ18_equals 22 = .ok (.goto 4, 3) := dk_167 0 4 (dk_at dksJ18_equals_1 0 rfl rfl)
theorem dJ18_equals_25 : decode cJ18_equals 25 = .ok (.iconst 0, 1) := dk_3 (dk_at dksJ18_equals_1 3 rfl rfl)
theorem dJ18_equals_26 : decode cJ18_equals 26 = .ok (.ireturn, 1) := dk_172 (dk_at dksJ18_equals_1 4 rfl rfl)
theorem dJ18_equals_27 : decode cJ18_equals 27 = .ok (.iconst 0, 1) := dk_3 (dk_at dksJ18_equals_1 5 rfl rfl)
theorem dJ18_equals_28 : decode cJ18_equals 28 = .ok (.ireturn, 1) := dk_172 (dk_at dksJ18_equals_1 6 rfl rfl)
abbrev cJ18_intValue : ByteArray := prog_23_method_27_code
def yJ18_intValue : MethodName := ⟨RJ18, "intValue", "()I"⟩
theorem dJ18_intValue_0 : decode cJ18_intValue 0 = .ok (.aload_n 0, 1) := by decide +kernel
theorem dJ18_intValue_1 : decode cJ18_intValue 1 = .ok (.getfield 205, 3) := by decide +kernel
theorem dJ18_intValue_4 : decode cJ18_intValue 4 = .ok (.ireturn, 1) := by decide +kernel
abbrev cJ18_valueOf : ByteArray := prog_23_method_22_code
def yJ18_valueOf : MethodName := ⟨RJ18, "valueOf", "(I)Ljava/lang/Integer;"⟩
def dkwJ18_valueOf_1 : List UInt8 := [187, 0, 1, 89, 26, 183, 0, 199, 176]
abbrev dktJ18_valueOf_1 : List UInt8 := dkwJ18_valueOf_1 ++ []
def dkwJ18_valueOf_0 : List UInt8 := [26, 16, 128, 161, 0, 20, 26, 178, 0, 191, 163, 0, 13, 178, 0, 195, 26, 17, 0, 128, 96, 50, 176]
abbrev dktJ18_valueOf_0 : List UInt8 := dkwJ18_valueOf_0 ++ dktJ18_valueOf_1
theorem dksJ18_valueOf_0 : cJ18_valueOf.data.toList.drop 0 = dktJ18_valueOf_0 := by decide +kernel
theorem dksJ18_valueOf_1 : cJ18_valueOf.data.toList.drop 23 = dktJ18_valueOf_1 := dk_seg dksJ18_valueOf_0 23 rfl rfl
theorem dJ18_valueOf_0 : decode cJ18_valueOf 0 = .ok (.iload_n 0, 1) := dk_26 (dk_at dksJ18_valueOf_0 0 rfl rfl)
theorem dJ18_valueOf_1 : decode cJ18_valueOf 1 = .ok (.bipush (-128), 2) := dk_16 128 (dk_at dksJ18_valueOf_0 1 rfl rfl)
theorem dJ18_valueOf_3 : decode cJ18_valueOf 3 = .ok (.if_icmp .lt 20, 3) := dk_161 0 20 (dk_at dksJ18_valueOf_0 3 rfl rfl)
theorem dJ18_valueOf_6 : decode cJ18_valueOf 6 = .ok (.iload_n 0, 1) := dk_26 (dk_at dksJ18_valueOf_0 6 rfl rfl)
theorem dJ18_valueOf_7 : decode cJ18_valueOf 7 = .ok (.getstatic 191, 3) := dk_178 0 191 (dk_at dksJ18_valueOf_0 7 rfl rfl)
theorem dJ18_valueOf_10 : decode cJ18_valueOf 10 = .ok (.if_icmp .gt 13, 3) := dk_163 0 13 (dk_at dksJ18_valueOf_0 10 rfl rfl)
theorem dJ18_valueOf_13 : decode cJ18_valueOf 13 = .ok (.getstatic 195, 3) := dk_178 0 195 (dk_at dksJ18_valueOf_0 13 rfl rfl)
theorem dJ18_valueOf_16 : decode cJ18_valueOf 16 = .ok (.iload_n 0, 1) := dk_26 (dk_at dksJ18_valueOf_0 16 rfl rfl)
theorem dJ18_valueOf_17 : decode cJ18_valueOf 17 = .ok (.sipush 128, 3) := dk_17 0 128 (dk_at dksJ18_valueOf_0 17 rfl rfl)
theorem dJ18_valueOf_20 : decode cJ18_valueOf 20 = .ok (.iadd, 1) := dk_96 (dk_at dksJ18_valueOf_0 20 rfl rfl)
theorem dJ18_valueOf_21 : decode cJ18_valueOf 21 = .ok (.aaload, 1) := dk_50 (dk_at dksJ18_valueOf_0 21 rfl rfl)
theorem dJ18_valueOf_22 : decode cJ18_valueOf 22 = .ok (.areturn, 1) := dk_176 (dk_at dksJ18_valueOf_0 22 rfl rfl)
theorem dJ18_valueOf_23 : decode cJ18_valueOf 23 = .ok (.new 1, 3) := dk_187 0 1 (dk_at dksJ18_valueOf_1 0 rfl rfl)
theorem dJ18_valueOf_26 : decode cJ18_valueOf 26 = .ok (.dup, 1) := dk_89 (dk_at dksJ18_valueOf_1 3 rfl rfl)
theorem dJ18_valueOf_27 : decode cJ18_valueOf 27 = .ok (.iload_n 0, 1) := dk_26 (dk_at dksJ18_valueOf_1 4 rfl rfl)
theorem dJ18_valueOf_28 : decode cJ18_valueOf 28 = .ok (.invokespecial 199, 3) := dk_183 0 199 (dk_at dksJ18_valueOf_1 5 rfl rfl)
theorem dJ18_valueOf_31 : decode cJ18_valueOf 31 = .ok (.areturn, 1) := dk_176 (dk_at dksJ18_valueOf_1 8 rfl rfl)
abbrev cJ18_init : ByteArray := prog_23_method_23_code
def yJ18_init : MethodName := ⟨RJ18, "<init>", "(I)V"⟩
def dkwJ18_init_0 : List UInt8 := [42, 183, 0, 202, 42, 27, 181, 0, 205, 177]
abbrev dktJ18_init_0 : List UInt8 := dkwJ18_init_0 ++ []
theorem dksJ18_init_0 : cJ18_init.data.toList.drop 0 = dktJ18_init_0 := by decide +kernel
theorem dJ18_init_0 : decode cJ18_init 0 = .ok (.aload_n 0, 1) := dk_42 (dk_at dksJ18_init_0 0 rfl rfl)
theorem dJ18_init_1 : decode cJ18_init 1 = .ok (.invokespecial 202, 3) := dk_183 0 202 (dk_at dksJ18_init_0 1 rfl rfl)
theorem dJ18_init_4 : decode cJ18_init 4 = .ok (.aload_n 0, 1) := dk_42 (dk_at dksJ18_init_0 4 rfl rfl)
theorem dJ18_init_5 : decode cJ18_init 5 = .ok (.iload_n 1, 1) := dk_27 (dk_at dksJ18_init_0 5 rfl rfl)
theorem dJ18_init_6 : decode cJ18_init 6 = .ok (.putfield 205, 3) := dk_181 0 205 (dk_at dksJ18_init_0 6 rfl rfl)
theorem dJ18_init_9 : decode cJ18_init 9 = .ok (.return_, 1) := dk_177 (dk_at dksJ18_init_0 9 rfl rfl)
abbrev cJ18_bitCount : ByteArray := prog_23_method_49_code
def yJ18_bitCount : MethodName := ⟨RJ18, "bitCount", "(I)I"⟩
def dkwJ18_bitCount_2 : List UInt8 := [26, 16, 63, 126, 172]
abbrev dktJ18_bitCount_2 : List UInt8 := dkwJ18_bitCount_2 ++ []
def dkwJ18_bitCount_1 : List UInt8 := [26, 26, 7, 124, 96, 19, 1, 11, 126, 59, 26, 26, 16, 8, 124, 96, 59, 26, 26, 16, 16, 124, 96, 59]
abbrev dktJ18_bitCount_1 : List UInt8 := dkwJ18_bitCount_1 ++ dktJ18_bitCount_2
def dkwJ18_bitCount_0 : List UInt8 := [26, 26, 4, 124, 19, 1, 9, 126, 100, 59, 26, 19, 1, 10, 126, 26, 5, 124, 19, 1, 10, 126, 96, 59]
abbrev dktJ18_bitCount_0 : List UInt8 := dkwJ18_bitCount_0 ++ dktJ18_bitCount_1
theorem dksJ18_bitCount_0 : cJ18_bitCount.data.toList.drop 0 = dktJ18_bitCount_0 := by decide +kernel
theorem dksJ18_bitCount_1 : cJ18_bitCount.data.toList.drop 24 = dktJ18_bitCount_1 := dk_seg dksJ18_bitCount_0 24 rfl rfl
theorem dksJ18_bitCount_2 : cJ18_bitCount.data.toList.drop 48 = dktJ18_bitCount_2 := dk_seg dksJ18_bitCount_1 24 rfl rfl
theorem dJ18_bitCount_0 : decode cJ18_bitCount 0 = .ok (.iload_n 0, 1) := dk_26 (dk_at dksJ18_bitCount_0 0 rfl rfl)
theorem dJ18_bitCount_1 : decode cJ18_bitCount 1 = .ok (.iload_n 0, 1) := dk_26 (dk_at dksJ18_bitCount_0 1 rfl rfl)
theorem dJ18_bitCount_2 : decode cJ18_bitCount 2 = .ok (.iconst 1, 1) := dk_4 (dk_at dksJ18_bitCount_0 2 rfl rfl)
theorem dJ18_bitCount_3 : decode cJ18_bitCount 3 = .ok (.iushr, 1) := dk_124 (dk_at dksJ18_bitCount_0 3 rfl rfl)
theorem dJ18_bitCount_4 : decode cJ18_bitCount 4 = .ok (.ldc_w 265, 3) := dk_19 1 9 (dk_at dksJ18_bitCount_0 4 rfl rfl)
theorem dJ18_bitCount_7 : decode cJ18_bitCount 7 = .ok (.iand, 1) := dk_126 (dk_at dksJ18_bitCount_0 7 rfl rfl)
theorem dJ18_bitCount_8 : decode cJ18_bitCount 8 = .ok (.isub, 1) := dk_100 (dk_at dksJ18_bitCount_0 8 rfl rfl)
theorem dJ18_bitCount_9 : decode cJ18_bitCount 9 = .ok (.istore_n 0, 1) := dk_59 (dk_at dksJ18_bitCount_0 9 rfl rfl)
theorem dJ18_bitCount_10 : decode cJ18_bitCount 10 = .ok (.iload_n 0, 1) := dk_26 (dk_at dksJ18_bitCount_0 10 rfl rfl)
theorem dJ18_bitCount_11 : decode cJ18_bitCount 11 = .ok (.ldc_w 266, 3) := dk_19 1 10 (dk_at dksJ18_bitCount_0 11 rfl rfl)
theorem dJ18_bitCount_14 : decode cJ18_bitCount 14 = .ok (.iand, 1) := dk_126 (dk_at dksJ18_bitCount_0 14 rfl rfl)
theorem dJ18_bitCount_15 : decode cJ18_bitCount 15 = .ok (.iload_n 0, 1) := dk_26 (dk_at dksJ18_bitCount_0 15 rfl rfl)
theorem dJ18_bitCount_16 : decode cJ18_bitCount 16 = .ok (.iconst 2, 1) := dk_5 (dk_at dksJ18_bitCount_0 16 rfl rfl)
theorem dJ18_bitCount_17 : decode cJ18_bitCount 17 = .ok (.iushr, 1) := dk_124 (dk_at dksJ18_bitCount_0 17 rfl rfl)
theorem dJ18_bitCount_18 : decode cJ18_bitCount 18 = .ok (.ldc_w 266, 3) := dk_19 1 10 (dk_at dksJ18_bitCount_0 18 rfl rfl)
theorem dJ18_bitCount_21 : decode cJ18_bitCount 21 = .ok (.iand, 1) := dk_126 (dk_at dksJ18_bitCount_0 21 rfl rfl)
theorem dJ18_bitCount_22 : decode cJ18_bitCount 22 = .ok (.iadd, 1) := dk_96 (dk_at dksJ18_bitCount_0 22 rfl rfl)
theorem dJ18_bitCount_23 : decode cJ18_bitCount 23 = .ok (.istore_n 0, 1) := dk_59 (dk_at dksJ18_bitCount_0 23 rfl rfl)
theorem dJ18_bitCount_24 : decode cJ18_bitCount 24 = .ok (.iload_n 0, 1) := dk_26 (dk_at dksJ18_bitCount_1 0 rfl rfl)
theorem dJ18_bitCount_25 : decode cJ18_bitCount 25 = .ok (.iload_n 0, 1) := dk_26 (dk_at dksJ18_bitCount_1 1 rfl rfl)
theorem dJ18_bitCount_26 : decode cJ18_bitCount 26 = .ok (.iconst 4, 1) := dk_7 (dk_at dksJ18_bitCount_1 2 rfl rfl)
theorem dJ18_bitCount_27 : decode cJ18_bitCount 27 = .ok (.iushr, 1) := dk_124 (dk_at dksJ18_bitCount_1 3 rfl rfl)
theorem dJ18_bitCount_28 : decode cJ18_bitCount 28 = .ok (.iadd, 1) := dk_96 (dk_at dksJ18_bitCount_1 4 rfl rfl)
theorem dJ18_bitCount_29 : decode cJ18_bitCount 29 = .ok (.ldc_w 267, 3) := dk_19 1 11 (dk_at dksJ18_bitCount_1 5 rfl rfl)
theorem dJ18_bitCount_32 : decode cJ18_bitCount 32 = .ok (.iand, 1) := dk_126 (dk_at dksJ18_bitCount_1 8 rfl rfl)
theorem dJ18_bitCount_33 : decode cJ18_bitCount 33 = .ok (.istore_n 0, 1) := dk_59 (dk_at dksJ18_bitCount_1 9 rfl rfl)
theorem dJ18_bitCount_34 : decode cJ18_bitCount 34 = .ok (.iload_n 0, 1) := dk_26 (dk_at dksJ18_bitCount_1 10 rfl rfl)
theorem dJ18_bitCount_35 : decode cJ18_bitCount 35 = .ok (.iload_n 0, 1) := dk_26 (dk_at dksJ18_bitCount_1 11 rfl rfl)
theorem dJ18_bitCount_36 : decode cJ18_bitCount 36 = .ok (.bipush 8, 2) := dk_16 8 (dk_at dksJ18_bitCount_1 12 rfl rfl)
theorem dJ18_bitCount_38 : decode cJ18_bitCount 38 = .ok (.iushr, 1) := dk_124 (dk_at dksJ18_bitCount_1 14 rfl rfl)
theorem dJ18_bitCount_39 : decode cJ18_bitCount 39 = .ok (.iadd, 1) := dk_96 (dk_at dksJ18_bitCount_1 15 rfl rfl)
theorem dJ18_bitCount_40 : decode cJ18_bitCount 40 = .ok (.istore_n 0, 1) := dk_59 (dk_at dksJ18_bitCount_1 16 rfl rfl)
theorem dJ18_bitCount_41 : decode cJ18_bitCount 41 = .ok (.iload_n 0, 1) := dk_26 (dk_at dksJ18_bitCount_1 17 rfl rfl)
theorem dJ18_bitCount_42 : decode cJ18_bitCount 42 = .ok (.iload_n 0, 1) := dk_26 (dk_at dksJ18_bitCount_1 18 rfl rfl)
theorem dJ18_bitCount_43 : decode cJ18_bitCount 43 = .ok (.bipush 16, 2) := dk_16 16 (dk_at dksJ18_bitCount_1 19 rfl rfl)
theorem dJ18_bitCount_45 : decode cJ18_bitCount 45 = .ok (.iushr, 1) := dk_124 (dk_at dksJ18_bitCount_1 21 rfl rfl)
theorem dJ18_bitCount_46 : decode cJ18_bitCount 46 = .ok (.iadd, 1) := dk_96 (dk_at dksJ18_bitCount_1 22 rfl rfl)
theorem dJ18_bitCount_47 : decode cJ18_bitCount 47 = .ok (.istore_n 0, 1) := dk_59 (dk_at dksJ18_bitCount_1 23 rfl rfl)
theorem dJ18_bitCount_48 : decode cJ18_bitCount 48 = .ok (.iload_n 0, 1) := dk_26 (dk_at dksJ18_bitCount_2 0 rfl rfl)
theorem dJ18_bitCount_49 : decode cJ18_bitCount 49 = .ok (.bipush 63, 2) := dk_16 63 (dk_at dksJ18_bitCount_2 1 rfl rfl)
theorem dJ18_bitCount_51 : decode cJ18_bitCount 51 = .ok (.iand, 1) := dk_126 (dk_at dksJ18_bitCount_2 3 rfl rfl)
theorem dJ18_bitCount_52 : decode cJ18_bitCount 52 = .ok (.ireturn, 1) := dk_172 (dk_at dksJ18_bitCount_2 4 rfl rfl)
theorem q98 : (Jvm.Cond.initialized "java/lang/Integer") ∈ lw_all := lw_g (lw_at lw_m1 32 rfl) rfl
theorem q586 : (Jvm.Cond.selects "java/lang/Integer" ({ cls := "java/lang/Object", name := "equals", desc := "(Ljava/lang/Object;)Z" } : Jvm.MethodName) ({ cls := "java/lang/Integer", name := "equals", desc := "(Ljava/lang/Object;)Z" } : Jvm.MethodName)) ∈ lw_all := lw_g (lw_at lw_m3 40 rfl) rfl
theorem q587 : (Jvm.Cond.instanceMethod ({ cls := "java/lang/Integer", name := "equals", desc := "(Ljava/lang/Object;)Z" } : Jvm.MethodName)) ∈ lw_all := lw_g (lw_at lw_m3 41 rfl) rfl
theorem q588 : (Jvm.Cond.code ({ cls := "java/lang/Integer", name := "equals", desc := "(Ljava/lang/Object;)Z" } : Jvm.MethodName) prog_23_method_34_code (2 : Nat) (Option.some Jvm.ClassFile.FieldType.boolean)) ∈ lw_all := lw_g (lw_at lw_m3 42 rfl) rfl
theorem q589 : (Jvm.Cond.classLink "java/lang/Integer" (1 : Nat) "java/lang/Integer") ∈ lw_all := lw_g (lw_at lw_m3 43 rfl) rfl
theorem q590 : (Jvm.Cond.methodLink "java/lang/Integer" (211 : Nat) ({ cls := "java/lang/Integer", name := "intValue", desc := "()I" } : Jvm.MethodName)) ∈ lw_all := lw_g (lw_at lw_m3 44 rfl) rfl
theorem q591 : (Jvm.Cond.instanceMethod ({ cls := "java/lang/Integer", name := "intValue", desc := "()I" } : Jvm.MethodName)) ∈ lw_all := lw_g (lw_at lw_m3 45 rfl) rfl
theorem q592 : (Jvm.Cond.selects "java/lang/Integer" ({ cls := "java/lang/Integer", name := "intValue", desc := "()I" } : Jvm.MethodName) ({ cls := "java/lang/Integer", name := "intValue", desc := "()I" } : Jvm.MethodName)) ∈ lw_all := lw_g (lw_at lw_m3 46 rfl) rfl
theorem q593 : (Jvm.Cond.code ({ cls := "java/lang/Integer", name := "intValue", desc := "()I" } : Jvm.MethodName) prog_23_method_27_code (1 : Nat) (Option.some Jvm.ClassFile.FieldType.int)) ∈ lw_all := lw_g (lw_at lw_m3 47 rfl) rfl
theorem q1077 : (Jvm.Cond.static ({ cls := "java/lang/Integer", name := "valueOf", desc := "(I)Ljava/lang/Integer;" } : Jvm.MethodName)) ∈ lw_all := lw_g (lw_at lw_m5 51 rfl) rfl
theorem q1078 : (Jvm.Cond.code ({ cls := "java/lang/Integer", name := "valueOf", desc := "(I)Ljava/lang/Integer;" } : Jvm.MethodName) prog_23_method_22_code (1 : Nat) (Option.some (Jvm.ClassFile.FieldType.object "java/lang/Integer"))) ∈ lw_all := lw_g (lw_at lw_m5 52 rfl) rfl
theorem q1079 : (Jvm.Cond.fieldLink "java/lang/Integer" (191 : Nat) "java/lang/Integer$IntegerCache" "high" "I") ∈ lw_all := lw_g (lw_at lw_m5 53 rfl) rfl
theorem q1081 : (Jvm.Cond.fieldLink "java/lang/Integer" (195 : Nat) "java/lang/Integer$IntegerCache" "cache" "[Ljava/lang/Integer;") ∈ lw_all := lw_g (lw_at lw_m5 55 rfl) rfl
theorem q1083 : (Jvm.Cond.instantiable "java/lang/Integer" (1 : Nat)) ∈ lw_all := lw_g (lw_at lw_m5 57 rfl) rfl
theorem q1084 : (Jvm.Cond.methodLink "java/lang/Integer" (199 : Nat) ({ cls := "java/lang/Integer", name := "<init>", desc := "(I)V" } : Jvm.MethodName)) ∈ lw_all := lw_g (lw_at lw_m5 58 rfl) rfl
theorem q1085 : (Jvm.Cond.instanceMethod ({ cls := "java/lang/Integer", name := "<init>", desc := "(I)V" } : Jvm.MethodName)) ∈ lw_all := lw_g (lw_at lw_m5 59 rfl) rfl
theorem q1086 : (Jvm.Cond.code ({ cls := "java/lang/Integer", name := "<init>", desc := "(I)V" } : Jvm.MethodName) prog_23_method_23_code (2 : Nat) (Option.none : Option Jvm.ClassFile.FieldType)) ∈ lw_all := lw_g (lw_at lw_m5 60 rfl) rfl
theorem q1087 : (Jvm.Cond.methodLink "java/lang/Integer" (202 : Nat) ({ cls := "java/lang/Number", name := "<init>", desc := "()V" } : Jvm.MethodName)) ∈ lw_all := lw_g (lw_at lw_m5 61 rfl) rfl
theorem q1091 : (Jvm.Cond.fieldLink "java/lang/Integer" (205 : Nat) "java/lang/Integer" "value" "I") ∈ lw_all := lw_g (lw_at lw_m5 65 rfl) rfl
theorem q1092 : (Jvm.Cond.laysFinal "java/lang/Integer" "java/lang/Integer" "value" "I") ∈ lw_all := lw_g (lw_at lw_m5 66 rfl) rfl
theorem q1093 : (Jvm.Cond.soleField "java/lang/Integer" "value") ∈ lw_all := lw_g (lw_at lw_m5 67 rfl) rfl
theorem q1094 : (Jvm.Cond.superclass "java/lang/Integer" "java/lang/Number") ∈ lw_all := lw_g (lw_at lw_m5 68 rfl) rfl
theorem q1172 : (Jvm.Cond.static ({ cls := "java/lang/Integer", name := "bitCount", desc := "(I)I" } : Jvm.MethodName)) ∈ lw_all := lw_g (lw_at lw_m5 146 rfl) rfl
theorem q1173 : (Jvm.Cond.code ({ cls := "java/lang/Integer", name := "bitCount", desc := "(I)I" } : Jvm.MethodName) prog_23_method_49_code (1 : Nat) (Option.some Jvm.ClassFile.FieldType.int)) ∈ lw_all := lw_g (lw_at lw_m5 147 rfl) rfl
theorem q1174 : (Jvm.Cond.constant "java/lang/Integer" (265 : Nat) (1431655765 : Int32)) ∈ lw_all := lw_g (lw_at lw_m5 148 rfl) rfl
theorem q1175 : (Jvm.Cond.constant "java/lang/Integer" (266 : Nat) (858993459 : Int32)) ∈ lw_all := lw_g (lw_at lw_m5 149 rfl) rfl
theorem q1176 : (Jvm.Cond.constant "java/lang/Integer" (267 : Nat) (252645135 : Int32)) ∈ lw_all := lw_g (lw_at lw_m5 150 rfl) rfl
theorem q1576 : (Jvm.Cond.castable "java/lang/Integer" "java/lang/Object") ∈ lw_tbl := lw_at lw_m7 70 rfl
abbrev cJ19_init : ByteArray := object_method_1_code
def yJ19_init : MethodName := ⟨RJ19, "<init>", "()V"⟩
theorem dJ19_init_0 : decode cJ19_init 0 = .ok (.return_, 1) := by decide +kernel
abbrev cJ19_equals : ByteArray := object_method_4_code
def yJ19_equals : MethodName := ⟨RJ19, "equals", "(Ljava/lang/Object;)Z"⟩
def dkwJ19_equals_0 : List UInt8 := [42, 43, 166, 0, 7, 4, 167, 0, 4, 3, 172]
abbrev dktJ19_equals_0 : List UInt8 := dkwJ19_equals_0 ++ []
theorem dksJ19_equals_0 : cJ19_equals.data.toList.drop 0 = dktJ19_equals_0 := by decide +kernel
theorem dJ19_equals_0 : decode cJ19_equals 0 = .ok (.aload_n 0, 1) := dk_42 (dk_at dksJ19_equals_0 0 rfl rfl)
theorem dJ19_equals_1 : decode cJ19_equals 1 = .ok (.aload_n 1, 1) := dk_43 (dk_at dksJ19_equals_0 1 rfl rfl)
theorem dJ19_equals_2 : decode cJ19_equals 2 = .ok (.if_acmp .ne 7, 3) := dk_166 0 7 (dk_at dksJ19_equals_0 2 rfl rfl)
theorem dJ19_equals_5 : decode cJ19_equals 5 = .ok (.iconst 1, 1) := dk_4 (dk_at dksJ19_equals_0 5 rfl rfl)
theorem dJ19_equals_6 : decode cJ19_equals 6 = .ok (.goto 4, 3) := dk_167 0 4 (dk_at dksJ19_equals_0 6 rfl rfl)
theorem dJ19_equals_9 : decode cJ19_equals 9 = .ok (.iconst 0, 1) := dk_3 (dk_at dksJ19_equals_0 9 rfl rfl)
theorem dJ19_equals_10 : decode cJ19_equals 10 = .ok (.ireturn, 1) := dk_172 (dk_at dksJ19_equals_0 10 rfl rfl)
theorem q106 : (Jvm.Cond.instanceMethod ({ cls := "java/lang/Object", name := "<init>", desc := "()V" } : Jvm.MethodName)) ∈ lw_all := lw_g (lw_at lw_m1 40 rfl) rfl
theorem q107 : (Jvm.Cond.code ({ cls := "java/lang/Object", name := "<init>", desc := "()V" } : Jvm.MethodName) object_method_1_code (1 : Nat) (Option.none : Option Jvm.ClassFile.FieldType)) ∈ lw_all := lw_g (lw_at lw_m1 41 rfl) rfl
theorem q408 : (Jvm.Cond.native ({ cls := "java/lang/Object", name := "clone", desc := "()Ljava/lang/Object;" } : Jvm.MethodName)) ∈ lw_all := lw_g (lw_at lw_m2 102 rfl) rfl
theorem q409 : (Jvm.Cond.instanceMethod ({ cls := "java/lang/Object", name := "clone", desc := "()Ljava/lang/Object;" } : Jvm.MethodName)) ∈ lw_all := lw_g (lw_at lw_m2 103 rfl) rfl
theorem q571 : (Jvm.Cond.declares ({ cls := "java/lang/Object", name := "equals", desc := "(Ljava/lang/Object;)Z" } : Jvm.MethodName)) ∈ lw_tbl := lw_at lw_m3 25 rfl
theorem q573 : (Jvm.Cond.instanceMethod ({ cls := "java/lang/Object", name := "equals", desc := "(Ljava/lang/Object;)Z" } : Jvm.MethodName)) ∈ lw_all := lw_g (lw_at lw_m3 27 rfl) rfl
theorem q574 : (Jvm.Cond.sameMethod "java/lang/Object" "java/lang/Object" "equals" "(Ljava/lang/Object;)Z") ∈ lw_all := lw_g (lw_at lw_m3 28 rfl) rfl
theorem q602 : (Jvm.Cond.code ({ cls := "java/lang/Object", name := "equals", desc := "(Ljava/lang/Object;)Z" } : Jvm.MethodName) object_method_4_code (2 : Nat) (Option.some Jvm.ClassFile.FieldType.boolean)) ∈ lw_all := lw_g (lw_at lw_m3 56 rfl) rfl
theorem q1559 : (Jvm.Cond.initialized "java/lang/Object") ∈ lw_all := lw_g (lw_at lw_m7 53 rfl) rfl
abbrev cJ5_max : ByteArray := prog_26_method_65_code
def yJ5_max : MethodName := ⟨RJ5, "max", "(II)I"⟩
def dkwJ5_max_0 : List UInt8 := [26, 27, 161, 0, 7, 26, 167, 0, 4, 27, 172]
abbrev dktJ5_max_0 : List UInt8 := dkwJ5_max_0 ++ []
theorem dksJ5_max_0 : cJ5_max.data.toList.drop 0 = dktJ5_max_0 := by decide +kernel
theorem dJ5_max_0 : decode cJ5_max 0 = .ok (.iload_n 0, 1) := dk_26 (dk_at dksJ5_max_0 0 rfl rfl)
theorem dJ5_max_1 : decode cJ5_max 1 = .ok (.iload_n 1, 1) := dk_27 (dk_at dksJ5_max_0 1 rfl rfl)
theorem dJ5_max_2 : decode cJ5_max 2 = .ok (.if_icmp .lt 7, 3) := dk_161 0 7 (dk_at dksJ5_max_0 2 rfl rfl)
theorem dJ5_max_5 : decode cJ5_max 5 = .ok (.iload_n 0, 1) := dk_26 (dk_at dksJ5_max_0 5 rfl rfl)
theorem dJ5_max_6 : decode cJ5_max 6 = .ok (.goto 4, 3) := dk_167 0 4 (dk_at dksJ5_max_0 6 rfl rfl)
theorem dJ5_max_9 : decode cJ5_max 9 = .ok (.iload_n 1, 1) := dk_27 (dk_at dksJ5_max_0 9 rfl rfl)
theorem dJ5_max_10 : decode cJ5_max 10 = .ok (.ireturn, 1) := dk_172 (dk_at dksJ5_max_0 10 rfl rfl)
abbrev cJ5_min : ByteArray := prog_26_method_69_code
def yJ5_min : MethodName := ⟨RJ5, "min", "(II)I"⟩
def dkwJ5_min_0 : List UInt8 := [26, 27, 163, 0, 7, 26, 167, 0, 4, 27, 172]
abbrev dktJ5_min_0 : List UInt8 := dkwJ5_min_0 ++ []
theorem dksJ5_min_0 : cJ5_min.data.toList.drop 0 = dktJ5_min_0 := by decide +kernel
theorem dJ5_min_0 : decode cJ5_min 0 = .ok (.iload_n 0, 1) := dk_26 (dk_at dksJ5_min_0 0 rfl rfl)
theorem dJ5_min_1 : decode cJ5_min 1 = .ok (.iload_n 1, 1) := dk_27 (dk_at dksJ5_min_0 1 rfl rfl)
theorem dJ5_min_2 : decode cJ5_min 2 = .ok (.if_icmp .gt 7, 3) := dk_163 0 7 (dk_at dksJ5_min_0 2 rfl rfl)
theorem dJ5_min_5 : decode cJ5_min 5 = .ok (.iload_n 0, 1) := dk_26 (dk_at dksJ5_min_0 5 rfl rfl)
theorem dJ5_min_6 : decode cJ5_min 6 = .ok (.goto 4, 3) := dk_167 0 4 (dk_at dksJ5_min_0 6 rfl rfl)
theorem dJ5_min_9 : decode cJ5_min 9 = .ok (.iload_n 1, 1) := dk_27 (dk_at dksJ5_min_0 9 rfl rfl)
theorem dJ5_min_10 : decode cJ5_min 10 = .ok (.ireturn, 1) := dk_172 (dk_at dksJ5_min_0 10 rfl rfl)
theorem q79 : (Jvm.Cond.initialized "java/lang/Math") ∈ lw_all := lw_g (lw_at lw_m1 13 rfl) rfl
theorem q396 : (Jvm.Cond.static ({ cls := "java/lang/Math", name := "max", desc := "(II)I" } : Jvm.MethodName)) ∈ lw_all := lw_g (lw_at lw_m2 90 rfl) rfl
theorem q397 : (Jvm.Cond.code ({ cls := "java/lang/Math", name := "max", desc := "(II)I" } : Jvm.MethodName) prog_26_method_65_code (2 : Nat) (Option.some Jvm.ClassFile.FieldType.int)) ∈ lw_all := lw_g (lw_at lw_m2 91 rfl) rfl
theorem q414 : (Jvm.Cond.static ({ cls := "java/lang/Math", name := "min", desc := "(II)I" } : Jvm.MethodName)) ∈ lw_all := lw_g (lw_at lw_m2 108 rfl) rfl
theorem q415 : (Jvm.Cond.code ({ cls := "java/lang/Math", name := "min", desc := "(II)I" } : Jvm.MethodName) prog_26_method_69_code (2 : Nat) (Option.some Jvm.ClassFile.FieldType.int)) ∈ lw_all := lw_g (lw_at lw_m2 109 rfl) rfl
abbrev cJ6_copyOf : ByteArray := prog_40_method_121_code
def yJ6_copyOf : MethodName := ⟨RJ6, "copyOf", "([BI)[B"⟩
def dkwJ6_copyOf_1 : List UInt8 := [27, 184, 1, 48, 184, 0, 150, 44, 176]
abbrev dktJ6_copyOf_1 : List UInt8 := dkwJ6_copyOf_1 ++ []
def dkwJ6_copyOf_0 : List UInt8 := [27, 42, 190, 160, 0, 11, 42, 182, 1, 54, 192, 1, 55, 176, 27, 188, 8, 77, 42, 3, 44, 3, 42, 190]
abbrev dktJ6_copyOf_0 : List UInt8 := dkwJ6_copyOf_0 ++ dktJ6_copyOf_1
theorem dksJ6_copyOf_0 : cJ6_copyOf.data.toList.drop 0 = dktJ6_copyOf_0 := by decide +kernel
theorem dksJ6_copyOf_1 : cJ6_copyOf.data.toList.drop 24 = dktJ6_copyOf_1 := dk_seg dksJ6_copyOf_0 24 rfl rfl
theorem dJ6_copyOf_0 : decode cJ6_copyOf 0 = .ok (.iload_n 1, 1) := dk_27 (dk_at dksJ6_copyOf_0 0 rfl rfl)
theorem dJ6_copyOf_1 : decode cJ6_copyOf 1 = .ok (.aload_n 0, 1) := dk_42 (dk_at dksJ6_copyOf_0 1 rfl rfl)
theorem dJ6_copyOf_2 : decode cJ6_copyOf 2 = .ok (.arraylength, 1) := dk_190 (dk_at dksJ6_copyOf_0 2 rfl rfl)
theorem dJ6_copyOf_3 : decode cJ6_copyOf 3 = .ok (.if_icmp .ne 11, 3) := dk_160 0 11 (dk_at dksJ6_copyOf_0 3 rfl rfl)
theorem dJ6_copyOf_6 : decode cJ6_copyOf 6 = .ok (.aload_n 0, 1) := dk_42 (dk_at dksJ6_copyOf_0 6 rfl rfl)
theorem dJ6_copyOf_7 : decode cJ6_copyOf 7 = .ok (.invokevirtual 310, 3) := dk_182 1 54 (dk_at dksJ6_copyOf_0 7 rfl rfl)
theorem dJ6_copyOf_10 : decode cJ6_copyOf 10 = .ok (.checkcast 311, 3) := dk_192 1 55 (dk_at dksJ6_copyOf_0 10 rfl rfl)
theorem dJ6_copyOf_13 : decode cJ6_copyOf 13 = .ok (.areturn, 1) := dk_176 (dk_at dksJ6_copyOf_0 13 rfl rfl)
theorem dJ6_copyOf_14 : decode cJ6_copyOf 14 = .ok (.iload_n 1, 1) := dk_27 (dk_at dksJ6_copyOf_0 14 rfl rfl)
theorem dJ6_copyOf_15 : decode cJ6_copyOf 15 = .ok (.newarray .byte, 2) := dk_188_8 (dk_at dksJ6_copyOf_0 15 rfl rfl)
theorem dJ6_copyOf_17 : decode cJ6_copyOf 17 = .ok (.astore_n 2, 1) := dk_77 (dk_at dksJ6_copyOf_0 17 rfl rfl)
theorem dJ6_copyOf_18 : decode cJ6_copyOf 18 = .ok (.aload_n 0, 1) := dk_42 (dk_at dksJ6_copyOf_0 18 rfl rfl)
theorem dJ6_copyOf_19 : decode cJ6_copyOf 19 = .ok (.iconst 0, 1) := dk_3 (dk_at dksJ6_copyOf_0 19 rfl rfl)
theorem dJ6_copyOf_20 : decode cJ6_copyOf 20 = .ok (.aload_n 2, 1) := dk_44 (dk_at dksJ6_copyOf_0 20 rfl rfl)
theorem dJ6_copyOf_21 : decode cJ6_copyOf 21 = .ok (.iconst 0, 1) := dk_3 (dk_at dksJ6_copyOf_0 21 rfl rfl)
theorem dJ6_copyOf_22 : decode cJ6_copyOf 22 = .ok (.aload_n 0, 1) := dk_42 (dk_at dksJ6_copyOf_0 22 rfl rfl)
theorem dJ6_copyOf_23 : decode cJ6_copyOf 23 = .ok (.arraylength, 1) := dk_190 (dk_at dksJ6_copyOf_0 23 rfl rfl)
theorem dJ6_copyOf_24 : decode cJ6_copyOf 24 = .ok (.iload_n 1, 1) := dk_27 (dk_at dksJ6_copyOf_1 0 rfl rfl)
theorem dJ6_copyOf_25 : decode cJ6_copyOf 25 = .ok (.invokestatic 304, 3) := dk_184 1 48 (dk_at dksJ6_copyOf_1 1 rfl rfl)
theorem dJ6_copyOf_28 : decode cJ6_copyOf 28 = .ok (.invokestatic 150, 3) := dk_184 0 150 (dk_at dksJ6_copyOf_1 4 rfl rfl)
theorem dJ6_copyOf_31 : decode cJ6_copyOf 31 = .ok (.aload_n 2, 1) := dk_44 (dk_at dksJ6_copyOf_1 7 rfl rfl)
theorem dJ6_copyOf_32 : decode cJ6_copyOf 32 = .ok (.areturn, 1) := dk_176 (dk_at dksJ6_copyOf_1 8 rfl rfl)
abbrev cJ6_copyOfRange : ByteArray := prog_40_method_132_code
def yJ6_copyOfRange : MethodName := ⟨RJ6, "copyOfRange", "([BII)[B"⟩
def dkwJ6_copyOfRange_1 : List UInt8 := [176]
abbrev dktJ6_copyOfRange_1 : List UInt8 := dkwJ6_copyOfRange_1 ++ []
def dkwJ6_copyOfRange_0 : List UInt8 := [27, 154, 0, 9, 28, 42, 190, 159, 0, 10, 42, 27, 28, 184, 1, 83, 176, 42, 182, 1, 54, 192, 1, 55]
abbrev dktJ6_copyOfRange_0 : List UInt8 := dkwJ6_copyOfRange_0 ++ dktJ6_copyOfRange_1
theorem dksJ6_copyOfRange_0 : cJ6_copyOfRange.data.toList.drop 0 = dktJ6_copyOfRange_0 := by decide +kernel
theorem dksJ6_copyOfRange_1 : cJ6_copyOfRange.data.toList.drop 24 = dktJ6_copyOfRange_1 := dk_seg dksJ6_copyOfRange_0 24 rfl rfl
theorem dJ6_copyOfRange_0 : decode cJ6_copyOfRange 0 = .ok (.iload_n 1, 1) := dk_27 (dk_at dksJ6_copyOfRange_0 0 rfl rfl)
theorem dJ6_copyOfRange_1 : decode cJ6_copyOfRange 1 = .ok (.ifCond .ne 9, 3) := dk_154 0 9 (dk_at dksJ6_copyOfRange_0 1 rfl rfl)
theorem dJ6_copyOfRange_4 : decode cJ6_copyOfRange 4 = .ok (.iload_n 2, 1) := dk_28 (dk_at dksJ6_copyOfRange_0 4 rfl rfl)
theorem dJ6_copyOfRange_5 : decode cJ6_copyOfRange 5 = .ok (.aload_n 0, 1) := dk_42 (dk_at dksJ6_copyOfRange_0 5 rfl rfl)
theorem dJ6_copyOfRange_6 : decode cJ6_copyOfRange 6 = .ok (.arraylength, 1) := dk_190 (dk_at dksJ6_copyOfRange_0 6 rfl rfl)
theorem dJ6_copyOfRange_7 : decode cJ6_copyOfRange 7 = .ok (.if_icmp .eq 10, 3) := dk_159 0 10 (dk_at dksJ6_copyOfRange_0 7 rfl rfl)
theorem dJ6_copyOfRange_10 : decode cJ6_copyOfRange 10 = .ok (.aload_n 0, 1) := dk_42 (dk_at dksJ6_copyOfRange_0 10 rfl rfl)
theorem dJ6_copyOfRange_11 : decode cJ6_copyOfRange 11 = .ok (.iload_n 1, 1) := dk_27 (dk_at dksJ6_copyOfRange_0 11 rfl rfl)
theorem dJ6_copyOfRange_12 : decode cJ6_copyOfRange 12 = .ok (.iload_n 2, 1) := dk_28 (dk_at dksJ6_copyOfRange_0 12 rfl rfl)
theorem dJ6_copyOfRange_13 : decode cJ6_copyOfRange 13 = .ok (.invokestatic 339, 3) := dk_184 1 83 (dk_at dksJ6_copyOfRange_0 13 rfl rfl)
theorem dJ6_copyOfRange_16 : decode cJ6_copyOfRange 16 = .ok (.areturn, 1) := dk_176 (dk_at dksJ6_copyOfRange_0 16 rfl rfl)
theorem dJ6_copyOfRange_17 : decode cJ6_copyOfRange 17 = .ok (.aload_n 0, 1) := dk_42 (dk_at dksJ6_copyOfRange_0 17 rfl rfl)
theorem dJ6_copyOfRange_18 : decode cJ6_copyOfRange 18 = .ok (.invokevirtual 310, 3) := dk_182 1 54 (dk_at dksJ6_copyOfRange_0 18 rfl rfl)
theorem dJ6_copyOfRange_21 : decode cJ6_copyOfRange 21 = .ok (.checkcast 311, 3) := dk_192 1 55 (dk_at dksJ6_copyOfRange_0 21 rfl rfl)
theorem dJ6_copyOfRange_24 : decode cJ6_copyOfRange 24 = .ok (.areturn, 1) := dk_176 (dk_at dksJ6_copyOfRange_1 0 rfl rfl)
abbrev cJ6_copyOfRangeByte : ByteArray := prog_40_method_133_code
def yJ6_copyOfRangeByte : MethodName := ⟨RJ6, "copyOfRangeByte", "([BII)[B"⟩
def dkwJ6_copyOfRangeByte_1 : List UInt8 := [184, 1, 48, 184, 0, 150, 25, 4, 176]
abbrev dktJ6_copyOfRangeByte_1 : List UInt8 := dkwJ6_copyOfRangeByte_1 ++ []
def dkwJ6_copyOfRangeByte_0 : List UInt8 := [27, 28, 184, 1, 87, 28, 27, 100, 62, 29, 188, 8, 58, 4, 42, 27, 25, 4, 3, 42, 190, 27, 100, 29]
abbrev dktJ6_copyOfRangeByte_0 : List UInt8 := dkwJ6_copyOfRangeByte_0 ++ dktJ6_copyOfRangeByte_1
theorem dksJ6_copyOfRangeByte_0 : cJ6_copyOfRangeByte.data.toList.drop 0 = dktJ6_copyOfRangeByte_0 := by decide +kernel
theorem dksJ6_copyOfRangeByte_1 : cJ6_copyOfRangeByte.data.toList.drop 24 = dktJ6_copyOfRangeByte_1 := dk_seg dksJ6_copyOfRangeByte_0 24 rfl rfl
theorem dJ6_copyOfRangeByte_0 : decode cJ6_copyOfRangeByte 0 = .ok (.iload_n 1, 1) := dk_27 (dk_at dksJ6_copyOfRangeByte_0 0 rfl rfl)
theorem dJ6_copyOfRangeByte_1 : decode cJ6_copyOfRangeByte 1 = .ok (.iload_n 2, 1) := dk_28 (dk_at dksJ6_copyOfRangeByte_0 1 rfl rfl)
theorem dJ6_copyOfRangeByte_2 : decode cJ6_copyOfRangeByte 2 = .ok (.invokestatic 343, 3) := dk_184 1 87 (dk_at dksJ6_copyOfRangeByte_0 2 rfl rfl)
theorem dJ6_copyOfRangeByte_5 : decode cJ6_copyOfRangeByte 5 = .ok (.iload_n 2, 1) := dk_28 (dk_at dksJ6_copyOfRangeByte_0 5 rfl rfl)
theorem dJ6_copyOfRangeByte_6 : decode cJ6_copyOfRangeByte 6 = .ok (.iload_n 1, 1) := dk_27 (dk_at dksJ6_copyOfRangeByte_0 6 rfl rfl)
theorem dJ6_copyOfRangeByte_7 : decode cJ6_copyOfRangeByte 7 = .ok (.isub, 1) := dk_100 (dk_at dksJ6_copyOfRangeByte_0 7 rfl rfl)
theorem dJ6_copyOfRangeByte_8 : decode cJ6_copyOfRangeByte 8 = .ok (.istore_n 3, 1) := dk_62 (dk_at dksJ6_copyOfRangeByte_0 8 rfl rfl)
theorem dJ6_copyOfRangeByte_9 : decode cJ6_copyOfRangeByte 9 = .ok (.iload_n 3, 1) := dk_29 (dk_at dksJ6_copyOfRangeByte_0 9 rfl rfl)
theorem dJ6_copyOfRangeByte_10 : decode cJ6_copyOfRangeByte 10 = .ok (.newarray .byte, 2) := dk_188_8 (dk_at dksJ6_copyOfRangeByte_0 10 rfl rfl)
theorem dJ6_copyOfRangeByte_12 : decode cJ6_copyOfRangeByte 12 = .ok (.astore 4, 2) := dk_58 4 (dk_at dksJ6_copyOfRangeByte_0 12 rfl rfl)
theorem dJ6_copyOfRangeByte_14 : decode cJ6_copyOfRangeByte 14 = .ok (.aload_n 0, 1) := dk_42 (dk_at dksJ6_copyOfRangeByte_0 14 rfl rfl)
theorem dJ6_copyOfRangeByte_15 : decode cJ6_copyOfRangeByte 15 = .ok (.iload_n 1, 1) := dk_27 (dk_at dksJ6_copyOfRangeByte_0 15 rfl rfl)
theorem dJ6_copyOfRangeByte_16 : decode cJ6_copyOfRangeByte 16 = .ok (.aload 4, 2) := dk_25 4 (dk_at dksJ6_copyOfRangeByte_0 16 rfl rfl)
theorem dJ6_copyOfRangeByte_18 : decode cJ6_copyOfRangeByte 18 = .ok (.iconst 0, 1) := dk_3 (dk_at dksJ6_copyOfRangeByte_0 18 rfl rfl)
theorem dJ6_copyOfRangeByte_19 : decode cJ6_copyOfRangeByte 19 = .ok (.aload_n 0, 1) := dk_42 (dk_at dksJ6_copyOfRangeByte_0 19 rfl rfl)
theorem dJ6_copyOfRangeByte_20 : decode cJ6_copyOfRangeByte 20 = .ok (.arraylength, 1) := dk_190 (dk_at dksJ6_copyOfRangeByte_0 20 rfl rfl)
theorem dJ6_copyOfRangeByte_21 : decode cJ6_copyOfRangeByte 21 = .ok (.iload_n 1, 1) := dk_27 (dk_at dksJ6_copyOfRangeByte_0 21 rfl rfl)
theorem dJ6_copyOfRangeByte_22 : decode cJ6_copyOfRangeByte 22 = .ok (.isub, 1) := dk_100 (dk_at dksJ6_copyOfRangeByte_0 22 rfl rfl)
theorem dJ6_copyOfRangeByte_23 : decode cJ6_copyOfRangeByte 23 = .ok (.iload_n 3, 1) := dk_29 (dk_at dksJ6_copyOfRangeByte_0 23 rfl rfl)
theorem dJ6_copyOfRangeByte_24 : decode cJ6_copyOfRangeByte 24 = .ok (.invokestatic 304, 3) := dk_184 1 48 (dk_at dksJ6_copyOfRangeByte_1 0 rfl rfl)
theorem dJ6_copyOfRangeByte_27 : decode cJ6_copyOfRangeByte 27 = .ok (.invokestatic 150, 3) := dk_184 0 150 (dk_at dksJ6_copyOfRangeByte_1 3 rfl rfl)
theorem dJ6_copyOfRangeByte_30 : decode cJ6_copyOfRangeByte 30 = .ok (.aload 4, 2) := dk_25 4 (dk_at dksJ6_copyOfRangeByte_1 6 rfl rfl)
theorem dJ6_copyOfRangeByte_32 : decode cJ6_copyOfRangeByte 32 = .ok (.areturn, 1) := dk_176 (dk_at dksJ6_copyOfRangeByte_1 8 rfl rfl)
abbrev cJ6_checkLength : ByteArray := prog_40_method_131_code
def yJ6_checkLength : MethodName := ⟨RJ6, "checkLength", "(II)V"⟩
def dkwJ6_checkLength_1 : List UInt8 := [182, 0, 50, 27, 182, 0, 54, 182, 0, 61, 183, 0, 65, 191, 177]
abbrev dktJ6_checkLength_1 : List UInt8 := dkwJ6_checkLength_1 ++ []
def dkwJ6_checkLength_0 : List UInt8 := [27, 26, 162, 0, 35, 187, 0, 43, 89, 187, 0, 45, 89, 183, 0, 47, 26, 182, 0, 54, 19, 1, 81]
abbrev dktJ6_checkLength_0 : List UInt8 := dkwJ6_checkLength_0 ++ dktJ6_checkLength_1
theorem dksJ6_checkLength_0 : cJ6_checkLength.data.toList.drop 0 = dktJ6_checkLength_0 := by decide +kernel
theorem dksJ6_checkLength_1 : cJ6_checkLength.data.toList.drop 23 = dktJ6_checkLength_1 := dk_seg dksJ6_checkLength_0 23 rfl rfl
theorem dJ6_checkLength_0 : decode cJ6_checkLength 0 = .ok (.iload_n 1, 1) := dk_27 (dk_at dksJ6_checkLength_0 0 rfl rfl)
theorem dJ6_checkLength_1 : decode cJ6_checkLength 1 = .ok (.iload_n 0, 1) := dk_26 (dk_at dksJ6_checkLength_0 1 rfl rfl)
theorem dJ6_checkLength_2 : decode cJ6_checkLength 2 = .ok (.if_icmp .ge 35, 3) := dk_162 0 35 (dk_at dksJ6_checkLength_0 2 rfl rfl)
theorem dJ6_checkLength_5 : decode cJ6_checkLength 5 = .ok (.new 43, 3) := dk_187 0 43 (dk_at dksJ6_checkLength_0 5 rfl rfl)
theorem dJ6_checkLength_8 : decode cJ6_checkLength 8 = .ok (.dup, 1) := dk_89 (dk_at dksJ6_checkLength_0 8 rfl rfl)
theorem dJ6_checkLength_9 : decode cJ6_checkLength 9 = .ok (.new 45, 3) := dk_187 0 45 (dk_at dksJ6_checkLength_0 9 rfl rfl)
theorem dJ6_checkLength_12 : decode cJ6_checkLength 12 = .ok (.dup, 1) := dk_89 (dk_at dksJ6_checkLength_0 12 rfl rfl)
theorem dJ6_checkLength_13 : decode cJ6_checkLength 13 = .ok (.invokespecial 47, 3) := dk_183 0 47 (dk_at dksJ6_checkLength_0 13 rfl rfl)
theorem dJ6_checkLength_16 : decode cJ6_checkLength 16 = .ok (.iload_n 0, 1) := dk_26 (dk_at dksJ6_checkLength_0 16 rfl rfl)
theorem dJ6_checkLength_17 : decode cJ6_checkLength 17 = .ok (.invokevirtual 54, 3) := dk_182 0 54 (dk_at dksJ6_checkLength_0 17 rfl rfl)
theorem dJ6_checkLength_20 : decode cJ6_checkLength 20 = .ok (.ldc_w 337, 3) := dk_19 1 81 (dk_at dksJ6_checkLength_0 20 rfl rfl)
theorem dJ6_checkLength_23 : decode cJ6_checkLength 23 = .ok (.invokevirtual 50, 3) := dk_182 0 50 (dk_at dksJ6_checkLength_1 0 rfl rfl)
theorem dJ6_checkLength_26 : decode cJ6_checkLength 26 = .ok (.iload_n 1, 1) := dk_27 (dk_at dksJ6_checkLength_1 3 rfl rfl)
theorem dJ6_checkLength_27 : decode cJ6_checkLength 27 = .ok (.invokevirtual 54, 3) := dk_182 0 54 (dk_at dksJ6_checkLength_1 4 rfl rfl)
theorem dJ6_checkLength_30 : decode cJ6_checkLength 30 = .ok (.invokevirtual 61, 3) := dk_182 0 61 (dk_at dksJ6_checkLength_1 7 rfl rfl)
theorem dJ6_checkLength_33 : decode cJ6_checkLength 33 = .ok (.invokespecial 65, 3) := dk_183 0 65 (dk_at dksJ6_checkLength_1 10 rfl rfl)
theorem dJ6_checkLength_36 : decode cJ6_checkLength 36 = .ok (.athrow, 1) := dk_191 (dk_at dksJ6_checkLength_1 13 rfl rfl)
theorem dJ6_checkLength_37 : decode cJ6_checkLength 37 = .ok (.return_, 1) := dk_177 (dk_at dksJ6_checkLength_1 14 rfl rfl)
abbrev cJ6_asList : ByteArray := prog_40_method_148_code
def yJ6_asList : MethodName := ⟨RJ6, "asList", "([Ljava/lang/Object;)Ljava/util/List;"⟩
def dkwJ6_asList_0 : List UInt8 := [187, 1, 119, 89, 42, 183, 1, 121, 176]
abbrev dktJ6_asList_0 : List UInt8 := dkwJ6_asList_0 ++ []
theorem dksJ6_asList_0 : cJ6_asList.data.toList.drop 0 = dktJ6_asList_0 := by decide +kernel
theorem dJ6_asList_0 : decode cJ6_asList 0 = .ok (.new 375, 3) := dk_187 1 119 (dk_at dksJ6_asList_0 0 rfl rfl)
theorem dJ6_asList_3 : decode cJ6_asList 3 = .ok (.dup, 1) := dk_89 (dk_at dksJ6_asList_0 3 rfl rfl)
theorem dJ6_asList_4 : decode cJ6_asList 4 = .ok (.aload_n 0, 1) := dk_42 (dk_at dksJ6_asList_0 4 rfl rfl)
theorem dJ6_asList_5 : decode cJ6_asList 5 = .ok (.invokespecial 377, 3) := dk_183 1 121 (dk_at dksJ6_asList_0 5 rfl rfl)
theorem dJ6_asList_8 : decode cJ6_asList 8 = .ok (.areturn, 1) := dk_176 (dk_at dksJ6_asList_0 8 rfl rfl)
abbrev cJ6_fill : ByteArray := prog_40_method_103_code
def yJ6_fill : MethodName := ⟨RJ6, "fill", "([II)V"⟩
def dkwJ6_fill_0 : List UInt8 := [3, 61, 42, 190, 62, 28, 29, 162, 0, 13, 42, 28, 27, 79, 132, 2, 1, 167, 255, 244, 177]
abbrev dktJ6_fill_0 : List UInt8 := dkwJ6_fill_0 ++ []
theorem dksJ6_fill_0 : cJ6_fill.data.toList.drop 0 = dktJ6_fill_0 := by decide +kernel
theorem dJ6_fill_0 : decode cJ6_fill 0 = .ok (.iconst 0, 1) := dk_3 (dk_at dksJ6_fill_0 0 rfl rfl)
theorem dJ6_fill_1 : decode cJ6_fill 1 = .ok (.istore_n 2, 1) := dk_61 (dk_at dksJ6_fill_0 1 rfl rfl)
theorem dJ6_fill_2 : decode cJ6_fill 2 = .ok (.aload_n 0, 1) := dk_42 (dk_at dksJ6_fill_0 2 rfl rfl)
theorem dJ6_fill_3 : decode cJ6_fill 3 = .ok (.arraylength, 1) := dk_190 (dk_at dksJ6_fill_0 3 rfl rfl)
theorem dJ6_fill_4 : decode cJ6_fill 4 = .ok (.istore_n 3, 1) := dk_62 (dk_at dksJ6_fill_0 4 rfl rfl)
theorem dJ6_fill_5 : decode cJ6_fill 5 = .ok (.iload_n 2, 1) := dk_28 (dk_at dksJ6_fill_0 5 rfl rfl)
theorem dJ6_fill_6 : decode cJ6_fill 6 = .ok (.iload_n 3, 1) := dk_29 (dk_at dksJ6_fill_0 6 rfl rfl)
theorem dJ6_fill_7 : decode cJ6_fill 7 = .ok (.if_icmp .ge 13, 3) := dk_162 0 13 (dk_at dksJ6_fill_0 7 rfl rfl)
theorem dJ6_fill_10 : decode cJ6_fill 10 = .ok (.aload_n 0, 1) := dk_42 (dk_at dksJ6_fill_0 10 rfl rfl)
theorem dJ6_fill_11 : decode cJ6_fill 11 = .ok (.iload_n 2, 1) := dk_28 (dk_at dksJ6_fill_0 11 rfl rfl)
theorem dJ6_fill_12 : decode cJ6_fill 12 = .ok (.iload_n 1, 1) := dk_27 (dk_at dksJ6_fill_0 12 rfl rfl)
theorem dJ6_fill_13 : decode cJ6_fill 13 = .ok (.iastore, 1) := dk_79 (dk_at dksJ6_fill_0 13 rfl rfl)
theorem dJ6_fill_14 : decode cJ6_fill 14 = .ok (.iinc 2 1, 3) := dk_132 2 1 (dk_at dksJ6_fill_0 14 rfl rfl)
theorem dJ6_fill_17 : decode cJ6_fill 17 = .ok (.goto (-12), 3) := dk_167 255 244 (dk_at dksJ6_fill_0 17 rfl rfl)
theorem dJ6_fill_20 : decode cJ6_fill 20 = .ok (.return_, 1) := dk_177 (dk_at dksJ6_fill_0 20 rfl rfl)
theorem q80 : (Jvm.Cond.initialized "java/util/Arrays") ∈ lw_all := lw_g (lw_at lw_m1 14 rfl) rfl
theorem q404 : (Jvm.Cond.static ({ cls := "java/util/Arrays", name := "copyOf", desc := "([BI)[B" } : Jvm.MethodName)) ∈ lw_all := lw_g (lw_at lw_m2 98 rfl) rfl
theorem q405 : (Jvm.Cond.code ({ cls := "java/util/Arrays", name := "copyOf", desc := "([BI)[B" } : Jvm.MethodName) prog_40_method_121_code (3 : Nat) (Option.some (Jvm.ClassFile.FieldType.array Jvm.ClassFile.FieldType.byte))) ∈ lw_all := lw_g (lw_at lw_m2 99 rfl) rfl
theorem q406 : (Jvm.Cond.methodLink "java/util/Arrays" (310 : Nat) ({ cls := "[B", name := "clone", desc := "()Ljava/lang/Object;" } : Jvm.MethodName)) ∈ lw_all := lw_g (lw_at lw_m2 100 rfl) rfl
theorem q412 : (Jvm.Cond.classLink "java/util/Arrays" (311 : Nat) "[B") ∈ lw_all := lw_g (lw_at lw_m2 106 rfl) rfl
theorem q413 : (Jvm.Cond.methodLink "java/util/Arrays" (304 : Nat) ({ cls := "java/lang/Math", name := "min", desc := "(II)I" } : Jvm.MethodName)) ∈ lw_all := lw_g (lw_at lw_m2 107 rfl) rfl
theorem q416 : (Jvm.Cond.methodLink "java/util/Arrays" (150 : Nat) ({ cls := "java/lang/System", name := "arraycopy", desc := "(Ljava/lang/Object;ILjava/lang/Object;II)V" } : Jvm.MethodName)) ∈ lw_all := lw_g (lw_at lw_m2 110 rfl) rfl
theorem q500 : (Jvm.Cond.static ({ cls := "java/util/Arrays", name := "copyOfRange", desc := "([BII)[B" } : Jvm.MethodName)) ∈ lw_all := lw_g (lw_at lw_m2 194 rfl) rfl
theorem q501 : (Jvm.Cond.code ({ cls := "java/util/Arrays", name := "copyOfRange", desc := "([BII)[B" } : Jvm.MethodName) prog_40_method_132_code (3 : Nat) (Option.some (Jvm.ClassFile.FieldType.array Jvm.ClassFile.FieldType.byte))) ∈ lw_all := lw_g (lw_at lw_m2 195 rfl) rfl
theorem q502 : (Jvm.Cond.methodLink "java/util/Arrays" (339 : Nat) ({ cls := "java/util/Arrays", name := "copyOfRangeByte", desc := "([BII)[B" } : Jvm.MethodName)) ∈ lw_all := lw_g (lw_at lw_m2 196 rfl) rfl
theorem q503 : (Jvm.Cond.static ({ cls := "java/util/Arrays", name := "copyOfRangeByte", desc := "([BII)[B" } : Jvm.MethodName)) ∈ lw_all := lw_g (lw_at lw_m2 197 rfl) rfl
theorem q504 : (Jvm.Cond.code ({ cls := "java/util/Arrays", name := "copyOfRangeByte", desc := "([BII)[B" } : Jvm.MethodName) prog_40_method_133_code (5 : Nat) (Option.some (Jvm.ClassFile.FieldType.array Jvm.ClassFile.FieldType.byte))) ∈ lw_all := lw_g (lw_at lw_m2 198 rfl) rfl
theorem q505 : (Jvm.Cond.methodLink "java/util/Arrays" (343 : Nat) ({ cls := "java/util/Arrays", name := "checkLength", desc := "(II)V" } : Jvm.MethodName)) ∈ lw_all := lw_g (lw_at lw_m2 199 rfl) rfl
theorem q506 : (Jvm.Cond.static ({ cls := "java/util/Arrays", name := "checkLength", desc := "(II)V" } : Jvm.MethodName)) ∈ lw_all := lw_g (lw_at lw_m2 200 rfl) rfl
theorem q507 : (Jvm.Cond.code ({ cls := "java/util/Arrays", name := "checkLength", desc := "(II)V" } : Jvm.MethodName) prog_40_method_131_code (2 : Nat) (Option.none : Option Jvm.ClassFile.FieldType)) ∈ lw_all := lw_g (lw_at lw_m2 201 rfl) rfl
theorem q536 : (Jvm.Cond.static ({ cls := "java/util/Arrays", name := "asList", desc := "([Ljava/lang/Object;)Ljava/util/List;" } : Jvm.MethodName)) ∈ lw_all := lw_g (lw_at lw_m2 230 rfl) rfl
theorem q537 : (Jvm.Cond.code ({ cls := "java/util/Arrays", name := "asList", desc := "([Ljava/lang/Object;)Ljava/util/List;" } : Jvm.MethodName) prog_40_method_148_code (1 : Nat) (Option.some (Jvm.ClassFile.FieldType.object "java/util/List"))) ∈ lw_all := lw_g (lw_at lw_m2 231 rfl) rfl
theorem q538 : (Jvm.Cond.classLink "java/util/Arrays" (375 : Nat) "java/util/Arrays$ArrayList") ∈ lw_all := lw_g (lw_at lw_m2 232 rfl) rfl
theorem q540 : (Jvm.Cond.methodLink "java/util/Arrays" (377 : Nat) ({ cls := "java/util/Arrays$ArrayList", name := "<init>", desc := "([Ljava/lang/Object;)V" } : Jvm.MethodName)) ∈ lw_all := lw_g (lw_at lw_m2 234 rfl) rfl
theorem q916 : (Jvm.Cond.static ({ cls := "java/util/Arrays", name := "fill", desc := "([II)V" } : Jvm.MethodName)) ∈ lw_all := lw_g (lw_at lw_m4 130 rfl) rfl
theorem q917 : (Jvm.Cond.code ({ cls := "java/util/Arrays", name := "fill", desc := "([II)V" } : Jvm.MethodName) prog_40_method_103_code (4 : Nat) (Option.none : Option Jvm.ClassFile.FieldType)) ∈ lw_all := lw_g (lw_at lw_m4 131 rfl) rfl
abbrev cX0_init : ByteArray := prog_1_method_12_code
def yX0_init : MethodName := ⟨RX0, "<init>", "()V"⟩
def dkwX0_init_3 : List UInt8 := [42, 182, 0, 121, 177]
abbrev dktX0_init_3 : List UInt8 := dkwX0_init_3 ++ []
def dkwX0_init_2 : List UInt8 := [16, 12, 188, 10, 181, 0, 82, 42, 17, 0, 200, 188, 8, 181, 0, 115, 42, 6, 189, 0, 119, 181, 0, 11]
abbrev dktX0_init_2 : List UInt8 := dkwX0_init_2 ++ dktX0_init_3
def dkwX0_init_1 : List UInt8 := [183, 0, 26, 181, 0, 112, 42, 5, 189, 0, 24, 181, 0, 7, 42, 16, 8, 189, 0, 24, 181, 0, 15, 42]
abbrev dktX0_init_1 : List UInt8 := dkwX0_init_1 ++ dktX0_init_2
def dkwX0_init_0 : List UInt8 := [42, 183, 0, 107, 42, 187, 0, 24, 89, 42, 183, 0, 26, 181, 0, 30, 42, 187, 0, 24, 89, 42]
abbrev dktX0_init_0 : List UInt8 := dkwX0_init_0 ++ dktX0_init_1
theorem dksX0_init_0 : cX0_init.data.toList.drop 0 = dktX0_init_0 := by decide +kernel
theorem dksX0_init_1 : cX0_init.data.toList.drop 22 = dktX0_init_1 := dk_seg dksX0_init_0 22 rfl rfl
theorem dksX0_init_2 : cX0_init.data.toList.drop 46 = dktX0_init_2 := dk_seg dksX0_init_1 24 rfl rfl
theorem dksX0_init_3 : cX0_init.data.toList.drop 70 = dktX0_init_3 := dk_seg dksX0_init_2 24 rfl rfl
theorem dX0_init_0 : decode cX0_init 0 = .ok (.aload_n 0, 1) := dk_42 (dk_at dksX0_init_0 0 rfl rfl)
theorem dX0_init_1 : decode cX0_init 1 = .ok (.invokespecial 107, 3) := dk_183 0 107 (dk_at dksX0_init_0 1 rfl rfl)
theorem dX0_init_4 : decode cX0_init 4 = .ok (.aload_n 0, 1) := dk_42 (dk_at dksX0_init_0 4 rfl rfl)
theorem dX0_init_5 : decode cX0_init 5 = .ok (.new 24, 3) := dk_187 0 24 (dk_at dksX0_init_0 5 rfl rfl)
theorem dX0_init_8 : decode cX0_init 8 = .ok (.dup, 1) := dk_89 (dk_at dksX0_init_0 8 rfl rfl)
theorem dX0_init_9 : decode cX0_init 9 = .ok (.aload_n 0, 1) := dk_42 (dk_at dksX0_init_0 9 rfl rfl)
theorem dX0_init_10 : decode cX0_init 10 = .ok (.invokespecial 26, 3) := dk_183 0 26 (dk_at dksX0_init_0 10 rfl rfl)
theorem dX0_init_13 : decode cX0_init 13 = .ok (.putfield 30, 3) := dk_181 0 30 (dk_at dksX0_init_0 13 rfl rfl)
theorem dX0_init_16 : decode cX0_init 16 = .ok (.aload_n 0, 1) := dk_42 (dk_at dksX0_init_0 16 rfl rfl)
theorem dX0_init_17 : decode cX0_init 17 = .ok (.new 24, 3) := dk_187 0 24 (dk_at dksX0_init_0 17 rfl rfl)
theorem dX0_init_20 : decode cX0_init 20 = .ok (.dup, 1) := dk_89 (dk_at dksX0_init_0 20 rfl rfl)
theorem dX0_init_21 : decode cX0_init 21 = .ok (.aload_n 0, 1) := dk_42 (dk_at dksX0_init_0 21 rfl rfl)
theorem dX0_init_22 : decode cX0_init 22 = .ok (.invokespecial 26, 3) := dk_183 0 26 (dk_at dksX0_init_1 0 rfl rfl)
theorem dX0_init_25 : decode cX0_init 25 = .ok (.putfield 112, 3) := dk_181 0 112 (dk_at dksX0_init_1 3 rfl rfl)
theorem dX0_init_28 : decode cX0_init 28 = .ok (.aload_n 0, 1) := dk_42 (dk_at dksX0_init_1 6 rfl rfl)
theorem dX0_init_29 : decode cX0_init 29 = .ok (.iconst 2, 1) := dk_5 (dk_at dksX0_init_1 7 rfl rfl)
theorem dX0_init_30 : decode cX0_init 30 = .ok (.anewarray 24, 3) := dk_189 0 24 (dk_at dksX0_init_1 8 rfl rfl)
theorem dX0_init_33 : decode cX0_init 33 = .ok (.putfield 7, 3) := dk_181 0 7 (dk_at dksX0_init_1 11 rfl rfl)
theorem dX0_init_36 : decode cX0_init 36 = .ok (.aload_n 0, 1) := dk_42 (dk_at dksX0_init_1 14 rfl rfl)
theorem dX0_init_37 : decode cX0_init 37 = .ok (.bipush 8, 2) := dk_16 8 (dk_at dksX0_init_1 15 rfl rfl)
theorem dX0_init_39 : decode cX0_init 39 = .ok (.anewarray 24, 3) := dk_189 0 24 (dk_at dksX0_init_1 17 rfl rfl)
theorem dX0_init_42 : decode cX0_init 42 = .ok (.putfield 15, 3) := dk_181 0 15 (dk_at dksX0_init_1 20 rfl rfl)
theorem dX0_init_45 : decode cX0_init 45 = .ok (.aload_n 0, 1) := dk_42 (dk_at dksX0_init_1 23 rfl rfl)
theorem dX0_init_46 : decode cX0_init 46 = .ok (.bipush 12, 2) := dk_16 12 (dk_at dksX0_init_2 0 rfl rfl)
theorem dX0_init_48 : decode cX0_init 48 = .ok (.newarray .int, 2) := dk_188_10 (dk_at dksX0_init_2 2 rfl rfl)
theorem dX0_init_50 : decode cX0_init 50 = .ok (.putfield 82, 3) := dk_181 0 82 (dk_at dksX0_init_2 4 rfl rfl)
theorem dX0_init_53 : decode cX0_init 53 = .ok (.aload_n 0, 1) := dk_42 (dk_at dksX0_init_2 7 rfl rfl)
theorem dX0_init_54 : decode cX0_init 54 = .ok (.sipush 200, 3) := dk_17 0 200 (dk_at dksX0_init_2 8 rfl rfl)
theorem dX0_init_57 : decode cX0_init 57 = .ok (.newarray .byte, 2) := dk_188_8 (dk_at dksX0_init_2 11 rfl rfl)
theorem dX0_init_59 : decode cX0_init 59 = .ok (.putfield 115, 3) := dk_181 0 115 (dk_at dksX0_init_2 13 rfl rfl)
theorem dX0_init_62 : decode cX0_init 62 = .ok (.aload_n 0, 1) := dk_42 (dk_at dksX0_init_2 16 rfl rfl)
theorem dX0_init_63 : decode cX0_init 63 = .ok (.iconst 3, 1) := dk_6 (dk_at dksX0_init_2 17 rfl rfl)
theorem dX0_init_64 : decode cX0_init 64 = .ok (.anewarray 119, 3) := dk_189 0 119 (dk_at dksX0_init_2 18 rfl rfl)
theorem dX0_init_67 : decode cX0_init 67 = .ok (.putfield 11, 3) := dk_181 0 11 (dk_at dksX0_init_2 21 rfl rfl)
theorem dX0_init_70 : decode cX0_init 70 = .ok (.aload_n 0, 1) := dk_42 (dk_at dksX0_init_3 0 rfl rfl)
theorem dX0_init_71 : decode cX0_init 71 = .ok (.invokevirtual 121, 3) := dk_182 0 121 (dk_at dksX0_init_3 1 rfl rfl)
theorem dX0_init_74 : decode cX0_init 74 = .ok (.return_, 1) := dk_177 (dk_at dksX0_init_3 4 rfl rfl)
abbrev cX0_begin : ByteArray := prog_1_method_3_code
def yX0_begin : MethodName := ⟨RX0, "begin", "()V"⟩
def dkwX0_begin_1 : List UInt8 := [162, 0, 16, 42, 180, 0, 11, 27, 1, 83, 132, 1, 1, 167, 255, 241, 177]
abbrev dktX0_begin_1 : List UInt8 := dkwX0_begin_1 ++ []
def dkwX0_begin_0 : List UInt8 := [42, 3, 181, 0, 1, 42, 180, 0, 7, 3, 1, 83, 42, 180, 0, 7, 4, 1, 83, 3, 60, 27, 6]
abbrev dktX0_begin_0 : List UInt8 := dkwX0_begin_0 ++ dktX0_begin_1
theorem dksX0_begin_0 : cX0_begin.data.toList.drop 0 = dktX0_begin_0 := by decide +kernel
theorem dksX0_begin_1 : cX0_begin.data.toList.drop 23 = dktX0_begin_1 := dk_seg dksX0_begin_0 23 rfl rfl
theorem dX0_begin_0 : decode cX0_begin 0 = .ok (.aload_n 0, 1) := dk_42 (dk_at dksX0_begin_0 0 rfl rfl)
theorem dX0_begin_1 : decode cX0_begin 1 = .ok (.iconst 0, 1) := dk_3 (dk_at dksX0_begin_0 1 rfl rfl)
theorem dX0_begin_2 : decode cX0_begin 2 = .ok (.putfield 1, 3) := dk_181 0 1 (dk_at dksX0_begin_0 2 rfl rfl)
theorem dX0_begin_5 : decode cX0_begin 5 = .ok (.aload_n 0, 1) := dk_42 (dk_at dksX0_begin_0 5 rfl rfl)
theorem dX0_begin_6 : decode cX0_begin 6 = .ok (.getfield 7, 3) := dk_180 0 7 (dk_at dksX0_begin_0 6 rfl rfl)
theorem dX0_begin_9 : decode cX0_begin 9 = .ok (.iconst 0, 1) := dk_3 (dk_at dksX0_begin_0 9 rfl rfl)
theorem dX0_begin_10 : decode cX0_begin 10 = .ok (.aconst_null, 1) := dk_1 (dk_at dksX0_begin_0 10 rfl rfl)
theorem dX0_begin_11 : decode cX0_begin 11 = .ok (.aastore, 1) := dk_83 (dk_at dksX0_begin_0 11 rfl rfl)
theorem dX0_begin_12 : decode cX0_begin 12 = .ok (.aload_n 0, 1) := dk_42 (dk_at dksX0_begin_0 12 rfl rfl)
theorem dX0_begin_13 : decode cX0_begin 13 = .ok (.getfield 7, 3) := dk_180 0 7 (dk_at dksX0_begin_0 13 rfl rfl)
theorem dX0_begin_16 : decode cX0_begin 16 = .ok (.iconst 1, 1) := dk_4 (dk_at dksX0_begin_0 16 rfl rfl)
theorem dX0_begin_17 : decode cX0_begin 17 = .ok (.aconst_null, 1) := dk_1 (dk_at dksX0_begin_0 17 rfl rfl)
theorem dX0_begin_18 : decode cX0_begin 18 = .ok (.aastore, 1) := dk_83 (dk_at dksX0_begin_0 18 rfl rfl)
theorem dX0_begin_19 : decode cX0_begin 19 = .ok (.iconst 0, 1) := dk_3 (dk_at dksX0_begin_0 19 rfl rfl)
theorem dX0_begin_20 : decode cX0_begin 20 = .ok (.istore_n 1, 1) := dk_60 (dk_at dksX0_begin_0 20 rfl rfl)
theorem dX0_begin_21 : decode cX0_begin 21 = .ok (.iload_n 1, 1) := dk_27 (dk_at dksX0_begin_0 21 rfl rfl)
theorem dX0_begin_22 : decode cX0_begin 22 = .ok (.iconst 3, 1) := dk_6 (dk_at dksX0_begin_0 22 rfl rfl)
theorem dX0_begin_23 : decode cX0_begin 23 = .ok (.if_icmp .ge 16, 3) := dk_162 0 16 (dk_at dksX0_begin_1 0 rfl rfl)
theorem dX0_begin_26 : decode cX0_begin 26 = .ok (.aload_n 0, 1) := dk_42 (dk_at dksX0_begin_1 3 rfl rfl)
theorem dX0_begin_27 : decode cX0_begin 27 = .ok (.getfield 11, 3) := dk_180 0 11 (dk_at dksX0_begin_1 4 rfl rfl)
theorem dX0_begin_30 : decode cX0_begin 30 = .ok (.iload_n 1, 1) := dk_27 (dk_at dksX0_begin_1 7 rfl rfl)
theorem dX0_begin_31 : decode cX0_begin 31 = .ok (.aconst_null, 1) := dk_1 (dk_at dksX0_begin_1 8 rfl rfl)
theorem dX0_begin_32 : decode cX0_begin 32 = .ok (.aastore, 1) := dk_83 (dk_at dksX0_begin_1 9 rfl rfl)
theorem dX0_begin_33 : decode cX0_begin 33 = .ok (.iinc 1 1, 3) := dk_132 1 1 (dk_at dksX0_begin_1 10 rfl rfl)
theorem dX0_begin_36 : decode cX0_begin 36 = .ok (.goto (-15), 3) := dk_167 255 241 (dk_at dksX0_begin_1 13 rfl rfl)
theorem dX0_begin_39 : decode cX0_begin 39 = .ok (.return_, 1) := dk_177 (dk_at dksX0_begin_1 16 rfl rfl)
abbrev cX0_write : ByteArray := prog_1_method_17_code
def yX0_write : MethodName := ⟨RX0, "write", "(I)I"⟩
def dkwX0_write_2 : List UInt8 := [42, 180, 0, 136, 172]
abbrev dktX0_write_2 : List UInt8 := dkwX0_write_2 ++ []
def dkwX0_write_1 : List UInt8 := [160, 0, 6, 16, 251, 172, 42, 180, 0, 115, 42, 89, 180, 0, 136, 90, 4, 96, 181, 0, 136, 27, 145, 84]
abbrev dktX0_write_1 : List UInt8 := dkwX0_write_1 ++ dktX0_write_2
def dkwX0_write_0 : List UInt8 := [27, 133, 9, 20, 0, 134, 184, 0, 124, 154, 0, 6, 16, 253, 172, 42, 180, 0, 136, 42, 180, 0, 115, 190]
abbrev dktX0_write_0 : List UInt8 := dkwX0_write_0 ++ dktX0_write_1
theorem dksX0_write_0 : cX0_write.data.toList.drop 0 = dktX0_write_0 := by decide +kernel
theorem dksX0_write_1 : cX0_write.data.toList.drop 24 = dktX0_write_1 := dk_seg dksX0_write_0 24 rfl rfl
theorem dksX0_write_2 : cX0_write.data.toList.drop 48 = dktX0_write_2 := dk_seg dksX0_write_1 24 rfl rfl
theorem dX0_write_0 : decode cX0_write 0 = .ok (.iload_n 1, 1) := dk_27 (dk_at dksX0_write_0 0 rfl rfl)
theorem dX0_write_1 : decode cX0_write 1 = .ok (.i2l, 1) := dk_133 (dk_at dksX0_write_0 1 rfl rfl)
theorem dX0_write_2 : decode cX0_write 2 = .ok (.lconst 0, 1) := dk_9 (dk_at dksX0_write_0 2 rfl rfl)
theorem dX0_write_3 : decode cX0_write 3 = .ok (.ldc2_w 134, 3) := dk_20 0 134 (dk_at dksX0_write_0 3 rfl rfl)
theorem dX0_write_6 : decode cX0_write 6 = .ok (.invokestatic 124, 3) := dk_184 0 124 (dk_at dksX0_write_0 6 rfl rfl)
theorem dX0_write_9 : decode cX0_write 9 = .ok (.ifCond .ne 6, 3) := dk_154 0 6 (dk_at dksX0_write_0 9 rfl rfl)
theorem dX0_write_12 : decode cX0_write 12 = .ok (.bipush (-3), 2) := dk_16 253 (dk_at dksX0_write_0 12 rfl rfl)
theorem dX0_write_14 : decode cX0_write 14 = .ok (.ireturn, 1) := dk_172 (dk_at dksX0_write_0 14 rfl rfl)
theorem dX0_write_15 : decode cX0_write 15 = .ok (.aload_n 0, 1) := dk_42 (dk_at dksX0_write_0 15 rfl rfl)
theorem dX0_write_16 : decode cX0_write 16 = .ok (.getfield 136, 3) := dk_180 0 136 (dk_at dksX0_write_0 16 rfl rfl)
theorem dX0_write_19 : decode cX0_write 19 = .ok (.aload_n 0, 1) := dk_42 (dk_at dksX0_write_0 19 rfl rfl)
theorem dX0_write_20 : decode cX0_write 20 = .ok (.getfield 115, 3) := dk_180 0 115 (dk_at dksX0_write_0 20 rfl rfl)
theorem dX0_write_23 : decode cX0_write 23 = .ok (.arraylength, 1) := dk_190 (dk_at dksX0_write_0 23 rfl rfl)
theorem dX0_write_24 : decode cX0_write 24 = .ok (.if_icmp .ne 6, 3) := dk_160 0 6 (dk_at dksX0_write_1 0 rfl rfl)
theorem dX0_write_27 : decode cX0_write 27 = .ok (.bipush (-5), 2) := dk_16 251 (dk_at dksX0_write_1 3 rfl rfl)
theorem dX0_write_29 : decode cX0_write 29 = .ok (.ireturn, 1) := dk_172 (dk_at dksX0_write_1 5 rfl rfl)
theorem dX0_write_30 : decode cX0_write 30 = .ok (.aload_n 0, 1) := dk_42 (dk_at dksX0_write_1 6 rfl rfl)
theorem dX0_write_31 : decode cX0_write 31 = .ok (.getfield 115, 3) := dk_180 0 115 (dk_at dksX0_write_1 7 rfl rfl)
theorem dX0_write_34 : decode cX0_write 34 = .ok (.aload_n 0, 1) := dk_42 (dk_at dksX0_write_1 10 rfl rfl)
theorem dX0_write_35 : decode cX0_write 35 = .ok (.dup, 1) := dk_89 (dk_at dksX0_write_1 11 rfl rfl)
theorem dX0_write_36 : decode cX0_write 36 = .ok (.getfield 136, 3) := dk_180 0 136 (dk_at dksX0_write_1 12 rfl rfl)
theorem dX0_write_39 : decode cX0_write 39 = .ok (.dup_x1, 1) := dk_90 (dk_at dksX0_write_1 15 rfl rfl)
theorem dX0_write_40 : decode cX0_write 40 = .ok (.iconst 1, 1) := dk_4 (dk_at dksX0_write_1 16 rfl rfl)
theorem dX0_write_41 : decode cX0_write 41 = .ok (.iadd, 1) := dk_96 (dk_at dksX0_write_1 17 rfl rfl)
theorem dX0_write_42 : decode cX0_write 42 = .ok (.putfield 136, 3) := dk_181 0 136 (dk_at dksX0_write_1 18 rfl rfl)
theorem dX0_write_45 : decode cX0_write 45 = .ok (.iload_n 1, 1) := dk_27 (dk_at dksX0_write_1 21 rfl rfl)
theorem dX0_write_46 : decode cX0_write 46 = .ok (.i2b, 1) := dk_145 (dk_at dksX0_write_1 22 rfl rfl)
theorem dX0_write_47 : decode cX0_write 47 = .ok (.bastore, 1) := dk_84 (dk_at dksX0_write_1 23 rfl rfl)
theorem dX0_write_48 : decode cX0_write 48 = .ok (.aload_n 0, 1) := dk_42 (dk_at dksX0_write_2 0 rfl rfl)
theorem dX0_write_49 : decode cX0_write 49 = .ok (.getfield 136, 3) := dk_180 0 136 (dk_at dksX0_write_2 1 rfl rfl)
theorem dX0_write_52 : decode cX0_write 52 = .ok (.ireturn, 1) := dk_172 (dk_at dksX0_write_2 4 rfl rfl)
abbrev cX0_in : ByteArray := prog_1_method_1_code
def yX0_in : MethodName := ⟨RX0, "in", "(JJJ)Z"⟩
def dkwX0_in_0 : List UInt8 := [30, 32, 148, 155, 0, 14, 30, 22, 4, 148, 157, 0, 7, 4, 167, 0, 4, 3, 172]
abbrev dktX0_in_0 : List UInt8 := dkwX0_in_0 ++ []
theorem dksX0_in_0 : cX0_in.data.toList.drop 0 = dktX0_in_0 := by decide +kernel
theorem dX0_in_0 : decode cX0_in 0 = .ok (.lload_n 0, 1) := dk_30 (dk_at dksX0_in_0 0 rfl rfl)
theorem dX0_in_1 : decode cX0_in 1 = .ok (.lload_n 2, 1) := dk_32 (dk_at dksX0_in_0 1 rfl rfl)
theorem dX0_in_2 : decode cX0_in 2 = .ok (.lcmp, 1) := dk_148 (dk_at dksX0_in_0 2 rfl rfl)
theorem dX0_in_3 : decode cX0_in 3 = .ok (.ifCond .lt 14, 3) := dk_155 0 14 (dk_at dksX0_in_0 3 rfl rfl)
theorem dX0_in_6 : decode cX0_in 6 = .ok (.lload_n 0, 1) := dk_30 (dk_at dksX0_in_0 6 rfl rfl)
theorem dX0_in_7 : decode cX0_in 7 = .ok (.lload 4, 2) := dk_22 4 (dk_at dksX0_in_0 7 rfl rfl)
theorem dX0_in_9 : decode cX0_in 9 = .ok (.lcmp, 1) := dk_148 (dk_at dksX0_in_0 9 rfl rfl)
theorem dX0_in_10 : decode cX0_in 10 = .ok (.ifCond .gt 7, 3) := dk_157 0 7 (dk_at dksX0_in_0 10 rfl rfl)
theorem dX0_in_13 : decode cX0_in 13 = .ok (.iconst 1, 1) := dk_4 (dk_at dksX0_in_0 13 rfl rfl)
theorem dX0_in_14 : decode cX0_in 14 = .ok (.goto 4, 3) := dk_167 0 4 (dk_at dksX0_in_0 14 rfl rfl)
theorem dX0_in_17 : decode cX0_in 17 = .ok (.iconst 0, 1) := dk_3 (dk_at dksX0_in_0 17 rfl rfl)
theorem dX0_in_18 : decode cX0_in 18 = .ok (.ireturn, 1) := dk_172 (dk_at dksX0_in_0 18 rfl rfl)
abbrev cX0_erase : ByteArray := prog_1_method_18_code
def yX0_erase : MethodName := ⟨RX0, "erase", "()I"⟩
def dkwX0_erase_0 : List UInt8 := [42, 180, 0, 136, 60, 42, 3, 181, 0, 136, 27, 172]
abbrev dktX0_erase_0 : List UInt8 := dkwX0_erase_0 ++ []
theorem dksX0_erase_0 : cX0_erase.data.toList.drop 0 = dktX0_erase_0 := by decide +kernel
theorem dX0_erase_0 : decode cX0_erase 0 = .ok (.aload_n 0, 1) := dk_42 (dk_at dksX0_erase_0 0 rfl rfl)
theorem dX0_erase_1 : decode cX0_erase 1 = .ok (.getfield 136, 3) := dk_180 0 136 (dk_at dksX0_erase_0 1 rfl rfl)
theorem dX0_erase_4 : decode cX0_erase 4 = .ok (.istore_n 1, 1) := dk_60 (dk_at dksX0_erase_0 4 rfl rfl)
theorem dX0_erase_5 : decode cX0_erase 5 = .ok (.aload_n 0, 1) := dk_42 (dk_at dksX0_erase_0 5 rfl rfl)
theorem dX0_erase_6 : decode cX0_erase 6 = .ok (.iconst 0, 1) := dk_3 (dk_at dksX0_erase_0 6 rfl rfl)
theorem dX0_erase_7 : decode cX0_erase 7 = .ok (.putfield 136, 3) := dk_181 0 136 (dk_at dksX0_erase_0 7 rfl rfl)
theorem dX0_erase_10 : decode cX0_erase 10 = .ok (.iload_n 1, 1) := dk_27 (dk_at dksX0_erase_0 10 rfl rfl)
theorem dX0_erase_11 : decode cX0_erase 11 = .ok (.ireturn, 1) := dk_172 (dk_at dksX0_erase_0 11 rfl rfl)
abbrev cX0_fault : ByteArray := prog_1_method_19_code
def yX0_fault : MethodName := ⟨RX0, "fault", "()I"⟩
def dkwX0_fault_0 : List UInt8 := [187, 0, 139, 89, 42, 183, 0, 141, 182, 0, 142, 87, 2, 172, 76, 43, 180, 0, 148, 172]
abbrev dktX0_fault_0 : List UInt8 := dkwX0_fault_0 ++ []
theorem dksX0_fault_0 : cX0_fault.data.toList.drop 0 = dktX0_fault_0 := by decide +kernel
theorem dX0_fault_0 : decode cX0_fault 0 = .ok (.new 139, 3) := dk_187 0 139 (dk_at dksX0_fault_0 0 rfl rfl)
theorem dX0_fault_3 : decode cX0_fault 3 = .ok (.dup, 1) := dk_89 (dk_at dksX0_fault_0 3 rfl rfl)
theorem dX0_fault_4 : decode cX0_fault 4 = .ok (.aload_n 0, 1) := dk_42 (dk_at dksX0_fault_0 4 rfl rfl)
theorem dX0_fault_5 : decode cX0_fault 5 = .ok (.invokespecial 141, 3) := dk_183 0 141 (dk_at dksX0_fault_0 5 rfl rfl)
theorem dX0_fault_8 : decode cX0_fault 8 = .ok (.invokevirtual 142, 3) := dk_182 0 142 (dk_at dksX0_fault_0 8 rfl rfl)
theorem dX0_fault_11 : decode cX0_fault 11 = .ok (.pop, 1) := dk_87 (dk_at dksX0_fault_0 11 rfl rfl)
theorem dX0_fault_12 : decode cX0_fault 12 = .ok (.iconst (-1), 1) := dk_2 (dk_at dksX0_fault_0 12 rfl rfl)
theorem dX0_fault_13 : decode cX0_fault 13 = .ok (.ireturn, 1) := dk_172 (dk_at dksX0_fault_0 13 rfl rfl)
theorem dX0_fault_14 : decode cX0_fault 14 = .ok (.astore_n 1, 1) := dk_76 (dk_at dksX0_fault_0 14 rfl rfl)
theorem dX0_fault_15 : decode cX0_fault 15 = .ok (.aload_n 1, 1) := dk_43 (dk_at dksX0_fault_0 15 rfl rfl)
theorem dX0_fault_16 : decode cX0_fault 16 = .ok (.getfield 148, 3) := dk_180 0 148 (dk_at dksX0_fault_0 16 rfl rfl)
theorem dX0_fault_19 : decode cX0_fault 19 = .ok (.ireturn, 1) := dk_172 (dk_at dksX0_fault_0 19 rfl rfl)
abbrev cX0_draft : ByteArray := prog_1_method_20_code
def yX0_draft : MethodName := ⟨RX0, "draft", "()I"⟩
def dkwX0_draft_2 : List UInt8 := [3, 181, 0, 136, 42, 182, 0, 121, 43, 180, 0, 151, 172]
abbrev dktX0_draft_2 : List UInt8 := dkwX0_draft_2 ++ []
def dkwX0_draft_1 : List UInt8 := [43, 180, 0, 151, 162, 0, 19, 42, 43, 180, 0, 153, 28, 50, 182, 0, 157, 132, 2, 1, 167, 255, 235, 42]
abbrev dktX0_draft_1 : List UInt8 := dkwX0_draft_1 ++ dktX0_draft_2
def dkwX0_draft_0 : List UInt8 := [187, 0, 139, 89, 42, 183, 0, 141, 76, 43, 182, 0, 142, 87, 167, 0, 7, 77, 16, 252, 172, 3, 61, 28]
abbrev dktX0_draft_0 : List UInt8 := dkwX0_draft_0 ++ dktX0_draft_1
theorem dksX0_draft_0 : cX0_draft.data.toList.drop 0 = dktX0_draft_0 := by decide +kernel
theorem dksX0_draft_1 : cX0_draft.data.toList.drop 24 = dktX0_draft_1 := dk_seg dksX0_draft_0 24 rfl rfl
theorem dksX0_draft_2 : cX0_draft.data.toList.drop 48 = dktX0_draft_2 := dk_seg dksX0_draft_1 24 rfl rfl
theorem dX0_draft_0 : decode cX0_draft 0 = .ok (.new 139, 3) := dk_187 0 139 (dk_at dksX0_draft_0 0 rfl rfl)
theorem dX0_draft_3 : decode cX0_draft 3 = .ok (.dup, 1) := dk_89 (dk_at dksX0_draft_0 3 rfl rfl)
theorem dX0_draft_4 : decode cX0_draft 4 = .ok (.aload_n 0, 1) := dk_42 (dk_at dksX0_draft_0 4 rfl rfl)
theorem dX0_draft_5 : decode cX0_draft 5 = .ok (.invokespecial 141, 3) := dk_183 0 141 (dk_at dksX0_draft_0 5 rfl rfl)
theorem dX0_draft_8 : decode cX0_draft 8 = .ok (.astore_n 1, 1) := dk_76 (dk_at dksX0_draft_0 8 rfl rfl)
theorem dX0_draft_9 : decode cX0_draft 9 = .ok (.aload_n 1, 1) := dk_43 (dk_at dksX0_draft_0 9 rfl rfl)
theorem dX0_draft_10 : decode cX0_draft 10 = .ok (.invokevirtual 142, 3) := dk_182 0 142 (dk_at dksX0_draft_0 10 rfl rfl)
theorem dX0_draft_13 : decode cX0_draft 13 = .ok (.pop, 1) := dk_87 (dk_at dksX0_draft_0 13 rfl rfl)
theorem dX0_draft_14 : decode cX0_draft 14 = .ok (.goto 7, 3) := dk_167 0 7 (dk_at dksX0_draft_0 14 rfl rfl)
theorem dX0_draft_17 : decode cX0_draft 17 = .ok (.astore_n 2, 1) := dk_77 (dk_at dksX0_draft_0 17 rfl rfl)
theorem dX0_draft_18 : decode cX0_draft 18 = .ok (.bipush (-4), 2) := dk_16 252 (dk_at dksX0_draft_0 18 rfl rfl)
theorem dX0_draft_20 : decode cX0_draft 20 = .ok (.ireturn, 1) := dk_172 (dk_at dksX0_draft_0 20 rfl rfl)
theorem dX0_draft_21 : decode cX0_draft 21 = .ok (.iconst 0, 1) := dk_3 (dk_at dksX0_draft_0 21 rfl rfl)
theorem dX0_draft_22 : decode cX0_draft 22 = .ok (.istore_n 2, 1) := dk_61 (dk_at dksX0_draft_0 22 rfl rfl)
theorem dX0_draft_23 : decode cX0_draft 23 = .ok (.iload_n 2, 1) := dk_28 (dk_at dksX0_draft_0 23 rfl rfl)
theorem dX0_draft_24 : decode cX0_draft 24 = .ok (.aload_n 1, 1) := dk_43 (dk_at dksX0_draft_1 0 rfl rfl)
theorem dX0_draft_25 : decode cX0_draft 25 = .ok (.getfield 151, 3) := dk_180 0 151 (dk_at dksX0_draft_1 1 rfl rfl)
theorem dX0_draft_28 : decode cX0_draft 28 = .ok (.if_icmp .ge 19, 3) := dk_162 0 19 (dk_at dksX0_draft_1 4 rfl rfl)
theorem dX0_draft_31 : decode cX0_draft 31 = .ok (.aload_n 0, 1) := dk_42 (dk_at dksX0_draft_1 7 rfl rfl)
theorem dX0_draft_32 : decode cX0_draft 32 = .ok (.aload_n 1, 1) := dk_43 (dk_at dksX0_draft_1 8 rfl rfl)
theorem dX0_draft_33 : decode cX0_draft 33 = .ok (.getfield 153, 3) := dk_180 0 153 (dk_at dksX0_draft_1 9 rfl rfl)
theorem dX0_draft_36 : decode cX0_draft 36 = .ok (.iload_n 2, 1) := dk_28 (dk_at dksX0_draft_1 12 rfl rfl)
theorem dX0_draft_37 : decode cX0_draft 37 = .ok (.aaload, 1) := dk_50 (dk_at dksX0_draft_1 13 rfl rfl)
theorem dX0_draft_38 : decode cX0_draft 38 = .ok (.invokevirtual 157, 3) := dk_182 0 157 (dk_at dksX0_draft_1 14 rfl rfl)
theorem dX0_draft_41 : decode cX0_draft 41 = .ok (.iinc 2 1, 3) := dk_132 2 1 (dk_at dksX0_draft_1 17 rfl rfl)
theorem dX0_draft_44 : decode cX0_draft 44 = .ok (.goto (-21), 3) := dk_167 255 235 (dk_at dksX0_draft_1 20 rfl rfl)
theorem dX0_draft_47 : decode cX0_draft 47 = .ok (.aload_n 0, 1) := dk_42 (dk_at dksX0_draft_1 23 rfl rfl)
theorem dX0_draft_48 : decode cX0_draft 48 = .ok (.iconst 0, 1) := dk_3 (dk_at dksX0_draft_2 0 rfl rfl)
theorem dX0_draft_49 : decode cX0_draft 49 = .ok (.putfield 136, 3) := dk_181 0 136 (dk_at dksX0_draft_2 1 rfl rfl)
theorem dX0_draft_52 : decode cX0_draft 52 = .ok (.aload_n 0, 1) := dk_42 (dk_at dksX0_draft_2 4 rfl rfl)
theorem dX0_draft_53 : decode cX0_draft 53 = .ok (.invokevirtual 121, 3) := dk_182 0 121 (dk_at dksX0_draft_2 5 rfl rfl)
theorem dX0_draft_56 : decode cX0_draft 56 = .ok (.aload_n 1, 1) := dk_43 (dk_at dksX0_draft_2 8 rfl rfl)
theorem dX0_draft_57 : decode cX0_draft 57 = .ok (.getfield 151, 3) := dk_180 0 151 (dk_at dksX0_draft_2 9 rfl rfl)
theorem dX0_draft_60 : decode cX0_draft 60 = .ok (.ireturn, 1) := dk_172 (dk_at dksX0_draft_2 12 rfl rfl)
abbrev cX0_tell : ByteArray := prog_1_method_11_code
def yX0_tell : MethodName := ⟨RX0, "tell", "([I)V"⟩
def dkwX0_tell_9 : List UInt8 := [181, 0, 54, 177]
abbrev dktX0_tell_9 : List UInt8 := dkwX0_tell_9 ++ []
def dkwX0_tell_8 : List UInt8 := [180, 0, 82, 42, 89, 180, 0, 64, 90, 4, 96, 181, 0, 64, 43, 4, 46, 79, 42, 43, 5, 46]
abbrev dktX0_tell_8 : List UInt8 := dkwX0_tell_8 ++ dktX0_tell_9
def dkwX0_tell_7 : List UInt8 := [5, 46, 181, 0, 106, 167, 0, 42, 42, 3, 181, 0, 64, 42, 3, 181, 0, 54, 167, 0, 29, 42]
abbrev dktX0_tell_7 : List UInt8 := dkwX0_tell_7 ++ dktX0_tell_8
def dkwX0_tell_6 : List UInt8 := [4, 46, 50, 43, 5, 46, 181, 0, 103, 167, 0, 62, 42, 180, 0, 30, 180, 0, 73, 43, 4, 46, 50, 43]
abbrev dktX0_tell_6 : List UInt8 := dkwX0_tell_6 ++ dktX0_tell_7
def dkwX0_tell_5 : List UInt8 := [180, 0, 73, 43, 4, 46, 50, 43, 5, 46, 181, 0, 102, 167, 0, 82, 42, 180, 0, 30, 180, 0, 90, 43]
abbrev dktX0_tell_5 : List UInt8 := dkwX0_tell_5 ++ dktX0_tell_6
def dkwX0_tell_4 : List UInt8 := [180, 0, 99, 43, 4, 46, 92, 46, 4, 43, 5, 46, 120, 130, 79, 167, 0, 102, 42, 180, 0, 30]
abbrev dktX0_tell_4 : List UInt8 := dkwX0_tell_4 ++ dktX0_tell_5
def dkwX0_tell_3 : List UInt8 := [180, 0, 30, 180, 0, 90, 43, 4, 46, 50, 43, 5, 46, 181, 0, 94, 167, 0, 124, 42, 180, 0, 30]
abbrev dktX0_tell_3 : List UInt8 := dkwX0_tell_3 ++ dktX0_tell_4
def dkwX0_tell_2 : List UInt8 := [42, 180, 0, 30, 43, 4, 46, 43, 5, 46, 43, 6, 46, 43, 7, 46, 182, 0, 86, 167, 0, 144, 42]
abbrev dktX0_tell_2 : List UInt8 := dkwX0_tell_2 ++ dktX0_tell_3
def dkwX0_tell_1 : List UInt8 := [170, 0, 0, 0, 178, 0, 0, 0, 0, 0, 0, 0, 6, 0, 0, 0, 41, 0, 0, 0, 63, 0, 0, 0, 83, 0, 0, 0, 105, 0, 0, 0, 125, 0, 0, 0, 145, 0, 0, 0, 165]
abbrev dktX0_tell_1 : List UInt8 := dkwX0_tell_1 ++ dktX0_tell_2
def dkwX0_tell_0 : List UInt8 := [43, 3, 46]
abbrev dktX0_tell_0 : List UInt8 := dkwX0_tell_0 ++ dktX0_tell_1
theorem dksX0_tell_0 : cX0_tell.data.toList.drop 0 = dktX0_tell_0 := by decide +kernel
theorem dksX0_tell_1 : cX0_tell.data.toList.drop 3 = dktX0_tell_1 := dk_seg dksX0_tell_0 3 rfl rfl
theorem dksX0_tell_2 : cX0_tell.data.toList.drop 44 = dktX0_tell_2 := dk_seg dksX0_tell_1 41 rfl rfl
theorem dksX0_tell_3 : cX0_tell.data.toList.drop 67 = dktX0_tell_3 := dk_seg dksX0_tell_2 23 rfl rfl
theorem dksX0_tell_4 : cX0_tell.data.toList.drop 90 = dktX0_tell_4 := dk_seg dksX0_tell_3 23 rfl rfl
theorem dksX0_tell_5 : cX0_tell.data.toList.drop 112 = dktX0_tell_5 := dk_seg dksX0_tell_4 22 rfl rfl
theorem dksX0_tell_6 : cX0_tell.data.toList.drop 136 = dktX0_tell_6 := dk_seg dksX0_tell_5 24 rfl rfl
theorem dksX0_tell_7 : cX0_tell.data.toList.drop 160 = dktX0_tell_7 := dk_seg dksX0_tell_6 24 rfl rfl
theorem dksX0_tell_8 : cX0_tell.data.toList.drop 182 = dktX0_tell_8 := dk_seg dksX0_tell_7 22 rfl rfl
theorem dksX0_tell_9 : cX0_tell.data.toList.drop 204 = dktX0_tell_9 := dk_seg dksX0_tell_8 22 rfl rfl
theorem dX0_tell_0 : decode cX0_tell 0 = .ok (.aload_n 1, 1) := dk_43 (dk_at dksX0_tell_0 0 rfl rfl)
theorem dX0_tell_1 : decode cX0_tell 1 = .ok (.iconst 0, 1) := dk_3 (dk_at dksX0_tell_0 1 rfl rfl)
theorem dX0_tell_2 : decode cX0_tell 2 = .ok (.iaload, 1) := dk_46 (dk_at dksX0_tell_0 2 rfl rfl)
theorem dX0_tell_3 : decode cX0_tell 3 = .ok (.tableswitch 178 0 6 #[41, 63, 83, 105, 125, 145, 165], 41) := by decide +kernel
theorem dX0_tell_44 : decode cX0_tell 44 = .ok (.aload_n 0, 1) := dk_42 (dk_at dksX0_tell_2 0 rfl rfl)
theorem dX0_tell_45 : decode cX0_tell 45 = .ok (.getfield 30, 3) := dk_180 0 30 (dk_at dksX0_tell_2 1 rfl rfl)
theorem dX0_tell_48 : decode cX0_tell 48 = .ok (.aload_n 1, 1) := dk_43 (dk_at dksX0_tell_2 4 rfl rfl)
theorem dX0_tell_49 : decode cX0_tell 49 = .ok (.iconst 1, 1) := dk_4 (dk_at dksX0_tell_2 5 rfl rfl)
theorem dX0_tell_50 : decode cX0_tell 50 = .ok (.iaload, 1) := dk_46 (dk_at dksX0_tell_2 6 rfl rfl)
theorem dX0_tell_51 : decode cX0_tell 51 = .ok (.aload_n 1, 1) := dk_43 (dk_at dksX0_tell_2 7 rfl rfl)
theorem dX0_tell_52 : decode cX0_tell 52 = .ok (.iconst 2, 1) := dk_5 (dk_at dksX0_tell_2 8 rfl rfl)
theorem dX0_tell_53 : decode cX0_tell 53 = .ok (.iaload, 1) := dk_46 (dk_at dksX0_tell_2 9 rfl rfl)
theorem dX0_tell_54 : decode cX0_tell 54 = .ok (.aload_n 1, 1) := dk_43 (dk_at dksX0_tell_2 10 rfl rfl)
theorem dX0_tell_55 : decode cX0_tell 55 = .ok (.iconst 3, 1) := dk_6 (dk_at dksX0_tell_2 11 rfl rfl)
theorem dX0_tell_56 : decode cX0_tell 56 = .ok (.iaload, 1) := dk_46 (dk_at dksX0_tell_2 12 rfl rfl)
theorem dX0_tell_57 : decode cX0_tell 57 = .ok (.aload_n 1, 1) := dk_43 (dk_at dksX0_tell_2 13 rfl rfl)
theorem dX0_tell_58 : decode cX0_tell 58 = .ok (.iconst 4, 1) := dk_7 (dk_at dksX0_tell_2 14 rfl rfl)
theorem dX0_tell_59 : decode cX0_tell 59 = .ok (.iaload, 1) := dk_46 (dk_at dksX0_tell_2 15 rfl rfl)
theorem dX0_tell_60 : decode cX0_tell 60 = .ok (.invokevirtual 86, 3) := dk_182 0 86 (dk_at dksX0_tell_2 16 rfl rfl)
theorem dX0_tell_63 : decode cX0_tell 63 = .ok (.goto 144, 3) := dk_167 0 144 (dk_at dksX0_tell_2 19 rfl rfl)
theorem dX0_tell_66 : decode cX0_tell 66 = .ok (.aload_n 0, 1) := dk_42 (dk_at dksX0_tell_2 22 rfl rfl)
theorem dX0_tell_67 : decode cX0_tell 67 = .ok (.getfield 30, 3) := dk_180 0 30 (dk_at dksX0_tell_3 0 rfl rfl)
theorem dX0_tell_70 : decode cX0_tell 70 = .ok (.getfield 90, 3) := dk_180 0 90 (dk_at dksX0_tell_3 3 rfl rfl)
theorem dX0_tell_73 : decode cX0_tell 73 = .ok (.aload_n 1, 1) := dk_43 (dk_at dksX0_tell_3 6 rfl rfl)
theorem dX0_tell_74 : decode cX0_tell 74 = .ok (.iconst 1, 1) := dk_4 (dk_at dksX0_tell_3 7 rfl rfl)
theorem dX0_tell_75 : decode cX0_tell 75 = .ok (.iaload, 1) := dk_46 (dk_at dksX0_tell_3 8 rfl rfl)
theorem dX0_tell_76 : decode cX0_tell 76 = .ok (.aaload, 1) := dk_50 (dk_at dksX0_tell_3 9 rfl rfl)
theorem dX0_tell_77 : decode cX0_tell 77 = .ok (.aload_n 1, 1) := dk_43 (dk_at dksX0_tell_3 10 rfl rfl)
theorem dX0_tell_78 : decode cX0_tell 78 = .ok (.iconst 2, 1) := dk_5 (dk_at dksX0_tell_3 11 rfl rfl)
theorem dX0_tell_79 : decode cX0_tell 79 = .ok (.iaload, 1) := dk_46 (dk_at dksX0_tell_3 12 rfl rfl)
theorem dX0_tell_80 : decode cX0_tell 80 = .ok (.putfield 94, 3) := dk_181 0 94 (dk_at dksX0_tell_3 13 rfl rfl)
theorem dX0_tell_83 : decode cX0_tell 83 = .ok (.goto 124, 3) := dk_167 0 124 (dk_at dksX0_tell_3 16 rfl rfl)
theorem dX0_tell_86 : decode cX0_tell 86 = .ok (.aload_n 0, 1) := dk_42 (dk_at dksX0_tell_3 19 rfl rfl)
theorem dX0_tell_87 : decode cX0_tell 87 = .ok (.getfield 30, 3) := dk_180 0 30 (dk_at dksX0_tell_3 20 rfl rfl)
theorem dX0_tell_90 : decode cX0_tell 90 = .ok (.getfield 99, 3) := dk_180 0 99 (dk_at dksX0_tell_4 0 rfl rfl)
theorem dX0_tell_93 : decode cX0_tell 93 = .ok (.aload_n 1, 1) := dk_43 (dk_at dksX0_tell_4 3 rfl rfl)
theorem dX0_tell_94 : decode cX0_tell 94 = .ok (.iconst 1, 1) := dk_4 (dk_at dksX0_tell_4 4 rfl rfl)
theorem dX0_tell_95 : decode cX0_tell 95 = .ok (.iaload, 1) := dk_46 (dk_at dksX0_tell_4 5 rfl rfl)
theorem dX0_tell_96 : decode cX0_tell 96 = .ok (.dup2, 1) := dk_92 (dk_at dksX0_tell_4 6 rfl rfl)
theorem dX0_tell_97 : decode cX0_tell 97 = .ok (.iaload, 1) := dk_46 (dk_at dksX0_tell_4 7 rfl rfl)
theorem dX0_tell_98 : decode cX0_tell 98 = .ok (.iconst 1, 1) := dk_4 (dk_at dksX0_tell_4 8 rfl rfl)
theorem dX0_tell_99 : decode cX0_tell 99 = .ok (.aload_n 1, 1) := dk_43 (dk_at dksX0_tell_4 9 rfl rfl)
theorem dX0_tell_100 : decode cX0_tell 100 = .ok (.iconst 2, 1) := dk_5 (dk_at dksX0_tell_4 10 rfl rfl)
theorem dX0_tell_101 : decode cX0_tell 101 = .ok (.iaload, 1) := dk_46 (dk_at dksX0_tell_4 11 rfl rfl)
theorem dX0_tell_102 : decode cX0_tell 102 = .ok (.ishl, 1) := dk_120 (dk_at dksX0_tell_4 12 rfl rfl)
theorem dX0_tell_103 : decode cX0_tell 103 = .ok (.ixor, 1) := dk_130 (dk_at dksX0_tell_4 13 rfl rfl)
theorem dX0_tell_104 : decode cX0_tell 104 = .ok (.iastore, 1) := dk_79 (dk_at dksX0_tell_4 14 rfl rfl)
theorem dX0_tell_105 : decode cX0_tell 105 = .ok (.goto 102, 3) := dk_167 0 102 (dk_at dksX0_tell_4 15 rfl rfl)
theorem dX0_tell_108 : decode cX0_tell 108 = .ok (.aload_n 0, 1) := dk_42 (dk_at dksX0_tell_4 18 rfl rfl)
theorem dX0_tell_109 : decode cX0_tell 109 = .ok (.getfield 30, 3) := dk_180 0 30 (dk_at dksX0_tell_4 19 rfl rfl)
theorem dX0_tell_112 : decode cX0_tell 112 = .ok (.getfield 73, 3) := dk_180 0 73 (dk_at dksX0_tell_5 0 rfl rfl)
theorem dX0_tell_115 : decode cX0_tell 115 = .ok (.aload_n 1, 1) := dk_43 (dk_at dksX0_tell_5 3 rfl rfl)
theorem dX0_tell_116 : decode cX0_tell 116 = .ok (.iconst 1, 1) := dk_4 (dk_at dksX0_tell_5 4 rfl rfl)
theorem dX0_tell_117 : decode cX0_tell 117 = .ok (.iaload, 1) := dk_46 (dk_at dksX0_tell_5 5 rfl rfl)
theorem dX0_tell_118 : decode cX0_tell 118 = .ok (.aaload, 1) := dk_50 (dk_at dksX0_tell_5 6 rfl rfl)
theorem dX0_tell_119 : decode cX0_tell 119 = .ok (.aload_n 1, 1) := dk_43 (dk_at dksX0_tell_5 7 rfl rfl)
theorem dX0_tell_120 : decode cX0_tell 120 = .ok (.iconst 2, 1) := dk_5 (dk_at dksX0_tell_5 8 rfl rfl)
theorem dX0_tell_121 : decode cX0_tell 121 = .ok (.iaload, 1) := dk_46 (dk_at dksX0_tell_5 9 rfl rfl)
theorem dX0_tell_122 : decode cX0_tell 122 = .ok (.putfield 102, 3) := dk_181 0 102 (dk_at dksX0_tell_5 10 rfl rfl)
theorem dX0_tell_125 : decode cX0_tell 125 = .ok (.goto 82, 3) := dk_167 0 82 (dk_at dksX0_tell_5 13 rfl rfl)
theorem dX0_tell_128 : decode cX0_tell 128 = .ok (.aload_n 0, 1) := dk_42 (dk_at dksX0_tell_5 16 rfl rfl)
theorem dX0_tell_129 : decode cX0_tell 129 = .ok (.getfield 30, 3) := dk_180 0 30 (dk_at dksX0_tell_5 17 rfl rfl)
theorem dX0_tell_132 : decode cX0_tell 132 = .ok (.getfield 90, 3) := dk_180 0 90 (dk_at dksX0_tell_5 20 rfl rfl)
theorem dX0_tell_135 : decode cX0_tell 135 = .ok (.aload_n 1, 1) := dk_43 (dk_at dksX0_tell_5 23 rfl rfl)
theorem dX0_tell_136 : decode cX0_tell 136 = .ok (.iconst 1, 1) := dk_4 (dk_at dksX0_tell_6 0 rfl rfl)
theorem dX0_tell_137 : decode cX0_tell 137 = .ok (.iaload, 1) := dk_46 (dk_at dksX0_tell_6 1 rfl rfl)
theorem dX0_tell_138 : decode cX0_tell 138 = .ok (.aaload, 1) := dk_50 (dk_at dksX0_tell_6 2 rfl rfl)
theorem dX0_tell_139 : decode cX0_tell 139 = .ok (.aload_n 1, 1) := dk_43 (dk_at dksX0_tell_6 3 rfl rfl)
theorem dX0_tell_140 : decode cX0_tell 140 = .ok (.iconst 2, 1) := dk_5 (dk_at dksX0_tell_6 4 rfl rfl)
theorem dX0_tell_141 : decode cX0_tell 141 = .ok (.iaload, 1) := dk_46 (dk_at dksX0_tell_6 5 rfl rfl)
theorem dX0_tell_142 : decode cX0_tell 142 = .ok (.putfield 103, 3) := dk_181 0 103 (dk_at dksX0_tell_6 6 rfl rfl)
theorem dX0_tell_145 : decode cX0_tell 145 = .ok (.goto 62, 3) := dk_167 0 62 (dk_at dksX0_tell_6 9 rfl rfl)
theorem dX0_tell_148 : decode cX0_tell 148 = .ok (.aload_n 0, 1) := dk_42 (dk_at dksX0_tell_6 12 rfl rfl)
theorem dX0_tell_149 : decode cX0_tell 149 = .ok (.getfield 30, 3) := dk_180 0 30 (dk_at dksX0_tell_6 13 rfl rfl)
theorem dX0_tell_152 : decode cX0_tell 152 = .ok (.getfield 73, 3) := dk_180 0 73 (dk_at dksX0_tell_6 16 rfl rfl)
theorem dX0_tell_155 : decode cX0_tell 155 = .ok (.aload_n 1, 1) := dk_43 (dk_at dksX0_tell_6 19 rfl rfl)
theorem dX0_tell_156 : decode cX0_tell 156 = .ok (.iconst 1, 1) := dk_4 (dk_at dksX0_tell_6 20 rfl rfl)
theorem dX0_tell_157 : decode cX0_tell 157 = .ok (.iaload, 1) := dk_46 (dk_at dksX0_tell_6 21 rfl rfl)
theorem dX0_tell_158 : decode cX0_tell 158 = .ok (.aaload, 1) := dk_50 (dk_at dksX0_tell_6 22 rfl rfl)
theorem dX0_tell_159 : decode cX0_tell 159 = .ok (.aload_n 1, 1) := dk_43 (dk_at dksX0_tell_6 23 rfl rfl)
theorem dX0_tell_160 : decode cX0_tell 160 = .ok (.iconst 2, 1) := dk_5 (dk_at dksX0_tell_7 0 rfl rfl)
theorem dX0_tell_161 : decode cX0_tell 161 = .ok (.iaload, 1) := dk_46 (dk_at dksX0_tell_7 1 rfl rfl)
theorem dX0_tell_162 : decode cX0_tell 162 = .ok (.putfield 106, 3) := dk_181 0 106 (dk_at dksX0_tell_7 2 rfl rfl)
theorem dX0_tell_165 : decode cX0_tell 165 = .ok (.goto 42, 3) := dk_167 0 42 (dk_at dksX0_tell_7 5 rfl rfl)
theorem dX0_tell_168 : decode cX0_tell 168 = .ok (.aload_n 0, 1) := dk_42 (dk_at dksX0_tell_7 8 rfl rfl)
theorem dX0_tell_169 : decode cX0_tell 169 = .ok (.iconst 0, 1) := dk_3 (dk_at dksX0_tell_7 9 rfl rfl)
theorem dX0_tell_170 : decode cX0_tell 170 = .ok (.putfield 64, 3) := dk_181 0 64 (dk_at dksX0_tell_7 10 rfl rfl)
theorem dX0_tell_173 : decode cX0_tell 173 = .ok (.aload_n 0, 1) := dk_42 (dk_at dksX0_tell_7 13 rfl rfl)
theorem dX0_tell_174 : decode cX0_tell 174 = .ok (.iconst 0, 1) := dk_3 (dk_at dksX0_tell_7 14 rfl rfl)
theorem dX0_tell_175 : decode cX0_tell 175 = .ok (.putfield 54, 3) := dk_181 0 54 (dk_at dksX0_tell_7 15 rfl rfl)
theorem dX0_tell_178 : decode cX0_tell 178 = .ok (.goto 29, 3) := dk_167 0 29 (dk_at dksX0_tell_7 18 rfl rfl)
theorem dX0_tell_181 : decode cX0_tell 181 = .ok (.aload_n 0, 1) := dk_42 (dk_at dksX0_tell_7 21 rfl rfl)
theorem dX0_tell_182 : decode cX0_tell 182 = .ok (.getfield 82, 3) := dk_180 0 82 (dk_at dksX0_tell_8 0 rfl rfl)
theorem dX0_tell_185 : decode cX0_tell 185 = .ok (.aload_n 0, 1) := dk_42 (dk_at dksX0_tell_8 3 rfl rfl)
theorem dX0_tell_186 : decode cX0_tell 186 = .ok (.dup, 1) := dk_89 (dk_at dksX0_tell_8 4 rfl rfl)
theorem dX0_tell_187 : decode cX0_tell 187 = .ok (.getfield 64, 3) := dk_180 0 64 (dk_at dksX0_tell_8 5 rfl rfl)
theorem dX0_tell_190 : decode cX0_tell 190 = .ok (.dup_x1, 1) := dk_90 (dk_at dksX0_tell_8 8 rfl rfl)
theorem dX0_tell_191 : decode cX0_tell 191 = .ok (.iconst 1, 1) := dk_4 (dk_at dksX0_tell_8 9 rfl rfl)
theorem dX0_tell_192 : decode cX0_tell 192 = .ok (.iadd, 1) := dk_96 (dk_at dksX0_tell_8 10 rfl rfl)
theorem dX0_tell_193 : decode cX0_tell 193 = .ok (.putfield 64, 3) := dk_181 0 64 (dk_at dksX0_tell_8 11 rfl rfl)
theorem dX0_tell_196 : decode cX0_tell 196 = .ok (.aload_n 1, 1) := dk_43 (dk_at dksX0_tell_8 14 rfl rfl)
theorem dX0_tell_197 : decode cX0_tell 197 = .ok (.iconst 1, 1) := dk_4 (dk_at dksX0_tell_8 15 rfl rfl)
theorem dX0_tell_198 : decode cX0_tell 198 = .ok (.iaload, 1) := dk_46 (dk_at dksX0_tell_8 16 rfl rfl)
theorem dX0_tell_199 : decode cX0_tell 199 = .ok (.iastore, 1) := dk_79 (dk_at dksX0_tell_8 17 rfl rfl)
theorem dX0_tell_200 : decode cX0_tell 200 = .ok (.aload_n 0, 1) := dk_42 (dk_at dksX0_tell_8 18 rfl rfl)
theorem dX0_tell_201 : decode cX0_tell 201 = .ok (.aload_n 1, 1) := dk_43 (dk_at dksX0_tell_8 19 rfl rfl)
theorem dX0_tell_202 : decode cX0_tell 202 = .ok (.iconst 2, 1) := dk_5 (dk_at dksX0_tell_8 20 rfl rfl)
theorem dX0_tell_203 : decode cX0_tell 203 = .ok (.iaload, 1) := dk_46 (dk_at dksX0_tell_8 21 rfl rfl)
theorem dX0_tell_204 : decode cX0_tell 204 = .ok (.putfield 54, 3) := dk_181 0 54 (dk_at dksX0_tell_9 0 rfl rfl)
theorem dX0_tell_207 : decode cX0_tell 207 = .ok (.return_, 1) := dk_177 (dk_at dksX0_tell_9 3 rfl rfl)
abbrev cX0_end : ByteArray := prog_1_method_22_code
def yX0_end : MethodName := ⟨RX0, "end", "(II)I"⟩
def dkwX0_end_1 : List UInt8 := [180, 0, 30, 180, 0, 90, 27, 50, 28, 184, 0, 176, 167, 0, 5, 16, 253, 172]
abbrev dktX0_end_1 : List UInt8 := dkwX0_end_1 ++ []
def dkwX0_end_0 : List UInt8 := [42, 27, 182, 0, 170, 154, 0, 6, 16, 254, 172, 28, 133, 9, 20, 0, 174, 184, 0, 124, 153, 0, 19, 42]
abbrev dktX0_end_0 : List UInt8 := dkwX0_end_0 ++ dktX0_end_1
theorem dksX0_end_0 : cX0_end.data.toList.drop 0 = dktX0_end_0 := by decide +kernel
theorem dksX0_end_1 : cX0_end.data.toList.drop 24 = dktX0_end_1 := dk_seg dksX0_end_0 24 rfl rfl
theorem dX0_end_0 : decode cX0_end 0 = .ok (.aload_n 0, 1) := dk_42 (dk_at dksX0_end_0 0 rfl rfl)
theorem dX0_end_1 : decode cX0_end 1 = .ok (.iload_n 1, 1) := dk_27 (dk_at dksX0_end_0 1 rfl rfl)
theorem dX0_end_2 : decode cX0_end 2 = .ok (.invokevirtual 170, 3) := dk_182 0 170 (dk_at dksX0_end_0 2 rfl rfl)
theorem dX0_end_5 : decode cX0_end 5 = .ok (.ifCond .ne 6, 3) := dk_154 0 6 (dk_at dksX0_end_0 5 rfl rfl)
theorem dX0_end_8 : decode cX0_end 8 = .ok (.bipush (-2), 2) := dk_16 254 (dk_at dksX0_end_0 8 rfl rfl)
theorem dX0_end_10 : decode cX0_end 10 = .ok (.ireturn, 1) := dk_172 (dk_at dksX0_end_0 10 rfl rfl)
theorem dX0_end_11 : decode cX0_end 11 = .ok (.iload_n 2, 1) := dk_28 (dk_at dksX0_end_0 11 rfl rfl)
theorem dX0_end_12 : decode cX0_end 12 = .ok (.i2l, 1) := dk_133 (dk_at dksX0_end_0 12 rfl rfl)
theorem dX0_end_13 : decode cX0_end 13 = .ok (.lconst 0, 1) := dk_9 (dk_at dksX0_end_0 13 rfl rfl)
theorem dX0_end_14 : decode cX0_end 14 = .ok (.ldc2_w 174, 3) := dk_20 0 174 (dk_at dksX0_end_0 14 rfl rfl)
theorem dX0_end_17 : decode cX0_end 17 = .ok (.invokestatic 124, 3) := dk_184 0 124 (dk_at dksX0_end_0 17 rfl rfl)
theorem dX0_end_20 : decode cX0_end 20 = .ok (.ifCond .eq 19, 3) := dk_153 0 19 (dk_at dksX0_end_0 20 rfl rfl)
theorem dX0_end_23 : decode cX0_end 23 = .ok (.aload_n 0, 1) := dk_42 (dk_at dksX0_end_0 23 rfl rfl)
theorem dX0_end_24 : decode cX0_end 24 = .ok (.getfield 30, 3) := dk_180 0 30 (dk_at dksX0_end_1 0 rfl rfl)
theorem dX0_end_27 : decode cX0_end 27 = .ok (.getfield 90, 3) := dk_180 0 90 (dk_at dksX0_end_1 3 rfl rfl)
theorem dX0_end_30 : decode cX0_end 30 = .ok (.iload_n 1, 1) := dk_27 (dk_at dksX0_end_1 6 rfl rfl)
theorem dX0_end_31 : decode cX0_end 31 = .ok (.aaload, 1) := dk_50 (dk_at dksX0_end_1 7 rfl rfl)
theorem dX0_end_32 : decode cX0_end 32 = .ok (.iload_n 2, 1) := dk_28 (dk_at dksX0_end_1 8 rfl rfl)
theorem dX0_end_33 : decode cX0_end 33 = .ok (.invokestatic 176, 3) := dk_184 0 176 (dk_at dksX0_end_1 9 rfl rfl)
theorem dX0_end_36 : decode cX0_end 36 = .ok (.goto 5, 3) := dk_167 0 5 (dk_at dksX0_end_1 12 rfl rfl)
theorem dX0_end_39 : decode cX0_end 39 = .ok (.bipush (-3), 2) := dk_16 253 (dk_at dksX0_end_1 15 rfl rfl)
theorem dX0_end_41 : decode cX0_end 41 = .ok (.ireturn, 1) := dk_172 (dk_at dksX0_end_1 17 rfl rfl)
abbrev cX0_isEnd : ByteArray := prog_1_method_13_code
def yX0_isEnd : MethodName := ⟨RX0, "isEnd", "(I)Z"⟩
def dkwX0_isEnd_0 : List UInt8 := [27, 133, 9, 42, 180, 0, 30, 180, 0, 67, 4, 100, 133, 184, 0, 124, 172]
abbrev dktX0_isEnd_0 : List UInt8 := dkwX0_isEnd_0 ++ []
theorem dksX0_isEnd_0 : cX0_isEnd.data.toList.drop 0 = dktX0_isEnd_0 := by decide +kernel
theorem dX0_isEnd_0 : decode cX0_isEnd 0 = .ok (.iload_n 1, 1) := dk_27 (dk_at dksX0_isEnd_0 0 rfl rfl)
theorem dX0_isEnd_1 : decode cX0_isEnd 1 = .ok (.i2l, 1) := dk_133 (dk_at dksX0_isEnd_0 1 rfl rfl)
theorem dX0_isEnd_2 : decode cX0_isEnd 2 = .ok (.lconst 0, 1) := dk_9 (dk_at dksX0_isEnd_0 2 rfl rfl)
theorem dX0_isEnd_3 : decode cX0_isEnd 3 = .ok (.aload_n 0, 1) := dk_42 (dk_at dksX0_isEnd_0 3 rfl rfl)
theorem dX0_isEnd_4 : decode cX0_isEnd 4 = .ok (.getfield 30, 3) := dk_180 0 30 (dk_at dksX0_isEnd_0 4 rfl rfl)
theorem dX0_isEnd_7 : decode cX0_isEnd 7 = .ok (.getfield 67, 3) := dk_180 0 67 (dk_at dksX0_isEnd_0 7 rfl rfl)
theorem dX0_isEnd_10 : decode cX0_isEnd 10 = .ok (.iconst 1, 1) := dk_4 (dk_at dksX0_isEnd_0 10 rfl rfl)
theorem dX0_isEnd_11 : decode cX0_isEnd 11 = .ok (.isub, 1) := dk_100 (dk_at dksX0_isEnd_0 11 rfl rfl)
theorem dX0_isEnd_12 : decode cX0_isEnd 12 = .ok (.i2l, 1) := dk_133 (dk_at dksX0_isEnd_0 12 rfl rfl)
theorem dX0_isEnd_13 : decode cX0_isEnd 13 = .ok (.invokestatic 124, 3) := dk_184 0 124 (dk_at dksX0_isEnd_0 13 rfl rfl)
theorem dX0_isEnd_16 : decode cX0_isEnd 16 = .ok (.ireturn, 1) := dk_172 (dk_at dksX0_isEnd_0 16 rfl rfl)
abbrev cX0_told : ByteArray := prog_1_method_21_code
def yX0_told : MethodName := ⟨RX0, "told", "(LWeaveDraft$Strand;I)I"⟩
def dkwX0_told_3 : List UInt8 := [172, 42, 182, 0, 169, 172]
abbrev dktX0_told_3 : List UInt8 := dkwX0_told_3 ++ []
def dkwX0_told_2 : List UInt8 := [42, 180, 0, 161, 172, 42, 180, 0, 164, 172, 42, 27, 5, 160, 0, 7, 4, 167, 0, 4, 3, 182, 0, 165]
abbrev dktX0_told_2 : List UInt8 := dkwX0_told_2 ++ dktX0_told_3
def dkwX0_told_1 : List UInt8 := [170, 0, 0, 0, 0, 0, 56, 0, 0, 0, 0, 0, 0, 0, 3, 0, 0, 0, 31, 0, 0, 0, 36, 0, 0, 0, 41, 0, 0, 0, 41]
abbrev dktX0_told_1 : List UInt8 := dkwX0_told_1 ++ dktX0_told_2
def dkwX0_told_0 : List UInt8 := [27]
abbrev dktX0_told_0 : List UInt8 := dkwX0_told_0 ++ dktX0_told_1
theorem dksX0_told_0 : cX0_told.data.toList.drop 0 = dktX0_told_0 := by decide +kernel
theorem dksX0_told_1 : cX0_told.data.toList.drop 1 = dktX0_told_1 := dk_seg dksX0_told_0 1 rfl rfl
theorem dksX0_told_2 : cX0_told.data.toList.drop 32 = dktX0_told_2 := dk_seg dksX0_told_1 31 rfl rfl
theorem dksX0_told_3 : cX0_told.data.toList.drop 56 = dktX0_told_3 := dk_seg dksX0_told_2 24 rfl rfl
theorem dX0_told_0 : decode cX0_told 0 = .ok (.iload_n 1, 1) := dk_27 (dk_at dksX0_told_0 0 rfl rfl)
theorem dX0_told_1 : decode cX0_told 1 = .ok (.tableswitch 56 0 3 #[31, 36, 41, 41], 31) := by decide +kernel
theorem dX0_told_32 : decode cX0_told 32 = .ok (.aload_n 0, 1) := dk_42 (dk_at dksX0_told_2 0 rfl rfl)
theorem dX0_told_33 : decode cX0_told 33 = .ok (.getfield 161, 3) := dk_180 0 161 (dk_at dksX0_told_2 1 rfl rfl)
theorem dX0_told_36 : decode cX0_told 36 = .ok (.ireturn, 1) := dk_172 (dk_at dksX0_told_2 4 rfl rfl)
theorem dX0_told_37 : decode cX0_told 37 = .ok (.aload_n 0, 1) := dk_42 (dk_at dksX0_told_2 5 rfl rfl)
theorem dX0_told_38 : decode cX0_told 38 = .ok (.getfield 164, 3) := dk_180 0 164 (dk_at dksX0_told_2 6 rfl rfl)
theorem dX0_told_41 : decode cX0_told 41 = .ok (.ireturn, 1) := dk_172 (dk_at dksX0_told_2 9 rfl rfl)
theorem dX0_told_42 : decode cX0_told 42 = .ok (.aload_n 0, 1) := dk_42 (dk_at dksX0_told_2 10 rfl rfl)
theorem dX0_told_43 : decode cX0_told 43 = .ok (.iload_n 1, 1) := dk_27 (dk_at dksX0_told_2 11 rfl rfl)
theorem dX0_told_44 : decode cX0_told 44 = .ok (.iconst 2, 1) := dk_5 (dk_at dksX0_told_2 12 rfl rfl)
theorem dX0_told_45 : decode cX0_told 45 = .ok (.if_icmp .ne 7, 3) := dk_160 0 7 (dk_at dksX0_told_2 13 rfl rfl)
theorem dX0_told_48 : decode cX0_told 48 = .ok (.iconst 1, 1) := dk_4 (dk_at dksX0_told_2 16 rfl rfl)
theorem dX0_told_49 : decode cX0_told 49 = .ok (.goto 4, 3) := dk_167 0 4 (dk_at dksX0_told_2 17 rfl rfl)
theorem dX0_told_52 : decode cX0_told 52 = .ok (.iconst 0, 1) := dk_3 (dk_at dksX0_told_2 20 rfl rfl)
theorem dX0_told_53 : decode cX0_told 53 = .ok (.invokevirtual 165, 3) := dk_182 0 165 (dk_at dksX0_told_2 21 rfl rfl)
theorem dX0_told_56 : decode cX0_told 56 = .ok (.ireturn, 1) := dk_172 (dk_at dksX0_told_3 0 rfl rfl)
theorem dX0_told_57 : decode cX0_told 57 = .ok (.aload_n 0, 1) := dk_42 (dk_at dksX0_told_3 1 rfl rfl)
theorem dX0_told_58 : decode cX0_told 58 = .ok (.invokevirtual 169, 3) := dk_182 0 169 (dk_at dksX0_told_3 2 rfl rfl)
theorem dX0_told_61 : decode cX0_told 61 = .ok (.ireturn, 1) := dk_172 (dk_at dksX0_told_3 5 rfl rfl)
abbrev cX0_has : ByteArray := prog_1_method_2_code
def yX0_has : MethodName := ⟨RX0, "has", "(II)Z"⟩
def dkwX0_has_0 : List UInt8 := [26, 27, 122, 4, 126, 4, 160, 0, 7, 4, 167, 0, 4, 3, 172]
abbrev dktX0_has_0 : List UInt8 := dkwX0_has_0 ++ []
theorem dksX0_has_0 : cX0_has.data.toList.drop 0 = dktX0_has_0 := by decide +kernel
theorem dX0_has_0 : decode cX0_has 0 = .ok (.iload_n 0, 1) := dk_26 (dk_at dksX0_has_0 0 rfl rfl)
theorem dX0_has_1 : decode cX0_has 1 = .ok (.iload_n 1, 1) := dk_27 (dk_at dksX0_has_0 1 rfl rfl)
theorem dX0_has_2 : decode cX0_has 2 = .ok (.ishr, 1) := dk_122 (dk_at dksX0_has_0 2 rfl rfl)
theorem dX0_has_3 : decode cX0_has 3 = .ok (.iconst 1, 1) := dk_4 (dk_at dksX0_has_0 3 rfl rfl)
theorem dX0_has_4 : decode cX0_has 4 = .ok (.iand, 1) := dk_126 (dk_at dksX0_has_0 4 rfl rfl)
theorem dX0_has_5 : decode cX0_has 5 = .ok (.iconst 1, 1) := dk_4 (dk_at dksX0_has_0 5 rfl rfl)
theorem dX0_has_6 : decode cX0_has 6 = .ok (.if_icmp .ne 7, 3) := dk_160 0 7 (dk_at dksX0_has_0 6 rfl rfl)
theorem dX0_has_9 : decode cX0_has 9 = .ok (.iconst 1, 1) := dk_4 (dk_at dksX0_has_0 9 rfl rfl)
theorem dX0_has_10 : decode cX0_has 10 = .ok (.goto 4, 3) := dk_167 0 4 (dk_at dksX0_has_0 10 rfl rfl)
theorem dX0_has_13 : decode cX0_has 13 = .ok (.iconst 0, 1) := dk_3 (dk_at dksX0_has_0 13 rfl rfl)
theorem dX0_has_14 : decode cX0_has 14 = .ok (.ireturn, 1) := dk_172 (dk_at dksX0_has_0 14 rfl rfl)
abbrev cX0_pick : ByteArray := prog_1_method_23_code
def yX0_pick : MethodName := ⟨RX0, "pick", "(II)I"⟩
def dkwX0_pick_3 : List UInt8 := [167, 0, 12, 29, 158, 0, 7, 4, 167, 0, 4, 3, 172]
abbrev dktX0_pick_3 : List UInt8 := dkwX0_pick_3 ++ []
def dkwX0_pick_2 : List UInt8 := [180, 0, 30, 180, 0, 73, 27, 50, 28, 184, 0, 176, 167, 0, 22, 28, 16, 6, 160, 0, 7, 29]
abbrev dktX0_pick_2 : List UInt8 := dkwX0_pick_2 ++ dktX0_pick_3
def dkwX0_pick_1 : List UInt8 := [16, 253, 172, 42, 180, 0, 30, 180, 0, 73, 27, 50, 182, 0, 185, 62, 28, 8, 162, 0, 19, 42]
abbrev dktX0_pick_1 : List UInt8 := dkwX0_pick_1 ++ dktX0_pick_2
def dkwX0_pick_0 : List UInt8 := [42, 27, 182, 0, 180, 154, 0, 6, 16, 254, 172, 28, 133, 9, 20, 0, 183, 184, 0, 124, 154, 0, 6]
abbrev dktX0_pick_0 : List UInt8 := dkwX0_pick_0 ++ dktX0_pick_1
theorem dksX0_pick_0 : cX0_pick.data.toList.drop 0 = dktX0_pick_0 := by decide +kernel
theorem dksX0_pick_1 : cX0_pick.data.toList.drop 23 = dktX0_pick_1 := dk_seg dksX0_pick_0 23 rfl rfl
theorem dksX0_pick_2 : cX0_pick.data.toList.drop 45 = dktX0_pick_2 := dk_seg dksX0_pick_1 22 rfl rfl
theorem dksX0_pick_3 : cX0_pick.data.toList.drop 67 = dktX0_pick_3 := dk_seg dksX0_pick_2 22 rfl rfl
theorem dX0_pick_0 : decode cX0_pick 0 = .ok (.aload_n 0, 1) := dk_42 (dk_at dksX0_pick_0 0 rfl rfl)
theorem dX0_pick_1 : decode cX0_pick 1 = .ok (.iload_n 1, 1) := dk_27 (dk_at dksX0_pick_0 1 rfl rfl)
theorem dX0_pick_2 : decode cX0_pick 2 = .ok (.invokevirtual 180, 3) := dk_182 0 180 (dk_at dksX0_pick_0 2 rfl rfl)
theorem dX0_pick_5 : decode cX0_pick 5 = .ok (.ifCond .ne 6, 3) := dk_154 0 6 (dk_at dksX0_pick_0 5 rfl rfl)
theorem dX0_pick_8 : decode cX0_pick 8 = .ok (.bipush (-2), 2) := dk_16 254 (dk_at dksX0_pick_0 8 rfl rfl)
theorem dX0_pick_10 : decode cX0_pick 10 = .ok (.ireturn, 1) := dk_172 (dk_at dksX0_pick_0 10 rfl rfl)
theorem dX0_pick_11 : decode cX0_pick 11 = .ok (.iload_n 2, 1) := dk_28 (dk_at dksX0_pick_0 11 rfl rfl)
theorem dX0_pick_12 : decode cX0_pick 12 = .ok (.i2l, 1) := dk_133 (dk_at dksX0_pick_0 12 rfl rfl)
theorem dX0_pick_13 : decode cX0_pick 13 = .ok (.lconst 0, 1) := dk_9 (dk_at dksX0_pick_0 13 rfl rfl)
theorem dX0_pick_14 : decode cX0_pick 14 = .ok (.ldc2_w 183, 3) := dk_20 0 183 (dk_at dksX0_pick_0 14 rfl rfl)
theorem dX0_pick_17 : decode cX0_pick 17 = .ok (.invokestatic 124, 3) := dk_184 0 124 (dk_at dksX0_pick_0 17 rfl rfl)
theorem dX0_pick_20 : decode cX0_pick 20 = .ok (.ifCond .ne 6, 3) := dk_154 0 6 (dk_at dksX0_pick_0 20 rfl rfl)
theorem dX0_pick_23 : decode cX0_pick 23 = .ok (.bipush (-3), 2) := dk_16 253 (dk_at dksX0_pick_1 0 rfl rfl)
theorem dX0_pick_25 : decode cX0_pick 25 = .ok (.ireturn, 1) := dk_172 (dk_at dksX0_pick_1 2 rfl rfl)
theorem dX0_pick_26 : decode cX0_pick 26 = .ok (.aload_n 0, 1) := dk_42 (dk_at dksX0_pick_1 3 rfl rfl)
theorem dX0_pick_27 : decode cX0_pick 27 = .ok (.getfield 30, 3) := dk_180 0 30 (dk_at dksX0_pick_1 4 rfl rfl)
theorem dX0_pick_30 : decode cX0_pick 30 = .ok (.getfield 73, 3) := dk_180 0 73 (dk_at dksX0_pick_1 7 rfl rfl)
theorem dX0_pick_33 : decode cX0_pick 33 = .ok (.iload_n 1, 1) := dk_27 (dk_at dksX0_pick_1 10 rfl rfl)
theorem dX0_pick_34 : decode cX0_pick 34 = .ok (.aaload, 1) := dk_50 (dk_at dksX0_pick_1 11 rfl rfl)
theorem dX0_pick_35 : decode cX0_pick 35 = .ok (.invokevirtual 185, 3) := dk_182 0 185 (dk_at dksX0_pick_1 12 rfl rfl)
theorem dX0_pick_38 : decode cX0_pick 38 = .ok (.istore_n 3, 1) := dk_62 (dk_at dksX0_pick_1 15 rfl rfl)
theorem dX0_pick_39 : decode cX0_pick 39 = .ok (.iload_n 2, 1) := dk_28 (dk_at dksX0_pick_1 16 rfl rfl)
theorem dX0_pick_40 : decode cX0_pick 40 = .ok (.iconst 5, 1) := dk_8 (dk_at dksX0_pick_1 17 rfl rfl)
theorem dX0_pick_41 : decode cX0_pick 41 = .ok (.if_icmp .ge 19, 3) := dk_162 0 19 (dk_at dksX0_pick_1 18 rfl rfl)
theorem dX0_pick_44 : decode cX0_pick 44 = .ok (.aload_n 0, 1) := dk_42 (dk_at dksX0_pick_1 21 rfl rfl)
theorem dX0_pick_45 : decode cX0_pick 45 = .ok (.getfield 30, 3) := dk_180 0 30 (dk_at dksX0_pick_2 0 rfl rfl)
theorem dX0_pick_48 : decode cX0_pick 48 = .ok (.getfield 73, 3) := dk_180 0 73 (dk_at dksX0_pick_2 3 rfl rfl)
theorem dX0_pick_51 : decode cX0_pick 51 = .ok (.iload_n 1, 1) := dk_27 (dk_at dksX0_pick_2 6 rfl rfl)
theorem dX0_pick_52 : decode cX0_pick 52 = .ok (.aaload, 1) := dk_50 (dk_at dksX0_pick_2 7 rfl rfl)
theorem dX0_pick_53 : decode cX0_pick 53 = .ok (.iload_n 2, 1) := dk_28 (dk_at dksX0_pick_2 8 rfl rfl)
theorem dX0_pick_54 : decode cX0_pick 54 = .ok (.invokestatic 176, 3) := dk_184 0 176 (dk_at dksX0_pick_2 9 rfl rfl)
theorem dX0_pick_57 : decode cX0_pick 57 = .ok (.goto 22, 3) := dk_167 0 22 (dk_at dksX0_pick_2 12 rfl rfl)
theorem dX0_pick_60 : decode cX0_pick 60 = .ok (.iload_n 2, 1) := dk_28 (dk_at dksX0_pick_2 15 rfl rfl)
theorem dX0_pick_61 : decode cX0_pick 61 = .ok (.bipush 6, 2) := dk_16 6 (dk_at dksX0_pick_2 16 rfl rfl)
theorem dX0_pick_63 : decode cX0_pick 63 = .ok (.if_icmp .ne 7, 3) := dk_160 0 7 (dk_at dksX0_pick_2 18 rfl rfl)
theorem dX0_pick_66 : decode cX0_pick 66 = .ok (.iload_n 3, 1) := dk_29 (dk_at dksX0_pick_2 21 rfl rfl)
theorem dX0_pick_67 : decode cX0_pick 67 = .ok (.goto 12, 3) := dk_167 0 12 (dk_at dksX0_pick_3 0 rfl rfl)
theorem dX0_pick_70 : decode cX0_pick 70 = .ok (.iload_n 3, 1) := dk_29 (dk_at dksX0_pick_3 3 rfl rfl)
theorem dX0_pick_71 : decode cX0_pick 71 = .ok (.ifCond .le 7, 3) := dk_158 0 7 (dk_at dksX0_pick_3 4 rfl rfl)
theorem dX0_pick_74 : decode cX0_pick 74 = .ok (.iconst 1, 1) := dk_4 (dk_at dksX0_pick_3 7 rfl rfl)
theorem dX0_pick_75 : decode cX0_pick 75 = .ok (.goto 4, 3) := dk_167 0 4 (dk_at dksX0_pick_3 8 rfl rfl)
theorem dX0_pick_78 : decode cX0_pick 78 = .ok (.iconst 0, 1) := dk_3 (dk_at dksX0_pick_3 11 rfl rfl)
theorem dX0_pick_79 : decode cX0_pick 79 = .ok (.ireturn, 1) := dk_172 (dk_at dksX0_pick_3 12 rfl rfl)
abbrev cX0_isPick : ByteArray := prog_1_method_14_code
def yX0_isPick : MethodName := ⟨RX0, "isPick", "(I)Z"⟩
def dkwX0_isPick_0 : List UInt8 := [27, 133, 9, 42, 180, 0, 30, 180, 0, 70, 4, 100, 133, 184, 0, 124, 172]
abbrev dktX0_isPick_0 : List UInt8 := dkwX0_isPick_0 ++ []
theorem dksX0_isPick_0 : cX0_isPick.data.toList.drop 0 = dktX0_isPick_0 := by decide +kernel
theorem dX0_isPick_0 : decode cX0_isPick 0 = .ok (.iload_n 1, 1) := dk_27 (dk_at dksX0_isPick_0 0 rfl rfl)
theorem dX0_isPick_1 : decode cX0_isPick 1 = .ok (.i2l, 1) := dk_133 (dk_at dksX0_isPick_0 1 rfl rfl)
theorem dX0_isPick_2 : decode cX0_isPick 2 = .ok (.lconst 0, 1) := dk_9 (dk_at dksX0_isPick_0 2 rfl rfl)
theorem dX0_isPick_3 : decode cX0_isPick 3 = .ok (.aload_n 0, 1) := dk_42 (dk_at dksX0_isPick_0 3 rfl rfl)
theorem dX0_isPick_4 : decode cX0_isPick 4 = .ok (.getfield 30, 3) := dk_180 0 30 (dk_at dksX0_isPick_0 4 rfl rfl)
theorem dX0_isPick_7 : decode cX0_isPick 7 = .ok (.getfield 70, 3) := dk_180 0 70 (dk_at dksX0_isPick_0 7 rfl rfl)
theorem dX0_isPick_10 : decode cX0_isPick 10 = .ok (.iconst 1, 1) := dk_4 (dk_at dksX0_isPick_0 10 rfl rfl)
theorem dX0_isPick_11 : decode cX0_isPick 11 = .ok (.isub, 1) := dk_100 (dk_at dksX0_isPick_0 11 rfl rfl)
theorem dX0_isPick_12 : decode cX0_isPick 12 = .ok (.i2l, 1) := dk_133 (dk_at dksX0_isPick_0 12 rfl rfl)
theorem dX0_isPick_13 : decode cX0_isPick 13 = .ok (.invokestatic 124, 3) := dk_184 0 124 (dk_at dksX0_isPick_0 13 rfl rfl)
theorem dX0_isPick_16 : decode cX0_isPick 16 = .ok (.ireturn, 1) := dk_172 (dk_at dksX0_isPick_0 16 rfl rfl)
abbrev cX0_treadle : ByteArray := prog_1_method_24_code
def yX0_treadle : MethodName := ⟨RX0, "treadle", "(I)I"⟩
def dkwX0_treadle_0 : List UInt8 := [42, 27, 182, 0, 188, 153, 0, 15, 42, 180, 0, 30, 180, 0, 99, 27, 46, 167, 0, 5, 16, 254, 172]
abbrev dktX0_treadle_0 : List UInt8 := dkwX0_treadle_0 ++ []
theorem dksX0_treadle_0 : cX0_treadle.data.toList.drop 0 = dktX0_treadle_0 := by decide +kernel
theorem dX0_treadle_0 : decode cX0_treadle 0 = .ok (.aload_n 0, 1) := dk_42 (dk_at dksX0_treadle_0 0 rfl rfl)
theorem dX0_treadle_1 : decode cX0_treadle 1 = .ok (.iload_n 1, 1) := dk_27 (dk_at dksX0_treadle_0 1 rfl rfl)
theorem dX0_treadle_2 : decode cX0_treadle 2 = .ok (.invokevirtual 188, 3) := dk_182 0 188 (dk_at dksX0_treadle_0 2 rfl rfl)
theorem dX0_treadle_5 : decode cX0_treadle 5 = .ok (.ifCond .eq 15, 3) := dk_153 0 15 (dk_at dksX0_treadle_0 5 rfl rfl)
theorem dX0_treadle_8 : decode cX0_treadle 8 = .ok (.aload_n 0, 1) := dk_42 (dk_at dksX0_treadle_0 8 rfl rfl)
theorem dX0_treadle_9 : decode cX0_treadle 9 = .ok (.getfield 30, 3) := dk_180 0 30 (dk_at dksX0_treadle_0 9 rfl rfl)
theorem dX0_treadle_12 : decode cX0_treadle 12 = .ok (.getfield 99, 3) := dk_180 0 99 (dk_at dksX0_treadle_0 12 rfl rfl)
theorem dX0_treadle_15 : decode cX0_treadle 15 = .ok (.iload_n 1, 1) := dk_27 (dk_at dksX0_treadle_0 15 rfl rfl)
theorem dX0_treadle_16 : decode cX0_treadle 16 = .ok (.iaload, 1) := dk_46 (dk_at dksX0_treadle_0 16 rfl rfl)
theorem dX0_treadle_17 : decode cX0_treadle 17 = .ok (.goto 5, 3) := dk_167 0 5 (dk_at dksX0_treadle_0 17 rfl rfl)
theorem dX0_treadle_20 : decode cX0_treadle 20 = .ok (.bipush (-2), 2) := dk_16 254 (dk_at dksX0_treadle_0 20 rfl rfl)
theorem dX0_treadle_22 : decode cX0_treadle 22 = .ok (.ireturn, 1) := dk_172 (dk_at dksX0_treadle_0 22 rfl rfl)
abbrev cX0_isTreadle : ByteArray := prog_1_method_16_code
def yX0_isTreadle : MethodName := ⟨RX0, "isTreadle", "(I)Z"⟩
def dkwX0_isTreadle_0 : List UInt8 := [27, 133, 9, 42, 180, 0, 30, 180, 0, 131, 4, 100, 133, 184, 0, 124, 172]
abbrev dktX0_isTreadle_0 : List UInt8 := dkwX0_isTreadle_0 ++ []
theorem dksX0_isTreadle_0 : cX0_isTreadle.data.toList.drop 0 = dktX0_isTreadle_0 := by decide +kernel
theorem dX0_isTreadle_0 : decode cX0_isTreadle 0 = .ok (.iload_n 1, 1) := dk_27 (dk_at dksX0_isTreadle_0 0 rfl rfl)
theorem dX0_isTreadle_1 : decode cX0_isTreadle 1 = .ok (.i2l, 1) := dk_133 (dk_at dksX0_isTreadle_0 1 rfl rfl)
theorem dX0_isTreadle_2 : decode cX0_isTreadle 2 = .ok (.lconst 0, 1) := dk_9 (dk_at dksX0_isTreadle_0 2 rfl rfl)
theorem dX0_isTreadle_3 : decode cX0_isTreadle 3 = .ok (.aload_n 0, 1) := dk_42 (dk_at dksX0_isTreadle_0 3 rfl rfl)
theorem dX0_isTreadle_4 : decode cX0_isTreadle 4 = .ok (.getfield 30, 3) := dk_180 0 30 (dk_at dksX0_isTreadle_0 4 rfl rfl)
theorem dX0_isTreadle_7 : decode cX0_isTreadle 7 = .ok (.getfield 131, 3) := dk_180 0 131 (dk_at dksX0_isTreadle_0 7 rfl rfl)
theorem dX0_isTreadle_10 : decode cX0_isTreadle 10 = .ok (.iconst 1, 1) := dk_4 (dk_at dksX0_isTreadle_0 10 rfl rfl)
theorem dX0_isTreadle_11 : decode cX0_isTreadle 11 = .ok (.isub, 1) := dk_100 (dk_at dksX0_isTreadle_0 11 rfl rfl)
theorem dX0_isTreadle_12 : decode cX0_isTreadle 12 = .ok (.i2l, 1) := dk_133 (dk_at dksX0_isTreadle_0 12 rfl rfl)
theorem dX0_isTreadle_13 : decode cX0_isTreadle 13 = .ok (.invokestatic 124, 3) := dk_184 0 124 (dk_at dksX0_isTreadle_0 13 rfl rfl)
theorem dX0_isTreadle_16 : decode cX0_isTreadle 16 = .ok (.ireturn, 1) := dk_172 (dk_at dksX0_isTreadle_0 16 rfl rfl)
abbrev cX0_cross : ByteArray := prog_1_method_25_code
def yX0_cross : MethodName := ⟨RX0, "cross", "(III)I"⟩
def dkwX0_cross_3 : List UInt8 := [180, 0, 90, 28, 50, 180, 0, 103, 167, 0, 15, 42, 180, 0, 30, 180, 0, 73, 27, 50, 180, 0, 106, 172]
abbrev dktX0_cross_3 : List UInt8 := dkwX0_cross_3 ++ []
def dkwX0_cross_2 : List UInt8 := [21, 4, 153, 0, 7, 4, 167, 0, 39, 3, 167, 0, 35, 21, 4, 153, 0, 18, 42, 180, 0, 30]
abbrev dktX0_cross_2 : List UInt8 := dkwX0_cross_2 ++ dktX0_cross_3
def dkwX0_cross_1 : List UInt8 := [184, 0, 124, 154, 0, 6, 16, 253, 172, 42, 180, 0, 30, 27, 28, 182, 0, 191, 54, 4, 29, 154, 0, 16]
abbrev dktX0_cross_1 : List UInt8 := dkwX0_cross_1 ++ dktX0_cross_2
def dkwX0_cross_0 : List UInt8 := [42, 27, 182, 0, 180, 153, 0, 11, 42, 28, 182, 0, 170, 154, 0, 6, 16, 254, 172, 29, 133, 9, 10]
abbrev dktX0_cross_0 : List UInt8 := dkwX0_cross_0 ++ dktX0_cross_1
theorem dksX0_cross_0 : cX0_cross.data.toList.drop 0 = dktX0_cross_0 := by decide +kernel
theorem dksX0_cross_1 : cX0_cross.data.toList.drop 23 = dktX0_cross_1 := dk_seg dksX0_cross_0 23 rfl rfl
theorem dksX0_cross_2 : cX0_cross.data.toList.drop 47 = dktX0_cross_2 := dk_seg dksX0_cross_1 24 rfl rfl
theorem dksX0_cross_3 : cX0_cross.data.toList.drop 69 = dktX0_cross_3 := dk_seg dksX0_cross_2 22 rfl rfl
theorem dX0_cross_0 : decode cX0_cross 0 = .ok (.aload_n 0, 1) := dk_42 (dk_at dksX0_cross_0 0 rfl rfl)
theorem dX0_cross_1 : decode cX0_cross 1 = .ok (.iload_n 1, 1) := dk_27 (dk_at dksX0_cross_0 1 rfl rfl)
theorem dX0_cross_2 : decode cX0_cross 2 = .ok (.invokevirtual 180, 3) := dk_182 0 180 (dk_at dksX0_cross_0 2 rfl rfl)
theorem dX0_cross_5 : decode cX0_cross 5 = .ok (.ifCond .eq 11, 3) := dk_153 0 11 (dk_at dksX0_cross_0 5 rfl rfl)
theorem dX0_cross_8 : decode cX0_cross 8 = .ok (.aload_n 0, 1) := dk_42 (dk_at dksX0_cross_0 8 rfl rfl)
theorem dX0_cross_9 : decode cX0_cross 9 = .ok (.iload_n 2, 1) := dk_28 (dk_at dksX0_cross_0 9 rfl rfl)
theorem dX0_cross_10 : decode cX0_cross 10 = .ok (.invokevirtual 170, 3) := dk_182 0 170 (dk_at dksX0_cross_0 10 rfl rfl)
theorem dX0_cross_13 : decode cX0_cross 13 = .ok (.ifCond .ne 6, 3) := dk_154 0 6 (dk_at dksX0_cross_0 13 rfl rfl)
theorem dX0_cross_16 : decode cX0_cross 16 = .ok (.bipush (-2), 2) := dk_16 254 (dk_at dksX0_cross_0 16 rfl rfl)
theorem dX0_cross_18 : decode cX0_cross 18 = .ok (.ireturn, 1) := dk_172 (dk_at dksX0_cross_0 18 rfl rfl)
theorem dX0_cross_19 : decode cX0_cross 19 = .ok (.iload_n 3, 1) := dk_29 (dk_at dksX0_cross_0 19 rfl rfl)
theorem dX0_cross_20 : decode cX0_cross 20 = .ok (.i2l, 1) := dk_133 (dk_at dksX0_cross_0 20 rfl rfl)
theorem dX0_cross_21 : decode cX0_cross 21 = .ok (.lconst 0, 1) := dk_9 (dk_at dksX0_cross_0 21 rfl rfl)
theorem dX0_cross_22 : decode cX0_cross 22 = .ok (.lconst 1, 1) := dk_10 (dk_at dksX0_cross_0 22 rfl rfl)
theorem dX0_cross_23 : decode cX0_cross 23 = .ok (.invokestatic 124, 3) := dk_184 0 124 (dk_at dksX0_cross_1 0 rfl rfl)
theorem dX0_cross_26 : decode cX0_cross 26 = .ok (.ifCond .ne 6, 3) := dk_154 0 6 (dk_at dksX0_cross_1 3 rfl rfl)
theorem dX0_cross_29 : decode cX0_cross 29 = .ok (.bipush (-3), 2) := dk_16 253 (dk_at dksX0_cross_1 6 rfl rfl)
theorem dX0_cross_31 : decode cX0_cross 31 = .ok (.ireturn, 1) := dk_172 (dk_at dksX0_cross_1 8 rfl rfl)
theorem dX0_cross_32 : decode cX0_cross 32 = .ok (.aload_n 0, 1) := dk_42 (dk_at dksX0_cross_1 9 rfl rfl)
theorem dX0_cross_33 : decode cX0_cross 33 = .ok (.getfield 30, 3) := dk_180 0 30 (dk_at dksX0_cross_1 10 rfl rfl)
theorem dX0_cross_36 : decode cX0_cross 36 = .ok (.iload_n 1, 1) := dk_27 (dk_at dksX0_cross_1 13 rfl rfl)
theorem dX0_cross_37 : decode cX0_cross 37 = .ok (.iload_n 2, 1) := dk_28 (dk_at dksX0_cross_1 14 rfl rfl)
theorem dX0_cross_38 : decode cX0_cross 38 = .ok (.invokevirtual 191, 3) := dk_182 0 191 (dk_at dksX0_cross_1 15 rfl rfl)
theorem dX0_cross_41 : decode cX0_cross 41 = .ok (.istore 4, 2) := dk_54 4 (dk_at dksX0_cross_1 18 rfl rfl)
theorem dX0_cross_43 : decode cX0_cross 43 = .ok (.iload_n 3, 1) := dk_29 (dk_at dksX0_cross_1 20 rfl rfl)
theorem dX0_cross_44 : decode cX0_cross 44 = .ok (.ifCond .ne 16, 3) := dk_154 0 16 (dk_at dksX0_cross_1 21 rfl rfl)
theorem dX0_cross_47 : decode cX0_cross 47 = .ok (.iload 4, 2) := dk_21 4 (dk_at dksX0_cross_2 0 rfl rfl)
theorem dX0_cross_49 : decode cX0_cross 49 = .ok (.ifCond .eq 7, 3) := dk_153 0 7 (dk_at dksX0_cross_2 2 rfl rfl)
theorem dX0_cross_52 : decode cX0_cross 52 = .ok (.iconst 1, 1) := dk_4 (dk_at dksX0_cross_2 5 rfl rfl)
theorem dX0_cross_53 : decode cX0_cross 53 = .ok (.goto 39, 3) := dk_167 0 39 (dk_at dksX0_cross_2 6 rfl rfl)
theorem dX0_cross_56 : decode cX0_cross 56 = .ok (.iconst 0, 1) := dk_3 (dk_at dksX0_cross_2 9 rfl rfl)
theorem dX0_cross_57 : decode cX0_cross 57 = .ok (.goto 35, 3) := dk_167 0 35 (dk_at dksX0_cross_2 10 rfl rfl)
theorem dX0_cross_60 : decode cX0_cross 60 = .ok (.iload 4, 2) := dk_21 4 (dk_at dksX0_cross_2 13 rfl rfl)
theorem dX0_cross_62 : decode cX0_cross 62 = .ok (.ifCond .eq 18, 3) := dk_153 0 18 (dk_at dksX0_cross_2 15 rfl rfl)
theorem dX0_cross_65 : decode cX0_cross 65 = .ok (.aload_n 0, 1) := dk_42 (dk_at dksX0_cross_2 18 rfl rfl)
theorem dX0_cross_66 : decode cX0_cross 66 = .ok (.getfield 30, 3) := dk_180 0 30 (dk_at dksX0_cross_2 19 rfl rfl)
theorem dX0_cross_69 : decode cX0_cross 69 = .ok (.getfield 90, 3) := dk_180 0 90 (dk_at dksX0_cross_3 0 rfl rfl)
theorem dX0_cross_72 : decode cX0_cross 72 = .ok (.iload_n 2, 1) := dk_28 (dk_at dksX0_cross_3 3 rfl rfl)
theorem dX0_cross_73 : decode cX0_cross 73 = .ok (.aaload, 1) := dk_50 (dk_at dksX0_cross_3 4 rfl rfl)
theorem dX0_cross_74 : decode cX0_cross 74 = .ok (.getfield 103, 3) := dk_180 0 103 (dk_at dksX0_cross_3 5 rfl rfl)
theorem dX0_cross_77 : decode cX0_cross 77 = .ok (.goto 15, 3) := dk_167 0 15 (dk_at dksX0_cross_3 8 rfl rfl)
theorem dX0_cross_80 : decode cX0_cross 80 = .ok (.aload_n 0, 1) := dk_42 (dk_at dksX0_cross_3 11 rfl rfl)
theorem dX0_cross_81 : decode cX0_cross 81 = .ok (.getfield 30, 3) := dk_180 0 30 (dk_at dksX0_cross_3 12 rfl rfl)
theorem dX0_cross_84 : decode cX0_cross 84 = .ok (.getfield 73, 3) := dk_180 0 73 (dk_at dksX0_cross_3 15 rfl rfl)
theorem dX0_cross_87 : decode cX0_cross 87 = .ok (.iload_n 1, 1) := dk_27 (dk_at dksX0_cross_3 18 rfl rfl)
theorem dX0_cross_88 : decode cX0_cross 88 = .ok (.aaload, 1) := dk_50 (dk_at dksX0_cross_3 19 rfl rfl)
theorem dX0_cross_89 : decode cX0_cross 89 = .ok (.getfield 106, 3) := dk_180 0 106 (dk_at dksX0_cross_3 20 rfl rfl)
theorem dX0_cross_92 : decode cX0_cross 92 = .ok (.ireturn, 1) := dk_172 (dk_at dksX0_cross_3 23 rfl rfl)
abbrev cX0_draw : ByteArray := prog_1_method_26_code
def yX0_draw : MethodName := ⟨RX0, "draw", "(II)I"⟩
def dkwX0_draw_2 : List UInt8 := [181, 0, 94, 29, 172]
abbrev dktX0_draw_2 : List UInt8 := dkwX0_draw_2 ++ []
def dkwX0_draw_1 : List UInt8 := [180, 0, 30, 180, 0, 90, 27, 50, 180, 0, 94, 62, 42, 180, 0, 30, 180, 0, 90, 27, 50, 28]
abbrev dktX0_draw_1 : List UInt8 := dkwX0_draw_1 ++ dktX0_draw_2
def dkwX0_draw_0 : List UInt8 := [42, 27, 182, 0, 170, 153, 0, 11, 42, 28, 182, 0, 195, 154, 0, 6, 16, 254, 172, 42, 182, 0, 198, 42]
abbrev dktX0_draw_0 : List UInt8 := dkwX0_draw_0 ++ dktX0_draw_1
theorem dksX0_draw_0 : cX0_draw.data.toList.drop 0 = dktX0_draw_0 := by decide +kernel
theorem dksX0_draw_1 : cX0_draw.data.toList.drop 24 = dktX0_draw_1 := dk_seg dksX0_draw_0 24 rfl rfl
theorem dksX0_draw_2 : cX0_draw.data.toList.drop 46 = dktX0_draw_2 := dk_seg dksX0_draw_1 22 rfl rfl
theorem dX0_draw_0 : decode cX0_draw 0 = .ok (.aload_n 0, 1) := dk_42 (dk_at dksX0_draw_0 0 rfl rfl)
theorem dX0_draw_1 : decode cX0_draw 1 = .ok (.iload_n 1, 1) := dk_27 (dk_at dksX0_draw_0 1 rfl rfl)
theorem dX0_draw_2 : decode cX0_draw 2 = .ok (.invokevirtual 170, 3) := dk_182 0 170 (dk_at dksX0_draw_0 2 rfl rfl)
theorem dX0_draw_5 : decode cX0_draw 5 = .ok (.ifCond .eq 11, 3) := dk_153 0 11 (dk_at dksX0_draw_0 5 rfl rfl)
theorem dX0_draw_8 : decode cX0_draw 8 = .ok (.aload_n 0, 1) := dk_42 (dk_at dksX0_draw_0 8 rfl rfl)
theorem dX0_draw_9 : decode cX0_draw 9 = .ok (.iload_n 2, 1) := dk_28 (dk_at dksX0_draw_0 9 rfl rfl)
theorem dX0_draw_10 : decode cX0_draw 10 = .ok (.invokevirtual 195, 3) := dk_182 0 195 (dk_at dksX0_draw_0 10 rfl rfl)
theorem dX0_draw_13 : decode cX0_draw 13 = .ok (.ifCond .ne 6, 3) := dk_154 0 6 (dk_at dksX0_draw_0 13 rfl rfl)
theorem dX0_draw_16 : decode cX0_draw 16 = .ok (.bipush (-2), 2) := dk_16 254 (dk_at dksX0_draw_0 16 rfl rfl)
theorem dX0_draw_18 : decode cX0_draw 18 = .ok (.ireturn, 1) := dk_172 (dk_at dksX0_draw_0 18 rfl rfl)
theorem dX0_draw_19 : decode cX0_draw 19 = .ok (.aload_n 0, 1) := dk_42 (dk_at dksX0_draw_0 19 rfl rfl)
theorem dX0_draw_20 : decode cX0_draw 20 = .ok (.invokevirtual 198, 3) := dk_182 0 198 (dk_at dksX0_draw_0 20 rfl rfl)
theorem dX0_draw_23 : decode cX0_draw 23 = .ok (.aload_n 0, 1) := dk_42 (dk_at dksX0_draw_0 23 rfl rfl)
theorem dX0_draw_24 : decode cX0_draw 24 = .ok (.getfield 30, 3) := dk_180 0 30 (dk_at dksX0_draw_1 0 rfl rfl)
theorem dX0_draw_27 : decode cX0_draw 27 = .ok (.getfield 90, 3) := dk_180 0 90 (dk_at dksX0_draw_1 3 rfl rfl)
theorem dX0_draw_30 : decode cX0_draw 30 = .ok (.iload_n 1, 1) := dk_27 (dk_at dksX0_draw_1 6 rfl rfl)
theorem dX0_draw_31 : decode cX0_draw 31 = .ok (.aaload, 1) := dk_50 (dk_at dksX0_draw_1 7 rfl rfl)
theorem dX0_draw_32 : decode cX0_draw 32 = .ok (.getfield 94, 3) := dk_180 0 94 (dk_at dksX0_draw_1 8 rfl rfl)
theorem dX0_draw_35 : decode cX0_draw 35 = .ok (.istore_n 3, 1) := dk_62 (dk_at dksX0_draw_1 11 rfl rfl)
theorem dX0_draw_36 : decode cX0_draw 36 = .ok (.aload_n 0, 1) := dk_42 (dk_at dksX0_draw_1 12 rfl rfl)
theorem dX0_draw_37 : decode cX0_draw 37 = .ok (.getfield 30, 3) := dk_180 0 30 (dk_at dksX0_draw_1 13 rfl rfl)
theorem dX0_draw_40 : decode cX0_draw 40 = .ok (.getfield 90, 3) := dk_180 0 90 (dk_at dksX0_draw_1 16 rfl rfl)
theorem dX0_draw_43 : decode cX0_draw 43 = .ok (.iload_n 1, 1) := dk_27 (dk_at dksX0_draw_1 19 rfl rfl)
theorem dX0_draw_44 : decode cX0_draw 44 = .ok (.aaload, 1) := dk_50 (dk_at dksX0_draw_1 20 rfl rfl)
theorem dX0_draw_45 : decode cX0_draw 45 = .ok (.iload_n 2, 1) := dk_28 (dk_at dksX0_draw_1 21 rfl rfl)
theorem dX0_draw_46 : decode cX0_draw 46 = .ok (.putfield 94, 3) := dk_181 0 94 (dk_at dksX0_draw_2 0 rfl rfl)
theorem dX0_draw_49 : decode cX0_draw 49 = .ok (.iload_n 3, 1) := dk_29 (dk_at dksX0_draw_2 3 rfl rfl)
theorem dX0_draw_50 : decode cX0_draw 50 = .ok (.ireturn, 1) := dk_172 (dk_at dksX0_draw_2 4 rfl rfl)
abbrev cX0_isShaft : ByteArray := prog_1_method_15_code
def yX0_isShaft : MethodName := ⟨RX0, "isShaft", "(I)Z"⟩
def dkwX0_isShaft_0 : List UInt8 := [27, 133, 9, 42, 180, 0, 30, 180, 0, 128, 4, 100, 133, 184, 0, 124, 172]
abbrev dktX0_isShaft_0 : List UInt8 := dkwX0_isShaft_0 ++ []
theorem dksX0_isShaft_0 : cX0_isShaft.data.toList.drop 0 = dktX0_isShaft_0 := by decide +kernel
theorem dX0_isShaft_0 : decode cX0_isShaft 0 = .ok (.iload_n 1, 1) := dk_27 (dk_at dksX0_isShaft_0 0 rfl rfl)
theorem dX0_isShaft_1 : decode cX0_isShaft 1 = .ok (.i2l, 1) := dk_133 (dk_at dksX0_isShaft_0 1 rfl rfl)
theorem dX0_isShaft_2 : decode cX0_isShaft 2 = .ok (.lconst 0, 1) := dk_9 (dk_at dksX0_isShaft_0 2 rfl rfl)
theorem dX0_isShaft_3 : decode cX0_isShaft 3 = .ok (.aload_n 0, 1) := dk_42 (dk_at dksX0_isShaft_0 3 rfl rfl)
theorem dX0_isShaft_4 : decode cX0_isShaft 4 = .ok (.getfield 30, 3) := dk_180 0 30 (dk_at dksX0_isShaft_0 4 rfl rfl)
theorem dX0_isShaft_7 : decode cX0_isShaft 7 = .ok (.getfield 128, 3) := dk_180 0 128 (dk_at dksX0_isShaft_0 7 rfl rfl)
theorem dX0_isShaft_10 : decode cX0_isShaft 10 = .ok (.iconst 1, 1) := dk_4 (dk_at dksX0_isShaft_0 10 rfl rfl)
theorem dX0_isShaft_11 : decode cX0_isShaft 11 = .ok (.isub, 1) := dk_100 (dk_at dksX0_isShaft_0 11 rfl rfl)
theorem dX0_isShaft_12 : decode cX0_isShaft 12 = .ok (.i2l, 1) := dk_133 (dk_at dksX0_isShaft_0 12 rfl rfl)
theorem dX0_isShaft_13 : decode cX0_isShaft 13 = .ok (.invokestatic 124, 3) := dk_184 0 124 (dk_at dksX0_isShaft_0 13 rfl rfl)
theorem dX0_isShaft_16 : decode cX0_isShaft 16 = .ok (.ireturn, 1) := dk_172 (dk_at dksX0_isShaft_0 16 rfl rfl)
abbrev cX0_note : ByteArray := prog_1_method_4_code
def yX0_note : MethodName := ⟨RX0, "note", "()V"⟩
def dkwX0_note_4 : List UInt8 := [50, 42, 180, 0, 30, 182, 0, 34, 87, 177]
abbrev dktX0_note_4 : List UInt8 := dkwX0_note_4 ++ []
def dkwX0_note_3 : List UInt8 := [187, 0, 24, 89, 42, 183, 0, 26, 83, 42, 180, 0, 15, 42, 89, 180, 0, 1, 90, 4, 96, 181, 0, 1]
abbrev dktX0_note_3 : List UInt8 := dkwX0_note_3 ++ dktX0_note_4
def dkwX0_note_2 : List UInt8 := [181, 0, 1, 42, 180, 0, 15, 42, 180, 0, 1, 50, 199, 0, 20, 42, 180, 0, 15, 42, 180, 0, 1]
abbrev dktX0_note_2 : List UInt8 := dkwX0_note_2 ++ dktX0_note_3
def dkwX0_note_1 : List UInt8 := [180, 0, 15, 3, 16, 7, 184, 0, 18, 42, 180, 0, 15, 16, 7, 43, 83, 42, 89, 180, 0, 1, 4, 100]
abbrev dktX0_note_1 : List UInt8 := dkwX0_note_1 ++ dktX0_note_2
def dkwX0_note_0 : List UInt8 := [42, 180, 0, 1, 16, 8, 160, 0, 43, 42, 180, 0, 15, 3, 50, 76, 42, 180, 0, 15, 4, 42]
abbrev dktX0_note_0 : List UInt8 := dkwX0_note_0 ++ dktX0_note_1
theorem dksX0_note_0 : cX0_note.data.toList.drop 0 = dktX0_note_0 := by decide +kernel
theorem dksX0_note_1 : cX0_note.data.toList.drop 22 = dktX0_note_1 := dk_seg dksX0_note_0 22 rfl rfl
theorem dksX0_note_2 : cX0_note.data.toList.drop 46 = dktX0_note_2 := dk_seg dksX0_note_1 24 rfl rfl
theorem dksX0_note_3 : cX0_note.data.toList.drop 69 = dktX0_note_3 := dk_seg dksX0_note_2 23 rfl rfl
theorem dksX0_note_4 : cX0_note.data.toList.drop 93 = dktX0_note_4 := dk_seg dksX0_note_3 24 rfl rfl
theorem dX0_note_0 : decode cX0_note 0 = .ok (.aload_n 0, 1) := dk_42 (dk_at dksX0_note_0 0 rfl rfl)
theorem dX0_note_1 : decode cX0_note 1 = .ok (.getfield 1, 3) := dk_180 0 1 (dk_at dksX0_note_0 1 rfl rfl)
theorem dX0_note_4 : decode cX0_note 4 = .ok (.bipush 8, 2) := dk_16 8 (dk_at dksX0_note_0 4 rfl rfl)
theorem dX0_note_6 : decode cX0_note 6 = .ok (.if_icmp .ne 43, 3) := dk_160 0 43 (dk_at dksX0_note_0 6 rfl rfl)
theorem dX0_note_9 : decode cX0_note 9 = .ok (.aload_n 0, 1) := dk_42 (dk_at dksX0_note_0 9 rfl rfl)
theorem dX0_note_10 : decode cX0_note 10 = .ok (.getfield 15, 3) := dk_180 0 15 (dk_at dksX0_note_0 10 rfl rfl)
theorem dX0_note_13 : decode cX0_note 13 = .ok (.iconst 0, 1) := dk_3 (dk_at dksX0_note_0 13 rfl rfl)
theorem dX0_note_14 : decode cX0_note 14 = .ok (.aaload, 1) := dk_50 (dk_at dksX0_note_0 14 rfl rfl)
theorem dX0_note_15 : decode cX0_note 15 = .ok (.astore_n 1, 1) := dk_76 (dk_at dksX0_note_0 15 rfl rfl)
theorem dX0_note_16 : decode cX0_note 16 = .ok (.aload_n 0, 1) := dk_42 (dk_at dksX0_note_0 16 rfl rfl)
theorem dX0_note_17 : decode cX0_note 17 = .ok (.getfield 15, 3) := dk_180 0 15 (dk_at dksX0_note_0 17 rfl rfl)
theorem dX0_note_20 : decode cX0_note 20 = .ok (.iconst 1, 1) := dk_4 (dk_at dksX0_note_0 20 rfl rfl)
theorem dX0_note_21 : decode cX0_note 21 = .ok (.aload_n 0, 1) := dk_42 (dk_at dksX0_note_0 21 rfl rfl)
theorem dX0_note_22 : decode cX0_note 22 = .ok (.getfield 15, 3) := dk_180 0 15 (dk_at dksX0_note_1 0 rfl rfl)
theorem dX0_note_25 : decode cX0_note 25 = .ok (.iconst 0, 1) := dk_3 (dk_at dksX0_note_1 3 rfl rfl)
theorem dX0_note_26 : decode cX0_note 26 = .ok (.bipush 7, 2) := dk_16 7 (dk_at dksX0_note_1 4 rfl rfl)
theorem dX0_note_28 : decode cX0_note 28 = .ok (.invokestatic 18, 3) := dk_184 0 18 (dk_at dksX0_note_1 6 rfl rfl)
theorem dX0_note_31 : decode cX0_note 31 = .ok (.aload_n 0, 1) := dk_42 (dk_at dksX0_note_1 9 rfl rfl)
theorem dX0_note_32 : decode cX0_note 32 = .ok (.getfield 15, 3) := dk_180 0 15 (dk_at dksX0_note_1 10 rfl rfl)
theorem dX0_note_35 : decode cX0_note 35 = .ok (.bipush 7, 2) := dk_16 7 (dk_at dksX0_note_1 13 rfl rfl)
theorem dX0_note_37 : decode cX0_note 37 = .ok (.aload_n 1, 1) := dk_43 (dk_at dksX0_note_1 15 rfl rfl)
theorem dX0_note_38 : decode cX0_note 38 = .ok (.aastore, 1) := dk_83 (dk_at dksX0_note_1 16 rfl rfl)
theorem dX0_note_39 : decode cX0_note 39 = .ok (.aload_n 0, 1) := dk_42 (dk_at dksX0_note_1 17 rfl rfl)
theorem dX0_note_40 : decode cX0_note 40 = .ok (.dup, 1) := dk_89 (dk_at dksX0_note_1 18 rfl rfl)
theorem dX0_note_41 : decode cX0_note 41 = .ok (.getfield 1, 3) := dk_180 0 1 (dk_at dksX0_note_1 19 rfl rfl)
theorem dX0_note_44 : decode cX0_note 44 = .ok (.iconst 1, 1) := dk_4 (dk_at dksX0_note_1 22 rfl rfl)
theorem dX0_note_45 : decode cX0_note 45 = .ok (.isub, 1) := dk_100 (dk_at dksX0_note_1 23 rfl rfl)
theorem dX0_note_46 : decode cX0_note 46 = .ok (.putfield 1, 3) := dk_181 0 1 (dk_at dksX0_note_2 0 rfl rfl)
theorem dX0_note_49 : decode cX0_note 49 = .ok (.aload_n 0, 1) := dk_42 (dk_at dksX0_note_2 3 rfl rfl)
theorem dX0_note_50 : decode cX0_note 50 = .ok (.getfield 15, 3) := dk_180 0 15 (dk_at dksX0_note_2 4 rfl rfl)
theorem dX0_note_53 : decode cX0_note 53 = .ok (.aload_n 0, 1) := dk_42 (dk_at dksX0_note_2 7 rfl rfl)
theorem dX0_note_54 : decode cX0_note 54 = .ok (.getfield 1, 3) := dk_180 0 1 (dk_at dksX0_note_2 8 rfl rfl)
theorem dX0_note_57 : decode cX0_note 57 = .ok (.aaload, 1) := dk_50 (dk_at dksX0_note_2 11 rfl rfl)
theorem dX0_note_58 : decode cX0_note 58 = .ok (.ifnonnull 20, 3) := dk_199 0 20 (dk_at dksX0_note_2 12 rfl rfl)
theorem dX0_note_61 : decode cX0_note 61 = .ok (.aload_n 0, 1) := dk_42 (dk_at dksX0_note_2 15 rfl rfl)
theorem dX0_note_62 : decode cX0_note 62 = .ok (.getfield 15, 3) := dk_180 0 15 (dk_at dksX0_note_2 16 rfl rfl)
theorem dX0_note_65 : decode cX0_note 65 = .ok (.aload_n 0, 1) := dk_42 (dk_at dksX0_note_2 19 rfl rfl)
theorem dX0_note_66 : decode cX0_note 66 = .ok (.getfield 1, 3) := dk_180 0 1 (dk_at dksX0_note_2 20 rfl rfl)
theorem dX0_note_69 : decode cX0_note 69 = .ok (.new 24, 3) := dk_187 0 24 (dk_at dksX0_note_3 0 rfl rfl)
theorem dX0_note_72 : decode cX0_note 72 = .ok (.dup, 1) := dk_89 (dk_at dksX0_note_3 3 rfl rfl)
theorem dX0_note_73 : decode cX0_note 73 = .ok (.aload_n 0, 1) := dk_42 (dk_at dksX0_note_3 4 rfl rfl)
theorem dX0_note_74 : decode cX0_note 74 = .ok (.invokespecial 26, 3) := dk_183 0 26 (dk_at dksX0_note_3 5 rfl rfl)
theorem dX0_note_77 : decode cX0_note 77 = .ok (.aastore, 1) := dk_83 (dk_at dksX0_note_3 8 rfl rfl)
theorem dX0_note_78 : decode cX0_note 78 = .ok (.aload_n 0, 1) := dk_42 (dk_at dksX0_note_3 9 rfl rfl)
theorem dX0_note_79 : decode cX0_note 79 = .ok (.getfield 15, 3) := dk_180 0 15 (dk_at dksX0_note_3 10 rfl rfl)
theorem dX0_note_82 : decode cX0_note 82 = .ok (.aload_n 0, 1) := dk_42 (dk_at dksX0_note_3 13 rfl rfl)
theorem dX0_note_83 : decode cX0_note 83 = .ok (.dup, 1) := dk_89 (dk_at dksX0_note_3 14 rfl rfl)
theorem dX0_note_84 : decode cX0_note 84 = .ok (.getfield 1, 3) := dk_180 0 1 (dk_at dksX0_note_3 15 rfl rfl)
theorem dX0_note_87 : decode cX0_note 87 = .ok (.dup_x1, 1) := dk_90 (dk_at dksX0_note_3 18 rfl rfl)
theorem dX0_note_88 : decode cX0_note 88 = .ok (.iconst 1, 1) := dk_4 (dk_at dksX0_note_3 19 rfl rfl)
theorem dX0_note_89 : decode cX0_note 89 = .ok (.iadd, 1) := dk_96 (dk_at dksX0_note_3 20 rfl rfl)
theorem dX0_note_90 : decode cX0_note 90 = .ok (.putfield 1, 3) := dk_181 0 1 (dk_at dksX0_note_3 21 rfl rfl)
theorem dX0_note_93 : decode cX0_note 93 = .ok (.aaload, 1) := dk_50 (dk_at dksX0_note_4 0 rfl rfl)
theorem dX0_note_94 : decode cX0_note 94 = .ok (.aload_n 0, 1) := dk_42 (dk_at dksX0_note_4 1 rfl rfl)
theorem dX0_note_95 : decode cX0_note 95 = .ok (.getfield 30, 3) := dk_180 0 30 (dk_at dksX0_note_4 2 rfl rfl)
theorem dX0_note_98 : decode cX0_note 98 = .ok (.invokevirtual 34, 3) := dk_182 0 34 (dk_at dksX0_note_4 5 rfl rfl)
theorem dX0_note_101 : decode cX0_note 101 = .ok (.pop, 1) := dk_87 (dk_at dksX0_note_4 8 rfl rfl)
theorem dX0_note_102 : decode cX0_note 102 = .ok (.return_, 1) := dk_177 (dk_at dksX0_note_4 9 rfl rfl)
abbrev cX0_tie : ByteArray := prog_1_method_27_code
def yX0_tie : MethodName := ⟨RX0, "tie", "(II)I"⟩
def dkwX0_tie_1 : List UInt8 := [180, 0, 30, 180, 0, 99, 27, 92, 46, 4, 28, 120, 130, 79, 42, 180, 0, 30, 180, 0, 99, 27, 46, 172]
abbrev dktX0_tie_1 : List UInt8 := dkwX0_tie_1 ++ []
def dkwX0_tie_0 : List UInt8 := [42, 27, 182, 0, 188, 153, 0, 11, 42, 28, 182, 0, 195, 154, 0, 6, 16, 254, 172, 42, 182, 0, 198, 42]
abbrev dktX0_tie_0 : List UInt8 := dkwX0_tie_0 ++ dktX0_tie_1
theorem dksX0_tie_0 : cX0_tie.data.toList.drop 0 = dktX0_tie_0 := by decide +kernel
theorem dksX0_tie_1 : cX0_tie.data.toList.drop 24 = dktX0_tie_1 := dk_seg dksX0_tie_0 24 rfl rfl
theorem dX0_tie_0 : decode cX0_tie 0 = .ok (.aload_n 0, 1) := dk_42 (dk_at dksX0_tie_0 0 rfl rfl)
theorem dX0_tie_1 : decode cX0_tie 1 = .ok (.iload_n 1, 1) := dk_27 (dk_at dksX0_tie_0 1 rfl rfl)
theorem dX0_tie_2 : decode cX0_tie 2 = .ok (.invokevirtual 188, 3) := dk_182 0 188 (dk_at dksX0_tie_0 2 rfl rfl)
theorem dX0_tie_5 : decode cX0_tie 5 = .ok (.ifCond .eq 11, 3) := dk_153 0 11 (dk_at dksX0_tie_0 5 rfl rfl)
theorem dX0_tie_8 : decode cX0_tie 8 = .ok (.aload_n 0, 1) := dk_42 (dk_at dksX0_tie_0 8 rfl rfl)
theorem dX0_tie_9 : decode cX0_tie 9 = .ok (.iload_n 2, 1) := dk_28 (dk_at dksX0_tie_0 9 rfl rfl)
theorem dX0_tie_10 : decode cX0_tie 10 = .ok (.invokevirtual 195, 3) := dk_182 0 195 (dk_at dksX0_tie_0 10 rfl rfl)
theorem dX0_tie_13 : decode cX0_tie 13 = .ok (.ifCond .ne 6, 3) := dk_154 0 6 (dk_at dksX0_tie_0 13 rfl rfl)
theorem dX0_tie_16 : decode cX0_tie 16 = .ok (.bipush (-2), 2) := dk_16 254 (dk_at dksX0_tie_0 16 rfl rfl)
theorem dX0_tie_18 : decode cX0_tie 18 = .ok (.ireturn, 1) := dk_172 (dk_at dksX0_tie_0 18 rfl rfl)
theorem dX0_tie_19 : decode cX0_tie 19 = .ok (.aload_n 0, 1) := dk_42 (dk_at dksX0_tie_0 19 rfl rfl)
theorem dX0_tie_20 : decode cX0_tie 20 = .ok (.invokevirtual 198, 3) := dk_182 0 198 (dk_at dksX0_tie_0 20 rfl rfl)
theorem dX0_tie_23 : decode cX0_tie 23 = .ok (.aload_n 0, 1) := dk_42 (dk_at dksX0_tie_0 23 rfl rfl)
theorem dX0_tie_24 : decode cX0_tie 24 = .ok (.getfield 30, 3) := dk_180 0 30 (dk_at dksX0_tie_1 0 rfl rfl)
theorem dX0_tie_27 : decode cX0_tie 27 = .ok (.getfield 99, 3) := dk_180 0 99 (dk_at dksX0_tie_1 3 rfl rfl)
theorem dX0_tie_30 : decode cX0_tie 30 = .ok (.iload_n 1, 1) := dk_27 (dk_at dksX0_tie_1 6 rfl rfl)
theorem dX0_tie_31 : decode cX0_tie 31 = .ok (.dup2, 1) := dk_92 (dk_at dksX0_tie_1 7 rfl rfl)
theorem dX0_tie_32 : decode cX0_tie 32 = .ok (.iaload, 1) := dk_46 (dk_at dksX0_tie_1 8 rfl rfl)
theorem dX0_tie_33 : decode cX0_tie 33 = .ok (.iconst 1, 1) := dk_4 (dk_at dksX0_tie_1 9 rfl rfl)
theorem dX0_tie_34 : decode cX0_tie 34 = .ok (.iload_n 2, 1) := dk_28 (dk_at dksX0_tie_1 10 rfl rfl)
theorem dX0_tie_35 : decode cX0_tie 35 = .ok (.ishl, 1) := dk_120 (dk_at dksX0_tie_1 11 rfl rfl)
theorem dX0_tie_36 : decode cX0_tie 36 = .ok (.ixor, 1) := dk_130 (dk_at dksX0_tie_1 12 rfl rfl)
theorem dX0_tie_37 : decode cX0_tie 37 = .ok (.iastore, 1) := dk_79 (dk_at dksX0_tie_1 13 rfl rfl)
theorem dX0_tie_38 : decode cX0_tie 38 = .ok (.aload_n 0, 1) := dk_42 (dk_at dksX0_tie_1 14 rfl rfl)
theorem dX0_tie_39 : decode cX0_tie 39 = .ok (.getfield 30, 3) := dk_180 0 30 (dk_at dksX0_tie_1 15 rfl rfl)
theorem dX0_tie_42 : decode cX0_tie 42 = .ok (.getfield 99, 3) := dk_180 0 99 (dk_at dksX0_tie_1 18 rfl rfl)
theorem dX0_tie_45 : decode cX0_tie 45 = .ok (.iload_n 1, 1) := dk_27 (dk_at dksX0_tie_1 21 rfl rfl)
theorem dX0_tie_46 : decode cX0_tie 46 = .ok (.iaload, 1) := dk_46 (dk_at dksX0_tie_1 22 rfl rfl)
theorem dX0_tie_47 : decode cX0_tie 47 = .ok (.ireturn, 1) := dk_172 (dk_at dksX0_tie_1 23 rfl rfl)
abbrev cX0_tread : ByteArray := prog_1_method_28_code
def yX0_tread : MethodName := ⟨RX0, "tread", "(II)I"⟩
def dkwX0_tread_2 : List UInt8 := [181, 0, 102, 29, 172]
abbrev dktX0_tread_2 : List UInt8 := dkwX0_tread_2 ++ []
def dkwX0_tread_1 : List UInt8 := [180, 0, 30, 180, 0, 73, 27, 50, 180, 0, 102, 62, 42, 180, 0, 30, 180, 0, 73, 27, 50, 28]
abbrev dktX0_tread_1 : List UInt8 := dkwX0_tread_1 ++ dktX0_tread_2
def dkwX0_tread_0 : List UInt8 := [42, 27, 182, 0, 180, 153, 0, 11, 42, 28, 182, 0, 188, 154, 0, 6, 16, 254, 172, 42, 182, 0, 198, 42]
abbrev dktX0_tread_0 : List UInt8 := dkwX0_tread_0 ++ dktX0_tread_1
theorem dksX0_tread_0 : cX0_tread.data.toList.drop 0 = dktX0_tread_0 := by decide +kernel
theorem dksX0_tread_1 : cX0_tread.data.toList.drop 24 = dktX0_tread_1 := dk_seg dksX0_tread_0 24 rfl rfl
theorem dksX0_tread_2 : cX0_tread.data.toList.drop 46 = dktX0_tread_2 := dk_seg dksX0_tread_1 22 rfl rfl
theorem dX0_tread_0 : decode cX0_tread 0 = .ok (.aload_n 0, 1) := dk_42 (dk_at dksX0_tread_0 0 rfl rfl)
theorem dX0_tread_1 : decode cX0_tread 1 = .ok (.iload_n 1, 1) := dk_27 (dk_at dksX0_tread_0 1 rfl rfl)
theorem dX0_tread_2 : decode cX0_tread 2 = .ok (.invokevirtual 180, 3) := dk_182 0 180 (dk_at dksX0_tread_0 2 rfl rfl)
theorem dX0_tread_5 : decode cX0_tread 5 = .ok (.ifCond .eq 11, 3) := dk_153 0 11 (dk_at dksX0_tread_0 5 rfl rfl)
theorem dX0_tread_8 : decode cX0_tread 8 = .ok (.aload_n 0, 1) := dk_42 (dk_at dksX0_tread_0 8 rfl rfl)
theorem dX0_tread_9 : decode cX0_tread 9 = .ok (.iload_n 2, 1) := dk_28 (dk_at dksX0_tread_0 9 rfl rfl)
theorem dX0_tread_10 : decode cX0_tread 10 = .ok (.invokevirtual 188, 3) := dk_182 0 188 (dk_at dksX0_tread_0 10 rfl rfl)
theorem dX0_tread_13 : decode cX0_tread 13 = .ok (.ifCond .ne 6, 3) := dk_154 0 6 (dk_at dksX0_tread_0 13 rfl rfl)
theorem dX0_tread_16 : decode cX0_tread 16 = .ok (.bipush (-2), 2) := dk_16 254 (dk_at dksX0_tread_0 16 rfl rfl)
theorem dX0_tread_18 : decode cX0_tread 18 = .ok (.ireturn, 1) := dk_172 (dk_at dksX0_tread_0 18 rfl rfl)
theorem dX0_tread_19 : decode cX0_tread 19 = .ok (.aload_n 0, 1) := dk_42 (dk_at dksX0_tread_0 19 rfl rfl)
theorem dX0_tread_20 : decode cX0_tread 20 = .ok (.invokevirtual 198, 3) := dk_182 0 198 (dk_at dksX0_tread_0 20 rfl rfl)
theorem dX0_tread_23 : decode cX0_tread 23 = .ok (.aload_n 0, 1) := dk_42 (dk_at dksX0_tread_0 23 rfl rfl)
theorem dX0_tread_24 : decode cX0_tread 24 = .ok (.getfield 30, 3) := dk_180 0 30 (dk_at dksX0_tread_1 0 rfl rfl)
theorem dX0_tread_27 : decode cX0_tread 27 = .ok (.getfield 73, 3) := dk_180 0 73 (dk_at dksX0_tread_1 3 rfl rfl)
theorem dX0_tread_30 : decode cX0_tread 30 = .ok (.iload_n 1, 1) := dk_27 (dk_at dksX0_tread_1 6 rfl rfl)
theorem dX0_tread_31 : decode cX0_tread 31 = .ok (.aaload, 1) := dk_50 (dk_at dksX0_tread_1 7 rfl rfl)
theorem dX0_tread_32 : decode cX0_tread 32 = .ok (.getfield 102, 3) := dk_180 0 102 (dk_at dksX0_tread_1 8 rfl rfl)
theorem dX0_tread_35 : decode cX0_tread 35 = .ok (.istore_n 3, 1) := dk_62 (dk_at dksX0_tread_1 11 rfl rfl)
theorem dX0_tread_36 : decode cX0_tread 36 = .ok (.aload_n 0, 1) := dk_42 (dk_at dksX0_tread_1 12 rfl rfl)
theorem dX0_tread_37 : decode cX0_tread 37 = .ok (.getfield 30, 3) := dk_180 0 30 (dk_at dksX0_tread_1 13 rfl rfl)
theorem dX0_tread_40 : decode cX0_tread 40 = .ok (.getfield 73, 3) := dk_180 0 73 (dk_at dksX0_tread_1 16 rfl rfl)
theorem dX0_tread_43 : decode cX0_tread 43 = .ok (.iload_n 1, 1) := dk_27 (dk_at dksX0_tread_1 19 rfl rfl)
theorem dX0_tread_44 : decode cX0_tread 44 = .ok (.aaload, 1) := dk_50 (dk_at dksX0_tread_1 20 rfl rfl)
theorem dX0_tread_45 : decode cX0_tread 45 = .ok (.iload_n 2, 1) := dk_28 (dk_at dksX0_tread_1 21 rfl rfl)
theorem dX0_tread_46 : decode cX0_tread 46 = .ok (.putfield 102, 3) := dk_181 0 102 (dk_at dksX0_tread_2 0 rfl rfl)
theorem dX0_tread_49 : decode cX0_tread 49 = .ok (.iload_n 3, 1) := dk_29 (dk_at dksX0_tread_2 3 rfl rfl)
theorem dX0_tread_50 : decode cX0_tread 50 = .ok (.ireturn, 1) := dk_172 (dk_at dksX0_tread_2 4 rfl rfl)
abbrev cX0_warp : ByteArray := prog_1_method_30_code
def yX0_warp : MethodName := ⟨RX0, "warp", "(II)I"⟩
def dkwX0_warp_1 : List UInt8 := [42, 180, 0, 30, 180, 0, 90, 27, 50, 28, 182, 0, 203, 167, 0, 5, 16, 253, 172]
abbrev dktX0_warp_1 : List UInt8 := dkwX0_warp_1 ++ []
def dkwX0_warp_0 : List UInt8 := [42, 27, 182, 0, 170, 154, 0, 6, 16, 254, 172, 28, 133, 9, 20, 0, 201, 184, 0, 124, 153, 0, 20, 42]
abbrev dktX0_warp_0 : List UInt8 := dkwX0_warp_0 ++ dktX0_warp_1
theorem dksX0_warp_0 : cX0_warp.data.toList.drop 0 = dktX0_warp_0 := by decide +kernel
theorem dksX0_warp_1 : cX0_warp.data.toList.drop 24 = dktX0_warp_1 := dk_seg dksX0_warp_0 24 rfl rfl
theorem dX0_warp_0 : decode cX0_warp 0 = .ok (.aload_n 0, 1) := dk_42 (dk_at dksX0_warp_0 0 rfl rfl)
theorem dX0_warp_1 : decode cX0_warp 1 = .ok (.iload_n 1, 1) := dk_27 (dk_at dksX0_warp_0 1 rfl rfl)
theorem dX0_warp_2 : decode cX0_warp 2 = .ok (.invokevirtual 170, 3) := dk_182 0 170 (dk_at dksX0_warp_0 2 rfl rfl)
theorem dX0_warp_5 : decode cX0_warp 5 = .ok (.ifCond .ne 6, 3) := dk_154 0 6 (dk_at dksX0_warp_0 5 rfl rfl)
theorem dX0_warp_8 : decode cX0_warp 8 = .ok (.bipush (-2), 2) := dk_16 254 (dk_at dksX0_warp_0 8 rfl rfl)
theorem dX0_warp_10 : decode cX0_warp 10 = .ok (.ireturn, 1) := dk_172 (dk_at dksX0_warp_0 10 rfl rfl)
theorem dX0_warp_11 : decode cX0_warp 11 = .ok (.iload_n 2, 1) := dk_28 (dk_at dksX0_warp_0 11 rfl rfl)
theorem dX0_warp_12 : decode cX0_warp 12 = .ok (.i2l, 1) := dk_133 (dk_at dksX0_warp_0 12 rfl rfl)
theorem dX0_warp_13 : decode cX0_warp 13 = .ok (.lconst 0, 1) := dk_9 (dk_at dksX0_warp_0 13 rfl rfl)
theorem dX0_warp_14 : decode cX0_warp 14 = .ok (.ldc2_w 201, 3) := dk_20 0 201 (dk_at dksX0_warp_0 14 rfl rfl)
theorem dX0_warp_17 : decode cX0_warp 17 = .ok (.invokestatic 124, 3) := dk_184 0 124 (dk_at dksX0_warp_0 17 rfl rfl)
theorem dX0_warp_20 : decode cX0_warp 20 = .ok (.ifCond .eq 20, 3) := dk_153 0 20 (dk_at dksX0_warp_0 20 rfl rfl)
theorem dX0_warp_23 : decode cX0_warp 23 = .ok (.aload_n 0, 1) := dk_42 (dk_at dksX0_warp_0 23 rfl rfl)
theorem dX0_warp_24 : decode cX0_warp 24 = .ok (.aload_n 0, 1) := dk_42 (dk_at dksX0_warp_1 0 rfl rfl)
theorem dX0_warp_25 : decode cX0_warp 25 = .ok (.getfield 30, 3) := dk_180 0 30 (dk_at dksX0_warp_1 1 rfl rfl)
theorem dX0_warp_28 : decode cX0_warp 28 = .ok (.getfield 90, 3) := dk_180 0 90 (dk_at dksX0_warp_1 4 rfl rfl)
theorem dX0_warp_31 : decode cX0_warp 31 = .ok (.iload_n 1, 1) := dk_27 (dk_at dksX0_warp_1 7 rfl rfl)
theorem dX0_warp_32 : decode cX0_warp 32 = .ok (.aaload, 1) := dk_50 (dk_at dksX0_warp_1 8 rfl rfl)
theorem dX0_warp_33 : decode cX0_warp 33 = .ok (.iload_n 2, 1) := dk_28 (dk_at dksX0_warp_1 9 rfl rfl)
theorem dX0_warp_34 : decode cX0_warp 34 = .ok (.invokevirtual 203, 3) := dk_182 0 203 (dk_at dksX0_warp_1 10 rfl rfl)
theorem dX0_warp_37 : decode cX0_warp 37 = .ok (.goto 5, 3) := dk_167 0 5 (dk_at dksX0_warp_1 13 rfl rfl)
theorem dX0_warp_40 : decode cX0_warp 40 = .ok (.bipush (-3), 2) := dk_16 253 (dk_at dksX0_warp_1 16 rfl rfl)
theorem dX0_warp_42 : decode cX0_warp 42 = .ok (.ireturn, 1) := dk_172 (dk_at dksX0_warp_1 18 rfl rfl)
abbrev cX0_coloured : ByteArray := prog_1_method_29_code
def yX0_coloured : MethodName := ⟨RX0, "coloured", "(LWeaveDraft$Strand;I)I"⟩
def dkwX0_coloured_0 : List UInt8 := [42, 182, 0, 198, 43, 180, 0, 164, 62, 43, 28, 181, 0, 164, 29, 172]
abbrev dktX0_coloured_0 : List UInt8 := dkwX0_coloured_0 ++ []
theorem dksX0_coloured_0 : cX0_coloured.data.toList.drop 0 = dktX0_coloured_0 := by decide +kernel
theorem dX0_coloured_0 : decode cX0_coloured 0 = .ok (.aload_n 0, 1) := dk_42 (dk_at dksX0_coloured_0 0 rfl rfl)
theorem dX0_coloured_1 : decode cX0_coloured 1 = .ok (.invokevirtual 198, 3) := dk_182 0 198 (dk_at dksX0_coloured_0 1 rfl rfl)
theorem dX0_coloured_4 : decode cX0_coloured 4 = .ok (.aload_n 1, 1) := dk_43 (dk_at dksX0_coloured_0 4 rfl rfl)
theorem dX0_coloured_5 : decode cX0_coloured 5 = .ok (.getfield 164, 3) := dk_180 0 164 (dk_at dksX0_coloured_0 5 rfl rfl)
theorem dX0_coloured_8 : decode cX0_coloured 8 = .ok (.istore_n 3, 1) := dk_62 (dk_at dksX0_coloured_0 8 rfl rfl)
theorem dX0_coloured_9 : decode cX0_coloured 9 = .ok (.aload_n 1, 1) := dk_43 (dk_at dksX0_coloured_0 9 rfl rfl)
theorem dX0_coloured_10 : decode cX0_coloured 10 = .ok (.iload_n 2, 1) := dk_28 (dk_at dksX0_coloured_0 10 rfl rfl)
theorem dX0_coloured_11 : decode cX0_coloured 11 = .ok (.putfield 164, 3) := dk_181 0 164 (dk_at dksX0_coloured_0 11 rfl rfl)
theorem dX0_coloured_14 : decode cX0_coloured 14 = .ok (.iload_n 3, 1) := dk_29 (dk_at dksX0_coloured_0 14 rfl rfl)
theorem dX0_coloured_15 : decode cX0_coloured 15 = .ok (.ireturn, 1) := dk_172 (dk_at dksX0_coloured_0 15 rfl rfl)
abbrev cX0_weft : ByteArray := prog_1_method_31_code
def yX0_weft : MethodName := ⟨RX0, "weft", "(II)I"⟩
def dkwX0_weft_1 : List UInt8 := [42, 180, 0, 30, 180, 0, 73, 27, 50, 28, 182, 0, 203, 167, 0, 5, 16, 253, 172]
abbrev dktX0_weft_1 : List UInt8 := dkwX0_weft_1 ++ []
def dkwX0_weft_0 : List UInt8 := [42, 27, 182, 0, 180, 154, 0, 6, 16, 254, 172, 28, 133, 9, 20, 0, 201, 184, 0, 124, 153, 0, 20, 42]
abbrev dktX0_weft_0 : List UInt8 := dkwX0_weft_0 ++ dktX0_weft_1
theorem dksX0_weft_0 : cX0_weft.data.toList.drop 0 = dktX0_weft_0 := by decide +kernel
theorem dksX0_weft_1 : cX0_weft.data.toList.drop 24 = dktX0_weft_1 := dk_seg dksX0_weft_0 24 rfl rfl
theorem dX0_weft_0 : decode cX0_weft 0 = .ok (.aload_n 0, 1) := dk_42 (dk_at dksX0_weft_0 0 rfl rfl)
theorem dX0_weft_1 : decode cX0_weft 1 = .ok (.iload_n 1, 1) := dk_27 (dk_at dksX0_weft_0 1 rfl rfl)
theorem dX0_weft_2 : decode cX0_weft 2 = .ok (.invokevirtual 180, 3) := dk_182 0 180 (dk_at dksX0_weft_0 2 rfl rfl)
theorem dX0_weft_5 : decode cX0_weft 5 = .ok (.ifCond .ne 6, 3) := dk_154 0 6 (dk_at dksX0_weft_0 5 rfl rfl)
theorem dX0_weft_8 : decode cX0_weft 8 = .ok (.bipush (-2), 2) := dk_16 254 (dk_at dksX0_weft_0 8 rfl rfl)
theorem dX0_weft_10 : decode cX0_weft 10 = .ok (.ireturn, 1) := dk_172 (dk_at dksX0_weft_0 10 rfl rfl)
theorem dX0_weft_11 : decode cX0_weft 11 = .ok (.iload_n 2, 1) := dk_28 (dk_at dksX0_weft_0 11 rfl rfl)
theorem dX0_weft_12 : decode cX0_weft 12 = .ok (.i2l, 1) := dk_133 (dk_at dksX0_weft_0 12 rfl rfl)
theorem dX0_weft_13 : decode cX0_weft 13 = .ok (.lconst 0, 1) := dk_9 (dk_at dksX0_weft_0 13 rfl rfl)
theorem dX0_weft_14 : decode cX0_weft 14 = .ok (.ldc2_w 201, 3) := dk_20 0 201 (dk_at dksX0_weft_0 14 rfl rfl)
theorem dX0_weft_17 : decode cX0_weft 17 = .ok (.invokestatic 124, 3) := dk_184 0 124 (dk_at dksX0_weft_0 17 rfl rfl)
theorem dX0_weft_20 : decode cX0_weft 20 = .ok (.ifCond .eq 20, 3) := dk_153 0 20 (dk_at dksX0_weft_0 20 rfl rfl)
theorem dX0_weft_23 : decode cX0_weft 23 = .ok (.aload_n 0, 1) := dk_42 (dk_at dksX0_weft_0 23 rfl rfl)
theorem dX0_weft_24 : decode cX0_weft 24 = .ok (.aload_n 0, 1) := dk_42 (dk_at dksX0_weft_1 0 rfl rfl)
theorem dX0_weft_25 : decode cX0_weft 25 = .ok (.getfield 30, 3) := dk_180 0 30 (dk_at dksX0_weft_1 1 rfl rfl)
theorem dX0_weft_28 : decode cX0_weft 28 = .ok (.getfield 73, 3) := dk_180 0 73 (dk_at dksX0_weft_1 4 rfl rfl)
theorem dX0_weft_31 : decode cX0_weft 31 = .ok (.iload_n 1, 1) := dk_27 (dk_at dksX0_weft_1 7 rfl rfl)
theorem dX0_weft_32 : decode cX0_weft 32 = .ok (.aaload, 1) := dk_50 (dk_at dksX0_weft_1 8 rfl rfl)
theorem dX0_weft_33 : decode cX0_weft 33 = .ok (.iload_n 2, 1) := dk_28 (dk_at dksX0_weft_1 9 rfl rfl)
theorem dX0_weft_34 : decode cX0_weft 34 = .ok (.invokevirtual 203, 3) := dk_182 0 203 (dk_at dksX0_weft_1 10 rfl rfl)
theorem dX0_weft_37 : decode cX0_weft 37 = .ok (.goto 5, 3) := dk_167 0 5 (dk_at dksX0_weft_1 13 rfl rfl)
theorem dX0_weft_40 : decode cX0_weft 40 = .ok (.bipush (-3), 2) := dk_16 253 (dk_at dksX0_weft_1 16 rfl rfl)
theorem dX0_weft_42 : decode cX0_weft 42 = .ok (.ireturn, 1) := dk_172 (dk_at dksX0_weft_1 18 rfl rfl)
abbrev cX0_sample : ByteArray := prog_1_method_32_code
def yX0_sample : MethodName := ⟨RX0, "sample", "()I"⟩
def dkwX0_sample_8 : List UInt8 := [46, 120, 167, 0, 4, 3, 128, 79, 132, 6, 1, 167, 255, 204, 132, 5, 1, 167, 255, 169, 29, 172]
abbrev dktX0_sample_8 : List UInt8 := dkwX0_sample_8 ++ []
def dkwX0_sample_7 : List UInt8 := [21, 5, 46, 92, 46, 42, 180, 0, 82, 21, 5, 46, 21, 6, 184, 0, 219, 153, 0, 12, 4, 43, 21, 6]
abbrev dktX0_sample_7 : List UInt8 := dkwX0_sample_7 ++ dktX0_sample_8
def dkwX0_sample_6 : List UInt8 := [46, 181, 0, 102, 3, 54, 6, 21, 6, 42, 180, 0, 54, 162, 0, 49, 42, 180, 0, 30, 180, 0, 99, 44]
abbrev dktX0_sample_6 : List UInt8 := dkwX0_sample_6 ++ dktX0_sample_7
def dkwX0_sample_5 : List UInt8 := [54, 5, 21, 5, 42, 180, 0, 64, 162, 0, 84, 42, 180, 0, 30, 180, 0, 73, 21, 5, 50, 44, 21, 5]
abbrev dktX0_sample_5 : List UInt8 := dkwX0_sample_5 ++ dktX0_sample_6
def dkwX0_sample_4 : List UInt8 := [180, 0, 30, 180, 0, 90, 21, 5, 50, 43, 21, 5, 46, 181, 0, 94, 132, 5, 1, 167, 255, 227, 3]
abbrev dktX0_sample_4 : List UInt8 := dkwX0_sample_4 ++ dktX0_sample_5
def dkwX0_sample_3 : List UInt8 := [180, 0, 30, 180, 0, 99, 3, 184, 0, 213, 3, 54, 5, 21, 5, 42, 180, 0, 54, 162, 0, 26, 42]
abbrev dktX0_sample_3 : List UInt8 := dkwX0_sample_3 ++ dktX0_sample_4
def dkwX0_sample_2 : List UInt8 := [182, 0, 198, 42, 180, 0, 30, 42, 180, 0, 54, 42, 180, 0, 64, 29, 21, 4, 182, 0, 86, 42]
abbrev dktX0_sample_2 : List UInt8 := dkwX0_sample_2 ++ dktX0_sample_3
def dkwX0_sample_1 : List UInt8 := [180, 0, 64, 153, 0, 16, 29, 16, 6, 163, 0, 10, 21, 4, 16, 6, 164, 0, 6, 16, 252, 172, 42]
abbrev dktX0_sample_1 : List UInt8 := dkwX0_sample_1 ++ dktX0_sample_2
def dkwX0_sample_0 : List UInt8 := [16, 12, 188, 10, 76, 16, 12, 188, 10, 77, 42, 43, 182, 0, 206, 62, 42, 44, 182, 0, 210, 54, 4, 42]
abbrev dktX0_sample_0 : List UInt8 := dkwX0_sample_0 ++ dktX0_sample_1
theorem dksX0_sample_0 : cX0_sample.data.toList.drop 0 = dktX0_sample_0 := by decide +kernel
theorem dksX0_sample_1 : cX0_sample.data.toList.drop 24 = dktX0_sample_1 := dk_seg dksX0_sample_0 24 rfl rfl
theorem dksX0_sample_2 : cX0_sample.data.toList.drop 47 = dktX0_sample_2 := dk_seg dksX0_sample_1 23 rfl rfl
theorem dksX0_sample_3 : cX0_sample.data.toList.drop 69 = dktX0_sample_3 := dk_seg dksX0_sample_2 22 rfl rfl
theorem dksX0_sample_4 : cX0_sample.data.toList.drop 92 = dktX0_sample_4 := dk_seg dksX0_sample_3 23 rfl rfl
theorem dksX0_sample_5 : cX0_sample.data.toList.drop 115 = dktX0_sample_5 := dk_seg dksX0_sample_4 23 rfl rfl
theorem dksX0_sample_6 : cX0_sample.data.toList.drop 139 = dktX0_sample_6 := dk_seg dksX0_sample_5 24 rfl rfl
theorem dksX0_sample_7 : cX0_sample.data.toList.drop 163 = dktX0_sample_7 := dk_seg dksX0_sample_6 24 rfl rfl
theorem dksX0_sample_8 : cX0_sample.data.toList.drop 187 = dktX0_sample_8 := dk_seg dksX0_sample_7 24 rfl rfl
theorem dX0_sample_0 : decode cX0_sample 0 = .ok (.bipush 12, 2) := dk_16 12 (dk_at dksX0_sample_0 0 rfl rfl)
theorem dX0_sample_2 : decode cX0_sample 2 = .ok (.newarray .int, 2) := dk_188_10 (dk_at dksX0_sample_0 2 rfl rfl)
theorem dX0_sample_4 : decode cX0_sample 4 = .ok (.astore_n 1, 1) := dk_76 (dk_at dksX0_sample_0 4 rfl rfl)
theorem dX0_sample_5 : decode cX0_sample 5 = .ok (.bipush 12, 2) := dk_16 12 (dk_at dksX0_sample_0 5 rfl rfl)
theorem dX0_sample_7 : decode cX0_sample 7 = .ok (.newarray .int, 2) := dk_188_10 (dk_at dksX0_sample_0 7 rfl rfl)
theorem dX0_sample_9 : decode cX0_sample 9 = .ok (.astore_n 2, 1) := dk_77 (dk_at dksX0_sample_0 9 rfl rfl)
theorem dX0_sample_10 : decode cX0_sample 10 = .ok (.aload_n 0, 1) := dk_42 (dk_at dksX0_sample_0 10 rfl rfl)
theorem dX0_sample_11 : decode cX0_sample 11 = .ok (.aload_n 1, 1) := dk_43 (dk_at dksX0_sample_0 11 rfl rfl)
theorem dX0_sample_12 : decode cX0_sample 12 = .ok (.invokevirtual 206, 3) := dk_182 0 206 (dk_at dksX0_sample_0 12 rfl rfl)
theorem dX0_sample_15 : decode cX0_sample 15 = .ok (.istore_n 3, 1) := dk_62 (dk_at dksX0_sample_0 15 rfl rfl)
theorem dX0_sample_16 : decode cX0_sample 16 = .ok (.aload_n 0, 1) := dk_42 (dk_at dksX0_sample_0 16 rfl rfl)
theorem dX0_sample_17 : decode cX0_sample 17 = .ok (.aload_n 2, 1) := dk_44 (dk_at dksX0_sample_0 17 rfl rfl)
theorem dX0_sample_18 : decode cX0_sample 18 = .ok (.invokevirtual 210, 3) := dk_182 0 210 (dk_at dksX0_sample_0 18 rfl rfl)
theorem dX0_sample_21 : decode cX0_sample 21 = .ok (.istore 4, 2) := dk_54 4 (dk_at dksX0_sample_0 21 rfl rfl)
theorem dX0_sample_23 : decode cX0_sample 23 = .ok (.aload_n 0, 1) := dk_42 (dk_at dksX0_sample_0 23 rfl rfl)
theorem dX0_sample_24 : decode cX0_sample 24 = .ok (.getfield 64, 3) := dk_180 0 64 (dk_at dksX0_sample_1 0 rfl rfl)
theorem dX0_sample_27 : decode cX0_sample 27 = .ok (.ifCond .eq 16, 3) := dk_153 0 16 (dk_at dksX0_sample_1 3 rfl rfl)
theorem dX0_sample_30 : decode cX0_sample 30 = .ok (.iload_n 3, 1) := dk_29 (dk_at dksX0_sample_1 6 rfl rfl)
theorem dX0_sample_31 : decode cX0_sample 31 = .ok (.bipush 6, 2) := dk_16 6 (dk_at dksX0_sample_1 7 rfl rfl)
theorem dX0_sample_33 : decode cX0_sample 33 = .ok (.if_icmp .gt 10, 3) := dk_163 0 10 (dk_at dksX0_sample_1 9 rfl rfl)
theorem dX0_sample_36 : decode cX0_sample 36 = .ok (.iload 4, 2) := dk_21 4 (dk_at dksX0_sample_1 12 rfl rfl)
theorem dX0_sample_38 : decode cX0_sample 38 = .ok (.bipush 6, 2) := dk_16 6 (dk_at dksX0_sample_1 14 rfl rfl)
theorem dX0_sample_40 : decode cX0_sample 40 = .ok (.if_icmp .le 6, 3) := dk_164 0 6 (dk_at dksX0_sample_1 16 rfl rfl)
theorem dX0_sample_43 : decode cX0_sample 43 = .ok (.bipush (-4), 2) := dk_16 252 (dk_at dksX0_sample_1 19 rfl rfl)
theorem dX0_sample_45 : decode cX0_sample 45 = .ok (.ireturn, 1) := dk_172 (dk_at dksX0_sample_1 21 rfl rfl)
theorem dX0_sample_46 : decode cX0_sample 46 = .ok (.aload_n 0, 1) := dk_42 (dk_at dksX0_sample_1 22 rfl rfl)
theorem dX0_sample_47 : decode cX0_sample 47 = .ok (.invokevirtual 198, 3) := dk_182 0 198 (dk_at dksX0_sample_2 0 rfl rfl)
theorem dX0_sample_50 : decode cX0_sample 50 = .ok (.aload_n 0, 1) := dk_42 (dk_at dksX0_sample_2 3 rfl rfl)
theorem dX0_sample_51 : decode cX0_sample 51 = .ok (.getfield 30, 3) := dk_180 0 30 (dk_at dksX0_sample_2 4 rfl rfl)
theorem dX0_sample_54 : decode cX0_sample 54 = .ok (.aload_n 0, 1) := dk_42 (dk_at dksX0_sample_2 7 rfl rfl)
theorem dX0_sample_55 : decode cX0_sample 55 = .ok (.getfield 54, 3) := dk_180 0 54 (dk_at dksX0_sample_2 8 rfl rfl)
theorem dX0_sample_58 : decode cX0_sample 58 = .ok (.aload_n 0, 1) := dk_42 (dk_at dksX0_sample_2 11 rfl rfl)
theorem dX0_sample_59 : decode cX0_sample 59 = .ok (.getfield 64, 3) := dk_180 0 64 (dk_at dksX0_sample_2 12 rfl rfl)
theorem dX0_sample_62 : decode cX0_sample 62 = .ok (.iload_n 3, 1) := dk_29 (dk_at dksX0_sample_2 15 rfl rfl)
theorem dX0_sample_63 : decode cX0_sample 63 = .ok (.iload 4, 2) := dk_21 4 (dk_at dksX0_sample_2 16 rfl rfl)
theorem dX0_sample_65 : decode cX0_sample 65 = .ok (.invokevirtual 86, 3) := dk_182 0 86 (dk_at dksX0_sample_2 18 rfl rfl)
theorem dX0_sample_68 : decode cX0_sample 68 = .ok (.aload_n 0, 1) := dk_42 (dk_at dksX0_sample_2 21 rfl rfl)
theorem dX0_sample_69 : decode cX0_sample 69 = .ok (.getfield 30, 3) := dk_180 0 30 (dk_at dksX0_sample_3 0 rfl rfl)
theorem dX0_sample_72 : decode cX0_sample 72 = .ok (.getfield 99, 3) := dk_180 0 99 (dk_at dksX0_sample_3 3 rfl rfl)
theorem dX0_sample_75 : decode cX0_sample 75 = .ok (.iconst 0, 1) := dk_3 (dk_at dksX0_sample_3 6 rfl rfl)
theorem dX0_sample_76 : decode cX0_sample 76 = .ok (.invokestatic 213, 3) := dk_184 0 213 (dk_at dksX0_sample_3 7 rfl rfl)
theorem dX0_sample_79 : decode cX0_sample 79 = .ok (.iconst 0, 1) := dk_3 (dk_at dksX0_sample_3 10 rfl rfl)
theorem dX0_sample_80 : decode cX0_sample 80 = .ok (.istore 5, 2) := dk_54 5 (dk_at dksX0_sample_3 11 rfl rfl)
theorem dX0_sample_82 : decode cX0_sample 82 = .ok (.iload 5, 2) := dk_21 5 (dk_at dksX0_sample_3 13 rfl rfl)
theorem dX0_sample_84 : decode cX0_sample 84 = .ok (.aload_n 0, 1) := dk_42 (dk_at dksX0_sample_3 15 rfl rfl)
theorem dX0_sample_85 : decode cX0_sample 85 = .ok (.getfield 54, 3) := dk_180 0 54 (dk_at dksX0_sample_3 16 rfl rfl)
theorem dX0_sample_88 : decode cX0_sample 88 = .ok (.if_icmp .ge 26, 3) := dk_162 0 26 (dk_at dksX0_sample_3 19 rfl rfl)
theorem dX0_sample_91 : decode cX0_sample 91 = .ok (.aload_n 0, 1) := dk_42 (dk_at dksX0_sample_3 22 rfl rfl)
theorem dX0_sample_92 : decode cX0_sample 92 = .ok (.getfield 30, 3) := dk_180 0 30 (dk_at dksX0_sample_4 0 rfl rfl)
theorem dX0_sample_95 : decode cX0_sample 95 = .ok (.getfield 90, 3) := dk_180 0 90 (dk_at dksX0_sample_4 3 rfl rfl)
theorem dX0_sample_98 : decode cX0_sample 98 = .ok (.iload 5, 2) := dk_21 5 (dk_at dksX0_sample_4 6 rfl rfl)
theorem dX0_sample_100 : decode cX0_sample 100 = .ok (.aaload, 1) := dk_50 (dk_at dksX0_sample_4 8 rfl rfl)
theorem dX0_sample_101 : decode cX0_sample 101 = .ok (.aload_n 1, 1) := dk_43 (dk_at dksX0_sample_4 9 rfl rfl)
theorem dX0_sample_102 : decode cX0_sample 102 = .ok (.iload 5, 2) := dk_21 5 (dk_at dksX0_sample_4 10 rfl rfl)
theorem dX0_sample_104 : decode cX0_sample 104 = .ok (.iaload, 1) := dk_46 (dk_at dksX0_sample_4 12 rfl rfl)
theorem dX0_sample_105 : decode cX0_sample 105 = .ok (.putfield 94, 3) := dk_181 0 94 (dk_at dksX0_sample_4 13 rfl rfl)
theorem dX0_sample_108 : decode cX0_sample 108 = .ok (.iinc 5 1, 3) := dk_132 5 1 (dk_at dksX0_sample_4 16 rfl rfl)
theorem dX0_sample_111 : decode cX0_sample 111 = .ok (.goto (-29), 3) := dk_167 255 227 (dk_at dksX0_sample_4 19 rfl rfl)
theorem dX0_sample_114 : decode cX0_sample 114 = .ok (.iconst 0, 1) := dk_3 (dk_at dksX0_sample_4 22 rfl rfl)
theorem dX0_sample_115 : decode cX0_sample 115 = .ok (.istore 5, 2) := dk_54 5 (dk_at dksX0_sample_5 0 rfl rfl)
theorem dX0_sample_117 : decode cX0_sample 117 = .ok (.iload 5, 2) := dk_21 5 (dk_at dksX0_sample_5 2 rfl rfl)
theorem dX0_sample_119 : decode cX0_sample 119 = .ok (.aload_n 0, 1) := dk_42 (dk_at dksX0_sample_5 4 rfl rfl)
theorem dX0_sample_120 : decode cX0_sample 120 = .ok (.getfield 64, 3) := dk_180 0 64 (dk_at dksX0_sample_5 5 rfl rfl)
theorem dX0_sample_123 : decode cX0_sample 123 = .ok (.if_icmp .ge 84, 3) := dk_162 0 84 (dk_at dksX0_sample_5 8 rfl rfl)
theorem dX0_sample_126 : decode cX0_sample 126 = .ok (.aload_n 0, 1) := dk_42 (dk_at dksX0_sample_5 11 rfl rfl)
theorem dX0_sample_127 : decode cX0_sample 127 = .ok (.getfield 30, 3) := dk_180 0 30 (dk_at dksX0_sample_5 12 rfl rfl)
theorem dX0_sample_130 : decode cX0_sample 130 = .ok (.getfield 73, 3) := dk_180 0 73 (dk_at dksX0_sample_5 15 rfl rfl)
theorem dX0_sample_133 : decode cX0_sample 133 = .ok (.iload 5, 2) := dk_21 5 (dk_at dksX0_sample_5 18 rfl rfl)
theorem dX0_sample_135 : decode cX0_sample 135 = .ok (.aaload, 1) := dk_50 (dk_at dksX0_sample_5 20 rfl rfl)
theorem dX0_sample_136 : decode cX0_sample 136 = .ok (.aload_n 2, 1) := dk_44 (dk_at dksX0_sample_5 21 rfl rfl)
theorem dX0_sample_137 : decode cX0_sample 137 = .ok (.iload 5, 2) := dk_21 5 (dk_at dksX0_sample_5 22 rfl rfl)
theorem dX0_sample_139 : decode cX0_sample 139 = .ok (.iaload, 1) := dk_46 (dk_at dksX0_sample_6 0 rfl rfl)
theorem dX0_sample_140 : decode cX0_sample 140 = .ok (.putfield 102, 3) := dk_181 0 102 (dk_at dksX0_sample_6 1 rfl rfl)
theorem dX0_sample_143 : decode cX0_sample 143 = .ok (.iconst 0, 1) := dk_3 (dk_at dksX0_sample_6 4 rfl rfl)
theorem dX0_sample_144 : decode cX0_sample 144 = .ok (.istore 6, 2) := dk_54 6 (dk_at dksX0_sample_6 5 rfl rfl)
theorem dX0_sample_146 : decode cX0_sample 146 = .ok (.iload 6, 2) := dk_21 6 (dk_at dksX0_sample_6 7 rfl rfl)
theorem dX0_sample_148 : decode cX0_sample 148 = .ok (.aload_n 0, 1) := dk_42 (dk_at dksX0_sample_6 9 rfl rfl)
theorem dX0_sample_149 : decode cX0_sample 149 = .ok (.getfield 54, 3) := dk_180 0 54 (dk_at dksX0_sample_6 10 rfl rfl)
theorem dX0_sample_152 : decode cX0_sample 152 = .ok (.if_icmp .ge 49, 3) := dk_162 0 49 (dk_at dksX0_sample_6 13 rfl rfl)
theorem dX0_sample_155 : decode cX0_sample 155 = .ok (.aload_n 0, 1) := dk_42 (dk_at dksX0_sample_6 16 rfl rfl)
theorem dX0_sample_156 : decode cX0_sample 156 = .ok (.getfield 30, 3) := dk_180 0 30 (dk_at dksX0_sample_6 17 rfl rfl)
theorem dX0_sample_159 : decode cX0_sample 159 = .ok (.getfield 99, 3) := dk_180 0 99 (dk_at dksX0_sample_6 20 rfl rfl)
theorem dX0_sample_162 : decode cX0_sample 162 = .ok (.aload_n 2, 1) := dk_44 (dk_at dksX0_sample_6 23 rfl rfl)
theorem dX0_sample_163 : decode cX0_sample 163 = .ok (.iload 5, 2) := dk_21 5 (dk_at dksX0_sample_7 0 rfl rfl)
theorem dX0_sample_165 : decode cX0_sample 165 = .ok (.iaload, 1) := dk_46 (dk_at dksX0_sample_7 2 rfl rfl)
theorem dX0_sample_166 : decode cX0_sample 166 = .ok (.dup2, 1) := dk_92 (dk_at dksX0_sample_7 3 rfl rfl)
theorem dX0_sample_167 : decode cX0_sample 167 = .ok (.iaload, 1) := dk_46 (dk_at dksX0_sample_7 4 rfl rfl)
theorem dX0_sample_168 : decode cX0_sample 168 = .ok (.aload_n 0, 1) := dk_42 (dk_at dksX0_sample_7 5 rfl rfl)
theorem dX0_sample_169 : decode cX0_sample 169 = .ok (.getfield 82, 3) := dk_180 0 82 (dk_at dksX0_sample_7 6 rfl rfl)
theorem dX0_sample_172 : decode cX0_sample 172 = .ok (.iload 5, 2) := dk_21 5 (dk_at dksX0_sample_7 9 rfl rfl)
theorem dX0_sample_174 : decode cX0_sample 174 = .ok (.iaload, 1) := dk_46 (dk_at dksX0_sample_7 11 rfl rfl)
theorem dX0_sample_175 : decode cX0_sample 175 = .ok (.iload 6, 2) := dk_21 6 (dk_at dksX0_sample_7 12 rfl rfl)
theorem dX0_sample_177 : decode cX0_sample 177 = .ok (.invokestatic 219, 3) := dk_184 0 219 (dk_at dksX0_sample_7 14 rfl rfl)
theorem dX0_sample_180 : decode cX0_sample 180 = .ok (.ifCond .eq 12, 3) := dk_153 0 12 (dk_at dksX0_sample_7 17 rfl rfl)
theorem dX0_sample_183 : decode cX0_sample 183 = .ok (.iconst 1, 1) := dk_4 (dk_at dksX0_sample_7 20 rfl rfl)
theorem dX0_sample_184 : decode cX0_sample 184 = .ok (.aload_n 1, 1) := dk_43 (dk_at dksX0_sample_7 21 rfl rfl)
theorem dX0_sample_185 : decode cX0_sample 185 = .ok (.iload 6, 2) := dk_21 6 (dk_at dksX0_sample_7 22 rfl rfl)
theorem dX0_sample_187 : decode cX0_sample 187 = .ok (.iaload, 1) := dk_46 (dk_at dksX0_sample_8 0 rfl rfl)
theorem dX0_sample_188 : decode cX0_sample 188 = .ok (.ishl, 1) := dk_120 (dk_at dksX0_sample_8 1 rfl rfl)
theorem dX0_sample_189 : decode cX0_sample 189 = .ok (.goto 4, 3) := dk_167 0 4 (dk_at dksX0_sample_8 2 rfl rfl)
theorem dX0_sample_192 : decode cX0_sample 192 = .ok (.iconst 0, 1) := dk_3 (dk_at dksX0_sample_8 5 rfl rfl)
theorem dX0_sample_193 : decode cX0_sample 193 = .ok (.ior, 1) := dk_128 (dk_at dksX0_sample_8 6 rfl rfl)
theorem dX0_sample_194 : decode cX0_sample 194 = .ok (.iastore, 1) := dk_79 (dk_at dksX0_sample_8 7 rfl rfl)
theorem dX0_sample_195 : decode cX0_sample 195 = .ok (.iinc 6 1, 3) := dk_132 6 1 (dk_at dksX0_sample_8 8 rfl rfl)
theorem dX0_sample_198 : decode cX0_sample 198 = .ok (.goto (-52), 3) := dk_167 255 204 (dk_at dksX0_sample_8 11 rfl rfl)
theorem dX0_sample_201 : decode cX0_sample 201 = .ok (.iinc 5 1, 3) := dk_132 5 1 (dk_at dksX0_sample_8 14 rfl rfl)
theorem dX0_sample_204 : decode cX0_sample 204 = .ok (.goto (-87), 3) := dk_167 255 169 (dk_at dksX0_sample_8 17 rfl rfl)
theorem dX0_sample_207 : decode cX0_sample 207 = .ok (.iload_n 3, 1) := dk_29 (dk_at dksX0_sample_8 20 rfl rfl)
theorem dX0_sample_208 : decode cX0_sample 208 = .ok (.ireturn, 1) := dk_172 (dk_at dksX0_sample_8 21 rfl rfl)
abbrev cX0_shaftsOf : ByteArray := prog_1_method_8_code
def yX0_shaftsOf : MethodName := ⟨RX0, "shaftsOf", "([I)I"⟩
def dkwX0_shaftsOf_0 : List UInt8 := [42, 182, 0, 50, 42, 180, 0, 54, 43, 184, 0, 57, 172]
abbrev dktX0_shaftsOf_0 : List UInt8 := dkwX0_shaftsOf_0 ++ []
theorem dksX0_shaftsOf_0 : cX0_shaftsOf.data.toList.drop 0 = dktX0_shaftsOf_0 := by decide +kernel
theorem dX0_shaftsOf_0 : decode cX0_shaftsOf 0 = .ok (.aload_n 0, 1) := dk_42 (dk_at dksX0_shaftsOf_0 0 rfl rfl)
theorem dX0_shaftsOf_1 : decode cX0_shaftsOf 1 = .ok (.invokevirtual 50, 3) := dk_182 0 50 (dk_at dksX0_shaftsOf_0 1 rfl rfl)
theorem dX0_shaftsOf_4 : decode cX0_shaftsOf 4 = .ok (.aload_n 0, 1) := dk_42 (dk_at dksX0_shaftsOf_0 4 rfl rfl)
theorem dX0_shaftsOf_5 : decode cX0_shaftsOf 5 = .ok (.getfield 54, 3) := dk_180 0 54 (dk_at dksX0_shaftsOf_0 5 rfl rfl)
theorem dX0_shaftsOf_8 : decode cX0_shaftsOf 8 = .ok (.aload_n 1, 1) := dk_43 (dk_at dksX0_shaftsOf_0 8 rfl rfl)
theorem dX0_shaftsOf_9 : decode cX0_shaftsOf 9 = .ok (.invokestatic 57, 3) := dk_184 0 57 (dk_at dksX0_shaftsOf_0 9 rfl rfl)
theorem dX0_shaftsOf_12 : decode cX0_shaftsOf 12 = .ok (.ireturn, 1) := dk_172 (dk_at dksX0_shaftsOf_0 12 rfl rfl)
abbrev cX0_columnsOf : ByteArray := prog_1_method_6_code
def yX0_columnsOf : MethodName := ⟨RX0, "columnsOf", "()LWeaveDraft$Line;"⟩
def dkwX0_columnsOf_0 : List UInt8 := [187, 0, 41, 89, 42, 183, 0, 43, 176]
abbrev dktX0_columnsOf_0 : List UInt8 := dkwX0_columnsOf_0 ++ []
theorem dksX0_columnsOf_0 : cX0_columnsOf.data.toList.drop 0 = dktX0_columnsOf_0 := by decide +kernel
theorem dX0_columnsOf_0 : decode cX0_columnsOf 0 = .ok (.new 41, 3) := dk_187 0 41 (dk_at dksX0_columnsOf_0 0 rfl rfl)
theorem dX0_columnsOf_3 : decode cX0_columnsOf 3 = .ok (.dup, 1) := dk_89 (dk_at dksX0_columnsOf_0 3 rfl rfl)
theorem dX0_columnsOf_4 : decode cX0_columnsOf 4 = .ok (.aload_n 0, 1) := dk_42 (dk_at dksX0_columnsOf_0 4 rfl rfl)
theorem dX0_columnsOf_5 : decode cX0_columnsOf 5 = .ok (.invokespecial 43, 3) := dk_183 0 43 (dk_at dksX0_columnsOf_0 5 rfl rfl)
theorem dX0_columnsOf_8 : decode cX0_columnsOf 8 = .ok (.areturn, 1) := dk_176 (dk_at dksX0_columnsOf_0 8 rfl rfl)
abbrev cX0_numbered : ByteArray := prog_1_method_7_code
def yX0_numbered : MethodName := ⟨RX0, "numbered", "(LWeaveDraft$Line;I[I)I"⟩
def dkwX0_numbered_4 : List UInt8 := [167, 255, 171, 29, 172]
abbrev dktX0_numbered_4 : List UInt8 := dkwX0_numbered_4 ++ []
def dkwX0_numbered_3 : List UInt8 := [167, 255, 207, 44, 21, 4, 46, 2, 160, 0, 11, 44, 21, 4, 29, 132, 3, 1, 79, 132, 4, 1]
abbrev dktX0_numbered_3 : List UInt8 := dkwX0_numbered_3 ++ dktX0_numbered_4
def dkwX0_numbered_2 : List UInt8 := [21, 4, 185, 0, 44, 2, 0, 160, 0, 10, 44, 21, 5, 46, 167, 0, 4, 2, 79, 132, 5, 1]
abbrev dktX0_numbered_2 : List UInt8 := dkwX0_numbered_2 ++ dktX0_numbered_3
def dkwX0_numbered_1 : List UInt8 := [162, 0, 48, 44, 21, 4, 46, 2, 160, 0, 40, 44, 21, 4, 42, 21, 5, 185, 0, 44, 2, 0, 42]
abbrev dktX0_numbered_1 : List UInt8 := dkwX0_numbered_1 ++ dktX0_numbered_2
def dkwX0_numbered_0 : List UInt8 := [3, 62, 3, 54, 4, 21, 4, 27, 162, 0, 85, 44, 21, 4, 2, 79, 3, 54, 5, 21, 5, 21, 4]
abbrev dktX0_numbered_0 : List UInt8 := dkwX0_numbered_0 ++ dktX0_numbered_1
theorem dksX0_numbered_0 : cX0_numbered.data.toList.drop 0 = dktX0_numbered_0 := by decide +kernel
theorem dksX0_numbered_1 : cX0_numbered.data.toList.drop 23 = dktX0_numbered_1 := dk_seg dksX0_numbered_0 23 rfl rfl
theorem dksX0_numbered_2 : cX0_numbered.data.toList.drop 46 = dktX0_numbered_2 := dk_seg dksX0_numbered_1 23 rfl rfl
theorem dksX0_numbered_3 : cX0_numbered.data.toList.drop 68 = dktX0_numbered_3 := dk_seg dksX0_numbered_2 22 rfl rfl
theorem dksX0_numbered_4 : cX0_numbered.data.toList.drop 90 = dktX0_numbered_4 := dk_seg dksX0_numbered_3 22 rfl rfl
theorem dX0_numbered_0 : decode cX0_numbered 0 = .ok (.iconst 0, 1) := dk_3 (dk_at dksX0_numbered_0 0 rfl rfl)
theorem dX0_numbered_1 : decode cX0_numbered 1 = .ok (.istore_n 3, 1) := dk_62 (dk_at dksX0_numbered_0 1 rfl rfl)
theorem dX0_numbered_2 : decode cX0_numbered 2 = .ok (.iconst 0, 1) := dk_3 (dk_at dksX0_numbered_0 2 rfl rfl)
theorem dX0_numbered_3 : decode cX0_numbered 3 = .ok (.istore 4, 2) := dk_54 4 (dk_at dksX0_numbered_0 3 rfl rfl)
theorem dX0_numbered_5 : decode cX0_numbered 5 = .ok (.iload 4, 2) := dk_21 4 (dk_at dksX0_numbered_0 5 rfl rfl)
theorem dX0_numbered_7 : decode cX0_numbered 7 = .ok (.iload_n 1, 1) := dk_27 (dk_at dksX0_numbered_0 7 rfl rfl)
theorem dX0_numbered_8 : decode cX0_numbered 8 = .ok (.if_icmp .ge 85, 3) := dk_162 0 85 (dk_at dksX0_numbered_0 8 rfl rfl)
theorem dX0_numbered_11 : decode cX0_numbered 11 = .ok (.aload_n 2, 1) := dk_44 (dk_at dksX0_numbered_0 11 rfl rfl)
theorem dX0_numbered_12 : decode cX0_numbered 12 = .ok (.iload 4, 2) := dk_21 4 (dk_at dksX0_numbered_0 12 rfl rfl)
theorem dX0_numbered_14 : decode cX0_numbered 14 = .ok (.iconst (-1), 1) := dk_2 (dk_at dksX0_numbered_0 14 rfl rfl)
theorem dX0_numbered_15 : decode cX0_numbered 15 = .ok (.iastore, 1) := dk_79 (dk_at dksX0_numbered_0 15 rfl rfl)
theorem dX0_numbered_16 : decode cX0_numbered 16 = .ok (.iconst 0, 1) := dk_3 (dk_at dksX0_numbered_0 16 rfl rfl)
theorem dX0_numbered_17 : decode cX0_numbered 17 = .ok (.istore 5, 2) := dk_54 5 (dk_at dksX0_numbered_0 17 rfl rfl)
theorem dX0_numbered_19 : decode cX0_numbered 19 = .ok (.iload 5, 2) := dk_21 5 (dk_at dksX0_numbered_0 19 rfl rfl)
theorem dX0_numbered_21 : decode cX0_numbered 21 = .ok (.iload 4, 2) := dk_21 4 (dk_at dksX0_numbered_0 21 rfl rfl)
theorem dX0_numbered_23 : decode cX0_numbered 23 = .ok (.if_icmp .ge 48, 3) := dk_162 0 48 (dk_at dksX0_numbered_1 0 rfl rfl)
theorem dX0_numbered_26 : decode cX0_numbered 26 = .ok (.aload_n 2, 1) := dk_44 (dk_at dksX0_numbered_1 3 rfl rfl)
theorem dX0_numbered_27 : decode cX0_numbered 27 = .ok (.iload 4, 2) := dk_21 4 (dk_at dksX0_numbered_1 4 rfl rfl)
theorem dX0_numbered_29 : decode cX0_numbered 29 = .ok (.iaload, 1) := dk_46 (dk_at dksX0_numbered_1 6 rfl rfl)
theorem dX0_numbered_30 : decode cX0_numbered 30 = .ok (.iconst (-1), 1) := dk_2 (dk_at dksX0_numbered_1 7 rfl rfl)
theorem dX0_numbered_31 : decode cX0_numbered 31 = .ok (.if_icmp .ne 40, 3) := dk_160 0 40 (dk_at dksX0_numbered_1 8 rfl rfl)
theorem dX0_numbered_34 : decode cX0_numbered 34 = .ok (.aload_n 2, 1) := dk_44 (dk_at dksX0_numbered_1 11 rfl rfl)
theorem dX0_numbered_35 : decode cX0_numbered 35 = .ok (.iload 4, 2) := dk_21 4 (dk_at dksX0_numbered_1 12 rfl rfl)
theorem dX0_numbered_37 : decode cX0_numbered 37 = .ok (.aload_n 0, 1) := dk_42 (dk_at dksX0_numbered_1 14 rfl rfl)
theorem dX0_numbered_38 : decode cX0_numbered 38 = .ok (.iload 5, 2) := dk_21 5 (dk_at dksX0_numbered_1 15 rfl rfl)
theorem dX0_numbered_40 : decode cX0_numbered 40 = .ok (.invokeinterface 44 2, 5) := by decide +kernel
theorem dX0_numbered_45 : decode cX0_numbered 45 = .ok (.aload_n 0, 1) := dk_42 (dk_at dksX0_numbered_1 22 rfl rfl)
theorem dX0_numbered_46 : decode cX0_numbered 46 = .ok (.iload 4, 2) := dk_21 4 (dk_at dksX0_numbered_2 0 rfl rfl)
theorem dX0_numbered_48 : decode cX0_numbered 48 = .ok (.invokeinterface 44 2, 5) := by decide +kernel
theorem dX0_numbered_53 : decode cX0_numbered 53 = .ok (.if_icmp .ne 10, 3) := dk_160 0 10 (dk_at dksX0_numbered_2 7 rfl rfl)
theorem dX0_numbered_56 : decode cX0_numbered 56 = .ok (.aload_n 2, 1) := dk_44 (dk_at dksX0_numbered_2 10 rfl rfl)
theorem dX0_numbered_57 : decode cX0_numbered 57 = .ok (.iload 5, 2) := dk_21 5 (dk_at dksX0_numbered_2 11 rfl rfl)
theorem dX0_numbered_59 : decode cX0_numbered 59 = .ok (.iaload, 1) := dk_46 (dk_at dksX0_numbered_2 13 rfl rfl)
theorem dX0_numbered_60 : decode cX0_numbered 60 = .ok (.goto 4, 3) := dk_167 0 4 (dk_at dksX0_numbered_2 14 rfl rfl)
theorem dX0_numbered_63 : decode cX0_numbered 63 = .ok (.iconst (-1), 1) := dk_2 (dk_at dksX0_numbered_2 17 rfl rfl)
theorem dX0_numbered_64 : decode cX0_numbered 64 = .ok (.iastore, 1) := dk_79 (dk_at dksX0_numbered_2 18 rfl rfl)
theorem dX0_numbered_65 : decode cX0_numbered 65 = .ok (.iinc 5 1, 3) := dk_132 5 1 (dk_at dksX0_numbered_2 19 rfl rfl)
theorem dX0_numbered_68 : decode cX0_numbered 68 = .ok (.goto (-49), 3) := dk_167 255 207 (dk_at dksX0_numbered_3 0 rfl rfl)
theorem dX0_numbered_71 : decode cX0_numbered 71 = .ok (.aload_n 2, 1) := dk_44 (dk_at dksX0_numbered_3 3 rfl rfl)
theorem dX0_numbered_72 : decode cX0_numbered 72 = .ok (.iload 4, 2) := dk_21 4 (dk_at dksX0_numbered_3 4 rfl rfl)
theorem dX0_numbered_74 : decode cX0_numbered 74 = .ok (.iaload, 1) := dk_46 (dk_at dksX0_numbered_3 6 rfl rfl)
theorem dX0_numbered_75 : decode cX0_numbered 75 = .ok (.iconst (-1), 1) := dk_2 (dk_at dksX0_numbered_3 7 rfl rfl)
theorem dX0_numbered_76 : decode cX0_numbered 76 = .ok (.if_icmp .ne 11, 3) := dk_160 0 11 (dk_at dksX0_numbered_3 8 rfl rfl)
theorem dX0_numbered_79 : decode cX0_numbered 79 = .ok (.aload_n 2, 1) := dk_44 (dk_at dksX0_numbered_3 11 rfl rfl)
theorem dX0_numbered_80 : decode cX0_numbered 80 = .ok (.iload 4, 2) := dk_21 4 (dk_at dksX0_numbered_3 12 rfl rfl)
theorem dX0_numbered_82 : decode cX0_numbered 82 = .ok (.iload_n 3, 1) := dk_29 (dk_at dksX0_numbered_3 14 rfl rfl)
theorem dX0_numbered_83 : decode cX0_numbered 83 = .ok (.iinc 3 1, 3) := dk_132 3 1 (dk_at dksX0_numbered_3 15 rfl rfl)
theorem dX0_numbered_86 : decode cX0_numbered 86 = .ok (.iastore, 1) := dk_79 (dk_at dksX0_numbered_3 18 rfl rfl)
theorem dX0_numbered_87 : decode cX0_numbered 87 = .ok (.iinc 4 1, 3) := dk_132 4 1 (dk_at dksX0_numbered_3 19 rfl rfl)
theorem dX0_numbered_90 : decode cX0_numbered 90 = .ok (.goto (-85), 3) := dk_167 255 171 (dk_at dksX0_numbered_4 0 rfl rfl)
theorem dX0_numbered_93 : decode cX0_numbered 93 = .ok (.iload_n 3, 1) := dk_29 (dk_at dksX0_numbered_4 3 rfl rfl)
theorem dX0_numbered_94 : decode cX0_numbered 94 = .ok (.ireturn, 1) := dk_172 (dk_at dksX0_numbered_4 4 rfl rfl)
abbrev cX0_treadlesOf : ByteArray := prog_1_method_9_code
def yX0_treadlesOf : MethodName := ⟨RX0, "treadlesOf", "([I)I"⟩
def dkwX0_treadlesOf_0 : List UInt8 := [42, 182, 0, 61, 42, 180, 0, 64, 43, 184, 0, 57, 172]
abbrev dktX0_treadlesOf_0 : List UInt8 := dkwX0_treadlesOf_0 ++ []
theorem dksX0_treadlesOf_0 : cX0_treadlesOf.data.toList.drop 0 = dktX0_treadlesOf_0 := by decide +kernel
theorem dX0_treadlesOf_0 : decode cX0_treadlesOf 0 = .ok (.aload_n 0, 1) := dk_42 (dk_at dksX0_treadlesOf_0 0 rfl rfl)
theorem dX0_treadlesOf_1 : decode cX0_treadlesOf 1 = .ok (.invokevirtual 61, 3) := dk_182 0 61 (dk_at dksX0_treadlesOf_0 1 rfl rfl)
theorem dX0_treadlesOf_4 : decode cX0_treadlesOf 4 = .ok (.aload_n 0, 1) := dk_42 (dk_at dksX0_treadlesOf_0 4 rfl rfl)
theorem dX0_treadlesOf_5 : decode cX0_treadlesOf 5 = .ok (.getfield 64, 3) := dk_180 0 64 (dk_at dksX0_treadlesOf_0 5 rfl rfl)
theorem dX0_treadlesOf_8 : decode cX0_treadlesOf 8 = .ok (.aload_n 1, 1) := dk_43 (dk_at dksX0_treadlesOf_0 8 rfl rfl)
theorem dX0_treadlesOf_9 : decode cX0_treadlesOf 9 = .ok (.invokestatic 57, 3) := dk_184 0 57 (dk_at dksX0_treadlesOf_0 9 rfl rfl)
theorem dX0_treadlesOf_12 : decode cX0_treadlesOf 12 = .ok (.ireturn, 1) := dk_172 (dk_at dksX0_treadlesOf_0 12 rfl rfl)
abbrev cX0_rowsOf : ByteArray := prog_1_method_5_code
def yX0_rowsOf : MethodName := ⟨RX0, "rowsOf", "()LWeaveDraft$Line;"⟩
def dkwX0_rowsOf_0 : List UInt8 := [187, 0, 38, 89, 42, 183, 0, 40, 176]
abbrev dktX0_rowsOf_0 : List UInt8 := dkwX0_rowsOf_0 ++ []
theorem dksX0_rowsOf_0 : cX0_rowsOf.data.toList.drop 0 = dktX0_rowsOf_0 := by decide +kernel
theorem dX0_rowsOf_0 : decode cX0_rowsOf 0 = .ok (.new 38, 3) := dk_187 0 38 (dk_at dksX0_rowsOf_0 0 rfl rfl)
theorem dX0_rowsOf_3 : decode cX0_rowsOf 3 = .ok (.dup, 1) := dk_89 (dk_at dksX0_rowsOf_0 3 rfl rfl)
theorem dX0_rowsOf_4 : decode cX0_rowsOf 4 = .ok (.aload_n 0, 1) := dk_42 (dk_at dksX0_rowsOf_0 4 rfl rfl)
theorem dX0_rowsOf_5 : decode cX0_rowsOf 5 = .ok (.invokespecial 40, 3) := dk_183 0 40 (dk_at dksX0_rowsOf_0 5 rfl rfl)
theorem dX0_rowsOf_8 : decode cX0_rowsOf 8 = .ok (.areturn, 1) := dk_176 (dk_at dksX0_rowsOf_0 8 rfl rfl)
abbrev cX0_turn : ByteArray := prog_1_method_33_code
def yX0_turn : MethodName := ⟨RX0, "turn", "()I"⟩
def dkwX0_turn_0 : List UInt8 := [42, 182, 0, 198, 42, 180, 0, 30, 182, 0, 222, 42, 180, 0, 30, 180, 0, 67, 172]
abbrev dktX0_turn_0 : List UInt8 := dkwX0_turn_0 ++ []
theorem dksX0_turn_0 : cX0_turn.data.toList.drop 0 = dktX0_turn_0 := by decide +kernel
theorem dX0_turn_0 : decode cX0_turn 0 = .ok (.aload_n 0, 1) := dk_42 (dk_at dksX0_turn_0 0 rfl rfl)
theorem dX0_turn_1 : decode cX0_turn 1 = .ok (.invokevirtual 198, 3) := dk_182 0 198 (dk_at dksX0_turn_0 1 rfl rfl)
theorem dX0_turn_4 : decode cX0_turn 4 = .ok (.aload_n 0, 1) := dk_42 (dk_at dksX0_turn_0 4 rfl rfl)
theorem dX0_turn_5 : decode cX0_turn 5 = .ok (.getfield 30, 3) := dk_180 0 30 (dk_at dksX0_turn_0 5 rfl rfl)
theorem dX0_turn_8 : decode cX0_turn 8 = .ok (.invokevirtual 222, 3) := dk_182 0 222 (dk_at dksX0_turn_0 8 rfl rfl)
theorem dX0_turn_11 : decode cX0_turn 11 = .ok (.aload_n 0, 1) := dk_42 (dk_at dksX0_turn_0 11 rfl rfl)
theorem dX0_turn_12 : decode cX0_turn 12 = .ok (.getfield 30, 3) := dk_180 0 30 (dk_at dksX0_turn_0 12 rfl rfl)
theorem dX0_turn_15 : decode cX0_turn 15 = .ok (.getfield 67, 3) := dk_180 0 67 (dk_at dksX0_turn_0 15 rfl rfl)
theorem dX0_turn_18 : decode cX0_turn 18 = .ok (.ireturn, 1) := dk_172 (dk_at dksX0_turn_0 18 rfl rfl)
abbrev cX0_undo : ByteArray := prog_1_method_34_code
def yX0_undo : MethodName := ⟨RX0, "undo", "()I"⟩
def dkwX0_undo_1 : List UInt8 := [100, 90, 181, 0, 1, 50, 182, 0, 34, 87, 42, 180, 0, 1, 172]
abbrev dktX0_undo_1 : List UInt8 := dkwX0_undo_1 ++ []
def dkwX0_undo_0 : List UInt8 := [42, 180, 0, 1, 154, 0, 6, 16, 252, 172, 42, 180, 0, 30, 42, 180, 0, 15, 42, 89, 180, 0, 1, 4]
abbrev dktX0_undo_0 : List UInt8 := dkwX0_undo_0 ++ dktX0_undo_1
theorem dksX0_undo_0 : cX0_undo.data.toList.drop 0 = dktX0_undo_0 := by decide +kernel
theorem dksX0_undo_1 : cX0_undo.data.toList.drop 24 = dktX0_undo_1 := dk_seg dksX0_undo_0 24 rfl rfl
theorem dX0_undo_0 : decode cX0_undo 0 = .ok (.aload_n 0, 1) := dk_42 (dk_at dksX0_undo_0 0 rfl rfl)
theorem dX0_undo_1 : decode cX0_undo 1 = .ok (.getfield 1, 3) := dk_180 0 1 (dk_at dksX0_undo_0 1 rfl rfl)
theorem dX0_undo_4 : decode cX0_undo 4 = .ok (.ifCond .ne 6, 3) := dk_154 0 6 (dk_at dksX0_undo_0 4 rfl rfl)
theorem dX0_undo_7 : decode cX0_undo 7 = .ok (.bipush (-4), 2) := dk_16 252 (dk_at dksX0_undo_0 7 rfl rfl)
theorem dX0_undo_9 : decode cX0_undo 9 = .ok (.ireturn, 1) := dk_172 (dk_at dksX0_undo_0 9 rfl rfl)
theorem dX0_undo_10 : decode cX0_undo 10 = .ok (.aload_n 0, 1) := dk_42 (dk_at dksX0_undo_0 10 rfl rfl)
theorem dX0_undo_11 : decode cX0_undo 11 = .ok (.getfield 30, 3) := dk_180 0 30 (dk_at dksX0_undo_0 11 rfl rfl)
theorem dX0_undo_14 : decode cX0_undo 14 = .ok (.aload_n 0, 1) := dk_42 (dk_at dksX0_undo_0 14 rfl rfl)
theorem dX0_undo_15 : decode cX0_undo 15 = .ok (.getfield 15, 3) := dk_180 0 15 (dk_at dksX0_undo_0 15 rfl rfl)
theorem dX0_undo_18 : decode cX0_undo 18 = .ok (.aload_n 0, 1) := dk_42 (dk_at dksX0_undo_0 18 rfl rfl)
theorem dX0_undo_19 : decode cX0_undo 19 = .ok (.dup, 1) := dk_89 (dk_at dksX0_undo_0 19 rfl rfl)
theorem dX0_undo_20 : decode cX0_undo 20 = .ok (.getfield 1, 3) := dk_180 0 1 (dk_at dksX0_undo_0 20 rfl rfl)
theorem dX0_undo_23 : decode cX0_undo 23 = .ok (.iconst 1, 1) := dk_4 (dk_at dksX0_undo_0 23 rfl rfl)
theorem dX0_undo_24 : decode cX0_undo 24 = .ok (.isub, 1) := dk_100 (dk_at dksX0_undo_1 0 rfl rfl)
theorem dX0_undo_25 : decode cX0_undo 25 = .ok (.dup_x1, 1) := dk_90 (dk_at dksX0_undo_1 1 rfl rfl)
theorem dX0_undo_26 : decode cX0_undo 26 = .ok (.putfield 1, 3) := dk_181 0 1 (dk_at dksX0_undo_1 2 rfl rfl)
theorem dX0_undo_29 : decode cX0_undo 29 = .ok (.aaload, 1) := dk_50 (dk_at dksX0_undo_1 5 rfl rfl)
theorem dX0_undo_30 : decode cX0_undo 30 = .ok (.invokevirtual 34, 3) := dk_182 0 34 (dk_at dksX0_undo_1 6 rfl rfl)
theorem dX0_undo_33 : decode cX0_undo 33 = .ok (.pop, 1) := dk_87 (dk_at dksX0_undo_1 9 rfl rfl)
theorem dX0_undo_34 : decode cX0_undo 34 = .ok (.aload_n 0, 1) := dk_42 (dk_at dksX0_undo_1 10 rfl rfl)
theorem dX0_undo_35 : decode cX0_undo 35 = .ok (.getfield 1, 3) := dk_180 0 1 (dk_at dksX0_undo_1 11 rfl rfl)
theorem dX0_undo_38 : decode cX0_undo 38 = .ok (.ireturn, 1) := dk_172 (dk_at dksX0_undo_1 14 rfl rfl)
abbrev cX0_keep : ByteArray := prog_1_method_35_code
def yX0_keep : MethodName := ⟨RX0, "keep", "(I)I"⟩
def dkwX0_keep_1 : List UInt8 := [183, 0, 26, 42, 180, 0, 30, 182, 0, 34, 83, 42, 180, 0, 30, 180, 0, 67, 172]
abbrev dktX0_keep_1 : List UInt8 := dkwX0_keep_1 ++ []
def dkwX0_keep_0 : List UInt8 := [27, 133, 9, 10, 184, 0, 124, 154, 0, 6, 16, 254, 172, 42, 180, 0, 7, 27, 187, 0, 24, 89, 42]
abbrev dktX0_keep_0 : List UInt8 := dkwX0_keep_0 ++ dktX0_keep_1
theorem dksX0_keep_0 : cX0_keep.data.toList.drop 0 = dktX0_keep_0 := by decide +kernel
theorem dksX0_keep_1 : cX0_keep.data.toList.drop 23 = dktX0_keep_1 := dk_seg dksX0_keep_0 23 rfl rfl
theorem dX0_keep_0 : decode cX0_keep 0 = .ok (.iload_n 1, 1) := dk_27 (dk_at dksX0_keep_0 0 rfl rfl)
theorem dX0_keep_1 : decode cX0_keep 1 = .ok (.i2l, 1) := dk_133 (dk_at dksX0_keep_0 1 rfl rfl)
theorem dX0_keep_2 : decode cX0_keep 2 = .ok (.lconst 0, 1) := dk_9 (dk_at dksX0_keep_0 2 rfl rfl)
theorem dX0_keep_3 : decode cX0_keep 3 = .ok (.lconst 1, 1) := dk_10 (dk_at dksX0_keep_0 3 rfl rfl)
theorem dX0_keep_4 : decode cX0_keep 4 = .ok (.invokestatic 124, 3) := dk_184 0 124 (dk_at dksX0_keep_0 4 rfl rfl)
theorem dX0_keep_7 : decode cX0_keep 7 = .ok (.ifCond .ne 6, 3) := dk_154 0 6 (dk_at dksX0_keep_0 7 rfl rfl)
theorem dX0_keep_10 : decode cX0_keep 10 = .ok (.bipush (-2), 2) := dk_16 254 (dk_at dksX0_keep_0 10 rfl rfl)
theorem dX0_keep_12 : decode cX0_keep 12 = .ok (.ireturn, 1) := dk_172 (dk_at dksX0_keep_0 12 rfl rfl)
theorem dX0_keep_13 : decode cX0_keep 13 = .ok (.aload_n 0, 1) := dk_42 (dk_at dksX0_keep_0 13 rfl rfl)
theorem dX0_keep_14 : decode cX0_keep 14 = .ok (.getfield 7, 3) := dk_180 0 7 (dk_at dksX0_keep_0 14 rfl rfl)
theorem dX0_keep_17 : decode cX0_keep 17 = .ok (.iload_n 1, 1) := dk_27 (dk_at dksX0_keep_0 17 rfl rfl)
theorem dX0_keep_18 : decode cX0_keep 18 = .ok (.new 24, 3) := dk_187 0 24 (dk_at dksX0_keep_0 18 rfl rfl)
theorem dX0_keep_21 : decode cX0_keep 21 = .ok (.dup, 1) := dk_89 (dk_at dksX0_keep_0 21 rfl rfl)
theorem dX0_keep_22 : decode cX0_keep 22 = .ok (.aload_n 0, 1) := dk_42 (dk_at dksX0_keep_0 22 rfl rfl)
theorem dX0_keep_23 : decode cX0_keep 23 = .ok (.invokespecial 26, 3) := dk_183 0 26 (dk_at dksX0_keep_1 0 rfl rfl)
theorem dX0_keep_26 : decode cX0_keep 26 = .ok (.aload_n 0, 1) := dk_42 (dk_at dksX0_keep_1 3 rfl rfl)
theorem dX0_keep_27 : decode cX0_keep 27 = .ok (.getfield 30, 3) := dk_180 0 30 (dk_at dksX0_keep_1 4 rfl rfl)
theorem dX0_keep_30 : decode cX0_keep 30 = .ok (.invokevirtual 34, 3) := dk_182 0 34 (dk_at dksX0_keep_1 7 rfl rfl)
theorem dX0_keep_33 : decode cX0_keep 33 = .ok (.aastore, 1) := dk_83 (dk_at dksX0_keep_1 10 rfl rfl)
theorem dX0_keep_34 : decode cX0_keep 34 = .ok (.aload_n 0, 1) := dk_42 (dk_at dksX0_keep_1 11 rfl rfl)
theorem dX0_keep_35 : decode cX0_keep 35 = .ok (.getfield 30, 3) := dk_180 0 30 (dk_at dksX0_keep_1 12 rfl rfl)
theorem dX0_keep_38 : decode cX0_keep 38 = .ok (.getfield 67, 3) := dk_180 0 67 (dk_at dksX0_keep_1 15 rfl rfl)
theorem dX0_keep_41 : decode cX0_keep 41 = .ok (.ireturn, 1) := dk_172 (dk_at dksX0_keep_1 18 rfl rfl)
abbrev cX0_back : ByteArray := prog_1_method_36_code
def yX0_back : MethodName := ⟨RX0, "back", "(I)I"⟩
def dkwX0_back_2 : List UInt8 := [180, 0, 67, 172]
abbrev dktX0_back_2 : List UInt8 := dkwX0_back_2 ++ []
def dkwX0_back_1 : List UInt8 := [172, 42, 180, 0, 30, 42, 180, 0, 7, 27, 50, 182, 0, 34, 87, 42, 3, 181, 0, 1, 42, 180, 0, 30]
abbrev dktX0_back_1 : List UInt8 := dkwX0_back_1 ++ dktX0_back_2
def dkwX0_back_0 : List UInt8 := [27, 133, 9, 10, 184, 0, 124, 154, 0, 6, 16, 254, 172, 42, 180, 0, 7, 27, 50, 199, 0, 6, 16, 252]
abbrev dktX0_back_0 : List UInt8 := dkwX0_back_0 ++ dktX0_back_1
theorem dksX0_back_0 : cX0_back.data.toList.drop 0 = dktX0_back_0 := by decide +kernel
theorem dksX0_back_1 : cX0_back.data.toList.drop 24 = dktX0_back_1 := dk_seg dksX0_back_0 24 rfl rfl
theorem dksX0_back_2 : cX0_back.data.toList.drop 48 = dktX0_back_2 := dk_seg dksX0_back_1 24 rfl rfl
theorem dX0_back_0 : decode cX0_back 0 = .ok (.iload_n 1, 1) := dk_27 (dk_at dksX0_back_0 0 rfl rfl)
theorem dX0_back_1 : decode cX0_back 1 = .ok (.i2l, 1) := dk_133 (dk_at dksX0_back_0 1 rfl rfl)
theorem dX0_back_2 : decode cX0_back 2 = .ok (.lconst 0, 1) := dk_9 (dk_at dksX0_back_0 2 rfl rfl)
theorem dX0_back_3 : decode cX0_back 3 = .ok (.lconst 1, 1) := dk_10 (dk_at dksX0_back_0 3 rfl rfl)
theorem dX0_back_4 : decode cX0_back 4 = .ok (.invokestatic 124, 3) := dk_184 0 124 (dk_at dksX0_back_0 4 rfl rfl)
theorem dX0_back_7 : decode cX0_back 7 = .ok (.ifCond .ne 6, 3) := dk_154 0 6 (dk_at dksX0_back_0 7 rfl rfl)
theorem dX0_back_10 : decode cX0_back 10 = .ok (.bipush (-2), 2) := dk_16 254 (dk_at dksX0_back_0 10 rfl rfl)
theorem dX0_back_12 : decode cX0_back 12 = .ok (.ireturn, 1) := dk_172 (dk_at dksX0_back_0 12 rfl rfl)
theorem dX0_back_13 : decode cX0_back 13 = .ok (.aload_n 0, 1) := dk_42 (dk_at dksX0_back_0 13 rfl rfl)
theorem dX0_back_14 : decode cX0_back 14 = .ok (.getfield 7, 3) := dk_180 0 7 (dk_at dksX0_back_0 14 rfl rfl)
theorem dX0_back_17 : decode cX0_back 17 = .ok (.iload_n 1, 1) := dk_27 (dk_at dksX0_back_0 17 rfl rfl)
theorem dX0_back_18 : decode cX0_back 18 = .ok (.aaload, 1) := dk_50 (dk_at dksX0_back_0 18 rfl rfl)
theorem dX0_back_19 : decode cX0_back 19 = .ok (.ifnonnull 6, 3) := dk_199 0 6 (dk_at dksX0_back_0 19 rfl rfl)
theorem dX0_back_22 : decode cX0_back 22 = .ok (.bipush (-4), 2) := dk_16 252 (dk_at dksX0_back_0 22 rfl rfl)
theorem dX0_back_24 : decode cX0_back 24 = .ok (.ireturn, 1) := dk_172 (dk_at dksX0_back_1 0 rfl rfl)
theorem dX0_back_25 : decode cX0_back 25 = .ok (.aload_n 0, 1) := dk_42 (dk_at dksX0_back_1 1 rfl rfl)
theorem dX0_back_26 : decode cX0_back 26 = .ok (.getfield 30, 3) := dk_180 0 30 (dk_at dksX0_back_1 2 rfl rfl)
theorem dX0_back_29 : decode cX0_back 29 = .ok (.aload_n 0, 1) := dk_42 (dk_at dksX0_back_1 5 rfl rfl)
theorem dX0_back_30 : decode cX0_back 30 = .ok (.getfield 7, 3) := dk_180 0 7 (dk_at dksX0_back_1 6 rfl rfl)
theorem dX0_back_33 : decode cX0_back 33 = .ok (.iload_n 1, 1) := dk_27 (dk_at dksX0_back_1 9 rfl rfl)
theorem dX0_back_34 : decode cX0_back 34 = .ok (.aaload, 1) := dk_50 (dk_at dksX0_back_1 10 rfl rfl)
theorem dX0_back_35 : decode cX0_back 35 = .ok (.invokevirtual 34, 3) := dk_182 0 34 (dk_at dksX0_back_1 11 rfl rfl)
theorem dX0_back_38 : decode cX0_back 38 = .ok (.pop, 1) := dk_87 (dk_at dksX0_back_1 14 rfl rfl)
theorem dX0_back_39 : decode cX0_back 39 = .ok (.aload_n 0, 1) := dk_42 (dk_at dksX0_back_1 15 rfl rfl)
theorem dX0_back_40 : decode cX0_back 40 = .ok (.iconst 0, 1) := dk_3 (dk_at dksX0_back_1 16 rfl rfl)
theorem dX0_back_41 : decode cX0_back 41 = .ok (.putfield 1, 3) := dk_181 0 1 (dk_at dksX0_back_1 17 rfl rfl)
theorem dX0_back_44 : decode cX0_back 44 = .ok (.aload_n 0, 1) := dk_42 (dk_at dksX0_back_1 20 rfl rfl)
theorem dX0_back_45 : decode cX0_back 45 = .ok (.getfield 30, 3) := dk_180 0 30 (dk_at dksX0_back_1 21 rfl rfl)
theorem dX0_back_48 : decode cX0_back 48 = .ok (.getfield 67, 3) := dk_180 0 67 (dk_at dksX0_back_2 0 rfl rfl)
theorem dX0_back_51 : decode cX0_back 51 = .ok (.ireturn, 1) := dk_172 (dk_at dksX0_back_2 3 rfl rfl)
abbrev cX0_least : ByteArray := prog_1_method_37_code
def yX0_least : MethodName := ⟨RX0, "least", "(I)I"⟩
def dkwX0_least_3 : List UInt8 := [182, 0, 210, 172, 42, 182, 0, 225, 153, 0, 7, 4, 167, 0, 4, 3, 172, 16, 253, 172]
abbrev dktX0_least_3 : List UInt8 := dkwX0_least_3 ++ []
def dkwX0_least_2 : List UInt8 := [42, 180, 0, 64, 172, 42, 180, 0, 54, 172, 42, 16, 12, 188, 10, 182, 0, 206, 172, 42, 16, 12, 188, 10]
abbrev dktX0_least_2 : List UInt8 := dkwX0_least_2 ++ dktX0_least_3
def dkwX0_least_1 : List UInt8 := [170, 0, 0, 0, 0, 0, 76, 0, 0, 0, 0, 0, 0, 0, 4, 0, 0, 0, 35, 0, 0, 0, 40, 0, 0, 0, 45, 0, 0, 0, 54, 0, 0, 0, 63]
abbrev dktX0_least_1 : List UInt8 := dkwX0_least_1 ++ dktX0_least_2
def dkwX0_least_0 : List UInt8 := [27]
abbrev dktX0_least_0 : List UInt8 := dkwX0_least_0 ++ dktX0_least_1
theorem dksX0_least_0 : cX0_least.data.toList.drop 0 = dktX0_least_0 := by decide +kernel
theorem dksX0_least_1 : cX0_least.data.toList.drop 1 = dktX0_least_1 := dk_seg dksX0_least_0 1 rfl rfl
theorem dksX0_least_2 : cX0_least.data.toList.drop 36 = dktX0_least_2 := dk_seg dksX0_least_1 35 rfl rfl
theorem dksX0_least_3 : cX0_least.data.toList.drop 60 = dktX0_least_3 := dk_seg dksX0_least_2 24 rfl rfl
theorem dX0_least_0 : decode cX0_least 0 = .ok (.iload_n 1, 1) := dk_27 (dk_at dksX0_least_0 0 rfl rfl)
theorem dX0_least_1 : decode cX0_least 1 = .ok (.tableswitch 76 0 4 #[35, 40, 45, 54, 63], 35) := by decide +kernel
theorem dX0_least_36 : decode cX0_least 36 = .ok (.aload_n 0, 1) := dk_42 (dk_at dksX0_least_2 0 rfl rfl)
theorem dX0_least_37 : decode cX0_least 37 = .ok (.getfield 64, 3) := dk_180 0 64 (dk_at dksX0_least_2 1 rfl rfl)
theorem dX0_least_40 : decode cX0_least 40 = .ok (.ireturn, 1) := dk_172 (dk_at dksX0_least_2 4 rfl rfl)
theorem dX0_least_41 : decode cX0_least 41 = .ok (.aload_n 0, 1) := dk_42 (dk_at dksX0_least_2 5 rfl rfl)
theorem dX0_least_42 : decode cX0_least 42 = .ok (.getfield 54, 3) := dk_180 0 54 (dk_at dksX0_least_2 6 rfl rfl)
theorem dX0_least_45 : decode cX0_least 45 = .ok (.ireturn, 1) := dk_172 (dk_at dksX0_least_2 9 rfl rfl)
theorem dX0_least_46 : decode cX0_least 46 = .ok (.aload_n 0, 1) := dk_42 (dk_at dksX0_least_2 10 rfl rfl)
theorem dX0_least_47 : decode cX0_least 47 = .ok (.bipush 12, 2) := dk_16 12 (dk_at dksX0_least_2 11 rfl rfl)
theorem dX0_least_49 : decode cX0_least 49 = .ok (.newarray .int, 2) := dk_188_10 (dk_at dksX0_least_2 13 rfl rfl)
theorem dX0_least_51 : decode cX0_least 51 = .ok (.invokevirtual 206, 3) := dk_182 0 206 (dk_at dksX0_least_2 15 rfl rfl)
theorem dX0_least_54 : decode cX0_least 54 = .ok (.ireturn, 1) := dk_172 (dk_at dksX0_least_2 18 rfl rfl)
theorem dX0_least_55 : decode cX0_least 55 = .ok (.aload_n 0, 1) := dk_42 (dk_at dksX0_least_2 19 rfl rfl)
theorem dX0_least_56 : decode cX0_least 56 = .ok (.bipush 12, 2) := dk_16 12 (dk_at dksX0_least_2 20 rfl rfl)
theorem dX0_least_58 : decode cX0_least 58 = .ok (.newarray .int, 2) := dk_188_10 (dk_at dksX0_least_2 22 rfl rfl)
theorem dX0_least_60 : decode cX0_least 60 = .ok (.invokevirtual 210, 3) := dk_182 0 210 (dk_at dksX0_least_3 0 rfl rfl)
theorem dX0_least_63 : decode cX0_least 63 = .ok (.ireturn, 1) := dk_172 (dk_at dksX0_least_3 3 rfl rfl)
theorem dX0_least_64 : decode cX0_least 64 = .ok (.aload_n 0, 1) := dk_42 (dk_at dksX0_least_3 4 rfl rfl)
theorem dX0_least_65 : decode cX0_least 65 = .ok (.invokevirtual 225, 3) := dk_182 0 225 (dk_at dksX0_least_3 5 rfl rfl)
theorem dX0_least_68 : decode cX0_least 68 = .ok (.ifCond .eq 7, 3) := dk_153 0 7 (dk_at dksX0_least_3 8 rfl rfl)
theorem dX0_least_71 : decode cX0_least 71 = .ok (.iconst 1, 1) := dk_4 (dk_at dksX0_least_3 11 rfl rfl)
theorem dX0_least_72 : decode cX0_least 72 = .ok (.goto 4, 3) := dk_167 0 4 (dk_at dksX0_least_3 12 rfl rfl)
theorem dX0_least_75 : decode cX0_least 75 = .ok (.iconst 0, 1) := dk_3 (dk_at dksX0_least_3 15 rfl rfl)
theorem dX0_least_76 : decode cX0_least 76 = .ok (.ireturn, 1) := dk_172 (dk_at dksX0_least_3 16 rfl rfl)
theorem dX0_least_77 : decode cX0_least 77 = .ok (.bipush (-3), 2) := dk_16 253 (dk_at dksX0_least_3 17 rfl rfl)
theorem dX0_least_79 : decode cX0_least 79 = .ok (.ireturn, 1) := dk_172 (dk_at dksX0_least_3 19 rfl rfl)
abbrev cX0_isSample : ByteArray := prog_1_method_10_code
def yX0_isSample : MethodName := ⟨RX0, "isSample", "()Z"⟩
def dkwX0_isSample_3 : List UInt8 := [4, 167, 0, 4, 3, 60, 132, 2, 1, 167, 255, 214, 27, 172]
abbrev dktX0_isSample_3 : List UInt8 := dkwX0_isSample_3 ++ []
def dkwX0_isSample_2 : List UInt8 := [153, 0, 36, 42, 180, 0, 30, 180, 0, 73, 28, 50, 182, 0, 77, 42, 180, 0, 82, 28, 46, 160, 0, 7]
abbrev dktX0_isSample_2 : List UInt8 := dkwX0_isSample_2 ++ dktX0_isSample_3
def dkwX0_isSample_1 : List UInt8 := [180, 0, 64, 160, 0, 7, 4, 167, 0, 4, 3, 60, 3, 61, 28, 42, 180, 0, 64, 162, 0, 40, 27]
abbrev dktX0_isSample_1 : List UInt8 := dkwX0_isSample_1 ++ dktX0_isSample_2
def dkwX0_isSample_0 : List UInt8 := [42, 180, 0, 30, 180, 0, 67, 42, 180, 0, 54, 160, 0, 21, 42, 180, 0, 30, 180, 0, 70, 42]
abbrev dktX0_isSample_0 : List UInt8 := dkwX0_isSample_0 ++ dktX0_isSample_1
theorem dksX0_isSample_0 : cX0_isSample.data.toList.drop 0 = dktX0_isSample_0 := by decide +kernel
theorem dksX0_isSample_1 : cX0_isSample.data.toList.drop 22 = dktX0_isSample_1 := dk_seg dksX0_isSample_0 22 rfl rfl
theorem dksX0_isSample_2 : cX0_isSample.data.toList.drop 45 = dktX0_isSample_2 := dk_seg dksX0_isSample_1 23 rfl rfl
theorem dksX0_isSample_3 : cX0_isSample.data.toList.drop 69 = dktX0_isSample_3 := dk_seg dksX0_isSample_2 24 rfl rfl
theorem dX0_isSample_0 : decode cX0_isSample 0 = .ok (.aload_n 0, 1) := dk_42 (dk_at dksX0_isSample_0 0 rfl rfl)
theorem dX0_isSample_1 : decode cX0_isSample 1 = .ok (.getfield 30, 3) := dk_180 0 30 (dk_at dksX0_isSample_0 1 rfl rfl)
theorem dX0_isSample_4 : decode cX0_isSample 4 = .ok (.getfield 67, 3) := dk_180 0 67 (dk_at dksX0_isSample_0 4 rfl rfl)
theorem dX0_isSample_7 : decode cX0_isSample 7 = .ok (.aload_n 0, 1) := dk_42 (dk_at dksX0_isSample_0 7 rfl rfl)
theorem dX0_isSample_8 : decode cX0_isSample 8 = .ok (.getfield 54, 3) := dk_180 0 54 (dk_at dksX0_isSample_0 8 rfl rfl)
theorem dX0_isSample_11 : decode cX0_isSample 11 = .ok (.if_icmp .ne 21, 3) := dk_160 0 21 (dk_at dksX0_isSample_0 11 rfl rfl)
theorem dX0_isSample_14 : decode cX0_isSample 14 = .ok (.aload_n 0, 1) := dk_42 (dk_at dksX0_isSample_0 14 rfl rfl)
theorem dX0_isSample_15 : decode cX0_isSample 15 = .ok (.getfield 30, 3) := dk_180 0 30 (dk_at dksX0_isSample_0 15 rfl rfl)
theorem dX0_isSample_18 : decode cX0_isSample 18 = .ok (.getfield 70, 3) := dk_180 0 70 (dk_at dksX0_isSample_0 18 rfl rfl)
theorem dX0_isSample_21 : decode cX0_isSample 21 = .ok (.aload_n 0, 1) := dk_42 (dk_at dksX0_isSample_0 21 rfl rfl)
theorem dX0_isSample_22 : decode cX0_isSample 22 = .ok (.getfield 64, 3) := dk_180 0 64 (dk_at dksX0_isSample_1 0 rfl rfl)
theorem dX0_isSample_25 : decode cX0_isSample 25 = .ok (.if_icmp .ne 7, 3) := dk_160 0 7 (dk_at dksX0_isSample_1 3 rfl rfl)
theorem dX0_isSample_28 : decode cX0_isSample 28 = .ok (.iconst 1, 1) := dk_4 (dk_at dksX0_isSample_1 6 rfl rfl)
theorem dX0_isSample_29 : decode cX0_isSample 29 = .ok (.goto 4, 3) := dk_167 0 4 (dk_at dksX0_isSample_1 7 rfl rfl)
theorem dX0_isSample_32 : decode cX0_isSample 32 = .ok (.iconst 0, 1) := dk_3 (dk_at dksX0_isSample_1 10 rfl rfl)
theorem dX0_isSample_33 : decode cX0_isSample 33 = .ok (.istore_n 1, 1) := dk_60 (dk_at dksX0_isSample_1 11 rfl rfl)
theorem dX0_isSample_34 : decode cX0_isSample 34 = .ok (.iconst 0, 1) := dk_3 (dk_at dksX0_isSample_1 12 rfl rfl)
theorem dX0_isSample_35 : decode cX0_isSample 35 = .ok (.istore_n 2, 1) := dk_61 (dk_at dksX0_isSample_1 13 rfl rfl)
theorem dX0_isSample_36 : decode cX0_isSample 36 = .ok (.iload_n 2, 1) := dk_28 (dk_at dksX0_isSample_1 14 rfl rfl)
theorem dX0_isSample_37 : decode cX0_isSample 37 = .ok (.aload_n 0, 1) := dk_42 (dk_at dksX0_isSample_1 15 rfl rfl)
theorem dX0_isSample_38 : decode cX0_isSample 38 = .ok (.getfield 64, 3) := dk_180 0 64 (dk_at dksX0_isSample_1 16 rfl rfl)
theorem dX0_isSample_41 : decode cX0_isSample 41 = .ok (.if_icmp .ge 40, 3) := dk_162 0 40 (dk_at dksX0_isSample_1 19 rfl rfl)
theorem dX0_isSample_44 : decode cX0_isSample 44 = .ok (.iload_n 1, 1) := dk_27 (dk_at dksX0_isSample_1 22 rfl rfl)
theorem dX0_isSample_45 : decode cX0_isSample 45 = .ok (.ifCond .eq 36, 3) := dk_153 0 36 (dk_at dksX0_isSample_2 0 rfl rfl)
theorem dX0_isSample_48 : decode cX0_isSample 48 = .ok (.aload_n 0, 1) := dk_42 (dk_at dksX0_isSample_2 3 rfl rfl)
theorem dX0_isSample_49 : decode cX0_isSample 49 = .ok (.getfield 30, 3) := dk_180 0 30 (dk_at dksX0_isSample_2 4 rfl rfl)
theorem dX0_isSample_52 : decode cX0_isSample 52 = .ok (.getfield 73, 3) := dk_180 0 73 (dk_at dksX0_isSample_2 7 rfl rfl)
theorem dX0_isSample_55 : decode cX0_isSample 55 = .ok (.iload_n 2, 1) := dk_28 (dk_at dksX0_isSample_2 10 rfl rfl)
theorem dX0_isSample_56 : decode cX0_isSample 56 = .ok (.aaload, 1) := dk_50 (dk_at dksX0_isSample_2 11 rfl rfl)
theorem dX0_isSample_57 : decode cX0_isSample 57 = .ok (.invokevirtual 77, 3) := dk_182 0 77 (dk_at dksX0_isSample_2 12 rfl rfl)
theorem dX0_isSample_60 : decode cX0_isSample 60 = .ok (.aload_n 0, 1) := dk_42 (dk_at dksX0_isSample_2 15 rfl rfl)
theorem dX0_isSample_61 : decode cX0_isSample 61 = .ok (.getfield 82, 3) := dk_180 0 82 (dk_at dksX0_isSample_2 16 rfl rfl)
theorem dX0_isSample_64 : decode cX0_isSample 64 = .ok (.iload_n 2, 1) := dk_28 (dk_at dksX0_isSample_2 19 rfl rfl)
theorem dX0_isSample_65 : decode cX0_isSample 65 = .ok (.iaload, 1) := dk_46 (dk_at dksX0_isSample_2 20 rfl rfl)
theorem dX0_isSample_66 : decode cX0_isSample 66 = .ok (.if_icmp .ne 7, 3) := dk_160 0 7 (dk_at dksX0_isSample_2 21 rfl rfl)
theorem dX0_isSample_69 : decode cX0_isSample 69 = .ok (.iconst 1, 1) := dk_4 (dk_at dksX0_isSample_3 0 rfl rfl)
theorem dX0_isSample_70 : decode cX0_isSample 70 = .ok (.goto 4, 3) := dk_167 0 4 (dk_at dksX0_isSample_3 1 rfl rfl)
theorem dX0_isSample_73 : decode cX0_isSample 73 = .ok (.iconst 0, 1) := dk_3 (dk_at dksX0_isSample_3 4 rfl rfl)
theorem dX0_isSample_74 : decode cX0_isSample 74 = .ok (.istore_n 1, 1) := dk_60 (dk_at dksX0_isSample_3 5 rfl rfl)
theorem dX0_isSample_75 : decode cX0_isSample 75 = .ok (.iinc 2 1, 3) := dk_132 2 1 (dk_at dksX0_isSample_3 6 rfl rfl)
theorem dX0_isSample_78 : decode cX0_isSample 78 = .ok (.goto (-42), 3) := dk_167 255 214 (dk_at dksX0_isSample_3 9 rfl rfl)
theorem dX0_isSample_81 : decode cX0_isSample 81 = .ok (.iload_n 1, 1) := dk_27 (dk_at dksX0_isSample_3 12 rfl rfl)
theorem dX0_isSample_82 : decode cX0_isSample 82 = .ok (.ireturn, 1) := dk_172 (dk_at dksX0_isSample_3 13 rfl rfl)
abbrev cX0_sampled : ByteArray := prog_1_method_38_code
def yX0_sampled : MethodName := ⟨RX0, "sampled", "(II)I"⟩
def dkwX0_sampled_2 : List UInt8 := [3, 172]
abbrev dktX0_sampled_2 : List UInt8 := dkwX0_sampled_2 ++ []
def dkwX0_sampled_1 : List UInt8 := [161, 0, 7, 2, 167, 0, 21, 42, 180, 0, 82, 27, 46, 28, 184, 0, 219, 153, 0, 7, 4, 167, 0, 4]
abbrev dktX0_sampled_1 : List UInt8 := dkwX0_sampled_1 ++ dktX0_sampled_2
def dkwX0_sampled_0 : List UInt8 := [27, 155, 0, 7, 28, 156, 0, 6, 16, 253, 172, 27, 42, 180, 0, 64, 162, 0, 11, 28, 42, 180, 0, 54]
abbrev dktX0_sampled_0 : List UInt8 := dkwX0_sampled_0 ++ dktX0_sampled_1
theorem dksX0_sampled_0 : cX0_sampled.data.toList.drop 0 = dktX0_sampled_0 := by decide +kernel
theorem dksX0_sampled_1 : cX0_sampled.data.toList.drop 24 = dktX0_sampled_1 := dk_seg dksX0_sampled_0 24 rfl rfl
theorem dksX0_sampled_2 : cX0_sampled.data.toList.drop 48 = dktX0_sampled_2 := dk_seg dksX0_sampled_1 24 rfl rfl
theorem dX0_sampled_0 : decode cX0_sampled 0 = .ok (.iload_n 1, 1) := dk_27 (dk_at dksX0_sampled_0 0 rfl rfl)
theorem dX0_sampled_1 : decode cX0_sampled 1 = .ok (.ifCond .lt 7, 3) := dk_155 0 7 (dk_at dksX0_sampled_0 1 rfl rfl)
theorem dX0_sampled_4 : decode cX0_sampled 4 = .ok (.iload_n 2, 1) := dk_28 (dk_at dksX0_sampled_0 4 rfl rfl)
theorem dX0_sampled_5 : decode cX0_sampled 5 = .ok (.ifCond .ge 6, 3) := dk_156 0 6 (dk_at dksX0_sampled_0 5 rfl rfl)
theorem dX0_sampled_8 : decode cX0_sampled 8 = .ok (.bipush (-3), 2) := dk_16 253 (dk_at dksX0_sampled_0 8 rfl rfl)
theorem dX0_sampled_10 : decode cX0_sampled 10 = .ok (.ireturn, 1) := dk_172 (dk_at dksX0_sampled_0 10 rfl rfl)
theorem dX0_sampled_11 : decode cX0_sampled 11 = .ok (.iload_n 1, 1) := dk_27 (dk_at dksX0_sampled_0 11 rfl rfl)
theorem dX0_sampled_12 : decode cX0_sampled 12 = .ok (.aload_n 0, 1) := dk_42 (dk_at dksX0_sampled_0 12 rfl rfl)
theorem dX0_sampled_13 : decode cX0_sampled 13 = .ok (.getfield 64, 3) := dk_180 0 64 (dk_at dksX0_sampled_0 13 rfl rfl)
theorem dX0_sampled_16 : decode cX0_sampled 16 = .ok (.if_icmp .ge 11, 3) := dk_162 0 11 (dk_at dksX0_sampled_0 16 rfl rfl)
theorem dX0_sampled_19 : decode cX0_sampled 19 = .ok (.iload_n 2, 1) := dk_28 (dk_at dksX0_sampled_0 19 rfl rfl)
theorem dX0_sampled_20 : decode cX0_sampled 20 = .ok (.aload_n 0, 1) := dk_42 (dk_at dksX0_sampled_0 20 rfl rfl)
theorem dX0_sampled_21 : decode cX0_sampled 21 = .ok (.getfield 54, 3) := dk_180 0 54 (dk_at dksX0_sampled_0 21 rfl rfl)
theorem dX0_sampled_24 : decode cX0_sampled 24 = .ok (.if_icmp .lt 7, 3) := dk_161 0 7 (dk_at dksX0_sampled_1 0 rfl rfl)
theorem dX0_sampled_27 : decode cX0_sampled 27 = .ok (.iconst (-1), 1) := dk_2 (dk_at dksX0_sampled_1 3 rfl rfl)
theorem dX0_sampled_28 : decode cX0_sampled 28 = .ok (.goto 21, 3) := dk_167 0 21 (dk_at dksX0_sampled_1 4 rfl rfl)
theorem dX0_sampled_31 : decode cX0_sampled 31 = .ok (.aload_n 0, 1) := dk_42 (dk_at dksX0_sampled_1 7 rfl rfl)
theorem dX0_sampled_32 : decode cX0_sampled 32 = .ok (.getfield 82, 3) := dk_180 0 82 (dk_at dksX0_sampled_1 8 rfl rfl)
theorem dX0_sampled_35 : decode cX0_sampled 35 = .ok (.iload_n 1, 1) := dk_27 (dk_at dksX0_sampled_1 11 rfl rfl)
theorem dX0_sampled_36 : decode cX0_sampled 36 = .ok (.iaload, 1) := dk_46 (dk_at dksX0_sampled_1 12 rfl rfl)
theorem dX0_sampled_37 : decode cX0_sampled 37 = .ok (.iload_n 2, 1) := dk_28 (dk_at dksX0_sampled_1 13 rfl rfl)
theorem dX0_sampled_38 : decode cX0_sampled 38 = .ok (.invokestatic 219, 3) := dk_184 0 219 (dk_at dksX0_sampled_1 14 rfl rfl)
theorem dX0_sampled_41 : decode cX0_sampled 41 = .ok (.ifCond .eq 7, 3) := dk_153 0 7 (dk_at dksX0_sampled_1 17 rfl rfl)
theorem dX0_sampled_44 : decode cX0_sampled 44 = .ok (.iconst 1, 1) := dk_4 (dk_at dksX0_sampled_1 20 rfl rfl)
theorem dX0_sampled_45 : decode cX0_sampled 45 = .ok (.goto 4, 3) := dk_167 0 4 (dk_at dksX0_sampled_1 21 rfl rfl)
theorem dX0_sampled_48 : decode cX0_sampled 48 = .ok (.iconst 0, 1) := dk_3 (dk_at dksX0_sampled_2 0 rfl rfl)
theorem dX0_sampled_49 : decode cX0_sampled 49 = .ok (.ireturn, 1) := dk_172 (dk_at dksX0_sampled_2 1 rfl rfl)
abbrev cX0_tamed : ByteArray := prog_1_method_39_code
def yX0_tamed : MethodName := ⟨RX0, "tamed", "(II)I"⟩
def dkwX0_tamed_11 : List UInt8 := [54, 5, 132, 8, 1, 167, 255, 230, 21, 5, 172]
abbrev dktX0_tamed_11 : List UInt8 := dkwX0_tamed_11 ++ []
def dkwX0_tamed_10 : List UInt8 := [3, 54, 8, 21, 8, 21, 7, 162, 0, 25, 25, 6, 21, 8, 46, 54, 9, 21, 5, 21, 9, 184, 0, 235]
abbrev dktX0_tamed_10 : List UInt8 := dkwX0_tamed_10 ++ dktX0_tamed_11
def dkwX0_tamed_9 : List UInt8 := [3, 45, 190, 184, 0, 18, 132, 5, 1, 167, 255, 108, 16, 99, 54, 5, 45, 58, 6, 25, 6, 190, 54, 7]
abbrev dktX0_tamed_9 : List UInt8 := dkwX0_tamed_9 ++ dktX0_tamed_10
def dkwX0_tamed_8 : List UInt8 := [182, 0, 231, 96, 184, 0, 235, 79, 132, 7, 1, 167, 255, 161, 132, 6, 1, 167, 255, 146, 25, 4, 3, 45]
abbrev dktX0_tamed_8 : List UInt8 := dkwX0_tamed_8 ++ dktX0_tamed_9
def dkwX0_tamed_7 : List UInt8 := [79, 25, 4, 4, 21, 7, 100, 25, 4, 4, 21, 7, 100, 46, 21, 8, 42, 27, 21, 5, 4, 21, 7, 100]
abbrev dktX0_tamed_7 : List UInt8 := dkwX0_tamed_7 ++ dktX0_tamed_8
def dkwX0_tamed_6 : List UInt8 := [25, 4, 21, 9, 25, 4, 21, 9, 46, 21, 8, 42, 27, 21, 5, 21, 7, 182, 0, 231, 96, 184, 0, 235]
abbrev dktX0_tamed_6 : List UInt8 := dkwX0_tamed_6 ++ dktX0_tamed_7
def dkwX0_tamed_5 : List UInt8 := [96, 46, 54, 8, 5, 21, 6, 104, 5, 96, 21, 7, 96, 54, 9, 21, 6, 4, 96, 28, 162, 0, 28]
abbrev dktX0_tamed_5 : List UInt8 := dkwX0_tamed_5 ++ dktX0_tamed_6
def dkwX0_tamed_4 : List UInt8 := [54, 6, 21, 6, 28, 162, 0, 110, 3, 54, 7, 21, 7, 5, 162, 0, 95, 45, 5, 21, 6, 104, 21, 7]
abbrev dktX0_tamed_4 : List UInt8 := dkwX0_tamed_4 ++ dktX0_tamed_5
def dkwX0_tamed_3 : List UInt8 := [4, 54, 5, 21, 5, 42, 180, 0, 30, 180, 0, 67, 162, 0, 142, 25, 4, 16, 99, 184, 0, 213, 3]
abbrev dktX0_tamed_3 : List UInt8 := dkwX0_tamed_3 ++ dktX0_tamed_4
def dkwX0_tamed_2 : List UInt8 := [21, 5, 5, 162, 0, 21, 45, 21, 5, 42, 27, 3, 21, 5, 182, 0, 231, 79, 132, 5, 1, 167, 255, 235]
abbrev dktX0_tamed_2 : List UInt8 := dkwX0_tamed_2 ++ dktX0_tamed_3
def dkwX0_tamed_1 : List UInt8 := [16, 253, 172, 16, 24, 188, 10, 78, 16, 24, 188, 10, 58, 4, 45, 16, 99, 184, 0, 213, 3, 54, 5]
abbrev dktX0_tamed_1 : List UInt8 := dkwX0_tamed_1 ++ dktX0_tamed_2
def dkwX0_tamed_0 : List UInt8 := [42, 27, 182, 0, 180, 154, 0, 6, 16, 254, 172, 28, 133, 10, 20, 0, 229, 184, 0, 124, 154, 0, 6]
abbrev dktX0_tamed_0 : List UInt8 := dkwX0_tamed_0 ++ dktX0_tamed_1
theorem dksX0_tamed_0 : cX0_tamed.data.toList.drop 0 = dktX0_tamed_0 := by decide +kernel
theorem dksX0_tamed_1 : cX0_tamed.data.toList.drop 23 = dktX0_tamed_1 := dk_seg dksX0_tamed_0 23 rfl rfl
theorem dksX0_tamed_2 : cX0_tamed.data.toList.drop 46 = dktX0_tamed_2 := dk_seg dksX0_tamed_1 23 rfl rfl
theorem dksX0_tamed_3 : cX0_tamed.data.toList.drop 70 = dktX0_tamed_3 := dk_seg dksX0_tamed_2 24 rfl rfl
theorem dksX0_tamed_4 : cX0_tamed.data.toList.drop 93 = dktX0_tamed_4 := dk_seg dksX0_tamed_3 23 rfl rfl
theorem dksX0_tamed_5 : cX0_tamed.data.toList.drop 117 = dktX0_tamed_5 := dk_seg dksX0_tamed_4 24 rfl rfl
theorem dksX0_tamed_6 : cX0_tamed.data.toList.drop 140 = dktX0_tamed_6 := dk_seg dksX0_tamed_5 23 rfl rfl
theorem dksX0_tamed_7 : cX0_tamed.data.toList.drop 164 = dktX0_tamed_7 := dk_seg dksX0_tamed_6 24 rfl rfl
theorem dksX0_tamed_8 : cX0_tamed.data.toList.drop 188 = dktX0_tamed_8 := dk_seg dksX0_tamed_7 24 rfl rfl
theorem dksX0_tamed_9 : cX0_tamed.data.toList.drop 212 = dktX0_tamed_9 := dk_seg dksX0_tamed_8 24 rfl rfl
theorem dksX0_tamed_10 : cX0_tamed.data.toList.drop 236 = dktX0_tamed_10 := dk_seg dksX0_tamed_9 24 rfl rfl
theorem dksX0_tamed_11 : cX0_tamed.data.toList.drop 260 = dktX0_tamed_11 := dk_seg dksX0_tamed_10 24 rfl rfl
theorem dX0_tamed_0 : decode cX0_tamed 0 = .ok (.aload_n 0, 1) := dk_42 (dk_at dksX0_tamed_0 0 rfl rfl)
theorem dX0_tamed_1 : decode cX0_tamed 1 = .ok (.iload_n 1, 1) := dk_27 (dk_at dksX0_tamed_0 1 rfl rfl)
theorem dX0_tamed_2 : decode cX0_tamed 2 = .ok (.invokevirtual 180, 3) := dk_182 0 180 (dk_at dksX0_tamed_0 2 rfl rfl)
theorem dX0_tamed_5 : decode cX0_tamed 5 = .ok (.ifCond .ne 6, 3) := dk_154 0 6 (dk_at dksX0_tamed_0 5 rfl rfl)
theorem dX0_tamed_8 : decode cX0_tamed 8 = .ok (.bipush (-2), 2) := dk_16 254 (dk_at dksX0_tamed_0 8 rfl rfl)
theorem dX0_tamed_10 : decode cX0_tamed 10 = .ok (.ireturn, 1) := dk_172 (dk_at dksX0_tamed_0 10 rfl rfl)
theorem dX0_tamed_11 : decode cX0_tamed 11 = .ok (.iload_n 2, 1) := dk_28 (dk_at dksX0_tamed_0 11 rfl rfl)
theorem dX0_tamed_12 : decode cX0_tamed 12 = .ok (.i2l, 1) := dk_133 (dk_at dksX0_tamed_0 12 rfl rfl)
theorem dX0_tamed_13 : decode cX0_tamed 13 = .ok (.lconst 1, 1) := dk_10 (dk_at dksX0_tamed_0 13 rfl rfl)
theorem dX0_tamed_14 : decode cX0_tamed 14 = .ok (.ldc2_w 229, 3) := dk_20 0 229 (dk_at dksX0_tamed_0 14 rfl rfl)
theorem dX0_tamed_17 : decode cX0_tamed 17 = .ok (.invokestatic 124, 3) := dk_184 0 124 (dk_at dksX0_tamed_0 17 rfl rfl)
theorem dX0_tamed_20 : decode cX0_tamed 20 = .ok (.ifCond .ne 6, 3) := dk_154 0 6 (dk_at dksX0_tamed_0 20 rfl rfl)
theorem dX0_tamed_23 : decode cX0_tamed 23 = .ok (.bipush (-3), 2) := dk_16 253 (dk_at dksX0_tamed_1 0 rfl rfl)
theorem dX0_tamed_25 : decode cX0_tamed 25 = .ok (.ireturn, 1) := dk_172 (dk_at dksX0_tamed_1 2 rfl rfl)
theorem dX0_tamed_26 : decode cX0_tamed 26 = .ok (.bipush 24, 2) := dk_16 24 (dk_at dksX0_tamed_1 3 rfl rfl)
theorem dX0_tamed_28 : decode cX0_tamed 28 = .ok (.newarray .int, 2) := dk_188_10 (dk_at dksX0_tamed_1 5 rfl rfl)
theorem dX0_tamed_30 : decode cX0_tamed 30 = .ok (.astore_n 3, 1) := dk_78 (dk_at dksX0_tamed_1 7 rfl rfl)
theorem dX0_tamed_31 : decode cX0_tamed 31 = .ok (.bipush 24, 2) := dk_16 24 (dk_at dksX0_tamed_1 8 rfl rfl)
theorem dX0_tamed_33 : decode cX0_tamed 33 = .ok (.newarray .int, 2) := dk_188_10 (dk_at dksX0_tamed_1 10 rfl rfl)
theorem dX0_tamed_35 : decode cX0_tamed 35 = .ok (.astore 4, 2) := dk_58 4 (dk_at dksX0_tamed_1 12 rfl rfl)
theorem dX0_tamed_37 : decode cX0_tamed 37 = .ok (.aload_n 3, 1) := dk_45 (dk_at dksX0_tamed_1 14 rfl rfl)
theorem dX0_tamed_38 : decode cX0_tamed 38 = .ok (.bipush 99, 2) := dk_16 99 (dk_at dksX0_tamed_1 15 rfl rfl)
theorem dX0_tamed_40 : decode cX0_tamed 40 = .ok (.invokestatic 213, 3) := dk_184 0 213 (dk_at dksX0_tamed_1 17 rfl rfl)
theorem dX0_tamed_43 : decode cX0_tamed 43 = .ok (.iconst 0, 1) := dk_3 (dk_at dksX0_tamed_1 20 rfl rfl)
theorem dX0_tamed_44 : decode cX0_tamed 44 = .ok (.istore 5, 2) := dk_54 5 (dk_at dksX0_tamed_1 21 rfl rfl)
theorem dX0_tamed_46 : decode cX0_tamed 46 = .ok (.iload 5, 2) := dk_21 5 (dk_at dksX0_tamed_2 0 rfl rfl)
theorem dX0_tamed_48 : decode cX0_tamed 48 = .ok (.iconst 2, 1) := dk_5 (dk_at dksX0_tamed_2 2 rfl rfl)
theorem dX0_tamed_49 : decode cX0_tamed 49 = .ok (.if_icmp .ge 21, 3) := dk_162 0 21 (dk_at dksX0_tamed_2 3 rfl rfl)
theorem dX0_tamed_52 : decode cX0_tamed 52 = .ok (.aload_n 3, 1) := dk_45 (dk_at dksX0_tamed_2 6 rfl rfl)
theorem dX0_tamed_53 : decode cX0_tamed 53 = .ok (.iload 5, 2) := dk_21 5 (dk_at dksX0_tamed_2 7 rfl rfl)
theorem dX0_tamed_55 : decode cX0_tamed 55 = .ok (.aload_n 0, 1) := dk_42 (dk_at dksX0_tamed_2 9 rfl rfl)
theorem dX0_tamed_56 : decode cX0_tamed 56 = .ok (.iload_n 1, 1) := dk_27 (dk_at dksX0_tamed_2 10 rfl rfl)
theorem dX0_tamed_57 : decode cX0_tamed 57 = .ok (.iconst 0, 1) := dk_3 (dk_at dksX0_tamed_2 11 rfl rfl)
theorem dX0_tamed_58 : decode cX0_tamed 58 = .ok (.iload 5, 2) := dk_21 5 (dk_at dksX0_tamed_2 12 rfl rfl)
theorem dX0_tamed_60 : decode cX0_tamed 60 = .ok (.invokevirtual 231, 3) := dk_182 0 231 (dk_at dksX0_tamed_2 14 rfl rfl)
theorem dX0_tamed_63 : decode cX0_tamed 63 = .ok (.iastore, 1) := dk_79 (dk_at dksX0_tamed_2 17 rfl rfl)
theorem dX0_tamed_64 : decode cX0_tamed 64 = .ok (.iinc 5 1, 3) := dk_132 5 1 (dk_at dksX0_tamed_2 18 rfl rfl)
theorem dX0_tamed_67 : decode cX0_tamed 67 = .ok (.goto (-21), 3) := dk_167 255 235 (dk_at dksX0_tamed_2 21 rfl rfl)
theorem dX0_tamed_70 : decode cX0_tamed 70 = .ok (.iconst 1, 1) := dk_4 (dk_at dksX0_tamed_3 0 rfl rfl)
theorem dX0_tamed_71 : decode cX0_tamed 71 = .ok (.istore 5, 2) := dk_54 5 (dk_at dksX0_tamed_3 1 rfl rfl)
theorem dX0_tamed_73 : decode cX0_tamed 73 = .ok (.iload 5, 2) := dk_21 5 (dk_at dksX0_tamed_3 3 rfl rfl)
theorem dX0_tamed_75 : decode cX0_tamed 75 = .ok (.aload_n 0, 1) := dk_42 (dk_at dksX0_tamed_3 5 rfl rfl)
theorem dX0_tamed_76 : decode cX0_tamed 76 = .ok (.getfield 30, 3) := dk_180 0 30 (dk_at dksX0_tamed_3 6 rfl rfl)
theorem dX0_tamed_79 : decode cX0_tamed 79 = .ok (.getfield 67, 3) := dk_180 0 67 (dk_at dksX0_tamed_3 9 rfl rfl)
theorem dX0_tamed_82 : decode cX0_tamed 82 = .ok (.if_icmp .ge 142, 3) := dk_162 0 142 (dk_at dksX0_tamed_3 12 rfl rfl)
theorem dX0_tamed_85 : decode cX0_tamed 85 = .ok (.aload 4, 2) := dk_25 4 (dk_at dksX0_tamed_3 15 rfl rfl)
theorem dX0_tamed_87 : decode cX0_tamed 87 = .ok (.bipush 99, 2) := dk_16 99 (dk_at dksX0_tamed_3 17 rfl rfl)
theorem dX0_tamed_89 : decode cX0_tamed 89 = .ok (.invokestatic 213, 3) := dk_184 0 213 (dk_at dksX0_tamed_3 19 rfl rfl)
theorem dX0_tamed_92 : decode cX0_tamed 92 = .ok (.iconst 0, 1) := dk_3 (dk_at dksX0_tamed_3 22 rfl rfl)
theorem dX0_tamed_93 : decode cX0_tamed 93 = .ok (.istore 6, 2) := dk_54 6 (dk_at dksX0_tamed_4 0 rfl rfl)
theorem dX0_tamed_95 : decode cX0_tamed 95 = .ok (.iload 6, 2) := dk_21 6 (dk_at dksX0_tamed_4 2 rfl rfl)
theorem dX0_tamed_97 : decode cX0_tamed 97 = .ok (.iload_n 2, 1) := dk_28 (dk_at dksX0_tamed_4 4 rfl rfl)
theorem dX0_tamed_98 : decode cX0_tamed 98 = .ok (.if_icmp .ge 110, 3) := dk_162 0 110 (dk_at dksX0_tamed_4 5 rfl rfl)
theorem dX0_tamed_101 : decode cX0_tamed 101 = .ok (.iconst 0, 1) := dk_3 (dk_at dksX0_tamed_4 8 rfl rfl)
theorem dX0_tamed_102 : decode cX0_tamed 102 = .ok (.istore 7, 2) := dk_54 7 (dk_at dksX0_tamed_4 9 rfl rfl)
theorem dX0_tamed_104 : decode cX0_tamed 104 = .ok (.iload 7, 2) := dk_21 7 (dk_at dksX0_tamed_4 11 rfl rfl)
theorem dX0_tamed_106 : decode cX0_tamed 106 = .ok (.iconst 2, 1) := dk_5 (dk_at dksX0_tamed_4 13 rfl rfl)
theorem dX0_tamed_107 : decode cX0_tamed 107 = .ok (.if_icmp .ge 95, 3) := dk_162 0 95 (dk_at dksX0_tamed_4 14 rfl rfl)
theorem dX0_tamed_110 : decode cX0_tamed 110 = .ok (.aload_n 3, 1) := dk_45 (dk_at dksX0_tamed_4 17 rfl rfl)
theorem dX0_tamed_111 : decode cX0_tamed 111 = .ok (.iconst 2, 1) := dk_5 (dk_at dksX0_tamed_4 18 rfl rfl)
theorem dX0_tamed_112 : decode cX0_tamed 112 = .ok (.iload 6, 2) := dk_21 6 (dk_at dksX0_tamed_4 19 rfl rfl)
theorem dX0_tamed_114 : decode cX0_tamed 114 = .ok (.imul, 1) := dk_104 (dk_at dksX0_tamed_4 21 rfl rfl)
theorem dX0_tamed_115 : decode cX0_tamed 115 = .ok (.iload 7, 2) := dk_21 7 (dk_at dksX0_tamed_4 22 rfl rfl)
theorem dX0_tamed_117 : decode cX0_tamed 117 = .ok (.iadd, 1) := dk_96 (dk_at dksX0_tamed_5 0 rfl rfl)
theorem dX0_tamed_118 : decode cX0_tamed 118 = .ok (.iaload, 1) := dk_46 (dk_at dksX0_tamed_5 1 rfl rfl)
theorem dX0_tamed_119 : decode cX0_tamed 119 = .ok (.istore 8, 2) := dk_54 8 (dk_at dksX0_tamed_5 2 rfl rfl)
theorem dX0_tamed_121 : decode cX0_tamed 121 = .ok (.iconst 2, 1) := dk_5 (dk_at dksX0_tamed_5 4 rfl rfl)
theorem dX0_tamed_122 : decode cX0_tamed 122 = .ok (.iload 6, 2) := dk_21 6 (dk_at dksX0_tamed_5 5 rfl rfl)
theorem dX0_tamed_124 : decode cX0_tamed 124 = .ok (.imul, 1) := dk_104 (dk_at dksX0_tamed_5 7 rfl rfl)
theorem dX0_tamed_125 : decode cX0_tamed 125 = .ok (.iconst 2, 1) := dk_5 (dk_at dksX0_tamed_5 8 rfl rfl)
theorem dX0_tamed_126 : decode cX0_tamed 126 = .ok (.iadd, 1) := dk_96 (dk_at dksX0_tamed_5 9 rfl rfl)
theorem dX0_tamed_127 : decode cX0_tamed 127 = .ok (.iload 7, 2) := dk_21 7 (dk_at dksX0_tamed_5 10 rfl rfl)
theorem dX0_tamed_129 : decode cX0_tamed 129 = .ok (.iadd, 1) := dk_96 (dk_at dksX0_tamed_5 12 rfl rfl)
theorem dX0_tamed_130 : decode cX0_tamed 130 = .ok (.istore 9, 2) := dk_54 9 (dk_at dksX0_tamed_5 13 rfl rfl)
theorem dX0_tamed_132 : decode cX0_tamed 132 = .ok (.iload 6, 2) := dk_21 6 (dk_at dksX0_tamed_5 15 rfl rfl)
theorem dX0_tamed_134 : decode cX0_tamed 134 = .ok (.iconst 1, 1) := dk_4 (dk_at dksX0_tamed_5 17 rfl rfl)
theorem dX0_tamed_135 : decode cX0_tamed 135 = .ok (.iadd, 1) := dk_96 (dk_at dksX0_tamed_5 18 rfl rfl)
theorem dX0_tamed_136 : decode cX0_tamed 136 = .ok (.iload_n 2, 1) := dk_28 (dk_at dksX0_tamed_5 19 rfl rfl)
theorem dX0_tamed_137 : decode cX0_tamed 137 = .ok (.if_icmp .ge 28, 3) := dk_162 0 28 (dk_at dksX0_tamed_5 20 rfl rfl)
theorem dX0_tamed_140 : decode cX0_tamed 140 = .ok (.aload 4, 2) := dk_25 4 (dk_at dksX0_tamed_6 0 rfl rfl)
theorem dX0_tamed_142 : decode cX0_tamed 142 = .ok (.iload 9, 2) := dk_21 9 (dk_at dksX0_tamed_6 2 rfl rfl)
theorem dX0_tamed_144 : decode cX0_tamed 144 = .ok (.aload 4, 2) := dk_25 4 (dk_at dksX0_tamed_6 4 rfl rfl)
theorem dX0_tamed_146 : decode cX0_tamed 146 = .ok (.iload 9, 2) := dk_21 9 (dk_at dksX0_tamed_6 6 rfl rfl)
theorem dX0_tamed_148 : decode cX0_tamed 148 = .ok (.iaload, 1) := dk_46 (dk_at dksX0_tamed_6 8 rfl rfl)
theorem dX0_tamed_149 : decode cX0_tamed 149 = .ok (.iload 8, 2) := dk_21 8 (dk_at dksX0_tamed_6 9 rfl rfl)
theorem dX0_tamed_151 : decode cX0_tamed 151 = .ok (.aload_n 0, 1) := dk_42 (dk_at dksX0_tamed_6 11 rfl rfl)
theorem dX0_tamed_152 : decode cX0_tamed 152 = .ok (.iload_n 1, 1) := dk_27 (dk_at dksX0_tamed_6 12 rfl rfl)
theorem dX0_tamed_153 : decode cX0_tamed 153 = .ok (.iload 5, 2) := dk_21 5 (dk_at dksX0_tamed_6 13 rfl rfl)
theorem dX0_tamed_155 : decode cX0_tamed 155 = .ok (.iload 7, 2) := dk_21 7 (dk_at dksX0_tamed_6 15 rfl rfl)
theorem dX0_tamed_157 : decode cX0_tamed 157 = .ok (.invokevirtual 231, 3) := dk_182 0 231 (dk_at dksX0_tamed_6 17 rfl rfl)
theorem dX0_tamed_160 : decode cX0_tamed 160 = .ok (.iadd, 1) := dk_96 (dk_at dksX0_tamed_6 20 rfl rfl)
theorem dX0_tamed_161 : decode cX0_tamed 161 = .ok (.invokestatic 235, 3) := dk_184 0 235 (dk_at dksX0_tamed_6 21 rfl rfl)
theorem dX0_tamed_164 : decode cX0_tamed 164 = .ok (.iastore, 1) := dk_79 (dk_at dksX0_tamed_7 0 rfl rfl)
theorem dX0_tamed_165 : decode cX0_tamed 165 = .ok (.aload 4, 2) := dk_25 4 (dk_at dksX0_tamed_7 1 rfl rfl)
theorem dX0_tamed_167 : decode cX0_tamed 167 = .ok (.iconst 1, 1) := dk_4 (dk_at dksX0_tamed_7 3 rfl rfl)
theorem dX0_tamed_168 : decode cX0_tamed 168 = .ok (.iload 7, 2) := dk_21 7 (dk_at dksX0_tamed_7 4 rfl rfl)
theorem dX0_tamed_170 : decode cX0_tamed 170 = .ok (.isub, 1) := dk_100 (dk_at dksX0_tamed_7 6 rfl rfl)
theorem dX0_tamed_171 : decode cX0_tamed 171 = .ok (.aload 4, 2) := dk_25 4 (dk_at dksX0_tamed_7 7 rfl rfl)
theorem dX0_tamed_173 : decode cX0_tamed 173 = .ok (.iconst 1, 1) := dk_4 (dk_at dksX0_tamed_7 9 rfl rfl)
theorem dX0_tamed_174 : decode cX0_tamed 174 = .ok (.iload 7, 2) := dk_21 7 (dk_at dksX0_tamed_7 10 rfl rfl)
theorem dX0_tamed_176 : decode cX0_tamed 176 = .ok (.isub, 1) := dk_100 (dk_at dksX0_tamed_7 12 rfl rfl)
theorem dX0_tamed_177 : decode cX0_tamed 177 = .ok (.iaload, 1) := dk_46 (dk_at dksX0_tamed_7 13 rfl rfl)
theorem dX0_tamed_178 : decode cX0_tamed 178 = .ok (.iload 8, 2) := dk_21 8 (dk_at dksX0_tamed_7 14 rfl rfl)
theorem dX0_tamed_180 : decode cX0_tamed 180 = .ok (.aload_n 0, 1) := dk_42 (dk_at dksX0_tamed_7 16 rfl rfl)
theorem dX0_tamed_181 : decode cX0_tamed 181 = .ok (.iload_n 1, 1) := dk_27 (dk_at dksX0_tamed_7 17 rfl rfl)
theorem dX0_tamed_182 : decode cX0_tamed 182 = .ok (.iload 5, 2) := dk_21 5 (dk_at dksX0_tamed_7 18 rfl rfl)
theorem dX0_tamed_184 : decode cX0_tamed 184 = .ok (.iconst 1, 1) := dk_4 (dk_at dksX0_tamed_7 20 rfl rfl)
theorem dX0_tamed_185 : decode cX0_tamed 185 = .ok (.iload 7, 2) := dk_21 7 (dk_at dksX0_tamed_7 21 rfl rfl)
theorem dX0_tamed_187 : decode cX0_tamed 187 = .ok (.isub, 1) := dk_100 (dk_at dksX0_tamed_7 23 rfl rfl)
theorem dX0_tamed_188 : decode cX0_tamed 188 = .ok (.invokevirtual 231, 3) := dk_182 0 231 (dk_at dksX0_tamed_8 0 rfl rfl)
theorem dX0_tamed_191 : decode cX0_tamed 191 = .ok (.iadd, 1) := dk_96 (dk_at dksX0_tamed_8 3 rfl rfl)
theorem dX0_tamed_192 : decode cX0_tamed 192 = .ok (.invokestatic 235, 3) := dk_184 0 235 (dk_at dksX0_tamed_8 4 rfl rfl)
theorem dX0_tamed_195 : decode cX0_tamed 195 = .ok (.iastore, 1) := dk_79 (dk_at dksX0_tamed_8 7 rfl rfl)
theorem dX0_tamed_196 : decode cX0_tamed 196 = .ok (.iinc 7 1, 3) := dk_132 7 1 (dk_at dksX0_tamed_8 8 rfl rfl)
theorem dX0_tamed_199 : decode cX0_tamed 199 = .ok (.goto (-95), 3) := dk_167 255 161 (dk_at dksX0_tamed_8 11 rfl rfl)
theorem dX0_tamed_202 : decode cX0_tamed 202 = .ok (.iinc 6 1, 3) := dk_132 6 1 (dk_at dksX0_tamed_8 14 rfl rfl)
theorem dX0_tamed_205 : decode cX0_tamed 205 = .ok (.goto (-110), 3) := dk_167 255 146 (dk_at dksX0_tamed_8 17 rfl rfl)
theorem dX0_tamed_208 : decode cX0_tamed 208 = .ok (.aload 4, 2) := dk_25 4 (dk_at dksX0_tamed_8 20 rfl rfl)
theorem dX0_tamed_210 : decode cX0_tamed 210 = .ok (.iconst 0, 1) := dk_3 (dk_at dksX0_tamed_8 22 rfl rfl)
theorem dX0_tamed_211 : decode cX0_tamed 211 = .ok (.aload_n 3, 1) := dk_45 (dk_at dksX0_tamed_8 23 rfl rfl)
theorem dX0_tamed_212 : decode cX0_tamed 212 = .ok (.iconst 0, 1) := dk_3 (dk_at dksX0_tamed_9 0 rfl rfl)
theorem dX0_tamed_213 : decode cX0_tamed 213 = .ok (.aload_n 3, 1) := dk_45 (dk_at dksX0_tamed_9 1 rfl rfl)
theorem dX0_tamed_214 : decode cX0_tamed 214 = .ok (.arraylength, 1) := dk_190 (dk_at dksX0_tamed_9 2 rfl rfl)
theorem dX0_tamed_215 : decode cX0_tamed 215 = .ok (.invokestatic 18, 3) := dk_184 0 18 (dk_at dksX0_tamed_9 3 rfl rfl)
theorem dX0_tamed_218 : decode cX0_tamed 218 = .ok (.iinc 5 1, 3) := dk_132 5 1 (dk_at dksX0_tamed_9 6 rfl rfl)
theorem dX0_tamed_221 : decode cX0_tamed 221 = .ok (.goto (-148), 3) := dk_167 255 108 (dk_at dksX0_tamed_9 9 rfl rfl)
theorem dX0_tamed_224 : decode cX0_tamed 224 = .ok (.bipush 99, 2) := dk_16 99 (dk_at dksX0_tamed_9 12 rfl rfl)
theorem dX0_tamed_226 : decode cX0_tamed 226 = .ok (.istore 5, 2) := dk_54 5 (dk_at dksX0_tamed_9 14 rfl rfl)
theorem dX0_tamed_228 : decode cX0_tamed 228 = .ok (.aload_n 3, 1) := dk_45 (dk_at dksX0_tamed_9 16 rfl rfl)
theorem dX0_tamed_229 : decode cX0_tamed 229 = .ok (.astore 6, 2) := dk_58 6 (dk_at dksX0_tamed_9 17 rfl rfl)
theorem dX0_tamed_231 : decode cX0_tamed 231 = .ok (.aload 6, 2) := dk_25 6 (dk_at dksX0_tamed_9 19 rfl rfl)
theorem dX0_tamed_233 : decode cX0_tamed 233 = .ok (.arraylength, 1) := dk_190 (dk_at dksX0_tamed_9 21 rfl rfl)
theorem dX0_tamed_234 : decode cX0_tamed 234 = .ok (.istore 7, 2) := dk_54 7 (dk_at dksX0_tamed_9 22 rfl rfl)
theorem dX0_tamed_236 : decode cX0_tamed 236 = .ok (.iconst 0, 1) := dk_3 (dk_at dksX0_tamed_10 0 rfl rfl)
theorem dX0_tamed_237 : decode cX0_tamed 237 = .ok (.istore 8, 2) := dk_54 8 (dk_at dksX0_tamed_10 1 rfl rfl)
theorem dX0_tamed_239 : decode cX0_tamed 239 = .ok (.iload 8, 2) := dk_21 8 (dk_at dksX0_tamed_10 3 rfl rfl)
theorem dX0_tamed_241 : decode cX0_tamed 241 = .ok (.iload 7, 2) := dk_21 7 (dk_at dksX0_tamed_10 5 rfl rfl)
theorem dX0_tamed_243 : decode cX0_tamed 243 = .ok (.if_icmp .ge 25, 3) := dk_162 0 25 (dk_at dksX0_tamed_10 7 rfl rfl)
theorem dX0_tamed_246 : decode cX0_tamed 246 = .ok (.aload 6, 2) := dk_25 6 (dk_at dksX0_tamed_10 10 rfl rfl)
theorem dX0_tamed_248 : decode cX0_tamed 248 = .ok (.iload 8, 2) := dk_21 8 (dk_at dksX0_tamed_10 12 rfl rfl)
theorem dX0_tamed_250 : decode cX0_tamed 250 = .ok (.iaload, 1) := dk_46 (dk_at dksX0_tamed_10 14 rfl rfl)
theorem dX0_tamed_251 : decode cX0_tamed 251 = .ok (.istore 9, 2) := dk_54 9 (dk_at dksX0_tamed_10 15 rfl rfl)
theorem dX0_tamed_253 : decode cX0_tamed 253 = .ok (.iload 5, 2) := dk_21 5 (dk_at dksX0_tamed_10 17 rfl rfl)
theorem dX0_tamed_255 : decode cX0_tamed 255 = .ok (.iload 9, 2) := dk_21 9 (dk_at dksX0_tamed_10 19 rfl rfl)
theorem dX0_tamed_257 : decode cX0_tamed 257 = .ok (.invokestatic 235, 3) := dk_184 0 235 (dk_at dksX0_tamed_10 21 rfl rfl)
theorem dX0_tamed_260 : decode cX0_tamed 260 = .ok (.istore 5, 2) := dk_54 5 (dk_at dksX0_tamed_11 0 rfl rfl)
theorem dX0_tamed_262 : decode cX0_tamed 262 = .ok (.iinc 8 1, 3) := dk_132 8 1 (dk_at dksX0_tamed_11 2 rfl rfl)
theorem dX0_tamed_265 : decode cX0_tamed 265 = .ok (.goto (-26), 3) := dk_167 255 230 (dk_at dksX0_tamed_11 5 rfl rfl)
theorem dX0_tamed_268 : decode cX0_tamed 268 = .ok (.iload 5, 2) := dk_21 5 (dk_at dksX0_tamed_11 8 rfl rfl)
theorem dX0_tamed_270 : decode cX0_tamed 270 = .ok (.ireturn, 1) := dk_172 (dk_at dksX0_tamed_11 10 rfl rfl)
abbrev cX0_turned : ByteArray := prog_1_method_40_code
def yX0_turned : MethodName := ⟨RX0, "turned", "(III)I"⟩
def dkwX0_turned_1 : List UInt8 := [167, 0, 4, 4, 172]
abbrev dktX0_turned_1 : List UInt8 := dkwX0_turned_1 ++ []
def dkwX0_turned_0 : List UInt8 := [42, 180, 0, 30, 27, 28, 182, 0, 191, 29, 4, 160, 0, 7, 4, 167, 0, 4, 3, 160, 0, 7, 3]
abbrev dktX0_turned_0 : List UInt8 := dkwX0_turned_0 ++ dktX0_turned_1
theorem dksX0_turned_0 : cX0_turned.data.toList.drop 0 = dktX0_turned_0 := by decide +kernel
theorem dksX0_turned_1 : cX0_turned.data.toList.drop 23 = dktX0_turned_1 := dk_seg dksX0_turned_0 23 rfl rfl
theorem dX0_turned_0 : decode cX0_turned 0 = .ok (.aload_n 0, 1) := dk_42 (dk_at dksX0_turned_0 0 rfl rfl)
theorem dX0_turned_1 : decode cX0_turned 1 = .ok (.getfield 30, 3) := dk_180 0 30 (dk_at dksX0_turned_0 1 rfl rfl)
theorem dX0_turned_4 : decode cX0_turned 4 = .ok (.iload_n 1, 1) := dk_27 (dk_at dksX0_turned_0 4 rfl rfl)
theorem dX0_turned_5 : decode cX0_turned 5 = .ok (.iload_n 2, 1) := dk_28 (dk_at dksX0_turned_0 5 rfl rfl)
theorem dX0_turned_6 : decode cX0_turned 6 = .ok (.invokevirtual 191, 3) := dk_182 0 191 (dk_at dksX0_turned_0 6 rfl rfl)
theorem dX0_turned_9 : decode cX0_turned 9 = .ok (.iload_n 3, 1) := dk_29 (dk_at dksX0_turned_0 9 rfl rfl)
theorem dX0_turned_10 : decode cX0_turned 10 = .ok (.iconst 1, 1) := dk_4 (dk_at dksX0_turned_0 10 rfl rfl)
theorem dX0_turned_11 : decode cX0_turned 11 = .ok (.if_icmp .ne 7, 3) := dk_160 0 7 (dk_at dksX0_turned_0 11 rfl rfl)
theorem dX0_turned_14 : decode cX0_turned 14 = .ok (.iconst 1, 1) := dk_4 (dk_at dksX0_turned_0 14 rfl rfl)
theorem dX0_turned_15 : decode cX0_turned 15 = .ok (.goto 4, 3) := dk_167 0 4 (dk_at dksX0_turned_0 15 rfl rfl)
theorem dX0_turned_18 : decode cX0_turned 18 = .ok (.iconst 0, 1) := dk_3 (dk_at dksX0_turned_0 18 rfl rfl)
theorem dX0_turned_19 : decode cX0_turned 19 = .ok (.if_icmp .ne 7, 3) := dk_160 0 7 (dk_at dksX0_turned_0 19 rfl rfl)
theorem dX0_turned_22 : decode cX0_turned 22 = .ok (.iconst 0, 1) := dk_3 (dk_at dksX0_turned_0 22 rfl rfl)
theorem dX0_turned_23 : decode cX0_turned 23 = .ok (.goto 4, 3) := dk_167 0 4 (dk_at dksX0_turned_1 0 rfl rfl)
theorem dX0_turned_26 : decode cX0_turned 26 = .ok (.iconst 1, 1) := dk_4 (dk_at dksX0_turned_1 3 rfl rfl)
theorem dX0_turned_27 : decode cX0_turned 27 = .ok (.ireturn, 1) := dk_172 (dk_at dksX0_turned_1 4 rfl rfl)
abbrev cX0_changed : ByteArray := prog_1_method_41_code
def yX0_changed : MethodName := ⟨RX0, "changed", "(II)I"⟩
def dkwX0_changed_3 : List UInt8 := [180, 0, 30, 180, 0, 90, 27, 50, 180, 0, 94, 181, 0, 94, 42, 180, 0, 112, 182, 0, 241, 172]
abbrev dktX0_changed_3 : List UInt8 := dkwX0_changed_3 ++ []
def dkwX0_changed_2 : List UInt8 := [180, 0, 30, 180, 0, 90, 28, 50, 180, 0, 94, 181, 0, 94, 42, 180, 0, 112, 180, 0, 90, 28, 50, 42]
abbrev dktX0_changed_2 : List UInt8 := dkwX0_changed_2 ++ dktX0_changed_3
def dkwX0_changed_1 : List UInt8 := [42, 180, 0, 112, 42, 180, 0, 30, 182, 0, 34, 87, 42, 180, 0, 112, 180, 0, 90, 27, 50, 42]
abbrev dktX0_changed_1 : List UInt8 := dkwX0_changed_1 ++ dktX0_changed_2
def dkwX0_changed_0 : List UInt8 := [42, 27, 182, 0, 170, 153, 0, 16, 42, 28, 182, 0, 170, 153, 0, 8, 27, 28, 160, 0, 6, 16, 254, 172]
abbrev dktX0_changed_0 : List UInt8 := dkwX0_changed_0 ++ dktX0_changed_1
theorem dksX0_changed_0 : cX0_changed.data.toList.drop 0 = dktX0_changed_0 := by decide +kernel
theorem dksX0_changed_1 : cX0_changed.data.toList.drop 24 = dktX0_changed_1 := dk_seg dksX0_changed_0 24 rfl rfl
theorem dksX0_changed_2 : cX0_changed.data.toList.drop 46 = dktX0_changed_2 := dk_seg dksX0_changed_1 22 rfl rfl
theorem dksX0_changed_3 : cX0_changed.data.toList.drop 70 = dktX0_changed_3 := dk_seg dksX0_changed_2 24 rfl rfl
theorem dX0_changed_0 : decode cX0_changed 0 = .ok (.aload_n 0, 1) := dk_42 (dk_at dksX0_changed_0 0 rfl rfl)
theorem dX0_changed_1 : decode cX0_changed 1 = .ok (.iload_n 1, 1) := dk_27 (dk_at dksX0_changed_0 1 rfl rfl)
theorem dX0_changed_2 : decode cX0_changed 2 = .ok (.invokevirtual 170, 3) := dk_182 0 170 (dk_at dksX0_changed_0 2 rfl rfl)
theorem dX0_changed_5 : decode cX0_changed 5 = .ok (.ifCond .eq 16, 3) := dk_153 0 16 (dk_at dksX0_changed_0 5 rfl rfl)
theorem dX0_changed_8 : decode cX0_changed 8 = .ok (.aload_n 0, 1) := dk_42 (dk_at dksX0_changed_0 8 rfl rfl)
theorem dX0_changed_9 : decode cX0_changed 9 = .ok (.iload_n 2, 1) := dk_28 (dk_at dksX0_changed_0 9 rfl rfl)
theorem dX0_changed_10 : decode cX0_changed 10 = .ok (.invokevirtual 170, 3) := dk_182 0 170 (dk_at dksX0_changed_0 10 rfl rfl)
theorem dX0_changed_13 : decode cX0_changed 13 = .ok (.ifCond .eq 8, 3) := dk_153 0 8 (dk_at dksX0_changed_0 13 rfl rfl)
theorem dX0_changed_16 : decode cX0_changed 16 = .ok (.iload_n 1, 1) := dk_27 (dk_at dksX0_changed_0 16 rfl rfl)
theorem dX0_changed_17 : decode cX0_changed 17 = .ok (.iload_n 2, 1) := dk_28 (dk_at dksX0_changed_0 17 rfl rfl)
theorem dX0_changed_18 : decode cX0_changed 18 = .ok (.if_icmp .ne 6, 3) := dk_160 0 6 (dk_at dksX0_changed_0 18 rfl rfl)
theorem dX0_changed_21 : decode cX0_changed 21 = .ok (.bipush (-2), 2) := dk_16 254 (dk_at dksX0_changed_0 21 rfl rfl)
theorem dX0_changed_23 : decode cX0_changed 23 = .ok (.ireturn, 1) := dk_172 (dk_at dksX0_changed_0 23 rfl rfl)
theorem dX0_changed_24 : decode cX0_changed 24 = .ok (.aload_n 0, 1) := dk_42 (dk_at dksX0_changed_1 0 rfl rfl)
theorem dX0_changed_25 : decode cX0_changed 25 = .ok (.getfield 112, 3) := dk_180 0 112 (dk_at dksX0_changed_1 1 rfl rfl)
theorem dX0_changed_28 : decode cX0_changed 28 = .ok (.aload_n 0, 1) := dk_42 (dk_at dksX0_changed_1 4 rfl rfl)
theorem dX0_changed_29 : decode cX0_changed 29 = .ok (.getfield 30, 3) := dk_180 0 30 (dk_at dksX0_changed_1 5 rfl rfl)
theorem dX0_changed_32 : decode cX0_changed 32 = .ok (.invokevirtual 34, 3) := dk_182 0 34 (dk_at dksX0_changed_1 8 rfl rfl)
theorem dX0_changed_35 : decode cX0_changed 35 = .ok (.pop, 1) := dk_87 (dk_at dksX0_changed_1 11 rfl rfl)
theorem dX0_changed_36 : decode cX0_changed 36 = .ok (.aload_n 0, 1) := dk_42 (dk_at dksX0_changed_1 12 rfl rfl)
theorem dX0_changed_37 : decode cX0_changed 37 = .ok (.getfield 112, 3) := dk_180 0 112 (dk_at dksX0_changed_1 13 rfl rfl)
theorem dX0_changed_40 : decode cX0_changed 40 = .ok (.getfield 90, 3) := dk_180 0 90 (dk_at dksX0_changed_1 16 rfl rfl)
theorem dX0_changed_43 : decode cX0_changed 43 = .ok (.iload_n 1, 1) := dk_27 (dk_at dksX0_changed_1 19 rfl rfl)
theorem dX0_changed_44 : decode cX0_changed 44 = .ok (.aaload, 1) := dk_50 (dk_at dksX0_changed_1 20 rfl rfl)
theorem dX0_changed_45 : decode cX0_changed 45 = .ok (.aload_n 0, 1) := dk_42 (dk_at dksX0_changed_1 21 rfl rfl)
theorem dX0_changed_46 : decode cX0_changed 46 = .ok (.getfield 30, 3) := dk_180 0 30 (dk_at dksX0_changed_2 0 rfl rfl)
theorem dX0_changed_49 : decode cX0_changed 49 = .ok (.getfield 90, 3) := dk_180 0 90 (dk_at dksX0_changed_2 3 rfl rfl)
theorem dX0_changed_52 : decode cX0_changed 52 = .ok (.iload_n 2, 1) := dk_28 (dk_at dksX0_changed_2 6 rfl rfl)
theorem dX0_changed_53 : decode cX0_changed 53 = .ok (.aaload, 1) := dk_50 (dk_at dksX0_changed_2 7 rfl rfl)
theorem dX0_changed_54 : decode cX0_changed 54 = .ok (.getfield 94, 3) := dk_180 0 94 (dk_at dksX0_changed_2 8 rfl rfl)
theorem dX0_changed_57 : decode cX0_changed 57 = .ok (.putfield 94, 3) := dk_181 0 94 (dk_at dksX0_changed_2 11 rfl rfl)
theorem dX0_changed_60 : decode cX0_changed 60 = .ok (.aload_n 0, 1) := dk_42 (dk_at dksX0_changed_2 14 rfl rfl)
theorem dX0_changed_61 : decode cX0_changed 61 = .ok (.getfield 112, 3) := dk_180 0 112 (dk_at dksX0_changed_2 15 rfl rfl)
theorem dX0_changed_64 : decode cX0_changed 64 = .ok (.getfield 90, 3) := dk_180 0 90 (dk_at dksX0_changed_2 18 rfl rfl)
theorem dX0_changed_67 : decode cX0_changed 67 = .ok (.iload_n 2, 1) := dk_28 (dk_at dksX0_changed_2 21 rfl rfl)
theorem dX0_changed_68 : decode cX0_changed 68 = .ok (.aaload, 1) := dk_50 (dk_at dksX0_changed_2 22 rfl rfl)
theorem dX0_changed_69 : decode cX0_changed 69 = .ok (.aload_n 0, 1) := dk_42 (dk_at dksX0_changed_2 23 rfl rfl)
theorem dX0_changed_70 : decode cX0_changed 70 = .ok (.getfield 30, 3) := dk_180 0 30 (dk_at dksX0_changed_3 0 rfl rfl)
theorem dX0_changed_73 : decode cX0_changed 73 = .ok (.getfield 90, 3) := dk_180 0 90 (dk_at dksX0_changed_3 3 rfl rfl)
theorem dX0_changed_76 : decode cX0_changed 76 = .ok (.iload_n 1, 1) := dk_27 (dk_at dksX0_changed_3 6 rfl rfl)
theorem dX0_changed_77 : decode cX0_changed 77 = .ok (.aaload, 1) := dk_50 (dk_at dksX0_changed_3 7 rfl rfl)
theorem dX0_changed_78 : decode cX0_changed 78 = .ok (.getfield 94, 3) := dk_180 0 94 (dk_at dksX0_changed_3 8 rfl rfl)
theorem dX0_changed_81 : decode cX0_changed 81 = .ok (.putfield 94, 3) := dk_181 0 94 (dk_at dksX0_changed_3 11 rfl rfl)
theorem dX0_changed_84 : decode cX0_changed 84 = .ok (.aload_n 0, 1) := dk_42 (dk_at dksX0_changed_3 14 rfl rfl)
theorem dX0_changed_85 : decode cX0_changed 85 = .ok (.getfield 112, 3) := dk_180 0 112 (dk_at dksX0_changed_3 15 rfl rfl)
theorem dX0_changed_88 : decode cX0_changed 88 = .ok (.invokevirtual 241, 3) := dk_182 0 241 (dk_at dksX0_changed_3 18 rfl rfl)
theorem dX0_changed_91 : decode cX0_changed 91 = .ok (.ireturn, 1) := dk_172 (dk_at dksX0_changed_3 21 rfl rfl)
abbrev cX0_spool : ByteArray := prog_1_method_43_code
def yX0_spool : MethodName := ⟨RX0, "spool", "(I)I"⟩
def dkwX0_spool_1 : List UInt8 := [172]
abbrev dktX0_spool_1 : List UInt8 := dkwX0_spool_1 ++ []
def dkwX0_spool_0 : List UInt8 := [27, 184, 0, 246, 154, 0, 6, 16, 254, 172, 42, 180, 0, 11, 27, 187, 0, 119, 89, 183, 0, 249, 83, 3]
abbrev dktX0_spool_0 : List UInt8 := dkwX0_spool_0 ++ dktX0_spool_1
theorem dksX0_spool_0 : cX0_spool.data.toList.drop 0 = dktX0_spool_0 := by decide +kernel
theorem dksX0_spool_1 : cX0_spool.data.toList.drop 24 = dktX0_spool_1 := dk_seg dksX0_spool_0 24 rfl rfl
theorem dX0_spool_0 : decode cX0_spool 0 = .ok (.iload_n 1, 1) := dk_27 (dk_at dksX0_spool_0 0 rfl rfl)
theorem dX0_spool_1 : decode cX0_spool 1 = .ok (.invokestatic 246, 3) := dk_184 0 246 (dk_at dksX0_spool_0 1 rfl rfl)
theorem dX0_spool_4 : decode cX0_spool 4 = .ok (.ifCond .ne 6, 3) := dk_154 0 6 (dk_at dksX0_spool_0 4 rfl rfl)
theorem dX0_spool_7 : decode cX0_spool 7 = .ok (.bipush (-2), 2) := dk_16 254 (dk_at dksX0_spool_0 7 rfl rfl)
theorem dX0_spool_9 : decode cX0_spool 9 = .ok (.ireturn, 1) := dk_172 (dk_at dksX0_spool_0 9 rfl rfl)
theorem dX0_spool_10 : decode cX0_spool 10 = .ok (.aload_n 0, 1) := dk_42 (dk_at dksX0_spool_0 10 rfl rfl)
theorem dX0_spool_11 : decode cX0_spool 11 = .ok (.getfield 11, 3) := dk_180 0 11 (dk_at dksX0_spool_0 11 rfl rfl)
theorem dX0_spool_14 : decode cX0_spool 14 = .ok (.iload_n 1, 1) := dk_27 (dk_at dksX0_spool_0 14 rfl rfl)
theorem dX0_spool_15 : decode cX0_spool 15 = .ok (.new 119, 3) := dk_187 0 119 (dk_at dksX0_spool_0 15 rfl rfl)
theorem dX0_spool_18 : decode cX0_spool 18 = .ok (.dup, 1) := dk_89 (dk_at dksX0_spool_0 18 rfl rfl)
theorem dX0_spool_19 : decode cX0_spool 19 = .ok (.invokespecial 249, 3) := dk_183 0 249 (dk_at dksX0_spool_0 19 rfl rfl)
theorem dX0_spool_22 : decode cX0_spool 22 = .ok (.aastore, 1) := dk_83 (dk_at dksX0_spool_0 22 rfl rfl)
theorem dX0_spool_23 : decode cX0_spool 23 = .ok (.iconst 0, 1) := dk_3 (dk_at dksX0_spool_0 23 rfl rfl)
theorem dX0_spool_24 : decode cX0_spool 24 = .ok (.ireturn, 1) := dk_172 (dk_at dksX0_spool_1 0 rfl rfl)
abbrev cX0_isSpool : ByteArray := prog_1_method_42_code
def yX0_isSpool : MethodName := ⟨RX0, "isSpool", "(I)Z"⟩
def dkwX0_isSpool_0 : List UInt8 := [26, 133, 9, 20, 0, 244, 184, 0, 124, 172]
abbrev dktX0_isSpool_0 : List UInt8 := dkwX0_isSpool_0 ++ []
theorem dksX0_isSpool_0 : cX0_isSpool.data.toList.drop 0 = dktX0_isSpool_0 := by decide +kernel
theorem dX0_isSpool_0 : decode cX0_isSpool 0 = .ok (.iload_n 0, 1) := dk_26 (dk_at dksX0_isSpool_0 0 rfl rfl)
theorem dX0_isSpool_1 : decode cX0_isSpool 1 = .ok (.i2l, 1) := dk_133 (dk_at dksX0_isSpool_0 1 rfl rfl)
theorem dX0_isSpool_2 : decode cX0_isSpool 2 = .ok (.lconst 0, 1) := dk_9 (dk_at dksX0_isSpool_0 2 rfl rfl)
theorem dX0_isSpool_3 : decode cX0_isSpool 3 = .ok (.ldc2_w 244, 3) := dk_20 0 244 (dk_at dksX0_isSpool_0 3 rfl rfl)
theorem dX0_isSpool_6 : decode cX0_isSpool 6 = .ok (.invokestatic 124, 3) := dk_184 0 124 (dk_at dksX0_isSpool_0 6 rfl rfl)
theorem dX0_isSpool_9 : decode cX0_isSpool 9 = .ok (.ireturn, 1) := dk_172 (dk_at dksX0_isSpool_0 9 rfl rfl)
abbrev cX0_wind : ByteArray := prog_1_method_44_code
def yX0_wind : MethodName := ⟨RX0, "wind", "(II)I"⟩
def dkwX0_wind_3 : List UInt8 := [172]
abbrev dktX0_wind_3 : List UInt8 := dkwX0_wind_3 ++ []
def dkwX0_wind_2 : List UInt8 := [16, 243, 172, 45, 180, 0, 255, 45, 89, 180, 0, 252, 90, 4, 96, 181, 0, 252, 28, 79, 45, 180, 0, 252]
abbrev dktX0_wind_2 : List UInt8 := dkwX0_wind_2 ++ dktX0_wind_3
def dkwX0_wind_1 : List UInt8 := [172, 42, 180, 0, 11, 27, 50, 78, 45, 199, 0, 6, 16, 245, 172, 45, 180, 0, 252, 16, 8, 160, 0, 6]
abbrev dktX0_wind_1 : List UInt8 := dkwX0_wind_1 ++ dktX0_wind_2
def dkwX0_wind_0 : List UInt8 := [27, 184, 0, 246, 154, 0, 6, 16, 254, 172, 28, 133, 10, 20, 0, 250, 184, 0, 124, 154, 0, 6, 16, 253]
abbrev dktX0_wind_0 : List UInt8 := dkwX0_wind_0 ++ dktX0_wind_1
theorem dksX0_wind_0 : cX0_wind.data.toList.drop 0 = dktX0_wind_0 := by decide +kernel
theorem dksX0_wind_1 : cX0_wind.data.toList.drop 24 = dktX0_wind_1 := dk_seg dksX0_wind_0 24 rfl rfl
theorem dksX0_wind_2 : cX0_wind.data.toList.drop 48 = dktX0_wind_2 := dk_seg dksX0_wind_1 24 rfl rfl
theorem dksX0_wind_3 : cX0_wind.data.toList.drop 72 = dktX0_wind_3 := dk_seg dksX0_wind_2 24 rfl rfl
theorem dX0_wind_0 : decode cX0_wind 0 = .ok (.iload_n 1, 1) := dk_27 (dk_at dksX0_wind_0 0 rfl rfl)
theorem dX0_wind_1 : decode cX0_wind 1 = .ok (.invokestatic 246, 3) := dk_184 0 246 (dk_at dksX0_wind_0 1 rfl rfl)
theorem dX0_wind_4 : decode cX0_wind 4 = .ok (.ifCond .ne 6, 3) := dk_154 0 6 (dk_at dksX0_wind_0 4 rfl rfl)
theorem dX0_wind_7 : decode cX0_wind 7 = .ok (.bipush (-2), 2) := dk_16 254 (dk_at dksX0_wind_0 7 rfl rfl)
theorem dX0_wind_9 : decode cX0_wind 9 = .ok (.ireturn, 1) := dk_172 (dk_at dksX0_wind_0 9 rfl rfl)
theorem dX0_wind_10 : decode cX0_wind 10 = .ok (.iload_n 2, 1) := dk_28 (dk_at dksX0_wind_0 10 rfl rfl)
theorem dX0_wind_11 : decode cX0_wind 11 = .ok (.i2l, 1) := dk_133 (dk_at dksX0_wind_0 11 rfl rfl)
theorem dX0_wind_12 : decode cX0_wind 12 = .ok (.lconst 1, 1) := dk_10 (dk_at dksX0_wind_0 12 rfl rfl)
theorem dX0_wind_13 : decode cX0_wind 13 = .ok (.ldc2_w 250, 3) := dk_20 0 250 (dk_at dksX0_wind_0 13 rfl rfl)
theorem dX0_wind_16 : decode cX0_wind 16 = .ok (.invokestatic 124, 3) := dk_184 0 124 (dk_at dksX0_wind_0 16 rfl rfl)
theorem dX0_wind_19 : decode cX0_wind 19 = .ok (.ifCond .ne 6, 3) := dk_154 0 6 (dk_at dksX0_wind_0 19 rfl rfl)
theorem dX0_wind_22 : decode cX0_wind 22 = .ok (.bipush (-3), 2) := dk_16 253 (dk_at dksX0_wind_0 22 rfl rfl)
theorem dX0_wind_24 : decode cX0_wind 24 = .ok (.ireturn, 1) := dk_172 (dk_at dksX0_wind_1 0 rfl rfl)
theorem dX0_wind_25 : decode cX0_wind 25 = .ok (.aload_n 0, 1) := dk_42 (dk_at dksX0_wind_1 1 rfl rfl)
theorem dX0_wind_26 : decode cX0_wind 26 = .ok (.getfield 11, 3) := dk_180 0 11 (dk_at dksX0_wind_1 2 rfl rfl)
theorem dX0_wind_29 : decode cX0_wind 29 = .ok (.iload_n 1, 1) := dk_27 (dk_at dksX0_wind_1 5 rfl rfl)
theorem dX0_wind_30 : decode cX0_wind 30 = .ok (.aaload, 1) := dk_50 (dk_at dksX0_wind_1 6 rfl rfl)
theorem dX0_wind_31 : decode cX0_wind 31 = .ok (.astore_n 3, 1) := dk_78 (dk_at dksX0_wind_1 7 rfl rfl)
theorem dX0_wind_32 : decode cX0_wind 32 = .ok (.aload_n 3, 1) := dk_45 (dk_at dksX0_wind_1 8 rfl rfl)
theorem dX0_wind_33 : decode cX0_wind 33 = .ok (.ifnonnull 6, 3) := dk_199 0 6 (dk_at dksX0_wind_1 9 rfl rfl)
theorem dX0_wind_36 : decode cX0_wind 36 = .ok (.bipush (-11), 2) := dk_16 245 (dk_at dksX0_wind_1 12 rfl rfl)
theorem dX0_wind_38 : decode cX0_wind 38 = .ok (.ireturn, 1) := dk_172 (dk_at dksX0_wind_1 14 rfl rfl)
theorem dX0_wind_39 : decode cX0_wind 39 = .ok (.aload_n 3, 1) := dk_45 (dk_at dksX0_wind_1 15 rfl rfl)
theorem dX0_wind_40 : decode cX0_wind 40 = .ok (.getfield 252, 3) := dk_180 0 252 (dk_at dksX0_wind_1 16 rfl rfl)
theorem dX0_wind_43 : decode cX0_wind 43 = .ok (.bipush 8, 2) := dk_16 8 (dk_at dksX0_wind_1 19 rfl rfl)
theorem dX0_wind_45 : decode cX0_wind 45 = .ok (.if_icmp .ne 6, 3) := dk_160 0 6 (dk_at dksX0_wind_1 21 rfl rfl)
theorem dX0_wind_48 : decode cX0_wind 48 = .ok (.bipush (-13), 2) := dk_16 243 (dk_at dksX0_wind_2 0 rfl rfl)
theorem dX0_wind_50 : decode cX0_wind 50 = .ok (.ireturn, 1) := dk_172 (dk_at dksX0_wind_2 2 rfl rfl)
theorem dX0_wind_51 : decode cX0_wind 51 = .ok (.aload_n 3, 1) := dk_45 (dk_at dksX0_wind_2 3 rfl rfl)
theorem dX0_wind_52 : decode cX0_wind 52 = .ok (.getfield 255, 3) := dk_180 0 255 (dk_at dksX0_wind_2 4 rfl rfl)
theorem dX0_wind_55 : decode cX0_wind 55 = .ok (.aload_n 3, 1) := dk_45 (dk_at dksX0_wind_2 7 rfl rfl)
theorem dX0_wind_56 : decode cX0_wind 56 = .ok (.dup, 1) := dk_89 (dk_at dksX0_wind_2 8 rfl rfl)
theorem dX0_wind_57 : decode cX0_wind 57 = .ok (.getfield 252, 3) := dk_180 0 252 (dk_at dksX0_wind_2 9 rfl rfl)
theorem dX0_wind_60 : decode cX0_wind 60 = .ok (.dup_x1, 1) := dk_90 (dk_at dksX0_wind_2 12 rfl rfl)
theorem dX0_wind_61 : decode cX0_wind 61 = .ok (.iconst 1, 1) := dk_4 (dk_at dksX0_wind_2 13 rfl rfl)
theorem dX0_wind_62 : decode cX0_wind 62 = .ok (.iadd, 1) := dk_96 (dk_at dksX0_wind_2 14 rfl rfl)
theorem dX0_wind_63 : decode cX0_wind 63 = .ok (.putfield 252, 3) := dk_181 0 252 (dk_at dksX0_wind_2 15 rfl rfl)
theorem dX0_wind_66 : decode cX0_wind 66 = .ok (.iload_n 2, 1) := dk_28 (dk_at dksX0_wind_2 18 rfl rfl)
theorem dX0_wind_67 : decode cX0_wind 67 = .ok (.iastore, 1) := dk_79 (dk_at dksX0_wind_2 19 rfl rfl)
theorem dX0_wind_68 : decode cX0_wind 68 = .ok (.aload_n 3, 1) := dk_45 (dk_at dksX0_wind_2 20 rfl rfl)
theorem dX0_wind_69 : decode cX0_wind 69 = .ok (.getfield 252, 3) := dk_180 0 252 (dk_at dksX0_wind_2 21 rfl rfl)
theorem dX0_wind_72 : decode cX0_wind 72 = .ok (.ireturn, 1) := dk_172 (dk_at dksX0_wind_3 0 rfl rfl)
abbrev cX0_pull : ByteArray := prog_1_method_45_code
def yX0_pull : MethodName := ⟨RX0, "pull", "(II)I"⟩
def dkwX0_pull_5 : List UInt8 := [181, 0, 252, 21, 4, 21, 5, 100, 54, 4, 167, 255, 182, 45, 180, 0, 252, 172]
abbrev dktX0_pull_5 : List UInt8 := dkwX0_pull_5 ++ []
def dkwX0_pull_4 : List UInt8 := [180, 0, 252, 45, 180, 0, 255, 45, 180, 0, 252, 4, 100, 46, 154, 0, 7, 4, 167, 0, 4, 3, 100]
abbrev dktX0_pull_4 : List UInt8 := dkwX0_pull_4 ++ dktX0_pull_5
def dkwX0_pull_3 : List UInt8 := [184, 0, 235, 54, 5, 45, 180, 0, 255, 45, 180, 0, 252, 4, 100, 92, 46, 21, 5, 100, 79, 45, 89]
abbrev dktX0_pull_3 : List UInt8 := dkwX0_pull_3 ++ dktX0_pull_4
def dkwX0_pull_2 : List UInt8 := [16, 242, 172, 28, 54, 4, 21, 4, 158, 0, 75, 21, 4, 45, 180, 0, 255, 45, 180, 0, 252, 4, 100, 46]
abbrev dktX0_pull_2 : List UInt8 := dkwX0_pull_2 ++ dktX0_pull_3
def dkwX0_pull_1 : List UInt8 := [172, 42, 180, 0, 11, 27, 50, 78, 45, 199, 0, 6, 16, 245, 172, 45, 182, 1, 4, 28, 162, 0, 6]
abbrev dktX0_pull_1 : List UInt8 := dkwX0_pull_1 ++ dktX0_pull_2
def dkwX0_pull_0 : List UInt8 := [27, 184, 0, 246, 154, 0, 6, 16, 254, 172, 28, 133, 10, 20, 1, 2, 184, 0, 124, 154, 0, 6, 16, 253]
abbrev dktX0_pull_0 : List UInt8 := dkwX0_pull_0 ++ dktX0_pull_1
theorem dksX0_pull_0 : cX0_pull.data.toList.drop 0 = dktX0_pull_0 := by decide +kernel
theorem dksX0_pull_1 : cX0_pull.data.toList.drop 24 = dktX0_pull_1 := dk_seg dksX0_pull_0 24 rfl rfl
theorem dksX0_pull_2 : cX0_pull.data.toList.drop 47 = dktX0_pull_2 := dk_seg dksX0_pull_1 23 rfl rfl
theorem dksX0_pull_3 : cX0_pull.data.toList.drop 71 = dktX0_pull_3 := dk_seg dksX0_pull_2 24 rfl rfl
theorem dksX0_pull_4 : cX0_pull.data.toList.drop 94 = dktX0_pull_4 := dk_seg dksX0_pull_3 23 rfl rfl
theorem dksX0_pull_5 : cX0_pull.data.toList.drop 117 = dktX0_pull_5 := dk_seg dksX0_pull_4 23 rfl rfl
theorem dX0_pull_0 : decode cX0_pull 0 = .ok (.iload_n 1, 1) := dk_27 (dk_at dksX0_pull_0 0 rfl rfl)
theorem dX0_pull_1 : decode cX0_pull 1 = .ok (.invokestatic 246, 3) := dk_184 0 246 (dk_at dksX0_pull_0 1 rfl rfl)
theorem dX0_pull_4 : decode cX0_pull 4 = .ok (.ifCond .ne 6, 3) := dk_154 0 6 (dk_at dksX0_pull_0 4 rfl rfl)
theorem dX0_pull_7 : decode cX0_pull 7 = .ok (.bipush (-2), 2) := dk_16 254 (dk_at dksX0_pull_0 7 rfl rfl)
theorem dX0_pull_9 : decode cX0_pull 9 = .ok (.ireturn, 1) := dk_172 (dk_at dksX0_pull_0 9 rfl rfl)
theorem dX0_pull_10 : decode cX0_pull 10 = .ok (.iload_n 2, 1) := dk_28 (dk_at dksX0_pull_0 10 rfl rfl)
theorem dX0_pull_11 : decode cX0_pull 11 = .ok (.i2l, 1) := dk_133 (dk_at dksX0_pull_0 11 rfl rfl)
theorem dX0_pull_12 : decode cX0_pull 12 = .ok (.lconst 1, 1) := dk_10 (dk_at dksX0_pull_0 12 rfl rfl)
theorem dX0_pull_13 : decode cX0_pull 13 = .ok (.ldc2_w 258, 3) := dk_20 1 2 (dk_at dksX0_pull_0 13 rfl rfl)
theorem dX0_pull_16 : decode cX0_pull 16 = .ok (.invokestatic 124, 3) := dk_184 0 124 (dk_at dksX0_pull_0 16 rfl rfl)
theorem dX0_pull_19 : decode cX0_pull 19 = .ok (.ifCond .ne 6, 3) := dk_154 0 6 (dk_at dksX0_pull_0 19 rfl rfl)
theorem dX0_pull_22 : decode cX0_pull 22 = .ok (.bipush (-3), 2) := dk_16 253 (dk_at dksX0_pull_0 22 rfl rfl)
theorem dX0_pull_24 : decode cX0_pull 24 = .ok (.ireturn, 1) := dk_172 (dk_at dksX0_pull_1 0 rfl rfl)
theorem dX0_pull_25 : decode cX0_pull 25 = .ok (.aload_n 0, 1) := dk_42 (dk_at dksX0_pull_1 1 rfl rfl)
theorem dX0_pull_26 : decode cX0_pull 26 = .ok (.getfield 11, 3) := dk_180 0 11 (dk_at dksX0_pull_1 2 rfl rfl)
theorem dX0_pull_29 : decode cX0_pull 29 = .ok (.iload_n 1, 1) := dk_27 (dk_at dksX0_pull_1 5 rfl rfl)
theorem dX0_pull_30 : decode cX0_pull 30 = .ok (.aaload, 1) := dk_50 (dk_at dksX0_pull_1 6 rfl rfl)
theorem dX0_pull_31 : decode cX0_pull 31 = .ok (.astore_n 3, 1) := dk_78 (dk_at dksX0_pull_1 7 rfl rfl)
theorem dX0_pull_32 : decode cX0_pull 32 = .ok (.aload_n 3, 1) := dk_45 (dk_at dksX0_pull_1 8 rfl rfl)
theorem dX0_pull_33 : decode cX0_pull 33 = .ok (.ifnonnull 6, 3) := dk_199 0 6 (dk_at dksX0_pull_1 9 rfl rfl)
theorem dX0_pull_36 : decode cX0_pull 36 = .ok (.bipush (-11), 2) := dk_16 245 (dk_at dksX0_pull_1 12 rfl rfl)
theorem dX0_pull_38 : decode cX0_pull 38 = .ok (.ireturn, 1) := dk_172 (dk_at dksX0_pull_1 14 rfl rfl)
theorem dX0_pull_39 : decode cX0_pull 39 = .ok (.aload_n 3, 1) := dk_45 (dk_at dksX0_pull_1 15 rfl rfl)
theorem dX0_pull_40 : decode cX0_pull 40 = .ok (.invokevirtual 260, 3) := dk_182 1 4 (dk_at dksX0_pull_1 16 rfl rfl)
theorem dX0_pull_43 : decode cX0_pull 43 = .ok (.iload_n 2, 1) := dk_28 (dk_at dksX0_pull_1 19 rfl rfl)
theorem dX0_pull_44 : decode cX0_pull 44 = .ok (.if_icmp .ge 6, 3) := dk_162 0 6 (dk_at dksX0_pull_1 20 rfl rfl)
theorem dX0_pull_47 : decode cX0_pull 47 = .ok (.bipush (-14), 2) := dk_16 242 (dk_at dksX0_pull_2 0 rfl rfl)
theorem dX0_pull_49 : decode cX0_pull 49 = .ok (.ireturn, 1) := dk_172 (dk_at dksX0_pull_2 2 rfl rfl)
theorem dX0_pull_50 : decode cX0_pull 50 = .ok (.iload_n 2, 1) := dk_28 (dk_at dksX0_pull_2 3 rfl rfl)
theorem dX0_pull_51 : decode cX0_pull 51 = .ok (.istore 4, 2) := dk_54 4 (dk_at dksX0_pull_2 4 rfl rfl)
theorem dX0_pull_53 : decode cX0_pull 53 = .ok (.iload 4, 2) := dk_21 4 (dk_at dksX0_pull_2 6 rfl rfl)
theorem dX0_pull_55 : decode cX0_pull 55 = .ok (.ifCond .le 75, 3) := dk_158 0 75 (dk_at dksX0_pull_2 8 rfl rfl)
theorem dX0_pull_58 : decode cX0_pull 58 = .ok (.iload 4, 2) := dk_21 4 (dk_at dksX0_pull_2 11 rfl rfl)
theorem dX0_pull_60 : decode cX0_pull 60 = .ok (.aload_n 3, 1) := dk_45 (dk_at dksX0_pull_2 13 rfl rfl)
theorem dX0_pull_61 : decode cX0_pull 61 = .ok (.getfield 255, 3) := dk_180 0 255 (dk_at dksX0_pull_2 14 rfl rfl)
theorem dX0_pull_64 : decode cX0_pull 64 = .ok (.aload_n 3, 1) := dk_45 (dk_at dksX0_pull_2 17 rfl rfl)
theorem dX0_pull_65 : decode cX0_pull 65 = .ok (.getfield 252, 3) := dk_180 0 252 (dk_at dksX0_pull_2 18 rfl rfl)
theorem dX0_pull_68 : decode cX0_pull 68 = .ok (.iconst 1, 1) := dk_4 (dk_at dksX0_pull_2 21 rfl rfl)
theorem dX0_pull_69 : decode cX0_pull 69 = .ok (.isub, 1) := dk_100 (dk_at dksX0_pull_2 22 rfl rfl)
theorem dX0_pull_70 : decode cX0_pull 70 = .ok (.iaload, 1) := dk_46 (dk_at dksX0_pull_2 23 rfl rfl)
theorem dX0_pull_71 : decode cX0_pull 71 = .ok (.invokestatic 235, 3) := dk_184 0 235 (dk_at dksX0_pull_3 0 rfl rfl)
theorem dX0_pull_74 : decode cX0_pull 74 = .ok (.istore 5, 2) := dk_54 5 (dk_at dksX0_pull_3 3 rfl rfl)
theorem dX0_pull_76 : decode cX0_pull 76 = .ok (.aload_n 3, 1) := dk_45 (dk_at dksX0_pull_3 5 rfl rfl)
theorem dX0_pull_77 : decode cX0_pull 77 = .ok (.getfield 255, 3) := dk_180 0 255 (dk_at dksX0_pull_3 6 rfl rfl)
theorem dX0_pull_80 : decode cX0_pull 80 = .ok (.aload_n 3, 1) := dk_45 (dk_at dksX0_pull_3 9 rfl rfl)
theorem dX0_pull_81 : decode cX0_pull 81 = .ok (.getfield 252, 3) := dk_180 0 252 (dk_at dksX0_pull_3 10 rfl rfl)
theorem dX0_pull_84 : decode cX0_pull 84 = .ok (.iconst 1, 1) := dk_4 (dk_at dksX0_pull_3 13 rfl rfl)
theorem dX0_pull_85 : decode cX0_pull 85 = .ok (.isub, 1) := dk_100 (dk_at dksX0_pull_3 14 rfl rfl)
theorem dX0_pull_86 : decode cX0_pull 86 = .ok (.dup2, 1) := dk_92 (dk_at dksX0_pull_3 15 rfl rfl)
theorem dX0_pull_87 : decode cX0_pull 87 = .ok (.iaload, 1) := dk_46 (dk_at dksX0_pull_3 16 rfl rfl)
theorem dX0_pull_88 : decode cX0_pull 88 = .ok (.iload 5, 2) := dk_21 5 (dk_at dksX0_pull_3 17 rfl rfl)
theorem dX0_pull_90 : decode cX0_pull 90 = .ok (.isub, 1) := dk_100 (dk_at dksX0_pull_3 19 rfl rfl)
theorem dX0_pull_91 : decode cX0_pull 91 = .ok (.iastore, 1) := dk_79 (dk_at dksX0_pull_3 20 rfl rfl)
theorem dX0_pull_92 : decode cX0_pull 92 = .ok (.aload_n 3, 1) := dk_45 (dk_at dksX0_pull_3 21 rfl rfl)
theorem dX0_pull_93 : decode cX0_pull 93 = .ok (.dup, 1) := dk_89 (dk_at dksX0_pull_3 22 rfl rfl)
theorem dX0_pull_94 : decode cX0_pull 94 = .ok (.getfield 252, 3) := dk_180 0 252 (dk_at dksX0_pull_4 0 rfl rfl)
theorem dX0_pull_97 : decode cX0_pull 97 = .ok (.aload_n 3, 1) := dk_45 (dk_at dksX0_pull_4 3 rfl rfl)
theorem dX0_pull_98 : decode cX0_pull 98 = .ok (.getfield 255, 3) := dk_180 0 255 (dk_at dksX0_pull_4 4 rfl rfl)
theorem dX0_pull_101 : decode cX0_pull 101 = .ok (.aload_n 3, 1) := dk_45 (dk_at dksX0_pull_4 7 rfl rfl)
theorem dX0_pull_102 : decode cX0_pull 102 = .ok (.getfield 252, 3) := dk_180 0 252 (dk_at dksX0_pull_4 8 rfl rfl)
theorem dX0_pull_105 : decode cX0_pull 105 = .ok (.iconst 1, 1) := dk_4 (dk_at dksX0_pull_4 11 rfl rfl)
theorem dX0_pull_106 : decode cX0_pull 106 = .ok (.isub, 1) := dk_100 (dk_at dksX0_pull_4 12 rfl rfl)
theorem dX0_pull_107 : decode cX0_pull 107 = .ok (.iaload, 1) := dk_46 (dk_at dksX0_pull_4 13 rfl rfl)
theorem dX0_pull_108 : decode cX0_pull 108 = .ok (.ifCond .ne 7, 3) := dk_154 0 7 (dk_at dksX0_pull_4 14 rfl rfl)
theorem dX0_pull_111 : decode cX0_pull 111 = .ok (.iconst 1, 1) := dk_4 (dk_at dksX0_pull_4 17 rfl rfl)
theorem dX0_pull_112 : decode cX0_pull 112 = .ok (.goto 4, 3) := dk_167 0 4 (dk_at dksX0_pull_4 18 rfl rfl)
theorem dX0_pull_115 : decode cX0_pull 115 = .ok (.iconst 0, 1) := dk_3 (dk_at dksX0_pull_4 21 rfl rfl)
theorem dX0_pull_116 : decode cX0_pull 116 = .ok (.isub, 1) := dk_100 (dk_at dksX0_pull_4 22 rfl rfl)
theorem dX0_pull_117 : decode cX0_pull 117 = .ok (.putfield 252, 3) := dk_181 0 252 (dk_at dksX0_pull_5 0 rfl rfl)
theorem dX0_pull_120 : decode cX0_pull 120 = .ok (.iload 4, 2) := dk_21 4 (dk_at dksX0_pull_5 3 rfl rfl)
theorem dX0_pull_122 : decode cX0_pull 122 = .ok (.iload 5, 2) := dk_21 5 (dk_at dksX0_pull_5 5 rfl rfl)
theorem dX0_pull_124 : decode cX0_pull 124 = .ok (.isub, 1) := dk_100 (dk_at dksX0_pull_5 7 rfl rfl)
theorem dX0_pull_125 : decode cX0_pull 125 = .ok (.istore 4, 2) := dk_54 4 (dk_at dksX0_pull_5 8 rfl rfl)
theorem dX0_pull_127 : decode cX0_pull 127 = .ok (.goto (-74), 3) := dk_167 255 182 (dk_at dksX0_pull_5 10 rfl rfl)
theorem dX0_pull_130 : decode cX0_pull 130 = .ok (.aload_n 3, 1) := dk_45 (dk_at dksX0_pull_5 13 rfl rfl)
theorem dX0_pull_131 : decode cX0_pull 131 = .ok (.getfield 252, 3) := dk_180 0 252 (dk_at dksX0_pull_5 14 rfl rfl)
theorem dX0_pull_134 : decode cX0_pull 134 = .ok (.ireturn, 1) := dk_172 (dk_at dksX0_pull_5 17 rfl rfl)
abbrev cX0_knot : ByteArray := prog_1_method_46_code
def yX0_knot : MethodName := ⟨RX0, "knot", "(I)I"⟩
def dkwX0_knot_4 : List UInt8 := [180, 0, 255, 44, 180, 0, 252, 4, 100, 46, 172]
abbrev dktX0_knot_4 : List UInt8 := dkwX0_knot_4 ++ []
def dkwX0_knot_3 : List UInt8 := [4, 100, 16, 99, 44, 180, 0, 255, 44, 180, 0, 252, 4, 100, 46, 29, 96, 184, 0, 235, 79, 44]
abbrev dktX0_knot_3 : List UInt8 := dkwX0_knot_3 ++ dktX0_knot_4
def dkwX0_knot_2 : List UInt8 := [180, 0, 255, 44, 89, 180, 0, 252, 4, 100, 90, 181, 0, 252, 46, 62, 44, 180, 0, 255, 44, 180, 0, 252]
abbrev dktX0_knot_2 : List UInt8 := dkwX0_knot_2 ++ dktX0_knot_3
def dkwX0_knot_1 : List UInt8 := [44, 180, 0, 252, 5, 162, 0, 18, 44, 180, 0, 252, 154, 0, 8, 16, 244, 167, 0, 5, 16, 252, 172, 44]
abbrev dktX0_knot_1 : List UInt8 := dkwX0_knot_1 ++ dktX0_knot_2
def dkwX0_knot_0 : List UInt8 := [27, 184, 0, 246, 154, 0, 6, 16, 254, 172, 42, 180, 0, 11, 27, 50, 77, 44, 199, 0, 6, 16, 245, 172]
abbrev dktX0_knot_0 : List UInt8 := dkwX0_knot_0 ++ dktX0_knot_1
theorem dksX0_knot_0 : cX0_knot.data.toList.drop 0 = dktX0_knot_0 := by decide +kernel
theorem dksX0_knot_1 : cX0_knot.data.toList.drop 24 = dktX0_knot_1 := dk_seg dksX0_knot_0 24 rfl rfl
theorem dksX0_knot_2 : cX0_knot.data.toList.drop 48 = dktX0_knot_2 := dk_seg dksX0_knot_1 24 rfl rfl
theorem dksX0_knot_3 : cX0_knot.data.toList.drop 72 = dktX0_knot_3 := dk_seg dksX0_knot_2 24 rfl rfl
theorem dksX0_knot_4 : cX0_knot.data.toList.drop 94 = dktX0_knot_4 := dk_seg dksX0_knot_3 22 rfl rfl
theorem dX0_knot_0 : decode cX0_knot 0 = .ok (.iload_n 1, 1) := dk_27 (dk_at dksX0_knot_0 0 rfl rfl)
theorem dX0_knot_1 : decode cX0_knot 1 = .ok (.invokestatic 246, 3) := dk_184 0 246 (dk_at dksX0_knot_0 1 rfl rfl)
theorem dX0_knot_4 : decode cX0_knot 4 = .ok (.ifCond .ne 6, 3) := dk_154 0 6 (dk_at dksX0_knot_0 4 rfl rfl)
theorem dX0_knot_7 : decode cX0_knot 7 = .ok (.bipush (-2), 2) := dk_16 254 (dk_at dksX0_knot_0 7 rfl rfl)
theorem dX0_knot_9 : decode cX0_knot 9 = .ok (.ireturn, 1) := dk_172 (dk_at dksX0_knot_0 9 rfl rfl)
theorem dX0_knot_10 : decode cX0_knot 10 = .ok (.aload_n 0, 1) := dk_42 (dk_at dksX0_knot_0 10 rfl rfl)
theorem dX0_knot_11 : decode cX0_knot 11 = .ok (.getfield 11, 3) := dk_180 0 11 (dk_at dksX0_knot_0 11 rfl rfl)
theorem dX0_knot_14 : decode cX0_knot 14 = .ok (.iload_n 1, 1) := dk_27 (dk_at dksX0_knot_0 14 rfl rfl)
theorem dX0_knot_15 : decode cX0_knot 15 = .ok (.aaload, 1) := dk_50 (dk_at dksX0_knot_0 15 rfl rfl)
theorem dX0_knot_16 : decode cX0_knot 16 = .ok (.astore_n 2, 1) := dk_77 (dk_at dksX0_knot_0 16 rfl rfl)
theorem dX0_knot_17 : decode cX0_knot 17 = .ok (.aload_n 2, 1) := dk_44 (dk_at dksX0_knot_0 17 rfl rfl)
theorem dX0_knot_18 : decode cX0_knot 18 = .ok (.ifnonnull 6, 3) := dk_199 0 6 (dk_at dksX0_knot_0 18 rfl rfl)
theorem dX0_knot_21 : decode cX0_knot 21 = .ok (.bipush (-11), 2) := dk_16 245 (dk_at dksX0_knot_0 21 rfl rfl)
theorem dX0_knot_23 : decode cX0_knot 23 = .ok (.ireturn, 1) := dk_172 (dk_at dksX0_knot_0 23 rfl rfl)
theorem dX0_knot_24 : decode cX0_knot 24 = .ok (.aload_n 2, 1) := dk_44 (dk_at dksX0_knot_1 0 rfl rfl)
theorem dX0_knot_25 : decode cX0_knot 25 = .ok (.getfield 252, 3) := dk_180 0 252 (dk_at dksX0_knot_1 1 rfl rfl)
theorem dX0_knot_28 : decode cX0_knot 28 = .ok (.iconst 2, 1) := dk_5 (dk_at dksX0_knot_1 4 rfl rfl)
theorem dX0_knot_29 : decode cX0_knot 29 = .ok (.if_icmp .ge 18, 3) := dk_162 0 18 (dk_at dksX0_knot_1 5 rfl rfl)
theorem dX0_knot_32 : decode cX0_knot 32 = .ok (.aload_n 2, 1) := dk_44 (dk_at dksX0_knot_1 8 rfl rfl)
theorem dX0_knot_33 : decode cX0_knot 33 = .ok (.getfield 252, 3) := dk_180 0 252 (dk_at dksX0_knot_1 9 rfl rfl)
theorem dX0_knot_36 : decode cX0_knot 36 = .ok (.ifCond .ne 8, 3) := dk_154 0 8 (dk_at dksX0_knot_1 12 rfl rfl)
theorem dX0_knot_39 : decode cX0_knot 39 = .ok (.bipush (-12), 2) := dk_16 244 (dk_at dksX0_knot_1 15 rfl rfl)
theorem dX0_knot_41 : decode cX0_knot 41 = .ok (.goto 5, 3) := dk_167 0 5 (dk_at dksX0_knot_1 17 rfl rfl)
theorem dX0_knot_44 : decode cX0_knot 44 = .ok (.bipush (-4), 2) := dk_16 252 (dk_at dksX0_knot_1 20 rfl rfl)
theorem dX0_knot_46 : decode cX0_knot 46 = .ok (.ireturn, 1) := dk_172 (dk_at dksX0_knot_1 22 rfl rfl)
theorem dX0_knot_47 : decode cX0_knot 47 = .ok (.aload_n 2, 1) := dk_44 (dk_at dksX0_knot_1 23 rfl rfl)
theorem dX0_knot_48 : decode cX0_knot 48 = .ok (.getfield 255, 3) := dk_180 0 255 (dk_at dksX0_knot_2 0 rfl rfl)
theorem dX0_knot_51 : decode cX0_knot 51 = .ok (.aload_n 2, 1) := dk_44 (dk_at dksX0_knot_2 3 rfl rfl)
theorem dX0_knot_52 : decode cX0_knot 52 = .ok (.dup, 1) := dk_89 (dk_at dksX0_knot_2 4 rfl rfl)
theorem dX0_knot_53 : decode cX0_knot 53 = .ok (.getfield 252, 3) := dk_180 0 252 (dk_at dksX0_knot_2 5 rfl rfl)
theorem dX0_knot_56 : decode cX0_knot 56 = .ok (.iconst 1, 1) := dk_4 (dk_at dksX0_knot_2 8 rfl rfl)
theorem dX0_knot_57 : decode cX0_knot 57 = .ok (.isub, 1) := dk_100 (dk_at dksX0_knot_2 9 rfl rfl)
theorem dX0_knot_58 : decode cX0_knot 58 = .ok (.dup_x1, 1) := dk_90 (dk_at dksX0_knot_2 10 rfl rfl)
theorem dX0_knot_59 : decode cX0_knot 59 = .ok (.putfield 252, 3) := dk_181 0 252 (dk_at dksX0_knot_2 11 rfl rfl)
theorem dX0_knot_62 : decode cX0_knot 62 = .ok (.iaload, 1) := dk_46 (dk_at dksX0_knot_2 14 rfl rfl)
theorem dX0_knot_63 : decode cX0_knot 63 = .ok (.istore_n 3, 1) := dk_62 (dk_at dksX0_knot_2 15 rfl rfl)
theorem dX0_knot_64 : decode cX0_knot 64 = .ok (.aload_n 2, 1) := dk_44 (dk_at dksX0_knot_2 16 rfl rfl)
theorem dX0_knot_65 : decode cX0_knot 65 = .ok (.getfield 255, 3) := dk_180 0 255 (dk_at dksX0_knot_2 17 rfl rfl)
theorem dX0_knot_68 : decode cX0_knot 68 = .ok (.aload_n 2, 1) := dk_44 (dk_at dksX0_knot_2 20 rfl rfl)
theorem dX0_knot_69 : decode cX0_knot 69 = .ok (.getfield 252, 3) := dk_180 0 252 (dk_at dksX0_knot_2 21 rfl rfl)
theorem dX0_knot_72 : decode cX0_knot 72 = .ok (.iconst 1, 1) := dk_4 (dk_at dksX0_knot_3 0 rfl rfl)
theorem dX0_knot_73 : decode cX0_knot 73 = .ok (.isub, 1) := dk_100 (dk_at dksX0_knot_3 1 rfl rfl)
theorem dX0_knot_74 : decode cX0_knot 74 = .ok (.bipush 99, 2) := dk_16 99 (dk_at dksX0_knot_3 2 rfl rfl)
theorem dX0_knot_76 : decode cX0_knot 76 = .ok (.aload_n 2, 1) := dk_44 (dk_at dksX0_knot_3 4 rfl rfl)
theorem dX0_knot_77 : decode cX0_knot 77 = .ok (.getfield 255, 3) := dk_180 0 255 (dk_at dksX0_knot_3 5 rfl rfl)
theorem dX0_knot_80 : decode cX0_knot 80 = .ok (.aload_n 2, 1) := dk_44 (dk_at dksX0_knot_3 8 rfl rfl)
theorem dX0_knot_81 : decode cX0_knot 81 = .ok (.getfield 252, 3) := dk_180 0 252 (dk_at dksX0_knot_3 9 rfl rfl)
theorem dX0_knot_84 : decode cX0_knot 84 = .ok (.iconst 1, 1) := dk_4 (dk_at dksX0_knot_3 12 rfl rfl)
theorem dX0_knot_85 : decode cX0_knot 85 = .ok (.isub, 1) := dk_100 (dk_at dksX0_knot_3 13 rfl rfl)
theorem dX0_knot_86 : decode cX0_knot 86 = .ok (.iaload, 1) := dk_46 (dk_at dksX0_knot_3 14 rfl rfl)
theorem dX0_knot_87 : decode cX0_knot 87 = .ok (.iload_n 3, 1) := dk_29 (dk_at dksX0_knot_3 15 rfl rfl)
theorem dX0_knot_88 : decode cX0_knot 88 = .ok (.iadd, 1) := dk_96 (dk_at dksX0_knot_3 16 rfl rfl)
theorem dX0_knot_89 : decode cX0_knot 89 = .ok (.invokestatic 235, 3) := dk_184 0 235 (dk_at dksX0_knot_3 17 rfl rfl)
theorem dX0_knot_92 : decode cX0_knot 92 = .ok (.iastore, 1) := dk_79 (dk_at dksX0_knot_3 20 rfl rfl)
theorem dX0_knot_93 : decode cX0_knot 93 = .ok (.aload_n 2, 1) := dk_44 (dk_at dksX0_knot_3 21 rfl rfl)
theorem dX0_knot_94 : decode cX0_knot 94 = .ok (.getfield 255, 3) := dk_180 0 255 (dk_at dksX0_knot_4 0 rfl rfl)
theorem dX0_knot_97 : decode cX0_knot 97 = .ok (.aload_n 2, 1) := dk_44 (dk_at dksX0_knot_4 3 rfl rfl)
theorem dX0_knot_98 : decode cX0_knot 98 = .ok (.getfield 252, 3) := dk_180 0 252 (dk_at dksX0_knot_4 4 rfl rfl)
theorem dX0_knot_101 : decode cX0_knot 101 = .ok (.iconst 1, 1) := dk_4 (dk_at dksX0_knot_4 7 rfl rfl)
theorem dX0_knot_102 : decode cX0_knot 102 = .ok (.isub, 1) := dk_100 (dk_at dksX0_knot_4 8 rfl rfl)
theorem dX0_knot_103 : decode cX0_knot 103 = .ok (.iaload, 1) := dk_46 (dk_at dksX0_knot_4 9 rfl rfl)
theorem dX0_knot_104 : decode cX0_knot 104 = .ok (.ireturn, 1) := dk_172 (dk_at dksX0_knot_4 10 rfl rfl)
abbrev cX0_measure : ByteArray := prog_1_method_47_code
def yX0_measure : MethodName := ⟨RX0, "measure", "(II)I"⟩
def dkwX0_measure_5 : List UInt8 := [182, 1, 23, 172, 45, 182, 1, 26, 172]
abbrev dktX0_measure_5 : List UInt8 := dkwX0_measure_5 ++ []
def dkwX0_measure_4 : List UInt8 := [45, 182, 1, 4, 172, 45, 182, 1, 9, 172, 45, 182, 1, 11, 185, 1, 15, 1, 0, 192, 1, 21]
abbrev dktX0_measure_4 : List UInt8 := dkwX0_measure_4 ++ dktX0_measure_5
def dkwX0_measure_3 : List UInt8 := [170, 0, 0, 0, 0, 52, 0, 0, 0, 0, 0, 0, 0, 2, 0, 0, 0, 26, 0, 0, 0, 31, 0, 0, 0, 36]
abbrev dktX0_measure_3 : List UInt8 := dkwX0_measure_3 ++ dktX0_measure_4
def dkwX0_measure_2 : List UInt8 := [153, 0, 13, 45, 180, 0, 252, 154, 0, 6, 16, 244, 172, 28]
abbrev dktX0_measure_2 : List UInt8 := dkwX0_measure_2 ++ dktX0_measure_3
def dkwX0_measure_1 : List UInt8 := [172, 42, 180, 0, 11, 27, 50, 78, 45, 199, 0, 6, 16, 245, 172, 28, 133, 10, 20, 0, 244, 184, 0, 124]
abbrev dktX0_measure_1 : List UInt8 := dkwX0_measure_1 ++ dktX0_measure_2
def dkwX0_measure_0 : List UInt8 := [27, 184, 0, 246, 154, 0, 6, 16, 254, 172, 28, 133, 9, 20, 1, 7, 184, 0, 124, 154, 0, 6, 16, 253]
abbrev dktX0_measure_0 : List UInt8 := dkwX0_measure_0 ++ dktX0_measure_1
theorem dksX0_measure_0 : cX0_measure.data.toList.drop 0 = dktX0_measure_0 := by decide +kernel
theorem dksX0_measure_1 : cX0_measure.data.toList.drop 24 = dktX0_measure_1 := dk_seg dksX0_measure_0 24 rfl rfl
theorem dksX0_measure_2 : cX0_measure.data.toList.drop 48 = dktX0_measure_2 := dk_seg dksX0_measure_1 24 rfl rfl
theorem dksX0_measure_3 : cX0_measure.data.toList.drop 62 = dktX0_measure_3 := dk_seg dksX0_measure_2 14 rfl rfl
theorem dksX0_measure_4 : cX0_measure.data.toList.drop 88 = dktX0_measure_4 := dk_seg dksX0_measure_3 26 rfl rfl
theorem dksX0_measure_5 : cX0_measure.data.toList.drop 110 = dktX0_measure_5 := dk_seg dksX0_measure_4 22 rfl rfl
theorem dX0_measure_0 : decode cX0_measure 0 = .ok (.iload_n 1, 1) := dk_27 (dk_at dksX0_measure_0 0 rfl rfl)
theorem dX0_measure_1 : decode cX0_measure 1 = .ok (.invokestatic 246, 3) := dk_184 0 246 (dk_at dksX0_measure_0 1 rfl rfl)
theorem dX0_measure_4 : decode cX0_measure 4 = .ok (.ifCond .ne 6, 3) := dk_154 0 6 (dk_at dksX0_measure_0 4 rfl rfl)
theorem dX0_measure_7 : decode cX0_measure 7 = .ok (.bipush (-2), 2) := dk_16 254 (dk_at dksX0_measure_0 7 rfl rfl)
theorem dX0_measure_9 : decode cX0_measure 9 = .ok (.ireturn, 1) := dk_172 (dk_at dksX0_measure_0 9 rfl rfl)
theorem dX0_measure_10 : decode cX0_measure 10 = .ok (.iload_n 2, 1) := dk_28 (dk_at dksX0_measure_0 10 rfl rfl)
theorem dX0_measure_11 : decode cX0_measure 11 = .ok (.i2l, 1) := dk_133 (dk_at dksX0_measure_0 11 rfl rfl)
theorem dX0_measure_12 : decode cX0_measure 12 = .ok (.lconst 0, 1) := dk_9 (dk_at dksX0_measure_0 12 rfl rfl)
theorem dX0_measure_13 : decode cX0_measure 13 = .ok (.ldc2_w 263, 3) := dk_20 1 7 (dk_at dksX0_measure_0 13 rfl rfl)
theorem dX0_measure_16 : decode cX0_measure 16 = .ok (.invokestatic 124, 3) := dk_184 0 124 (dk_at dksX0_measure_0 16 rfl rfl)
theorem dX0_measure_19 : decode cX0_measure 19 = .ok (.ifCond .ne 6, 3) := dk_154 0 6 (dk_at dksX0_measure_0 19 rfl rfl)
theorem dX0_measure_22 : decode cX0_measure 22 = .ok (.bipush (-3), 2) := dk_16 253 (dk_at dksX0_measure_0 22 rfl rfl)
theorem dX0_measure_24 : decode cX0_measure 24 = .ok (.ireturn, 1) := dk_172 (dk_at dksX0_measure_1 0 rfl rfl)
theorem dX0_measure_25 : decode cX0_measure 25 = .ok (.aload_n 0, 1) := dk_42 (dk_at dksX0_measure_1 1 rfl rfl)
theorem dX0_measure_26 : decode cX0_measure 26 = .ok (.getfield 11, 3) := dk_180 0 11 (dk_at dksX0_measure_1 2 rfl rfl)
theorem dX0_measure_29 : decode cX0_measure 29 = .ok (.iload_n 1, 1) := dk_27 (dk_at dksX0_measure_1 5 rfl rfl)
theorem dX0_measure_30 : decode cX0_measure 30 = .ok (.aaload, 1) := dk_50 (dk_at dksX0_measure_1 6 rfl rfl)
theorem dX0_measure_31 : decode cX0_measure 31 = .ok (.astore_n 3, 1) := dk_78 (dk_at dksX0_measure_1 7 rfl rfl)
theorem dX0_measure_32 : decode cX0_measure 32 = .ok (.aload_n 3, 1) := dk_45 (dk_at dksX0_measure_1 8 rfl rfl)
theorem dX0_measure_33 : decode cX0_measure 33 = .ok (.ifnonnull 6, 3) := dk_199 0 6 (dk_at dksX0_measure_1 9 rfl rfl)
theorem dX0_measure_36 : decode cX0_measure 36 = .ok (.bipush (-11), 2) := dk_16 245 (dk_at dksX0_measure_1 12 rfl rfl)
theorem dX0_measure_38 : decode cX0_measure 38 = .ok (.ireturn, 1) := dk_172 (dk_at dksX0_measure_1 14 rfl rfl)
theorem dX0_measure_39 : decode cX0_measure 39 = .ok (.iload_n 2, 1) := dk_28 (dk_at dksX0_measure_1 15 rfl rfl)
theorem dX0_measure_40 : decode cX0_measure 40 = .ok (.i2l, 1) := dk_133 (dk_at dksX0_measure_1 16 rfl rfl)
theorem dX0_measure_41 : decode cX0_measure 41 = .ok (.lconst 1, 1) := dk_10 (dk_at dksX0_measure_1 17 rfl rfl)
theorem dX0_measure_42 : decode cX0_measure 42 = .ok (.ldc2_w 244, 3) := dk_20 0 244 (dk_at dksX0_measure_1 18 rfl rfl)
theorem dX0_measure_45 : decode cX0_measure 45 = .ok (.invokestatic 124, 3) := dk_184 0 124 (dk_at dksX0_measure_1 21 rfl rfl)
theorem dX0_measure_48 : decode cX0_measure 48 = .ok (.ifCond .eq 13, 3) := dk_153 0 13 (dk_at dksX0_measure_2 0 rfl rfl)
theorem dX0_measure_51 : decode cX0_measure 51 = .ok (.aload_n 3, 1) := dk_45 (dk_at dksX0_measure_2 3 rfl rfl)
theorem dX0_measure_52 : decode cX0_measure 52 = .ok (.getfield 252, 3) := dk_180 0 252 (dk_at dksX0_measure_2 4 rfl rfl)
theorem dX0_measure_55 : decode cX0_measure 55 = .ok (.ifCond .ne 6, 3) := dk_154 0 6 (dk_at dksX0_measure_2 7 rfl rfl)
theorem dX0_measure_58 : decode cX0_measure 58 = .ok (.bipush (-12), 2) := dk_16 244 (dk_at dksX0_measure_2 10 rfl rfl)
theorem dX0_measure_60 : decode cX0_measure 60 = .ok (.ireturn, 1) := dk_172 (dk_at dksX0_measure_2 12 rfl rfl)
theorem dX0_measure_61 : decode cX0_measure 61 = .ok (.iload_n 2, 1) := dk_28 (dk_at dksX0_measure_2 13 rfl rfl)
theorem dX0_measure_62 : decode cX0_measure 62 = .ok (.tableswitch 52 0 2 #[26, 31, 36], 26) := by decide +kernel
theorem dX0_measure_88 : decode cX0_measure 88 = .ok (.aload_n 3, 1) := dk_45 (dk_at dksX0_measure_4 0 rfl rfl)
theorem dX0_measure_89 : decode cX0_measure 89 = .ok (.invokevirtual 260, 3) := dk_182 1 4 (dk_at dksX0_measure_4 1 rfl rfl)
theorem dX0_measure_92 : decode cX0_measure 92 = .ok (.ireturn, 1) := dk_172 (dk_at dksX0_measure_4 4 rfl rfl)
theorem dX0_measure_93 : decode cX0_measure 93 = .ok (.aload_n 3, 1) := dk_45 (dk_at dksX0_measure_4 5 rfl rfl)
theorem dX0_measure_94 : decode cX0_measure 94 = .ok (.invokevirtual 265, 3) := dk_182 1 9 (dk_at dksX0_measure_4 6 rfl rfl)
theorem dX0_measure_97 : decode cX0_measure 97 = .ok (.ireturn, 1) := dk_172 (dk_at dksX0_measure_4 9 rfl rfl)
theorem dX0_measure_98 : decode cX0_measure 98 = .ok (.aload_n 3, 1) := dk_45 (dk_at dksX0_measure_4 10 rfl rfl)
theorem dX0_measure_99 : decode cX0_measure 99 = .ok (.invokevirtual 267, 3) := dk_182 1 11 (dk_at dksX0_measure_4 11 rfl rfl)
theorem dX0_measure_102 : decode cX0_measure 102 = .ok (.invokeinterface 271 1, 5) := by decide +kernel
theorem dX0_measure_107 : decode cX0_measure 107 = .ok (.checkcast 277, 3) := dk_192 1 21 (dk_at dksX0_measure_4 19 rfl rfl)
theorem dX0_measure_110 : decode cX0_measure 110 = .ok (.invokevirtual 279, 3) := dk_182 1 23 (dk_at dksX0_measure_5 0 rfl rfl)
theorem dX0_measure_113 : decode cX0_measure 113 = .ok (.ireturn, 1) := dk_172 (dk_at dksX0_measure_5 3 rfl rfl)
theorem dX0_measure_114 : decode cX0_measure 114 = .ok (.aload_n 3, 1) := dk_45 (dk_at dksX0_measure_5 4 rfl rfl)
theorem dX0_measure_115 : decode cX0_measure 115 = .ok (.invokevirtual 282, 3) := dk_182 1 26 (dk_at dksX0_measure_5 5 rfl rfl)
theorem dX0_measure_118 : decode cX0_measure 118 = .ok (.ireturn, 1) := dk_172 (dk_at dksX0_measure_5 8 rfl rfl)
abbrev cX0_rewind : ByteArray := prog_1_method_48_code
def yX0_rewind : MethodName := ⟨RX0, "rewind", "(II)I"⟩
def dkwX0_rewind_5 : List UInt8 := [181, 0, 252, 21, 6, 79, 167, 255, 211, 45, 3, 181, 0, 252, 25, 4, 180, 0, 252, 172]
abbrev dktX0_rewind_5 : List UInt8 := dkwX0_rewind_5 ++ []
def dkwX0_rewind_4 : List UInt8 := [192, 1, 21, 182, 1, 23, 54, 6, 25, 4, 180, 0, 255, 25, 4, 89, 180, 0, 252, 90, 4, 96]
abbrev dktX0_rewind_4 : List UInt8 := dkwX0_rewind_4 ++ dktX0_rewind_5
def dkwX0_rewind_3 : List UInt8 := [182, 1, 11, 58, 5, 25, 5, 185, 1, 29, 1, 0, 153, 0, 41, 25, 5, 185, 1, 15, 1, 0]
abbrev dktX0_rewind_3 : List UInt8 := dkwX0_rewind_3 ++ dktX0_rewind_4
def dkwX0_rewind_2 : List UInt8 := [16, 245, 172, 45, 180, 0, 252, 25, 4, 180, 0, 252, 96, 16, 8, 164, 0, 6, 16, 243, 172, 45]
abbrev dktX0_rewind_2 : List UInt8 := dkwX0_rewind_2 ++ dktX0_rewind_3
def dkwX0_rewind_1 : List UInt8 := [180, 0, 11, 27, 50, 78, 42, 180, 0, 11, 28, 50, 58, 4, 45, 198, 0, 8, 25, 4, 199, 0, 6]
abbrev dktX0_rewind_1 : List UInt8 := dkwX0_rewind_1 ++ dktX0_rewind_2
def dkwX0_rewind_0 : List UInt8 := [27, 184, 0, 246, 153, 0, 15, 28, 184, 0, 246, 153, 0, 8, 27, 28, 160, 0, 6, 16, 254, 172, 42]
abbrev dktX0_rewind_0 : List UInt8 := dkwX0_rewind_0 ++ dktX0_rewind_1
theorem dksX0_rewind_0 : cX0_rewind.data.toList.drop 0 = dktX0_rewind_0 := by decide +kernel
theorem dksX0_rewind_1 : cX0_rewind.data.toList.drop 23 = dktX0_rewind_1 := dk_seg dksX0_rewind_0 23 rfl rfl
theorem dksX0_rewind_2 : cX0_rewind.data.toList.drop 46 = dktX0_rewind_2 := dk_seg dksX0_rewind_1 23 rfl rfl
theorem dksX0_rewind_3 : cX0_rewind.data.toList.drop 68 = dktX0_rewind_3 := dk_seg dksX0_rewind_2 22 rfl rfl
theorem dksX0_rewind_4 : cX0_rewind.data.toList.drop 90 = dktX0_rewind_4 := dk_seg dksX0_rewind_3 22 rfl rfl
theorem dksX0_rewind_5 : cX0_rewind.data.toList.drop 112 = dktX0_rewind_5 := dk_seg dksX0_rewind_4 22 rfl rfl
theorem dX0_rewind_0 : decode cX0_rewind 0 = .ok (.iload_n 1, 1) := dk_27 (dk_at dksX0_rewind_0 0 rfl rfl)
theorem dX0_rewind_1 : decode cX0_rewind 1 = .ok (.invokestatic 246, 3) := dk_184 0 246 (dk_at dksX0_rewind_0 1 rfl rfl)
theorem dX0_rewind_4 : decode cX0_rewind 4 = .ok (.ifCond .eq 15, 3) := dk_153 0 15 (dk_at dksX0_rewind_0 4 rfl rfl)
theorem dX0_rewind_7 : decode cX0_rewind 7 = .ok (.iload_n 2, 1) := dk_28 (dk_at dksX0_rewind_0 7 rfl rfl)
theorem dX0_rewind_8 : decode cX0_rewind 8 = .ok (.invokestatic 246, 3) := dk_184 0 246 (dk_at dksX0_rewind_0 8 rfl rfl)
theorem dX0_rewind_11 : decode cX0_rewind 11 = .ok (.ifCond .eq 8, 3) := dk_153 0 8 (dk_at dksX0_rewind_0 11 rfl rfl)
theorem dX0_rewind_14 : decode cX0_rewind 14 = .ok (.iload_n 1, 1) := dk_27 (dk_at dksX0_rewind_0 14 rfl rfl)
theorem dX0_rewind_15 : decode cX0_rewind 15 = .ok (.iload_n 2, 1) := dk_28 (dk_at dksX0_rewind_0 15 rfl rfl)
theorem dX0_rewind_16 : decode cX0_rewind 16 = .ok (.if_icmp .ne 6, 3) := dk_160 0 6 (dk_at dksX0_rewind_0 16 rfl rfl)
theorem dX0_rewind_19 : decode cX0_rewind 19 = .ok (.bipush (-2), 2) := dk_16 254 (dk_at dksX0_rewind_0 19 rfl rfl)
theorem dX0_rewind_21 : decode cX0_rewind 21 = .ok (.ireturn, 1) := dk_172 (dk_at dksX0_rewind_0 21 rfl rfl)
theorem dX0_rewind_22 : decode cX0_rewind 22 = .ok (.aload_n 0, 1) := dk_42 (dk_at dksX0_rewind_0 22 rfl rfl)
theorem dX0_rewind_23 : decode cX0_rewind 23 = .ok (.getfield 11, 3) := dk_180 0 11 (dk_at dksX0_rewind_1 0 rfl rfl)
theorem dX0_rewind_26 : decode cX0_rewind 26 = .ok (.iload_n 1, 1) := dk_27 (dk_at dksX0_rewind_1 3 rfl rfl)
theorem dX0_rewind_27 : decode cX0_rewind 27 = .ok (.aaload, 1) := dk_50 (dk_at dksX0_rewind_1 4 rfl rfl)
theorem dX0_rewind_28 : decode cX0_rewind 28 = .ok (.astore_n 3, 1) := dk_78 (dk_at dksX0_rewind_1 5 rfl rfl)
theorem dX0_rewind_29 : decode cX0_rewind 29 = .ok (.aload_n 0, 1) := dk_42 (dk_at dksX0_rewind_1 6 rfl rfl)
theorem dX0_rewind_30 : decode cX0_rewind 30 = .ok (.getfield 11, 3) := dk_180 0 11 (dk_at dksX0_rewind_1 7 rfl rfl)
theorem dX0_rewind_33 : decode cX0_rewind 33 = .ok (.iload_n 2, 1) := dk_28 (dk_at dksX0_rewind_1 10 rfl rfl)
theorem dX0_rewind_34 : decode cX0_rewind 34 = .ok (.aaload, 1) := dk_50 (dk_at dksX0_rewind_1 11 rfl rfl)
theorem dX0_rewind_35 : decode cX0_rewind 35 = .ok (.astore 4, 2) := dk_58 4 (dk_at dksX0_rewind_1 12 rfl rfl)
theorem dX0_rewind_37 : decode cX0_rewind 37 = .ok (.aload_n 3, 1) := dk_45 (dk_at dksX0_rewind_1 14 rfl rfl)
theorem dX0_rewind_38 : decode cX0_rewind 38 = .ok (.ifnull 8, 3) := dk_198 0 8 (dk_at dksX0_rewind_1 15 rfl rfl)
theorem dX0_rewind_41 : decode cX0_rewind 41 = .ok (.aload 4, 2) := dk_25 4 (dk_at dksX0_rewind_1 18 rfl rfl)
theorem dX0_rewind_43 : decode cX0_rewind 43 = .ok (.ifnonnull 6, 3) := dk_199 0 6 (dk_at dksX0_rewind_1 20 rfl rfl)
theorem dX0_rewind_46 : decode cX0_rewind 46 = .ok (.bipush (-11), 2) := dk_16 245 (dk_at dksX0_rewind_2 0 rfl rfl)
theorem dX0_rewind_48 : decode cX0_rewind 48 = .ok (.ireturn, 1) := dk_172 (dk_at dksX0_rewind_2 2 rfl rfl)
theorem dX0_rewind_49 : decode cX0_rewind 49 = .ok (.aload_n 3, 1) := dk_45 (dk_at dksX0_rewind_2 3 rfl rfl)
theorem dX0_rewind_50 : decode cX0_rewind 50 = .ok (.getfield 252, 3) := dk_180 0 252 (dk_at dksX0_rewind_2 4 rfl rfl)
theorem dX0_rewind_53 : decode cX0_rewind 53 = .ok (.aload 4, 2) := dk_25 4 (dk_at dksX0_rewind_2 7 rfl rfl)
theorem dX0_rewind_55 : decode cX0_rewind 55 = .ok (.getfield 252, 3) := dk_180 0 252 (dk_at dksX0_rewind_2 9 rfl rfl)
theorem dX0_rewind_58 : decode cX0_rewind 58 = .ok (.iadd, 1) := dk_96 (dk_at dksX0_rewind_2 12 rfl rfl)
theorem dX0_rewind_59 : decode cX0_rewind 59 = .ok (.bipush 8, 2) := dk_16 8 (dk_at dksX0_rewind_2 13 rfl rfl)
theorem dX0_rewind_61 : decode cX0_rewind 61 = .ok (.if_icmp .le 6, 3) := dk_164 0 6 (dk_at dksX0_rewind_2 15 rfl rfl)
theorem dX0_rewind_64 : decode cX0_rewind 64 = .ok (.bipush (-13), 2) := dk_16 243 (dk_at dksX0_rewind_2 18 rfl rfl)
theorem dX0_rewind_66 : decode cX0_rewind 66 = .ok (.ireturn, 1) := dk_172 (dk_at dksX0_rewind_2 20 rfl rfl)
theorem dX0_rewind_67 : decode cX0_rewind 67 = .ok (.aload_n 3, 1) := dk_45 (dk_at dksX0_rewind_2 21 rfl rfl)
theorem dX0_rewind_68 : decode cX0_rewind 68 = .ok (.invokevirtual 267, 3) := dk_182 1 11 (dk_at dksX0_rewind_3 0 rfl rfl)
theorem dX0_rewind_71 : decode cX0_rewind 71 = .ok (.astore 5, 2) := dk_58 5 (dk_at dksX0_rewind_3 3 rfl rfl)
theorem dX0_rewind_73 : decode cX0_rewind 73 = .ok (.aload 5, 2) := dk_25 5 (dk_at dksX0_rewind_3 5 rfl rfl)
theorem dX0_rewind_75 : decode cX0_rewind 75 = .ok (.invokeinterface 285 1, 5) := by decide +kernel
theorem dX0_rewind_80 : decode cX0_rewind 80 = .ok (.ifCond .eq 41, 3) := dk_153 0 41 (dk_at dksX0_rewind_3 12 rfl rfl)
theorem dX0_rewind_83 : decode cX0_rewind 83 = .ok (.aload 5, 2) := dk_25 5 (dk_at dksX0_rewind_3 15 rfl rfl)
theorem dX0_rewind_85 : decode cX0_rewind 85 = .ok (.invokeinterface 271 1, 5) := by decide +kernel
theorem dX0_rewind_90 : decode cX0_rewind 90 = .ok (.checkcast 277, 3) := dk_192 1 21 (dk_at dksX0_rewind_4 0 rfl rfl)
theorem dX0_rewind_93 : decode cX0_rewind 93 = .ok (.invokevirtual 279, 3) := dk_182 1 23 (dk_at dksX0_rewind_4 3 rfl rfl)
theorem dX0_rewind_96 : decode cX0_rewind 96 = .ok (.istore 6, 2) := dk_54 6 (dk_at dksX0_rewind_4 6 rfl rfl)
theorem dX0_rewind_98 : decode cX0_rewind 98 = .ok (.aload 4, 2) := dk_25 4 (dk_at dksX0_rewind_4 8 rfl rfl)
theorem dX0_rewind_100 : decode cX0_rewind 100 = .ok (.getfield 255, 3) := dk_180 0 255 (dk_at dksX0_rewind_4 10 rfl rfl)
theorem dX0_rewind_103 : decode cX0_rewind 103 = .ok (.aload 4, 2) := dk_25 4 (dk_at dksX0_rewind_4 13 rfl rfl)
theorem dX0_rewind_105 : decode cX0_rewind 105 = .ok (.dup, 1) := dk_89 (dk_at dksX0_rewind_4 15 rfl rfl)
theorem dX0_rewind_106 : decode cX0_rewind 106 = .ok (.getfield 252, 3) := dk_180 0 252 (dk_at dksX0_rewind_4 16 rfl rfl)
theorem dX0_rewind_109 : decode cX0_rewind 109 = .ok (.dup_x1, 1) := dk_90 (dk_at dksX0_rewind_4 19 rfl rfl)
theorem dX0_rewind_110 : decode cX0_rewind 110 = .ok (.iconst 1, 1) := dk_4 (dk_at dksX0_rewind_4 20 rfl rfl)
theorem dX0_rewind_111 : decode cX0_rewind 111 = .ok (.iadd, 1) := dk_96 (dk_at dksX0_rewind_4 21 rfl rfl)
theorem dX0_rewind_112 : decode cX0_rewind 112 = .ok (.putfield 252, 3) := dk_181 0 252 (dk_at dksX0_rewind_5 0 rfl rfl)
theorem dX0_rewind_115 : decode cX0_rewind 115 = .ok (.iload 6, 2) := dk_21 6 (dk_at dksX0_rewind_5 3 rfl rfl)
theorem dX0_rewind_117 : decode cX0_rewind 117 = .ok (.iastore, 1) := dk_79 (dk_at dksX0_rewind_5 5 rfl rfl)
theorem dX0_rewind_118 : decode cX0_rewind 118 = .ok (.goto (-45), 3) := dk_167 255 211 (dk_at dksX0_rewind_5 6 rfl rfl)
theorem dX0_rewind_121 : decode cX0_rewind 121 = .ok (.aload_n 3, 1) := dk_45 (dk_at dksX0_rewind_5 9 rfl rfl)
theorem dX0_rewind_122 : decode cX0_rewind 122 = .ok (.iconst 0, 1) := dk_3 (dk_at dksX0_rewind_5 10 rfl rfl)
theorem dX0_rewind_123 : decode cX0_rewind 123 = .ok (.putfield 252, 3) := dk_181 0 252 (dk_at dksX0_rewind_5 11 rfl rfl)
theorem dX0_rewind_126 : decode cX0_rewind 126 = .ok (.aload 4, 2) := dk_25 4 (dk_at dksX0_rewind_5 14 rfl rfl)
theorem dX0_rewind_128 : decode cX0_rewind 128 = .ok (.getfield 252, 3) := dk_180 0 252 (dk_at dksX0_rewind_5 16 rfl rfl)
theorem dX0_rewind_131 : decode cX0_rewind 131 = .ok (.ireturn, 1) := dk_172 (dk_at dksX0_rewind_5 19 rfl rfl)
abbrev cX0_drop : ByteArray := prog_1_method_49_code
def yX0_drop : MethodName := ⟨RX0, "drop", "(I)I"⟩
def dkwX0_drop_1 : List UInt8 := [44, 199, 0, 8, 16, 245, 167, 0, 7, 44, 180, 0, 252, 172]
abbrev dktX0_drop_1 : List UInt8 := dkwX0_drop_1 ++ []
def dkwX0_drop_0 : List UInt8 := [27, 184, 0, 246, 154, 0, 6, 16, 254, 172, 42, 180, 0, 11, 27, 50, 77, 42, 180, 0, 11, 27, 1, 83]
abbrev dktX0_drop_0 : List UInt8 := dkwX0_drop_0 ++ dktX0_drop_1
theorem dksX0_drop_0 : cX0_drop.data.toList.drop 0 = dktX0_drop_0 := by decide +kernel
theorem dksX0_drop_1 : cX0_drop.data.toList.drop 24 = dktX0_drop_1 := dk_seg dksX0_drop_0 24 rfl rfl
theorem dX0_drop_0 : decode cX0_drop 0 = .ok (.iload_n 1, 1) := dk_27 (dk_at dksX0_drop_0 0 rfl rfl)
theorem dX0_drop_1 : decode cX0_drop 1 = .ok (.invokestatic 246, 3) := dk_184 0 246 (dk_at dksX0_drop_0 1 rfl rfl)
theorem dX0_drop_4 : decode cX0_drop 4 = .ok (.ifCond .ne 6, 3) := dk_154 0 6 (dk_at dksX0_drop_0 4 rfl rfl)
theorem dX0_drop_7 : decode cX0_drop 7 = .ok (.bipush (-2), 2) := dk_16 254 (dk_at dksX0_drop_0 7 rfl rfl)
theorem dX0_drop_9 : decode cX0_drop 9 = .ok (.ireturn, 1) := dk_172 (dk_at dksX0_drop_0 9 rfl rfl)
theorem dX0_drop_10 : decode cX0_drop 10 = .ok (.aload_n 0, 1) := dk_42 (dk_at dksX0_drop_0 10 rfl rfl)
theorem dX0_drop_11 : decode cX0_drop 11 = .ok (.getfield 11, 3) := dk_180 0 11 (dk_at dksX0_drop_0 11 rfl rfl)
theorem dX0_drop_14 : decode cX0_drop 14 = .ok (.iload_n 1, 1) := dk_27 (dk_at dksX0_drop_0 14 rfl rfl)
theorem dX0_drop_15 : decode cX0_drop 15 = .ok (.aaload, 1) := dk_50 (dk_at dksX0_drop_0 15 rfl rfl)
theorem dX0_drop_16 : decode cX0_drop 16 = .ok (.astore_n 2, 1) := dk_77 (dk_at dksX0_drop_0 16 rfl rfl)
theorem dX0_drop_17 : decode cX0_drop 17 = .ok (.aload_n 0, 1) := dk_42 (dk_at dksX0_drop_0 17 rfl rfl)
theorem dX0_drop_18 : decode cX0_drop 18 = .ok (.getfield 11, 3) := dk_180 0 11 (dk_at dksX0_drop_0 18 rfl rfl)
theorem dX0_drop_21 : decode cX0_drop 21 = .ok (.iload_n 1, 1) := dk_27 (dk_at dksX0_drop_0 21 rfl rfl)
theorem dX0_drop_22 : decode cX0_drop 22 = .ok (.aconst_null, 1) := dk_1 (dk_at dksX0_drop_0 22 rfl rfl)
theorem dX0_drop_23 : decode cX0_drop 23 = .ok (.aastore, 1) := dk_83 (dk_at dksX0_drop_0 23 rfl rfl)
theorem dX0_drop_24 : decode cX0_drop 24 = .ok (.aload_n 2, 1) := dk_44 (dk_at dksX0_drop_1 0 rfl rfl)
theorem dX0_drop_25 : decode cX0_drop 25 = .ok (.ifnonnull 8, 3) := dk_199 0 8 (dk_at dksX0_drop_1 1 rfl rfl)
theorem dX0_drop_28 : decode cX0_drop 28 = .ok (.bipush (-11), 2) := dk_16 245 (dk_at dksX0_drop_1 4 rfl rfl)
theorem dX0_drop_30 : decode cX0_drop 30 = .ok (.goto 7, 3) := dk_167 0 7 (dk_at dksX0_drop_1 6 rfl rfl)
theorem dX0_drop_33 : decode cX0_drop 33 = .ok (.aload_n 2, 1) := dk_44 (dk_at dksX0_drop_1 9 rfl rfl)
theorem dX0_drop_34 : decode cX0_drop 34 = .ok (.getfield 252, 3) := dk_180 0 252 (dk_at dksX0_drop_1 10 rfl rfl)
theorem dX0_drop_37 : decode cX0_drop 37 = .ok (.ireturn, 1) := dk_172 (dk_at dksX0_drop_1 13 rfl rfl)
abbrev cX0_count : ByteArray := prog_1_method_58_code
def yX0_count : MethodName := ⟨RX0, "count", "(I)I"⟩
def dkwX0_count_9 : List UInt8 := [16, 253, 172]
abbrev dktX0_count_9 : List UInt8 := dkwX0_count_9 ++ []
def dkwX0_count_8 : List UInt8 := [184, 1, 54, 172, 42, 182, 1, 58, 172, 42, 182, 1, 61, 172, 42, 180, 0, 1, 172, 42, 180, 0, 136, 172]
abbrev dktX0_count_8 : List UInt8 := dkwX0_count_8 ++ dktX0_count_9
def dkwX0_count_7 : List UInt8 := [172, 42, 180, 0, 30, 180, 0, 73, 42, 180, 0, 30, 180, 0, 70, 42, 180, 0, 30, 180, 0, 131]
abbrev dktX0_count_7 : List UInt8 := dkwX0_count_7 ++ dktX0_count_8
def dkwX0_count_6 : List UInt8 := [42, 180, 0, 30, 180, 0, 90, 42, 180, 0, 30, 180, 0, 67, 42, 180, 0, 30, 180, 0, 128, 184, 1, 54]
abbrev dktX0_count_6 : List UInt8 := dkwX0_count_6 ++ dktX0_count_7
def dkwX0_count_5 : List UInt8 := [180, 0, 73, 42, 180, 0, 30, 180, 0, 70, 184, 1, 46, 172, 42, 182, 1, 50, 172, 42, 182, 1, 51, 172]
abbrev dktX0_count_5 : List UInt8 := dkwX0_count_5 ++ dktX0_count_6
def dkwX0_count_4 : List UInt8 := [42, 180, 0, 30, 180, 0, 90, 42, 180, 0, 30, 180, 0, 67, 184, 1, 46, 172, 42, 180, 0, 30]
abbrev dktX0_count_4 : List UInt8 := dkwX0_count_4 ++ dktX0_count_5
def dkwX0_count_3 : List UInt8 := [42, 180, 0, 30, 180, 0, 131, 172, 42, 180, 0, 30, 182, 1, 45, 172, 42, 180, 0, 30, 182, 0, 241, 172]
abbrev dktX0_count_3 : List UInt8 := dkwX0_count_3 ++ dktX0_count_4
def dkwX0_count_2 : List UInt8 := [42, 180, 0, 30, 180, 0, 67, 172, 42, 180, 0, 30, 180, 0, 70, 172, 42, 180, 0, 30, 180, 0, 128, 172]
abbrev dktX0_count_2 : List UInt8 := dkwX0_count_2 ++ dktX0_count_3
def dkwX0_count_1 : List UInt8 := [170, 0, 0, 0, 0, 0, 243, 0, 0, 0, 0, 0, 0, 0, 15, 0, 0, 0, 79, 0, 0, 0, 87, 0, 0, 0, 95, 0, 0, 0, 103, 0, 0, 0, 111, 0, 0, 0, 119, 0, 0, 0, 127, 0, 0, 0, 145, 0, 0, 0, 163, 0, 0, 0, 168, 0, 0, 0, 173, 0, 0, 0, 198, 0, 0, 0, 223, 0, 0, 0, 228, 0, 0, 0, 233, 0, 0, 0, 238]
abbrev dktX0_count_1 : List UInt8 := dkwX0_count_1 ++ dktX0_count_2
def dkwX0_count_0 : List UInt8 := [27]
abbrev dktX0_count_0 : List UInt8 := dkwX0_count_0 ++ dktX0_count_1
theorem dksX0_count_0 : cX0_count.data.toList.drop 0 = dktX0_count_0 := by decide +kernel
theorem dksX0_count_1 : cX0_count.data.toList.drop 1 = dktX0_count_1 := dk_seg dksX0_count_0 1 rfl rfl
theorem dksX0_count_2 : cX0_count.data.toList.drop 80 = dktX0_count_2 := dk_seg dksX0_count_1 79 rfl rfl
theorem dksX0_count_3 : cX0_count.data.toList.drop 104 = dktX0_count_3 := dk_seg dksX0_count_2 24 rfl rfl
theorem dksX0_count_4 : cX0_count.data.toList.drop 128 = dktX0_count_4 := dk_seg dksX0_count_3 24 rfl rfl
theorem dksX0_count_5 : cX0_count.data.toList.drop 150 = dktX0_count_5 := dk_seg dksX0_count_4 22 rfl rfl
theorem dksX0_count_6 : cX0_count.data.toList.drop 174 = dktX0_count_6 := dk_seg dksX0_count_5 24 rfl rfl
theorem dksX0_count_7 : cX0_count.data.toList.drop 198 = dktX0_count_7 := dk_seg dksX0_count_6 24 rfl rfl
theorem dksX0_count_8 : cX0_count.data.toList.drop 220 = dktX0_count_8 := dk_seg dksX0_count_7 22 rfl rfl
theorem dksX0_count_9 : cX0_count.data.toList.drop 244 = dktX0_count_9 := dk_seg dksX0_count_8 24 rfl rfl
theorem dX0_count_0 : decode cX0_count 0 = .ok (.iload_n 1, 1) := dk_27 (dk_at dksX0_count_0 0 rfl rfl)
theorem dX0_count_1 : decode cX0_count 1 = .ok (.tableswitch 243 0 15 #[79, 87, 95, 103, 111, 119, 127, 145, 163, 168, 173, 198, 223, 228, 233, 238], 79) := by decide +kernel
theorem dX0_count_80 : decode cX0_count 80 = .ok (.aload_n 0, 1) := dk_42 (dk_at dksX0_count_2 0 rfl rfl)
theorem dX0_count_81 : decode cX0_count 81 = .ok (.getfield 30, 3) := dk_180 0 30 (dk_at dksX0_count_2 1 rfl rfl)
theorem dX0_count_84 : decode cX0_count 84 = .ok (.getfield 67, 3) := dk_180 0 67 (dk_at dksX0_count_2 4 rfl rfl)
theorem dX0_count_87 : decode cX0_count 87 = .ok (.ireturn, 1) := dk_172 (dk_at dksX0_count_2 7 rfl rfl)
theorem dX0_count_88 : decode cX0_count 88 = .ok (.aload_n 0, 1) := dk_42 (dk_at dksX0_count_2 8 rfl rfl)
theorem dX0_count_89 : decode cX0_count 89 = .ok (.getfield 30, 3) := dk_180 0 30 (dk_at dksX0_count_2 9 rfl rfl)
theorem dX0_count_92 : decode cX0_count 92 = .ok (.getfield 70, 3) := dk_180 0 70 (dk_at dksX0_count_2 12 rfl rfl)
theorem dX0_count_95 : decode cX0_count 95 = .ok (.ireturn, 1) := dk_172 (dk_at dksX0_count_2 15 rfl rfl)
theorem dX0_count_96 : decode cX0_count 96 = .ok (.aload_n 0, 1) := dk_42 (dk_at dksX0_count_2 16 rfl rfl)
theorem dX0_count_97 : decode cX0_count 97 = .ok (.getfield 30, 3) := dk_180 0 30 (dk_at dksX0_count_2 17 rfl rfl)
theorem dX0_count_100 : decode cX0_count 100 = .ok (.getfield 128, 3) := dk_180 0 128 (dk_at dksX0_count_2 20 rfl rfl)
theorem dX0_count_103 : decode cX0_count 103 = .ok (.ireturn, 1) := dk_172 (dk_at dksX0_count_2 23 rfl rfl)
theorem dX0_count_104 : decode cX0_count 104 = .ok (.aload_n 0, 1) := dk_42 (dk_at dksX0_count_3 0 rfl rfl)
theorem dX0_count_105 : decode cX0_count 105 = .ok (.getfield 30, 3) := dk_180 0 30 (dk_at dksX0_count_3 1 rfl rfl)
theorem dX0_count_108 : decode cX0_count 108 = .ok (.getfield 131, 3) := dk_180 0 131 (dk_at dksX0_count_3 4 rfl rfl)
theorem dX0_count_111 : decode cX0_count 111 = .ok (.ireturn, 1) := dk_172 (dk_at dksX0_count_3 7 rfl rfl)
theorem dX0_count_112 : decode cX0_count 112 = .ok (.aload_n 0, 1) := dk_42 (dk_at dksX0_count_3 8 rfl rfl)
theorem dX0_count_113 : decode cX0_count 113 = .ok (.getfield 30, 3) := dk_180 0 30 (dk_at dksX0_count_3 9 rfl rfl)
theorem dX0_count_116 : decode cX0_count 116 = .ok (.invokevirtual 301, 3) := dk_182 1 45 (dk_at dksX0_count_3 12 rfl rfl)
theorem dX0_count_119 : decode cX0_count 119 = .ok (.ireturn, 1) := dk_172 (dk_at dksX0_count_3 15 rfl rfl)
theorem dX0_count_120 : decode cX0_count 120 = .ok (.aload_n 0, 1) := dk_42 (dk_at dksX0_count_3 16 rfl rfl)
theorem dX0_count_121 : decode cX0_count 121 = .ok (.getfield 30, 3) := dk_180 0 30 (dk_at dksX0_count_3 17 rfl rfl)
theorem dX0_count_124 : decode cX0_count 124 = .ok (.invokevirtual 241, 3) := dk_182 0 241 (dk_at dksX0_count_3 20 rfl rfl)
theorem dX0_count_127 : decode cX0_count 127 = .ok (.ireturn, 1) := dk_172 (dk_at dksX0_count_3 23 rfl rfl)
theorem dX0_count_128 : decode cX0_count 128 = .ok (.aload_n 0, 1) := dk_42 (dk_at dksX0_count_4 0 rfl rfl)
theorem dX0_count_129 : decode cX0_count 129 = .ok (.getfield 30, 3) := dk_180 0 30 (dk_at dksX0_count_4 1 rfl rfl)
theorem dX0_count_132 : decode cX0_count 132 = .ok (.getfield 90, 3) := dk_180 0 90 (dk_at dksX0_count_4 4 rfl rfl)
theorem dX0_count_135 : decode cX0_count 135 = .ok (.aload_n 0, 1) := dk_42 (dk_at dksX0_count_4 7 rfl rfl)
theorem dX0_count_136 : decode cX0_count 136 = .ok (.getfield 30, 3) := dk_180 0 30 (dk_at dksX0_count_4 8 rfl rfl)
theorem dX0_count_139 : decode cX0_count 139 = .ok (.getfield 67, 3) := dk_180 0 67 (dk_at dksX0_count_4 11 rfl rfl)
theorem dX0_count_142 : decode cX0_count 142 = .ok (.invokestatic 302, 3) := dk_184 1 46 (dk_at dksX0_count_4 14 rfl rfl)
theorem dX0_count_145 : decode cX0_count 145 = .ok (.ireturn, 1) := dk_172 (dk_at dksX0_count_4 17 rfl rfl)
theorem dX0_count_146 : decode cX0_count 146 = .ok (.aload_n 0, 1) := dk_42 (dk_at dksX0_count_4 18 rfl rfl)
theorem dX0_count_147 : decode cX0_count 147 = .ok (.getfield 30, 3) := dk_180 0 30 (dk_at dksX0_count_4 19 rfl rfl)
theorem dX0_count_150 : decode cX0_count 150 = .ok (.getfield 73, 3) := dk_180 0 73 (dk_at dksX0_count_5 0 rfl rfl)
theorem dX0_count_153 : decode cX0_count 153 = .ok (.aload_n 0, 1) := dk_42 (dk_at dksX0_count_5 3 rfl rfl)
theorem dX0_count_154 : decode cX0_count 154 = .ok (.getfield 30, 3) := dk_180 0 30 (dk_at dksX0_count_5 4 rfl rfl)
theorem dX0_count_157 : decode cX0_count 157 = .ok (.getfield 70, 3) := dk_180 0 70 (dk_at dksX0_count_5 7 rfl rfl)
theorem dX0_count_160 : decode cX0_count 160 = .ok (.invokestatic 302, 3) := dk_184 1 46 (dk_at dksX0_count_5 10 rfl rfl)
theorem dX0_count_163 : decode cX0_count 163 = .ok (.ireturn, 1) := dk_172 (dk_at dksX0_count_5 13 rfl rfl)
theorem dX0_count_164 : decode cX0_count 164 = .ok (.aload_n 0, 1) := dk_42 (dk_at dksX0_count_5 14 rfl rfl)
theorem dX0_count_165 : decode cX0_count 165 = .ok (.invokevirtual 306, 3) := dk_182 1 50 (dk_at dksX0_count_5 15 rfl rfl)
theorem dX0_count_168 : decode cX0_count 168 = .ok (.ireturn, 1) := dk_172 (dk_at dksX0_count_5 18 rfl rfl)
theorem dX0_count_169 : decode cX0_count 169 = .ok (.aload_n 0, 1) := dk_42 (dk_at dksX0_count_5 19 rfl rfl)
theorem dX0_count_170 : decode cX0_count 170 = .ok (.invokevirtual 307, 3) := dk_182 1 51 (dk_at dksX0_count_5 20 rfl rfl)
theorem dX0_count_173 : decode cX0_count 173 = .ok (.ireturn, 1) := dk_172 (dk_at dksX0_count_5 23 rfl rfl)
theorem dX0_count_174 : decode cX0_count 174 = .ok (.aload_n 0, 1) := dk_42 (dk_at dksX0_count_6 0 rfl rfl)
theorem dX0_count_175 : decode cX0_count 175 = .ok (.getfield 30, 3) := dk_180 0 30 (dk_at dksX0_count_6 1 rfl rfl)
theorem dX0_count_178 : decode cX0_count 178 = .ok (.getfield 90, 3) := dk_180 0 90 (dk_at dksX0_count_6 4 rfl rfl)
theorem dX0_count_181 : decode cX0_count 181 = .ok (.aload_n 0, 1) := dk_42 (dk_at dksX0_count_6 7 rfl rfl)
theorem dX0_count_182 : decode cX0_count 182 = .ok (.getfield 30, 3) := dk_180 0 30 (dk_at dksX0_count_6 8 rfl rfl)
theorem dX0_count_185 : decode cX0_count 185 = .ok (.getfield 67, 3) := dk_180 0 67 (dk_at dksX0_count_6 11 rfl rfl)
theorem dX0_count_188 : decode cX0_count 188 = .ok (.aload_n 0, 1) := dk_42 (dk_at dksX0_count_6 14 rfl rfl)
theorem dX0_count_189 : decode cX0_count 189 = .ok (.getfield 30, 3) := dk_180 0 30 (dk_at dksX0_count_6 15 rfl rfl)
theorem dX0_count_192 : decode cX0_count 192 = .ok (.getfield 128, 3) := dk_180 0 128 (dk_at dksX0_count_6 18 rfl rfl)
theorem dX0_count_195 : decode cX0_count 195 = .ok (.invokestatic 310, 3) := dk_184 1 54 (dk_at dksX0_count_6 21 rfl rfl)
theorem dX0_count_198 : decode cX0_count 198 = .ok (.ireturn, 1) := dk_172 (dk_at dksX0_count_7 0 rfl rfl)
theorem dX0_count_199 : decode cX0_count 199 = .ok (.aload_n 0, 1) := dk_42 (dk_at dksX0_count_7 1 rfl rfl)
theorem dX0_count_200 : decode cX0_count 200 = .ok (.getfield 30, 3) := dk_180 0 30 (dk_at dksX0_count_7 2 rfl rfl)
theorem dX0_count_203 : decode cX0_count 203 = .ok (.getfield 73, 3) := dk_180 0 73 (dk_at dksX0_count_7 5 rfl rfl)
theorem dX0_count_206 : decode cX0_count 206 = .ok (.aload_n 0, 1) := dk_42 (dk_at dksX0_count_7 8 rfl rfl)
theorem dX0_count_207 : decode cX0_count 207 = .ok (.getfield 30, 3) := dk_180 0 30 (dk_at dksX0_count_7 9 rfl rfl)
theorem dX0_count_210 : decode cX0_count 210 = .ok (.getfield 70, 3) := dk_180 0 70 (dk_at dksX0_count_7 12 rfl rfl)
theorem dX0_count_213 : decode cX0_count 213 = .ok (.aload_n 0, 1) := dk_42 (dk_at dksX0_count_7 15 rfl rfl)
theorem dX0_count_214 : decode cX0_count 214 = .ok (.getfield 30, 3) := dk_180 0 30 (dk_at dksX0_count_7 16 rfl rfl)
theorem dX0_count_217 : decode cX0_count 217 = .ok (.getfield 131, 3) := dk_180 0 131 (dk_at dksX0_count_7 19 rfl rfl)
theorem dX0_count_220 : decode cX0_count 220 = .ok (.invokestatic 310, 3) := dk_184 1 54 (dk_at dksX0_count_8 0 rfl rfl)
theorem dX0_count_223 : decode cX0_count 223 = .ok (.ireturn, 1) := dk_172 (dk_at dksX0_count_8 3 rfl rfl)
theorem dX0_count_224 : decode cX0_count 224 = .ok (.aload_n 0, 1) := dk_42 (dk_at dksX0_count_8 4 rfl rfl)
theorem dX0_count_225 : decode cX0_count 225 = .ok (.invokevirtual 314, 3) := dk_182 1 58 (dk_at dksX0_count_8 5 rfl rfl)
theorem dX0_count_228 : decode cX0_count 228 = .ok (.ireturn, 1) := dk_172 (dk_at dksX0_count_8 8 rfl rfl)
theorem dX0_count_229 : decode cX0_count 229 = .ok (.aload_n 0, 1) := dk_42 (dk_at dksX0_count_8 9 rfl rfl)
theorem dX0_count_230 : decode cX0_count 230 = .ok (.invokevirtual 317, 3) := dk_182 1 61 (dk_at dksX0_count_8 10 rfl rfl)
theorem dX0_count_233 : decode cX0_count 233 = .ok (.ireturn, 1) := dk_172 (dk_at dksX0_count_8 13 rfl rfl)
theorem dX0_count_234 : decode cX0_count 234 = .ok (.aload_n 0, 1) := dk_42 (dk_at dksX0_count_8 14 rfl rfl)
theorem dX0_count_235 : decode cX0_count 235 = .ok (.getfield 1, 3) := dk_180 0 1 (dk_at dksX0_count_8 15 rfl rfl)
theorem dX0_count_238 : decode cX0_count 238 = .ok (.ireturn, 1) := dk_172 (dk_at dksX0_count_8 18 rfl rfl)
theorem dX0_count_239 : decode cX0_count 239 = .ok (.aload_n 0, 1) := dk_42 (dk_at dksX0_count_8 19 rfl rfl)
theorem dX0_count_240 : decode cX0_count 240 = .ok (.getfield 136, 3) := dk_180 0 136 (dk_at dksX0_count_8 20 rfl rfl)
theorem dX0_count_243 : decode cX0_count 243 = .ok (.ireturn, 1) := dk_172 (dk_at dksX0_count_8 23 rfl rfl)
theorem dX0_count_244 : decode cX0_count 244 = .ok (.bipush (-3), 2) := dk_16 253 (dk_at dksX0_count_9 0 rfl rfl)
theorem dX0_count_246 : decode cX0_count 246 = .ok (.ireturn, 1) := dk_172 (dk_at dksX0_count_9 2 rfl rfl)
abbrev cX0_repeat : ByteArray := prog_1_method_51_code
def yX0_repeat : MethodName := ⟨RX0, "repeat", "([LWeaveDraft$Look;I)I"⟩
def dkwX0_repeat_0 : List UInt8 := [4, 61, 42, 27, 28, 184, 1, 32, 154, 0, 9, 132, 2, 1, 167, 255, 244, 28, 172]
abbrev dktX0_repeat_0 : List UInt8 := dkwX0_repeat_0 ++ []
theorem dksX0_repeat_0 : cX0_repeat.data.toList.drop 0 = dktX0_repeat_0 := by decide +kernel
theorem dX0_repeat_0 : decode cX0_repeat 0 = .ok (.iconst 1, 1) := dk_4 (dk_at dksX0_repeat_0 0 rfl rfl)
theorem dX0_repeat_1 : decode cX0_repeat 1 = .ok (.istore_n 2, 1) := dk_61 (dk_at dksX0_repeat_0 1 rfl rfl)
theorem dX0_repeat_2 : decode cX0_repeat 2 = .ok (.aload_n 0, 1) := dk_42 (dk_at dksX0_repeat_0 2 rfl rfl)
theorem dX0_repeat_3 : decode cX0_repeat 3 = .ok (.iload_n 1, 1) := dk_27 (dk_at dksX0_repeat_0 3 rfl rfl)
theorem dX0_repeat_4 : decode cX0_repeat 4 = .ok (.iload_n 2, 1) := dk_28 (dk_at dksX0_repeat_0 4 rfl rfl)
theorem dX0_repeat_5 : decode cX0_repeat 5 = .ok (.invokestatic 288, 3) := dk_184 1 32 (dk_at dksX0_repeat_0 5 rfl rfl)
theorem dX0_repeat_8 : decode cX0_repeat 8 = .ok (.ifCond .ne 9, 3) := dk_154 0 9 (dk_at dksX0_repeat_0 8 rfl rfl)
theorem dX0_repeat_11 : decode cX0_repeat 11 = .ok (.iinc 2 1, 3) := dk_132 2 1 (dk_at dksX0_repeat_0 11 rfl rfl)
theorem dX0_repeat_14 : decode cX0_repeat 14 = .ok (.goto (-12), 3) := dk_167 255 244 (dk_at dksX0_repeat_0 14 rfl rfl)
theorem dX0_repeat_17 : decode cX0_repeat 17 = .ok (.iload_n 2, 1) := dk_28 (dk_at dksX0_repeat_0 17 rfl rfl)
theorem dX0_repeat_18 : decode cX0_repeat 18 = .ok (.ireturn, 1) := dk_172 (dk_at dksX0_repeat_0 18 rfl rfl)
abbrev cX0_isRepeat : ByteArray := prog_1_method_52_code
def yX0_isRepeat : MethodName := ⟨RX0, "isRepeat", "([LWeaveDraft$Look;II)Z"⟩
def dkwX0_isRepeat_2 : List UInt8 := [62, 132, 4, 1, 167, 255, 212, 29, 172]
abbrev dktX0_isRepeat_2 : List UInt8 := dkwX0_isRepeat_2 ++ []
def dkwX0_isRepeat_1 : List UInt8 := [185, 1, 36, 1, 0, 42, 21, 4, 28, 96, 50, 185, 1, 36, 1, 0, 160, 0, 7, 4, 167, 0, 4, 3]
abbrev dktX0_isRepeat_1 : List UInt8 := dkwX0_isRepeat_1 ++ dktX0_isRepeat_2
def dkwX0_isRepeat_0 : List UInt8 := [4, 62, 3, 54, 4, 21, 4, 28, 96, 27, 162, 0, 42, 29, 153, 0, 30, 42, 21, 4, 50]
abbrev dktX0_isRepeat_0 : List UInt8 := dkwX0_isRepeat_0 ++ dktX0_isRepeat_1
theorem dksX0_isRepeat_0 : cX0_isRepeat.data.toList.drop 0 = dktX0_isRepeat_0 := by decide +kernel
theorem dksX0_isRepeat_1 : cX0_isRepeat.data.toList.drop 21 = dktX0_isRepeat_1 := dk_seg dksX0_isRepeat_0 21 rfl rfl
theorem dksX0_isRepeat_2 : cX0_isRepeat.data.toList.drop 45 = dktX0_isRepeat_2 := dk_seg dksX0_isRepeat_1 24 rfl rfl
theorem dX0_isRepeat_0 : decode cX0_isRepeat 0 = .ok (.iconst 1, 1) := dk_4 (dk_at dksX0_isRepeat_0 0 rfl rfl)
theorem dX0_isRepeat_1 : decode cX0_isRepeat 1 = .ok (.istore_n 3, 1) := dk_62 (dk_at dksX0_isRepeat_0 1 rfl rfl)
theorem dX0_isRepeat_2 : decode cX0_isRepeat 2 = .ok (.iconst 0, 1) := dk_3 (dk_at dksX0_isRepeat_0 2 rfl rfl)
theorem dX0_isRepeat_3 : decode cX0_isRepeat 3 = .ok (.istore 4, 2) := dk_54 4 (dk_at dksX0_isRepeat_0 3 rfl rfl)
theorem dX0_isRepeat_5 : decode cX0_isRepeat 5 = .ok (.iload 4, 2) := dk_21 4 (dk_at dksX0_isRepeat_0 5 rfl rfl)
theorem dX0_isRepeat_7 : decode cX0_isRepeat 7 = .ok (.iload_n 2, 1) := dk_28 (dk_at dksX0_isRepeat_0 7 rfl rfl)
theorem dX0_isRepeat_8 : decode cX0_isRepeat 8 = .ok (.iadd, 1) := dk_96 (dk_at dksX0_isRepeat_0 8 rfl rfl)
theorem dX0_isRepeat_9 : decode cX0_isRepeat 9 = .ok (.iload_n 1, 1) := dk_27 (dk_at dksX0_isRepeat_0 9 rfl rfl)
theorem dX0_isRepeat_10 : decode cX0_isRepeat 10 = .ok (.if_icmp .ge 42, 3) := dk_162 0 42 (dk_at dksX0_isRepeat_0 10 rfl rfl)
theorem dX0_isRepeat_13 : decode cX0_isRepeat 13 = .ok (.iload_n 3, 1) := dk_29 (dk_at dksX0_isRepeat_0 13 rfl rfl)
theorem dX0_isRepeat_14 : decode cX0_isRepeat 14 = .ok (.ifCond .eq 30, 3) := dk_153 0 30 (dk_at dksX0_isRepeat_0 14 rfl rfl)
theorem dX0_isRepeat_17 : decode cX0_isRepeat 17 = .ok (.aload_n 0, 1) := dk_42 (dk_at dksX0_isRepeat_0 17 rfl rfl)
theorem dX0_isRepeat_18 : decode cX0_isRepeat 18 = .ok (.iload 4, 2) := dk_21 4 (dk_at dksX0_isRepeat_0 18 rfl rfl)
theorem dX0_isRepeat_20 : decode cX0_isRepeat 20 = .ok (.aaload, 1) := dk_50 (dk_at dksX0_isRepeat_0 20 rfl rfl)
theorem dX0_isRepeat_21 : decode cX0_isRepeat 21 = .ok (.invokeinterface 292 1, 5) := by decide +kernel
theorem dX0_isRepeat_26 : decode cX0_isRepeat 26 = .ok (.aload_n 0, 1) := dk_42 (dk_at dksX0_isRepeat_1 5 rfl rfl)
theorem dX0_isRepeat_27 : decode cX0_isRepeat 27 = .ok (.iload 4, 2) := dk_21 4 (dk_at dksX0_isRepeat_1 6 rfl rfl)
theorem dX0_isRepeat_29 : decode cX0_isRepeat 29 = .ok (.iload_n 2, 1) := dk_28 (dk_at dksX0_isRepeat_1 8 rfl rfl)
theorem dX0_isRepeat_30 : decode cX0_isRepeat 30 = .ok (.iadd, 1) := dk_96 (dk_at dksX0_isRepeat_1 9 rfl rfl)
theorem dX0_isRepeat_31 : decode cX0_isRepeat 31 = .ok (.aaload, 1) := dk_50 (dk_at dksX0_isRepeat_1 10 rfl rfl)
theorem dX0_isRepeat_32 : decode cX0_isRepeat 32 = .ok (.invokeinterface 292 1, 5) := by decide +kernel
theorem dX0_isRepeat_37 : decode cX0_isRepeat 37 = .ok (.if_icmp .ne 7, 3) := dk_160 0 7 (dk_at dksX0_isRepeat_1 16 rfl rfl)
theorem dX0_isRepeat_40 : decode cX0_isRepeat 40 = .ok (.iconst 1, 1) := dk_4 (dk_at dksX0_isRepeat_1 19 rfl rfl)
theorem dX0_isRepeat_41 : decode cX0_isRepeat 41 = .ok (.goto 4, 3) := dk_167 0 4 (dk_at dksX0_isRepeat_1 20 rfl rfl)
theorem dX0_isRepeat_44 : decode cX0_isRepeat 44 = .ok (.iconst 0, 1) := dk_3 (dk_at dksX0_isRepeat_1 23 rfl rfl)
theorem dX0_isRepeat_45 : decode cX0_isRepeat 45 = .ok (.istore_n 3, 1) := dk_62 (dk_at dksX0_isRepeat_2 0 rfl rfl)
theorem dX0_isRepeat_46 : decode cX0_isRepeat 46 = .ok (.iinc 4 1, 3) := dk_132 4 1 (dk_at dksX0_isRepeat_2 1 rfl rfl)
theorem dX0_isRepeat_49 : decode cX0_isRepeat 49 = .ok (.goto (-44), 3) := dk_167 255 212 (dk_at dksX0_isRepeat_2 4 rfl rfl)
theorem dX0_isRepeat_52 : decode cX0_isRepeat 52 = .ok (.iload_n 3, 1) := dk_29 (dk_at dksX0_isRepeat_2 7 rfl rfl)
theorem dX0_isRepeat_53 : decode cX0_isRepeat 53 = .ok (.ireturn, 1) := dk_172 (dk_at dksX0_isRepeat_2 8 rfl rfl)
abbrev cX0_stitches : ByteArray := prog_1_method_53_code
def yX0_stitches : MethodName := ⟨RX0, "stitches", "()I"⟩
def dkwX0_stitches_1 : List UInt8 := [50, 182, 0, 185, 96, 60, 132, 2, 1, 167, 255, 227, 27, 172]
abbrev dktX0_stitches_1 : List UInt8 := dkwX0_stitches_1 ++ []
def dkwX0_stitches_0 : List UInt8 := [3, 60, 3, 61, 28, 42, 180, 0, 30, 180, 0, 70, 162, 0, 24, 27, 42, 180, 0, 30, 180, 0, 73, 28]
abbrev dktX0_stitches_0 : List UInt8 := dkwX0_stitches_0 ++ dktX0_stitches_1
theorem dksX0_stitches_0 : cX0_stitches.data.toList.drop 0 = dktX0_stitches_0 := by decide +kernel
theorem dksX0_stitches_1 : cX0_stitches.data.toList.drop 24 = dktX0_stitches_1 := dk_seg dksX0_stitches_0 24 rfl rfl
theorem dX0_stitches_0 : decode cX0_stitches 0 = .ok (.iconst 0, 1) := dk_3 (dk_at dksX0_stitches_0 0 rfl rfl)
theorem dX0_stitches_1 : decode cX0_stitches 1 = .ok (.istore_n 1, 1) := dk_60 (dk_at dksX0_stitches_0 1 rfl rfl)
theorem dX0_stitches_2 : decode cX0_stitches 2 = .ok (.iconst 0, 1) := dk_3 (dk_at dksX0_stitches_0 2 rfl rfl)
theorem dX0_stitches_3 : decode cX0_stitches 3 = .ok (.istore_n 2, 1) := dk_61 (dk_at dksX0_stitches_0 3 rfl rfl)
theorem dX0_stitches_4 : decode cX0_stitches 4 = .ok (.iload_n 2, 1) := dk_28 (dk_at dksX0_stitches_0 4 rfl rfl)
theorem dX0_stitches_5 : decode cX0_stitches 5 = .ok (.aload_n 0, 1) := dk_42 (dk_at dksX0_stitches_0 5 rfl rfl)
theorem dX0_stitches_6 : decode cX0_stitches 6 = .ok (.getfield 30, 3) := dk_180 0 30 (dk_at dksX0_stitches_0 6 rfl rfl)
theorem dX0_stitches_9 : decode cX0_stitches 9 = .ok (.getfield 70, 3) := dk_180 0 70 (dk_at dksX0_stitches_0 9 rfl rfl)
theorem dX0_stitches_12 : decode cX0_stitches 12 = .ok (.if_icmp .ge 24, 3) := dk_162 0 24 (dk_at dksX0_stitches_0 12 rfl rfl)
theorem dX0_stitches_15 : decode cX0_stitches 15 = .ok (.iload_n 1, 1) := dk_27 (dk_at dksX0_stitches_0 15 rfl rfl)
theorem dX0_stitches_16 : decode cX0_stitches 16 = .ok (.aload_n 0, 1) := dk_42 (dk_at dksX0_stitches_0 16 rfl rfl)
theorem dX0_stitches_17 : decode cX0_stitches 17 = .ok (.getfield 30, 3) := dk_180 0 30 (dk_at dksX0_stitches_0 17 rfl rfl)
theorem dX0_stitches_20 : decode cX0_stitches 20 = .ok (.getfield 73, 3) := dk_180 0 73 (dk_at dksX0_stitches_0 20 rfl rfl)
theorem dX0_stitches_23 : decode cX0_stitches 23 = .ok (.iload_n 2, 1) := dk_28 (dk_at dksX0_stitches_0 23 rfl rfl)
theorem dX0_stitches_24 : decode cX0_stitches 24 = .ok (.aaload, 1) := dk_50 (dk_at dksX0_stitches_1 0 rfl rfl)
theorem dX0_stitches_25 : decode cX0_stitches 25 = .ok (.invokevirtual 185, 3) := dk_182 0 185 (dk_at dksX0_stitches_1 1 rfl rfl)
theorem dX0_stitches_28 : decode cX0_stitches 28 = .ok (.iadd, 1) := dk_96 (dk_at dksX0_stitches_1 4 rfl rfl)
theorem dX0_stitches_29 : decode cX0_stitches 29 = .ok (.istore_n 1, 1) := dk_60 (dk_at dksX0_stitches_1 5 rfl rfl)
theorem dX0_stitches_30 : decode cX0_stitches 30 = .ok (.iinc 2 1, 3) := dk_132 2 1 (dk_at dksX0_stitches_1 6 rfl rfl)
theorem dX0_stitches_33 : decode cX0_stitches 33 = .ok (.goto (-29), 3) := dk_167 255 227 (dk_at dksX0_stitches_1 9 rfl rfl)
theorem dX0_stitches_36 : decode cX0_stitches 36 = .ok (.iload_n 1, 1) := dk_27 (dk_at dksX0_stitches_1 12 rfl rfl)
theorem dX0_stitches_37 : decode cX0_stitches 37 = .ok (.ireturn, 1) := dk_172 (dk_at dksX0_stitches_1 13 rfl rfl)
abbrev cX0_alike : ByteArray := prog_1_method_55_code
def yX0_alike : MethodName := ⟨RX0, "alike", "()I"⟩
def dkwX0_alike_2 : List UInt8 := [132, 3, 1, 167, 255, 225, 132, 2, 1, 167, 255, 204, 27, 172]
abbrev dktX0_alike_2 : List UInt8 := dkwX0_alike_2 ++ []
def dkwX0_alike_1 : List UInt8 := [180, 0, 128, 162, 0, 26, 27, 42, 28, 29, 182, 1, 39, 153, 0, 7, 4, 167, 0, 4, 3, 96, 60]
abbrev dktX0_alike_1 : List UInt8 := dkwX0_alike_1 ++ dktX0_alike_2
def dkwX0_alike_0 : List UInt8 := [3, 60, 3, 61, 28, 42, 180, 0, 30, 180, 0, 128, 162, 0, 47, 28, 4, 96, 62, 29, 42, 180, 0, 30]
abbrev dktX0_alike_0 : List UInt8 := dkwX0_alike_0 ++ dktX0_alike_1
theorem dksX0_alike_0 : cX0_alike.data.toList.drop 0 = dktX0_alike_0 := by decide +kernel
theorem dksX0_alike_1 : cX0_alike.data.toList.drop 24 = dktX0_alike_1 := dk_seg dksX0_alike_0 24 rfl rfl
theorem dksX0_alike_2 : cX0_alike.data.toList.drop 47 = dktX0_alike_2 := dk_seg dksX0_alike_1 23 rfl rfl
theorem dX0_alike_0 : decode cX0_alike 0 = .ok (.iconst 0, 1) := dk_3 (dk_at dksX0_alike_0 0 rfl rfl)
theorem dX0_alike_1 : decode cX0_alike 1 = .ok (.istore_n 1, 1) := dk_60 (dk_at dksX0_alike_0 1 rfl rfl)
theorem dX0_alike_2 : decode cX0_alike 2 = .ok (.iconst 0, 1) := dk_3 (dk_at dksX0_alike_0 2 rfl rfl)
theorem dX0_alike_3 : decode cX0_alike 3 = .ok (.istore_n 2, 1) := dk_61 (dk_at dksX0_alike_0 3 rfl rfl)
theorem dX0_alike_4 : decode cX0_alike 4 = .ok (.iload_n 2, 1) := dk_28 (dk_at dksX0_alike_0 4 rfl rfl)
theorem dX0_alike_5 : decode cX0_alike 5 = .ok (.aload_n 0, 1) := dk_42 (dk_at dksX0_alike_0 5 rfl rfl)
theorem dX0_alike_6 : decode cX0_alike 6 = .ok (.getfield 30, 3) := dk_180 0 30 (dk_at dksX0_alike_0 6 rfl rfl)
theorem dX0_alike_9 : decode cX0_alike 9 = .ok (.getfield 128, 3) := dk_180 0 128 (dk_at dksX0_alike_0 9 rfl rfl)
theorem dX0_alike_12 : decode cX0_alike 12 = .ok (.if_icmp .ge 47, 3) := dk_162 0 47 (dk_at dksX0_alike_0 12 rfl rfl)
theorem dX0_alike_15 : decode cX0_alike 15 = .ok (.iload_n 2, 1) := dk_28 (dk_at dksX0_alike_0 15 rfl rfl)
theorem dX0_alike_16 : decode cX0_alike 16 = .ok (.iconst 1, 1) := dk_4 (dk_at dksX0_alike_0 16 rfl rfl)
theorem dX0_alike_17 : decode cX0_alike 17 = .ok (.iadd, 1) := dk_96 (dk_at dksX0_alike_0 17 rfl rfl)
theorem dX0_alike_18 : decode cX0_alike 18 = .ok (.istore_n 3, 1) := dk_62 (dk_at dksX0_alike_0 18 rfl rfl)
theorem dX0_alike_19 : decode cX0_alike 19 = .ok (.iload_n 3, 1) := dk_29 (dk_at dksX0_alike_0 19 rfl rfl)
theorem dX0_alike_20 : decode cX0_alike 20 = .ok (.aload_n 0, 1) := dk_42 (dk_at dksX0_alike_0 20 rfl rfl)
theorem dX0_alike_21 : decode cX0_alike 21 = .ok (.getfield 30, 3) := dk_180 0 30 (dk_at dksX0_alike_0 21 rfl rfl)
theorem dX0_alike_24 : decode cX0_alike 24 = .ok (.getfield 128, 3) := dk_180 0 128 (dk_at dksX0_alike_1 0 rfl rfl)
theorem dX0_alike_27 : decode cX0_alike 27 = .ok (.if_icmp .ge 26, 3) := dk_162 0 26 (dk_at dksX0_alike_1 3 rfl rfl)
theorem dX0_alike_30 : decode cX0_alike 30 = .ok (.iload_n 1, 1) := dk_27 (dk_at dksX0_alike_1 6 rfl rfl)
theorem dX0_alike_31 : decode cX0_alike 31 = .ok (.aload_n 0, 1) := dk_42 (dk_at dksX0_alike_1 7 rfl rfl)
theorem dX0_alike_32 : decode cX0_alike 32 = .ok (.iload_n 2, 1) := dk_28 (dk_at dksX0_alike_1 8 rfl rfl)
theorem dX0_alike_33 : decode cX0_alike 33 = .ok (.iload_n 3, 1) := dk_29 (dk_at dksX0_alike_1 9 rfl rfl)
theorem dX0_alike_34 : decode cX0_alike 34 = .ok (.invokevirtual 295, 3) := dk_182 1 39 (dk_at dksX0_alike_1 10 rfl rfl)
theorem dX0_alike_37 : decode cX0_alike 37 = .ok (.ifCond .eq 7, 3) := dk_153 0 7 (dk_at dksX0_alike_1 13 rfl rfl)
theorem dX0_alike_40 : decode cX0_alike 40 = .ok (.iconst 1, 1) := dk_4 (dk_at dksX0_alike_1 16 rfl rfl)
theorem dX0_alike_41 : decode cX0_alike 41 = .ok (.goto 4, 3) := dk_167 0 4 (dk_at dksX0_alike_1 17 rfl rfl)
theorem dX0_alike_44 : decode cX0_alike 44 = .ok (.iconst 0, 1) := dk_3 (dk_at dksX0_alike_1 20 rfl rfl)
theorem dX0_alike_45 : decode cX0_alike 45 = .ok (.iadd, 1) := dk_96 (dk_at dksX0_alike_1 21 rfl rfl)
theorem dX0_alike_46 : decode cX0_alike 46 = .ok (.istore_n 1, 1) := dk_60 (dk_at dksX0_alike_1 22 rfl rfl)
theorem dX0_alike_47 : decode cX0_alike 47 = .ok (.iinc 3 1, 3) := dk_132 3 1 (dk_at dksX0_alike_2 0 rfl rfl)
theorem dX0_alike_50 : decode cX0_alike 50 = .ok (.goto (-31), 3) := dk_167 255 225 (dk_at dksX0_alike_2 3 rfl rfl)
theorem dX0_alike_53 : decode cX0_alike 53 = .ok (.iinc 2 1, 3) := dk_132 2 1 (dk_at dksX0_alike_2 6 rfl rfl)
theorem dX0_alike_56 : decode cX0_alike 56 = .ok (.goto (-52), 3) := dk_167 255 204 (dk_at dksX0_alike_2 9 rfl rfl)
theorem dX0_alike_59 : decode cX0_alike 59 = .ok (.iload_n 1, 1) := dk_27 (dk_at dksX0_alike_2 12 rfl rfl)
theorem dX0_alike_60 : decode cX0_alike 60 = .ok (.ireturn, 1) := dk_172 (dk_at dksX0_alike_2 13 rfl rfl)
abbrev cX0_areAlike : ByteArray := prog_1_method_54_code
def yX0_areAlike : MethodName := ⟨RX0, "areAlike", "(II)Z"⟩
def dkwX0_areAlike_2 : List UInt8 := [184, 0, 219, 160, 0, 7, 4, 167, 0, 4, 3, 62, 132, 4, 1, 167, 255, 200, 29, 172]
abbrev dktX0_areAlike_2 : List UInt8 := dkwX0_areAlike_2 ++ []
def dkwX0_areAlike_1 : List UInt8 := [180, 0, 30, 180, 0, 99, 21, 4, 46, 27, 184, 0, 219, 42, 180, 0, 30, 180, 0, 99, 21, 4, 46, 28]
abbrev dktX0_areAlike_1 : List UInt8 := dkwX0_areAlike_1 ++ dktX0_areAlike_2
def dkwX0_areAlike_0 : List UInt8 := [4, 62, 3, 54, 4, 21, 4, 42, 180, 0, 30, 180, 0, 131, 162, 0, 50, 29, 153, 0, 38, 42]
abbrev dktX0_areAlike_0 : List UInt8 := dkwX0_areAlike_0 ++ dktX0_areAlike_1
theorem dksX0_areAlike_0 : cX0_areAlike.data.toList.drop 0 = dktX0_areAlike_0 := by decide +kernel
theorem dksX0_areAlike_1 : cX0_areAlike.data.toList.drop 22 = dktX0_areAlike_1 := dk_seg dksX0_areAlike_0 22 rfl rfl
theorem dksX0_areAlike_2 : cX0_areAlike.data.toList.drop 46 = dktX0_areAlike_2 := dk_seg dksX0_areAlike_1 24 rfl rfl
theorem dX0_areAlike_0 : decode cX0_areAlike 0 = .ok (.iconst 1, 1) := dk_4 (dk_at dksX0_areAlike_0 0 rfl rfl)
theorem dX0_areAlike_1 : decode cX0_areAlike 1 = .ok (.istore_n 3, 1) := dk_62 (dk_at dksX0_areAlike_0 1 rfl rfl)
theorem dX0_areAlike_2 : decode cX0_areAlike 2 = .ok (.iconst 0, 1) := dk_3 (dk_at dksX0_areAlike_0 2 rfl rfl)
theorem dX0_areAlike_3 : decode cX0_areAlike 3 = .ok (.istore 4, 2) := dk_54 4 (dk_at dksX0_areAlike_0 3 rfl rfl)
theorem dX0_areAlike_5 : decode cX0_areAlike 5 = .ok (.iload 4, 2) := dk_21 4 (dk_at dksX0_areAlike_0 5 rfl rfl)
theorem dX0_areAlike_7 : decode cX0_areAlike 7 = .ok (.aload_n 0, 1) := dk_42 (dk_at dksX0_areAlike_0 7 rfl rfl)
theorem dX0_areAlike_8 : decode cX0_areAlike 8 = .ok (.getfield 30, 3) := dk_180 0 30 (dk_at dksX0_areAlike_0 8 rfl rfl)
theorem dX0_areAlike_11 : decode cX0_areAlike 11 = .ok (.getfield 131, 3) := dk_180 0 131 (dk_at dksX0_areAlike_0 11 rfl rfl)
theorem dX0_areAlike_14 : decode cX0_areAlike 14 = .ok (.if_icmp .ge 50, 3) := dk_162 0 50 (dk_at dksX0_areAlike_0 14 rfl rfl)
theorem dX0_areAlike_17 : decode cX0_areAlike 17 = .ok (.iload_n 3, 1) := dk_29 (dk_at dksX0_areAlike_0 17 rfl rfl)
theorem dX0_areAlike_18 : decode cX0_areAlike 18 = .ok (.ifCond .eq 38, 3) := dk_153 0 38 (dk_at dksX0_areAlike_0 18 rfl rfl)
theorem dX0_areAlike_21 : decode cX0_areAlike 21 = .ok (.aload_n 0, 1) := dk_42 (dk_at dksX0_areAlike_0 21 rfl rfl)
theorem dX0_areAlike_22 : decode cX0_areAlike 22 = .ok (.getfield 30, 3) := dk_180 0 30 (dk_at dksX0_areAlike_1 0 rfl rfl)
theorem dX0_areAlike_25 : decode cX0_areAlike 25 = .ok (.getfield 99, 3) := dk_180 0 99 (dk_at dksX0_areAlike_1 3 rfl rfl)
theorem dX0_areAlike_28 : decode cX0_areAlike 28 = .ok (.iload 4, 2) := dk_21 4 (dk_at dksX0_areAlike_1 6 rfl rfl)
theorem dX0_areAlike_30 : decode cX0_areAlike 30 = .ok (.iaload, 1) := dk_46 (dk_at dksX0_areAlike_1 8 rfl rfl)
theorem dX0_areAlike_31 : decode cX0_areAlike 31 = .ok (.iload_n 1, 1) := dk_27 (dk_at dksX0_areAlike_1 9 rfl rfl)
theorem dX0_areAlike_32 : decode cX0_areAlike 32 = .ok (.invokestatic 219, 3) := dk_184 0 219 (dk_at dksX0_areAlike_1 10 rfl rfl)
theorem dX0_areAlike_35 : decode cX0_areAlike 35 = .ok (.aload_n 0, 1) := dk_42 (dk_at dksX0_areAlike_1 13 rfl rfl)
theorem dX0_areAlike_36 : decode cX0_areAlike 36 = .ok (.getfield 30, 3) := dk_180 0 30 (dk_at dksX0_areAlike_1 14 rfl rfl)
theorem dX0_areAlike_39 : decode cX0_areAlike 39 = .ok (.getfield 99, 3) := dk_180 0 99 (dk_at dksX0_areAlike_1 17 rfl rfl)
theorem dX0_areAlike_42 : decode cX0_areAlike 42 = .ok (.iload 4, 2) := dk_21 4 (dk_at dksX0_areAlike_1 20 rfl rfl)
theorem dX0_areAlike_44 : decode cX0_areAlike 44 = .ok (.iaload, 1) := dk_46 (dk_at dksX0_areAlike_1 22 rfl rfl)
theorem dX0_areAlike_45 : decode cX0_areAlike 45 = .ok (.iload_n 2, 1) := dk_28 (dk_at dksX0_areAlike_1 23 rfl rfl)
theorem dX0_areAlike_46 : decode cX0_areAlike 46 = .ok (.invokestatic 219, 3) := dk_184 0 219 (dk_at dksX0_areAlike_2 0 rfl rfl)
theorem dX0_areAlike_49 : decode cX0_areAlike 49 = .ok (.if_icmp .ne 7, 3) := dk_160 0 7 (dk_at dksX0_areAlike_2 3 rfl rfl)
theorem dX0_areAlike_52 : decode cX0_areAlike 52 = .ok (.iconst 1, 1) := dk_4 (dk_at dksX0_areAlike_2 6 rfl rfl)
theorem dX0_areAlike_53 : decode cX0_areAlike 53 = .ok (.goto 4, 3) := dk_167 0 4 (dk_at dksX0_areAlike_2 7 rfl rfl)
theorem dX0_areAlike_56 : decode cX0_areAlike 56 = .ok (.iconst 0, 1) := dk_3 (dk_at dksX0_areAlike_2 10 rfl rfl)
theorem dX0_areAlike_57 : decode cX0_areAlike 57 = .ok (.istore_n 3, 1) := dk_62 (dk_at dksX0_areAlike_2 11 rfl rfl)
theorem dX0_areAlike_58 : decode cX0_areAlike 58 = .ok (.iinc 4 1, 3) := dk_132 4 1 (dk_at dksX0_areAlike_2 12 rfl rfl)
theorem dX0_areAlike_61 : decode cX0_areAlike 61 = .ok (.goto (-56), 3) := dk_167 255 200 (dk_at dksX0_areAlike_2 15 rfl rfl)
theorem dX0_areAlike_64 : decode cX0_areAlike 64 = .ok (.iload_n 3, 1) := dk_29 (dk_at dksX0_areAlike_2 18 rfl rfl)
theorem dX0_areAlike_65 : decode cX0_areAlike 65 = .ok (.ireturn, 1) := dk_172 (dk_at dksX0_areAlike_2 19 rfl rfl)
abbrev cX0_idle : ByteArray := prog_1_method_56_code
def yX0_idle : MethodName := ⟨RX0, "idle", "([LWeaveDraft$Strand;II)I"⟩
def dkwX0_idle_1 : List UInt8 := [120, 2, 130, 126, 62, 132, 4, 1, 167, 255, 233, 29, 172]
abbrev dktX0_idle_1 : List UInt8 := dkwX0_idle_1 ++ []
def dkwX0_idle_0 : List UInt8 := [4, 28, 120, 4, 100, 62, 3, 54, 4, 21, 4, 27, 162, 0, 23, 29, 4, 42, 21, 4, 50, 180, 0, 161]
abbrev dktX0_idle_0 : List UInt8 := dkwX0_idle_0 ++ dktX0_idle_1
theorem dksX0_idle_0 : cX0_idle.data.toList.drop 0 = dktX0_idle_0 := by decide +kernel
theorem dksX0_idle_1 : cX0_idle.data.toList.drop 24 = dktX0_idle_1 := dk_seg dksX0_idle_0 24 rfl rfl
theorem dX0_idle_0 : decode cX0_idle 0 = .ok (.iconst 1, 1) := dk_4 (dk_at dksX0_idle_0 0 rfl rfl)
theorem dX0_idle_1 : decode cX0_idle 1 = .ok (.iload_n 2, 1) := dk_28 (dk_at dksX0_idle_0 1 rfl rfl)
theorem dX0_idle_2 : decode cX0_idle 2 = .ok (.ishl, 1) := dk_120 (dk_at dksX0_idle_0 2 rfl rfl)
theorem dX0_idle_3 : decode cX0_idle 3 = .ok (.iconst 1, 1) := dk_4 (dk_at dksX0_idle_0 3 rfl rfl)
theorem dX0_idle_4 : decode cX0_idle 4 = .ok (.isub, 1) := dk_100 (dk_at dksX0_idle_0 4 rfl rfl)
theorem dX0_idle_5 : decode cX0_idle 5 = .ok (.istore_n 3, 1) := dk_62 (dk_at dksX0_idle_0 5 rfl rfl)
theorem dX0_idle_6 : decode cX0_idle 6 = .ok (.iconst 0, 1) := dk_3 (dk_at dksX0_idle_0 6 rfl rfl)
theorem dX0_idle_7 : decode cX0_idle 7 = .ok (.istore 4, 2) := dk_54 4 (dk_at dksX0_idle_0 7 rfl rfl)
theorem dX0_idle_9 : decode cX0_idle 9 = .ok (.iload 4, 2) := dk_21 4 (dk_at dksX0_idle_0 9 rfl rfl)
theorem dX0_idle_11 : decode cX0_idle 11 = .ok (.iload_n 1, 1) := dk_27 (dk_at dksX0_idle_0 11 rfl rfl)
theorem dX0_idle_12 : decode cX0_idle 12 = .ok (.if_icmp .ge 23, 3) := dk_162 0 23 (dk_at dksX0_idle_0 12 rfl rfl)
theorem dX0_idle_15 : decode cX0_idle 15 = .ok (.iload_n 3, 1) := dk_29 (dk_at dksX0_idle_0 15 rfl rfl)
theorem dX0_idle_16 : decode cX0_idle 16 = .ok (.iconst 1, 1) := dk_4 (dk_at dksX0_idle_0 16 rfl rfl)
theorem dX0_idle_17 : decode cX0_idle 17 = .ok (.aload_n 0, 1) := dk_42 (dk_at dksX0_idle_0 17 rfl rfl)
theorem dX0_idle_18 : decode cX0_idle 18 = .ok (.iload 4, 2) := dk_21 4 (dk_at dksX0_idle_0 18 rfl rfl)
theorem dX0_idle_20 : decode cX0_idle 20 = .ok (.aaload, 1) := dk_50 (dk_at dksX0_idle_0 20 rfl rfl)
theorem dX0_idle_21 : decode cX0_idle 21 = .ok (.getfield 161, 3) := dk_180 0 161 (dk_at dksX0_idle_0 21 rfl rfl)
theorem dX0_idle_24 : decode cX0_idle 24 = .ok (.ishl, 1) := dk_120 (dk_at dksX0_idle_1 0 rfl rfl)
theorem dX0_idle_25 : decode cX0_idle 25 = .ok (.iconst (-1), 1) := dk_2 (dk_at dksX0_idle_1 1 rfl rfl)
theorem dX0_idle_26 : decode cX0_idle 26 = .ok (.ixor, 1) := dk_130 (dk_at dksX0_idle_1 2 rfl rfl)
theorem dX0_idle_27 : decode cX0_idle 27 = .ok (.iand, 1) := dk_126 (dk_at dksX0_idle_1 3 rfl rfl)
theorem dX0_idle_28 : decode cX0_idle 28 = .ok (.istore_n 3, 1) := dk_62 (dk_at dksX0_idle_1 4 rfl rfl)
theorem dX0_idle_29 : decode cX0_idle 29 = .ok (.iinc 4 1, 3) := dk_132 4 1 (dk_at dksX0_idle_1 5 rfl rfl)
theorem dX0_idle_32 : decode cX0_idle 32 = .ok (.goto (-23), 3) := dk_167 255 233 (dk_at dksX0_idle_1 8 rfl rfl)
theorem dX0_idle_35 : decode cX0_idle 35 = .ok (.iload_n 3, 1) := dk_29 (dk_at dksX0_idle_1 11 rfl rfl)
theorem dX0_idle_36 : decode cX0_idle 36 = .ok (.ireturn, 1) := dk_172 (dk_at dksX0_idle_1 12 rfl rfl)
abbrev cX0_ups : ByteArray := prog_1_method_57_code
def yX0_ups : MethodName := ⟨RX0, "ups", "()I"⟩
def dkwX0_ups_1 : List UInt8 := [50, 182, 0, 77, 184, 1, 42, 96, 60, 132, 2, 1, 167, 255, 224, 27, 172]
abbrev dktX0_ups_1 : List UInt8 := dkwX0_ups_1 ++ []
def dkwX0_ups_0 : List UInt8 := [3, 60, 3, 61, 28, 42, 180, 0, 30, 180, 0, 70, 162, 0, 27, 27, 42, 180, 0, 30, 180, 0, 73, 28]
abbrev dktX0_ups_0 : List UInt8 := dkwX0_ups_0 ++ dktX0_ups_1
theorem dksX0_ups_0 : cX0_ups.data.toList.drop 0 = dktX0_ups_0 := by decide +kernel
theorem dksX0_ups_1 : cX0_ups.data.toList.drop 24 = dktX0_ups_1 := dk_seg dksX0_ups_0 24 rfl rfl
theorem dX0_ups_0 : decode cX0_ups 0 = .ok (.iconst 0, 1) := dk_3 (dk_at dksX0_ups_0 0 rfl rfl)
theorem dX0_ups_1 : decode cX0_ups 1 = .ok (.istore_n 1, 1) := dk_60 (dk_at dksX0_ups_0 1 rfl rfl)
theorem dX0_ups_2 : decode cX0_ups 2 = .ok (.iconst 0, 1) := dk_3 (dk_at dksX0_ups_0 2 rfl rfl)
theorem dX0_ups_3 : decode cX0_ups 3 = .ok (.istore_n 2, 1) := dk_61 (dk_at dksX0_ups_0 3 rfl rfl)
theorem dX0_ups_4 : decode cX0_ups 4 = .ok (.iload_n 2, 1) := dk_28 (dk_at dksX0_ups_0 4 rfl rfl)
theorem dX0_ups_5 : decode cX0_ups 5 = .ok (.aload_n 0, 1) := dk_42 (dk_at dksX0_ups_0 5 rfl rfl)
theorem dX0_ups_6 : decode cX0_ups 6 = .ok (.getfield 30, 3) := dk_180 0 30 (dk_at dksX0_ups_0 6 rfl rfl)
theorem dX0_ups_9 : decode cX0_ups 9 = .ok (.getfield 70, 3) := dk_180 0 70 (dk_at dksX0_ups_0 9 rfl rfl)
theorem dX0_ups_12 : decode cX0_ups 12 = .ok (.if_icmp .ge 27, 3) := dk_162 0 27 (dk_at dksX0_ups_0 12 rfl rfl)
theorem dX0_ups_15 : decode cX0_ups 15 = .ok (.iload_n 1, 1) := dk_27 (dk_at dksX0_ups_0 15 rfl rfl)
theorem dX0_ups_16 : decode cX0_ups 16 = .ok (.aload_n 0, 1) := dk_42 (dk_at dksX0_ups_0 16 rfl rfl)
theorem dX0_ups_17 : decode cX0_ups 17 = .ok (.getfield 30, 3) := dk_180 0 30 (dk_at dksX0_ups_0 17 rfl rfl)
theorem dX0_ups_20 : decode cX0_ups 20 = .ok (.getfield 73, 3) := dk_180 0 73 (dk_at dksX0_ups_0 20 rfl rfl)
theorem dX0_ups_23 : decode cX0_ups 23 = .ok (.iload_n 2, 1) := dk_28 (dk_at dksX0_ups_0 23 rfl rfl)
theorem dX0_ups_24 : decode cX0_ups 24 = .ok (.aaload, 1) := dk_50 (dk_at dksX0_ups_1 0 rfl rfl)
theorem dX0_ups_25 : decode cX0_ups 25 = .ok (.invokevirtual 77, 3) := dk_182 0 77 (dk_at dksX0_ups_1 1 rfl rfl)
theorem dX0_ups_28 : decode cX0_ups 28 = .ok (.invokestatic 298, 3) := dk_184 1 42 (dk_at dksX0_ups_1 4 rfl rfl)
theorem dX0_ups_31 : decode cX0_ups 31 = .ok (.iadd, 1) := dk_96 (dk_at dksX0_ups_1 7 rfl rfl)
theorem dX0_ups_32 : decode cX0_ups 32 = .ok (.istore_n 1, 1) := dk_60 (dk_at dksX0_ups_1 8 rfl rfl)
theorem dX0_ups_33 : decode cX0_ups 33 = .ok (.iinc 2 1, 3) := dk_132 2 1 (dk_at dksX0_ups_1 9 rfl rfl)
theorem dX0_ups_36 : decode cX0_ups 36 = .ok (.goto (-32), 3) := dk_167 255 224 (dk_at dksX0_ups_1 12 rfl rfl)
theorem dX0_ups_39 : decode cX0_ups 39 = .ok (.iload_n 1, 1) := dk_27 (dk_at dksX0_ups_1 15 rfl rfl)
theorem dX0_ups_40 : decode cX0_ups 40 = .ok (.ireturn, 1) := dk_172 (dk_at dksX0_ups_1 16 rfl rfl)
abbrev cX0_threads : ByteArray := prog_1_method_50_code
def yX0_threads : MethodName := ⟨RX0, "threads", "()I"⟩
def dkwX0_threads_2 : List UInt8 := [167, 255, 224, 27, 172]
abbrev dktX0_threads_2 : List UInt8 := dkwX0_threads_2 ++ []
def dkwX0_threads_1 : List UInt8 := [58, 5, 27, 25, 5, 199, 0, 7, 3, 167, 0, 8, 25, 5, 180, 0, 252, 96, 60, 132, 4, 1]
abbrev dktX0_threads_1 : List UInt8 := dkwX0_threads_1 ++ dktX0_threads_2
def dkwX0_threads_0 : List UInt8 := [3, 60, 42, 180, 0, 11, 77, 44, 190, 62, 3, 54, 4, 21, 4, 29, 162, 0, 32, 44, 21, 4, 50]
abbrev dktX0_threads_0 : List UInt8 := dkwX0_threads_0 ++ dktX0_threads_1
theorem dksX0_threads_0 : cX0_threads.data.toList.drop 0 = dktX0_threads_0 := by decide +kernel
theorem dksX0_threads_1 : cX0_threads.data.toList.drop 23 = dktX0_threads_1 := dk_seg dksX0_threads_0 23 rfl rfl
theorem dksX0_threads_2 : cX0_threads.data.toList.drop 45 = dktX0_threads_2 := dk_seg dksX0_threads_1 22 rfl rfl
theorem dX0_threads_0 : decode cX0_threads 0 = .ok (.iconst 0, 1) := dk_3 (dk_at dksX0_threads_0 0 rfl rfl)
theorem dX0_threads_1 : decode cX0_threads 1 = .ok (.istore_n 1, 1) := dk_60 (dk_at dksX0_threads_0 1 rfl rfl)
theorem dX0_threads_2 : decode cX0_threads 2 = .ok (.aload_n 0, 1) := dk_42 (dk_at dksX0_threads_0 2 rfl rfl)
theorem dX0_threads_3 : decode cX0_threads 3 = .ok (.getfield 11, 3) := dk_180 0 11 (dk_at dksX0_threads_0 3 rfl rfl)
theorem dX0_threads_6 : decode cX0_threads 6 = .ok (.astore_n 2, 1) := dk_77 (dk_at dksX0_threads_0 6 rfl rfl)
theorem dX0_threads_7 : decode cX0_threads 7 = .ok (.aload_n 2, 1) := dk_44 (dk_at dksX0_threads_0 7 rfl rfl)
theorem dX0_threads_8 : decode cX0_threads 8 = .ok (.arraylength, 1) := dk_190 (dk_at dksX0_threads_0 8 rfl rfl)
theorem dX0_threads_9 : decode cX0_threads 9 = .ok (.istore_n 3, 1) := dk_62 (dk_at dksX0_threads_0 9 rfl rfl)
theorem dX0_threads_10 : decode cX0_threads 10 = .ok (.iconst 0, 1) := dk_3 (dk_at dksX0_threads_0 10 rfl rfl)
theorem dX0_threads_11 : decode cX0_threads 11 = .ok (.istore 4, 2) := dk_54 4 (dk_at dksX0_threads_0 11 rfl rfl)
theorem dX0_threads_13 : decode cX0_threads 13 = .ok (.iload 4, 2) := dk_21 4 (dk_at dksX0_threads_0 13 rfl rfl)
theorem dX0_threads_15 : decode cX0_threads 15 = .ok (.iload_n 3, 1) := dk_29 (dk_at dksX0_threads_0 15 rfl rfl)
theorem dX0_threads_16 : decode cX0_threads 16 = .ok (.if_icmp .ge 32, 3) := dk_162 0 32 (dk_at dksX0_threads_0 16 rfl rfl)
theorem dX0_threads_19 : decode cX0_threads 19 = .ok (.aload_n 2, 1) := dk_44 (dk_at dksX0_threads_0 19 rfl rfl)
theorem dX0_threads_20 : decode cX0_threads 20 = .ok (.iload 4, 2) := dk_21 4 (dk_at dksX0_threads_0 20 rfl rfl)
theorem dX0_threads_22 : decode cX0_threads 22 = .ok (.aaload, 1) := dk_50 (dk_at dksX0_threads_0 22 rfl rfl)
theorem dX0_threads_23 : decode cX0_threads 23 = .ok (.astore 5, 2) := dk_58 5 (dk_at dksX0_threads_1 0 rfl rfl)
theorem dX0_threads_25 : decode cX0_threads 25 = .ok (.iload_n 1, 1) := dk_27 (dk_at dksX0_threads_1 2 rfl rfl)
theorem dX0_threads_26 : decode cX0_threads 26 = .ok (.aload 5, 2) := dk_25 5 (dk_at dksX0_threads_1 3 rfl rfl)
theorem dX0_threads_28 : decode cX0_threads 28 = .ok (.ifnonnull 7, 3) := dk_199 0 7 (dk_at dksX0_threads_1 5 rfl rfl)
theorem dX0_threads_31 : decode cX0_threads 31 = .ok (.iconst 0, 1) := dk_3 (dk_at dksX0_threads_1 8 rfl rfl)
theorem dX0_threads_32 : decode cX0_threads 32 = .ok (.goto 8, 3) := dk_167 0 8 (dk_at dksX0_threads_1 9 rfl rfl)
theorem dX0_threads_35 : decode cX0_threads 35 = .ok (.aload 5, 2) := dk_25 5 (dk_at dksX0_threads_1 12 rfl rfl)
theorem dX0_threads_37 : decode cX0_threads 37 = .ok (.getfield 252, 3) := dk_180 0 252 (dk_at dksX0_threads_1 14 rfl rfl)
theorem dX0_threads_40 : decode cX0_threads 40 = .ok (.iadd, 1) := dk_96 (dk_at dksX0_threads_1 17 rfl rfl)
theorem dX0_threads_41 : decode cX0_threads 41 = .ok (.istore_n 1, 1) := dk_60 (dk_at dksX0_threads_1 18 rfl rfl)
theorem dX0_threads_42 : decode cX0_threads 42 = .ok (.iinc 4 1, 3) := dk_132 4 1 (dk_at dksX0_threads_1 19 rfl rfl)
theorem dX0_threads_45 : decode cX0_threads 45 = .ok (.goto (-32), 3) := dk_167 255 224 (dk_at dksX0_threads_2 0 rfl rfl)
theorem dX0_threads_48 : decode cX0_threads 48 = .ok (.iload_n 1, 1) := dk_27 (dk_at dksX0_threads_2 3 rfl rfl)
theorem dX0_threads_49 : decode cX0_threads 49 = .ok (.ireturn, 1) := dk_172 (dk_at dksX0_threads_2 4 rfl rfl)
theorem q67 : (Jvm.Cond.initialized "WeaveDraft") ∈ lw_all := lw_g (lw_at lw_m1 1 rfl) rfl
theorem q101 : (Jvm.Cond.instantiable "WeaveDraft" (11 : Nat)) ∈ lw_all := lw_g (lw_at lw_m1 35 rfl) rfl
theorem q103 : (Jvm.Cond.instanceMethod ({ cls := "WeaveDraft", name := "<init>", desc := "()V" } : Jvm.MethodName)) ∈ lw_all := lw_g (lw_at lw_m1 37 rfl) rfl
theorem q104 : (Jvm.Cond.code ({ cls := "WeaveDraft", name := "<init>", desc := "()V" } : Jvm.MethodName) prog_1_method_12_code (1 : Nat) (Option.none : Option Jvm.ClassFile.FieldType)) ∈ lw_all := lw_g (lw_at lw_m1 38 rfl) rfl
theorem q105 : (Jvm.Cond.methodLink "WeaveDraft" (107 : Nat) ({ cls := "java/lang/Object", name := "<init>", desc := "()V" } : Jvm.MethodName)) ∈ lw_all := lw_g (lw_at lw_m1 39 rfl) rfl
theorem q108 : (Jvm.Cond.classLink "WeaveDraft" (24 : Nat) "WeaveDraft$Draft") ∈ lw_all := lw_g (lw_at lw_m1 42 rfl) rfl
theorem q110 : (Jvm.Cond.methodLink "WeaveDraft" (26 : Nat) ({ cls := "WeaveDraft$Draft", name := "<init>", desc := "(LWeaveDraft;)V" } : Jvm.MethodName)) ∈ lw_all := lw_g (lw_at lw_m1 44 rfl) rfl
theorem q133 : (Jvm.Cond.fieldLink "WeaveDraft" (94 : Nat) "WeaveDraft$Draft$End" "tied" "I") ∈ lw_all := lw_g (lw_at lw_m1 67 rfl) rfl
theorem q134 : (Jvm.Cond.fieldLink "WeaveDraft" (102 : Nat) "WeaveDraft$Draft$Pick" "tied" "I") ∈ lw_all := lw_g (lw_at lw_m1 68 rfl) rfl
theorem q135 : (Jvm.Cond.fieldLink "WeaveDraft" (161 : Nat) "WeaveDraft$Strand" "tied" "I") ∈ lw_all := lw_g (lw_at lw_m1 69 rfl) rfl
theorem q141 : (Jvm.Cond.fieldLink "WeaveDraft" (103 : Nat) "WeaveDraft$Draft$End" "colour" "I") ∈ lw_all := lw_g (lw_at lw_m1 75 rfl) rfl
theorem q142 : (Jvm.Cond.fieldLink "WeaveDraft" (106 : Nat) "WeaveDraft$Draft$Pick" "colour" "I") ∈ lw_all := lw_g (lw_at lw_m1 76 rfl) rfl
theorem q143 : (Jvm.Cond.fieldLink "WeaveDraft" (164 : Nat) "WeaveDraft$Strand" "colour" "I") ∈ lw_all := lw_g (lw_at lw_m1 77 rfl) rfl
theorem q175 : (Jvm.Cond.fieldLink "WeaveDraft" (67 : Nat) "WeaveDraft$Draft" "ends" "I") ∈ lw_all := lw_g (lw_at lw_m1 109 rfl) rfl
theorem q179 : (Jvm.Cond.fieldLink "WeaveDraft" (70 : Nat) "WeaveDraft$Draft" "picks" "I") ∈ lw_all := lw_g (lw_at lw_m1 113 rfl) rfl
theorem q182 : (Jvm.Cond.fieldLink "WeaveDraft" (128 : Nat) "WeaveDraft$Draft" "shafts" "I") ∈ lw_all := lw_g (lw_at lw_m1 116 rfl) rfl
theorem q185 : (Jvm.Cond.fieldLink "WeaveDraft" (131 : Nat) "WeaveDraft$Draft" "treadles" "I") ∈ lw_all := lw_g (lw_at lw_m1 119 rfl) rfl
theorem q187 : (Jvm.Cond.fieldLink "WeaveDraft" (99 : Nat) "WeaveDraft$Draft" "ties" "[I") ∈ lw_all := lw_g (lw_at lw_m1 121 rfl) rfl
theorem q189 : (Jvm.Cond.fieldLink "WeaveDraft" (90 : Nat) "WeaveDraft$Draft" "warp" "[LWeaveDraft$Draft$End;") ∈ lw_all := lw_g (lw_at lw_m1 123 rfl) rfl
theorem q191 : (Jvm.Cond.fieldLink "WeaveDraft" (73 : Nat) "WeaveDraft$Draft" "weft" "[LWeaveDraft$Draft$Pick;") ∈ lw_all := lw_g (lw_at lw_m1 125 rfl) rfl
theorem q211 : (Jvm.Cond.classLink "WeaveDraft" (119 : Nat) "WeaveDraft$Spool") ∈ lw_all := lw_g (lw_at lw_m1 145 rfl) rfl
theorem q213 : (Jvm.Cond.methodLink "WeaveDraft" (121 : Nat) ({ cls := "WeaveDraft", name := "begin", desc := "()V" } : Jvm.MethodName)) ∈ lw_all := lw_g (lw_at lw_m1 147 rfl) rfl
theorem q214 : (Jvm.Cond.privateMethod ({ cls := "WeaveDraft", name := "begin", desc := "()V" } : Jvm.MethodName)) ∈ lw_tbl := lw_at lw_m1 148 rfl
theorem q215 : (Jvm.Cond.instanceMethod ({ cls := "WeaveDraft", name := "begin", desc := "()V" } : Jvm.MethodName)) ∈ lw_all := lw_g (lw_at lw_m1 149 rfl) rfl
theorem q216 : (Jvm.Cond.code ({ cls := "WeaveDraft", name := "begin", desc := "()V" } : Jvm.MethodName) prog_1_method_3_code (2 : Nat) (Option.none : Option Jvm.ClassFile.FieldType)) ∈ lw_all := lw_g (lw_at lw_m1 150 rfl) rfl
theorem q218 : (Jvm.Cond.fieldLink "WeaveDraft" (30 : Nat) "WeaveDraft" "now" "LWeaveDraft$Draft;") ∈ lw_all := lw_g (lw_at lw_m1 152 rfl) rfl
theorem q219 : (Jvm.Cond.fieldLink "WeaveDraft" (112 : Nat) "WeaveDraft" "tried" "LWeaveDraft$Draft;") ∈ lw_all := lw_g (lw_at lw_m1 153 rfl) rfl
theorem q220 : (Jvm.Cond.fieldLink "WeaveDraft" (7 : Nat) "WeaveDraft" "kept" "[LWeaveDraft$Draft;") ∈ lw_all := lw_g (lw_at lw_m1 154 rfl) rfl
theorem q221 : (Jvm.Cond.fieldLink "WeaveDraft" (15 : Nat) "WeaveDraft" "backs" "[LWeaveDraft$Draft;") ∈ lw_all := lw_g (lw_at lw_m1 155 rfl) rfl
theorem q222 : (Jvm.Cond.fieldLink "WeaveDraft" (1 : Nat) "WeaveDraft" "backMany" "I") ∈ lw_all := lw_g (lw_at lw_m1 156 rfl) rfl
theorem q225 : (Jvm.Cond.fieldLink "WeaveDraft" (82 : Nat) "WeaveDraft" "rows" "[I") ∈ lw_all := lw_g (lw_at lw_m1 159 rfl) rfl
theorem q228 : (Jvm.Cond.fieldLink "WeaveDraft" (64 : Nat) "WeaveDraft" "rowMany" "I") ∈ lw_all := lw_g (lw_at lw_m1 162 rfl) rfl
theorem q230 : (Jvm.Cond.fieldLink "WeaveDraft" (54 : Nat) "WeaveDraft" "wide" "I") ∈ lw_all := lw_g (lw_at lw_m1 164 rfl) rfl
theorem q232 : (Jvm.Cond.fieldLink "WeaveDraft" (115 : Nat) "WeaveDraft" "text" "[B") ∈ lw_all := lw_g (lw_at lw_m1 166 rfl) rfl
theorem q234 : (Jvm.Cond.fieldLink "WeaveDraft" (136 : Nat) "WeaveDraft" "letters" "I") ∈ lw_all := lw_g (lw_at lw_m1 168 rfl) rfl
theorem q235 : (Jvm.Cond.fieldLink "WeaveDraft" (11 : Nat) "WeaveDraft" "spools" "[LWeaveDraft$Spool;") ∈ lw_all := lw_g (lw_at lw_m1 169 rfl) rfl
theorem q236 : (Jvm.Cond.laysFinal "WeaveDraft" "WeaveDraft" "now" "LWeaveDraft$Draft;") ∈ lw_all := lw_g (lw_at lw_m1 170 rfl) rfl
theorem q237 : (Jvm.Cond.soleField "WeaveDraft" "now") ∈ lw_all := lw_g (lw_at lw_m1 171 rfl) rfl
theorem q238 : (Jvm.Cond.laysFinal "WeaveDraft" "WeaveDraft" "tried" "LWeaveDraft$Draft;") ∈ lw_all := lw_g (lw_at lw_m1 172 rfl) rfl
theorem q239 : (Jvm.Cond.soleField "WeaveDraft" "tried") ∈ lw_all := lw_g (lw_at lw_m1 173 rfl) rfl
theorem q240 : (Jvm.Cond.laysFinal "WeaveDraft" "WeaveDraft" "kept" "[LWeaveDraft$Draft;") ∈ lw_all := lw_g (lw_at lw_m1 174 rfl) rfl
theorem q241 : (Jvm.Cond.soleField "WeaveDraft" "kept") ∈ lw_all := lw_g (lw_at lw_m1 175 rfl) rfl
theorem q242 : (Jvm.Cond.laysFinal "WeaveDraft" "WeaveDraft" "backs" "[LWeaveDraft$Draft;") ∈ lw_all := lw_g (lw_at lw_m1 176 rfl) rfl
theorem q243 : (Jvm.Cond.soleField "WeaveDraft" "backs") ∈ lw_all := lw_g (lw_at lw_m1 177 rfl) rfl
theorem q244 : (Jvm.Cond.lays "WeaveDraft" "WeaveDraft" "backMany" "I") ∈ lw_all := lw_g (lw_at lw_m1 178 rfl) rfl
theorem q245 : (Jvm.Cond.soleField "WeaveDraft" "backMany") ∈ lw_all := lw_g (lw_at lw_m1 179 rfl) rfl
theorem q246 : (Jvm.Cond.laysFinal "WeaveDraft" "WeaveDraft" "rows" "[I") ∈ lw_all := lw_g (lw_at lw_m1 180 rfl) rfl
theorem q247 : (Jvm.Cond.soleField "WeaveDraft" "rows") ∈ lw_all := lw_g (lw_at lw_m1 181 rfl) rfl
theorem q248 : (Jvm.Cond.lays "WeaveDraft" "WeaveDraft" "rowMany" "I") ∈ lw_all := lw_g (lw_at lw_m1 182 rfl) rfl
theorem q249 : (Jvm.Cond.soleField "WeaveDraft" "rowMany") ∈ lw_all := lw_g (lw_at lw_m1 183 rfl) rfl
theorem q250 : (Jvm.Cond.lays "WeaveDraft" "WeaveDraft" "wide" "I") ∈ lw_all := lw_g (lw_at lw_m1 184 rfl) rfl
theorem q251 : (Jvm.Cond.soleField "WeaveDraft" "wide") ∈ lw_all := lw_g (lw_at lw_m1 185 rfl) rfl
theorem q252 : (Jvm.Cond.laysFinal "WeaveDraft" "WeaveDraft" "text" "[B") ∈ lw_all := lw_g (lw_at lw_m1 186 rfl) rfl
theorem q253 : (Jvm.Cond.soleField "WeaveDraft" "text") ∈ lw_all := lw_g (lw_at lw_m1 187 rfl) rfl
theorem q254 : (Jvm.Cond.lays "WeaveDraft" "WeaveDraft" "letters" "I") ∈ lw_all := lw_g (lw_at lw_m1 188 rfl) rfl
theorem q255 : (Jvm.Cond.soleField "WeaveDraft" "letters") ∈ lw_all := lw_g (lw_at lw_m1 189 rfl) rfl
theorem q256 : (Jvm.Cond.laysFinal "WeaveDraft" "WeaveDraft" "spools" "[LWeaveDraft$Spool;") ∈ lw_all := lw_g (lw_at lw_m1 190 rfl) rfl
theorem q257 : (Jvm.Cond.soleField "WeaveDraft" "spools") ∈ lw_all := lw_g (lw_at lw_m1 191 rfl) rfl
theorem q258 : (Jvm.Cond.superclass "WeaveDraft" "java/lang/Object") ∈ lw_all := lw_g (lw_at lw_m1 192 rfl) rfl
theorem q261 : (Jvm.Cond.instanceMethod ({ cls := "WeaveDraft", name := "write", desc := "(I)I" } : Jvm.MethodName)) ∈ lw_all := lw_g (lw_at lw_m1 195 rfl) rfl
theorem q262 : (Jvm.Cond.selects "WeaveDraft" ({ cls := "WeaveDraft", name := "write", desc := "(I)I" } : Jvm.MethodName) ({ cls := "WeaveDraft", name := "write", desc := "(I)I" } : Jvm.MethodName)) ∈ lw_all := lw_g (lw_at lw_m1 196 rfl) rfl
theorem q263 : (Jvm.Cond.code ({ cls := "WeaveDraft", name := "write", desc := "(I)I" } : Jvm.MethodName) prog_1_method_17_code (2 : Nat) (Option.some Jvm.ClassFile.FieldType.int)) ∈ lw_all := lw_g (lw_at lw_m1 197 rfl) rfl
theorem q264 : (Jvm.Cond.constantLong "WeaveDraft" (134 : Nat) (255 : Int64)) ∈ lw_all := lw_g (lw_at lw_m1 198 rfl) rfl
theorem q265 : (Jvm.Cond.methodLink "WeaveDraft" (124 : Nat) ({ cls := "WeaveDraft", name := "in", desc := "(JJJ)Z" } : Jvm.MethodName)) ∈ lw_all := lw_g (lw_at lw_m1 199 rfl) rfl
theorem q266 : (Jvm.Cond.static ({ cls := "WeaveDraft", name := "in", desc := "(JJJ)Z" } : Jvm.MethodName)) ∈ lw_all := lw_g (lw_at lw_m1 200 rfl) rfl
theorem q267 : (Jvm.Cond.code ({ cls := "WeaveDraft", name := "in", desc := "(JJJ)Z" } : Jvm.MethodName) prog_1_method_1_code (6 : Nat) (Option.some Jvm.ClassFile.FieldType.boolean)) ∈ lw_all := lw_g (lw_at lw_m1 201 rfl) rfl
theorem q269 : (Jvm.Cond.instanceMethod ({ cls := "WeaveDraft", name := "erase", desc := "()I" } : Jvm.MethodName)) ∈ lw_all := lw_g (lw_at lw_m1 203 rfl) rfl
theorem q270 : (Jvm.Cond.selects "WeaveDraft" ({ cls := "WeaveDraft", name := "erase", desc := "()I" } : Jvm.MethodName) ({ cls := "WeaveDraft", name := "erase", desc := "()I" } : Jvm.MethodName)) ∈ lw_all := lw_g (lw_at lw_m1 204 rfl) rfl
theorem q271 : (Jvm.Cond.code ({ cls := "WeaveDraft", name := "erase", desc := "()I" } : Jvm.MethodName) prog_1_method_18_code (2 : Nat) (Option.some Jvm.ClassFile.FieldType.int)) ∈ lw_all := lw_g (lw_at lw_m1 205 rfl) rfl
theorem q273 : (Jvm.Cond.instanceMethod ({ cls := "WeaveDraft", name := "fault", desc := "()I" } : Jvm.MethodName)) ∈ lw_all := lw_g (lw_at lw_m1 207 rfl) rfl
theorem q274 : (Jvm.Cond.selects "WeaveDraft" ({ cls := "WeaveDraft", name := "fault", desc := "()I" } : Jvm.MethodName) ({ cls := "WeaveDraft", name := "fault", desc := "()I" } : Jvm.MethodName)) ∈ lw_all := lw_g (lw_at lw_m1 208 rfl) rfl
theorem q275 : (Jvm.Cond.codeWith ({ cls := "WeaveDraft", name := "fault", desc := "()I" } : Jvm.MethodName) prog_1_method_19_code (2 : Nat) (Option.some Jvm.ClassFile.FieldType.int) [((0 : Nat), (13 : Nat), (14 : Nat), (146 : Nat))]) ∈ lw_all := lw_g (lw_at lw_m1 209 rfl) rfl
theorem q276 : (Jvm.Cond.classLink "WeaveDraft" (146 : Nat) "WeaveDraft$Fault") ∈ lw_all := lw_g (lw_at lw_m1 210 rfl) rfl
theorem q277 : (Jvm.Cond.classLink "WeaveDraft" (139 : Nat) "WeaveDraft$Reader") ∈ lw_all := lw_g (lw_at lw_m1 211 rfl) rfl
theorem q279 : (Jvm.Cond.methodLinkNest "WeaveDraft" (141 : Nat) ({ cls := "WeaveDraft$Reader", name := "<init>", desc := "(LWeaveDraft;)V" } : Jvm.MethodName) "WeaveDraft") ∈ lw_tbl := lw_at lw_m1 213 rfl
theorem q296 : (Jvm.Cond.fieldLink "WeaveDraft" (153 : Nat) "WeaveDraft$Reader" "clauses" "[[I") ∈ lw_all := lw_g (lw_at lw_m1 230 rfl) rfl
theorem q298 : (Jvm.Cond.fieldLink "WeaveDraft" (151 : Nat) "WeaveDraft$Reader" "read" "I") ∈ lw_all := lw_g (lw_at lw_m1 232 rfl) rfl
theorem q325 : (Jvm.Cond.methodLink "WeaveDraft" (142 : Nat) ({ cls := "WeaveDraft$Reader", name := "read", desc := "()LWeaveDraft$Reader;" } : Jvm.MethodName)) ∈ lw_all := lw_g (lw_at lw_m2 19 rfl) rfl
theorem q534 : (Jvm.Cond.laysStatic "WeaveDraft" "HEADS" "[Ljava/lang/String;") ∈ lw_tbl := lw_at lw_m2 228 rfl
theorem q575 : (Jvm.Cond.selects "WeaveDraft" ({ cls := "java/lang/Object", name := "equals", desc := "(Ljava/lang/Object;)Z" } : Jvm.MethodName) ({ cls := "java/lang/Object", name := "equals", desc := "(Ljava/lang/Object;)Z" } : Jvm.MethodName)) ∈ lw_all := lw_g (lw_at lw_m3 29 rfl) rfl
theorem q655 : (Jvm.Cond.fieldLink "WeaveDraft" (148 : Nat) "WeaveDraft$Fault" "at" "I") ∈ lw_all := lw_g (lw_at lw_m3 109 rfl) rfl
theorem q715 : (Jvm.Cond.instanceMethod ({ cls := "WeaveDraft", name := "draft", desc := "()I" } : Jvm.MethodName)) ∈ lw_all := lw_g (lw_at lw_m3 169 rfl) rfl
theorem q716 : (Jvm.Cond.selects "WeaveDraft" ({ cls := "WeaveDraft", name := "draft", desc := "()I" } : Jvm.MethodName) ({ cls := "WeaveDraft", name := "draft", desc := "()I" } : Jvm.MethodName)) ∈ lw_all := lw_g (lw_at lw_m3 170 rfl) rfl
theorem q717 : (Jvm.Cond.codeWith ({ cls := "WeaveDraft", name := "draft", desc := "()I" } : Jvm.MethodName) prog_1_method_20_code (3 : Nat) (Option.some Jvm.ClassFile.FieldType.int) [((9 : Nat), (14 : Nat), (17 : Nat), (146 : Nat))]) ∈ lw_all := lw_g (lw_at lw_m3 171 rfl) rfl
theorem q718 : (Jvm.Cond.methodLink "WeaveDraft" (157 : Nat) ({ cls := "WeaveDraft", name := "tell", desc := "([I)V" } : Jvm.MethodName)) ∈ lw_all := lw_g (lw_at lw_m3 172 rfl) rfl
theorem q719 : (Jvm.Cond.privateMethod ({ cls := "WeaveDraft", name := "tell", desc := "([I)V" } : Jvm.MethodName)) ∈ lw_tbl := lw_at lw_m3 173 rfl
theorem q720 : (Jvm.Cond.instanceMethod ({ cls := "WeaveDraft", name := "tell", desc := "([I)V" } : Jvm.MethodName)) ∈ lw_all := lw_g (lw_at lw_m3 174 rfl) rfl
theorem q721 : (Jvm.Cond.code ({ cls := "WeaveDraft", name := "tell", desc := "([I)V" } : Jvm.MethodName) prog_1_method_11_code (2 : Nat) (Option.none : Option Jvm.ClassFile.FieldType)) ∈ lw_all := lw_g (lw_at lw_m3 175 rfl) rfl
theorem q722 : (Jvm.Cond.methodLink "WeaveDraft" (86 : Nat) ({ cls := "WeaveDraft$Draft", name := "start", desc := "(IIII)V" } : Jvm.MethodName)) ∈ lw_all := lw_g (lw_at lw_m3 176 rfl) rfl
theorem q724 : (Jvm.Cond.instanceMethod ({ cls := "WeaveDraft", name := "end", desc := "(II)I" } : Jvm.MethodName)) ∈ lw_all := lw_g (lw_at lw_m3 178 rfl) rfl
theorem q725 : (Jvm.Cond.selects "WeaveDraft" ({ cls := "WeaveDraft", name := "end", desc := "(II)I" } : Jvm.MethodName) ({ cls := "WeaveDraft", name := "end", desc := "(II)I" } : Jvm.MethodName)) ∈ lw_all := lw_g (lw_at lw_m3 179 rfl) rfl
theorem q726 : (Jvm.Cond.code ({ cls := "WeaveDraft", name := "end", desc := "(II)I" } : Jvm.MethodName) prog_1_method_22_code (3 : Nat) (Option.some Jvm.ClassFile.FieldType.int)) ∈ lw_all := lw_g (lw_at lw_m3 180 rfl) rfl
theorem q727 : (Jvm.Cond.methodLink "WeaveDraft" (170 : Nat) ({ cls := "WeaveDraft", name := "isEnd", desc := "(I)Z" } : Jvm.MethodName)) ∈ lw_all := lw_g (lw_at lw_m3 181 rfl) rfl
theorem q728 : (Jvm.Cond.privateMethod ({ cls := "WeaveDraft", name := "isEnd", desc := "(I)Z" } : Jvm.MethodName)) ∈ lw_tbl := lw_at lw_m3 182 rfl
theorem q729 : (Jvm.Cond.instanceMethod ({ cls := "WeaveDraft", name := "isEnd", desc := "(I)Z" } : Jvm.MethodName)) ∈ lw_all := lw_g (lw_at lw_m3 183 rfl) rfl
theorem q730 : (Jvm.Cond.code ({ cls := "WeaveDraft", name := "isEnd", desc := "(I)Z" } : Jvm.MethodName) prog_1_method_13_code (2 : Nat) (Option.some Jvm.ClassFile.FieldType.boolean)) ∈ lw_all := lw_g (lw_at lw_m3 184 rfl) rfl
theorem q731 : (Jvm.Cond.constantLong "WeaveDraft" (174 : Nat) (4 : Int64)) ∈ lw_all := lw_g (lw_at lw_m3 185 rfl) rfl
theorem q732 : (Jvm.Cond.methodLink "WeaveDraft" (176 : Nat) ({ cls := "WeaveDraft", name := "told", desc := "(LWeaveDraft$Strand;I)I" } : Jvm.MethodName)) ∈ lw_all := lw_g (lw_at lw_m3 186 rfl) rfl
theorem q733 : (Jvm.Cond.static ({ cls := "WeaveDraft", name := "told", desc := "(LWeaveDraft$Strand;I)I" } : Jvm.MethodName)) ∈ lw_all := lw_g (lw_at lw_m3 187 rfl) rfl
theorem q734 : (Jvm.Cond.code ({ cls := "WeaveDraft", name := "told", desc := "(LWeaveDraft$Strand;I)I" } : Jvm.MethodName) prog_1_method_21_code (2 : Nat) (Option.some Jvm.ClassFile.FieldType.int)) ∈ lw_all := lw_g (lw_at lw_m3 188 rfl) rfl
theorem q773 : (Jvm.Cond.static ({ cls := "WeaveDraft", name := "has", desc := "(II)Z" } : Jvm.MethodName)) ∈ lw_all := lw_g (lw_at lw_m3 227 rfl) rfl
theorem q774 : (Jvm.Cond.code ({ cls := "WeaveDraft", name := "has", desc := "(II)Z" } : Jvm.MethodName) prog_1_method_2_code (2 : Nat) (Option.some Jvm.ClassFile.FieldType.boolean)) ∈ lw_all := lw_g (lw_at lw_m3 228 rfl) rfl
theorem q790 : (Jvm.Cond.instanceMethod ({ cls := "WeaveDraft", name := "pick", desc := "(II)I" } : Jvm.MethodName)) ∈ lw_all := lw_g (lw_at lw_m4 4 rfl) rfl
theorem q791 : (Jvm.Cond.selects "WeaveDraft" ({ cls := "WeaveDraft", name := "pick", desc := "(II)I" } : Jvm.MethodName) ({ cls := "WeaveDraft", name := "pick", desc := "(II)I" } : Jvm.MethodName)) ∈ lw_all := lw_g (lw_at lw_m4 5 rfl) rfl
theorem q792 : (Jvm.Cond.code ({ cls := "WeaveDraft", name := "pick", desc := "(II)I" } : Jvm.MethodName) prog_1_method_23_code (4 : Nat) (Option.some Jvm.ClassFile.FieldType.int)) ∈ lw_all := lw_g (lw_at lw_m4 6 rfl) rfl
theorem q793 : (Jvm.Cond.methodLink "WeaveDraft" (180 : Nat) ({ cls := "WeaveDraft", name := "isPick", desc := "(I)Z" } : Jvm.MethodName)) ∈ lw_all := lw_g (lw_at lw_m4 7 rfl) rfl
theorem q794 : (Jvm.Cond.privateMethod ({ cls := "WeaveDraft", name := "isPick", desc := "(I)Z" } : Jvm.MethodName)) ∈ lw_tbl := lw_at lw_m4 8 rfl
theorem q795 : (Jvm.Cond.instanceMethod ({ cls := "WeaveDraft", name := "isPick", desc := "(I)Z" } : Jvm.MethodName)) ∈ lw_all := lw_g (lw_at lw_m4 9 rfl) rfl
theorem q796 : (Jvm.Cond.code ({ cls := "WeaveDraft", name := "isPick", desc := "(I)Z" } : Jvm.MethodName) prog_1_method_14_code (2 : Nat) (Option.some Jvm.ClassFile.FieldType.boolean)) ∈ lw_all := lw_g (lw_at lw_m4 10 rfl) rfl
theorem q797 : (Jvm.Cond.constantLong "WeaveDraft" (183 : Nat) (6 : Int64)) ∈ lw_all := lw_g (lw_at lw_m4 11 rfl) rfl
theorem q798 : (Jvm.Cond.methodLink "WeaveDraft" (185 : Nat) ({ cls := "WeaveDraft$Draft$Pick", name := "stitches", desc := "()I" } : Jvm.MethodName)) ∈ lw_all := lw_g (lw_at lw_m4 12 rfl) rfl
theorem q804 : (Jvm.Cond.instanceMethod ({ cls := "WeaveDraft", name := "treadle", desc := "(I)I" } : Jvm.MethodName)) ∈ lw_all := lw_g (lw_at lw_m4 18 rfl) rfl
theorem q805 : (Jvm.Cond.selects "WeaveDraft" ({ cls := "WeaveDraft", name := "treadle", desc := "(I)I" } : Jvm.MethodName) ({ cls := "WeaveDraft", name := "treadle", desc := "(I)I" } : Jvm.MethodName)) ∈ lw_all := lw_g (lw_at lw_m4 19 rfl) rfl
theorem q806 : (Jvm.Cond.code ({ cls := "WeaveDraft", name := "treadle", desc := "(I)I" } : Jvm.MethodName) prog_1_method_24_code (2 : Nat) (Option.some Jvm.ClassFile.FieldType.int)) ∈ lw_all := lw_g (lw_at lw_m4 20 rfl) rfl
theorem q807 : (Jvm.Cond.methodLink "WeaveDraft" (188 : Nat) ({ cls := "WeaveDraft", name := "isTreadle", desc := "(I)Z" } : Jvm.MethodName)) ∈ lw_all := lw_g (lw_at lw_m4 21 rfl) rfl
theorem q808 : (Jvm.Cond.privateMethod ({ cls := "WeaveDraft", name := "isTreadle", desc := "(I)Z" } : Jvm.MethodName)) ∈ lw_tbl := lw_at lw_m4 22 rfl
theorem q809 : (Jvm.Cond.instanceMethod ({ cls := "WeaveDraft", name := "isTreadle", desc := "(I)Z" } : Jvm.MethodName)) ∈ lw_all := lw_g (lw_at lw_m4 23 rfl) rfl
theorem q810 : (Jvm.Cond.code ({ cls := "WeaveDraft", name := "isTreadle", desc := "(I)Z" } : Jvm.MethodName) prog_1_method_16_code (2 : Nat) (Option.some Jvm.ClassFile.FieldType.boolean)) ∈ lw_all := lw_g (lw_at lw_m4 24 rfl) rfl
theorem q812 : (Jvm.Cond.instanceMethod ({ cls := "WeaveDraft", name := "cross", desc := "(III)I" } : Jvm.MethodName)) ∈ lw_all := lw_g (lw_at lw_m4 26 rfl) rfl
theorem q813 : (Jvm.Cond.selects "WeaveDraft" ({ cls := "WeaveDraft", name := "cross", desc := "(III)I" } : Jvm.MethodName) ({ cls := "WeaveDraft", name := "cross", desc := "(III)I" } : Jvm.MethodName)) ∈ lw_all := lw_g (lw_at lw_m4 27 rfl) rfl
theorem q814 : (Jvm.Cond.code ({ cls := "WeaveDraft", name := "cross", desc := "(III)I" } : Jvm.MethodName) prog_1_method_25_code (5 : Nat) (Option.some Jvm.ClassFile.FieldType.int)) ∈ lw_all := lw_g (lw_at lw_m4 28 rfl) rfl
theorem q815 : (Jvm.Cond.methodLink "WeaveDraft" (191 : Nat) ({ cls := "WeaveDraft$Draft", name := "isUp", desc := "(II)Z" } : Jvm.MethodName)) ∈ lw_all := lw_g (lw_at lw_m4 29 rfl) rfl
theorem q817 : (Jvm.Cond.instanceMethod ({ cls := "WeaveDraft", name := "draw", desc := "(II)I" } : Jvm.MethodName)) ∈ lw_all := lw_g (lw_at lw_m4 31 rfl) rfl
theorem q818 : (Jvm.Cond.selects "WeaveDraft" ({ cls := "WeaveDraft", name := "draw", desc := "(II)I" } : Jvm.MethodName) ({ cls := "WeaveDraft", name := "draw", desc := "(II)I" } : Jvm.MethodName)) ∈ lw_all := lw_g (lw_at lw_m4 32 rfl) rfl
theorem q819 : (Jvm.Cond.code ({ cls := "WeaveDraft", name := "draw", desc := "(II)I" } : Jvm.MethodName) prog_1_method_26_code (4 : Nat) (Option.some Jvm.ClassFile.FieldType.int)) ∈ lw_all := lw_g (lw_at lw_m4 33 rfl) rfl
theorem q820 : (Jvm.Cond.methodLink "WeaveDraft" (195 : Nat) ({ cls := "WeaveDraft", name := "isShaft", desc := "(I)Z" } : Jvm.MethodName)) ∈ lw_all := lw_g (lw_at lw_m4 34 rfl) rfl
theorem q821 : (Jvm.Cond.privateMethod ({ cls := "WeaveDraft", name := "isShaft", desc := "(I)Z" } : Jvm.MethodName)) ∈ lw_tbl := lw_at lw_m4 35 rfl
theorem q822 : (Jvm.Cond.instanceMethod ({ cls := "WeaveDraft", name := "isShaft", desc := "(I)Z" } : Jvm.MethodName)) ∈ lw_all := lw_g (lw_at lw_m4 36 rfl) rfl
theorem q823 : (Jvm.Cond.code ({ cls := "WeaveDraft", name := "isShaft", desc := "(I)Z" } : Jvm.MethodName) prog_1_method_15_code (2 : Nat) (Option.some Jvm.ClassFile.FieldType.boolean)) ∈ lw_all := lw_g (lw_at lw_m4 37 rfl) rfl
theorem q824 : (Jvm.Cond.methodLink "WeaveDraft" (198 : Nat) ({ cls := "WeaveDraft", name := "note", desc := "()V" } : Jvm.MethodName)) ∈ lw_all := lw_g (lw_at lw_m4 38 rfl) rfl
theorem q825 : (Jvm.Cond.privateMethod ({ cls := "WeaveDraft", name := "note", desc := "()V" } : Jvm.MethodName)) ∈ lw_tbl := lw_at lw_m4 39 rfl
theorem q826 : (Jvm.Cond.instanceMethod ({ cls := "WeaveDraft", name := "note", desc := "()V" } : Jvm.MethodName)) ∈ lw_all := lw_g (lw_at lw_m4 40 rfl) rfl
theorem q827 : (Jvm.Cond.code ({ cls := "WeaveDraft", name := "note", desc := "()V" } : Jvm.MethodName) prog_1_method_4_code (2 : Nat) (Option.none : Option Jvm.ClassFile.FieldType)) ∈ lw_all := lw_g (lw_at lw_m4 41 rfl) rfl
theorem q828 : (Jvm.Cond.methodLink "WeaveDraft" (18 : Nat) ({ cls := "java/lang/System", name := "arraycopy", desc := "(Ljava/lang/Object;ILjava/lang/Object;II)V" } : Jvm.MethodName)) ∈ lw_all := lw_g (lw_at lw_m4 42 rfl) rfl
theorem q829 : (Jvm.Cond.methodLink "WeaveDraft" (34 : Nat) ({ cls := "WeaveDraft$Draft", name := "set", desc := "(LWeaveDraft$Draft;)LWeaveDraft$Draft;" } : Jvm.MethodName)) ∈ lw_all := lw_g (lw_at lw_m4 43 rfl) rfl
theorem q835 : (Jvm.Cond.instanceMethod ({ cls := "WeaveDraft", name := "tie", desc := "(II)I" } : Jvm.MethodName)) ∈ lw_all := lw_g (lw_at lw_m4 49 rfl) rfl
theorem q836 : (Jvm.Cond.selects "WeaveDraft" ({ cls := "WeaveDraft", name := "tie", desc := "(II)I" } : Jvm.MethodName) ({ cls := "WeaveDraft", name := "tie", desc := "(II)I" } : Jvm.MethodName)) ∈ lw_all := lw_g (lw_at lw_m4 50 rfl) rfl
theorem q837 : (Jvm.Cond.code ({ cls := "WeaveDraft", name := "tie", desc := "(II)I" } : Jvm.MethodName) prog_1_method_27_code (3 : Nat) (Option.some Jvm.ClassFile.FieldType.int)) ∈ lw_all := lw_g (lw_at lw_m4 51 rfl) rfl
theorem q839 : (Jvm.Cond.instanceMethod ({ cls := "WeaveDraft", name := "tread", desc := "(II)I" } : Jvm.MethodName)) ∈ lw_all := lw_g (lw_at lw_m4 53 rfl) rfl
theorem q840 : (Jvm.Cond.selects "WeaveDraft" ({ cls := "WeaveDraft", name := "tread", desc := "(II)I" } : Jvm.MethodName) ({ cls := "WeaveDraft", name := "tread", desc := "(II)I" } : Jvm.MethodName)) ∈ lw_all := lw_g (lw_at lw_m4 54 rfl) rfl
theorem q841 : (Jvm.Cond.code ({ cls := "WeaveDraft", name := "tread", desc := "(II)I" } : Jvm.MethodName) prog_1_method_28_code (4 : Nat) (Option.some Jvm.ClassFile.FieldType.int)) ∈ lw_all := lw_g (lw_at lw_m4 55 rfl) rfl
theorem q843 : (Jvm.Cond.instanceMethod ({ cls := "WeaveDraft", name := "warp", desc := "(II)I" } : Jvm.MethodName)) ∈ lw_all := lw_g (lw_at lw_m4 57 rfl) rfl
theorem q844 : (Jvm.Cond.selects "WeaveDraft" ({ cls := "WeaveDraft", name := "warp", desc := "(II)I" } : Jvm.MethodName) ({ cls := "WeaveDraft", name := "warp", desc := "(II)I" } : Jvm.MethodName)) ∈ lw_all := lw_g (lw_at lw_m4 58 rfl) rfl
theorem q845 : (Jvm.Cond.code ({ cls := "WeaveDraft", name := "warp", desc := "(II)I" } : Jvm.MethodName) prog_1_method_30_code (3 : Nat) (Option.some Jvm.ClassFile.FieldType.int)) ∈ lw_all := lw_g (lw_at lw_m4 59 rfl) rfl
theorem q846 : (Jvm.Cond.constantLong "WeaveDraft" (201 : Nat) (9 : Int64)) ∈ lw_all := lw_g (lw_at lw_m4 60 rfl) rfl
theorem q847 : (Jvm.Cond.methodLink "WeaveDraft" (203 : Nat) ({ cls := "WeaveDraft", name := "coloured", desc := "(LWeaveDraft$Strand;I)I" } : Jvm.MethodName)) ∈ lw_all := lw_g (lw_at lw_m4 61 rfl) rfl
theorem q848 : (Jvm.Cond.privateMethod ({ cls := "WeaveDraft", name := "coloured", desc := "(LWeaveDraft$Strand;I)I" } : Jvm.MethodName)) ∈ lw_tbl := lw_at lw_m4 62 rfl
theorem q849 : (Jvm.Cond.instanceMethod ({ cls := "WeaveDraft", name := "coloured", desc := "(LWeaveDraft$Strand;I)I" } : Jvm.MethodName)) ∈ lw_all := lw_g (lw_at lw_m4 63 rfl) rfl
theorem q850 : (Jvm.Cond.code ({ cls := "WeaveDraft", name := "coloured", desc := "(LWeaveDraft$Strand;I)I" } : Jvm.MethodName) prog_1_method_29_code (4 : Nat) (Option.some Jvm.ClassFile.FieldType.int)) ∈ lw_all := lw_g (lw_at lw_m4 64 rfl) rfl
theorem q852 : (Jvm.Cond.instanceMethod ({ cls := "WeaveDraft", name := "weft", desc := "(II)I" } : Jvm.MethodName)) ∈ lw_all := lw_g (lw_at lw_m4 66 rfl) rfl
theorem q853 : (Jvm.Cond.selects "WeaveDraft" ({ cls := "WeaveDraft", name := "weft", desc := "(II)I" } : Jvm.MethodName) ({ cls := "WeaveDraft", name := "weft", desc := "(II)I" } : Jvm.MethodName)) ∈ lw_all := lw_g (lw_at lw_m4 67 rfl) rfl
theorem q854 : (Jvm.Cond.code ({ cls := "WeaveDraft", name := "weft", desc := "(II)I" } : Jvm.MethodName) prog_1_method_31_code (3 : Nat) (Option.some Jvm.ClassFile.FieldType.int)) ∈ lw_all := lw_g (lw_at lw_m4 68 rfl) rfl
theorem q856 : (Jvm.Cond.instanceMethod ({ cls := "WeaveDraft", name := "sample", desc := "()I" } : Jvm.MethodName)) ∈ lw_all := lw_g (lw_at lw_m4 70 rfl) rfl
theorem q857 : (Jvm.Cond.selects "WeaveDraft" ({ cls := "WeaveDraft", name := "sample", desc := "()I" } : Jvm.MethodName) ({ cls := "WeaveDraft", name := "sample", desc := "()I" } : Jvm.MethodName)) ∈ lw_all := lw_g (lw_at lw_m4 71 rfl) rfl
theorem q858 : (Jvm.Cond.code ({ cls := "WeaveDraft", name := "sample", desc := "()I" } : Jvm.MethodName) prog_1_method_32_code (7 : Nat) (Option.some Jvm.ClassFile.FieldType.int)) ∈ lw_all := lw_g (lw_at lw_m4 72 rfl) rfl
theorem q859 : (Jvm.Cond.methodLink "WeaveDraft" (206 : Nat) ({ cls := "WeaveDraft", name := "shaftsOf", desc := "([I)I" } : Jvm.MethodName)) ∈ lw_all := lw_g (lw_at lw_m4 73 rfl) rfl
theorem q860 : (Jvm.Cond.privateMethod ({ cls := "WeaveDraft", name := "shaftsOf", desc := "([I)I" } : Jvm.MethodName)) ∈ lw_tbl := lw_at lw_m4 74 rfl
theorem q861 : (Jvm.Cond.instanceMethod ({ cls := "WeaveDraft", name := "shaftsOf", desc := "([I)I" } : Jvm.MethodName)) ∈ lw_all := lw_g (lw_at lw_m4 75 rfl) rfl
theorem q862 : (Jvm.Cond.code ({ cls := "WeaveDraft", name := "shaftsOf", desc := "([I)I" } : Jvm.MethodName) prog_1_method_8_code (2 : Nat) (Option.some Jvm.ClassFile.FieldType.int)) ∈ lw_all := lw_g (lw_at lw_m4 76 rfl) rfl
theorem q863 : (Jvm.Cond.methodLink "WeaveDraft" (50 : Nat) ({ cls := "WeaveDraft", name := "columnsOf", desc := "()LWeaveDraft$Line;" } : Jvm.MethodName)) ∈ lw_all := lw_g (lw_at lw_m4 77 rfl) rfl
theorem q864 : (Jvm.Cond.privateMethod ({ cls := "WeaveDraft", name := "columnsOf", desc := "()LWeaveDraft$Line;" } : Jvm.MethodName)) ∈ lw_tbl := lw_at lw_m4 78 rfl
theorem q865 : (Jvm.Cond.instanceMethod ({ cls := "WeaveDraft", name := "columnsOf", desc := "()LWeaveDraft$Line;" } : Jvm.MethodName)) ∈ lw_all := lw_g (lw_at lw_m4 79 rfl) rfl
theorem q866 : (Jvm.Cond.code ({ cls := "WeaveDraft", name := "columnsOf", desc := "()LWeaveDraft$Line;" } : Jvm.MethodName) prog_1_method_6_code (1 : Nat) (Option.some (Jvm.ClassFile.FieldType.object "WeaveDraft$Line"))) ∈ lw_all := lw_g (lw_at lw_m4 80 rfl) rfl
theorem q867 : (Jvm.Cond.classLink "WeaveDraft" (41 : Nat) "WeaveDraft$2") ∈ lw_all := lw_g (lw_at lw_m4 81 rfl) rfl
theorem q869 : (Jvm.Cond.methodLink "WeaveDraft" (43 : Nat) ({ cls := "WeaveDraft$2", name := "<init>", desc := "(LWeaveDraft;)V" } : Jvm.MethodName)) ∈ lw_all := lw_g (lw_at lw_m4 83 rfl) rfl
theorem q877 : (Jvm.Cond.methodLink "WeaveDraft" (57 : Nat) ({ cls := "WeaveDraft", name := "numbered", desc := "(LWeaveDraft$Line;I[I)I" } : Jvm.MethodName)) ∈ lw_all := lw_g (lw_at lw_m4 91 rfl) rfl
theorem q878 : (Jvm.Cond.static ({ cls := "WeaveDraft", name := "numbered", desc := "(LWeaveDraft$Line;I[I)I" } : Jvm.MethodName)) ∈ lw_all := lw_g (lw_at lw_m4 92 rfl) rfl
theorem q879 : (Jvm.Cond.code ({ cls := "WeaveDraft", name := "numbered", desc := "(LWeaveDraft$Line;I[I)I" } : Jvm.MethodName) prog_1_method_7_code (6 : Nat) (Option.some Jvm.ClassFile.FieldType.int)) ∈ lw_all := lw_g (lw_at lw_m4 93 rfl) rfl
theorem q880 : (Jvm.Cond.interfaceEntry "WeaveDraft" (44 : Nat)) ∈ lw_tbl := lw_at lw_m4 94 rfl
theorem q881 : (Jvm.Cond.methodLink "WeaveDraft" (44 : Nat) ({ cls := "WeaveDraft$Line", name := "bits", desc := "(I)I" } : Jvm.MethodName)) ∈ lw_all := lw_g (lw_at lw_m4 95 rfl) rfl
theorem q897 : (Jvm.Cond.methodLink "WeaveDraft" (210 : Nat) ({ cls := "WeaveDraft", name := "treadlesOf", desc := "([I)I" } : Jvm.MethodName)) ∈ lw_all := lw_g (lw_at lw_m4 111 rfl) rfl
theorem q898 : (Jvm.Cond.privateMethod ({ cls := "WeaveDraft", name := "treadlesOf", desc := "([I)I" } : Jvm.MethodName)) ∈ lw_tbl := lw_at lw_m4 112 rfl
theorem q899 : (Jvm.Cond.instanceMethod ({ cls := "WeaveDraft", name := "treadlesOf", desc := "([I)I" } : Jvm.MethodName)) ∈ lw_all := lw_g (lw_at lw_m4 113 rfl) rfl
theorem q900 : (Jvm.Cond.code ({ cls := "WeaveDraft", name := "treadlesOf", desc := "([I)I" } : Jvm.MethodName) prog_1_method_9_code (2 : Nat) (Option.some Jvm.ClassFile.FieldType.int)) ∈ lw_all := lw_g (lw_at lw_m4 114 rfl) rfl
theorem q901 : (Jvm.Cond.methodLink "WeaveDraft" (61 : Nat) ({ cls := "WeaveDraft", name := "rowsOf", desc := "()LWeaveDraft$Line;" } : Jvm.MethodName)) ∈ lw_all := lw_g (lw_at lw_m4 115 rfl) rfl
theorem q902 : (Jvm.Cond.privateMethod ({ cls := "WeaveDraft", name := "rowsOf", desc := "()LWeaveDraft$Line;" } : Jvm.MethodName)) ∈ lw_tbl := lw_at lw_m4 116 rfl
theorem q903 : (Jvm.Cond.instanceMethod ({ cls := "WeaveDraft", name := "rowsOf", desc := "()LWeaveDraft$Line;" } : Jvm.MethodName)) ∈ lw_all := lw_g (lw_at lw_m4 117 rfl) rfl
theorem q904 : (Jvm.Cond.code ({ cls := "WeaveDraft", name := "rowsOf", desc := "()LWeaveDraft$Line;" } : Jvm.MethodName) prog_1_method_5_code (1 : Nat) (Option.some (Jvm.ClassFile.FieldType.object "WeaveDraft$Line"))) ∈ lw_all := lw_g (lw_at lw_m4 118 rfl) rfl
theorem q905 : (Jvm.Cond.classLink "WeaveDraft" (38 : Nat) "WeaveDraft$1") ∈ lw_all := lw_g (lw_at lw_m4 119 rfl) rfl
theorem q907 : (Jvm.Cond.methodLink "WeaveDraft" (40 : Nat) ({ cls := "WeaveDraft$1", name := "<init>", desc := "(LWeaveDraft;)V" } : Jvm.MethodName)) ∈ lw_all := lw_g (lw_at lw_m4 121 rfl) rfl
theorem q915 : (Jvm.Cond.methodLink "WeaveDraft" (213 : Nat) ({ cls := "java/util/Arrays", name := "fill", desc := "([II)V" } : Jvm.MethodName)) ∈ lw_all := lw_g (lw_at lw_m4 129 rfl) rfl
theorem q918 : (Jvm.Cond.methodLink "WeaveDraft" (219 : Nat) ({ cls := "WeaveDraft", name := "has", desc := "(II)Z" } : Jvm.MethodName)) ∈ lw_all := lw_g (lw_at lw_m4 132 rfl) rfl
theorem q920 : (Jvm.Cond.instanceMethod ({ cls := "WeaveDraft", name := "turn", desc := "()I" } : Jvm.MethodName)) ∈ lw_all := lw_g (lw_at lw_m4 134 rfl) rfl
theorem q921 : (Jvm.Cond.selects "WeaveDraft" ({ cls := "WeaveDraft", name := "turn", desc := "()I" } : Jvm.MethodName) ({ cls := "WeaveDraft", name := "turn", desc := "()I" } : Jvm.MethodName)) ∈ lw_all := lw_g (lw_at lw_m4 135 rfl) rfl
theorem q922 : (Jvm.Cond.code ({ cls := "WeaveDraft", name := "turn", desc := "()I" } : Jvm.MethodName) prog_1_method_33_code (1 : Nat) (Option.some Jvm.ClassFile.FieldType.int)) ∈ lw_all := lw_g (lw_at lw_m4 136 rfl) rfl
theorem q923 : (Jvm.Cond.methodLink "WeaveDraft" (222 : Nat) ({ cls := "WeaveDraft$Draft", name := "turn", desc := "()V" } : Jvm.MethodName)) ∈ lw_all := lw_g (lw_at lw_m4 137 rfl) rfl
theorem q933 : (Jvm.Cond.instanceMethod ({ cls := "WeaveDraft", name := "undo", desc := "()I" } : Jvm.MethodName)) ∈ lw_all := lw_g (lw_at lw_m4 147 rfl) rfl
theorem q934 : (Jvm.Cond.selects "WeaveDraft" ({ cls := "WeaveDraft", name := "undo", desc := "()I" } : Jvm.MethodName) ({ cls := "WeaveDraft", name := "undo", desc := "()I" } : Jvm.MethodName)) ∈ lw_all := lw_g (lw_at lw_m4 148 rfl) rfl
theorem q935 : (Jvm.Cond.code ({ cls := "WeaveDraft", name := "undo", desc := "()I" } : Jvm.MethodName) prog_1_method_34_code (1 : Nat) (Option.some Jvm.ClassFile.FieldType.int)) ∈ lw_all := lw_g (lw_at lw_m4 149 rfl) rfl
theorem q937 : (Jvm.Cond.instanceMethod ({ cls := "WeaveDraft", name := "keep", desc := "(I)I" } : Jvm.MethodName)) ∈ lw_all := lw_g (lw_at lw_m4 151 rfl) rfl
theorem q938 : (Jvm.Cond.selects "WeaveDraft" ({ cls := "WeaveDraft", name := "keep", desc := "(I)I" } : Jvm.MethodName) ({ cls := "WeaveDraft", name := "keep", desc := "(I)I" } : Jvm.MethodName)) ∈ lw_all := lw_g (lw_at lw_m4 152 rfl) rfl
theorem q939 : (Jvm.Cond.code ({ cls := "WeaveDraft", name := "keep", desc := "(I)I" } : Jvm.MethodName) prog_1_method_35_code (2 : Nat) (Option.some Jvm.ClassFile.FieldType.int)) ∈ lw_all := lw_g (lw_at lw_m4 153 rfl) rfl
theorem q941 : (Jvm.Cond.instanceMethod ({ cls := "WeaveDraft", name := "back", desc := "(I)I" } : Jvm.MethodName)) ∈ lw_all := lw_g (lw_at lw_m4 155 rfl) rfl
theorem q942 : (Jvm.Cond.selects "WeaveDraft" ({ cls := "WeaveDraft", name := "back", desc := "(I)I" } : Jvm.MethodName) ({ cls := "WeaveDraft", name := "back", desc := "(I)I" } : Jvm.MethodName)) ∈ lw_all := lw_g (lw_at lw_m4 156 rfl) rfl
theorem q943 : (Jvm.Cond.code ({ cls := "WeaveDraft", name := "back", desc := "(I)I" } : Jvm.MethodName) prog_1_method_36_code (2 : Nat) (Option.some Jvm.ClassFile.FieldType.int)) ∈ lw_all := lw_g (lw_at lw_m4 157 rfl) rfl
theorem q945 : (Jvm.Cond.instanceMethod ({ cls := "WeaveDraft", name := "least", desc := "(I)I" } : Jvm.MethodName)) ∈ lw_all := lw_g (lw_at lw_m4 159 rfl) rfl
theorem q946 : (Jvm.Cond.selects "WeaveDraft" ({ cls := "WeaveDraft", name := "least", desc := "(I)I" } : Jvm.MethodName) ({ cls := "WeaveDraft", name := "least", desc := "(I)I" } : Jvm.MethodName)) ∈ lw_all := lw_g (lw_at lw_m4 160 rfl) rfl
theorem q947 : (Jvm.Cond.code ({ cls := "WeaveDraft", name := "least", desc := "(I)I" } : Jvm.MethodName) prog_1_method_37_code (2 : Nat) (Option.some Jvm.ClassFile.FieldType.int)) ∈ lw_all := lw_g (lw_at lw_m4 161 rfl) rfl
theorem q948 : (Jvm.Cond.methodLink "WeaveDraft" (225 : Nat) ({ cls := "WeaveDraft", name := "isSample", desc := "()Z" } : Jvm.MethodName)) ∈ lw_all := lw_g (lw_at lw_m4 162 rfl) rfl
theorem q949 : (Jvm.Cond.privateMethod ({ cls := "WeaveDraft", name := "isSample", desc := "()Z" } : Jvm.MethodName)) ∈ lw_tbl := lw_at lw_m4 163 rfl
theorem q950 : (Jvm.Cond.instanceMethod ({ cls := "WeaveDraft", name := "isSample", desc := "()Z" } : Jvm.MethodName)) ∈ lw_all := lw_g (lw_at lw_m4 164 rfl) rfl
theorem q951 : (Jvm.Cond.code ({ cls := "WeaveDraft", name := "isSample", desc := "()Z" } : Jvm.MethodName) prog_1_method_10_code (3 : Nat) (Option.some Jvm.ClassFile.FieldType.boolean)) ∈ lw_all := lw_g (lw_at lw_m4 165 rfl) rfl
theorem q953 : (Jvm.Cond.instanceMethod ({ cls := "WeaveDraft", name := "sampled", desc := "(II)I" } : Jvm.MethodName)) ∈ lw_all := lw_g (lw_at lw_m4 167 rfl) rfl
theorem q954 : (Jvm.Cond.selects "WeaveDraft" ({ cls := "WeaveDraft", name := "sampled", desc := "(II)I" } : Jvm.MethodName) ({ cls := "WeaveDraft", name := "sampled", desc := "(II)I" } : Jvm.MethodName)) ∈ lw_all := lw_g (lw_at lw_m4 168 rfl) rfl
theorem q955 : (Jvm.Cond.code ({ cls := "WeaveDraft", name := "sampled", desc := "(II)I" } : Jvm.MethodName) prog_1_method_38_code (3 : Nat) (Option.some Jvm.ClassFile.FieldType.int)) ∈ lw_all := lw_g (lw_at lw_m4 169 rfl) rfl
theorem q957 : (Jvm.Cond.instanceMethod ({ cls := "WeaveDraft", name := "tamed", desc := "(II)I" } : Jvm.MethodName)) ∈ lw_all := lw_g (lw_at lw_m4 171 rfl) rfl
theorem q958 : (Jvm.Cond.selects "WeaveDraft" ({ cls := "WeaveDraft", name := "tamed", desc := "(II)I" } : Jvm.MethodName) ({ cls := "WeaveDraft", name := "tamed", desc := "(II)I" } : Jvm.MethodName)) ∈ lw_all := lw_g (lw_at lw_m4 172 rfl) rfl
theorem q959 : (Jvm.Cond.code ({ cls := "WeaveDraft", name := "tamed", desc := "(II)I" } : Jvm.MethodName) prog_1_method_39_code (10 : Nat) (Option.some Jvm.ClassFile.FieldType.int)) ∈ lw_all := lw_g (lw_at lw_m4 173 rfl) rfl
theorem q960 : (Jvm.Cond.constantLong "WeaveDraft" (229 : Nat) (12 : Int64)) ∈ lw_all := lw_g (lw_at lw_m4 174 rfl) rfl
theorem q961 : (Jvm.Cond.methodLink "WeaveDraft" (231 : Nat) ({ cls := "WeaveDraft", name := "turned", desc := "(III)I" } : Jvm.MethodName)) ∈ lw_all := lw_g (lw_at lw_m4 175 rfl) rfl
theorem q962 : (Jvm.Cond.privateMethod ({ cls := "WeaveDraft", name := "turned", desc := "(III)I" } : Jvm.MethodName)) ∈ lw_tbl := lw_at lw_m4 176 rfl
theorem q963 : (Jvm.Cond.instanceMethod ({ cls := "WeaveDraft", name := "turned", desc := "(III)I" } : Jvm.MethodName)) ∈ lw_all := lw_g (lw_at lw_m4 177 rfl) rfl
theorem q964 : (Jvm.Cond.code ({ cls := "WeaveDraft", name := "turned", desc := "(III)I" } : Jvm.MethodName) prog_1_method_40_code (4 : Nat) (Option.some Jvm.ClassFile.FieldType.int)) ∈ lw_all := lw_g (lw_at lw_m4 178 rfl) rfl
theorem q965 : (Jvm.Cond.methodLink "WeaveDraft" (235 : Nat) ({ cls := "java/lang/Math", name := "min", desc := "(II)I" } : Jvm.MethodName)) ∈ lw_all := lw_g (lw_at lw_m4 179 rfl) rfl
theorem q967 : (Jvm.Cond.instanceMethod ({ cls := "WeaveDraft", name := "changed", desc := "(II)I" } : Jvm.MethodName)) ∈ lw_all := lw_g (lw_at lw_m4 181 rfl) rfl
theorem q968 : (Jvm.Cond.selects "WeaveDraft" ({ cls := "WeaveDraft", name := "changed", desc := "(II)I" } : Jvm.MethodName) ({ cls := "WeaveDraft", name := "changed", desc := "(II)I" } : Jvm.MethodName)) ∈ lw_all := lw_g (lw_at lw_m4 182 rfl) rfl
theorem q969 : (Jvm.Cond.code ({ cls := "WeaveDraft", name := "changed", desc := "(II)I" } : Jvm.MethodName) prog_1_method_41_code (3 : Nat) (Option.some Jvm.ClassFile.FieldType.int)) ∈ lw_all := lw_g (lw_at lw_m4 183 rfl) rfl
theorem q970 : (Jvm.Cond.methodLink "WeaveDraft" (241 : Nat) ({ cls := "WeaveDraft$Draft", name := "longestPick", desc := "()I" } : Jvm.MethodName)) ∈ lw_all := lw_g (lw_at lw_m4 184 rfl) rfl
theorem q977 : (Jvm.Cond.instanceMethod ({ cls := "WeaveDraft", name := "spool", desc := "(I)I" } : Jvm.MethodName)) ∈ lw_all := lw_g (lw_at lw_m4 191 rfl) rfl
theorem q978 : (Jvm.Cond.selects "WeaveDraft" ({ cls := "WeaveDraft", name := "spool", desc := "(I)I" } : Jvm.MethodName) ({ cls := "WeaveDraft", name := "spool", desc := "(I)I" } : Jvm.MethodName)) ∈ lw_all := lw_g (lw_at lw_m4 192 rfl) rfl
theorem q979 : (Jvm.Cond.code ({ cls := "WeaveDraft", name := "spool", desc := "(I)I" } : Jvm.MethodName) prog_1_method_43_code (2 : Nat) (Option.some Jvm.ClassFile.FieldType.int)) ∈ lw_all := lw_g (lw_at lw_m4 193 rfl) rfl
theorem q980 : (Jvm.Cond.methodLink "WeaveDraft" (246 : Nat) ({ cls := "WeaveDraft", name := "isSpool", desc := "(I)Z" } : Jvm.MethodName)) ∈ lw_all := lw_g (lw_at lw_m4 194 rfl) rfl
theorem q981 : (Jvm.Cond.static ({ cls := "WeaveDraft", name := "isSpool", desc := "(I)Z" } : Jvm.MethodName)) ∈ lw_all := lw_g (lw_at lw_m4 195 rfl) rfl
theorem q982 : (Jvm.Cond.code ({ cls := "WeaveDraft", name := "isSpool", desc := "(I)Z" } : Jvm.MethodName) prog_1_method_42_code (1 : Nat) (Option.some Jvm.ClassFile.FieldType.boolean)) ∈ lw_all := lw_g (lw_at lw_m4 196 rfl) rfl
theorem q983 : (Jvm.Cond.constantLong "WeaveDraft" (244 : Nat) (2 : Int64)) ∈ lw_all := lw_g (lw_at lw_m4 197 rfl) rfl
theorem q985 : (Jvm.Cond.methodLinkNest "WeaveDraft" (249 : Nat) ({ cls := "WeaveDraft$Spool", name := "<init>", desc := "()V" } : Jvm.MethodName) "WeaveDraft") ∈ lw_tbl := lw_at lw_m4 199 rfl
theorem q991 : (Jvm.Cond.fieldLinkNest "WeaveDraft" (255 : Nat) "WeaveDraft$Spool" "lengths" "[I" "WeaveDraft") ∈ lw_tbl := lw_at lw_m4 205 rfl
theorem q993 : (Jvm.Cond.fieldLinkNest "WeaveDraft" (252 : Nat) "WeaveDraft$Spool" "many" "I" "WeaveDraft") ∈ lw_tbl := lw_at lw_m4 207 rfl
theorem q1000 : (Jvm.Cond.instanceMethod ({ cls := "WeaveDraft", name := "wind", desc := "(II)I" } : Jvm.MethodName)) ∈ lw_all := lw_g (lw_at lw_m4 214 rfl) rfl
theorem q1001 : (Jvm.Cond.selects "WeaveDraft" ({ cls := "WeaveDraft", name := "wind", desc := "(II)I" } : Jvm.MethodName) ({ cls := "WeaveDraft", name := "wind", desc := "(II)I" } : Jvm.MethodName)) ∈ lw_all := lw_g (lw_at lw_m4 215 rfl) rfl
theorem q1002 : (Jvm.Cond.code ({ cls := "WeaveDraft", name := "wind", desc := "(II)I" } : Jvm.MethodName) prog_1_method_44_code (4 : Nat) (Option.some Jvm.ClassFile.FieldType.int)) ∈ lw_all := lw_g (lw_at lw_m4 216 rfl) rfl
theorem q1003 : (Jvm.Cond.constantLong "WeaveDraft" (250 : Nat) (99 : Int64)) ∈ lw_all := lw_g (lw_at lw_m4 217 rfl) rfl
theorem q1005 : (Jvm.Cond.instanceMethod ({ cls := "WeaveDraft", name := "pull", desc := "(II)I" } : Jvm.MethodName)) ∈ lw_all := lw_g (lw_at lw_m4 219 rfl) rfl
theorem q1006 : (Jvm.Cond.selects "WeaveDraft" ({ cls := "WeaveDraft", name := "pull", desc := "(II)I" } : Jvm.MethodName) ({ cls := "WeaveDraft", name := "pull", desc := "(II)I" } : Jvm.MethodName)) ∈ lw_all := lw_g (lw_at lw_m4 220 rfl) rfl
theorem q1007 : (Jvm.Cond.code ({ cls := "WeaveDraft", name := "pull", desc := "(II)I" } : Jvm.MethodName) prog_1_method_45_code (6 : Nat) (Option.some Jvm.ClassFile.FieldType.int)) ∈ lw_all := lw_g (lw_at lw_m4 221 rfl) rfl
theorem q1008 : (Jvm.Cond.constantLong "WeaveDraft" (258 : Nat) (999 : Int64)) ∈ lw_all := lw_g (lw_at lw_m4 222 rfl) rfl
theorem q1009 : (Jvm.Cond.methodLink "WeaveDraft" (260 : Nat) ({ cls := "WeaveDraft$Spool", name := "sum", desc := "()I" } : Jvm.MethodName)) ∈ lw_all := lw_g (lw_at lw_m4 223 rfl) rfl
theorem q1098 : (Jvm.Cond.instanceMethod ({ cls := "WeaveDraft", name := "knot", desc := "(I)I" } : Jvm.MethodName)) ∈ lw_all := lw_g (lw_at lw_m5 72 rfl) rfl
theorem q1099 : (Jvm.Cond.selects "WeaveDraft" ({ cls := "WeaveDraft", name := "knot", desc := "(I)I" } : Jvm.MethodName) ({ cls := "WeaveDraft", name := "knot", desc := "(I)I" } : Jvm.MethodName)) ∈ lw_all := lw_g (lw_at lw_m5 73 rfl) rfl
theorem q1100 : (Jvm.Cond.code ({ cls := "WeaveDraft", name := "knot", desc := "(I)I" } : Jvm.MethodName) prog_1_method_46_code (4 : Nat) (Option.some Jvm.ClassFile.FieldType.int)) ∈ lw_all := lw_g (lw_at lw_m5 74 rfl) rfl
theorem q1102 : (Jvm.Cond.instanceMethod ({ cls := "WeaveDraft", name := "measure", desc := "(II)I" } : Jvm.MethodName)) ∈ lw_all := lw_g (lw_at lw_m5 76 rfl) rfl
theorem q1103 : (Jvm.Cond.selects "WeaveDraft" ({ cls := "WeaveDraft", name := "measure", desc := "(II)I" } : Jvm.MethodName) ({ cls := "WeaveDraft", name := "measure", desc := "(II)I" } : Jvm.MethodName)) ∈ lw_all := lw_g (lw_at lw_m5 77 rfl) rfl
theorem q1104 : (Jvm.Cond.code ({ cls := "WeaveDraft", name := "measure", desc := "(II)I" } : Jvm.MethodName) prog_1_method_47_code (4 : Nat) (Option.some Jvm.ClassFile.FieldType.int)) ∈ lw_all := lw_g (lw_at lw_m5 78 rfl) rfl
theorem q1105 : (Jvm.Cond.constantLong "WeaveDraft" (263 : Nat) (3 : Int64)) ∈ lw_all := lw_g (lw_at lw_m5 79 rfl) rfl
theorem q1106 : (Jvm.Cond.methodLink "WeaveDraft" (265 : Nat) ({ cls := "WeaveDraft$Spool", name := "longest", desc := "()I" } : Jvm.MethodName)) ∈ lw_all := lw_g (lw_at lw_m5 80 rfl) rfl
theorem q1111 : (Jvm.Cond.methodLink "WeaveDraft" (267 : Nat) ({ cls := "WeaveDraft$Spool", name := "iterator", desc := "()Ljava/util/Iterator;" } : Jvm.MethodName)) ∈ lw_all := lw_g (lw_at lw_m5 85 rfl) rfl
theorem q1112 : (Jvm.Cond.interfaceEntry "WeaveDraft" (271 : Nat)) ∈ lw_tbl := lw_at lw_m5 86 rfl
theorem q1113 : (Jvm.Cond.methodLink "WeaveDraft" (271 : Nat) ({ cls := "java/util/Iterator", name := "next", desc := "()Ljava/lang/Object;" } : Jvm.MethodName)) ∈ lw_all := lw_g (lw_at lw_m5 87 rfl) rfl
theorem q1114 : (Jvm.Cond.classLink "WeaveDraft" (277 : Nat) "java/lang/Integer") ∈ lw_all := lw_g (lw_at lw_m5 88 rfl) rfl
theorem q1115 : (Jvm.Cond.methodLink "WeaveDraft" (279 : Nat) ({ cls := "java/lang/Integer", name := "intValue", desc := "()I" } : Jvm.MethodName)) ∈ lw_all := lw_g (lw_at lw_m5 89 rfl) rfl
theorem q1116 : (Jvm.Cond.methodLink "WeaveDraft" (282 : Nat) ({ cls := "WeaveDraft$Spool", name := "longer", desc := "()I" } : Jvm.MethodName)) ∈ lw_all := lw_g (lw_at lw_m5 90 rfl) rfl
theorem q1121 : (Jvm.Cond.instanceMethod ({ cls := "WeaveDraft", name := "rewind", desc := "(II)I" } : Jvm.MethodName)) ∈ lw_all := lw_g (lw_at lw_m5 95 rfl) rfl
theorem q1122 : (Jvm.Cond.selects "WeaveDraft" ({ cls := "WeaveDraft", name := "rewind", desc := "(II)I" } : Jvm.MethodName) ({ cls := "WeaveDraft", name := "rewind", desc := "(II)I" } : Jvm.MethodName)) ∈ lw_all := lw_g (lw_at lw_m5 96 rfl) rfl
theorem q1123 : (Jvm.Cond.code ({ cls := "WeaveDraft", name := "rewind", desc := "(II)I" } : Jvm.MethodName) prog_1_method_48_code (7 : Nat) (Option.some Jvm.ClassFile.FieldType.int)) ∈ lw_all := lw_g (lw_at lw_m5 97 rfl) rfl
theorem q1124 : (Jvm.Cond.interfaceEntry "WeaveDraft" (285 : Nat)) ∈ lw_tbl := lw_at lw_m5 98 rfl
theorem q1125 : (Jvm.Cond.methodLink "WeaveDraft" (285 : Nat) ({ cls := "java/util/Iterator", name := "hasNext", desc := "()Z" } : Jvm.MethodName)) ∈ lw_all := lw_g (lw_at lw_m5 99 rfl) rfl
theorem q1127 : (Jvm.Cond.instanceMethod ({ cls := "WeaveDraft", name := "drop", desc := "(I)I" } : Jvm.MethodName)) ∈ lw_all := lw_g (lw_at lw_m5 101 rfl) rfl
theorem q1128 : (Jvm.Cond.selects "WeaveDraft" ({ cls := "WeaveDraft", name := "drop", desc := "(I)I" } : Jvm.MethodName) ({ cls := "WeaveDraft", name := "drop", desc := "(I)I" } : Jvm.MethodName)) ∈ lw_all := lw_g (lw_at lw_m5 102 rfl) rfl
theorem q1129 : (Jvm.Cond.code ({ cls := "WeaveDraft", name := "drop", desc := "(I)I" } : Jvm.MethodName) prog_1_method_49_code (3 : Nat) (Option.some Jvm.ClassFile.FieldType.int)) ∈ lw_all := lw_g (lw_at lw_m5 103 rfl) rfl
theorem q1131 : (Jvm.Cond.instanceMethod ({ cls := "WeaveDraft", name := "count", desc := "(I)I" } : Jvm.MethodName)) ∈ lw_all := lw_g (lw_at lw_m5 105 rfl) rfl
theorem q1132 : (Jvm.Cond.selects "WeaveDraft" ({ cls := "WeaveDraft", name := "count", desc := "(I)I" } : Jvm.MethodName) ({ cls := "WeaveDraft", name := "count", desc := "(I)I" } : Jvm.MethodName)) ∈ lw_all := lw_g (lw_at lw_m5 106 rfl) rfl
theorem q1133 : (Jvm.Cond.code ({ cls := "WeaveDraft", name := "count", desc := "(I)I" } : Jvm.MethodName) prog_1_method_58_code (2 : Nat) (Option.some Jvm.ClassFile.FieldType.int)) ∈ lw_all := lw_g (lw_at lw_m5 107 rfl) rfl
theorem q1134 : (Jvm.Cond.methodLink "WeaveDraft" (301 : Nat) ({ cls := "WeaveDraft$Draft", name := "longest", desc := "()I" } : Jvm.MethodName)) ∈ lw_all := lw_g (lw_at lw_m5 108 rfl) rfl
theorem q1143 : (Jvm.Cond.methodLink "WeaveDraft" (302 : Nat) ({ cls := "WeaveDraft", name := "repeat", desc := "([LWeaveDraft$Look;I)I" } : Jvm.MethodName)) ∈ lw_all := lw_g (lw_at lw_m5 117 rfl) rfl
theorem q1144 : (Jvm.Cond.static ({ cls := "WeaveDraft", name := "repeat", desc := "([LWeaveDraft$Look;I)I" } : Jvm.MethodName)) ∈ lw_all := lw_g (lw_at lw_m5 118 rfl) rfl
theorem q1145 : (Jvm.Cond.code ({ cls := "WeaveDraft", name := "repeat", desc := "([LWeaveDraft$Look;I)I" } : Jvm.MethodName) prog_1_method_51_code (3 : Nat) (Option.some Jvm.ClassFile.FieldType.int)) ∈ lw_all := lw_g (lw_at lw_m5 119 rfl) rfl
theorem q1146 : (Jvm.Cond.methodLink "WeaveDraft" (288 : Nat) ({ cls := "WeaveDraft", name := "isRepeat", desc := "([LWeaveDraft$Look;II)Z" } : Jvm.MethodName)) ∈ lw_all := lw_g (lw_at lw_m5 120 rfl) rfl
theorem q1147 : (Jvm.Cond.static ({ cls := "WeaveDraft", name := "isRepeat", desc := "([LWeaveDraft$Look;II)Z" } : Jvm.MethodName)) ∈ lw_all := lw_g (lw_at lw_m5 121 rfl) rfl
theorem q1148 : (Jvm.Cond.code ({ cls := "WeaveDraft", name := "isRepeat", desc := "([LWeaveDraft$Look;II)Z" } : Jvm.MethodName) prog_1_method_52_code (5 : Nat) (Option.some Jvm.ClassFile.FieldType.boolean)) ∈ lw_all := lw_g (lw_at lw_m5 122 rfl) rfl
theorem q1149 : (Jvm.Cond.interfaceEntry "WeaveDraft" (292 : Nat)) ∈ lw_tbl := lw_at lw_m5 123 rfl
theorem q1150 : (Jvm.Cond.methodLink "WeaveDraft" (292 : Nat) ({ cls := "WeaveDraft$Look", name := "bits", desc := "()I" } : Jvm.MethodName)) ∈ lw_all := lw_g (lw_at lw_m5 124 rfl) rfl
theorem q1152 : (Jvm.Cond.methodLink "WeaveDraft" (306 : Nat) ({ cls := "WeaveDraft", name := "stitches", desc := "()I" } : Jvm.MethodName)) ∈ lw_all := lw_g (lw_at lw_m5 126 rfl) rfl
theorem q1153 : (Jvm.Cond.privateMethod ({ cls := "WeaveDraft", name := "stitches", desc := "()I" } : Jvm.MethodName)) ∈ lw_tbl := lw_at lw_m5 127 rfl
theorem q1154 : (Jvm.Cond.instanceMethod ({ cls := "WeaveDraft", name := "stitches", desc := "()I" } : Jvm.MethodName)) ∈ lw_all := lw_g (lw_at lw_m5 128 rfl) rfl
theorem q1155 : (Jvm.Cond.code ({ cls := "WeaveDraft", name := "stitches", desc := "()I" } : Jvm.MethodName) prog_1_method_53_code (3 : Nat) (Option.some Jvm.ClassFile.FieldType.int)) ∈ lw_all := lw_g (lw_at lw_m5 129 rfl) rfl
theorem q1156 : (Jvm.Cond.methodLink "WeaveDraft" (307 : Nat) ({ cls := "WeaveDraft", name := "alike", desc := "()I" } : Jvm.MethodName)) ∈ lw_all := lw_g (lw_at lw_m5 130 rfl) rfl
theorem q1157 : (Jvm.Cond.privateMethod ({ cls := "WeaveDraft", name := "alike", desc := "()I" } : Jvm.MethodName)) ∈ lw_tbl := lw_at lw_m5 131 rfl
theorem q1158 : (Jvm.Cond.instanceMethod ({ cls := "WeaveDraft", name := "alike", desc := "()I" } : Jvm.MethodName)) ∈ lw_all := lw_g (lw_at lw_m5 132 rfl) rfl
theorem q1159 : (Jvm.Cond.code ({ cls := "WeaveDraft", name := "alike", desc := "()I" } : Jvm.MethodName) prog_1_method_55_code (4 : Nat) (Option.some Jvm.ClassFile.FieldType.int)) ∈ lw_all := lw_g (lw_at lw_m5 133 rfl) rfl
theorem q1160 : (Jvm.Cond.methodLink "WeaveDraft" (295 : Nat) ({ cls := "WeaveDraft", name := "areAlike", desc := "(II)Z" } : Jvm.MethodName)) ∈ lw_all := lw_g (lw_at lw_m5 134 rfl) rfl
theorem q1161 : (Jvm.Cond.privateMethod ({ cls := "WeaveDraft", name := "areAlike", desc := "(II)Z" } : Jvm.MethodName)) ∈ lw_tbl := lw_at lw_m5 135 rfl
theorem q1162 : (Jvm.Cond.instanceMethod ({ cls := "WeaveDraft", name := "areAlike", desc := "(II)Z" } : Jvm.MethodName)) ∈ lw_all := lw_g (lw_at lw_m5 136 rfl) rfl
theorem q1163 : (Jvm.Cond.code ({ cls := "WeaveDraft", name := "areAlike", desc := "(II)Z" } : Jvm.MethodName) prog_1_method_54_code (5 : Nat) (Option.some Jvm.ClassFile.FieldType.boolean)) ∈ lw_all := lw_g (lw_at lw_m5 137 rfl) rfl
theorem q1164 : (Jvm.Cond.methodLink "WeaveDraft" (310 : Nat) ({ cls := "WeaveDraft", name := "idle", desc := "([LWeaveDraft$Strand;II)I" } : Jvm.MethodName)) ∈ lw_all := lw_g (lw_at lw_m5 138 rfl) rfl
theorem q1165 : (Jvm.Cond.static ({ cls := "WeaveDraft", name := "idle", desc := "([LWeaveDraft$Strand;II)I" } : Jvm.MethodName)) ∈ lw_all := lw_g (lw_at lw_m5 139 rfl) rfl
theorem q1166 : (Jvm.Cond.code ({ cls := "WeaveDraft", name := "idle", desc := "([LWeaveDraft$Strand;II)I" } : Jvm.MethodName) prog_1_method_56_code (5 : Nat) (Option.some Jvm.ClassFile.FieldType.int)) ∈ lw_all := lw_g (lw_at lw_m5 140 rfl) rfl
theorem q1167 : (Jvm.Cond.methodLink "WeaveDraft" (314 : Nat) ({ cls := "WeaveDraft", name := "ups", desc := "()I" } : Jvm.MethodName)) ∈ lw_all := lw_g (lw_at lw_m5 141 rfl) rfl
theorem q1168 : (Jvm.Cond.privateMethod ({ cls := "WeaveDraft", name := "ups", desc := "()I" } : Jvm.MethodName)) ∈ lw_tbl := lw_at lw_m5 142 rfl
theorem q1169 : (Jvm.Cond.instanceMethod ({ cls := "WeaveDraft", name := "ups", desc := "()I" } : Jvm.MethodName)) ∈ lw_all := lw_g (lw_at lw_m5 143 rfl) rfl
theorem q1170 : (Jvm.Cond.code ({ cls := "WeaveDraft", name := "ups", desc := "()I" } : Jvm.MethodName) prog_1_method_57_code (3 : Nat) (Option.some Jvm.ClassFile.FieldType.int)) ∈ lw_all := lw_g (lw_at lw_m5 144 rfl) rfl
theorem q1171 : (Jvm.Cond.methodLink "WeaveDraft" (298 : Nat) ({ cls := "java/lang/Integer", name := "bitCount", desc := "(I)I" } : Jvm.MethodName)) ∈ lw_all := lw_g (lw_at lw_m5 145 rfl) rfl
theorem q1177 : (Jvm.Cond.methodLink "WeaveDraft" (317 : Nat) ({ cls := "WeaveDraft", name := "threads", desc := "()I" } : Jvm.MethodName)) ∈ lw_all := lw_g (lw_at lw_m5 151 rfl) rfl
theorem q1178 : (Jvm.Cond.privateMethod ({ cls := "WeaveDraft", name := "threads", desc := "()I" } : Jvm.MethodName)) ∈ lw_tbl := lw_at lw_m5 152 rfl
theorem q1179 : (Jvm.Cond.instanceMethod ({ cls := "WeaveDraft", name := "threads", desc := "()I" } : Jvm.MethodName)) ∈ lw_all := lw_g (lw_at lw_m5 153 rfl) rfl
theorem q1180 : (Jvm.Cond.code ({ cls := "WeaveDraft", name := "threads", desc := "()I" } : Jvm.MethodName) prog_1_method_50_code (6 : Nat) (Option.some Jvm.ClassFile.FieldType.int)) ∈ lw_all := lw_g (lw_at lw_m5 154 rfl) rfl
theorem q1566 : (Jvm.Cond.castable "WeaveDraft" "java/lang/Object") ∈ lw_tbl := lw_at lw_m7 60 rfl
theorem q1578 : (Jvm.Cond.stringRef "WeaveDraft" (322 : Nat) "draft") ∈ lw_tbl := lw_at lw_m7 72 rfl
theorem q1579 : (Jvm.Cond.stringRef "WeaveDraft" (324 : Nat) "draw") ∈ lw_tbl := lw_at lw_m7 73 rfl
theorem q1580 : (Jvm.Cond.stringRef "WeaveDraft" (326 : Nat) "tie") ∈ lw_tbl := lw_at lw_m7 74 rfl
theorem q1581 : (Jvm.Cond.stringRef "WeaveDraft" (328 : Nat) "tread") ∈ lw_tbl := lw_at lw_m7 75 rfl
theorem q1582 : (Jvm.Cond.stringRef "WeaveDraft" (330 : Nat) "warp") ∈ lw_tbl := lw_at lw_m7 76 rfl
theorem q1583 : (Jvm.Cond.stringRef "WeaveDraft" (331 : Nat) "weft") ∈ lw_tbl := lw_at lw_m7 77 rfl
theorem q1584 : (Jvm.Cond.stringRef "WeaveDraft" (332 : Nat) "clear") ∈ lw_tbl := lw_at lw_m7 78 rfl
theorem q1585 : (Jvm.Cond.stringRef "WeaveDraft" (334 : Nat) "row") ∈ lw_tbl := lw_at lw_m7 79 rfl
abbrev cX1_init : ByteArray := prog_4_method_1_code
def yX1_init : MethodName := ⟨RX1, "<init>", "(LWeaveDraft;)V"⟩
def dkwX1_init_3 : List UInt8 := [183, 0, 34, 83, 132, 2, 1, 167, 255, 217, 42, 7, 7, 5, 5, 182, 0, 35, 177]
abbrev dktX1_init_3 : List UInt8 := dkwX1_init_3 ++ []
def dkwX1_init_2 : List UInt8 := [28, 187, 0, 19, 89, 42, 28, 183, 0, 31, 83, 42, 180, 0, 27, 28, 187, 0, 25, 89, 42, 28]
abbrev dktX1_init_2 : List UInt8 := dkwX1_init_2 ++ dktX1_init_3
def dkwX1_init_1 : List UInt8 := [181, 0, 21, 42, 16, 12, 189, 0, 25, 181, 0, 27, 3, 61, 28, 16, 12, 162, 0, 39, 42, 180, 0, 21]
abbrev dktX1_init_1 : List UInt8 := dkwX1_init_1 ++ dktX1_init_2
def dkwX1_init_0 : List UInt8 := [42, 43, 181, 0, 3, 42, 183, 0, 9, 42, 16, 6, 188, 10, 181, 0, 15, 42, 16, 12, 189, 0, 19]
abbrev dktX1_init_0 : List UInt8 := dkwX1_init_0 ++ dktX1_init_1
theorem dksX1_init_0 : cX1_init.data.toList.drop 0 = dktX1_init_0 := by decide +kernel
theorem dksX1_init_1 : cX1_init.data.toList.drop 23 = dktX1_init_1 := dk_seg dksX1_init_0 23 rfl rfl
theorem dksX1_init_2 : cX1_init.data.toList.drop 47 = dktX1_init_2 := dk_seg dksX1_init_1 24 rfl rfl
theorem dksX1_init_3 : cX1_init.data.toList.drop 69 = dktX1_init_3 := dk_seg dksX1_init_2 22 rfl rfl
theorem dX1_init_0 : decode cX1_init 0 = .ok (.aload_n 0, 1) := dk_42 (dk_at dksX1_init_0 0 rfl rfl)
theorem dX1_init_1 : decode cX1_init 1 = .ok (.aload_n 1, 1) := dk_43 (dk_at dksX1_init_0 1 rfl rfl)
theorem dX1_init_2 : decode cX1_init 2 = .ok (.putfield 3, 3) := dk_181 0 3 (dk_at dksX1_init_0 2 rfl rfl)
theorem dX1_init_5 : decode cX1_init 5 = .ok (.aload_n 0, 1) := dk_42 (dk_at dksX1_init_0 5 rfl rfl)
theorem dX1_init_6 : decode cX1_init 6 = .ok (.invokespecial 9, 3) := dk_183 0 9 (dk_at dksX1_init_0 6 rfl rfl)
theorem dX1_init_9 : decode cX1_init 9 = .ok (.aload_n 0, 1) := dk_42 (dk_at dksX1_init_0 9 rfl rfl)
theorem dX1_init_10 : decode cX1_init 10 = .ok (.bipush 6, 2) := dk_16 6 (dk_at dksX1_init_0 10 rfl rfl)
theorem dX1_init_12 : decode cX1_init 12 = .ok (.newarray .int, 2) := dk_188_10 (dk_at dksX1_init_0 12 rfl rfl)
theorem dX1_init_14 : decode cX1_init 14 = .ok (.putfield 15, 3) := dk_181 0 15 (dk_at dksX1_init_0 14 rfl rfl)
theorem dX1_init_17 : decode cX1_init 17 = .ok (.aload_n 0, 1) := dk_42 (dk_at dksX1_init_0 17 rfl rfl)
theorem dX1_init_18 : decode cX1_init 18 = .ok (.bipush 12, 2) := dk_16 12 (dk_at dksX1_init_0 18 rfl rfl)
theorem dX1_init_20 : decode cX1_init 20 = .ok (.anewarray 19, 3) := dk_189 0 19 (dk_at dksX1_init_0 20 rfl rfl)
theorem dX1_init_23 : decode cX1_init 23 = .ok (.putfield 21, 3) := dk_181 0 21 (dk_at dksX1_init_1 0 rfl rfl)
theorem dX1_init_26 : decode cX1_init 26 = .ok (.aload_n 0, 1) := dk_42 (dk_at dksX1_init_1 3 rfl rfl)
theorem dX1_init_27 : decode cX1_init 27 = .ok (.bipush 12, 2) := dk_16 12 (dk_at dksX1_init_1 4 rfl rfl)
theorem dX1_init_29 : decode cX1_init 29 = .ok (.anewarray 25, 3) := dk_189 0 25 (dk_at dksX1_init_1 6 rfl rfl)
theorem dX1_init_32 : decode cX1_init 32 = .ok (.putfield 27, 3) := dk_181 0 27 (dk_at dksX1_init_1 9 rfl rfl)
theorem dX1_init_35 : decode cX1_init 35 = .ok (.iconst 0, 1) := dk_3 (dk_at dksX1_init_1 12 rfl rfl)
theorem dX1_init_36 : decode cX1_init 36 = .ok (.istore_n 2, 1) := dk_61 (dk_at dksX1_init_1 13 rfl rfl)
theorem dX1_init_37 : decode cX1_init 37 = .ok (.iload_n 2, 1) := dk_28 (dk_at dksX1_init_1 14 rfl rfl)
theorem dX1_init_38 : decode cX1_init 38 = .ok (.bipush 12, 2) := dk_16 12 (dk_at dksX1_init_1 15 rfl rfl)
theorem dX1_init_40 : decode cX1_init 40 = .ok (.if_icmp .ge 39, 3) := dk_162 0 39 (dk_at dksX1_init_1 17 rfl rfl)
theorem dX1_init_43 : decode cX1_init 43 = .ok (.aload_n 0, 1) := dk_42 (dk_at dksX1_init_1 20 rfl rfl)
theorem dX1_init_44 : decode cX1_init 44 = .ok (.getfield 21, 3) := dk_180 0 21 (dk_at dksX1_init_1 21 rfl rfl)
theorem dX1_init_47 : decode cX1_init 47 = .ok (.iload_n 2, 1) := dk_28 (dk_at dksX1_init_2 0 rfl rfl)
theorem dX1_init_48 : decode cX1_init 48 = .ok (.new 19, 3) := dk_187 0 19 (dk_at dksX1_init_2 1 rfl rfl)
theorem dX1_init_51 : decode cX1_init 51 = .ok (.dup, 1) := dk_89 (dk_at dksX1_init_2 4 rfl rfl)
theorem dX1_init_52 : decode cX1_init 52 = .ok (.aload_n 0, 1) := dk_42 (dk_at dksX1_init_2 5 rfl rfl)
theorem dX1_init_53 : decode cX1_init 53 = .ok (.iload_n 2, 1) := dk_28 (dk_at dksX1_init_2 6 rfl rfl)
theorem dX1_init_54 : decode cX1_init 54 = .ok (.invokespecial 31, 3) := dk_183 0 31 (dk_at dksX1_init_2 7 rfl rfl)
theorem dX1_init_57 : decode cX1_init 57 = .ok (.aastore, 1) := dk_83 (dk_at dksX1_init_2 10 rfl rfl)
theorem dX1_init_58 : decode cX1_init 58 = .ok (.aload_n 0, 1) := dk_42 (dk_at dksX1_init_2 11 rfl rfl)
theorem dX1_init_59 : decode cX1_init 59 = .ok (.getfield 27, 3) := dk_180 0 27 (dk_at dksX1_init_2 12 rfl rfl)
theorem dX1_init_62 : decode cX1_init 62 = .ok (.iload_n 2, 1) := dk_28 (dk_at dksX1_init_2 15 rfl rfl)
theorem dX1_init_63 : decode cX1_init 63 = .ok (.new 25, 3) := dk_187 0 25 (dk_at dksX1_init_2 16 rfl rfl)
theorem dX1_init_66 : decode cX1_init 66 = .ok (.dup, 1) := dk_89 (dk_at dksX1_init_2 19 rfl rfl)
theorem dX1_init_67 : decode cX1_init 67 = .ok (.aload_n 0, 1) := dk_42 (dk_at dksX1_init_2 20 rfl rfl)
theorem dX1_init_68 : decode cX1_init 68 = .ok (.iload_n 2, 1) := dk_28 (dk_at dksX1_init_2 21 rfl rfl)
theorem dX1_init_69 : decode cX1_init 69 = .ok (.invokespecial 34, 3) := dk_183 0 34 (dk_at dksX1_init_3 0 rfl rfl)
theorem dX1_init_72 : decode cX1_init 72 = .ok (.aastore, 1) := dk_83 (dk_at dksX1_init_3 3 rfl rfl)
theorem dX1_init_73 : decode cX1_init 73 = .ok (.iinc 2 1, 3) := dk_132 2 1 (dk_at dksX1_init_3 4 rfl rfl)
theorem dX1_init_76 : decode cX1_init 76 = .ok (.goto (-39), 3) := dk_167 255 217 (dk_at dksX1_init_3 7 rfl rfl)
theorem dX1_init_79 : decode cX1_init 79 = .ok (.aload_n 0, 1) := dk_42 (dk_at dksX1_init_3 10 rfl rfl)
theorem dX1_init_80 : decode cX1_init 80 = .ok (.iconst 4, 1) := dk_7 (dk_at dksX1_init_3 11 rfl rfl)
theorem dX1_init_81 : decode cX1_init 81 = .ok (.iconst 4, 1) := dk_7 (dk_at dksX1_init_3 12 rfl rfl)
theorem dX1_init_82 : decode cX1_init 82 = .ok (.iconst 2, 1) := dk_5 (dk_at dksX1_init_3 13 rfl rfl)
theorem dX1_init_83 : decode cX1_init 83 = .ok (.iconst 2, 1) := dk_5 (dk_at dksX1_init_3 14 rfl rfl)
theorem dX1_init_84 : decode cX1_init 84 = .ok (.invokevirtual 35, 3) := dk_182 0 35 (dk_at dksX1_init_3 15 rfl rfl)
theorem dX1_init_87 : decode cX1_init 87 = .ok (.return_, 1) := dk_177 (dk_at dksX1_init_3 18 rfl rfl)
abbrev cX1_start : ByteArray := prog_4_method_2_code
def yX1_start : MethodName := ⟨RX1, "start", "(IIII)V"⟩
def dkwX1_start_4 : List UInt8 := [21, 4, 112, 181, 0, 58, 42, 180, 0, 27, 21, 5, 50, 4, 181, 0, 59, 132, 5, 1, 167, 255, 195, 177]
abbrev dktX1_start_4 : List UInt8 := dkwX1_start_4 ++ []
def dkwX1_start_3 : List UInt8 := [181, 0, 52, 42, 180, 0, 21, 21, 5, 50, 3, 181, 0, 55, 42, 180, 0, 27, 21, 5, 50, 21, 5]
abbrev dktX1_start_3 : List UInt8 := dkwX1_start_3 ++ dktX1_start_4
def dkwX1_start_2 : List UInt8 := [167, 255, 233, 3, 54, 5, 21, 5, 16, 12, 162, 0, 60, 42, 180, 0, 21, 21, 5, 50, 21, 5, 29, 112]
abbrev dktX1_start_2 : List UInt8 := dkwX1_start_2 ++ dktX1_start_3
def dkwX1_start_1 : List UInt8 := [21, 5, 16, 6, 162, 0, 22, 42, 180, 0, 15, 21, 5, 4, 21, 5, 29, 112, 120, 79, 132, 5, 1]
abbrev dktX1_start_1 : List UInt8 := dkwX1_start_1 ++ dktX1_start_2
def dkwX1_start_0 : List UInt8 := [42, 27, 181, 0, 39, 42, 28, 181, 0, 43, 42, 29, 181, 0, 46, 42, 21, 4, 181, 0, 49, 3, 54, 5]
abbrev dktX1_start_0 : List UInt8 := dkwX1_start_0 ++ dktX1_start_1
theorem dksX1_start_0 : cX1_start.data.toList.drop 0 = dktX1_start_0 := by decide +kernel
theorem dksX1_start_1 : cX1_start.data.toList.drop 24 = dktX1_start_1 := dk_seg dksX1_start_0 24 rfl rfl
theorem dksX1_start_2 : cX1_start.data.toList.drop 47 = dktX1_start_2 := dk_seg dksX1_start_1 23 rfl rfl
theorem dksX1_start_3 : cX1_start.data.toList.drop 71 = dktX1_start_3 := dk_seg dksX1_start_2 24 rfl rfl
theorem dksX1_start_4 : cX1_start.data.toList.drop 94 = dktX1_start_4 := dk_seg dksX1_start_3 23 rfl rfl
theorem dX1_start_0 : decode cX1_start 0 = .ok (.aload_n 0, 1) := dk_42 (dk_at dksX1_start_0 0 rfl rfl)
theorem dX1_start_1 : decode cX1_start 1 = .ok (.iload_n 1, 1) := dk_27 (dk_at dksX1_start_0 1 rfl rfl)
theorem dX1_start_2 : decode cX1_start 2 = .ok (.putfield 39, 3) := dk_181 0 39 (dk_at dksX1_start_0 2 rfl rfl)
theorem dX1_start_5 : decode cX1_start 5 = .ok (.aload_n 0, 1) := dk_42 (dk_at dksX1_start_0 5 rfl rfl)
theorem dX1_start_6 : decode cX1_start 6 = .ok (.iload_n 2, 1) := dk_28 (dk_at dksX1_start_0 6 rfl rfl)
theorem dX1_start_7 : decode cX1_start 7 = .ok (.putfield 43, 3) := dk_181 0 43 (dk_at dksX1_start_0 7 rfl rfl)
theorem dX1_start_10 : decode cX1_start 10 = .ok (.aload_n 0, 1) := dk_42 (dk_at dksX1_start_0 10 rfl rfl)
theorem dX1_start_11 : decode cX1_start 11 = .ok (.iload_n 3, 1) := dk_29 (dk_at dksX1_start_0 11 rfl rfl)
theorem dX1_start_12 : decode cX1_start 12 = .ok (.putfield 46, 3) := dk_181 0 46 (dk_at dksX1_start_0 12 rfl rfl)
theorem dX1_start_15 : decode cX1_start 15 = .ok (.aload_n 0, 1) := dk_42 (dk_at dksX1_start_0 15 rfl rfl)
theorem dX1_start_16 : decode cX1_start 16 = .ok (.iload 4, 2) := dk_21 4 (dk_at dksX1_start_0 16 rfl rfl)
theorem dX1_start_18 : decode cX1_start 18 = .ok (.putfield 49, 3) := dk_181 0 49 (dk_at dksX1_start_0 18 rfl rfl)
theorem dX1_start_21 : decode cX1_start 21 = .ok (.iconst 0, 1) := dk_3 (dk_at dksX1_start_0 21 rfl rfl)
theorem dX1_start_22 : decode cX1_start 22 = .ok (.istore 5, 2) := dk_54 5 (dk_at dksX1_start_0 22 rfl rfl)
theorem dX1_start_24 : decode cX1_start 24 = .ok (.iload 5, 2) := dk_21 5 (dk_at dksX1_start_1 0 rfl rfl)
theorem dX1_start_26 : decode cX1_start 26 = .ok (.bipush 6, 2) := dk_16 6 (dk_at dksX1_start_1 2 rfl rfl)
theorem dX1_start_28 : decode cX1_start 28 = .ok (.if_icmp .ge 22, 3) := dk_162 0 22 (dk_at dksX1_start_1 4 rfl rfl)
theorem dX1_start_31 : decode cX1_start 31 = .ok (.aload_n 0, 1) := dk_42 (dk_at dksX1_start_1 7 rfl rfl)
theorem dX1_start_32 : decode cX1_start 32 = .ok (.getfield 15, 3) := dk_180 0 15 (dk_at dksX1_start_1 8 rfl rfl)
theorem dX1_start_35 : decode cX1_start 35 = .ok (.iload 5, 2) := dk_21 5 (dk_at dksX1_start_1 11 rfl rfl)
theorem dX1_start_37 : decode cX1_start 37 = .ok (.iconst 1, 1) := dk_4 (dk_at dksX1_start_1 13 rfl rfl)
theorem dX1_start_38 : decode cX1_start 38 = .ok (.iload 5, 2) := dk_21 5 (dk_at dksX1_start_1 14 rfl rfl)
theorem dX1_start_40 : decode cX1_start 40 = .ok (.iload_n 3, 1) := dk_29 (dk_at dksX1_start_1 16 rfl rfl)
theorem dX1_start_41 : decode cX1_start 41 = .ok (.irem, 1) := dk_112 (dk_at dksX1_start_1 17 rfl rfl)
theorem dX1_start_42 : decode cX1_start 42 = .ok (.ishl, 1) := dk_120 (dk_at dksX1_start_1 18 rfl rfl)
theorem dX1_start_43 : decode cX1_start 43 = .ok (.iastore, 1) := dk_79 (dk_at dksX1_start_1 19 rfl rfl)
theorem dX1_start_44 : decode cX1_start 44 = .ok (.iinc 5 1, 3) := dk_132 5 1 (dk_at dksX1_start_1 20 rfl rfl)
theorem dX1_start_47 : decode cX1_start 47 = .ok (.goto (-23), 3) := dk_167 255 233 (dk_at dksX1_start_2 0 rfl rfl)
theorem dX1_start_50 : decode cX1_start 50 = .ok (.iconst 0, 1) := dk_3 (dk_at dksX1_start_2 3 rfl rfl)
theorem dX1_start_51 : decode cX1_start 51 = .ok (.istore 5, 2) := dk_54 5 (dk_at dksX1_start_2 4 rfl rfl)
theorem dX1_start_53 : decode cX1_start 53 = .ok (.iload 5, 2) := dk_21 5 (dk_at dksX1_start_2 6 rfl rfl)
theorem dX1_start_55 : decode cX1_start 55 = .ok (.bipush 12, 2) := dk_16 12 (dk_at dksX1_start_2 8 rfl rfl)
theorem dX1_start_57 : decode cX1_start 57 = .ok (.if_icmp .ge 60, 3) := dk_162 0 60 (dk_at dksX1_start_2 10 rfl rfl)
theorem dX1_start_60 : decode cX1_start 60 = .ok (.aload_n 0, 1) := dk_42 (dk_at dksX1_start_2 13 rfl rfl)
theorem dX1_start_61 : decode cX1_start 61 = .ok (.getfield 21, 3) := dk_180 0 21 (dk_at dksX1_start_2 14 rfl rfl)
theorem dX1_start_64 : decode cX1_start 64 = .ok (.iload 5, 2) := dk_21 5 (dk_at dksX1_start_2 17 rfl rfl)
theorem dX1_start_66 : decode cX1_start 66 = .ok (.aaload, 1) := dk_50 (dk_at dksX1_start_2 19 rfl rfl)
theorem dX1_start_67 : decode cX1_start 67 = .ok (.iload 5, 2) := dk_21 5 (dk_at dksX1_start_2 20 rfl rfl)
theorem dX1_start_69 : decode cX1_start 69 = .ok (.iload_n 3, 1) := dk_29 (dk_at dksX1_start_2 22 rfl rfl)
theorem dX1_start_70 : decode cX1_start 70 = .ok (.irem, 1) := dk_112 (dk_at dksX1_start_2 23 rfl rfl)
theorem dX1_start_71 : decode cX1_start 71 = .ok (.putfield 52, 3) := dk_181 0 52 (dk_at dksX1_start_3 0 rfl rfl)
theorem dX1_start_74 : decode cX1_start 74 = .ok (.aload_n 0, 1) := dk_42 (dk_at dksX1_start_3 3 rfl rfl)
theorem dX1_start_75 : decode cX1_start 75 = .ok (.getfield 21, 3) := dk_180 0 21 (dk_at dksX1_start_3 4 rfl rfl)
theorem dX1_start_78 : decode cX1_start 78 = .ok (.iload 5, 2) := dk_21 5 (dk_at dksX1_start_3 7 rfl rfl)
theorem dX1_start_80 : decode cX1_start 80 = .ok (.aaload, 1) := dk_50 (dk_at dksX1_start_3 9 rfl rfl)
theorem dX1_start_81 : decode cX1_start 81 = .ok (.iconst 0, 1) := dk_3 (dk_at dksX1_start_3 10 rfl rfl)
theorem dX1_start_82 : decode cX1_start 82 = .ok (.putfield 55, 3) := dk_181 0 55 (dk_at dksX1_start_3 11 rfl rfl)
theorem dX1_start_85 : decode cX1_start 85 = .ok (.aload_n 0, 1) := dk_42 (dk_at dksX1_start_3 14 rfl rfl)
theorem dX1_start_86 : decode cX1_start 86 = .ok (.getfield 27, 3) := dk_180 0 27 (dk_at dksX1_start_3 15 rfl rfl)
theorem dX1_start_89 : decode cX1_start 89 = .ok (.iload 5, 2) := dk_21 5 (dk_at dksX1_start_3 18 rfl rfl)
theorem dX1_start_91 : decode cX1_start 91 = .ok (.aaload, 1) := dk_50 (dk_at dksX1_start_3 20 rfl rfl)
theorem dX1_start_92 : decode cX1_start 92 = .ok (.iload 5, 2) := dk_21 5 (dk_at dksX1_start_3 21 rfl rfl)
theorem dX1_start_94 : decode cX1_start 94 = .ok (.iload 4, 2) := dk_21 4 (dk_at dksX1_start_4 0 rfl rfl)
theorem dX1_start_96 : decode cX1_start 96 = .ok (.irem, 1) := dk_112 (dk_at dksX1_start_4 2 rfl rfl)
theorem dX1_start_97 : decode cX1_start 97 = .ok (.putfield 58, 3) := dk_181 0 58 (dk_at dksX1_start_4 3 rfl rfl)
theorem dX1_start_100 : decode cX1_start 100 = .ok (.aload_n 0, 1) := dk_42 (dk_at dksX1_start_4 6 rfl rfl)
theorem dX1_start_101 : decode cX1_start 101 = .ok (.getfield 27, 3) := dk_180 0 27 (dk_at dksX1_start_4 7 rfl rfl)
theorem dX1_start_104 : decode cX1_start 104 = .ok (.iload 5, 2) := dk_21 5 (dk_at dksX1_start_4 10 rfl rfl)
theorem dX1_start_106 : decode cX1_start 106 = .ok (.aaload, 1) := dk_50 (dk_at dksX1_start_4 12 rfl rfl)
theorem dX1_start_107 : decode cX1_start 107 = .ok (.iconst 1, 1) := dk_4 (dk_at dksX1_start_4 13 rfl rfl)
theorem dX1_start_108 : decode cX1_start 108 = .ok (.putfield 59, 3) := dk_181 0 59 (dk_at dksX1_start_4 14 rfl rfl)
theorem dX1_start_111 : decode cX1_start 111 = .ok (.iinc 5 1, 3) := dk_132 5 1 (dk_at dksX1_start_4 17 rfl rfl)
theorem dX1_start_114 : decode cX1_start 114 = .ok (.goto (-61), 3) := dk_167 255 195 (dk_at dksX1_start_4 20 rfl rfl)
theorem dX1_start_117 : decode cX1_start 117 = .ok (.return_, 1) := dk_177 (dk_at dksX1_start_4 23 rfl rfl)
abbrev cX1_isUp : ByteArray := prog_4_method_4_code
def yX1_isUp : MethodName := ⟨RX1, "isUp", "(II)Z"⟩
def dkwX1_isUp_1 : List UInt8 := [184, 0, 66, 172]
abbrev dktX1_isUp_1 : List UInt8 := dkwX1_isUp_1 ++ []
def dkwX1_isUp_0 : List UInt8 := [42, 180, 0, 15, 42, 180, 0, 27, 27, 50, 180, 0, 58, 46, 42, 180, 0, 21, 28, 50, 180, 0, 52]
abbrev dktX1_isUp_0 : List UInt8 := dkwX1_isUp_0 ++ dktX1_isUp_1
theorem dksX1_isUp_0 : cX1_isUp.data.toList.drop 0 = dktX1_isUp_0 := by decide +kernel
theorem dksX1_isUp_1 : cX1_isUp.data.toList.drop 23 = dktX1_isUp_1 := dk_seg dksX1_isUp_0 23 rfl rfl
theorem dX1_isUp_0 : decode cX1_isUp 0 = .ok (.aload_n 0, 1) := dk_42 (dk_at dksX1_isUp_0 0 rfl rfl)
theorem dX1_isUp_1 : decode cX1_isUp 1 = .ok (.getfield 15, 3) := dk_180 0 15 (dk_at dksX1_isUp_0 1 rfl rfl)
theorem dX1_isUp_4 : decode cX1_isUp 4 = .ok (.aload_n 0, 1) := dk_42 (dk_at dksX1_isUp_0 4 rfl rfl)
theorem dX1_isUp_5 : decode cX1_isUp 5 = .ok (.getfield 27, 3) := dk_180 0 27 (dk_at dksX1_isUp_0 5 rfl rfl)
theorem dX1_isUp_8 : decode cX1_isUp 8 = .ok (.iload_n 1, 1) := dk_27 (dk_at dksX1_isUp_0 8 rfl rfl)
theorem dX1_isUp_9 : decode cX1_isUp 9 = .ok (.aaload, 1) := dk_50 (dk_at dksX1_isUp_0 9 rfl rfl)
theorem dX1_isUp_10 : decode cX1_isUp 10 = .ok (.getfield 58, 3) := dk_180 0 58 (dk_at dksX1_isUp_0 10 rfl rfl)
theorem dX1_isUp_13 : decode cX1_isUp 13 = .ok (.iaload, 1) := dk_46 (dk_at dksX1_isUp_0 13 rfl rfl)
theorem dX1_isUp_14 : decode cX1_isUp 14 = .ok (.aload_n 0, 1) := dk_42 (dk_at dksX1_isUp_0 14 rfl rfl)
theorem dX1_isUp_15 : decode cX1_isUp 15 = .ok (.getfield 21, 3) := dk_180 0 21 (dk_at dksX1_isUp_0 15 rfl rfl)
theorem dX1_isUp_18 : decode cX1_isUp 18 = .ok (.iload_n 2, 1) := dk_28 (dk_at dksX1_isUp_0 18 rfl rfl)
theorem dX1_isUp_19 : decode cX1_isUp 19 = .ok (.aaload, 1) := dk_50 (dk_at dksX1_isUp_0 19 rfl rfl)
theorem dX1_isUp_20 : decode cX1_isUp 20 = .ok (.getfield 52, 3) := dk_180 0 52 (dk_at dksX1_isUp_0 20 rfl rfl)
theorem dX1_isUp_23 : decode cX1_isUp 23 = .ok (.invokestatic 66, 3) := dk_184 0 66 (dk_at dksX1_isUp_1 0 rfl rfl)
theorem dX1_isUp_26 : decode cX1_isUp 26 = .ok (.ireturn, 1) := dk_172 (dk_at dksX1_isUp_1 3 rfl rfl)
abbrev cX1_set : ByteArray := prog_4_method_3_code
def yX1_set : MethodName := ⟨RX1, "set", "(LWeaveDraft$Draft;)LWeaveDraft$Draft;"⟩
def dkwX1_set_5 : List UInt8 := [180, 0, 27, 28, 50, 180, 0, 59, 181, 0, 59, 132, 2, 1, 167, 255, 175, 42, 176]
abbrev dktX1_set_5 : List UInt8 := dkwX1_set_5 ++ []
def dkwX1_set_4 : List UInt8 := [180, 0, 27, 28, 50, 43, 180, 0, 27, 28, 50, 180, 0, 58, 181, 0, 58, 42, 180, 0, 27, 28, 50, 43]
abbrev dktX1_set_4 : List UInt8 := dkwX1_set_4 ++ dktX1_set_5
def dkwX1_set_3 : List UInt8 := [181, 0, 52, 42, 180, 0, 21, 28, 50, 43, 180, 0, 21, 28, 50, 180, 0, 55, 181, 0, 55, 42]
abbrev dktX1_set_3 : List UInt8 := dkwX1_set_3 ++ dktX1_set_4
def dkwX1_set_2 : List UInt8 := [61, 28, 16, 12, 162, 0, 81, 42, 180, 0, 21, 28, 50, 43, 180, 0, 21, 28, 50, 180, 0, 52]
abbrev dktX1_set_2 : List UInt8 := dkwX1_set_2 ++ dktX1_set_3
def dkwX1_set_1 : List UInt8 := [42, 43, 180, 0, 49, 181, 0, 49, 43, 180, 0, 15, 3, 42, 180, 0, 15, 3, 16, 6, 184, 0, 60, 3]
abbrev dktX1_set_1 : List UInt8 := dkwX1_set_1 ++ dktX1_set_2
def dkwX1_set_0 : List UInt8 := [42, 43, 180, 0, 39, 181, 0, 39, 42, 43, 180, 0, 43, 181, 0, 43, 42, 43, 180, 0, 46, 181, 0, 46]
abbrev dktX1_set_0 : List UInt8 := dkwX1_set_0 ++ dktX1_set_1
theorem dksX1_set_0 : cX1_set.data.toList.drop 0 = dktX1_set_0 := by decide +kernel
theorem dksX1_set_1 : cX1_set.data.toList.drop 24 = dktX1_set_1 := dk_seg dksX1_set_0 24 rfl rfl
theorem dksX1_set_2 : cX1_set.data.toList.drop 48 = dktX1_set_2 := dk_seg dksX1_set_1 24 rfl rfl
theorem dksX1_set_3 : cX1_set.data.toList.drop 70 = dktX1_set_3 := dk_seg dksX1_set_2 22 rfl rfl
theorem dksX1_set_4 : cX1_set.data.toList.drop 92 = dktX1_set_4 := dk_seg dksX1_set_3 22 rfl rfl
theorem dksX1_set_5 : cX1_set.data.toList.drop 116 = dktX1_set_5 := dk_seg dksX1_set_4 24 rfl rfl
theorem dX1_set_0 : decode cX1_set 0 = .ok (.aload_n 0, 1) := dk_42 (dk_at dksX1_set_0 0 rfl rfl)
theorem dX1_set_1 : decode cX1_set 1 = .ok (.aload_n 1, 1) := dk_43 (dk_at dksX1_set_0 1 rfl rfl)
theorem dX1_set_2 : decode cX1_set 2 = .ok (.getfield 39, 3) := dk_180 0 39 (dk_at dksX1_set_0 2 rfl rfl)
theorem dX1_set_5 : decode cX1_set 5 = .ok (.putfield 39, 3) := dk_181 0 39 (dk_at dksX1_set_0 5 rfl rfl)
theorem dX1_set_8 : decode cX1_set 8 = .ok (.aload_n 0, 1) := dk_42 (dk_at dksX1_set_0 8 rfl rfl)
theorem dX1_set_9 : decode cX1_set 9 = .ok (.aload_n 1, 1) := dk_43 (dk_at dksX1_set_0 9 rfl rfl)
theorem dX1_set_10 : decode cX1_set 10 = .ok (.getfield 43, 3) := dk_180 0 43 (dk_at dksX1_set_0 10 rfl rfl)
theorem dX1_set_13 : decode cX1_set 13 = .ok (.putfield 43, 3) := dk_181 0 43 (dk_at dksX1_set_0 13 rfl rfl)
theorem dX1_set_16 : decode cX1_set 16 = .ok (.aload_n 0, 1) := dk_42 (dk_at dksX1_set_0 16 rfl rfl)
theorem dX1_set_17 : decode cX1_set 17 = .ok (.aload_n 1, 1) := dk_43 (dk_at dksX1_set_0 17 rfl rfl)
theorem dX1_set_18 : decode cX1_set 18 = .ok (.getfield 46, 3) := dk_180 0 46 (dk_at dksX1_set_0 18 rfl rfl)
theorem dX1_set_21 : decode cX1_set 21 = .ok (.putfield 46, 3) := dk_181 0 46 (dk_at dksX1_set_0 21 rfl rfl)
theorem dX1_set_24 : decode cX1_set 24 = .ok (.aload_n 0, 1) := dk_42 (dk_at dksX1_set_1 0 rfl rfl)
theorem dX1_set_25 : decode cX1_set 25 = .ok (.aload_n 1, 1) := dk_43 (dk_at dksX1_set_1 1 rfl rfl)
theorem dX1_set_26 : decode cX1_set 26 = .ok (.getfield 49, 3) := dk_180 0 49 (dk_at dksX1_set_1 2 rfl rfl)
theorem dX1_set_29 : decode cX1_set 29 = .ok (.putfield 49, 3) := dk_181 0 49 (dk_at dksX1_set_1 5 rfl rfl)
theorem dX1_set_32 : decode cX1_set 32 = .ok (.aload_n 1, 1) := dk_43 (dk_at dksX1_set_1 8 rfl rfl)
theorem dX1_set_33 : decode cX1_set 33 = .ok (.getfield 15, 3) := dk_180 0 15 (dk_at dksX1_set_1 9 rfl rfl)
theorem dX1_set_36 : decode cX1_set 36 = .ok (.iconst 0, 1) := dk_3 (dk_at dksX1_set_1 12 rfl rfl)
theorem dX1_set_37 : decode cX1_set 37 = .ok (.aload_n 0, 1) := dk_42 (dk_at dksX1_set_1 13 rfl rfl)
theorem dX1_set_38 : decode cX1_set 38 = .ok (.getfield 15, 3) := dk_180 0 15 (dk_at dksX1_set_1 14 rfl rfl)
theorem dX1_set_41 : decode cX1_set 41 = .ok (.iconst 0, 1) := dk_3 (dk_at dksX1_set_1 17 rfl rfl)
theorem dX1_set_42 : decode cX1_set 42 = .ok (.bipush 6, 2) := dk_16 6 (dk_at dksX1_set_1 18 rfl rfl)
theorem dX1_set_44 : decode cX1_set 44 = .ok (.invokestatic 60, 3) := dk_184 0 60 (dk_at dksX1_set_1 20 rfl rfl)
theorem dX1_set_47 : decode cX1_set 47 = .ok (.iconst 0, 1) := dk_3 (dk_at dksX1_set_1 23 rfl rfl)
theorem dX1_set_48 : decode cX1_set 48 = .ok (.istore_n 2, 1) := dk_61 (dk_at dksX1_set_2 0 rfl rfl)
theorem dX1_set_49 : decode cX1_set 49 = .ok (.iload_n 2, 1) := dk_28 (dk_at dksX1_set_2 1 rfl rfl)
theorem dX1_set_50 : decode cX1_set 50 = .ok (.bipush 12, 2) := dk_16 12 (dk_at dksX1_set_2 2 rfl rfl)
theorem dX1_set_52 : decode cX1_set 52 = .ok (.if_icmp .ge 81, 3) := dk_162 0 81 (dk_at dksX1_set_2 4 rfl rfl)
theorem dX1_set_55 : decode cX1_set 55 = .ok (.aload_n 0, 1) := dk_42 (dk_at dksX1_set_2 7 rfl rfl)
theorem dX1_set_56 : decode cX1_set 56 = .ok (.getfield 21, 3) := dk_180 0 21 (dk_at dksX1_set_2 8 rfl rfl)
theorem dX1_set_59 : decode cX1_set 59 = .ok (.iload_n 2, 1) := dk_28 (dk_at dksX1_set_2 11 rfl rfl)
theorem dX1_set_60 : decode cX1_set 60 = .ok (.aaload, 1) := dk_50 (dk_at dksX1_set_2 12 rfl rfl)
theorem dX1_set_61 : decode cX1_set 61 = .ok (.aload_n 1, 1) := dk_43 (dk_at dksX1_set_2 13 rfl rfl)
theorem dX1_set_62 : decode cX1_set 62 = .ok (.getfield 21, 3) := dk_180 0 21 (dk_at dksX1_set_2 14 rfl rfl)
theorem dX1_set_65 : decode cX1_set 65 = .ok (.iload_n 2, 1) := dk_28 (dk_at dksX1_set_2 17 rfl rfl)
theorem dX1_set_66 : decode cX1_set 66 = .ok (.aaload, 1) := dk_50 (dk_at dksX1_set_2 18 rfl rfl)
theorem dX1_set_67 : decode cX1_set 67 = .ok (.getfield 52, 3) := dk_180 0 52 (dk_at dksX1_set_2 19 rfl rfl)
theorem dX1_set_70 : decode cX1_set 70 = .ok (.putfield 52, 3) := dk_181 0 52 (dk_at dksX1_set_3 0 rfl rfl)
theorem dX1_set_73 : decode cX1_set 73 = .ok (.aload_n 0, 1) := dk_42 (dk_at dksX1_set_3 3 rfl rfl)
theorem dX1_set_74 : decode cX1_set 74 = .ok (.getfield 21, 3) := dk_180 0 21 (dk_at dksX1_set_3 4 rfl rfl)
theorem dX1_set_77 : decode cX1_set 77 = .ok (.iload_n 2, 1) := dk_28 (dk_at dksX1_set_3 7 rfl rfl)
theorem dX1_set_78 : decode cX1_set 78 = .ok (.aaload, 1) := dk_50 (dk_at dksX1_set_3 8 rfl rfl)
theorem dX1_set_79 : decode cX1_set 79 = .ok (.aload_n 1, 1) := dk_43 (dk_at dksX1_set_3 9 rfl rfl)
theorem dX1_set_80 : decode cX1_set 80 = .ok (.getfield 21, 3) := dk_180 0 21 (dk_at dksX1_set_3 10 rfl rfl)
theorem dX1_set_83 : decode cX1_set 83 = .ok (.iload_n 2, 1) := dk_28 (dk_at dksX1_set_3 13 rfl rfl)
theorem dX1_set_84 : decode cX1_set 84 = .ok (.aaload, 1) := dk_50 (dk_at dksX1_set_3 14 rfl rfl)
theorem dX1_set_85 : decode cX1_set 85 = .ok (.getfield 55, 3) := dk_180 0 55 (dk_at dksX1_set_3 15 rfl rfl)
theorem dX1_set_88 : decode cX1_set 88 = .ok (.putfield 55, 3) := dk_181 0 55 (dk_at dksX1_set_3 18 rfl rfl)
theorem dX1_set_91 : decode cX1_set 91 = .ok (.aload_n 0, 1) := dk_42 (dk_at dksX1_set_3 21 rfl rfl)
theorem dX1_set_92 : decode cX1_set 92 = .ok (.getfield 27, 3) := dk_180 0 27 (dk_at dksX1_set_4 0 rfl rfl)
theorem dX1_set_95 : decode cX1_set 95 = .ok (.iload_n 2, 1) := dk_28 (dk_at dksX1_set_4 3 rfl rfl)
theorem dX1_set_96 : decode cX1_set 96 = .ok (.aaload, 1) := dk_50 (dk_at dksX1_set_4 4 rfl rfl)
theorem dX1_set_97 : decode cX1_set 97 = .ok (.aload_n 1, 1) := dk_43 (dk_at dksX1_set_4 5 rfl rfl)
theorem dX1_set_98 : decode cX1_set 98 = .ok (.getfield 27, 3) := dk_180 0 27 (dk_at dksX1_set_4 6 rfl rfl)
theorem dX1_set_101 : decode cX1_set 101 = .ok (.iload_n 2, 1) := dk_28 (dk_at dksX1_set_4 9 rfl rfl)
theorem dX1_set_102 : decode cX1_set 102 = .ok (.aaload, 1) := dk_50 (dk_at dksX1_set_4 10 rfl rfl)
theorem dX1_set_103 : decode cX1_set 103 = .ok (.getfield 58, 3) := dk_180 0 58 (dk_at dksX1_set_4 11 rfl rfl)
theorem dX1_set_106 : decode cX1_set 106 = .ok (.putfield 58, 3) := dk_181 0 58 (dk_at dksX1_set_4 14 rfl rfl)
theorem dX1_set_109 : decode cX1_set 109 = .ok (.aload_n 0, 1) := dk_42 (dk_at dksX1_set_4 17 rfl rfl)
theorem dX1_set_110 : decode cX1_set 110 = .ok (.getfield 27, 3) := dk_180 0 27 (dk_at dksX1_set_4 18 rfl rfl)
theorem dX1_set_113 : decode cX1_set 113 = .ok (.iload_n 2, 1) := dk_28 (dk_at dksX1_set_4 21 rfl rfl)
theorem dX1_set_114 : decode cX1_set 114 = .ok (.aaload, 1) := dk_50 (dk_at dksX1_set_4 22 rfl rfl)
theorem dX1_set_115 : decode cX1_set 115 = .ok (.aload_n 1, 1) := dk_43 (dk_at dksX1_set_4 23 rfl rfl)
theorem dX1_set_116 : decode cX1_set 116 = .ok (.getfield 27, 3) := dk_180 0 27 (dk_at dksX1_set_5 0 rfl rfl)
theorem dX1_set_119 : decode cX1_set 119 = .ok (.iload_n 2, 1) := dk_28 (dk_at dksX1_set_5 3 rfl rfl)
theorem dX1_set_120 : decode cX1_set 120 = .ok (.aaload, 1) := dk_50 (dk_at dksX1_set_5 4 rfl rfl)
theorem dX1_set_121 : decode cX1_set 121 = .ok (.getfield 59, 3) := dk_180 0 59 (dk_at dksX1_set_5 5 rfl rfl)
theorem dX1_set_124 : decode cX1_set 124 = .ok (.putfield 59, 3) := dk_181 0 59 (dk_at dksX1_set_5 8 rfl rfl)
theorem dX1_set_127 : decode cX1_set 127 = .ok (.iinc 2 1, 3) := dk_132 2 1 (dk_at dksX1_set_5 11 rfl rfl)
theorem dX1_set_130 : decode cX1_set 130 = .ok (.goto (-81), 3) := dk_167 255 175 (dk_at dksX1_set_5 14 rfl rfl)
theorem dX1_set_133 : decode cX1_set 133 = .ok (.aload_n 0, 1) := dk_42 (dk_at dksX1_set_5 17 rfl rfl)
theorem dX1_set_134 : decode cX1_set 134 = .ok (.areturn, 1) := dk_176 (dk_at dksX1_set_5 18 rfl rfl)
abbrev cX1_turn : ByteArray := prog_4_method_5_code
def yX1_turn : MethodName := ⟨RX1, "turn", "()V"⟩
def dkwX1_turn_9 : List UInt8 := [42, 29, 181, 0, 49, 177]
abbrev dktX1_turn_9 : List UInt8 := dkwX1_turn_9 ++ []
def dkwX1_turn_8 : List UInt8 := [180, 0, 43, 181, 0, 39, 42, 28, 181, 0, 43, 42, 180, 0, 46, 62, 42, 42, 180, 0, 49, 181, 0, 46]
abbrev dktX1_turn_8 : List UInt8 := dkwX1_turn_8 ++ dktX1_turn_9
def dkwX1_turn_7 : List UInt8 := [180, 0, 27, 28, 50, 21, 4, 181, 0, 59, 132, 2, 1, 167, 255, 169, 42, 180, 0, 39, 61, 42, 42]
abbrev dktX1_turn_7 : List UInt8 := dkwX1_turn_7 ++ dktX1_turn_8
def dkwX1_turn_6 : List UInt8 := [42, 180, 0, 27, 28, 50, 180, 0, 59, 181, 0, 55, 42, 180, 0, 27, 28, 50, 29, 181, 0, 58, 42]
abbrev dktX1_turn_6 : List UInt8 := dkwX1_turn_6 ++ dktX1_turn_7
def dkwX1_turn_5 : List UInt8 := [42, 180, 0, 21, 28, 50, 42, 180, 0, 27, 28, 50, 180, 0, 58, 181, 0, 52, 42, 180, 0, 21, 28, 50]
abbrev dktX1_turn_5 : List UInt8 := dkwX1_turn_5 ++ dktX1_turn_6
def dkwX1_turn_4 : List UInt8 := [162, 0, 87, 42, 180, 0, 21, 28, 50, 180, 0, 52, 62, 42, 180, 0, 21, 28, 50, 180, 0, 55, 54, 4]
abbrev dktX1_turn_4 : List UInt8 := dkwX1_turn_4 ++ dktX1_turn_5
def dkwX1_turn_3 : List UInt8 := [167, 0, 4, 3, 128, 79, 132, 3, 1, 167, 255, 205, 132, 2, 1, 167, 255, 184, 3, 61, 28, 16, 12]
abbrev dktX1_turn_3 : List UInt8 := dkwX1_turn_3 ++ dktX1_turn_4
def dkwX1_turn_2 : List UInt8 := [162, 0, 27, 28, 42, 180, 0, 46, 162, 0, 19, 43, 29, 46, 28, 184, 0, 66, 153, 0, 9, 4, 29, 120]
abbrev dktX1_turn_2 : List UInt8 := dkwX1_turn_2 ++ dktX1_turn_3
def dkwX1_turn_1 : List UInt8 := [3, 79, 3, 62, 29, 16, 6, 162, 0, 51, 42, 180, 0, 15, 28, 92, 46, 29, 42, 180, 0, 49]
abbrev dktX1_turn_1 : List UInt8 := dkwX1_turn_1 ++ dktX1_turn_2
def dkwX1_turn_0 : List UInt8 := [42, 180, 0, 15, 182, 0, 70, 192, 0, 71, 76, 3, 61, 28, 16, 6, 162, 0, 72, 42, 180, 0, 15, 28]
abbrev dktX1_turn_0 : List UInt8 := dkwX1_turn_0 ++ dktX1_turn_1
theorem dksX1_turn_0 : cX1_turn.data.toList.drop 0 = dktX1_turn_0 := by decide +kernel
theorem dksX1_turn_1 : cX1_turn.data.toList.drop 24 = dktX1_turn_1 := dk_seg dksX1_turn_0 24 rfl rfl
theorem dksX1_turn_2 : cX1_turn.data.toList.drop 46 = dktX1_turn_2 := dk_seg dksX1_turn_1 22 rfl rfl
theorem dksX1_turn_3 : cX1_turn.data.toList.drop 70 = dktX1_turn_3 := dk_seg dksX1_turn_2 24 rfl rfl
theorem dksX1_turn_4 : cX1_turn.data.toList.drop 93 = dktX1_turn_4 := dk_seg dksX1_turn_3 23 rfl rfl
theorem dksX1_turn_5 : cX1_turn.data.toList.drop 117 = dktX1_turn_5 := dk_seg dksX1_turn_4 24 rfl rfl
theorem dksX1_turn_6 : cX1_turn.data.toList.drop 141 = dktX1_turn_6 := dk_seg dksX1_turn_5 24 rfl rfl
theorem dksX1_turn_7 : cX1_turn.data.toList.drop 164 = dktX1_turn_7 := dk_seg dksX1_turn_6 23 rfl rfl
theorem dksX1_turn_8 : cX1_turn.data.toList.drop 187 = dktX1_turn_8 := dk_seg dksX1_turn_7 23 rfl rfl
theorem dksX1_turn_9 : cX1_turn.data.toList.drop 211 = dktX1_turn_9 := dk_seg dksX1_turn_8 24 rfl rfl
theorem dX1_turn_0 : decode cX1_turn 0 = .ok (.aload_n 0, 1) := dk_42 (dk_at dksX1_turn_0 0 rfl rfl)
theorem dX1_turn_1 : decode cX1_turn 1 = .ok (.getfield 15, 3) := dk_180 0 15 (dk_at dksX1_turn_0 1 rfl rfl)
theorem dX1_turn_4 : decode cX1_turn 4 = .ok (.invokevirtual 70, 3) := dk_182 0 70 (dk_at dksX1_turn_0 4 rfl rfl)
theorem dX1_turn_7 : decode cX1_turn 7 = .ok (.checkcast 71, 3) := dk_192 0 71 (dk_at dksX1_turn_0 7 rfl rfl)
theorem dX1_turn_10 : decode cX1_turn 10 = .ok (.astore_n 1, 1) := dk_76 (dk_at dksX1_turn_0 10 rfl rfl)
theorem dX1_turn_11 : decode cX1_turn 11 = .ok (.iconst 0, 1) := dk_3 (dk_at dksX1_turn_0 11 rfl rfl)
theorem dX1_turn_12 : decode cX1_turn 12 = .ok (.istore_n 2, 1) := dk_61 (dk_at dksX1_turn_0 12 rfl rfl)
theorem dX1_turn_13 : decode cX1_turn 13 = .ok (.iload_n 2, 1) := dk_28 (dk_at dksX1_turn_0 13 rfl rfl)
theorem dX1_turn_14 : decode cX1_turn 14 = .ok (.bipush 6, 2) := dk_16 6 (dk_at dksX1_turn_0 14 rfl rfl)
theorem dX1_turn_16 : decode cX1_turn 16 = .ok (.if_icmp .ge 72, 3) := dk_162 0 72 (dk_at dksX1_turn_0 16 rfl rfl)
theorem dX1_turn_19 : decode cX1_turn 19 = .ok (.aload_n 0, 1) := dk_42 (dk_at dksX1_turn_0 19 rfl rfl)
theorem dX1_turn_20 : decode cX1_turn 20 = .ok (.getfield 15, 3) := dk_180 0 15 (dk_at dksX1_turn_0 20 rfl rfl)
theorem dX1_turn_23 : decode cX1_turn 23 = .ok (.iload_n 2, 1) := dk_28 (dk_at dksX1_turn_0 23 rfl rfl)
theorem dX1_turn_24 : decode cX1_turn 24 = .ok (.iconst 0, 1) := dk_3 (dk_at dksX1_turn_1 0 rfl rfl)
theorem dX1_turn_25 : decode cX1_turn 25 = .ok (.iastore, 1) := dk_79 (dk_at dksX1_turn_1 1 rfl rfl)
theorem dX1_turn_26 : decode cX1_turn 26 = .ok (.iconst 0, 1) := dk_3 (dk_at dksX1_turn_1 2 rfl rfl)
theorem dX1_turn_27 : decode cX1_turn 27 = .ok (.istore_n 3, 1) := dk_62 (dk_at dksX1_turn_1 3 rfl rfl)
theorem dX1_turn_28 : decode cX1_turn 28 = .ok (.iload_n 3, 1) := dk_29 (dk_at dksX1_turn_1 4 rfl rfl)
theorem dX1_turn_29 : decode cX1_turn 29 = .ok (.bipush 6, 2) := dk_16 6 (dk_at dksX1_turn_1 5 rfl rfl)
theorem dX1_turn_31 : decode cX1_turn 31 = .ok (.if_icmp .ge 51, 3) := dk_162 0 51 (dk_at dksX1_turn_1 7 rfl rfl)
theorem dX1_turn_34 : decode cX1_turn 34 = .ok (.aload_n 0, 1) := dk_42 (dk_at dksX1_turn_1 10 rfl rfl)
theorem dX1_turn_35 : decode cX1_turn 35 = .ok (.getfield 15, 3) := dk_180 0 15 (dk_at dksX1_turn_1 11 rfl rfl)
theorem dX1_turn_38 : decode cX1_turn 38 = .ok (.iload_n 2, 1) := dk_28 (dk_at dksX1_turn_1 14 rfl rfl)
theorem dX1_turn_39 : decode cX1_turn 39 = .ok (.dup2, 1) := dk_92 (dk_at dksX1_turn_1 15 rfl rfl)
theorem dX1_turn_40 : decode cX1_turn 40 = .ok (.iaload, 1) := dk_46 (dk_at dksX1_turn_1 16 rfl rfl)
theorem dX1_turn_41 : decode cX1_turn 41 = .ok (.iload_n 3, 1) := dk_29 (dk_at dksX1_turn_1 17 rfl rfl)
theorem dX1_turn_42 : decode cX1_turn 42 = .ok (.aload_n 0, 1) := dk_42 (dk_at dksX1_turn_1 18 rfl rfl)
theorem dX1_turn_43 : decode cX1_turn 43 = .ok (.getfield 49, 3) := dk_180 0 49 (dk_at dksX1_turn_1 19 rfl rfl)
theorem dX1_turn_46 : decode cX1_turn 46 = .ok (.if_icmp .ge 27, 3) := dk_162 0 27 (dk_at dksX1_turn_2 0 rfl rfl)
theorem dX1_turn_49 : decode cX1_turn 49 = .ok (.iload_n 2, 1) := dk_28 (dk_at dksX1_turn_2 3 rfl rfl)
theorem dX1_turn_50 : decode cX1_turn 50 = .ok (.aload_n 0, 1) := dk_42 (dk_at dksX1_turn_2 4 rfl rfl)
theorem dX1_turn_51 : decode cX1_turn 51 = .ok (.getfield 46, 3) := dk_180 0 46 (dk_at dksX1_turn_2 5 rfl rfl)
theorem dX1_turn_54 : decode cX1_turn 54 = .ok (.if_icmp .ge 19, 3) := dk_162 0 19 (dk_at dksX1_turn_2 8 rfl rfl)
theorem dX1_turn_57 : decode cX1_turn 57 = .ok (.aload_n 1, 1) := dk_43 (dk_at dksX1_turn_2 11 rfl rfl)
theorem dX1_turn_58 : decode cX1_turn 58 = .ok (.iload_n 3, 1) := dk_29 (dk_at dksX1_turn_2 12 rfl rfl)
theorem dX1_turn_59 : decode cX1_turn 59 = .ok (.iaload, 1) := dk_46 (dk_at dksX1_turn_2 13 rfl rfl)
theorem dX1_turn_60 : decode cX1_turn 60 = .ok (.iload_n 2, 1) := dk_28 (dk_at dksX1_turn_2 14 rfl rfl)
theorem dX1_turn_61 : decode cX1_turn 61 = .ok (.invokestatic 66, 3) := dk_184 0 66 (dk_at dksX1_turn_2 15 rfl rfl)
theorem dX1_turn_64 : decode cX1_turn 64 = .ok (.ifCond .eq 9, 3) := dk_153 0 9 (dk_at dksX1_turn_2 18 rfl rfl)
theorem dX1_turn_67 : decode cX1_turn 67 = .ok (.iconst 1, 1) := dk_4 (dk_at dksX1_turn_2 21 rfl rfl)
theorem dX1_turn_68 : decode cX1_turn 68 = .ok (.iload_n 3, 1) := dk_29 (dk_at dksX1_turn_2 22 rfl rfl)
theorem dX1_turn_69 : decode cX1_turn 69 = .ok (.ishl, 1) := dk_120 (dk_at dksX1_turn_2 23 rfl rfl)
theorem dX1_turn_70 : decode cX1_turn 70 = .ok (.goto 4, 3) := dk_167 0 4 (dk_at dksX1_turn_3 0 rfl rfl)
theorem dX1_turn_73 : decode cX1_turn 73 = .ok (.iconst 0, 1) := dk_3 (dk_at dksX1_turn_3 3 rfl rfl)
theorem dX1_turn_74 : decode cX1_turn 74 = .ok (.ior, 1) := dk_128 (dk_at dksX1_turn_3 4 rfl rfl)
theorem dX1_turn_75 : decode cX1_turn 75 = .ok (.iastore, 1) := dk_79 (dk_at dksX1_turn_3 5 rfl rfl)
theorem dX1_turn_76 : decode cX1_turn 76 = .ok (.iinc 3 1, 3) := dk_132 3 1 (dk_at dksX1_turn_3 6 rfl rfl)
theorem dX1_turn_79 : decode cX1_turn 79 = .ok (.goto (-51), 3) := dk_167 255 205 (dk_at dksX1_turn_3 9 rfl rfl)
theorem dX1_turn_82 : decode cX1_turn 82 = .ok (.iinc 2 1, 3) := dk_132 2 1 (dk_at dksX1_turn_3 12 rfl rfl)
theorem dX1_turn_85 : decode cX1_turn 85 = .ok (.goto (-72), 3) := dk_167 255 184 (dk_at dksX1_turn_3 15 rfl rfl)
theorem dX1_turn_88 : decode cX1_turn 88 = .ok (.iconst 0, 1) := dk_3 (dk_at dksX1_turn_3 18 rfl rfl)
theorem dX1_turn_89 : decode cX1_turn 89 = .ok (.istore_n 2, 1) := dk_61 (dk_at dksX1_turn_3 19 rfl rfl)
theorem dX1_turn_90 : decode cX1_turn 90 = .ok (.iload_n 2, 1) := dk_28 (dk_at dksX1_turn_3 20 rfl rfl)
theorem dX1_turn_91 : decode cX1_turn 91 = .ok (.bipush 12, 2) := dk_16 12 (dk_at dksX1_turn_3 21 rfl rfl)
theorem dX1_turn_93 : decode cX1_turn 93 = .ok (.if_icmp .ge 87, 3) := dk_162 0 87 (dk_at dksX1_turn_4 0 rfl rfl)
theorem dX1_turn_96 : decode cX1_turn 96 = .ok (.aload_n 0, 1) := dk_42 (dk_at dksX1_turn_4 3 rfl rfl)
theorem dX1_turn_97 : decode cX1_turn 97 = .ok (.getfield 21, 3) := dk_180 0 21 (dk_at dksX1_turn_4 4 rfl rfl)
theorem dX1_turn_100 : decode cX1_turn 100 = .ok (.iload_n 2, 1) := dk_28 (dk_at dksX1_turn_4 7 rfl rfl)
theorem dX1_turn_101 : decode cX1_turn 101 = .ok (.aaload, 1) := dk_50 (dk_at dksX1_turn_4 8 rfl rfl)
theorem dX1_turn_102 : decode cX1_turn 102 = .ok (.getfield 52, 3) := dk_180 0 52 (dk_at dksX1_turn_4 9 rfl rfl)
theorem dX1_turn_105 : decode cX1_turn 105 = .ok (.istore_n 3, 1) := dk_62 (dk_at dksX1_turn_4 12 rfl rfl)
theorem dX1_turn_106 : decode cX1_turn 106 = .ok (.aload_n 0, 1) := dk_42 (dk_at dksX1_turn_4 13 rfl rfl)
theorem dX1_turn_107 : decode cX1_turn 107 = .ok (.getfield 21, 3) := dk_180 0 21 (dk_at dksX1_turn_4 14 rfl rfl)
theorem dX1_turn_110 : decode cX1_turn 110 = .ok (.iload_n 2, 1) := dk_28 (dk_at dksX1_turn_4 17 rfl rfl)
theorem dX1_turn_111 : decode cX1_turn 111 = .ok (.aaload, 1) := dk_50 (dk_at dksX1_turn_4 18 rfl rfl)
theorem dX1_turn_112 : decode cX1_turn 112 = .ok (.getfield 55, 3) := dk_180 0 55 (dk_at dksX1_turn_4 19 rfl rfl)
theorem dX1_turn_115 : decode cX1_turn 115 = .ok (.istore 4, 2) := dk_54 4 (dk_at dksX1_turn_4 22 rfl rfl)
theorem dX1_turn_117 : decode cX1_turn 117 = .ok (.aload_n 0, 1) := dk_42 (dk_at dksX1_turn_5 0 rfl rfl)
theorem dX1_turn_118 : decode cX1_turn 118 = .ok (.getfield 21, 3) := dk_180 0 21 (dk_at dksX1_turn_5 1 rfl rfl)
theorem dX1_turn_121 : decode cX1_turn 121 = .ok (.iload_n 2, 1) := dk_28 (dk_at dksX1_turn_5 4 rfl rfl)
theorem dX1_turn_122 : decode cX1_turn 122 = .ok (.aaload, 1) := dk_50 (dk_at dksX1_turn_5 5 rfl rfl)
theorem dX1_turn_123 : decode cX1_turn 123 = .ok (.aload_n 0, 1) := dk_42 (dk_at dksX1_turn_5 6 rfl rfl)
theorem dX1_turn_124 : decode cX1_turn 124 = .ok (.getfield 27, 3) := dk_180 0 27 (dk_at dksX1_turn_5 7 rfl rfl)
theorem dX1_turn_127 : decode cX1_turn 127 = .ok (.iload_n 2, 1) := dk_28 (dk_at dksX1_turn_5 10 rfl rfl)
theorem dX1_turn_128 : decode cX1_turn 128 = .ok (.aaload, 1) := dk_50 (dk_at dksX1_turn_5 11 rfl rfl)
theorem dX1_turn_129 : decode cX1_turn 129 = .ok (.getfield 58, 3) := dk_180 0 58 (dk_at dksX1_turn_5 12 rfl rfl)
theorem dX1_turn_132 : decode cX1_turn 132 = .ok (.putfield 52, 3) := dk_181 0 52 (dk_at dksX1_turn_5 15 rfl rfl)
theorem dX1_turn_135 : decode cX1_turn 135 = .ok (.aload_n 0, 1) := dk_42 (dk_at dksX1_turn_5 18 rfl rfl)
theorem dX1_turn_136 : decode cX1_turn 136 = .ok (.getfield 21, 3) := dk_180 0 21 (dk_at dksX1_turn_5 19 rfl rfl)
theorem dX1_turn_139 : decode cX1_turn 139 = .ok (.iload_n 2, 1) := dk_28 (dk_at dksX1_turn_5 22 rfl rfl)
theorem dX1_turn_140 : decode cX1_turn 140 = .ok (.aaload, 1) := dk_50 (dk_at dksX1_turn_5 23 rfl rfl)
theorem dX1_turn_141 : decode cX1_turn 141 = .ok (.aload_n 0, 1) := dk_42 (dk_at dksX1_turn_6 0 rfl rfl)
theorem dX1_turn_142 : decode cX1_turn 142 = .ok (.getfield 27, 3) := dk_180 0 27 (dk_at dksX1_turn_6 1 rfl rfl)
theorem dX1_turn_145 : decode cX1_turn 145 = .ok (.iload_n 2, 1) := dk_28 (dk_at dksX1_turn_6 4 rfl rfl)
theorem dX1_turn_146 : decode cX1_turn 146 = .ok (.aaload, 1) := dk_50 (dk_at dksX1_turn_6 5 rfl rfl)
theorem dX1_turn_147 : decode cX1_turn 147 = .ok (.getfield 59, 3) := dk_180 0 59 (dk_at dksX1_turn_6 6 rfl rfl)
theorem dX1_turn_150 : decode cX1_turn 150 = .ok (.putfield 55, 3) := dk_181 0 55 (dk_at dksX1_turn_6 9 rfl rfl)
theorem dX1_turn_153 : decode cX1_turn 153 = .ok (.aload_n 0, 1) := dk_42 (dk_at dksX1_turn_6 12 rfl rfl)
theorem dX1_turn_154 : decode cX1_turn 154 = .ok (.getfield 27, 3) := dk_180 0 27 (dk_at dksX1_turn_6 13 rfl rfl)
theorem dX1_turn_157 : decode cX1_turn 157 = .ok (.iload_n 2, 1) := dk_28 (dk_at dksX1_turn_6 16 rfl rfl)
theorem dX1_turn_158 : decode cX1_turn 158 = .ok (.aaload, 1) := dk_50 (dk_at dksX1_turn_6 17 rfl rfl)
theorem dX1_turn_159 : decode cX1_turn 159 = .ok (.iload_n 3, 1) := dk_29 (dk_at dksX1_turn_6 18 rfl rfl)
theorem dX1_turn_160 : decode cX1_turn 160 = .ok (.putfield 58, 3) := dk_181 0 58 (dk_at dksX1_turn_6 19 rfl rfl)
theorem dX1_turn_163 : decode cX1_turn 163 = .ok (.aload_n 0, 1) := dk_42 (dk_at dksX1_turn_6 22 rfl rfl)
theorem dX1_turn_164 : decode cX1_turn 164 = .ok (.getfield 27, 3) := dk_180 0 27 (dk_at dksX1_turn_7 0 rfl rfl)
theorem dX1_turn_167 : decode cX1_turn 167 = .ok (.iload_n 2, 1) := dk_28 (dk_at dksX1_turn_7 3 rfl rfl)
theorem dX1_turn_168 : decode cX1_turn 168 = .ok (.aaload, 1) := dk_50 (dk_at dksX1_turn_7 4 rfl rfl)
theorem dX1_turn_169 : decode cX1_turn 169 = .ok (.iload 4, 2) := dk_21 4 (dk_at dksX1_turn_7 5 rfl rfl)
theorem dX1_turn_171 : decode cX1_turn 171 = .ok (.putfield 59, 3) := dk_181 0 59 (dk_at dksX1_turn_7 7 rfl rfl)
theorem dX1_turn_174 : decode cX1_turn 174 = .ok (.iinc 2 1, 3) := dk_132 2 1 (dk_at dksX1_turn_7 10 rfl rfl)
theorem dX1_turn_177 : decode cX1_turn 177 = .ok (.goto (-87), 3) := dk_167 255 169 (dk_at dksX1_turn_7 13 rfl rfl)
theorem dX1_turn_180 : decode cX1_turn 180 = .ok (.aload_n 0, 1) := dk_42 (dk_at dksX1_turn_7 16 rfl rfl)
theorem dX1_turn_181 : decode cX1_turn 181 = .ok (.getfield 39, 3) := dk_180 0 39 (dk_at dksX1_turn_7 17 rfl rfl)
theorem dX1_turn_184 : decode cX1_turn 184 = .ok (.istore_n 2, 1) := dk_61 (dk_at dksX1_turn_7 20 rfl rfl)
theorem dX1_turn_185 : decode cX1_turn 185 = .ok (.aload_n 0, 1) := dk_42 (dk_at dksX1_turn_7 21 rfl rfl)
theorem dX1_turn_186 : decode cX1_turn 186 = .ok (.aload_n 0, 1) := dk_42 (dk_at dksX1_turn_7 22 rfl rfl)
theorem dX1_turn_187 : decode cX1_turn 187 = .ok (.getfield 43, 3) := dk_180 0 43 (dk_at dksX1_turn_8 0 rfl rfl)
theorem dX1_turn_190 : decode cX1_turn 190 = .ok (.putfield 39, 3) := dk_181 0 39 (dk_at dksX1_turn_8 3 rfl rfl)
theorem dX1_turn_193 : decode cX1_turn 193 = .ok (.aload_n 0, 1) := dk_42 (dk_at dksX1_turn_8 6 rfl rfl)
theorem dX1_turn_194 : decode cX1_turn 194 = .ok (.iload_n 2, 1) := dk_28 (dk_at dksX1_turn_8 7 rfl rfl)
theorem dX1_turn_195 : decode cX1_turn 195 = .ok (.putfield 43, 3) := dk_181 0 43 (dk_at dksX1_turn_8 8 rfl rfl)
theorem dX1_turn_198 : decode cX1_turn 198 = .ok (.aload_n 0, 1) := dk_42 (dk_at dksX1_turn_8 11 rfl rfl)
theorem dX1_turn_199 : decode cX1_turn 199 = .ok (.getfield 46, 3) := dk_180 0 46 (dk_at dksX1_turn_8 12 rfl rfl)
theorem dX1_turn_202 : decode cX1_turn 202 = .ok (.istore_n 3, 1) := dk_62 (dk_at dksX1_turn_8 15 rfl rfl)
theorem dX1_turn_203 : decode cX1_turn 203 = .ok (.aload_n 0, 1) := dk_42 (dk_at dksX1_turn_8 16 rfl rfl)
theorem dX1_turn_204 : decode cX1_turn 204 = .ok (.aload_n 0, 1) := dk_42 (dk_at dksX1_turn_8 17 rfl rfl)
theorem dX1_turn_205 : decode cX1_turn 205 = .ok (.getfield 49, 3) := dk_180 0 49 (dk_at dksX1_turn_8 18 rfl rfl)
theorem dX1_turn_208 : decode cX1_turn 208 = .ok (.putfield 46, 3) := dk_181 0 46 (dk_at dksX1_turn_8 21 rfl rfl)
theorem dX1_turn_211 : decode cX1_turn 211 = .ok (.aload_n 0, 1) := dk_42 (dk_at dksX1_turn_9 0 rfl rfl)
theorem dX1_turn_212 : decode cX1_turn 212 = .ok (.iload_n 3, 1) := dk_29 (dk_at dksX1_turn_9 1 rfl rfl)
theorem dX1_turn_213 : decode cX1_turn 213 = .ok (.putfield 49, 3) := dk_181 0 49 (dk_at dksX1_turn_9 2 rfl rfl)
theorem dX1_turn_216 : decode cX1_turn 216 = .ok (.return_, 1) := dk_177 (dk_at dksX1_turn_9 5 rfl rfl)
abbrev cX1_longestPick : ByteArray := prog_4_method_7_code
def yX1_longestPick : MethodName := ⟨RX1, "longestPick", "()I"⟩
def dkwX1_longestPick_1 : List UInt8 := [180, 0, 27, 28, 50, 3, 182, 0, 85, 184, 0, 79, 184, 0, 79, 60, 132, 2, 1, 167, 255, 217, 27, 172]
abbrev dktX1_longestPick_1 : List UInt8 := dkwX1_longestPick_1 ++ []
def dkwX1_longestPick_0 : List UInt8 := [3, 60, 3, 61, 28, 42, 180, 0, 43, 162, 0, 37, 27, 42, 180, 0, 27, 28, 50, 4, 182, 0, 85, 42]
abbrev dktX1_longestPick_0 : List UInt8 := dkwX1_longestPick_0 ++ dktX1_longestPick_1
theorem dksX1_longestPick_0 : cX1_longestPick.data.toList.drop 0 = dktX1_longestPick_0 := by decide +kernel
theorem dksX1_longestPick_1 : cX1_longestPick.data.toList.drop 24 = dktX1_longestPick_1 := dk_seg dksX1_longestPick_0 24 rfl rfl
theorem dX1_longestPick_0 : decode cX1_longestPick 0 = .ok (.iconst 0, 1) := dk_3 (dk_at dksX1_longestPick_0 0 rfl rfl)
theorem dX1_longestPick_1 : decode cX1_longestPick 1 = .ok (.istore_n 1, 1) := dk_60 (dk_at dksX1_longestPick_0 1 rfl rfl)
theorem dX1_longestPick_2 : decode cX1_longestPick 2 = .ok (.iconst 0, 1) := dk_3 (dk_at dksX1_longestPick_0 2 rfl rfl)
theorem dX1_longestPick_3 : decode cX1_longestPick 3 = .ok (.istore_n 2, 1) := dk_61 (dk_at dksX1_longestPick_0 3 rfl rfl)
theorem dX1_longestPick_4 : decode cX1_longestPick 4 = .ok (.iload_n 2, 1) := dk_28 (dk_at dksX1_longestPick_0 4 rfl rfl)
theorem dX1_longestPick_5 : decode cX1_longestPick 5 = .ok (.aload_n 0, 1) := dk_42 (dk_at dksX1_longestPick_0 5 rfl rfl)
theorem dX1_longestPick_6 : decode cX1_longestPick 6 = .ok (.getfield 43, 3) := dk_180 0 43 (dk_at dksX1_longestPick_0 6 rfl rfl)
theorem dX1_longestPick_9 : decode cX1_longestPick 9 = .ok (.if_icmp .ge 37, 3) := dk_162 0 37 (dk_at dksX1_longestPick_0 9 rfl rfl)
theorem dX1_longestPick_12 : decode cX1_longestPick 12 = .ok (.iload_n 1, 1) := dk_27 (dk_at dksX1_longestPick_0 12 rfl rfl)
theorem dX1_longestPick_13 : decode cX1_longestPick 13 = .ok (.aload_n 0, 1) := dk_42 (dk_at dksX1_longestPick_0 13 rfl rfl)
theorem dX1_longestPick_14 : decode cX1_longestPick 14 = .ok (.getfield 27, 3) := dk_180 0 27 (dk_at dksX1_longestPick_0 14 rfl rfl)
theorem dX1_longestPick_17 : decode cX1_longestPick 17 = .ok (.iload_n 2, 1) := dk_28 (dk_at dksX1_longestPick_0 17 rfl rfl)
theorem dX1_longestPick_18 : decode cX1_longestPick 18 = .ok (.aaload, 1) := dk_50 (dk_at dksX1_longestPick_0 18 rfl rfl)
theorem dX1_longestPick_19 : decode cX1_longestPick 19 = .ok (.iconst 1, 1) := dk_4 (dk_at dksX1_longestPick_0 19 rfl rfl)
theorem dX1_longestPick_20 : decode cX1_longestPick 20 = .ok (.invokevirtual 85, 3) := dk_182 0 85 (dk_at dksX1_longestPick_0 20 rfl rfl)
theorem dX1_longestPick_23 : decode cX1_longestPick 23 = .ok (.aload_n 0, 1) := dk_42 (dk_at dksX1_longestPick_0 23 rfl rfl)
theorem dX1_longestPick_24 : decode cX1_longestPick 24 = .ok (.getfield 27, 3) := dk_180 0 27 (dk_at dksX1_longestPick_1 0 rfl rfl)
theorem dX1_longestPick_27 : decode cX1_longestPick 27 = .ok (.iload_n 2, 1) := dk_28 (dk_at dksX1_longestPick_1 3 rfl rfl)
theorem dX1_longestPick_28 : decode cX1_longestPick 28 = .ok (.aaload, 1) := dk_50 (dk_at dksX1_longestPick_1 4 rfl rfl)
theorem dX1_longestPick_29 : decode cX1_longestPick 29 = .ok (.iconst 0, 1) := dk_3 (dk_at dksX1_longestPick_1 5 rfl rfl)
theorem dX1_longestPick_30 : decode cX1_longestPick 30 = .ok (.invokevirtual 85, 3) := dk_182 0 85 (dk_at dksX1_longestPick_1 6 rfl rfl)
theorem dX1_longestPick_33 : decode cX1_longestPick 33 = .ok (.invokestatic 79, 3) := dk_184 0 79 (dk_at dksX1_longestPick_1 9 rfl rfl)
theorem dX1_longestPick_36 : decode cX1_longestPick 36 = .ok (.invokestatic 79, 3) := dk_184 0 79 (dk_at dksX1_longestPick_1 12 rfl rfl)
theorem dX1_longestPick_39 : decode cX1_longestPick 39 = .ok (.istore_n 1, 1) := dk_60 (dk_at dksX1_longestPick_1 15 rfl rfl)
theorem dX1_longestPick_40 : decode cX1_longestPick 40 = .ok (.iinc 2 1, 3) := dk_132 2 1 (dk_at dksX1_longestPick_1 16 rfl rfl)
theorem dX1_longestPick_43 : decode cX1_longestPick 43 = .ok (.goto (-39), 3) := dk_167 255 217 (dk_at dksX1_longestPick_1 19 rfl rfl)
theorem dX1_longestPick_46 : decode cX1_longestPick 46 = .ok (.iload_n 1, 1) := dk_27 (dk_at dksX1_longestPick_1 22 rfl rfl)
theorem dX1_longestPick_47 : decode cX1_longestPick 47 = .ok (.ireturn, 1) := dk_172 (dk_at dksX1_longestPick_1 23 rfl rfl)
abbrev cX1_longest : ByteArray := prog_4_method_6_code
def yX1_longest : MethodName := ⟨RX1, "longest", "()I"⟩
def dkwX1_longest_1 : List UInt8 := [184, 0, 79, 60, 132, 2, 1, 167, 255, 231, 27, 172]
abbrev dktX1_longest_1 : List UInt8 := dkwX1_longest_1 ++ []
def dkwX1_longest_0 : List UInt8 := [3, 60, 3, 61, 28, 42, 180, 0, 39, 162, 0, 23, 27, 42, 180, 0, 21, 28, 50, 182, 0, 75]
abbrev dktX1_longest_0 : List UInt8 := dkwX1_longest_0 ++ dktX1_longest_1
theorem dksX1_longest_0 : cX1_longest.data.toList.drop 0 = dktX1_longest_0 := by decide +kernel
theorem dksX1_longest_1 : cX1_longest.data.toList.drop 22 = dktX1_longest_1 := dk_seg dksX1_longest_0 22 rfl rfl
theorem dX1_longest_0 : decode cX1_longest 0 = .ok (.iconst 0, 1) := dk_3 (dk_at dksX1_longest_0 0 rfl rfl)
theorem dX1_longest_1 : decode cX1_longest 1 = .ok (.istore_n 1, 1) := dk_60 (dk_at dksX1_longest_0 1 rfl rfl)
theorem dX1_longest_2 : decode cX1_longest 2 = .ok (.iconst 0, 1) := dk_3 (dk_at dksX1_longest_0 2 rfl rfl)
theorem dX1_longest_3 : decode cX1_longest 3 = .ok (.istore_n 2, 1) := dk_61 (dk_at dksX1_longest_0 3 rfl rfl)
theorem dX1_longest_4 : decode cX1_longest 4 = .ok (.iload_n 2, 1) := dk_28 (dk_at dksX1_longest_0 4 rfl rfl)
theorem dX1_longest_5 : decode cX1_longest 5 = .ok (.aload_n 0, 1) := dk_42 (dk_at dksX1_longest_0 5 rfl rfl)
theorem dX1_longest_6 : decode cX1_longest 6 = .ok (.getfield 39, 3) := dk_180 0 39 (dk_at dksX1_longest_0 6 rfl rfl)
theorem dX1_longest_9 : decode cX1_longest 9 = .ok (.if_icmp .ge 23, 3) := dk_162 0 23 (dk_at dksX1_longest_0 9 rfl rfl)
theorem dX1_longest_12 : decode cX1_longest 12 = .ok (.iload_n 1, 1) := dk_27 (dk_at dksX1_longest_0 12 rfl rfl)
theorem dX1_longest_13 : decode cX1_longest 13 = .ok (.aload_n 0, 1) := dk_42 (dk_at dksX1_longest_0 13 rfl rfl)
theorem dX1_longest_14 : decode cX1_longest 14 = .ok (.getfield 21, 3) := dk_180 0 21 (dk_at dksX1_longest_0 14 rfl rfl)
theorem dX1_longest_17 : decode cX1_longest 17 = .ok (.iload_n 2, 1) := dk_28 (dk_at dksX1_longest_0 17 rfl rfl)
theorem dX1_longest_18 : decode cX1_longest 18 = .ok (.aaload, 1) := dk_50 (dk_at dksX1_longest_0 18 rfl rfl)
theorem dX1_longest_19 : decode cX1_longest 19 = .ok (.invokevirtual 75, 3) := dk_182 0 75 (dk_at dksX1_longest_0 19 rfl rfl)
theorem dX1_longest_22 : decode cX1_longest 22 = .ok (.invokestatic 79, 3) := dk_184 0 79 (dk_at dksX1_longest_1 0 rfl rfl)
theorem dX1_longest_25 : decode cX1_longest 25 = .ok (.istore_n 1, 1) := dk_60 (dk_at dksX1_longest_1 3 rfl rfl)
theorem dX1_longest_26 : decode cX1_longest 26 = .ok (.iinc 2 1, 3) := dk_132 2 1 (dk_at dksX1_longest_1 4 rfl rfl)
theorem dX1_longest_29 : decode cX1_longest 29 = .ok (.goto (-25), 3) := dk_167 255 231 (dk_at dksX1_longest_1 7 rfl rfl)
theorem dX1_longest_32 : decode cX1_longest 32 = .ok (.iload_n 1, 1) := dk_27 (dk_at dksX1_longest_1 10 rfl rfl)
theorem dX1_longest_33 : decode cX1_longest 33 = .ok (.ireturn, 1) := dk_172 (dk_at dksX1_longest_1 11 rfl rfl)
theorem q68 : (Jvm.Cond.initialized "WeaveDraft$Draft") ∈ lw_all := lw_g (lw_at lw_m1 2 rfl) rfl
theorem q109 : (Jvm.Cond.instantiable "WeaveDraft$Draft" (8 : Nat)) ∈ lw_all := lw_g (lw_at lw_m1 43 rfl) rfl
theorem q111 : (Jvm.Cond.instanceMethod ({ cls := "WeaveDraft$Draft", name := "<init>", desc := "(LWeaveDraft;)V" } : Jvm.MethodName)) ∈ lw_all := lw_g (lw_at lw_m1 45 rfl) rfl
theorem q112 : (Jvm.Cond.code ({ cls := "WeaveDraft$Draft", name := "<init>", desc := "(LWeaveDraft;)V" } : Jvm.MethodName) prog_4_method_1_code (3 : Nat) (Option.none : Option Jvm.ClassFile.FieldType)) ∈ lw_all := lw_g (lw_at lw_m1 46 rfl) rfl
theorem q113 : (Jvm.Cond.methodLink "WeaveDraft$Draft" (9 : Nat) ({ cls := "java/lang/Object", name := "<init>", desc := "()V" } : Jvm.MethodName)) ∈ lw_all := lw_g (lw_at lw_m1 47 rfl) rfl
theorem q114 : (Jvm.Cond.classLink "WeaveDraft$Draft" (19 : Nat) "WeaveDraft$Draft$End") ∈ lw_all := lw_g (lw_at lw_m1 48 rfl) rfl
theorem q116 : (Jvm.Cond.classLink "WeaveDraft$Draft" (25 : Nat) "WeaveDraft$Draft$Pick") ∈ lw_all := lw_g (lw_at lw_m1 50 rfl) rfl
theorem q119 : (Jvm.Cond.methodLink "WeaveDraft$Draft" (31 : Nat) ({ cls := "WeaveDraft$Draft$End", name := "<init>", desc := "(LWeaveDraft$Draft;I)V" } : Jvm.MethodName)) ∈ lw_all := lw_g (lw_at lw_m1 53 rfl) rfl
theorem q129 : (Jvm.Cond.fieldLink "WeaveDraft$Draft" (52 : Nat) "WeaveDraft$Draft$End" "tied" "I") ∈ lw_all := lw_g (lw_at lw_m1 63 rfl) rfl
theorem q131 : (Jvm.Cond.fieldLink "WeaveDraft$Draft" (58 : Nat) "WeaveDraft$Draft$Pick" "tied" "I") ∈ lw_all := lw_g (lw_at lw_m1 65 rfl) rfl
theorem q137 : (Jvm.Cond.fieldLink "WeaveDraft$Draft" (55 : Nat) "WeaveDraft$Draft$End" "colour" "I") ∈ lw_all := lw_g (lw_at lw_m1 71 rfl) rfl
theorem q139 : (Jvm.Cond.fieldLink "WeaveDraft$Draft" (59 : Nat) "WeaveDraft$Draft$Pick" "colour" "I") ∈ lw_all := lw_g (lw_at lw_m1 73 rfl) rfl
theorem q155 : (Jvm.Cond.methodLink "WeaveDraft$Draft" (34 : Nat) ({ cls := "WeaveDraft$Draft$Pick", name := "<init>", desc := "(LWeaveDraft$Draft;I)V" } : Jvm.MethodName)) ∈ lw_all := lw_g (lw_at lw_m1 89 rfl) rfl
theorem q168 : (Jvm.Cond.methodLink "WeaveDraft$Draft" (35 : Nat) ({ cls := "WeaveDraft$Draft", name := "start", desc := "(IIII)V" } : Jvm.MethodName)) ∈ lw_all := lw_g (lw_at lw_m1 102 rfl) rfl
theorem q169 : (Jvm.Cond.instanceMethod ({ cls := "WeaveDraft$Draft", name := "start", desc := "(IIII)V" } : Jvm.MethodName)) ∈ lw_all := lw_g (lw_at lw_m1 103 rfl) rfl
theorem q170 : (Jvm.Cond.selects "WeaveDraft$Draft" ({ cls := "WeaveDraft$Draft", name := "start", desc := "(IIII)V" } : Jvm.MethodName) ({ cls := "WeaveDraft$Draft", name := "start", desc := "(IIII)V" } : Jvm.MethodName)) ∈ lw_all := lw_g (lw_at lw_m1 104 rfl) rfl
theorem q171 : (Jvm.Cond.code ({ cls := "WeaveDraft$Draft", name := "start", desc := "(IIII)V" } : Jvm.MethodName) prog_4_method_2_code (6 : Nat) (Option.none : Option Jvm.ClassFile.FieldType)) ∈ lw_all := lw_g (lw_at lw_m1 105 rfl) rfl
theorem q173 : (Jvm.Cond.fieldLink "WeaveDraft$Draft" (39 : Nat) "WeaveDraft$Draft" "ends" "I") ∈ lw_all := lw_g (lw_at lw_m1 107 rfl) rfl
theorem q178 : (Jvm.Cond.fieldLink "WeaveDraft$Draft" (43 : Nat) "WeaveDraft$Draft" "picks" "I") ∈ lw_all := lw_g (lw_at lw_m1 112 rfl) rfl
theorem q181 : (Jvm.Cond.fieldLink "WeaveDraft$Draft" (46 : Nat) "WeaveDraft$Draft" "shafts" "I") ∈ lw_all := lw_g (lw_at lw_m1 115 rfl) rfl
theorem q184 : (Jvm.Cond.fieldLink "WeaveDraft$Draft" (49 : Nat) "WeaveDraft$Draft" "treadles" "I") ∈ lw_all := lw_g (lw_at lw_m1 118 rfl) rfl
theorem q186 : (Jvm.Cond.fieldLink "WeaveDraft$Draft" (15 : Nat) "WeaveDraft$Draft" "ties" "[I") ∈ lw_all := lw_g (lw_at lw_m1 120 rfl) rfl
theorem q188 : (Jvm.Cond.fieldLink "WeaveDraft$Draft" (21 : Nat) "WeaveDraft$Draft" "warp" "[LWeaveDraft$Draft$End;") ∈ lw_all := lw_g (lw_at lw_m1 122 rfl) rfl
theorem q190 : (Jvm.Cond.fieldLink "WeaveDraft$Draft" (27 : Nat) "WeaveDraft$Draft" "weft" "[LWeaveDraft$Draft$Pick;") ∈ lw_all := lw_g (lw_at lw_m1 124 rfl) rfl
theorem q192 : (Jvm.Cond.fieldLink "WeaveDraft$Draft" (3 : Nat) "WeaveDraft$Draft" "this$0" "LWeaveDraft;") ∈ lw_all := lw_g (lw_at lw_m1 126 rfl) rfl
theorem q193 : (Jvm.Cond.lays "WeaveDraft$Draft" "WeaveDraft$Draft" "ends" "I") ∈ lw_all := lw_g (lw_at lw_m1 127 rfl) rfl
theorem q194 : (Jvm.Cond.soleField "WeaveDraft$Draft" "ends") ∈ lw_all := lw_g (lw_at lw_m1 128 rfl) rfl
theorem q195 : (Jvm.Cond.lays "WeaveDraft$Draft" "WeaveDraft$Draft" "picks" "I") ∈ lw_all := lw_g (lw_at lw_m1 129 rfl) rfl
theorem q196 : (Jvm.Cond.soleField "WeaveDraft$Draft" "picks") ∈ lw_all := lw_g (lw_at lw_m1 130 rfl) rfl
theorem q197 : (Jvm.Cond.lays "WeaveDraft$Draft" "WeaveDraft$Draft" "shafts" "I") ∈ lw_all := lw_g (lw_at lw_m1 131 rfl) rfl
theorem q198 : (Jvm.Cond.soleField "WeaveDraft$Draft" "shafts") ∈ lw_all := lw_g (lw_at lw_m1 132 rfl) rfl
theorem q199 : (Jvm.Cond.lays "WeaveDraft$Draft" "WeaveDraft$Draft" "treadles" "I") ∈ lw_all := lw_g (lw_at lw_m1 133 rfl) rfl
theorem q200 : (Jvm.Cond.soleField "WeaveDraft$Draft" "treadles") ∈ lw_all := lw_g (lw_at lw_m1 134 rfl) rfl
theorem q201 : (Jvm.Cond.laysFinal "WeaveDraft$Draft" "WeaveDraft$Draft" "ties" "[I") ∈ lw_all := lw_g (lw_at lw_m1 135 rfl) rfl
theorem q202 : (Jvm.Cond.soleField "WeaveDraft$Draft" "ties") ∈ lw_all := lw_g (lw_at lw_m1 136 rfl) rfl
theorem q203 : (Jvm.Cond.laysFinal "WeaveDraft$Draft" "WeaveDraft$Draft" "warp" "[LWeaveDraft$Draft$End;") ∈ lw_all := lw_g (lw_at lw_m1 137 rfl) rfl
theorem q204 : (Jvm.Cond.soleField "WeaveDraft$Draft" "warp") ∈ lw_all := lw_g (lw_at lw_m1 138 rfl) rfl
theorem q205 : (Jvm.Cond.laysFinal "WeaveDraft$Draft" "WeaveDraft$Draft" "weft" "[LWeaveDraft$Draft$Pick;") ∈ lw_all := lw_g (lw_at lw_m1 139 rfl) rfl
theorem q206 : (Jvm.Cond.soleField "WeaveDraft$Draft" "weft") ∈ lw_all := lw_g (lw_at lw_m1 140 rfl) rfl
theorem q207 : (Jvm.Cond.laysFinal "WeaveDraft$Draft" "WeaveDraft$Draft" "this$0" "LWeaveDraft;") ∈ lw_all := lw_g (lw_at lw_m1 141 rfl) rfl
theorem q208 : (Jvm.Cond.soleField "WeaveDraft$Draft" "this$0") ∈ lw_all := lw_g (lw_at lw_m1 142 rfl) rfl
theorem q209 : (Jvm.Cond.superclass "WeaveDraft$Draft" "java/lang/Object") ∈ lw_all := lw_g (lw_at lw_m1 143 rfl) rfl
theorem q578 : (Jvm.Cond.selects "WeaveDraft$Draft" ({ cls := "java/lang/Object", name := "equals", desc := "(Ljava/lang/Object;)Z" } : Jvm.MethodName) ({ cls := "java/lang/Object", name := "equals", desc := "(Ljava/lang/Object;)Z" } : Jvm.MethodName)) ∈ lw_all := lw_g (lw_at lw_m3 32 rfl) rfl
theorem q769 : (Jvm.Cond.instanceMethod ({ cls := "WeaveDraft$Draft", name := "isUp", desc := "(II)Z" } : Jvm.MethodName)) ∈ lw_all := lw_g (lw_at lw_m3 223 rfl) rfl
theorem q770 : (Jvm.Cond.selects "WeaveDraft$Draft" ({ cls := "WeaveDraft$Draft", name := "isUp", desc := "(II)Z" } : Jvm.MethodName) ({ cls := "WeaveDraft$Draft", name := "isUp", desc := "(II)Z" } : Jvm.MethodName)) ∈ lw_all := lw_g (lw_at lw_m3 224 rfl) rfl
theorem q771 : (Jvm.Cond.code ({ cls := "WeaveDraft$Draft", name := "isUp", desc := "(II)Z" } : Jvm.MethodName) prog_4_method_4_code (3 : Nat) (Option.some Jvm.ClassFile.FieldType.boolean)) ∈ lw_all := lw_g (lw_at lw_m3 225 rfl) rfl
theorem q772 : (Jvm.Cond.methodLinkNest "WeaveDraft$Draft" (66 : Nat) ({ cls := "WeaveDraft", name := "has", desc := "(II)Z" } : Jvm.MethodName) "WeaveDraft") ∈ lw_tbl := lw_at lw_m3 226 rfl
theorem q830 : (Jvm.Cond.instanceMethod ({ cls := "WeaveDraft$Draft", name := "set", desc := "(LWeaveDraft$Draft;)LWeaveDraft$Draft;" } : Jvm.MethodName)) ∈ lw_all := lw_g (lw_at lw_m4 44 rfl) rfl
theorem q831 : (Jvm.Cond.selects "WeaveDraft$Draft" ({ cls := "WeaveDraft$Draft", name := "set", desc := "(LWeaveDraft$Draft;)LWeaveDraft$Draft;" } : Jvm.MethodName) ({ cls := "WeaveDraft$Draft", name := "set", desc := "(LWeaveDraft$Draft;)LWeaveDraft$Draft;" } : Jvm.MethodName)) ∈ lw_all := lw_g (lw_at lw_m4 45 rfl) rfl
theorem q832 : (Jvm.Cond.code ({ cls := "WeaveDraft$Draft", name := "set", desc := "(LWeaveDraft$Draft;)LWeaveDraft$Draft;" } : Jvm.MethodName) prog_4_method_3_code (3 : Nat) (Option.some (Jvm.ClassFile.FieldType.object "WeaveDraft$Draft"))) ∈ lw_all := lw_g (lw_at lw_m4 46 rfl) rfl
theorem q833 : (Jvm.Cond.methodLink "WeaveDraft$Draft" (60 : Nat) ({ cls := "java/lang/System", name := "arraycopy", desc := "(Ljava/lang/Object;ILjava/lang/Object;II)V" } : Jvm.MethodName)) ∈ lw_all := lw_g (lw_at lw_m4 47 rfl) rfl
theorem q924 : (Jvm.Cond.instanceMethod ({ cls := "WeaveDraft$Draft", name := "turn", desc := "()V" } : Jvm.MethodName)) ∈ lw_all := lw_g (lw_at lw_m4 138 rfl) rfl
theorem q925 : (Jvm.Cond.selects "WeaveDraft$Draft" ({ cls := "WeaveDraft$Draft", name := "turn", desc := "()V" } : Jvm.MethodName) ({ cls := "WeaveDraft$Draft", name := "turn", desc := "()V" } : Jvm.MethodName)) ∈ lw_all := lw_g (lw_at lw_m4 139 rfl) rfl
theorem q926 : (Jvm.Cond.code ({ cls := "WeaveDraft$Draft", name := "turn", desc := "()V" } : Jvm.MethodName) prog_4_method_5_code (5 : Nat) (Option.none : Option Jvm.ClassFile.FieldType)) ∈ lw_all := lw_g (lw_at lw_m4 140 rfl) rfl
theorem q927 : (Jvm.Cond.methodLink "WeaveDraft$Draft" (70 : Nat) ({ cls := "[I", name := "clone", desc := "()Ljava/lang/Object;" } : Jvm.MethodName)) ∈ lw_all := lw_g (lw_at lw_m4 141 rfl) rfl
theorem q931 : (Jvm.Cond.classLink "WeaveDraft$Draft" (71 : Nat) "[I") ∈ lw_all := lw_g (lw_at lw_m4 145 rfl) rfl
theorem q971 : (Jvm.Cond.instanceMethod ({ cls := "WeaveDraft$Draft", name := "longestPick", desc := "()I" } : Jvm.MethodName)) ∈ lw_all := lw_g (lw_at lw_m4 185 rfl) rfl
theorem q972 : (Jvm.Cond.selects "WeaveDraft$Draft" ({ cls := "WeaveDraft$Draft", name := "longestPick", desc := "()I" } : Jvm.MethodName) ({ cls := "WeaveDraft$Draft", name := "longestPick", desc := "()I" } : Jvm.MethodName)) ∈ lw_all := lw_g (lw_at lw_m4 186 rfl) rfl
theorem q973 : (Jvm.Cond.code ({ cls := "WeaveDraft$Draft", name := "longestPick", desc := "()I" } : Jvm.MethodName) prog_4_method_7_code (3 : Nat) (Option.some Jvm.ClassFile.FieldType.int)) ∈ lw_all := lw_g (lw_at lw_m4 187 rfl) rfl
theorem q974 : (Jvm.Cond.methodLink "WeaveDraft$Draft" (85 : Nat) ({ cls := "WeaveDraft$Draft$Pick", name := "longest", desc := "(Z)I" } : Jvm.MethodName)) ∈ lw_all := lw_g (lw_at lw_m4 188 rfl) rfl
theorem q975 : (Jvm.Cond.methodLink "WeaveDraft$Draft" (79 : Nat) ({ cls := "java/lang/Math", name := "max", desc := "(II)I" } : Jvm.MethodName)) ∈ lw_all := lw_g (lw_at lw_m4 189 rfl) rfl
theorem q1135 : (Jvm.Cond.instanceMethod ({ cls := "WeaveDraft$Draft", name := "longest", desc := "()I" } : Jvm.MethodName)) ∈ lw_all := lw_g (lw_at lw_m5 109 rfl) rfl
theorem q1136 : (Jvm.Cond.selects "WeaveDraft$Draft" ({ cls := "WeaveDraft$Draft", name := "longest", desc := "()I" } : Jvm.MethodName) ({ cls := "WeaveDraft$Draft", name := "longest", desc := "()I" } : Jvm.MethodName)) ∈ lw_all := lw_g (lw_at lw_m5 110 rfl) rfl
theorem q1137 : (Jvm.Cond.code ({ cls := "WeaveDraft$Draft", name := "longest", desc := "()I" } : Jvm.MethodName) prog_4_method_6_code (3 : Nat) (Option.some Jvm.ClassFile.FieldType.int)) ∈ lw_all := lw_g (lw_at lw_m5 111 rfl) rfl
theorem q1138 : (Jvm.Cond.methodLink "WeaveDraft$Draft" (75 : Nat) ({ cls := "WeaveDraft$Draft$End", name := "longest", desc := "()I" } : Jvm.MethodName)) ∈ lw_all := lw_g (lw_at lw_m5 112 rfl) rfl
theorem q1563 : (Jvm.Cond.castable "WeaveDraft$Draft" "java/lang/Object") ∈ lw_tbl := lw_at lw_m7 57 rfl
abbrev cX10_init : ByteArray := prog_11_method_1_code
def yX10_init : MethodName := ⟨RX10, "<init>", "()V"⟩
def dkwX10_init_0 : List UInt8 := [42, 183, 0, 3, 42, 16, 8, 188, 10, 181, 0, 9, 177]
abbrev dktX10_init_0 : List UInt8 := dkwX10_init_0 ++ []
theorem dksX10_init_0 : cX10_init.data.toList.drop 0 = dktX10_init_0 := by decide +kernel
theorem dX10_init_0 : decode cX10_init 0 = .ok (.aload_n 0, 1) := dk_42 (dk_at dksX10_init_0 0 rfl rfl)
theorem dX10_init_1 : decode cX10_init 1 = .ok (.invokespecial 3, 3) := dk_183 0 3 (dk_at dksX10_init_0 1 rfl rfl)
theorem dX10_init_4 : decode cX10_init 4 = .ok (.aload_n 0, 1) := dk_42 (dk_at dksX10_init_0 4 rfl rfl)
theorem dX10_init_5 : decode cX10_init 5 = .ok (.bipush 8, 2) := dk_16 8 (dk_at dksX10_init_0 5 rfl rfl)
theorem dX10_init_7 : decode cX10_init 7 = .ok (.newarray .int, 2) := dk_188_10 (dk_at dksX10_init_0 7 rfl rfl)
theorem dX10_init_9 : decode cX10_init 9 = .ok (.putfield 9, 3) := dk_181 0 9 (dk_at dksX10_init_0 9 rfl rfl)
theorem dX10_init_12 : decode cX10_init 12 = .ok (.return_, 1) := dk_177 (dk_at dksX10_init_0 12 rfl rfl)
abbrev cX10_sum : ByteArray := prog_11_method_3_code
def yX10_sum : MethodName := ⟨RX10, "sum", "()I"⟩
def dkwX10_sum_1 : List UInt8 := [192, 0, 34, 182, 0, 36, 62, 27, 29, 96, 60, 167, 255, 230, 27, 172]
abbrev dktX10_sum_1 : List UInt8 := dkwX10_sum_1 ++ []
def dkwX10_sum_0 : List UInt8 := [3, 60, 42, 182, 0, 20, 77, 44, 185, 0, 24, 1, 0, 153, 0, 23, 44, 185, 0, 30, 1, 0]
abbrev dktX10_sum_0 : List UInt8 := dkwX10_sum_0 ++ dktX10_sum_1
theorem dksX10_sum_0 : cX10_sum.data.toList.drop 0 = dktX10_sum_0 := by decide +kernel
theorem dksX10_sum_1 : cX10_sum.data.toList.drop 22 = dktX10_sum_1 := dk_seg dksX10_sum_0 22 rfl rfl
theorem dX10_sum_0 : decode cX10_sum 0 = .ok (.iconst 0, 1) := dk_3 (dk_at dksX10_sum_0 0 rfl rfl)
theorem dX10_sum_1 : decode cX10_sum 1 = .ok (.istore_n 1, 1) := dk_60 (dk_at dksX10_sum_0 1 rfl rfl)
theorem dX10_sum_2 : decode cX10_sum 2 = .ok (.aload_n 0, 1) := dk_42 (dk_at dksX10_sum_0 2 rfl rfl)
theorem dX10_sum_3 : decode cX10_sum 3 = .ok (.invokevirtual 20, 3) := dk_182 0 20 (dk_at dksX10_sum_0 3 rfl rfl)
theorem dX10_sum_6 : decode cX10_sum 6 = .ok (.astore_n 2, 1) := dk_77 (dk_at dksX10_sum_0 6 rfl rfl)
theorem dX10_sum_7 : decode cX10_sum 7 = .ok (.aload_n 2, 1) := dk_44 (dk_at dksX10_sum_0 7 rfl rfl)
theorem dX10_sum_8 : decode cX10_sum 8 = .ok (.invokeinterface 24 1, 5) := by decide +kernel
theorem dX10_sum_13 : decode cX10_sum 13 = .ok (.ifCond .eq 23, 3) := dk_153 0 23 (dk_at dksX10_sum_0 13 rfl rfl)
theorem dX10_sum_16 : decode cX10_sum 16 = .ok (.aload_n 2, 1) := dk_44 (dk_at dksX10_sum_0 16 rfl rfl)
theorem dX10_sum_17 : decode cX10_sum 17 = .ok (.invokeinterface 30 1, 5) := by decide +kernel
theorem dX10_sum_22 : decode cX10_sum 22 = .ok (.checkcast 34, 3) := dk_192 0 34 (dk_at dksX10_sum_1 0 rfl rfl)
theorem dX10_sum_25 : decode cX10_sum 25 = .ok (.invokevirtual 36, 3) := dk_182 0 36 (dk_at dksX10_sum_1 3 rfl rfl)
theorem dX10_sum_28 : decode cX10_sum 28 = .ok (.istore_n 3, 1) := dk_62 (dk_at dksX10_sum_1 6 rfl rfl)
theorem dX10_sum_29 : decode cX10_sum 29 = .ok (.iload_n 1, 1) := dk_27 (dk_at dksX10_sum_1 7 rfl rfl)
theorem dX10_sum_30 : decode cX10_sum 30 = .ok (.iload_n 3, 1) := dk_29 (dk_at dksX10_sum_1 8 rfl rfl)
theorem dX10_sum_31 : decode cX10_sum 31 = .ok (.iadd, 1) := dk_96 (dk_at dksX10_sum_1 9 rfl rfl)
theorem dX10_sum_32 : decode cX10_sum 32 = .ok (.istore_n 1, 1) := dk_60 (dk_at dksX10_sum_1 10 rfl rfl)
theorem dX10_sum_33 : decode cX10_sum 33 = .ok (.goto (-26), 3) := dk_167 255 230 (dk_at dksX10_sum_1 11 rfl rfl)
theorem dX10_sum_36 : decode cX10_sum 36 = .ok (.iload_n 1, 1) := dk_27 (dk_at dksX10_sum_1 14 rfl rfl)
theorem dX10_sum_37 : decode cX10_sum 37 = .ok (.ireturn, 1) := dk_172 (dk_at dksX10_sum_1 15 rfl rfl)
abbrev cX10_iterator : ByteArray := prog_11_method_2_code
def yX10_iterator : MethodName := ⟨RX10, "iterator", "()Ljava/util/Iterator;"⟩
def dkwX10_iterator_0 : List UInt8 := [187, 0, 15, 89, 42, 183, 0, 17, 176]
abbrev dktX10_iterator_0 : List UInt8 := dkwX10_iterator_0 ++ []
theorem dksX10_iterator_0 : cX10_iterator.data.toList.drop 0 = dktX10_iterator_0 := by decide +kernel
theorem dX10_iterator_0 : decode cX10_iterator 0 = .ok (.new 15, 3) := dk_187 0 15 (dk_at dksX10_iterator_0 0 rfl rfl)
theorem dX10_iterator_3 : decode cX10_iterator 3 = .ok (.dup, 1) := dk_89 (dk_at dksX10_iterator_0 3 rfl rfl)
theorem dX10_iterator_4 : decode cX10_iterator 4 = .ok (.aload_n 0, 1) := dk_42 (dk_at dksX10_iterator_0 4 rfl rfl)
theorem dX10_iterator_5 : decode cX10_iterator 5 = .ok (.invokespecial 17, 3) := dk_183 0 17 (dk_at dksX10_iterator_0 5 rfl rfl)
theorem dX10_iterator_8 : decode cX10_iterator 8 = .ok (.areturn, 1) := dk_176 (dk_at dksX10_iterator_0 8 rfl rfl)
abbrev cX10_longest : ByteArray := prog_11_method_4_code
def yX10_longest : MethodName := ⟨RX10, "longest", "()I"⟩
def dkwX10_longest_1 : List UInt8 := [192, 0, 34, 182, 0, 36, 62, 27, 29, 184, 0, 40, 60, 167, 255, 228, 27, 172]
abbrev dktX10_longest_1 : List UInt8 := dkwX10_longest_1 ++ []
def dkwX10_longest_0 : List UInt8 := [3, 60, 42, 182, 0, 20, 77, 44, 185, 0, 24, 1, 0, 153, 0, 25, 44, 185, 0, 30, 1, 0]
abbrev dktX10_longest_0 : List UInt8 := dkwX10_longest_0 ++ dktX10_longest_1
theorem dksX10_longest_0 : cX10_longest.data.toList.drop 0 = dktX10_longest_0 := by decide +kernel
theorem dksX10_longest_1 : cX10_longest.data.toList.drop 22 = dktX10_longest_1 := dk_seg dksX10_longest_0 22 rfl rfl
theorem dX10_longest_0 : decode cX10_longest 0 = .ok (.iconst 0, 1) := dk_3 (dk_at dksX10_longest_0 0 rfl rfl)
theorem dX10_longest_1 : decode cX10_longest 1 = .ok (.istore_n 1, 1) := dk_60 (dk_at dksX10_longest_0 1 rfl rfl)
theorem dX10_longest_2 : decode cX10_longest 2 = .ok (.aload_n 0, 1) := dk_42 (dk_at dksX10_longest_0 2 rfl rfl)
theorem dX10_longest_3 : decode cX10_longest 3 = .ok (.invokevirtual 20, 3) := dk_182 0 20 (dk_at dksX10_longest_0 3 rfl rfl)
theorem dX10_longest_6 : decode cX10_longest 6 = .ok (.astore_n 2, 1) := dk_77 (dk_at dksX10_longest_0 6 rfl rfl)
theorem dX10_longest_7 : decode cX10_longest 7 = .ok (.aload_n 2, 1) := dk_44 (dk_at dksX10_longest_0 7 rfl rfl)
theorem dX10_longest_8 : decode cX10_longest 8 = .ok (.invokeinterface 24 1, 5) := by decide +kernel
theorem dX10_longest_13 : decode cX10_longest 13 = .ok (.ifCond .eq 25, 3) := dk_153 0 25 (dk_at dksX10_longest_0 13 rfl rfl)
theorem dX10_longest_16 : decode cX10_longest 16 = .ok (.aload_n 2, 1) := dk_44 (dk_at dksX10_longest_0 16 rfl rfl)
theorem dX10_longest_17 : decode cX10_longest 17 = .ok (.invokeinterface 30 1, 5) := by decide +kernel
theorem dX10_longest_22 : decode cX10_longest 22 = .ok (.checkcast 34, 3) := dk_192 0 34 (dk_at dksX10_longest_1 0 rfl rfl)
theorem dX10_longest_25 : decode cX10_longest 25 = .ok (.invokevirtual 36, 3) := dk_182 0 36 (dk_at dksX10_longest_1 3 rfl rfl)
theorem dX10_longest_28 : decode cX10_longest 28 = .ok (.istore_n 3, 1) := dk_62 (dk_at dksX10_longest_1 6 rfl rfl)
theorem dX10_longest_29 : decode cX10_longest 29 = .ok (.iload_n 1, 1) := dk_27 (dk_at dksX10_longest_1 7 rfl rfl)
theorem dX10_longest_30 : decode cX10_longest 30 = .ok (.iload_n 3, 1) := dk_29 (dk_at dksX10_longest_1 8 rfl rfl)
theorem dX10_longest_31 : decode cX10_longest 31 = .ok (.invokestatic 40, 3) := dk_184 0 40 (dk_at dksX10_longest_1 9 rfl rfl)
theorem dX10_longest_34 : decode cX10_longest 34 = .ok (.istore_n 1, 1) := dk_60 (dk_at dksX10_longest_1 12 rfl rfl)
theorem dX10_longest_35 : decode cX10_longest 35 = .ok (.goto (-28), 3) := dk_167 255 228 (dk_at dksX10_longest_1 13 rfl rfl)
theorem dX10_longest_38 : decode cX10_longest 38 = .ok (.iload_n 1, 1) := dk_27 (dk_at dksX10_longest_1 16 rfl rfl)
theorem dX10_longest_39 : decode cX10_longest 39 = .ok (.ireturn, 1) := dk_172 (dk_at dksX10_longest_1 17 rfl rfl)
abbrev cX10_longer : ByteArray := prog_11_method_5_code
def yX10_longer : MethodName := ⟨RX10, "longer", "()I"⟩
def dkwX10_longer_2 : List UInt8 := [61, 167, 255, 216, 27, 172]
abbrev dktX10_longer_2 : List UInt8 := dkwX10_longer_2 ++ []
def dkwX10_longer_1 : List UInt8 := [192, 0, 34, 182, 0, 36, 54, 4, 27, 28, 21, 4, 164, 0, 7, 4, 167, 0, 4, 3, 96, 60, 21, 4]
abbrev dktX10_longer_1 : List UInt8 := dkwX10_longer_1 ++ dktX10_longer_2
def dkwX10_longer_0 : List UInt8 := [3, 60, 3, 61, 42, 182, 0, 20, 78, 45, 185, 0, 24, 1, 0, 153, 0, 37, 45, 185, 0, 30, 1, 0]
abbrev dktX10_longer_0 : List UInt8 := dkwX10_longer_0 ++ dktX10_longer_1
theorem dksX10_longer_0 : cX10_longer.data.toList.drop 0 = dktX10_longer_0 := by decide +kernel
theorem dksX10_longer_1 : cX10_longer.data.toList.drop 24 = dktX10_longer_1 := dk_seg dksX10_longer_0 24 rfl rfl
theorem dksX10_longer_2 : cX10_longer.data.toList.drop 48 = dktX10_longer_2 := dk_seg dksX10_longer_1 24 rfl rfl
theorem dX10_longer_0 : decode cX10_longer 0 = .ok (.iconst 0, 1) := dk_3 (dk_at dksX10_longer_0 0 rfl rfl)
theorem dX10_longer_1 : decode cX10_longer 1 = .ok (.istore_n 1, 1) := dk_60 (dk_at dksX10_longer_0 1 rfl rfl)
theorem dX10_longer_2 : decode cX10_longer 2 = .ok (.iconst 0, 1) := dk_3 (dk_at dksX10_longer_0 2 rfl rfl)
theorem dX10_longer_3 : decode cX10_longer 3 = .ok (.istore_n 2, 1) := dk_61 (dk_at dksX10_longer_0 3 rfl rfl)
theorem dX10_longer_4 : decode cX10_longer 4 = .ok (.aload_n 0, 1) := dk_42 (dk_at dksX10_longer_0 4 rfl rfl)
theorem dX10_longer_5 : decode cX10_longer 5 = .ok (.invokevirtual 20, 3) := dk_182 0 20 (dk_at dksX10_longer_0 5 rfl rfl)
theorem dX10_longer_8 : decode cX10_longer 8 = .ok (.astore_n 3, 1) := dk_78 (dk_at dksX10_longer_0 8 rfl rfl)
theorem dX10_longer_9 : decode cX10_longer 9 = .ok (.aload_n 3, 1) := dk_45 (dk_at dksX10_longer_0 9 rfl rfl)
theorem dX10_longer_10 : decode cX10_longer 10 = .ok (.invokeinterface 24 1, 5) := by decide +kernel
theorem dX10_longer_15 : decode cX10_longer 15 = .ok (.ifCond .eq 37, 3) := dk_153 0 37 (dk_at dksX10_longer_0 15 rfl rfl)
theorem dX10_longer_18 : decode cX10_longer 18 = .ok (.aload_n 3, 1) := dk_45 (dk_at dksX10_longer_0 18 rfl rfl)
theorem dX10_longer_19 : decode cX10_longer 19 = .ok (.invokeinterface 30 1, 5) := by decide +kernel
theorem dX10_longer_24 : decode cX10_longer 24 = .ok (.checkcast 34, 3) := dk_192 0 34 (dk_at dksX10_longer_1 0 rfl rfl)
theorem dX10_longer_27 : decode cX10_longer 27 = .ok (.invokevirtual 36, 3) := dk_182 0 36 (dk_at dksX10_longer_1 3 rfl rfl)
theorem dX10_longer_30 : decode cX10_longer 30 = .ok (.istore 4, 2) := dk_54 4 (dk_at dksX10_longer_1 6 rfl rfl)
theorem dX10_longer_32 : decode cX10_longer 32 = .ok (.iload_n 1, 1) := dk_27 (dk_at dksX10_longer_1 8 rfl rfl)
theorem dX10_longer_33 : decode cX10_longer 33 = .ok (.iload_n 2, 1) := dk_28 (dk_at dksX10_longer_1 9 rfl rfl)
theorem dX10_longer_34 : decode cX10_longer 34 = .ok (.iload 4, 2) := dk_21 4 (dk_at dksX10_longer_1 10 rfl rfl)
theorem dX10_longer_36 : decode cX10_longer 36 = .ok (.if_icmp .le 7, 3) := dk_164 0 7 (dk_at dksX10_longer_1 12 rfl rfl)
theorem dX10_longer_39 : decode cX10_longer 39 = .ok (.iconst 1, 1) := dk_4 (dk_at dksX10_longer_1 15 rfl rfl)
theorem dX10_longer_40 : decode cX10_longer 40 = .ok (.goto 4, 3) := dk_167 0 4 (dk_at dksX10_longer_1 16 rfl rfl)
theorem dX10_longer_43 : decode cX10_longer 43 = .ok (.iconst 0, 1) := dk_3 (dk_at dksX10_longer_1 19 rfl rfl)
theorem dX10_longer_44 : decode cX10_longer 44 = .ok (.iadd, 1) := dk_96 (dk_at dksX10_longer_1 20 rfl rfl)
theorem dX10_longer_45 : decode cX10_longer 45 = .ok (.istore_n 1, 1) := dk_60 (dk_at dksX10_longer_1 21 rfl rfl)
theorem dX10_longer_46 : decode cX10_longer 46 = .ok (.iload 4, 2) := dk_21 4 (dk_at dksX10_longer_1 22 rfl rfl)
theorem dX10_longer_48 : decode cX10_longer 48 = .ok (.istore_n 2, 1) := dk_61 (dk_at dksX10_longer_2 0 rfl rfl)
theorem dX10_longer_49 : decode cX10_longer 49 = .ok (.goto (-40), 3) := dk_167 255 216 (dk_at dksX10_longer_2 1 rfl rfl)
theorem dX10_longer_52 : decode cX10_longer 52 = .ok (.iload_n 1, 1) := dk_27 (dk_at dksX10_longer_2 4 rfl rfl)
theorem dX10_longer_53 : decode cX10_longer 53 = .ok (.ireturn, 1) := dk_172 (dk_at dksX10_longer_2 5 rfl rfl)
theorem q93 : (Jvm.Cond.initialized "WeaveDraft$Spool") ∈ lw_all := lw_g (lw_at lw_m1 27 rfl) rfl
theorem q583 : (Jvm.Cond.selects "WeaveDraft$Spool" ({ cls := "java/lang/Object", name := "equals", desc := "(Ljava/lang/Object;)Z" } : Jvm.MethodName) ({ cls := "java/lang/Object", name := "equals", desc := "(Ljava/lang/Object;)Z" } : Jvm.MethodName)) ∈ lw_all := lw_g (lw_at lw_m3 37 rfl) rfl
theorem q984 : (Jvm.Cond.instantiable "WeaveDraft$Spool" (2 : Nat)) ∈ lw_all := lw_g (lw_at lw_m4 198 rfl) rfl
theorem q986 : (Jvm.Cond.instanceMethod ({ cls := "WeaveDraft$Spool", name := "<init>", desc := "()V" } : Jvm.MethodName)) ∈ lw_all := lw_g (lw_at lw_m4 200 rfl) rfl
theorem q987 : (Jvm.Cond.code ({ cls := "WeaveDraft$Spool", name := "<init>", desc := "()V" } : Jvm.MethodName) prog_11_method_1_code (1 : Nat) (Option.none : Option Jvm.ClassFile.FieldType)) ∈ lw_all := lw_g (lw_at lw_m4 201 rfl) rfl
theorem q988 : (Jvm.Cond.methodLink "WeaveDraft$Spool" (3 : Nat) ({ cls := "java/lang/Object", name := "<init>", desc := "()V" } : Jvm.MethodName)) ∈ lw_all := lw_g (lw_at lw_m4 202 rfl) rfl
theorem q989 : (Jvm.Cond.fieldLink "WeaveDraft$Spool" (9 : Nat) "WeaveDraft$Spool" "lengths" "[I") ∈ lw_all := lw_g (lw_at lw_m4 203 rfl) rfl
theorem q994 : (Jvm.Cond.laysFinal "WeaveDraft$Spool" "WeaveDraft$Spool" "lengths" "[I") ∈ lw_all := lw_g (lw_at lw_m4 208 rfl) rfl
theorem q995 : (Jvm.Cond.soleField "WeaveDraft$Spool" "lengths") ∈ lw_all := lw_g (lw_at lw_m4 209 rfl) rfl
theorem q996 : (Jvm.Cond.lays "WeaveDraft$Spool" "WeaveDraft$Spool" "many" "I") ∈ lw_all := lw_g (lw_at lw_m4 210 rfl) rfl
theorem q997 : (Jvm.Cond.soleField "WeaveDraft$Spool" "many") ∈ lw_all := lw_g (lw_at lw_m4 211 rfl) rfl
theorem q998 : (Jvm.Cond.superclass "WeaveDraft$Spool" "java/lang/Object") ∈ lw_all := lw_g (lw_at lw_m4 212 rfl) rfl
theorem q1010 : (Jvm.Cond.instanceMethod ({ cls := "WeaveDraft$Spool", name := "sum", desc := "()I" } : Jvm.MethodName)) ∈ lw_all := lw_g (lw_at lw_m4 224 rfl) rfl
theorem q1011 : (Jvm.Cond.selects "WeaveDraft$Spool" ({ cls := "WeaveDraft$Spool", name := "sum", desc := "()I" } : Jvm.MethodName) ({ cls := "WeaveDraft$Spool", name := "sum", desc := "()I" } : Jvm.MethodName)) ∈ lw_all := lw_g (lw_at lw_m4 225 rfl) rfl
theorem q1012 : (Jvm.Cond.code ({ cls := "WeaveDraft$Spool", name := "sum", desc := "()I" } : Jvm.MethodName) prog_11_method_3_code (4 : Nat) (Option.some Jvm.ClassFile.FieldType.int)) ∈ lw_all := lw_g (lw_at lw_m4 226 rfl) rfl
theorem q1013 : (Jvm.Cond.methodLink "WeaveDraft$Spool" (20 : Nat) ({ cls := "WeaveDraft$Spool", name := "iterator", desc := "()Ljava/util/Iterator;" } : Jvm.MethodName)) ∈ lw_all := lw_g (lw_at lw_m4 227 rfl) rfl
theorem q1014 : (Jvm.Cond.instanceMethod ({ cls := "WeaveDraft$Spool", name := "iterator", desc := "()Ljava/util/Iterator;" } : Jvm.MethodName)) ∈ lw_all := lw_g (lw_at lw_m4 228 rfl) rfl
theorem q1015 : (Jvm.Cond.selects "WeaveDraft$Spool" ({ cls := "WeaveDraft$Spool", name := "iterator", desc := "()Ljava/util/Iterator;" } : Jvm.MethodName) ({ cls := "WeaveDraft$Spool", name := "iterator", desc := "()Ljava/util/Iterator;" } : Jvm.MethodName)) ∈ lw_all := lw_g (lw_at lw_m4 229 rfl) rfl
theorem q1016 : (Jvm.Cond.code ({ cls := "WeaveDraft$Spool", name := "iterator", desc := "()Ljava/util/Iterator;" } : Jvm.MethodName) prog_11_method_2_code (1 : Nat) (Option.some (Jvm.ClassFile.FieldType.object "java/util/Iterator"))) ∈ lw_all := lw_g (lw_at lw_m4 230 rfl) rfl
theorem q1017 : (Jvm.Cond.classLink "WeaveDraft$Spool" (15 : Nat) "WeaveDraft$Spool$Unwinding") ∈ lw_all := lw_g (lw_at lw_m4 231 rfl) rfl
theorem q1019 : (Jvm.Cond.methodLinkNest "WeaveDraft$Spool" (17 : Nat) ({ cls := "WeaveDraft$Spool$Unwinding", name := "<init>", desc := "(LWeaveDraft$Spool;)V" } : Jvm.MethodName) "WeaveDraft") ∈ lw_tbl := lw_at lw_m4 233 rfl
theorem q1030 : (Jvm.Cond.interfaceEntry "WeaveDraft$Spool" (24 : Nat)) ∈ lw_tbl := lw_at lw_m5 4 rfl
theorem q1031 : (Jvm.Cond.methodLink "WeaveDraft$Spool" (24 : Nat) ({ cls := "java/util/Iterator", name := "hasNext", desc := "()Z" } : Jvm.MethodName)) ∈ lw_all := lw_g (lw_at lw_m5 5 rfl) rfl
theorem q1040 : (Jvm.Cond.interfaceEntry "WeaveDraft$Spool" (30 : Nat)) ∈ lw_tbl := lw_at lw_m5 14 rfl
theorem q1041 : (Jvm.Cond.methodLink "WeaveDraft$Spool" (30 : Nat) ({ cls := "java/util/Iterator", name := "next", desc := "()Ljava/lang/Object;" } : Jvm.MethodName)) ∈ lw_all := lw_g (lw_at lw_m5 15 rfl) rfl
theorem q1095 : (Jvm.Cond.classLink "WeaveDraft$Spool" (34 : Nat) "java/lang/Integer") ∈ lw_all := lw_g (lw_at lw_m5 69 rfl) rfl
theorem q1096 : (Jvm.Cond.methodLink "WeaveDraft$Spool" (36 : Nat) ({ cls := "java/lang/Integer", name := "intValue", desc := "()I" } : Jvm.MethodName)) ∈ lw_all := lw_g (lw_at lw_m5 70 rfl) rfl
theorem q1107 : (Jvm.Cond.instanceMethod ({ cls := "WeaveDraft$Spool", name := "longest", desc := "()I" } : Jvm.MethodName)) ∈ lw_all := lw_g (lw_at lw_m5 81 rfl) rfl
theorem q1108 : (Jvm.Cond.selects "WeaveDraft$Spool" ({ cls := "WeaveDraft$Spool", name := "longest", desc := "()I" } : Jvm.MethodName) ({ cls := "WeaveDraft$Spool", name := "longest", desc := "()I" } : Jvm.MethodName)) ∈ lw_all := lw_g (lw_at lw_m5 82 rfl) rfl
theorem q1109 : (Jvm.Cond.code ({ cls := "WeaveDraft$Spool", name := "longest", desc := "()I" } : Jvm.MethodName) prog_11_method_4_code (4 : Nat) (Option.some Jvm.ClassFile.FieldType.int)) ∈ lw_all := lw_g (lw_at lw_m5 83 rfl) rfl
theorem q1110 : (Jvm.Cond.methodLink "WeaveDraft$Spool" (40 : Nat) ({ cls := "java/lang/Math", name := "max", desc := "(II)I" } : Jvm.MethodName)) ∈ lw_all := lw_g (lw_at lw_m5 84 rfl) rfl
theorem q1117 : (Jvm.Cond.instanceMethod ({ cls := "WeaveDraft$Spool", name := "longer", desc := "()I" } : Jvm.MethodName)) ∈ lw_all := lw_g (lw_at lw_m5 91 rfl) rfl
theorem q1118 : (Jvm.Cond.selects "WeaveDraft$Spool" ({ cls := "WeaveDraft$Spool", name := "longer", desc := "()I" } : Jvm.MethodName) ({ cls := "WeaveDraft$Spool", name := "longer", desc := "()I" } : Jvm.MethodName)) ∈ lw_all := lw_g (lw_at lw_m5 92 rfl) rfl
theorem q1119 : (Jvm.Cond.code ({ cls := "WeaveDraft$Spool", name := "longer", desc := "()I" } : Jvm.MethodName) prog_11_method_5_code (5 : Nat) (Option.some Jvm.ClassFile.FieldType.int)) ∈ lw_all := lw_g (lw_at lw_m5 93 rfl) rfl
theorem q1564 : (Jvm.Cond.castable "WeaveDraft$Spool" "java/lang/Object") ∈ lw_tbl := lw_at lw_m7 58 rfl
abbrev cX11_init : ByteArray := prog_12_method_1_code
def yX11_init : MethodName := ⟨RX11, "<init>", "(LWeaveDraft$Spool;)V"⟩
def dkwX11_init_0 : List UInt8 := [42, 43, 181, 0, 1, 42, 183, 0, 7, 42, 42, 180, 0, 1, 180, 0, 13, 181, 0, 19, 177]
abbrev dktX11_init_0 : List UInt8 := dkwX11_init_0 ++ []
theorem dksX11_init_0 : cX11_init.data.toList.drop 0 = dktX11_init_0 := by decide +kernel
theorem dX11_init_0 : decode cX11_init 0 = .ok (.aload_n 0, 1) := dk_42 (dk_at dksX11_init_0 0 rfl rfl)
theorem dX11_init_1 : decode cX11_init 1 = .ok (.aload_n 1, 1) := dk_43 (dk_at dksX11_init_0 1 rfl rfl)
theorem dX11_init_2 : decode cX11_init 2 = .ok (.putfield 1, 3) := dk_181 0 1 (dk_at dksX11_init_0 2 rfl rfl)
theorem dX11_init_5 : decode cX11_init 5 = .ok (.aload_n 0, 1) := dk_42 (dk_at dksX11_init_0 5 rfl rfl)
theorem dX11_init_6 : decode cX11_init 6 = .ok (.invokespecial 7, 3) := dk_183 0 7 (dk_at dksX11_init_0 6 rfl rfl)
theorem dX11_init_9 : decode cX11_init 9 = .ok (.aload_n 0, 1) := dk_42 (dk_at dksX11_init_0 9 rfl rfl)
theorem dX11_init_10 : decode cX11_init 10 = .ok (.aload_n 0, 1) := dk_42 (dk_at dksX11_init_0 10 rfl rfl)
theorem dX11_init_11 : decode cX11_init 11 = .ok (.getfield 1, 3) := dk_180 0 1 (dk_at dksX11_init_0 11 rfl rfl)
theorem dX11_init_14 : decode cX11_init 14 = .ok (.getfield 13, 3) := dk_180 0 13 (dk_at dksX11_init_0 14 rfl rfl)
theorem dX11_init_17 : decode cX11_init 17 = .ok (.putfield 19, 3) := dk_181 0 19 (dk_at dksX11_init_0 17 rfl rfl)
theorem dX11_init_20 : decode cX11_init 20 = .ok (.return_, 1) := dk_177 (dk_at dksX11_init_0 20 rfl rfl)
abbrev cX11_hasNext : ByteArray := prog_12_method_2_code
def yX11_hasNext : MethodName := ⟨RX11, "hasNext", "()Z"⟩
def dkwX11_hasNext_0 : List UInt8 := [42, 180, 0, 19, 158, 0, 7, 4, 167, 0, 4, 3, 172]
abbrev dktX11_hasNext_0 : List UInt8 := dkwX11_hasNext_0 ++ []
theorem dksX11_hasNext_0 : cX11_hasNext.data.toList.drop 0 = dktX11_hasNext_0 := by decide +kernel
theorem dX11_hasNext_0 : decode cX11_hasNext 0 = .ok (.aload_n 0, 1) := dk_42 (dk_at dksX11_hasNext_0 0 rfl rfl)
theorem dX11_hasNext_1 : decode cX11_hasNext 1 = .ok (.getfield 19, 3) := dk_180 0 19 (dk_at dksX11_hasNext_0 1 rfl rfl)
theorem dX11_hasNext_4 : decode cX11_hasNext 4 = .ok (.ifCond .le 7, 3) := dk_158 0 7 (dk_at dksX11_hasNext_0 4 rfl rfl)
theorem dX11_hasNext_7 : decode cX11_hasNext 7 = .ok (.iconst 1, 1) := dk_4 (dk_at dksX11_hasNext_0 7 rfl rfl)
theorem dX11_hasNext_8 : decode cX11_hasNext 8 = .ok (.goto 4, 3) := dk_167 0 4 (dk_at dksX11_hasNext_0 8 rfl rfl)
theorem dX11_hasNext_11 : decode cX11_hasNext 11 = .ok (.iconst 0, 1) := dk_3 (dk_at dksX11_hasNext_0 11 rfl rfl)
theorem dX11_hasNext_12 : decode cX11_hasNext 12 = .ok (.ireturn, 1) := dk_172 (dk_at dksX11_hasNext_0 12 rfl rfl)
abbrev cX11_next : ByteArray := prog_12_method_4_code
def yX11_next : MethodName := ⟨RX11, "next", "()Ljava/lang/Object;"⟩
theorem dX11_next_0 : decode cX11_next 0 = .ok (.aload_n 0, 1) := by decide +kernel
theorem dX11_next_1 : decode cX11_next 1 = .ok (.invokevirtual 35, 3) := by decide +kernel
theorem dX11_next_4 : decode cX11_next 4 = .ok (.areturn, 1) := by decide +kernel
abbrev cX11_next_2 : ByteArray := prog_12_method_3_code
def yX11_next_2 : MethodName := ⟨RX11, "next", "()Ljava/lang/Integer;"⟩
def dkwX11_next_2_1 : List UInt8 := [180, 0, 19, 4, 100, 90, 181, 0, 19, 46, 184, 0, 29, 176]
abbrev dktX11_next_2_1 : List UInt8 := dkwX11_next_2_1 ++ []
def dkwX11_next_2_0 : List UInt8 := [42, 180, 0, 19, 154, 0, 11, 187, 0, 22, 89, 183, 0, 24, 191, 42, 180, 0, 1, 180, 0, 25, 42, 89]
abbrev dktX11_next_2_0 : List UInt8 := dkwX11_next_2_0 ++ dktX11_next_2_1
theorem dksX11_next_2_0 : cX11_next_2.data.toList.drop 0 = dktX11_next_2_0 := by decide +kernel
theorem dksX11_next_2_1 : cX11_next_2.data.toList.drop 24 = dktX11_next_2_1 := dk_seg dksX11_next_2_0 24 rfl rfl
theorem dX11_next_2_0 : decode cX11_next_2 0 = .ok (.aload_n 0, 1) := dk_42 (dk_at dksX11_next_2_0 0 rfl rfl)
theorem dX11_next_2_1 : decode cX11_next_2 1 = .ok (.getfield 19, 3) := dk_180 0 19 (dk_at dksX11_next_2_0 1 rfl rfl)
theorem dX11_next_2_4 : decode cX11_next_2 4 = .ok (.ifCond .ne 11, 3) := dk_154 0 11 (dk_at dksX11_next_2_0 4 rfl rfl)
theorem dX11_next_2_7 : decode cX11_next_2 7 = .ok (.new 22, 3) := dk_187 0 22 (dk_at dksX11_next_2_0 7 rfl rfl)
theorem dX11_next_2_10 : decode cX11_next_2 10 = .ok (.dup, 1) := dk_89 (dk_at dksX11_next_2_0 10 rfl rfl)
theorem dX11_next_2_11 : decode cX11_next_2 11 = .ok (.invokespecial 24, 3) := dk_183 0 24 (dk_at dksX11_next_2_0 11 rfl rfl)
theorem dX11_next_2_14 : decode cX11_next_2 14 = .ok (.athrow, 1) := dk_191 (dk_at dksX11_next_2_0 14 rfl rfl)
theorem dX11_next_2_15 : decode cX11_next_2 15 = .ok (.aload_n 0, 1) := dk_42 (dk_at dksX11_next_2_0 15 rfl rfl)
theorem dX11_next_2_16 : decode cX11_next_2 16 = .ok (.getfield 1, 3) := dk_180 0 1 (dk_at dksX11_next_2_0 16 rfl rfl)
theorem dX11_next_2_19 : decode cX11_next_2 19 = .ok (.getfield 25, 3) := dk_180 0 25 (dk_at dksX11_next_2_0 19 rfl rfl)
theorem dX11_next_2_22 : decode cX11_next_2 22 = .ok (.aload_n 0, 1) := dk_42 (dk_at dksX11_next_2_0 22 rfl rfl)
theorem dX11_next_2_23 : decode cX11_next_2 23 = .ok (.dup, 1) := dk_89 (dk_at dksX11_next_2_0 23 rfl rfl)
theorem dX11_next_2_24 : decode cX11_next_2 24 = .ok (.getfield 19, 3) := dk_180 0 19 (dk_at dksX11_next_2_1 0 rfl rfl)
theorem dX11_next_2_27 : decode cX11_next_2 27 = .ok (.iconst 1, 1) := dk_4 (dk_at dksX11_next_2_1 3 rfl rfl)
theorem dX11_next_2_28 : decode cX11_next_2 28 = .ok (.isub, 1) := dk_100 (dk_at dksX11_next_2_1 4 rfl rfl)
theorem dX11_next_2_29 : decode cX11_next_2 29 = .ok (.dup_x1, 1) := dk_90 (dk_at dksX11_next_2_1 5 rfl rfl)
theorem dX11_next_2_30 : decode cX11_next_2 30 = .ok (.putfield 19, 3) := dk_181 0 19 (dk_at dksX11_next_2_1 6 rfl rfl)
theorem dX11_next_2_33 : decode cX11_next_2 33 = .ok (.iaload, 1) := dk_46 (dk_at dksX11_next_2_1 9 rfl rfl)
theorem dX11_next_2_34 : decode cX11_next_2 34 = .ok (.invokestatic 29, 3) := dk_184 0 29 (dk_at dksX11_next_2_1 10 rfl rfl)
theorem dX11_next_2_37 : decode cX11_next_2 37 = .ok (.areturn, 1) := dk_176 (dk_at dksX11_next_2_1 13 rfl rfl)
theorem q94 : (Jvm.Cond.initialized "WeaveDraft$Spool$Unwinding") ∈ lw_all := lw_g (lw_at lw_m1 28 rfl) rfl
theorem q584 : (Jvm.Cond.selects "WeaveDraft$Spool$Unwinding" ({ cls := "java/lang/Object", name := "equals", desc := "(Ljava/lang/Object;)Z" } : Jvm.MethodName) ({ cls := "java/lang/Object", name := "equals", desc := "(Ljava/lang/Object;)Z" } : Jvm.MethodName)) ∈ lw_all := lw_g (lw_at lw_m3 38 rfl) rfl
theorem q990 : (Jvm.Cond.fieldLinkNest "WeaveDraft$Spool$Unwinding" (25 : Nat) "WeaveDraft$Spool" "lengths" "[I" "WeaveDraft") ∈ lw_tbl := lw_at lw_m4 204 rfl
theorem q992 : (Jvm.Cond.fieldLinkNest "WeaveDraft$Spool$Unwinding" (13 : Nat) "WeaveDraft$Spool" "many" "I" "WeaveDraft") ∈ lw_tbl := lw_at lw_m4 206 rfl
theorem q1018 : (Jvm.Cond.instantiable "WeaveDraft$Spool$Unwinding" (2 : Nat)) ∈ lw_all := lw_g (lw_at lw_m4 232 rfl) rfl
theorem q1020 : (Jvm.Cond.instanceMethod ({ cls := "WeaveDraft$Spool$Unwinding", name := "<init>", desc := "(LWeaveDraft$Spool;)V" } : Jvm.MethodName)) ∈ lw_all := lw_g (lw_at lw_m4 234 rfl) rfl
theorem q1021 : (Jvm.Cond.code ({ cls := "WeaveDraft$Spool$Unwinding", name := "<init>", desc := "(LWeaveDraft$Spool;)V" } : Jvm.MethodName) prog_12_method_1_code (2 : Nat) (Option.none : Option Jvm.ClassFile.FieldType)) ∈ lw_all := lw_g (lw_at lw_m4 235 rfl) rfl
theorem q1022 : (Jvm.Cond.methodLink "WeaveDraft$Spool$Unwinding" (7 : Nat) ({ cls := "java/lang/Object", name := "<init>", desc := "()V" } : Jvm.MethodName)) ∈ lw_all := lw_g (lw_at lw_m4 236 rfl) rfl
theorem q1023 : (Jvm.Cond.fieldLink "WeaveDraft$Spool$Unwinding" (19 : Nat) "WeaveDraft$Spool$Unwinding" "left" "I") ∈ lw_all := lw_g (lw_at lw_m4 237 rfl) rfl
theorem q1024 : (Jvm.Cond.fieldLink "WeaveDraft$Spool$Unwinding" (1 : Nat) "WeaveDraft$Spool$Unwinding" "this$0" "LWeaveDraft$Spool;") ∈ lw_all := lw_g (lw_at lw_m4 238 rfl) rfl
theorem q1025 : (Jvm.Cond.lays "WeaveDraft$Spool$Unwinding" "WeaveDraft$Spool$Unwinding" "left" "I") ∈ lw_all := lw_g (lw_at lw_m4 239 rfl) rfl
theorem q1026 : (Jvm.Cond.soleField "WeaveDraft$Spool$Unwinding" "left") ∈ lw_all := lw_g (lw_at lw_m5 0 rfl) rfl
theorem q1027 : (Jvm.Cond.laysFinal "WeaveDraft$Spool$Unwinding" "WeaveDraft$Spool$Unwinding" "this$0" "LWeaveDraft$Spool;") ∈ lw_all := lw_g (lw_at lw_m5 1 rfl) rfl
theorem q1028 : (Jvm.Cond.soleField "WeaveDraft$Spool$Unwinding" "this$0") ∈ lw_all := lw_g (lw_at lw_m5 2 rfl) rfl
theorem q1029 : (Jvm.Cond.superclass "WeaveDraft$Spool$Unwinding" "java/lang/Object") ∈ lw_all := lw_g (lw_at lw_m5 3 rfl) rfl
theorem q1034 : (Jvm.Cond.castable "WeaveDraft$Spool$Unwinding" "java/util/Iterator") ∈ lw_tbl := lw_at lw_m5 8 rfl
theorem q1035 : (Jvm.Cond.selects "WeaveDraft$Spool$Unwinding" ({ cls := "java/util/Iterator", name := "hasNext", desc := "()Z" } : Jvm.MethodName) ({ cls := "WeaveDraft$Spool$Unwinding", name := "hasNext", desc := "()Z" } : Jvm.MethodName)) ∈ lw_all := lw_g (lw_at lw_m5 9 rfl) rfl
theorem q1036 : (Jvm.Cond.unhidden "WeaveDraft$Spool$Unwinding" "hasNext" "()Z") ∈ lw_tbl := lw_at lw_m5 10 rfl
theorem q1037 : (Jvm.Cond.instanceMethod ({ cls := "WeaveDraft$Spool$Unwinding", name := "hasNext", desc := "()Z" } : Jvm.MethodName)) ∈ lw_all := lw_g (lw_at lw_m5 11 rfl) rfl
theorem q1038 : (Jvm.Cond.publicMethod ({ cls := "WeaveDraft$Spool$Unwinding", name := "hasNext", desc := "()Z" } : Jvm.MethodName)) ∈ lw_tbl := lw_at lw_m5 12 rfl
theorem q1039 : (Jvm.Cond.code ({ cls := "WeaveDraft$Spool$Unwinding", name := "hasNext", desc := "()Z" } : Jvm.MethodName) prog_12_method_2_code (1 : Nat) (Option.some Jvm.ClassFile.FieldType.boolean)) ∈ lw_all := lw_g (lw_at lw_m5 13 rfl) rfl
theorem q1044 : (Jvm.Cond.selects "WeaveDraft$Spool$Unwinding" ({ cls := "java/util/Iterator", name := "next", desc := "()Ljava/lang/Object;" } : Jvm.MethodName) ({ cls := "WeaveDraft$Spool$Unwinding", name := "next", desc := "()Ljava/lang/Object;" } : Jvm.MethodName)) ∈ lw_all := lw_g (lw_at lw_m5 18 rfl) rfl
theorem q1045 : (Jvm.Cond.unhidden "WeaveDraft$Spool$Unwinding" "next" "()Ljava/lang/Object;") ∈ lw_tbl := lw_at lw_m5 19 rfl
theorem q1046 : (Jvm.Cond.instanceMethod ({ cls := "WeaveDraft$Spool$Unwinding", name := "next", desc := "()Ljava/lang/Object;" } : Jvm.MethodName)) ∈ lw_all := lw_g (lw_at lw_m5 20 rfl) rfl
theorem q1047 : (Jvm.Cond.publicMethod ({ cls := "WeaveDraft$Spool$Unwinding", name := "next", desc := "()Ljava/lang/Object;" } : Jvm.MethodName)) ∈ lw_tbl := lw_at lw_m5 21 rfl
theorem q1048 : (Jvm.Cond.code ({ cls := "WeaveDraft$Spool$Unwinding", name := "next", desc := "()Ljava/lang/Object;" } : Jvm.MethodName) prog_12_method_4_code (1 : Nat) (Option.some (Jvm.ClassFile.FieldType.object "java/lang/Object"))) ∈ lw_all := lw_g (lw_at lw_m5 22 rfl) rfl
theorem q1049 : (Jvm.Cond.methodLink "WeaveDraft$Spool$Unwinding" (35 : Nat) ({ cls := "WeaveDraft$Spool$Unwinding", name := "next", desc := "()Ljava/lang/Integer;" } : Jvm.MethodName)) ∈ lw_all := lw_g (lw_at lw_m5 23 rfl) rfl
theorem q1050 : (Jvm.Cond.instanceMethod ({ cls := "WeaveDraft$Spool$Unwinding", name := "next", desc := "()Ljava/lang/Integer;" } : Jvm.MethodName)) ∈ lw_all := lw_g (lw_at lw_m5 24 rfl) rfl
theorem q1051 : (Jvm.Cond.selects "WeaveDraft$Spool$Unwinding" ({ cls := "WeaveDraft$Spool$Unwinding", name := "next", desc := "()Ljava/lang/Integer;" } : Jvm.MethodName) ({ cls := "WeaveDraft$Spool$Unwinding", name := "next", desc := "()Ljava/lang/Integer;" } : Jvm.MethodName)) ∈ lw_all := lw_g (lw_at lw_m5 25 rfl) rfl
theorem q1052 : (Jvm.Cond.code ({ cls := "WeaveDraft$Spool$Unwinding", name := "next", desc := "()Ljava/lang/Integer;" } : Jvm.MethodName) prog_12_method_3_code (1 : Nat) (Option.some (Jvm.ClassFile.FieldType.object "java/lang/Integer"))) ∈ lw_all := lw_g (lw_at lw_m5 26 rfl) rfl
theorem q1053 : (Jvm.Cond.classLink "WeaveDraft$Spool$Unwinding" (22 : Nat) "java/util/NoSuchElementException") ∈ lw_all := lw_g (lw_at lw_m5 27 rfl) rfl
theorem q1064 : (Jvm.Cond.methodLink "WeaveDraft$Spool$Unwinding" (24 : Nat) ({ cls := "java/util/NoSuchElementException", name := "<init>", desc := "()V" } : Jvm.MethodName)) ∈ lw_all := lw_g (lw_at lw_m5 38 rfl) rfl
theorem q1076 : (Jvm.Cond.methodLink "WeaveDraft$Spool$Unwinding" (29 : Nat) ({ cls := "java/lang/Integer", name := "valueOf", desc := "(I)Ljava/lang/Integer;" } : Jvm.MethodName)) ∈ lw_all := lw_g (lw_at lw_m5 50 rfl) rfl
theorem q1574 : (Jvm.Cond.castable "WeaveDraft$Spool$Unwinding" "java/lang/Object") ∈ lw_tbl := lw_at lw_m7 68 rfl
abbrev cX12_longest : ByteArray := prog_9_method_3_code
def yX12_longest : MethodName := ⟨RX12, "longest", "(Z)I"⟩
def dkwX12_longest_2 : List UInt8 := [132, 4, 1, 167, 255, 216, 28, 172]
abbrev dktX12_longest_2 : List UInt8 := dkwX12_longest_2 ++ []
def dkwX12_longest_1 : List UInt8 := [185, 0, 7, 2, 0, 27, 160, 0, 9, 29, 4, 96, 167, 0, 4, 3, 62, 28, 29, 184, 0, 11, 61]
abbrev dktX12_longest_1 : List UInt8 := dkwX12_longest_1 ++ dktX12_longest_2
def dkwX12_longest_0 : List UInt8 := [3, 61, 3, 62, 3, 54, 4, 21, 4, 42, 185, 0, 1, 1, 0, 162, 0, 35, 42, 21, 4]
abbrev dktX12_longest_0 : List UInt8 := dkwX12_longest_0 ++ dktX12_longest_1
theorem dksX12_longest_0 : cX12_longest.data.toList.drop 0 = dktX12_longest_0 := by decide +kernel
theorem dksX12_longest_1 : cX12_longest.data.toList.drop 21 = dktX12_longest_1 := dk_seg dksX12_longest_0 21 rfl rfl
theorem dksX12_longest_2 : cX12_longest.data.toList.drop 44 = dktX12_longest_2 := dk_seg dksX12_longest_1 23 rfl rfl
theorem dX12_longest_0 : decode cX12_longest 0 = .ok (.iconst 0, 1) := dk_3 (dk_at dksX12_longest_0 0 rfl rfl)
theorem dX12_longest_1 : decode cX12_longest 1 = .ok (.istore_n 2, 1) := dk_61 (dk_at dksX12_longest_0 1 rfl rfl)
theorem dX12_longest_2 : decode cX12_longest 2 = .ok (.iconst 0, 1) := dk_3 (dk_at dksX12_longest_0 2 rfl rfl)
theorem dX12_longest_3 : decode cX12_longest 3 = .ok (.istore_n 3, 1) := dk_62 (dk_at dksX12_longest_0 3 rfl rfl)
theorem dX12_longest_4 : decode cX12_longest 4 = .ok (.iconst 0, 1) := dk_3 (dk_at dksX12_longest_0 4 rfl rfl)
theorem dX12_longest_5 : decode cX12_longest 5 = .ok (.istore 4, 2) := dk_54 4 (dk_at dksX12_longest_0 5 rfl rfl)
theorem dX12_longest_7 : decode cX12_longest 7 = .ok (.iload 4, 2) := dk_21 4 (dk_at dksX12_longest_0 7 rfl rfl)
theorem dX12_longest_9 : decode cX12_longest 9 = .ok (.aload_n 0, 1) := dk_42 (dk_at dksX12_longest_0 9 rfl rfl)
theorem dX12_longest_10 : decode cX12_longest 10 = .ok (.invokeinterface 1 1, 5) := by decide +kernel
theorem dX12_longest_15 : decode cX12_longest 15 = .ok (.if_icmp .ge 35, 3) := dk_162 0 35 (dk_at dksX12_longest_0 15 rfl rfl)
theorem dX12_longest_18 : decode cX12_longest 18 = .ok (.aload_n 0, 1) := dk_42 (dk_at dksX12_longest_0 18 rfl rfl)
theorem dX12_longest_19 : decode cX12_longest 19 = .ok (.iload 4, 2) := dk_21 4 (dk_at dksX12_longest_0 19 rfl rfl)
theorem dX12_longest_21 : decode cX12_longest 21 = .ok (.invokeinterface 7 2, 5) := by decide +kernel
theorem dX12_longest_26 : decode cX12_longest 26 = .ok (.iload_n 1, 1) := dk_27 (dk_at dksX12_longest_1 5 rfl rfl)
theorem dX12_longest_27 : decode cX12_longest 27 = .ok (.if_icmp .ne 9, 3) := dk_160 0 9 (dk_at dksX12_longest_1 6 rfl rfl)
theorem dX12_longest_30 : decode cX12_longest 30 = .ok (.iload_n 3, 1) := dk_29 (dk_at dksX12_longest_1 9 rfl rfl)
theorem dX12_longest_31 : decode cX12_longest 31 = .ok (.iconst 1, 1) := dk_4 (dk_at dksX12_longest_1 10 rfl rfl)
theorem dX12_longest_32 : decode cX12_longest 32 = .ok (.iadd, 1) := dk_96 (dk_at dksX12_longest_1 11 rfl rfl)
theorem dX12_longest_33 : decode cX12_longest 33 = .ok (.goto 4, 3) := dk_167 0 4 (dk_at dksX12_longest_1 12 rfl rfl)
theorem dX12_longest_36 : decode cX12_longest 36 = .ok (.iconst 0, 1) := dk_3 (dk_at dksX12_longest_1 15 rfl rfl)
theorem dX12_longest_37 : decode cX12_longest 37 = .ok (.istore_n 3, 1) := dk_62 (dk_at dksX12_longest_1 16 rfl rfl)
theorem dX12_longest_38 : decode cX12_longest 38 = .ok (.iload_n 2, 1) := dk_28 (dk_at dksX12_longest_1 17 rfl rfl)
theorem dX12_longest_39 : decode cX12_longest 39 = .ok (.iload_n 3, 1) := dk_29 (dk_at dksX12_longest_1 18 rfl rfl)
theorem dX12_longest_40 : decode cX12_longest 40 = .ok (.invokestatic 11, 3) := dk_184 0 11 (dk_at dksX12_longest_1 19 rfl rfl)
theorem dX12_longest_43 : decode cX12_longest 43 = .ok (.istore_n 2, 1) := dk_61 (dk_at dksX12_longest_1 22 rfl rfl)
theorem dX12_longest_44 : decode cX12_longest 44 = .ok (.iinc 4 1, 3) := dk_132 4 1 (dk_at dksX12_longest_2 0 rfl rfl)
theorem dX12_longest_47 : decode cX12_longest 47 = .ok (.goto (-40), 3) := dk_167 255 216 (dk_at dksX12_longest_2 3 rfl rfl)
theorem dX12_longest_50 : decode cX12_longest 50 = .ok (.iload_n 2, 1) := dk_28 (dk_at dksX12_longest_2 6 rfl rfl)
theorem dX12_longest_51 : decode cX12_longest 51 = .ok (.ireturn, 1) := dk_172 (dk_at dksX12_longest_2 7 rfl rfl)
abbrev cX12_bits : ByteArray := prog_9_method_4_code
def yX12_bits : MethodName := ⟨RX12, "bits", "()I"⟩
def dkwX12_bits_1 : List UInt8 := [153, 0, 9, 4, 28, 120, 167, 0, 4, 3, 128, 60, 132, 2, 1, 167, 255, 223, 27, 172]
abbrev dktX12_bits_1 : List UInt8 := dkwX12_bits_1 ++ []
def dkwX12_bits_0 : List UInt8 := [3, 60, 3, 61, 28, 42, 185, 0, 1, 1, 0, 162, 0, 29, 27, 42, 28, 185, 0, 7, 2, 0]
abbrev dktX12_bits_0 : List UInt8 := dkwX12_bits_0 ++ dktX12_bits_1
theorem dksX12_bits_0 : cX12_bits.data.toList.drop 0 = dktX12_bits_0 := by decide +kernel
theorem dksX12_bits_1 : cX12_bits.data.toList.drop 22 = dktX12_bits_1 := dk_seg dksX12_bits_0 22 rfl rfl
theorem dX12_bits_0 : decode cX12_bits 0 = .ok (.iconst 0, 1) := dk_3 (dk_at dksX12_bits_0 0 rfl rfl)
theorem dX12_bits_1 : decode cX12_bits 1 = .ok (.istore_n 1, 1) := dk_60 (dk_at dksX12_bits_0 1 rfl rfl)
theorem dX12_bits_2 : decode cX12_bits 2 = .ok (.iconst 0, 1) := dk_3 (dk_at dksX12_bits_0 2 rfl rfl)
theorem dX12_bits_3 : decode cX12_bits 3 = .ok (.istore_n 2, 1) := dk_61 (dk_at dksX12_bits_0 3 rfl rfl)
theorem dX12_bits_4 : decode cX12_bits 4 = .ok (.iload_n 2, 1) := dk_28 (dk_at dksX12_bits_0 4 rfl rfl)
theorem dX12_bits_5 : decode cX12_bits 5 = .ok (.aload_n 0, 1) := dk_42 (dk_at dksX12_bits_0 5 rfl rfl)
theorem dX12_bits_6 : decode cX12_bits 6 = .ok (.invokeinterface 1 1, 5) := by decide +kernel
theorem dX12_bits_11 : decode cX12_bits 11 = .ok (.if_icmp .ge 29, 3) := dk_162 0 29 (dk_at dksX12_bits_0 11 rfl rfl)
theorem dX12_bits_14 : decode cX12_bits 14 = .ok (.iload_n 1, 1) := dk_27 (dk_at dksX12_bits_0 14 rfl rfl)
theorem dX12_bits_15 : decode cX12_bits 15 = .ok (.aload_n 0, 1) := dk_42 (dk_at dksX12_bits_0 15 rfl rfl)
theorem dX12_bits_16 : decode cX12_bits 16 = .ok (.iload_n 2, 1) := dk_28 (dk_at dksX12_bits_0 16 rfl rfl)
theorem dX12_bits_17 : decode cX12_bits 17 = .ok (.invokeinterface 7 2, 5) := by decide +kernel
theorem dX12_bits_22 : decode cX12_bits 22 = .ok (.ifCond .eq 9, 3) := dk_153 0 9 (dk_at dksX12_bits_1 0 rfl rfl)
theorem dX12_bits_25 : decode cX12_bits 25 = .ok (.iconst 1, 1) := dk_4 (dk_at dksX12_bits_1 3 rfl rfl)
theorem dX12_bits_26 : decode cX12_bits 26 = .ok (.iload_n 2, 1) := dk_28 (dk_at dksX12_bits_1 4 rfl rfl)
theorem dX12_bits_27 : decode cX12_bits 27 = .ok (.ishl, 1) := dk_120 (dk_at dksX12_bits_1 5 rfl rfl)
theorem dX12_bits_28 : decode cX12_bits 28 = .ok (.goto 4, 3) := dk_167 0 4 (dk_at dksX12_bits_1 6 rfl rfl)
theorem dX12_bits_31 : decode cX12_bits 31 = .ok (.iconst 0, 1) := dk_3 (dk_at dksX12_bits_1 9 rfl rfl)
theorem dX12_bits_32 : decode cX12_bits 32 = .ok (.ior, 1) := dk_128 (dk_at dksX12_bits_1 10 rfl rfl)
theorem dX12_bits_33 : decode cX12_bits 33 = .ok (.istore_n 1, 1) := dk_60 (dk_at dksX12_bits_1 11 rfl rfl)
theorem dX12_bits_34 : decode cX12_bits 34 = .ok (.iinc 2 1, 3) := dk_132 2 1 (dk_at dksX12_bits_1 12 rfl rfl)
theorem dX12_bits_37 : decode cX12_bits 37 = .ok (.goto (-33), 3) := dk_167 255 223 (dk_at dksX12_bits_1 15 rfl rfl)
theorem dX12_bits_40 : decode cX12_bits 40 = .ok (.iload_n 1, 1) := dk_27 (dk_at dksX12_bits_1 18 rfl rfl)
theorem dX12_bits_41 : decode cX12_bits 41 = .ok (.ireturn, 1) := dk_172 (dk_at dksX12_bits_1 19 rfl rfl)
theorem q736 : (Jvm.Cond.declares ({ cls := "WeaveDraft$Look", name := "longest", desc := "(Z)I" } : Jvm.MethodName)) ∈ lw_tbl := lw_at lw_m3 190 rfl
theorem q741 : (Jvm.Cond.instanceMethod ({ cls := "WeaveDraft$Look", name := "longest", desc := "(Z)I" } : Jvm.MethodName)) ∈ lw_all := lw_g (lw_at lw_m3 195 rfl) rfl
theorem q742 : (Jvm.Cond.code ({ cls := "WeaveDraft$Look", name := "longest", desc := "(Z)I" } : Jvm.MethodName) prog_9_method_3_code (5 : Nat) (Option.some Jvm.ClassFile.FieldType.int)) ∈ lw_all := lw_g (lw_at lw_m3 196 rfl) rfl
theorem q743 : (Jvm.Cond.interfaceEntry "WeaveDraft$Look" (1 : Nat)) ∈ lw_tbl := lw_at lw_m3 197 rfl
theorem q744 : (Jvm.Cond.methodLink "WeaveDraft$Look" (1 : Nat) ({ cls := "WeaveDraft$Look", name := "many", desc := "()I" } : Jvm.MethodName)) ∈ lw_all := lw_g (lw_at lw_m3 198 rfl) rfl
theorem q745 : (Jvm.Cond.interfaceMethod "WeaveDraft$Look" "WeaveDraft$Look" "many" "()I") ∈ lw_tbl := lw_at lw_m3 199 rfl
theorem q746 : (Jvm.Cond.declares ({ cls := "WeaveDraft$Look", name := "many", desc := "()I" } : Jvm.MethodName)) ∈ lw_tbl := lw_at lw_m3 200 rfl
theorem q759 : (Jvm.Cond.interfaceEntry "WeaveDraft$Look" (7 : Nat)) ∈ lw_tbl := lw_at lw_m3 213 rfl
theorem q760 : (Jvm.Cond.methodLink "WeaveDraft$Look" (7 : Nat) ({ cls := "WeaveDraft$Look", name := "is", desc := "(I)Z" } : Jvm.MethodName)) ∈ lw_all := lw_g (lw_at lw_m3 214 rfl) rfl
theorem q761 : (Jvm.Cond.interfaceMethod "WeaveDraft$Look" "WeaveDraft$Look" "is" "(I)Z") ∈ lw_tbl := lw_at lw_m3 215 rfl
theorem q762 : (Jvm.Cond.declares ({ cls := "WeaveDraft$Look", name := "is", desc := "(I)Z" } : Jvm.MethodName)) ∈ lw_tbl := lw_at lw_m3 216 rfl
theorem q781 : (Jvm.Cond.methodLink "WeaveDraft$Look" (11 : Nat) ({ cls := "java/lang/Math", name := "max", desc := "(II)I" } : Jvm.MethodName)) ∈ lw_all := lw_g (lw_at lw_m3 235 rfl) rfl
theorem q782 : (Jvm.Cond.publicMethod ({ cls := "WeaveDraft$Look", name := "longest", desc := "(Z)I" } : Jvm.MethodName)) ∈ lw_tbl := lw_at lw_m3 236 rfl
theorem q783 : (Jvm.Cond.declares ({ cls := "WeaveDraft$Look", name := "bits", desc := "()I" } : Jvm.MethodName)) ∈ lw_tbl := lw_at lw_m3 237 rfl
theorem q786 : (Jvm.Cond.instanceMethod ({ cls := "WeaveDraft$Look", name := "bits", desc := "()I" } : Jvm.MethodName)) ∈ lw_all := lw_g (lw_at lw_m4 0 rfl) rfl
theorem q787 : (Jvm.Cond.publicMethod ({ cls := "WeaveDraft$Look", name := "bits", desc := "()I" } : Jvm.MethodName)) ∈ lw_tbl := lw_at lw_m4 1 rfl
theorem q788 : (Jvm.Cond.code ({ cls := "WeaveDraft$Look", name := "bits", desc := "()I" } : Jvm.MethodName) prog_9_method_4_code (3 : Nat) (Option.some Jvm.ClassFile.FieldType.int)) ∈ lw_all := lw_g (lw_at lw_m4 2 rfl) rfl
theorem q1151 : (Jvm.Cond.interfaceMethod "WeaveDraft$Look" "WeaveDraft$Look" "bits" "()I") ∈ lw_tbl := lw_at lw_m5 125 rfl
theorem q1560 : (Jvm.Cond.initialized "WeaveDraft$Look") ∈ lw_all := lw_g (lw_at lw_m7 54 rfl) rfl
abbrev cX2_init : ByteArray := prog_13_method_1_code
def yX2_init : MethodName := ⟨RX2, "<init>", "(II)V"⟩
def dkwX2_init_0 : List UInt8 := [42, 183, 0, 1, 42, 27, 181, 0, 7, 42, 28, 181, 0, 13, 177]
abbrev dktX2_init_0 : List UInt8 := dkwX2_init_0 ++ []
theorem dksX2_init_0 : cX2_init.data.toList.drop 0 = dktX2_init_0 := by decide +kernel
theorem dX2_init_0 : decode cX2_init 0 = .ok (.aload_n 0, 1) := dk_42 (dk_at dksX2_init_0 0 rfl rfl)
theorem dX2_init_1 : decode cX2_init 1 = .ok (.invokespecial 1, 3) := dk_183 0 1 (dk_at dksX2_init_0 1 rfl rfl)
theorem dX2_init_4 : decode cX2_init 4 = .ok (.aload_n 0, 1) := dk_42 (dk_at dksX2_init_0 4 rfl rfl)
theorem dX2_init_5 : decode cX2_init 5 = .ok (.iload_n 1, 1) := dk_27 (dk_at dksX2_init_0 5 rfl rfl)
theorem dX2_init_6 : decode cX2_init 6 = .ok (.putfield 7, 3) := dk_181 0 7 (dk_at dksX2_init_0 6 rfl rfl)
theorem dX2_init_9 : decode cX2_init 9 = .ok (.aload_n 0, 1) := dk_42 (dk_at dksX2_init_0 9 rfl rfl)
theorem dX2_init_10 : decode cX2_init 10 = .ok (.iload_n 2, 1) := dk_28 (dk_at dksX2_init_0 10 rfl rfl)
theorem dX2_init_11 : decode cX2_init 11 = .ok (.putfield 13, 3) := dk_181 0 13 (dk_at dksX2_init_0 11 rfl rfl)
theorem dX2_init_14 : decode cX2_init 14 = .ok (.return_, 1) := dk_177 (dk_at dksX2_init_0 14 rfl rfl)
theorem q69 : (Jvm.Cond.initialized "WeaveDraft$Strand") ∈ lw_all := lw_g (lw_at lw_m1 3 rfl) rfl
theorem q123 : (Jvm.Cond.instanceMethod ({ cls := "WeaveDraft$Strand", name := "<init>", desc := "(II)V" } : Jvm.MethodName)) ∈ lw_all := lw_g (lw_at lw_m1 57 rfl) rfl
theorem q124 : (Jvm.Cond.code ({ cls := "WeaveDraft$Strand", name := "<init>", desc := "(II)V" } : Jvm.MethodName) prog_13_method_1_code (3 : Nat) (Option.none : Option Jvm.ClassFile.FieldType)) ∈ lw_all := lw_g (lw_at lw_m1 58 rfl) rfl
theorem q125 : (Jvm.Cond.methodLink "WeaveDraft$Strand" (1 : Nat) ({ cls := "java/lang/Object", name := "<init>", desc := "()V" } : Jvm.MethodName)) ∈ lw_all := lw_g (lw_at lw_m1 59 rfl) rfl
theorem q128 : (Jvm.Cond.fieldLink "WeaveDraft$Strand" (7 : Nat) "WeaveDraft$Strand" "tied" "I") ∈ lw_all := lw_g (lw_at lw_m1 62 rfl) rfl
theorem q136 : (Jvm.Cond.fieldLink "WeaveDraft$Strand" (13 : Nat) "WeaveDraft$Strand" "colour" "I") ∈ lw_all := lw_g (lw_at lw_m1 70 rfl) rfl
theorem q149 : (Jvm.Cond.soleField "WeaveDraft$Strand" "tied") ∈ lw_all := lw_g (lw_at lw_m1 83 rfl) rfl
theorem q151 : (Jvm.Cond.soleField "WeaveDraft$Strand" "colour") ∈ lw_all := lw_g (lw_at lw_m1 85 rfl) rfl
theorem q735 : (Jvm.Cond.superclass "WeaveDraft$Strand" "java/lang/Object") ∈ lw_all := lw_g (lw_at lw_m3 189 rfl) rfl
abbrev cX3_init : ByteArray := prog_5_method_1_code
def yX3_init : MethodName := ⟨RX3, "<init>", "(LWeaveDraft$Draft;I)V"⟩
def dkwX3_init_0 : List UInt8 := [42, 43, 181, 0, 1, 42, 3, 3, 183, 0, 7, 42, 28, 181, 0, 13, 177]
abbrev dktX3_init_0 : List UInt8 := dkwX3_init_0 ++ []
theorem dksX3_init_0 : cX3_init.data.toList.drop 0 = dktX3_init_0 := by decide +kernel
theorem dX3_init_0 : decode cX3_init 0 = .ok (.aload_n 0, 1) := dk_42 (dk_at dksX3_init_0 0 rfl rfl)
theorem dX3_init_1 : decode cX3_init 1 = .ok (.aload_n 1, 1) := dk_43 (dk_at dksX3_init_0 1 rfl rfl)
theorem dX3_init_2 : decode cX3_init 2 = .ok (.putfield 1, 3) := dk_181 0 1 (dk_at dksX3_init_0 2 rfl rfl)
theorem dX3_init_5 : decode cX3_init 5 = .ok (.aload_n 0, 1) := dk_42 (dk_at dksX3_init_0 5 rfl rfl)
theorem dX3_init_6 : decode cX3_init 6 = .ok (.iconst 0, 1) := dk_3 (dk_at dksX3_init_0 6 rfl rfl)
theorem dX3_init_7 : decode cX3_init 7 = .ok (.iconst 0, 1) := dk_3 (dk_at dksX3_init_0 7 rfl rfl)
theorem dX3_init_8 : decode cX3_init 8 = .ok (.invokespecial 7, 3) := dk_183 0 7 (dk_at dksX3_init_0 8 rfl rfl)
theorem dX3_init_11 : decode cX3_init 11 = .ok (.aload_n 0, 1) := dk_42 (dk_at dksX3_init_0 11 rfl rfl)
theorem dX3_init_12 : decode cX3_init 12 = .ok (.iload_n 2, 1) := dk_28 (dk_at dksX3_init_0 12 rfl rfl)
theorem dX3_init_13 : decode cX3_init 13 = .ok (.putfield 13, 3) := dk_181 0 13 (dk_at dksX3_init_0 13 rfl rfl)
theorem dX3_init_16 : decode cX3_init 16 = .ok (.return_, 1) := dk_177 (dk_at dksX3_init_0 16 rfl rfl)
abbrev cX3_many : ByteArray := prog_5_method_2_code
def yX3_many : MethodName := ⟨RX3, "many", "()I"⟩
def dkwX3_many_0 : List UInt8 := [42, 180, 0, 1, 180, 0, 17, 172]
abbrev dktX3_many_0 : List UInt8 := dkwX3_many_0 ++ []
theorem dksX3_many_0 : cX3_many.data.toList.drop 0 = dktX3_many_0 := by decide +kernel
theorem dX3_many_0 : decode cX3_many 0 = .ok (.aload_n 0, 1) := dk_42 (dk_at dksX3_many_0 0 rfl rfl)
theorem dX3_many_1 : decode cX3_many 1 = .ok (.getfield 1, 3) := dk_180 0 1 (dk_at dksX3_many_0 1 rfl rfl)
theorem dX3_many_4 : decode cX3_many 4 = .ok (.getfield 17, 3) := dk_180 0 17 (dk_at dksX3_many_0 4 rfl rfl)
theorem dX3_many_7 : decode cX3_many 7 = .ok (.ireturn, 1) := dk_172 (dk_at dksX3_many_0 7 rfl rfl)
abbrev cX3_is : ByteArray := prog_5_method_3_code
def yX3_is : MethodName := ⟨RX3, "is", "(I)Z"⟩
def dkwX3_is_0 : List UInt8 := [42, 180, 0, 1, 27, 42, 180, 0, 13, 182, 0, 22, 172]
abbrev dktX3_is_0 : List UInt8 := dkwX3_is_0 ++ []
theorem dksX3_is_0 : cX3_is.data.toList.drop 0 = dktX3_is_0 := by decide +kernel
theorem dX3_is_0 : decode cX3_is 0 = .ok (.aload_n 0, 1) := dk_42 (dk_at dksX3_is_0 0 rfl rfl)
theorem dX3_is_1 : decode cX3_is 1 = .ok (.getfield 1, 3) := dk_180 0 1 (dk_at dksX3_is_0 1 rfl rfl)
theorem dX3_is_4 : decode cX3_is 4 = .ok (.iload_n 1, 1) := dk_27 (dk_at dksX3_is_0 4 rfl rfl)
theorem dX3_is_5 : decode cX3_is 5 = .ok (.aload_n 0, 1) := dk_42 (dk_at dksX3_is_0 5 rfl rfl)
theorem dX3_is_6 : decode cX3_is 6 = .ok (.getfield 13, 3) := dk_180 0 13 (dk_at dksX3_is_0 6 rfl rfl)
theorem dX3_is_9 : decode cX3_is 9 = .ok (.invokevirtual 22, 3) := dk_182 0 22 (dk_at dksX3_is_0 9 rfl rfl)
theorem dX3_is_12 : decode cX3_is 12 = .ok (.ireturn, 1) := dk_172 (dk_at dksX3_is_0 12 rfl rfl)
abbrev cX3_longest : ByteArray := prog_5_method_4_code
def yX3_longest : MethodName := ⟨RX3, "longest", "()I"⟩
def dkwX3_longest_0 : List UInt8 := [42, 4, 182, 0, 26, 42, 3, 182, 0, 26, 184, 0, 30, 172]
abbrev dktX3_longest_0 : List UInt8 := dkwX3_longest_0 ++ []
theorem dksX3_longest_0 : cX3_longest.data.toList.drop 0 = dktX3_longest_0 := by decide +kernel
theorem dX3_longest_0 : decode cX3_longest 0 = .ok (.aload_n 0, 1) := dk_42 (dk_at dksX3_longest_0 0 rfl rfl)
theorem dX3_longest_1 : decode cX3_longest 1 = .ok (.iconst 1, 1) := dk_4 (dk_at dksX3_longest_0 1 rfl rfl)
theorem dX3_longest_2 : decode cX3_longest 2 = .ok (.invokevirtual 26, 3) := dk_182 0 26 (dk_at dksX3_longest_0 2 rfl rfl)
theorem dX3_longest_5 : decode cX3_longest 5 = .ok (.aload_n 0, 1) := dk_42 (dk_at dksX3_longest_0 5 rfl rfl)
theorem dX3_longest_6 : decode cX3_longest 6 = .ok (.iconst 0, 1) := dk_3 (dk_at dksX3_longest_0 6 rfl rfl)
theorem dX3_longest_7 : decode cX3_longest 7 = .ok (.invokevirtual 26, 3) := dk_182 0 26 (dk_at dksX3_longest_0 7 rfl rfl)
theorem dX3_longest_10 : decode cX3_longest 10 = .ok (.invokestatic 30, 3) := dk_184 0 30 (dk_at dksX3_longest_0 10 rfl rfl)
theorem dX3_longest_13 : decode cX3_longest 13 = .ok (.ireturn, 1) := dk_172 (dk_at dksX3_longest_0 13 rfl rfl)
theorem q70 : (Jvm.Cond.initialized "WeaveDraft$Draft$End") ∈ lw_all := lw_g (lw_at lw_m1 4 rfl) rfl
theorem q118 : (Jvm.Cond.instantiable "WeaveDraft$Draft$End" (4 : Nat)) ∈ lw_all := lw_g (lw_at lw_m1 52 rfl) rfl
theorem q120 : (Jvm.Cond.instanceMethod ({ cls := "WeaveDraft$Draft$End", name := "<init>", desc := "(LWeaveDraft$Draft;I)V" } : Jvm.MethodName)) ∈ lw_all := lw_g (lw_at lw_m1 54 rfl) rfl
theorem q121 : (Jvm.Cond.code ({ cls := "WeaveDraft$Draft$End", name := "<init>", desc := "(LWeaveDraft$Draft;I)V" } : Jvm.MethodName) prog_5_method_1_code (3 : Nat) (Option.none : Option Jvm.ClassFile.FieldType)) ∈ lw_all := lw_g (lw_at lw_m1 55 rfl) rfl
theorem q122 : (Jvm.Cond.methodLink "WeaveDraft$Draft$End" (7 : Nat) ({ cls := "WeaveDraft$Strand", name := "<init>", desc := "(II)V" } : Jvm.MethodName)) ∈ lw_all := lw_g (lw_at lw_m1 56 rfl) rfl
theorem q126 : (Jvm.Cond.fieldLink "WeaveDraft$Draft$End" (13 : Nat) "WeaveDraft$Draft$End" "number" "I") ∈ lw_all := lw_g (lw_at lw_m1 60 rfl) rfl
theorem q127 : (Jvm.Cond.fieldLink "WeaveDraft$Draft$End" (1 : Nat) "WeaveDraft$Draft$End" "this$1" "LWeaveDraft$Draft;") ∈ lw_all := lw_g (lw_at lw_m1 61 rfl) rfl
theorem q130 : (Jvm.Cond.sameField "WeaveDraft$Draft$End" "WeaveDraft$Strand" "tied" "I") ∈ lw_all := lw_g (lw_at lw_m1 64 rfl) rfl
theorem q138 : (Jvm.Cond.sameField "WeaveDraft$Draft$End" "WeaveDraft$Strand" "colour" "I") ∈ lw_all := lw_g (lw_at lw_m1 72 rfl) rfl
theorem q144 : (Jvm.Cond.laysFinal "WeaveDraft$Draft$End" "WeaveDraft$Draft$End" "number" "I") ∈ lw_all := lw_g (lw_at lw_m1 78 rfl) rfl
theorem q145 : (Jvm.Cond.soleField "WeaveDraft$Draft$End" "number") ∈ lw_all := lw_g (lw_at lw_m1 79 rfl) rfl
theorem q146 : (Jvm.Cond.laysFinal "WeaveDraft$Draft$End" "WeaveDraft$Draft$End" "this$1" "LWeaveDraft$Draft;") ∈ lw_all := lw_g (lw_at lw_m1 80 rfl) rfl
theorem q147 : (Jvm.Cond.soleField "WeaveDraft$Draft$End" "this$1") ∈ lw_all := lw_g (lw_at lw_m1 81 rfl) rfl
theorem q148 : (Jvm.Cond.lays "WeaveDraft$Draft$End" "WeaveDraft$Strand" "tied" "I") ∈ lw_all := lw_g (lw_at lw_m1 82 rfl) rfl
theorem q150 : (Jvm.Cond.lays "WeaveDraft$Draft$End" "WeaveDraft$Strand" "colour" "I") ∈ lw_all := lw_g (lw_at lw_m1 84 rfl) rfl
theorem q152 : (Jvm.Cond.superclass "WeaveDraft$Draft$End" "WeaveDraft$Strand") ∈ lw_all := lw_g (lw_at lw_m1 86 rfl) rfl
theorem q177 : (Jvm.Cond.fieldLink "WeaveDraft$Draft$End" (17 : Nat) "WeaveDraft$Draft" "picks" "I") ∈ lw_all := lw_g (lw_at lw_m1 111 rfl) rfl
theorem q579 : (Jvm.Cond.selects "WeaveDraft$Draft$End" ({ cls := "java/lang/Object", name := "equals", desc := "(Ljava/lang/Object;)Z" } : Jvm.MethodName) ({ cls := "java/lang/Object", name := "equals", desc := "(Ljava/lang/Object;)Z" } : Jvm.MethodName)) ∈ lw_all := lw_g (lw_at lw_m3 33 rfl) rfl
theorem q737 : (Jvm.Cond.unhidden "WeaveDraft$Draft$End" "longest" "(Z)I") ∈ lw_tbl := lw_at lw_m3 191 rfl
theorem q747 : (Jvm.Cond.castable "WeaveDraft$Draft$End" "WeaveDraft$Look") ∈ lw_tbl := lw_at lw_m3 201 rfl
theorem q748 : (Jvm.Cond.selects "WeaveDraft$Draft$End" ({ cls := "WeaveDraft$Look", name := "many", desc := "()I" } : Jvm.MethodName) ({ cls := "WeaveDraft$Draft$End", name := "many", desc := "()I" } : Jvm.MethodName)) ∈ lw_all := lw_g (lw_at lw_m3 202 rfl) rfl
theorem q749 : (Jvm.Cond.unhidden "WeaveDraft$Draft$End" "many" "()I") ∈ lw_tbl := lw_at lw_m3 203 rfl
theorem q750 : (Jvm.Cond.instanceMethod ({ cls := "WeaveDraft$Draft$End", name := "many", desc := "()I" } : Jvm.MethodName)) ∈ lw_all := lw_g (lw_at lw_m3 204 rfl) rfl
theorem q751 : (Jvm.Cond.publicMethod ({ cls := "WeaveDraft$Draft$End", name := "many", desc := "()I" } : Jvm.MethodName)) ∈ lw_tbl := lw_at lw_m3 205 rfl
theorem q752 : (Jvm.Cond.code ({ cls := "WeaveDraft$Draft$End", name := "many", desc := "()I" } : Jvm.MethodName) prog_5_method_2_code (1 : Nat) (Option.some Jvm.ClassFile.FieldType.int)) ∈ lw_all := lw_g (lw_at lw_m3 206 rfl) rfl
theorem q763 : (Jvm.Cond.selects "WeaveDraft$Draft$End" ({ cls := "WeaveDraft$Look", name := "is", desc := "(I)Z" } : Jvm.MethodName) ({ cls := "WeaveDraft$Draft$End", name := "is", desc := "(I)Z" } : Jvm.MethodName)) ∈ lw_all := lw_g (lw_at lw_m3 217 rfl) rfl
theorem q764 : (Jvm.Cond.unhidden "WeaveDraft$Draft$End" "is" "(I)Z") ∈ lw_tbl := lw_at lw_m3 218 rfl
theorem q765 : (Jvm.Cond.instanceMethod ({ cls := "WeaveDraft$Draft$End", name := "is", desc := "(I)Z" } : Jvm.MethodName)) ∈ lw_all := lw_g (lw_at lw_m3 219 rfl) rfl
theorem q766 : (Jvm.Cond.publicMethod ({ cls := "WeaveDraft$Draft$End", name := "is", desc := "(I)Z" } : Jvm.MethodName)) ∈ lw_tbl := lw_at lw_m3 220 rfl
theorem q767 : (Jvm.Cond.code ({ cls := "WeaveDraft$Draft$End", name := "is", desc := "(I)Z" } : Jvm.MethodName) prog_5_method_3_code (2 : Nat) (Option.some Jvm.ClassFile.FieldType.boolean)) ∈ lw_all := lw_g (lw_at lw_m3 221 rfl) rfl
theorem q768 : (Jvm.Cond.methodLink "WeaveDraft$Draft$End" (22 : Nat) ({ cls := "WeaveDraft$Draft", name := "isUp", desc := "(II)Z" } : Jvm.MethodName)) ∈ lw_all := lw_g (lw_at lw_m3 222 rfl) rfl
theorem q784 : (Jvm.Cond.unhidden "WeaveDraft$Draft$End" "bits" "()I") ∈ lw_tbl := lw_at lw_m3 238 rfl
theorem q1139 : (Jvm.Cond.instanceMethod ({ cls := "WeaveDraft$Draft$End", name := "longest", desc := "()I" } : Jvm.MethodName)) ∈ lw_all := lw_g (lw_at lw_m5 113 rfl) rfl
theorem q1140 : (Jvm.Cond.selects "WeaveDraft$Draft$End" ({ cls := "WeaveDraft$Draft$End", name := "longest", desc := "()I" } : Jvm.MethodName) ({ cls := "WeaveDraft$Draft$End", name := "longest", desc := "()I" } : Jvm.MethodName)) ∈ lw_all := lw_g (lw_at lw_m5 114 rfl) rfl
theorem q1141 : (Jvm.Cond.code ({ cls := "WeaveDraft$Draft$End", name := "longest", desc := "()I" } : Jvm.MethodName) prog_5_method_4_code (1 : Nat) (Option.some Jvm.ClassFile.FieldType.int)) ∈ lw_all := lw_g (lw_at lw_m5 115 rfl) rfl
theorem q1142 : (Jvm.Cond.methodLink "WeaveDraft$Draft$End" (30 : Nat) ({ cls := "java/lang/Math", name := "max", desc := "(II)I" } : Jvm.MethodName)) ∈ lw_all := lw_g (lw_at lw_m5 116 rfl) rfl
theorem q1561 : (Jvm.Cond.castable "WeaveDraft$Draft$End" "java/lang/Object") ∈ lw_tbl := lw_at lw_m7 55 rfl
abbrev cX4_init : ByteArray := prog_6_method_1_code
def yX4_init : MethodName := ⟨RX4, "<init>", "(LWeaveDraft$Draft;I)V"⟩
def dkwX4_init_0 : List UInt8 := [42, 43, 181, 0, 1, 42, 3, 4, 183, 0, 7, 42, 28, 181, 0, 13, 177]
abbrev dktX4_init_0 : List UInt8 := dkwX4_init_0 ++ []
theorem dksX4_init_0 : cX4_init.data.toList.drop 0 = dktX4_init_0 := by decide +kernel
theorem dX4_init_0 : decode cX4_init 0 = .ok (.aload_n 0, 1) := dk_42 (dk_at dksX4_init_0 0 rfl rfl)
theorem dX4_init_1 : decode cX4_init 1 = .ok (.aload_n 1, 1) := dk_43 (dk_at dksX4_init_0 1 rfl rfl)
theorem dX4_init_2 : decode cX4_init 2 = .ok (.putfield 1, 3) := dk_181 0 1 (dk_at dksX4_init_0 2 rfl rfl)
theorem dX4_init_5 : decode cX4_init 5 = .ok (.aload_n 0, 1) := dk_42 (dk_at dksX4_init_0 5 rfl rfl)
theorem dX4_init_6 : decode cX4_init 6 = .ok (.iconst 0, 1) := dk_3 (dk_at dksX4_init_0 6 rfl rfl)
theorem dX4_init_7 : decode cX4_init 7 = .ok (.iconst 1, 1) := dk_4 (dk_at dksX4_init_0 7 rfl rfl)
theorem dX4_init_8 : decode cX4_init 8 = .ok (.invokespecial 7, 3) := dk_183 0 7 (dk_at dksX4_init_0 8 rfl rfl)
theorem dX4_init_11 : decode cX4_init 11 = .ok (.aload_n 0, 1) := dk_42 (dk_at dksX4_init_0 11 rfl rfl)
theorem dX4_init_12 : decode cX4_init 12 = .ok (.iload_n 2, 1) := dk_28 (dk_at dksX4_init_0 12 rfl rfl)
theorem dX4_init_13 : decode cX4_init 13 = .ok (.putfield 13, 3) := dk_181 0 13 (dk_at dksX4_init_0 13 rfl rfl)
theorem dX4_init_16 : decode cX4_init 16 = .ok (.return_, 1) := dk_177 (dk_at dksX4_init_0 16 rfl rfl)
abbrev cX4_longest : ByteArray := prog_6_method_4_code
def yX4_longest : MethodName := ⟨RX4, "longest", "(Z)I"⟩
def dkwX4_longest_0 : List UInt8 := [42, 27, 154, 0, 7, 4, 167, 0, 4, 3, 183, 0, 26, 172]
abbrev dktX4_longest_0 : List UInt8 := dkwX4_longest_0 ++ []
theorem dksX4_longest_0 : cX4_longest.data.toList.drop 0 = dktX4_longest_0 := by decide +kernel
theorem dX4_longest_0 : decode cX4_longest 0 = .ok (.aload_n 0, 1) := dk_42 (dk_at dksX4_longest_0 0 rfl rfl)
theorem dX4_longest_1 : decode cX4_longest 1 = .ok (.iload_n 1, 1) := dk_27 (dk_at dksX4_longest_0 1 rfl rfl)
theorem dX4_longest_2 : decode cX4_longest 2 = .ok (.ifCond .ne 7, 3) := dk_154 0 7 (dk_at dksX4_longest_0 2 rfl rfl)
theorem dX4_longest_5 : decode cX4_longest 5 = .ok (.iconst 1, 1) := dk_4 (dk_at dksX4_longest_0 5 rfl rfl)
theorem dX4_longest_6 : decode cX4_longest 6 = .ok (.goto 4, 3) := dk_167 0 4 (dk_at dksX4_longest_0 6 rfl rfl)
theorem dX4_longest_9 : decode cX4_longest 9 = .ok (.iconst 0, 1) := dk_3 (dk_at dksX4_longest_0 9 rfl rfl)
theorem dX4_longest_10 : decode cX4_longest 10 = .ok (.invokespecial 26, 3) := dk_183 0 26 (dk_at dksX4_longest_0 10 rfl rfl)
theorem dX4_longest_13 : decode cX4_longest 13 = .ok (.ireturn, 1) := dk_172 (dk_at dksX4_longest_0 13 rfl rfl)
abbrev cX4_many : ByteArray := prog_6_method_2_code
def yX4_many : MethodName := ⟨RX4, "many", "()I"⟩
def dkwX4_many_0 : List UInt8 := [42, 180, 0, 1, 180, 0, 17, 172]
abbrev dktX4_many_0 : List UInt8 := dkwX4_many_0 ++ []
theorem dksX4_many_0 : cX4_many.data.toList.drop 0 = dktX4_many_0 := by decide +kernel
theorem dX4_many_0 : decode cX4_many 0 = .ok (.aload_n 0, 1) := dk_42 (dk_at dksX4_many_0 0 rfl rfl)
theorem dX4_many_1 : decode cX4_many 1 = .ok (.getfield 1, 3) := dk_180 0 1 (dk_at dksX4_many_0 1 rfl rfl)
theorem dX4_many_4 : decode cX4_many 4 = .ok (.getfield 17, 3) := dk_180 0 17 (dk_at dksX4_many_0 4 rfl rfl)
theorem dX4_many_7 : decode cX4_many 7 = .ok (.ireturn, 1) := dk_172 (dk_at dksX4_many_0 7 rfl rfl)
abbrev cX4_is : ByteArray := prog_6_method_3_code
def yX4_is : MethodName := ⟨RX4, "is", "(I)Z"⟩
def dkwX4_is_0 : List UInt8 := [42, 180, 0, 1, 42, 180, 0, 13, 27, 182, 0, 22, 172]
abbrev dktX4_is_0 : List UInt8 := dkwX4_is_0 ++ []
theorem dksX4_is_0 : cX4_is.data.toList.drop 0 = dktX4_is_0 := by decide +kernel
theorem dX4_is_0 : decode cX4_is 0 = .ok (.aload_n 0, 1) := dk_42 (dk_at dksX4_is_0 0 rfl rfl)
theorem dX4_is_1 : decode cX4_is 1 = .ok (.getfield 1, 3) := dk_180 0 1 (dk_at dksX4_is_0 1 rfl rfl)
theorem dX4_is_4 : decode cX4_is 4 = .ok (.aload_n 0, 1) := dk_42 (dk_at dksX4_is_0 4 rfl rfl)
theorem dX4_is_5 : decode cX4_is 5 = .ok (.getfield 13, 3) := dk_180 0 13 (dk_at dksX4_is_0 5 rfl rfl)
theorem dX4_is_8 : decode cX4_is 8 = .ok (.iload_n 1, 1) := dk_27 (dk_at dksX4_is_0 8 rfl rfl)
theorem dX4_is_9 : decode cX4_is 9 = .ok (.invokevirtual 22, 3) := dk_182 0 22 (dk_at dksX4_is_0 9 rfl rfl)
theorem dX4_is_12 : decode cX4_is 12 = .ok (.ireturn, 1) := dk_172 (dk_at dksX4_is_0 12 rfl rfl)
abbrev cX4_stitches : ByteArray := prog_6_method_5_code
def yX4_stitches : MethodName := ⟨RX4, "stitches", "()I"⟩
def dkwX4_stitches_2 : List UInt8 := [160, 0, 7, 4, 167, 0, 4, 3, 96, 60, 132, 3, 2, 167, 255, 225, 27, 172]
abbrev dktX4_stitches_2 : List UInt8 := dkwX4_stitches_2 ++ []
def dkwX4_stitches_1 : List UInt8 := [167, 0, 4, 3, 62, 29, 42, 180, 0, 1, 180, 0, 17, 162, 0, 26, 27, 42, 29, 182, 0, 30, 28]
abbrev dktX4_stitches_1 : List UInt8 := dkwX4_stitches_1 ++ dktX4_stitches_2
def dkwX4_stitches_0 : List UInt8 := [3, 60, 42, 180, 0, 13, 5, 112, 154, 0, 7, 4, 167, 0, 4, 3, 61, 28, 153, 0, 7, 4]
abbrev dktX4_stitches_0 : List UInt8 := dkwX4_stitches_0 ++ dktX4_stitches_1
theorem dksX4_stitches_0 : cX4_stitches.data.toList.drop 0 = dktX4_stitches_0 := by decide +kernel
theorem dksX4_stitches_1 : cX4_stitches.data.toList.drop 22 = dktX4_stitches_1 := dk_seg dksX4_stitches_0 22 rfl rfl
theorem dksX4_stitches_2 : cX4_stitches.data.toList.drop 45 = dktX4_stitches_2 := dk_seg dksX4_stitches_1 23 rfl rfl
theorem dX4_stitches_0 : decode cX4_stitches 0 = .ok (.iconst 0, 1) := dk_3 (dk_at dksX4_stitches_0 0 rfl rfl)
theorem dX4_stitches_1 : decode cX4_stitches 1 = .ok (.istore_n 1, 1) := dk_60 (dk_at dksX4_stitches_0 1 rfl rfl)
theorem dX4_stitches_2 : decode cX4_stitches 2 = .ok (.aload_n 0, 1) := dk_42 (dk_at dksX4_stitches_0 2 rfl rfl)
theorem dX4_stitches_3 : decode cX4_stitches 3 = .ok (.getfield 13, 3) := dk_180 0 13 (dk_at dksX4_stitches_0 3 rfl rfl)
theorem dX4_stitches_6 : decode cX4_stitches 6 = .ok (.iconst 2, 1) := dk_5 (dk_at dksX4_stitches_0 6 rfl rfl)
theorem dX4_stitches_7 : decode cX4_stitches 7 = .ok (.irem, 1) := dk_112 (dk_at dksX4_stitches_0 7 rfl rfl)
theorem dX4_stitches_8 : decode cX4_stitches 8 = .ok (.ifCond .ne 7, 3) := dk_154 0 7 (dk_at dksX4_stitches_0 8 rfl rfl)
theorem dX4_stitches_11 : decode cX4_stitches 11 = .ok (.iconst 1, 1) := dk_4 (dk_at dksX4_stitches_0 11 rfl rfl)
theorem dX4_stitches_12 : decode cX4_stitches 12 = .ok (.goto 4, 3) := dk_167 0 4 (dk_at dksX4_stitches_0 12 rfl rfl)
theorem dX4_stitches_15 : decode cX4_stitches 15 = .ok (.iconst 0, 1) := dk_3 (dk_at dksX4_stitches_0 15 rfl rfl)
theorem dX4_stitches_16 : decode cX4_stitches 16 = .ok (.istore_n 2, 1) := dk_61 (dk_at dksX4_stitches_0 16 rfl rfl)
theorem dX4_stitches_17 : decode cX4_stitches 17 = .ok (.iload_n 2, 1) := dk_28 (dk_at dksX4_stitches_0 17 rfl rfl)
theorem dX4_stitches_18 : decode cX4_stitches 18 = .ok (.ifCond .eq 7, 3) := dk_153 0 7 (dk_at dksX4_stitches_0 18 rfl rfl)
theorem dX4_stitches_21 : decode cX4_stitches 21 = .ok (.iconst 1, 1) := dk_4 (dk_at dksX4_stitches_0 21 rfl rfl)
theorem dX4_stitches_22 : decode cX4_stitches 22 = .ok (.goto 4, 3) := dk_167 0 4 (dk_at dksX4_stitches_1 0 rfl rfl)
theorem dX4_stitches_25 : decode cX4_stitches 25 = .ok (.iconst 0, 1) := dk_3 (dk_at dksX4_stitches_1 3 rfl rfl)
theorem dX4_stitches_26 : decode cX4_stitches 26 = .ok (.istore_n 3, 1) := dk_62 (dk_at dksX4_stitches_1 4 rfl rfl)
theorem dX4_stitches_27 : decode cX4_stitches 27 = .ok (.iload_n 3, 1) := dk_29 (dk_at dksX4_stitches_1 5 rfl rfl)
theorem dX4_stitches_28 : decode cX4_stitches 28 = .ok (.aload_n 0, 1) := dk_42 (dk_at dksX4_stitches_1 6 rfl rfl)
theorem dX4_stitches_29 : decode cX4_stitches 29 = .ok (.getfield 1, 3) := dk_180 0 1 (dk_at dksX4_stitches_1 7 rfl rfl)
theorem dX4_stitches_32 : decode cX4_stitches 32 = .ok (.getfield 17, 3) := dk_180 0 17 (dk_at dksX4_stitches_1 10 rfl rfl)
theorem dX4_stitches_35 : decode cX4_stitches 35 = .ok (.if_icmp .ge 26, 3) := dk_162 0 26 (dk_at dksX4_stitches_1 13 rfl rfl)
theorem dX4_stitches_38 : decode cX4_stitches 38 = .ok (.iload_n 1, 1) := dk_27 (dk_at dksX4_stitches_1 16 rfl rfl)
theorem dX4_stitches_39 : decode cX4_stitches 39 = .ok (.aload_n 0, 1) := dk_42 (dk_at dksX4_stitches_1 17 rfl rfl)
theorem dX4_stitches_40 : decode cX4_stitches 40 = .ok (.iload_n 3, 1) := dk_29 (dk_at dksX4_stitches_1 18 rfl rfl)
theorem dX4_stitches_41 : decode cX4_stitches 41 = .ok (.invokevirtual 30, 3) := dk_182 0 30 (dk_at dksX4_stitches_1 19 rfl rfl)
theorem dX4_stitches_44 : decode cX4_stitches 44 = .ok (.iload_n 2, 1) := dk_28 (dk_at dksX4_stitches_1 22 rfl rfl)
theorem dX4_stitches_45 : decode cX4_stitches 45 = .ok (.if_icmp .ne 7, 3) := dk_160 0 7 (dk_at dksX4_stitches_2 0 rfl rfl)
theorem dX4_stitches_48 : decode cX4_stitches 48 = .ok (.iconst 1, 1) := dk_4 (dk_at dksX4_stitches_2 3 rfl rfl)
theorem dX4_stitches_49 : decode cX4_stitches 49 = .ok (.goto 4, 3) := dk_167 0 4 (dk_at dksX4_stitches_2 4 rfl rfl)
theorem dX4_stitches_52 : decode cX4_stitches 52 = .ok (.iconst 0, 1) := dk_3 (dk_at dksX4_stitches_2 7 rfl rfl)
theorem dX4_stitches_53 : decode cX4_stitches 53 = .ok (.iadd, 1) := dk_96 (dk_at dksX4_stitches_2 8 rfl rfl)
theorem dX4_stitches_54 : decode cX4_stitches 54 = .ok (.istore_n 1, 1) := dk_60 (dk_at dksX4_stitches_2 9 rfl rfl)
theorem dX4_stitches_55 : decode cX4_stitches 55 = .ok (.iinc 3 2, 3) := dk_132 3 2 (dk_at dksX4_stitches_2 10 rfl rfl)
theorem dX4_stitches_58 : decode cX4_stitches 58 = .ok (.goto (-31), 3) := dk_167 255 225 (dk_at dksX4_stitches_2 13 rfl rfl)
theorem dX4_stitches_61 : decode cX4_stitches 61 = .ok (.iload_n 1, 1) := dk_27 (dk_at dksX4_stitches_2 16 rfl rfl)
theorem dX4_stitches_62 : decode cX4_stitches 62 = .ok (.ireturn, 1) := dk_172 (dk_at dksX4_stitches_2 17 rfl rfl)
theorem q71 : (Jvm.Cond.initialized "WeaveDraft$Draft$Pick") ∈ lw_all := lw_g (lw_at lw_m1 5 rfl) rfl
theorem q132 : (Jvm.Cond.sameField "WeaveDraft$Draft$Pick" "WeaveDraft$Strand" "tied" "I") ∈ lw_all := lw_g (lw_at lw_m1 66 rfl) rfl
theorem q140 : (Jvm.Cond.sameField "WeaveDraft$Draft$Pick" "WeaveDraft$Strand" "colour" "I") ∈ lw_all := lw_g (lw_at lw_m1 74 rfl) rfl
theorem q154 : (Jvm.Cond.instantiable "WeaveDraft$Draft$Pick" (4 : Nat)) ∈ lw_all := lw_g (lw_at lw_m1 88 rfl) rfl
theorem q156 : (Jvm.Cond.instanceMethod ({ cls := "WeaveDraft$Draft$Pick", name := "<init>", desc := "(LWeaveDraft$Draft;I)V" } : Jvm.MethodName)) ∈ lw_all := lw_g (lw_at lw_m1 90 rfl) rfl
theorem q157 : (Jvm.Cond.code ({ cls := "WeaveDraft$Draft$Pick", name := "<init>", desc := "(LWeaveDraft$Draft;I)V" } : Jvm.MethodName) prog_6_method_1_code (3 : Nat) (Option.none : Option Jvm.ClassFile.FieldType)) ∈ lw_all := lw_g (lw_at lw_m1 91 rfl) rfl
theorem q158 : (Jvm.Cond.methodLink "WeaveDraft$Draft$Pick" (7 : Nat) ({ cls := "WeaveDraft$Strand", name := "<init>", desc := "(II)V" } : Jvm.MethodName)) ∈ lw_all := lw_g (lw_at lw_m1 92 rfl) rfl
theorem q159 : (Jvm.Cond.fieldLink "WeaveDraft$Draft$Pick" (13 : Nat) "WeaveDraft$Draft$Pick" "number" "I") ∈ lw_all := lw_g (lw_at lw_m1 93 rfl) rfl
theorem q160 : (Jvm.Cond.fieldLink "WeaveDraft$Draft$Pick" (1 : Nat) "WeaveDraft$Draft$Pick" "this$1" "LWeaveDraft$Draft;") ∈ lw_all := lw_g (lw_at lw_m1 94 rfl) rfl
theorem q161 : (Jvm.Cond.laysFinal "WeaveDraft$Draft$Pick" "WeaveDraft$Draft$Pick" "number" "I") ∈ lw_all := lw_g (lw_at lw_m1 95 rfl) rfl
theorem q162 : (Jvm.Cond.soleField "WeaveDraft$Draft$Pick" "number") ∈ lw_all := lw_g (lw_at lw_m1 96 rfl) rfl
theorem q163 : (Jvm.Cond.laysFinal "WeaveDraft$Draft$Pick" "WeaveDraft$Draft$Pick" "this$1" "LWeaveDraft$Draft;") ∈ lw_all := lw_g (lw_at lw_m1 97 rfl) rfl
theorem q164 : (Jvm.Cond.soleField "WeaveDraft$Draft$Pick" "this$1") ∈ lw_all := lw_g (lw_at lw_m1 98 rfl) rfl
theorem q165 : (Jvm.Cond.lays "WeaveDraft$Draft$Pick" "WeaveDraft$Strand" "tied" "I") ∈ lw_all := lw_g (lw_at lw_m1 99 rfl) rfl
theorem q166 : (Jvm.Cond.lays "WeaveDraft$Draft$Pick" "WeaveDraft$Strand" "colour" "I") ∈ lw_all := lw_g (lw_at lw_m1 100 rfl) rfl
theorem q167 : (Jvm.Cond.superclass "WeaveDraft$Draft$Pick" "WeaveDraft$Strand") ∈ lw_all := lw_g (lw_at lw_m1 101 rfl) rfl
theorem q174 : (Jvm.Cond.fieldLink "WeaveDraft$Draft$Pick" (17 : Nat) "WeaveDraft$Draft" "ends" "I") ∈ lw_all := lw_g (lw_at lw_m1 108 rfl) rfl
theorem q580 : (Jvm.Cond.selects "WeaveDraft$Draft$Pick" ({ cls := "java/lang/Object", name := "equals", desc := "(Ljava/lang/Object;)Z" } : Jvm.MethodName) ({ cls := "java/lang/Object", name := "equals", desc := "(Ljava/lang/Object;)Z" } : Jvm.MethodName)) ∈ lw_all := lw_g (lw_at lw_m3 34 rfl) rfl
theorem q738 : (Jvm.Cond.selects "WeaveDraft$Draft$Pick" ({ cls := "WeaveDraft$Look", name := "longest", desc := "(Z)I" } : Jvm.MethodName) ({ cls := "WeaveDraft$Draft$Pick", name := "longest", desc := "(Z)I" } : Jvm.MethodName)) ∈ lw_all := lw_g (lw_at lw_m3 192 rfl) rfl
theorem q739 : (Jvm.Cond.instanceMethod ({ cls := "WeaveDraft$Draft$Pick", name := "longest", desc := "(Z)I" } : Jvm.MethodName)) ∈ lw_all := lw_g (lw_at lw_m3 193 rfl) rfl
theorem q740 : (Jvm.Cond.code ({ cls := "WeaveDraft$Draft$Pick", name := "longest", desc := "(Z)I" } : Jvm.MethodName) prog_6_method_4_code (2 : Nat) (Option.some Jvm.ClassFile.FieldType.int)) ∈ lw_all := lw_g (lw_at lw_m3 194 rfl) rfl
theorem q753 : (Jvm.Cond.castable "WeaveDraft$Draft$Pick" "WeaveDraft$Look") ∈ lw_tbl := lw_at lw_m3 207 rfl
theorem q754 : (Jvm.Cond.selects "WeaveDraft$Draft$Pick" ({ cls := "WeaveDraft$Look", name := "many", desc := "()I" } : Jvm.MethodName) ({ cls := "WeaveDraft$Draft$Pick", name := "many", desc := "()I" } : Jvm.MethodName)) ∈ lw_all := lw_g (lw_at lw_m3 208 rfl) rfl
theorem q755 : (Jvm.Cond.unhidden "WeaveDraft$Draft$Pick" "many" "()I") ∈ lw_tbl := lw_at lw_m3 209 rfl
theorem q756 : (Jvm.Cond.instanceMethod ({ cls := "WeaveDraft$Draft$Pick", name := "many", desc := "()I" } : Jvm.MethodName)) ∈ lw_all := lw_g (lw_at lw_m3 210 rfl) rfl
theorem q757 : (Jvm.Cond.publicMethod ({ cls := "WeaveDraft$Draft$Pick", name := "many", desc := "()I" } : Jvm.MethodName)) ∈ lw_tbl := lw_at lw_m3 211 rfl
theorem q758 : (Jvm.Cond.code ({ cls := "WeaveDraft$Draft$Pick", name := "many", desc := "()I" } : Jvm.MethodName) prog_6_method_2_code (1 : Nat) (Option.some Jvm.ClassFile.FieldType.int)) ∈ lw_all := lw_g (lw_at lw_m3 212 rfl) rfl
theorem q775 : (Jvm.Cond.selects "WeaveDraft$Draft$Pick" ({ cls := "WeaveDraft$Look", name := "is", desc := "(I)Z" } : Jvm.MethodName) ({ cls := "WeaveDraft$Draft$Pick", name := "is", desc := "(I)Z" } : Jvm.MethodName)) ∈ lw_all := lw_g (lw_at lw_m3 229 rfl) rfl
theorem q776 : (Jvm.Cond.unhidden "WeaveDraft$Draft$Pick" "is" "(I)Z") ∈ lw_tbl := lw_at lw_m3 230 rfl
theorem q777 : (Jvm.Cond.instanceMethod ({ cls := "WeaveDraft$Draft$Pick", name := "is", desc := "(I)Z" } : Jvm.MethodName)) ∈ lw_all := lw_g (lw_at lw_m3 231 rfl) rfl
theorem q778 : (Jvm.Cond.publicMethod ({ cls := "WeaveDraft$Draft$Pick", name := "is", desc := "(I)Z" } : Jvm.MethodName)) ∈ lw_tbl := lw_at lw_m3 232 rfl
theorem q779 : (Jvm.Cond.code ({ cls := "WeaveDraft$Draft$Pick", name := "is", desc := "(I)Z" } : Jvm.MethodName) prog_6_method_3_code (2 : Nat) (Option.some Jvm.ClassFile.FieldType.boolean)) ∈ lw_all := lw_g (lw_at lw_m3 233 rfl) rfl
theorem q780 : (Jvm.Cond.methodLink "WeaveDraft$Draft$Pick" (22 : Nat) ({ cls := "WeaveDraft$Draft", name := "isUp", desc := "(II)Z" } : Jvm.MethodName)) ∈ lw_all := lw_g (lw_at lw_m3 234 rfl) rfl
theorem q785 : (Jvm.Cond.unhidden "WeaveDraft$Draft$Pick" "bits" "()I") ∈ lw_tbl := lw_at lw_m3 239 rfl
theorem q799 : (Jvm.Cond.instanceMethod ({ cls := "WeaveDraft$Draft$Pick", name := "stitches", desc := "()I" } : Jvm.MethodName)) ∈ lw_all := lw_g (lw_at lw_m4 13 rfl) rfl
theorem q800 : (Jvm.Cond.selects "WeaveDraft$Draft$Pick" ({ cls := "WeaveDraft$Draft$Pick", name := "stitches", desc := "()I" } : Jvm.MethodName) ({ cls := "WeaveDraft$Draft$Pick", name := "stitches", desc := "()I" } : Jvm.MethodName)) ∈ lw_all := lw_g (lw_at lw_m4 14 rfl) rfl
theorem q801 : (Jvm.Cond.code ({ cls := "WeaveDraft$Draft$Pick", name := "stitches", desc := "()I" } : Jvm.MethodName) prog_6_method_5_code (4 : Nat) (Option.some Jvm.ClassFile.FieldType.int)) ∈ lw_all := lw_g (lw_at lw_m4 15 rfl) rfl
theorem q802 : (Jvm.Cond.methodLink "WeaveDraft$Draft$Pick" (30 : Nat) ({ cls := "WeaveDraft$Draft$Pick", name := "is", desc := "(I)Z" } : Jvm.MethodName)) ∈ lw_all := lw_g (lw_at lw_m4 16 rfl) rfl
theorem q1557 : (Jvm.Cond.selects "WeaveDraft$Draft$Pick" ({ cls := "WeaveDraft$Draft$Pick", name := "is", desc := "(I)Z" } : Jvm.MethodName) ({ cls := "WeaveDraft$Draft$Pick", name := "is", desc := "(I)Z" } : Jvm.MethodName)) ∈ lw_all := lw_g (lw_at lw_m7 51 rfl) rfl
theorem q1558 : (Jvm.Cond.selects "WeaveDraft$Draft$Pick" ({ cls := "WeaveDraft$Draft$Pick", name := "longest", desc := "(Z)I" } : Jvm.MethodName) ({ cls := "WeaveDraft$Draft$Pick", name := "longest", desc := "(Z)I" } : Jvm.MethodName)) ∈ lw_all := lw_g (lw_at lw_m7 52 rfl) rfl
theorem q1562 : (Jvm.Cond.castable "WeaveDraft$Draft$Pick" "java/lang/Object") ∈ lw_tbl := lw_at lw_m7 56 rfl
abbrev cX8_init : ByteArray := prog_3_method_1_code
def yX8_init : MethodName := ⟨RX8, "<init>", "(LWeaveDraft;)V"⟩
def dkwX8_init_0 : List UInt8 := [42, 43, 181, 0, 1, 42, 183, 0, 7, 177]
abbrev dktX8_init_0 : List UInt8 := dkwX8_init_0 ++ []
theorem dksX8_init_0 : cX8_init.data.toList.drop 0 = dktX8_init_0 := by decide +kernel
theorem dX8_init_0 : decode cX8_init 0 = .ok (.aload_n 0, 1) := dk_42 (dk_at dksX8_init_0 0 rfl rfl)
theorem dX8_init_1 : decode cX8_init 1 = .ok (.aload_n 1, 1) := dk_43 (dk_at dksX8_init_0 1 rfl rfl)
theorem dX8_init_2 : decode cX8_init 2 = .ok (.putfield 1, 3) := dk_181 0 1 (dk_at dksX8_init_0 2 rfl rfl)
theorem dX8_init_5 : decode cX8_init 5 = .ok (.aload_n 0, 1) := dk_42 (dk_at dksX8_init_0 5 rfl rfl)
theorem dX8_init_6 : decode cX8_init 6 = .ok (.invokespecial 7, 3) := dk_183 0 7 (dk_at dksX8_init_0 6 rfl rfl)
theorem dX8_init_9 : decode cX8_init 9 = .ok (.return_, 1) := dk_177 (dk_at dksX8_init_0 9 rfl rfl)
abbrev cX8_bits : ByteArray := prog_3_method_2_code
def yX8_bits : MethodName := ⟨RX8, "bits", "(I)I"⟩
def dkwX8_bits_2 : List UInt8 := [172]
abbrev dktX8_bits_2 : List UInt8 := dkwX8_bits_2 ++ []
def dkwX8_bits_1 : List UInt8 := [46, 27, 184, 0, 23, 153, 0, 9, 4, 29, 120, 167, 0, 4, 3, 128, 61, 132, 3, 1, 167, 255, 216, 28]
abbrev dktX8_bits_1 : List UInt8 := dkwX8_bits_1 ++ dktX8_bits_2
def dkwX8_bits_0 : List UInt8 := [3, 61, 3, 62, 29, 42, 180, 0, 1, 180, 0, 13, 162, 0, 35, 28, 42, 180, 0, 1, 180, 0, 19, 29]
abbrev dktX8_bits_0 : List UInt8 := dkwX8_bits_0 ++ dktX8_bits_1
theorem dksX8_bits_0 : cX8_bits.data.toList.drop 0 = dktX8_bits_0 := by decide +kernel
theorem dksX8_bits_1 : cX8_bits.data.toList.drop 24 = dktX8_bits_1 := dk_seg dksX8_bits_0 24 rfl rfl
theorem dksX8_bits_2 : cX8_bits.data.toList.drop 48 = dktX8_bits_2 := dk_seg dksX8_bits_1 24 rfl rfl
theorem dX8_bits_0 : decode cX8_bits 0 = .ok (.iconst 0, 1) := dk_3 (dk_at dksX8_bits_0 0 rfl rfl)
theorem dX8_bits_1 : decode cX8_bits 1 = .ok (.istore_n 2, 1) := dk_61 (dk_at dksX8_bits_0 1 rfl rfl)
theorem dX8_bits_2 : decode cX8_bits 2 = .ok (.iconst 0, 1) := dk_3 (dk_at dksX8_bits_0 2 rfl rfl)
theorem dX8_bits_3 : decode cX8_bits 3 = .ok (.istore_n 3, 1) := dk_62 (dk_at dksX8_bits_0 3 rfl rfl)
theorem dX8_bits_4 : decode cX8_bits 4 = .ok (.iload_n 3, 1) := dk_29 (dk_at dksX8_bits_0 4 rfl rfl)
theorem dX8_bits_5 : decode cX8_bits 5 = .ok (.aload_n 0, 1) := dk_42 (dk_at dksX8_bits_0 5 rfl rfl)
theorem dX8_bits_6 : decode cX8_bits 6 = .ok (.getfield 1, 3) := dk_180 0 1 (dk_at dksX8_bits_0 6 rfl rfl)
theorem dX8_bits_9 : decode cX8_bits 9 = .ok (.getfield 13, 3) := dk_180 0 13 (dk_at dksX8_bits_0 9 rfl rfl)
theorem dX8_bits_12 : decode cX8_bits 12 = .ok (.if_icmp .ge 35, 3) := dk_162 0 35 (dk_at dksX8_bits_0 12 rfl rfl)
theorem dX8_bits_15 : decode cX8_bits 15 = .ok (.iload_n 2, 1) := dk_28 (dk_at dksX8_bits_0 15 rfl rfl)
theorem dX8_bits_16 : decode cX8_bits 16 = .ok (.aload_n 0, 1) := dk_42 (dk_at dksX8_bits_0 16 rfl rfl)
theorem dX8_bits_17 : decode cX8_bits 17 = .ok (.getfield 1, 3) := dk_180 0 1 (dk_at dksX8_bits_0 17 rfl rfl)
theorem dX8_bits_20 : decode cX8_bits 20 = .ok (.getfield 19, 3) := dk_180 0 19 (dk_at dksX8_bits_0 20 rfl rfl)
theorem dX8_bits_23 : decode cX8_bits 23 = .ok (.iload_n 3, 1) := dk_29 (dk_at dksX8_bits_0 23 rfl rfl)
theorem dX8_bits_24 : decode cX8_bits 24 = .ok (.iaload, 1) := dk_46 (dk_at dksX8_bits_1 0 rfl rfl)
theorem dX8_bits_25 : decode cX8_bits 25 = .ok (.iload_n 1, 1) := dk_27 (dk_at dksX8_bits_1 1 rfl rfl)
theorem dX8_bits_26 : decode cX8_bits 26 = .ok (.invokestatic 23, 3) := dk_184 0 23 (dk_at dksX8_bits_1 2 rfl rfl)
theorem dX8_bits_29 : decode cX8_bits 29 = .ok (.ifCond .eq 9, 3) := dk_153 0 9 (dk_at dksX8_bits_1 5 rfl rfl)
theorem dX8_bits_32 : decode cX8_bits 32 = .ok (.iconst 1, 1) := dk_4 (dk_at dksX8_bits_1 8 rfl rfl)
theorem dX8_bits_33 : decode cX8_bits 33 = .ok (.iload_n 3, 1) := dk_29 (dk_at dksX8_bits_1 9 rfl rfl)
theorem dX8_bits_34 : decode cX8_bits 34 = .ok (.ishl, 1) := dk_120 (dk_at dksX8_bits_1 10 rfl rfl)
theorem dX8_bits_35 : decode cX8_bits 35 = .ok (.goto 4, 3) := dk_167 0 4 (dk_at dksX8_bits_1 11 rfl rfl)
theorem dX8_bits_38 : decode cX8_bits 38 = .ok (.iconst 0, 1) := dk_3 (dk_at dksX8_bits_1 14 rfl rfl)
theorem dX8_bits_39 : decode cX8_bits 39 = .ok (.ior, 1) := dk_128 (dk_at dksX8_bits_1 15 rfl rfl)
theorem dX8_bits_40 : decode cX8_bits 40 = .ok (.istore_n 2, 1) := dk_61 (dk_at dksX8_bits_1 16 rfl rfl)
theorem dX8_bits_41 : decode cX8_bits 41 = .ok (.iinc 3 1, 3) := dk_132 3 1 (dk_at dksX8_bits_1 17 rfl rfl)
theorem dX8_bits_44 : decode cX8_bits 44 = .ok (.goto (-40), 3) := dk_167 255 216 (dk_at dksX8_bits_1 20 rfl rfl)
theorem dX8_bits_47 : decode cX8_bits 47 = .ok (.iload_n 2, 1) := dk_28 (dk_at dksX8_bits_1 23 rfl rfl)
theorem dX8_bits_48 : decode cX8_bits 48 = .ok (.ireturn, 1) := dk_172 (dk_at dksX8_bits_2 0 rfl rfl)
theorem q91 : (Jvm.Cond.initialized "WeaveDraft$2") ∈ lw_all := lw_g (lw_at lw_m1 25 rfl) rfl
theorem q224 : (Jvm.Cond.fieldLinkNest "WeaveDraft$2" (19 : Nat) "WeaveDraft" "rows" "[I" "WeaveDraft") ∈ lw_tbl := lw_at lw_m1 158 rfl
theorem q227 : (Jvm.Cond.fieldLinkNest "WeaveDraft$2" (13 : Nat) "WeaveDraft" "rowMany" "I" "WeaveDraft") ∈ lw_tbl := lw_at lw_m1 161 rfl
theorem q577 : (Jvm.Cond.selects "WeaveDraft$2" ({ cls := "java/lang/Object", name := "equals", desc := "(Ljava/lang/Object;)Z" } : Jvm.MethodName) ({ cls := "java/lang/Object", name := "equals", desc := "(Ljava/lang/Object;)Z" } : Jvm.MethodName)) ∈ lw_all := lw_g (lw_at lw_m3 31 rfl) rfl
theorem q868 : (Jvm.Cond.instantiable "WeaveDraft$2" (1 : Nat)) ∈ lw_all := lw_g (lw_at lw_m4 82 rfl) rfl
theorem q870 : (Jvm.Cond.instanceMethod ({ cls := "WeaveDraft$2", name := "<init>", desc := "(LWeaveDraft;)V" } : Jvm.MethodName)) ∈ lw_all := lw_g (lw_at lw_m4 84 rfl) rfl
theorem q871 : (Jvm.Cond.code ({ cls := "WeaveDraft$2", name := "<init>", desc := "(LWeaveDraft;)V" } : Jvm.MethodName) prog_3_method_1_code (2 : Nat) (Option.none : Option Jvm.ClassFile.FieldType)) ∈ lw_all := lw_g (lw_at lw_m4 85 rfl) rfl
theorem q872 : (Jvm.Cond.methodLink "WeaveDraft$2" (7 : Nat) ({ cls := "java/lang/Object", name := "<init>", desc := "()V" } : Jvm.MethodName)) ∈ lw_all := lw_g (lw_at lw_m4 86 rfl) rfl
theorem q873 : (Jvm.Cond.fieldLink "WeaveDraft$2" (1 : Nat) "WeaveDraft$2" "this$0" "LWeaveDraft;") ∈ lw_all := lw_g (lw_at lw_m4 87 rfl) rfl
theorem q874 : (Jvm.Cond.laysFinal "WeaveDraft$2" "WeaveDraft$2" "this$0" "LWeaveDraft;") ∈ lw_all := lw_g (lw_at lw_m4 88 rfl) rfl
theorem q875 : (Jvm.Cond.soleField "WeaveDraft$2" "this$0") ∈ lw_all := lw_g (lw_at lw_m4 89 rfl) rfl
theorem q876 : (Jvm.Cond.superclass "WeaveDraft$2" "java/lang/Object") ∈ lw_all := lw_g (lw_at lw_m4 90 rfl) rfl
theorem q890 : (Jvm.Cond.castable "WeaveDraft$2" "WeaveDraft$Line") ∈ lw_tbl := lw_at lw_m4 104 rfl
theorem q891 : (Jvm.Cond.selects "WeaveDraft$2" ({ cls := "WeaveDraft$Line", name := "bits", desc := "(I)I" } : Jvm.MethodName) ({ cls := "WeaveDraft$2", name := "bits", desc := "(I)I" } : Jvm.MethodName)) ∈ lw_all := lw_g (lw_at lw_m4 105 rfl) rfl
theorem q892 : (Jvm.Cond.unhidden "WeaveDraft$2" "bits" "(I)I") ∈ lw_tbl := lw_at lw_m4 106 rfl
theorem q893 : (Jvm.Cond.instanceMethod ({ cls := "WeaveDraft$2", name := "bits", desc := "(I)I" } : Jvm.MethodName)) ∈ lw_all := lw_g (lw_at lw_m4 107 rfl) rfl
theorem q894 : (Jvm.Cond.publicMethod ({ cls := "WeaveDraft$2", name := "bits", desc := "(I)I" } : Jvm.MethodName)) ∈ lw_tbl := lw_at lw_m4 108 rfl
theorem q895 : (Jvm.Cond.code ({ cls := "WeaveDraft$2", name := "bits", desc := "(I)I" } : Jvm.MethodName) prog_3_method_2_code (4 : Nat) (Option.some Jvm.ClassFile.FieldType.int)) ∈ lw_all := lw_g (lw_at lw_m4 109 rfl) rfl
theorem q896 : (Jvm.Cond.methodLinkNest "WeaveDraft$2" (23 : Nat) ({ cls := "WeaveDraft", name := "has", desc := "(II)Z" } : Jvm.MethodName) "WeaveDraft") ∈ lw_tbl := lw_at lw_m4 110 rfl
theorem q1572 : (Jvm.Cond.castable "WeaveDraft$2" "java/lang/Object") ∈ lw_tbl := lw_at lw_m7 66 rfl
abbrev cX9_bits : ByteArray := prog_2_method_2_code
def yX9_bits : MethodName := ⟨RX9, "bits", "(I)I"⟩
def dkwX9_bits_0 : List UInt8 := [42, 180, 0, 1, 180, 0, 13, 27, 46, 172]
abbrev dktX9_bits_0 : List UInt8 := dkwX9_bits_0 ++ []
theorem dksX9_bits_0 : cX9_bits.data.toList.drop 0 = dktX9_bits_0 := by decide +kernel
theorem dX9_bits_0 : decode cX9_bits 0 = .ok (.aload_n 0, 1) := dk_42 (dk_at dksX9_bits_0 0 rfl rfl)
theorem dX9_bits_1 : decode cX9_bits 1 = .ok (.getfield 1, 3) := dk_180 0 1 (dk_at dksX9_bits_0 1 rfl rfl)
theorem dX9_bits_4 : decode cX9_bits 4 = .ok (.getfield 13, 3) := dk_180 0 13 (dk_at dksX9_bits_0 4 rfl rfl)
theorem dX9_bits_7 : decode cX9_bits 7 = .ok (.iload_n 1, 1) := dk_27 (dk_at dksX9_bits_0 7 rfl rfl)
theorem dX9_bits_8 : decode cX9_bits 8 = .ok (.iaload, 1) := dk_46 (dk_at dksX9_bits_0 8 rfl rfl)
theorem dX9_bits_9 : decode cX9_bits 9 = .ok (.ireturn, 1) := dk_172 (dk_at dksX9_bits_0 9 rfl rfl)
abbrev cX9_init : ByteArray := prog_2_method_1_code
def yX9_init : MethodName := ⟨RX9, "<init>", "(LWeaveDraft;)V"⟩
def dkwX9_init_0 : List UInt8 := [42, 43, 181, 0, 1, 42, 183, 0, 7, 177]
abbrev dktX9_init_0 : List UInt8 := dkwX9_init_0 ++ []
theorem dksX9_init_0 : cX9_init.data.toList.drop 0 = dktX9_init_0 := by decide +kernel
theorem dX9_init_0 : decode cX9_init 0 = .ok (.aload_n 0, 1) := dk_42 (dk_at dksX9_init_0 0 rfl rfl)
theorem dX9_init_1 : decode cX9_init 1 = .ok (.aload_n 1, 1) := dk_43 (dk_at dksX9_init_0 1 rfl rfl)
theorem dX9_init_2 : decode cX9_init 2 = .ok (.putfield 1, 3) := dk_181 0 1 (dk_at dksX9_init_0 2 rfl rfl)
theorem dX9_init_5 : decode cX9_init 5 = .ok (.aload_n 0, 1) := dk_42 (dk_at dksX9_init_0 5 rfl rfl)
theorem dX9_init_6 : decode cX9_init 6 = .ok (.invokespecial 7, 3) := dk_183 0 7 (dk_at dksX9_init_0 6 rfl rfl)
theorem dX9_init_9 : decode cX9_init 9 = .ok (.return_, 1) := dk_177 (dk_at dksX9_init_0 9 rfl rfl)
theorem q92 : (Jvm.Cond.initialized "WeaveDraft$1") ∈ lw_all := lw_g (lw_at lw_m1 26 rfl) rfl
theorem q223 : (Jvm.Cond.fieldLinkNest "WeaveDraft$1" (13 : Nat) "WeaveDraft" "rows" "[I" "WeaveDraft") ∈ lw_tbl := lw_at lw_m1 157 rfl
theorem q576 : (Jvm.Cond.selects "WeaveDraft$1" ({ cls := "java/lang/Object", name := "equals", desc := "(Ljava/lang/Object;)Z" } : Jvm.MethodName) ({ cls := "java/lang/Object", name := "equals", desc := "(Ljava/lang/Object;)Z" } : Jvm.MethodName)) ∈ lw_all := lw_g (lw_at lw_m3 30 rfl) rfl
theorem q884 : (Jvm.Cond.castable "WeaveDraft$1" "WeaveDraft$Line") ∈ lw_tbl := lw_at lw_m4 98 rfl
theorem q885 : (Jvm.Cond.selects "WeaveDraft$1" ({ cls := "WeaveDraft$Line", name := "bits", desc := "(I)I" } : Jvm.MethodName) ({ cls := "WeaveDraft$1", name := "bits", desc := "(I)I" } : Jvm.MethodName)) ∈ lw_all := lw_g (lw_at lw_m4 99 rfl) rfl
theorem q886 : (Jvm.Cond.unhidden "WeaveDraft$1" "bits" "(I)I") ∈ lw_tbl := lw_at lw_m4 100 rfl
theorem q887 : (Jvm.Cond.instanceMethod ({ cls := "WeaveDraft$1", name := "bits", desc := "(I)I" } : Jvm.MethodName)) ∈ lw_all := lw_g (lw_at lw_m4 101 rfl) rfl
theorem q888 : (Jvm.Cond.publicMethod ({ cls := "WeaveDraft$1", name := "bits", desc := "(I)I" } : Jvm.MethodName)) ∈ lw_tbl := lw_at lw_m4 102 rfl
theorem q889 : (Jvm.Cond.code ({ cls := "WeaveDraft$1", name := "bits", desc := "(I)I" } : Jvm.MethodName) prog_2_method_2_code (2 : Nat) (Option.some Jvm.ClassFile.FieldType.int)) ∈ lw_all := lw_g (lw_at lw_m4 103 rfl) rfl
theorem q906 : (Jvm.Cond.instantiable "WeaveDraft$1" (1 : Nat)) ∈ lw_all := lw_g (lw_at lw_m4 120 rfl) rfl
theorem q908 : (Jvm.Cond.instanceMethod ({ cls := "WeaveDraft$1", name := "<init>", desc := "(LWeaveDraft;)V" } : Jvm.MethodName)) ∈ lw_all := lw_g (lw_at lw_m4 122 rfl) rfl
theorem q909 : (Jvm.Cond.code ({ cls := "WeaveDraft$1", name := "<init>", desc := "(LWeaveDraft;)V" } : Jvm.MethodName) prog_2_method_1_code (2 : Nat) (Option.none : Option Jvm.ClassFile.FieldType)) ∈ lw_all := lw_g (lw_at lw_m4 123 rfl) rfl
theorem q910 : (Jvm.Cond.methodLink "WeaveDraft$1" (7 : Nat) ({ cls := "java/lang/Object", name := "<init>", desc := "()V" } : Jvm.MethodName)) ∈ lw_all := lw_g (lw_at lw_m4 124 rfl) rfl
theorem q911 : (Jvm.Cond.fieldLink "WeaveDraft$1" (1 : Nat) "WeaveDraft$1" "this$0" "LWeaveDraft;") ∈ lw_all := lw_g (lw_at lw_m4 125 rfl) rfl
theorem q912 : (Jvm.Cond.laysFinal "WeaveDraft$1" "WeaveDraft$1" "this$0" "LWeaveDraft;") ∈ lw_all := lw_g (lw_at lw_m4 126 rfl) rfl
theorem q913 : (Jvm.Cond.soleField "WeaveDraft$1" "this$0") ∈ lw_all := lw_g (lw_at lw_m4 127 rfl) rfl
theorem q914 : (Jvm.Cond.superclass "WeaveDraft$1" "java/lang/Object") ∈ lw_all := lw_g (lw_at lw_m4 128 rfl) rfl
theorem q1573 : (Jvm.Cond.castable "WeaveDraft$1" "java/lang/Object") ∈ lw_tbl := lw_at lw_m7 67 rfl
theorem q882 : (Jvm.Cond.interfaceMethod "WeaveDraft$Line" "WeaveDraft$Line" "bits" "(I)I") ∈ lw_tbl := lw_at lw_m4 96 rfl
theorem q883 : (Jvm.Cond.declares ({ cls := "WeaveDraft$Line", name := "bits", desc := "(I)I" } : Jvm.MethodName)) ∈ lw_tbl := lw_at lw_m4 97 rfl
theorem q928 : (Jvm.Cond.sameMethod "[I" "java/lang/Object" "clone" "()Ljava/lang/Object;") ∈ lw_all := lw_g (lw_at lw_m4 142 rfl) rfl
theorem q929 : (Jvm.Cond.selects "[I" ({ cls := "[I", name := "clone", desc := "()Ljava/lang/Object;" } : Jvm.MethodName) ({ cls := "java/lang/Object", name := "clone", desc := "()Ljava/lang/Object;" } : Jvm.MethodName)) ∈ lw_all := lw_g (lw_at lw_m4 143 rfl) rfl
theorem q930 : (Jvm.Cond.castable "[I" "java/lang/Cloneable") ∈ lw_tbl := lw_at lw_m4 144 rfl
theorem q81 : (Jvm.Cond.initialized "java/lang/System") ∈ lw_all := lw_g (lw_at lw_m1 15 rfl) rfl
theorem q417 : (Jvm.Cond.static ({ cls := "java/lang/System", name := "arraycopy", desc := "(Ljava/lang/Object;ILjava/lang/Object;II)V" } : Jvm.MethodName)) ∈ lw_all := lw_g (lw_at lw_m2 111 rfl) rfl
theorem q418 : (Jvm.Cond.native ({ cls := "java/lang/System", name := "arraycopy", desc := "(Ljava/lang/Object;ILjava/lang/Object;II)V" } : Jvm.MethodName)) ∈ lw_all := lw_g (lw_at lw_m2 112 rfl) rfl
theorem q1032 : (Jvm.Cond.interfaceMethod "java/util/Iterator" "java/util/Iterator" "hasNext" "()Z") ∈ lw_tbl := lw_at lw_m5 6 rfl
theorem q1033 : (Jvm.Cond.declares ({ cls := "java/util/Iterator", name := "hasNext", desc := "()Z" } : Jvm.MethodName)) ∈ lw_tbl := lw_at lw_m5 7 rfl
theorem q1042 : (Jvm.Cond.interfaceMethod "java/util/Iterator" "java/util/Iterator" "next" "()Ljava/lang/Object;") ∈ lw_tbl := lw_at lw_m5 16 rfl
theorem q1043 : (Jvm.Cond.declares ({ cls := "java/util/Iterator", name := "next", desc := "()Ljava/lang/Object;" } : Jvm.MethodName)) ∈ lw_tbl := lw_at lw_m5 17 rfl
