/-! java/util/Arrays -/
set_option maxRecDepth 100000
def RJ0 : String := "java/util/Arrays"
abbrev cJ0_copyOf : ByteArray := prog_26_method_121_code
def yJ0_copyOf : MethodName := ⟨RJ0, "copyOf", "([BI)[B"⟩
def dkwJ0_copyOf_1 : List UInt8 := [27, 184, 1, 48, 184, 0, 150, 44, 176]
abbrev dktJ0_copyOf_1 : List UInt8 := dkwJ0_copyOf_1 ++ []
def dkwJ0_copyOf_0 : List UInt8 := [27, 42, 190, 160, 0, 11, 42, 182, 1, 54, 192, 1, 55, 176, 27, 188, 8, 77, 42, 3, 44, 3, 42, 190]
abbrev dktJ0_copyOf_0 : List UInt8 := dkwJ0_copyOf_0 ++ dktJ0_copyOf_1
theorem dksJ0_copyOf_0 : cJ0_copyOf.data.toList.drop 0 = dktJ0_copyOf_0 := by decide +kernel
theorem dksJ0_copyOf_1 : cJ0_copyOf.data.toList.drop 24 = dktJ0_copyOf_1 := dk_seg dksJ0_copyOf_0 24 rfl rfl
theorem dJ0_copyOf_0 : decode cJ0_copyOf 0 = .ok (.iload_n 1, 1) := dk_27 (dk_at dksJ0_copyOf_0 0 rfl rfl)
theorem dJ0_copyOf_1 : decode cJ0_copyOf 1 = .ok (.aload_n 0, 1) := dk_42 (dk_at dksJ0_copyOf_0 1 rfl rfl)
theorem dJ0_copyOf_2 : decode cJ0_copyOf 2 = .ok (.arraylength, 1) := dk_190 (dk_at dksJ0_copyOf_0 2 rfl rfl)
theorem dJ0_copyOf_3 : decode cJ0_copyOf 3 = .ok (.if_icmp .ne 11, 3) := dk_160 0 11 (dk_at dksJ0_copyOf_0 3 rfl rfl)
theorem dJ0_copyOf_6 : decode cJ0_copyOf 6 = .ok (.aload_n 0, 1) := dk_42 (dk_at dksJ0_copyOf_0 6 rfl rfl)
theorem dJ0_copyOf_7 : decode cJ0_copyOf 7 = .ok (.invokevirtual 310, 3) := dk_182 1 54 (dk_at dksJ0_copyOf_0 7 rfl rfl)
theorem dJ0_copyOf_10 : decode cJ0_copyOf 10 = .ok (.checkcast 311, 3) := dk_192 1 55 (dk_at dksJ0_copyOf_0 10 rfl rfl)
theorem dJ0_copyOf_13 : decode cJ0_copyOf 13 = .ok (.areturn, 1) := dk_176 (dk_at dksJ0_copyOf_0 13 rfl rfl)
theorem dJ0_copyOf_14 : decode cJ0_copyOf 14 = .ok (.iload_n 1, 1) := dk_27 (dk_at dksJ0_copyOf_0 14 rfl rfl)
theorem dJ0_copyOf_15 : decode cJ0_copyOf 15 = .ok (.newarray .byte, 2) := dk_188_8 (dk_at dksJ0_copyOf_0 15 rfl rfl)
theorem dJ0_copyOf_17 : decode cJ0_copyOf 17 = .ok (.astore_n 2, 1) := dk_77 (dk_at dksJ0_copyOf_0 17 rfl rfl)
theorem dJ0_copyOf_18 : decode cJ0_copyOf 18 = .ok (.aload_n 0, 1) := dk_42 (dk_at dksJ0_copyOf_0 18 rfl rfl)
theorem dJ0_copyOf_19 : decode cJ0_copyOf 19 = .ok (.iconst 0, 1) := dk_3 (dk_at dksJ0_copyOf_0 19 rfl rfl)
theorem dJ0_copyOf_20 : decode cJ0_copyOf 20 = .ok (.aload_n 2, 1) := dk_44 (dk_at dksJ0_copyOf_0 20 rfl rfl)
theorem dJ0_copyOf_21 : decode cJ0_copyOf 21 = .ok (.iconst 0, 1) := dk_3 (dk_at dksJ0_copyOf_0 21 rfl rfl)
theorem dJ0_copyOf_22 : decode cJ0_copyOf 22 = .ok (.aload_n 0, 1) := dk_42 (dk_at dksJ0_copyOf_0 22 rfl rfl)
theorem dJ0_copyOf_23 : decode cJ0_copyOf 23 = .ok (.arraylength, 1) := dk_190 (dk_at dksJ0_copyOf_0 23 rfl rfl)
theorem dJ0_copyOf_24 : decode cJ0_copyOf 24 = .ok (.iload_n 1, 1) := dk_27 (dk_at dksJ0_copyOf_1 0 rfl rfl)
theorem dJ0_copyOf_25 : decode cJ0_copyOf 25 = .ok (.invokestatic 304, 3) := dk_184 1 48 (dk_at dksJ0_copyOf_1 1 rfl rfl)
theorem dJ0_copyOf_28 : decode cJ0_copyOf 28 = .ok (.invokestatic 150, 3) := dk_184 0 150 (dk_at dksJ0_copyOf_1 4 rfl rfl)
theorem dJ0_copyOf_31 : decode cJ0_copyOf 31 = .ok (.aload_n 2, 1) := dk_44 (dk_at dksJ0_copyOf_1 7 rfl rfl)
theorem dJ0_copyOf_32 : decode cJ0_copyOf 32 = .ok (.areturn, 1) := dk_176 (dk_at dksJ0_copyOf_1 8 rfl rfl)
theorem q92 : (Jvm.Cond.initialized "java/util/Arrays") ∈ lw_all := lw_g (lw_at lw_m1 5 rfl) rfl
theorem q725 : (Jvm.Cond.static ({ cls := "java/util/Arrays", name := "copyOf", desc := "([BI)[B" } : Jvm.MethodName)) ∈ lw_all := lw_g (lw_at lw_m3 158 rfl) rfl
theorem q726 : (Jvm.Cond.code ({ cls := "java/util/Arrays", name := "copyOf", desc := "([BI)[B" } : Jvm.MethodName) prog_26_method_121_code (3 : Nat) (Option.some (Jvm.ClassFile.FieldType.array Jvm.ClassFile.FieldType.byte))) ∈ lw_all := lw_g (lw_at lw_m3 159 rfl) rfl
theorem q727 : (Jvm.Cond.methodLink "java/util/Arrays" (310 : Nat) ({ cls := "[B", name := "clone", desc := "()Ljava/lang/Object;" } : Jvm.MethodName)) ∈ lw_all := lw_g (lw_at lw_m3 160 rfl) rfl
theorem q733 : (Jvm.Cond.classLink "java/util/Arrays" (311 : Nat) "[B") ∈ lw_all := lw_g (lw_at lw_m3 166 rfl) rfl
theorem q734 : (Jvm.Cond.methodLink "java/util/Arrays" (304 : Nat) ({ cls := "java/lang/Math", name := "min", desc := "(II)I" } : Jvm.MethodName)) ∈ lw_all := lw_g (lw_at lw_m3 167 rfl) rfl
theorem q735 : (Jvm.Cond.methodLink "java/util/Arrays" (150 : Nat) ({ cls := "java/lang/System", name := "arraycopy", desc := "(Ljava/lang/Object;ILjava/lang/Object;II)V" } : Jvm.MethodName)) ∈ lw_all := lw_g (lw_at lw_m3 168 rfl) rfl
/-! java/lang/Math -/
set_option maxRecDepth 100000
def RJ1 : String := "java/lang/Math"
abbrev cJ1_min : ByteArray := prog_20_method_69_code
def yJ1_min : MethodName := ⟨RJ1, "min", "(II)I"⟩
def dkwJ1_min_0 : List UInt8 := [26, 27, 163, 0, 7, 26, 167, 0, 4, 27, 172]
abbrev dktJ1_min_0 : List UInt8 := dkwJ1_min_0 ++ []
theorem dksJ1_min_0 : cJ1_min.data.toList.drop 0 = dktJ1_min_0 := by decide +kernel
theorem dJ1_min_0 : decode cJ1_min 0 = .ok (.iload_n 0, 1) := dk_26 (dk_at dksJ1_min_0 0 rfl rfl)
theorem dJ1_min_1 : decode cJ1_min 1 = .ok (.iload_n 1, 1) := dk_27 (dk_at dksJ1_min_0 1 rfl rfl)
theorem dJ1_min_2 : decode cJ1_min 2 = .ok (.if_icmp .gt 7, 3) := dk_163 0 7 (dk_at dksJ1_min_0 2 rfl rfl)
theorem dJ1_min_5 : decode cJ1_min 5 = .ok (.iload_n 0, 1) := dk_26 (dk_at dksJ1_min_0 5 rfl rfl)
theorem dJ1_min_6 : decode cJ1_min 6 = .ok (.goto 4, 3) := dk_167 0 4 (dk_at dksJ1_min_0 6 rfl rfl)
theorem dJ1_min_9 : decode cJ1_min 9 = .ok (.iload_n 1, 1) := dk_27 (dk_at dksJ1_min_0 9 rfl rfl)
theorem dJ1_min_10 : decode cJ1_min 10 = .ok (.ireturn, 1) := dk_172 (dk_at dksJ1_min_0 10 rfl rfl)
abbrev cJ1_max : ByteArray := prog_20_method_65_code
def yJ1_max : MethodName := ⟨RJ1, "max", "(II)I"⟩
def dkwJ1_max_0 : List UInt8 := [26, 27, 161, 0, 7, 26, 167, 0, 4, 27, 172]
abbrev dktJ1_max_0 : List UInt8 := dkwJ1_max_0 ++ []
theorem dksJ1_max_0 : cJ1_max.data.toList.drop 0 = dktJ1_max_0 := by decide +kernel
theorem dJ1_max_0 : decode cJ1_max 0 = .ok (.iload_n 0, 1) := dk_26 (dk_at dksJ1_max_0 0 rfl rfl)
theorem dJ1_max_1 : decode cJ1_max 1 = .ok (.iload_n 1, 1) := dk_27 (dk_at dksJ1_max_0 1 rfl rfl)
theorem dJ1_max_2 : decode cJ1_max 2 = .ok (.if_icmp .lt 7, 3) := dk_161 0 7 (dk_at dksJ1_max_0 2 rfl rfl)
theorem dJ1_max_5 : decode cJ1_max 5 = .ok (.iload_n 0, 1) := dk_26 (dk_at dksJ1_max_0 5 rfl rfl)
theorem dJ1_max_6 : decode cJ1_max 6 = .ok (.goto 4, 3) := dk_167 0 4 (dk_at dksJ1_max_0 6 rfl rfl)
theorem dJ1_max_9 : decode cJ1_max 9 = .ok (.iload_n 1, 1) := dk_27 (dk_at dksJ1_max_0 9 rfl rfl)
theorem dJ1_max_10 : decode cJ1_max 10 = .ok (.ireturn, 1) := dk_172 (dk_at dksJ1_max_0 10 rfl rfl)
theorem q93 : (Jvm.Cond.initialized "java/lang/Math") ∈ lw_all := lw_g (lw_at lw_m1 6 rfl) rfl
theorem q471 : (Jvm.Cond.static ({ cls := "java/lang/Math", name := "min", desc := "(II)I" } : Jvm.MethodName)) ∈ lw_all := lw_g (lw_at lw_m2 144 rfl) rfl
theorem q472 : (Jvm.Cond.code ({ cls := "java/lang/Math", name := "min", desc := "(II)I" } : Jvm.MethodName) prog_20_method_69_code (2 : Nat) (Option.some Jvm.ClassFile.FieldType.int)) ∈ lw_all := lw_g (lw_at lw_m2 145 rfl) rfl
theorem q492 : (Jvm.Cond.static ({ cls := "java/lang/Math", name := "max", desc := "(II)I" } : Jvm.MethodName)) ∈ lw_all := lw_g (lw_at lw_m2 165 rfl) rfl
theorem q493 : (Jvm.Cond.code ({ cls := "java/lang/Math", name := "max", desc := "(II)I" } : Jvm.MethodName) prog_20_method_65_code (2 : Nat) (Option.some Jvm.ClassFile.FieldType.int)) ∈ lw_all := lw_g (lw_at lw_m2 166 rfl) rfl
/-! java/lang/String -/
set_option maxRecDepth 100000
def RJ2 : String := "java/lang/String"
abbrev cJ2_length : ByteArray := prog_21_method_54_code
def yJ2_length : MethodName := ⟨RJ2, "length", "()I"⟩
def dkwJ2_length_0 : List UInt8 := [42, 180, 0, 9, 190, 42, 182, 1, 79, 122, 172]
abbrev dktJ2_length_0 : List UInt8 := dkwJ2_length_0 ++ []
theorem dksJ2_length_0 : cJ2_length.data.toList.drop 0 = dktJ2_length_0 := by decide +kernel
theorem dJ2_length_0 : decode cJ2_length 0 = .ok (.aload_n 0, 1) := dk_42 (dk_at dksJ2_length_0 0 rfl rfl)
theorem dJ2_length_1 : decode cJ2_length 1 = .ok (.getfield 9, 3) := dk_180 0 9 (dk_at dksJ2_length_0 1 rfl rfl)
theorem dJ2_length_4 : decode cJ2_length 4 = .ok (.arraylength, 1) := dk_190 (dk_at dksJ2_length_0 4 rfl rfl)
theorem dJ2_length_5 : decode cJ2_length 5 = .ok (.aload_n 0, 1) := dk_42 (dk_at dksJ2_length_0 5 rfl rfl)
theorem dJ2_length_6 : decode cJ2_length 6 = .ok (.invokevirtual 335, 3) := dk_182 1 79 (dk_at dksJ2_length_0 6 rfl rfl)
theorem dJ2_length_9 : decode cJ2_length 9 = .ok (.ishr, 1) := dk_122 (dk_at dksJ2_length_0 9 rfl rfl)
theorem dJ2_length_10 : decode cJ2_length 10 = .ok (.ireturn, 1) := dk_172 (dk_at dksJ2_length_0 10 rfl rfl)
abbrev cJ2_coder : ByteArray := prog_21_method_152_code
def yJ2_coder : MethodName := ⟨RJ2, "coder", "()B"⟩
def dkwJ2_coder_0 : List UInt8 := [178, 0, 38, 153, 0, 10, 42, 180, 0, 15, 167, 0, 4, 4, 172]
abbrev dktJ2_coder_0 : List UInt8 := dkwJ2_coder_0 ++ []
theorem dksJ2_coder_0 : cJ2_coder.data.toList.drop 0 = dktJ2_coder_0 := by decide +kernel
theorem dJ2_coder_0 : decode cJ2_coder 0 = .ok (.getstatic 38, 3) := dk_178 0 38 (dk_at dksJ2_coder_0 0 rfl rfl)
theorem dJ2_coder_3 : decode cJ2_coder 3 = .ok (.ifCond .eq 10, 3) := dk_153 0 10 (dk_at dksJ2_coder_0 3 rfl rfl)
theorem dJ2_coder_6 : decode cJ2_coder 6 = .ok (.aload_n 0, 1) := dk_42 (dk_at dksJ2_coder_0 6 rfl rfl)
theorem dJ2_coder_7 : decode cJ2_coder 7 = .ok (.getfield 15, 3) := dk_180 0 15 (dk_at dksJ2_coder_0 7 rfl rfl)
theorem dJ2_coder_10 : decode cJ2_coder 10 = .ok (.goto 4, 3) := dk_167 0 4 (dk_at dksJ2_coder_0 10 rfl rfl)
theorem dJ2_coder_13 : decode cJ2_coder 13 = .ok (.iconst 1, 1) := dk_4 (dk_at dksJ2_coder_0 13 rfl rfl)
theorem dJ2_coder_14 : decode cJ2_coder 14 = .ok (.ireturn, 1) := dk_172 (dk_at dksJ2_coder_0 14 rfl rfl)
abbrev cJ2_charAt : ByteArray := prog_21_method_56_code
def yJ2_charAt : MethodName := ⟨RJ2, "charAt", "(I)C"⟩
def dkwJ2_charAt_1 : List UInt8 := [172]
abbrev dktJ2_charAt_1 : List UInt8 := dkwJ2_charAt_1 ++ []
def dkwJ2_charAt_0 : List UInt8 := [42, 182, 1, 236, 153, 0, 12, 42, 180, 0, 9, 27, 184, 1, 239, 172, 42, 180, 0, 9, 27, 184, 1, 242]
abbrev dktJ2_charAt_0 : List UInt8 := dkwJ2_charAt_0 ++ dktJ2_charAt_1
theorem dksJ2_charAt_0 : cJ2_charAt.data.toList.drop 0 = dktJ2_charAt_0 := by decide +kernel
theorem dksJ2_charAt_1 : cJ2_charAt.data.toList.drop 24 = dktJ2_charAt_1 := dk_seg dksJ2_charAt_0 24 rfl rfl
theorem dJ2_charAt_0 : decode cJ2_charAt 0 = .ok (.aload_n 0, 1) := dk_42 (dk_at dksJ2_charAt_0 0 rfl rfl)
theorem dJ2_charAt_1 : decode cJ2_charAt 1 = .ok (.invokevirtual 492, 3) := dk_182 1 236 (dk_at dksJ2_charAt_0 1 rfl rfl)
theorem dJ2_charAt_4 : decode cJ2_charAt 4 = .ok (.ifCond .eq 12, 3) := dk_153 0 12 (dk_at dksJ2_charAt_0 4 rfl rfl)
theorem dJ2_charAt_7 : decode cJ2_charAt 7 = .ok (.aload_n 0, 1) := dk_42 (dk_at dksJ2_charAt_0 7 rfl rfl)
theorem dJ2_charAt_8 : decode cJ2_charAt 8 = .ok (.getfield 9, 3) := dk_180 0 9 (dk_at dksJ2_charAt_0 8 rfl rfl)
theorem dJ2_charAt_11 : decode cJ2_charAt 11 = .ok (.iload_n 1, 1) := dk_27 (dk_at dksJ2_charAt_0 11 rfl rfl)
theorem dJ2_charAt_12 : decode cJ2_charAt 12 = .ok (.invokestatic 495, 3) := dk_184 1 239 (dk_at dksJ2_charAt_0 12 rfl rfl)
theorem dJ2_charAt_15 : decode cJ2_charAt 15 = .ok (.ireturn, 1) := dk_172 (dk_at dksJ2_charAt_0 15 rfl rfl)
theorem dJ2_charAt_16 : decode cJ2_charAt 16 = .ok (.aload_n 0, 1) := dk_42 (dk_at dksJ2_charAt_0 16 rfl rfl)
theorem dJ2_charAt_17 : decode cJ2_charAt 17 = .ok (.getfield 9, 3) := dk_180 0 9 (dk_at dksJ2_charAt_0 17 rfl rfl)
theorem dJ2_charAt_20 : decode cJ2_charAt 20 = .ok (.iload_n 1, 1) := dk_27 (dk_at dksJ2_charAt_0 20 rfl rfl)
theorem dJ2_charAt_21 : decode cJ2_charAt 21 = .ok (.invokestatic 498, 3) := dk_184 1 242 (dk_at dksJ2_charAt_0 21 rfl rfl)
theorem dJ2_charAt_24 : decode cJ2_charAt 24 = .ok (.ireturn, 1) := dk_172 (dk_at dksJ2_charAt_1 0 rfl rfl)
abbrev cJ2_isLatin1 : ByteArray := prog_21_method_154_code
def yJ2_isLatin1 : MethodName := ⟨RJ2, "isLatin1", "()Z"⟩
def dkwJ2_isLatin1_0 : List UInt8 := [178, 0, 38, 153, 0, 14, 42, 180, 0, 15, 154, 0, 7, 4, 167, 0, 4, 3, 172]
abbrev dktJ2_isLatin1_0 : List UInt8 := dkwJ2_isLatin1_0 ++ []
theorem dksJ2_isLatin1_0 : cJ2_isLatin1.data.toList.drop 0 = dktJ2_isLatin1_0 := by decide +kernel
theorem dJ2_isLatin1_0 : decode cJ2_isLatin1 0 = .ok (.getstatic 38, 3) := dk_178 0 38 (dk_at dksJ2_isLatin1_0 0 rfl rfl)
theorem dJ2_isLatin1_3 : decode cJ2_isLatin1 3 = .ok (.ifCond .eq 14, 3) := dk_153 0 14 (dk_at dksJ2_isLatin1_0 3 rfl rfl)
theorem dJ2_isLatin1_6 : decode cJ2_isLatin1 6 = .ok (.aload_n 0, 1) := dk_42 (dk_at dksJ2_isLatin1_0 6 rfl rfl)
theorem dJ2_isLatin1_7 : decode cJ2_isLatin1 7 = .ok (.getfield 15, 3) := dk_180 0 15 (dk_at dksJ2_isLatin1_0 7 rfl rfl)
theorem dJ2_isLatin1_10 : decode cJ2_isLatin1 10 = .ok (.ifCond .ne 7, 3) := dk_154 0 7 (dk_at dksJ2_isLatin1_0 10 rfl rfl)
theorem dJ2_isLatin1_13 : decode cJ2_isLatin1 13 = .ok (.iconst 1, 1) := dk_4 (dk_at dksJ2_isLatin1_0 13 rfl rfl)
theorem dJ2_isLatin1_14 : decode cJ2_isLatin1 14 = .ok (.goto 4, 3) := dk_167 0 4 (dk_at dksJ2_isLatin1_0 14 rfl rfl)
theorem dJ2_isLatin1_17 : decode cJ2_isLatin1 17 = .ok (.iconst 0, 1) := dk_3 (dk_at dksJ2_isLatin1_0 17 rfl rfl)
theorem dJ2_isLatin1_18 : decode cJ2_isLatin1 18 = .ok (.ireturn, 1) := dk_172 (dk_at dksJ2_isLatin1_0 18 rfl rfl)
abbrev cJ2_checkIndex : ByteArray := prog_21_method_155_code
def yJ2_checkIndex : MethodName := ⟨RJ2, "checkIndex", "(II)V"⟩
def dkwJ2_checkIndex_0 : List UInt8 := [26, 27, 178, 4, 29, 184, 4, 35, 87, 177]
abbrev dktJ2_checkIndex_0 : List UInt8 := dkwJ2_checkIndex_0 ++ []
theorem dksJ2_checkIndex_0 : cJ2_checkIndex.data.toList.drop 0 = dktJ2_checkIndex_0 := by decide +kernel
theorem dJ2_checkIndex_0 : decode cJ2_checkIndex 0 = .ok (.iload_n 0, 1) := dk_26 (dk_at dksJ2_checkIndex_0 0 rfl rfl)
theorem dJ2_checkIndex_1 : decode cJ2_checkIndex 1 = .ok (.iload_n 1, 1) := dk_27 (dk_at dksJ2_checkIndex_0 1 rfl rfl)
theorem dJ2_checkIndex_2 : decode cJ2_checkIndex 2 = .ok (.getstatic 1053, 3) := dk_178 4 29 (dk_at dksJ2_checkIndex_0 2 rfl rfl)
theorem dJ2_checkIndex_5 : decode cJ2_checkIndex 5 = .ok (.invokestatic 1059, 3) := dk_184 4 35 (dk_at dksJ2_checkIndex_0 5 rfl rfl)
theorem dJ2_checkIndex_8 : decode cJ2_checkIndex 8 = .ok (.pop, 1) := dk_87 (dk_at dksJ2_checkIndex_0 8 rfl rfl)
theorem dJ2_checkIndex_9 : decode cJ2_checkIndex 9 = .ok (.return_, 1) := dk_177 (dk_at dksJ2_checkIndex_0 9 rfl rfl)
abbrev cJ2_indexOf : ByteArray := prog_21_method_79_code
def yJ2_indexOf : MethodName := ⟨RJ2, "indexOf", "(I)I"⟩
def dkwJ2_indexOf_0 : List UInt8 := [42, 27, 3, 182, 2, 121, 172]
abbrev dktJ2_indexOf_0 : List UInt8 := dkwJ2_indexOf_0 ++ []
theorem dksJ2_indexOf_0 : cJ2_indexOf.data.toList.drop 0 = dktJ2_indexOf_0 := by decide +kernel
theorem dJ2_indexOf_0 : decode cJ2_indexOf 0 = .ok (.aload_n 0, 1) := dk_42 (dk_at dksJ2_indexOf_0 0 rfl rfl)
theorem dJ2_indexOf_1 : decode cJ2_indexOf 1 = .ok (.iload_n 1, 1) := dk_27 (dk_at dksJ2_indexOf_0 1 rfl rfl)
theorem dJ2_indexOf_2 : decode cJ2_indexOf 2 = .ok (.iconst 0, 1) := dk_3 (dk_at dksJ2_indexOf_0 2 rfl rfl)
theorem dJ2_indexOf_3 : decode cJ2_indexOf 3 = .ok (.invokevirtual 633, 3) := dk_182 2 121 (dk_at dksJ2_indexOf_0 3 rfl rfl)
theorem dJ2_indexOf_6 : decode cJ2_indexOf 6 = .ok (.ireturn, 1) := dk_172 (dk_at dksJ2_indexOf_0 6 rfl rfl)
abbrev cJ2_indexOf_2 : ByteArray := prog_21_method_80_code
def yJ2_indexOf_2 : MethodName := ⟨RJ2, "indexOf", "(II)I"⟩
def dkwJ2_indexOf_2_1 : List UInt8 := [180, 0, 9, 27, 28, 42, 182, 1, 249, 184, 2, 128, 172]
abbrev dktJ2_indexOf_2_1 : List UInt8 := dkwJ2_indexOf_2_1 ++ []
def dkwJ2_indexOf_2_0 : List UInt8 := [42, 182, 1, 236, 153, 0, 19, 42, 180, 0, 9, 27, 28, 42, 182, 1, 249, 184, 2, 125, 167, 0, 16, 42]
abbrev dktJ2_indexOf_2_0 : List UInt8 := dkwJ2_indexOf_2_0 ++ dktJ2_indexOf_2_1
theorem dksJ2_indexOf_2_0 : cJ2_indexOf_2.data.toList.drop 0 = dktJ2_indexOf_2_0 := by decide +kernel
theorem dksJ2_indexOf_2_1 : cJ2_indexOf_2.data.toList.drop 24 = dktJ2_indexOf_2_1 := dk_seg dksJ2_indexOf_2_0 24 rfl rfl
theorem dJ2_indexOf_2_0 : decode cJ2_indexOf_2 0 = .ok (.aload_n 0, 1) := dk_42 (dk_at dksJ2_indexOf_2_0 0 rfl rfl)
theorem dJ2_indexOf_2_1 : decode cJ2_indexOf_2 1 = .ok (.invokevirtual 492, 3) := dk_182 1 236 (dk_at dksJ2_indexOf_2_0 1 rfl rfl)
theorem dJ2_indexOf_2_4 : decode cJ2_indexOf_2 4 = .ok (.ifCond .eq 19, 3) := dk_153 0 19 (dk_at dksJ2_indexOf_2_0 4 rfl rfl)
theorem dJ2_indexOf_2_7 : decode cJ2_indexOf_2 7 = .ok (.aload_n 0, 1) := dk_42 (dk_at dksJ2_indexOf_2_0 7 rfl rfl)
theorem dJ2_indexOf_2_8 : decode cJ2_indexOf_2 8 = .ok (.getfield 9, 3) := dk_180 0 9 (dk_at dksJ2_indexOf_2_0 8 rfl rfl)
theorem dJ2_indexOf_2_11 : decode cJ2_indexOf_2 11 = .ok (.iload_n 1, 1) := dk_27 (dk_at dksJ2_indexOf_2_0 11 rfl rfl)
theorem dJ2_indexOf_2_12 : decode cJ2_indexOf_2 12 = .ok (.iload_n 2, 1) := dk_28 (dk_at dksJ2_indexOf_2_0 12 rfl rfl)
theorem dJ2_indexOf_2_13 : decode cJ2_indexOf_2 13 = .ok (.aload_n 0, 1) := dk_42 (dk_at dksJ2_indexOf_2_0 13 rfl rfl)
theorem dJ2_indexOf_2_14 : decode cJ2_indexOf_2 14 = .ok (.invokevirtual 505, 3) := dk_182 1 249 (dk_at dksJ2_indexOf_2_0 14 rfl rfl)
theorem dJ2_indexOf_2_17 : decode cJ2_indexOf_2 17 = .ok (.invokestatic 637, 3) := dk_184 2 125 (dk_at dksJ2_indexOf_2_0 17 rfl rfl)
theorem dJ2_indexOf_2_20 : decode cJ2_indexOf_2 20 = .ok (.goto 16, 3) := dk_167 0 16 (dk_at dksJ2_indexOf_2_0 20 rfl rfl)
theorem dJ2_indexOf_2_23 : decode cJ2_indexOf_2 23 = .ok (.aload_n 0, 1) := dk_42 (dk_at dksJ2_indexOf_2_0 23 rfl rfl)
theorem dJ2_indexOf_2_24 : decode cJ2_indexOf_2 24 = .ok (.getfield 9, 3) := dk_180 0 9 (dk_at dksJ2_indexOf_2_1 0 rfl rfl)
theorem dJ2_indexOf_2_27 : decode cJ2_indexOf_2 27 = .ok (.iload_n 1, 1) := dk_27 (dk_at dksJ2_indexOf_2_1 3 rfl rfl)
theorem dJ2_indexOf_2_28 : decode cJ2_indexOf_2 28 = .ok (.iload_n 2, 1) := dk_28 (dk_at dksJ2_indexOf_2_1 4 rfl rfl)
theorem dJ2_indexOf_2_29 : decode cJ2_indexOf_2 29 = .ok (.aload_n 0, 1) := dk_42 (dk_at dksJ2_indexOf_2_1 5 rfl rfl)
theorem dJ2_indexOf_2_30 : decode cJ2_indexOf_2 30 = .ok (.invokevirtual 505, 3) := dk_182 1 249 (dk_at dksJ2_indexOf_2_1 6 rfl rfl)
theorem dJ2_indexOf_2_33 : decode cJ2_indexOf_2 33 = .ok (.invokestatic 640, 3) := dk_184 2 128 (dk_at dksJ2_indexOf_2_1 9 rfl rfl)
theorem dJ2_indexOf_2_36 : decode cJ2_indexOf_2 36 = .ok (.ireturn, 1) := dk_172 (dk_at dksJ2_indexOf_2_1 12 rfl rfl)
abbrev cJ2_checkBoundsBeginEnd : ByteArray := prog_21_method_158_code
def yJ2_checkBoundsBeginEnd : MethodName := ⟨RJ2, "checkBoundsBeginEnd", "(III)V"⟩
def dkwJ2_checkBoundsBeginEnd_0 : List UInt8 := [26, 27, 28, 178, 4, 29, 184, 4, 38, 87, 177]
abbrev dktJ2_checkBoundsBeginEnd_0 : List UInt8 := dkwJ2_checkBoundsBeginEnd_0 ++ []
theorem dksJ2_checkBoundsBeginEnd_0 : cJ2_checkBoundsBeginEnd.data.toList.drop 0 = dktJ2_checkBoundsBeginEnd_0 := by decide +kernel
theorem dJ2_checkBoundsBeginEnd_0 : decode cJ2_checkBoundsBeginEnd 0 = .ok (.iload_n 0, 1) := dk_26 (dk_at dksJ2_checkBoundsBeginEnd_0 0 rfl rfl)
theorem dJ2_checkBoundsBeginEnd_1 : decode cJ2_checkBoundsBeginEnd 1 = .ok (.iload_n 1, 1) := dk_27 (dk_at dksJ2_checkBoundsBeginEnd_0 1 rfl rfl)
theorem dJ2_checkBoundsBeginEnd_2 : decode cJ2_checkBoundsBeginEnd 2 = .ok (.iload_n 2, 1) := dk_28 (dk_at dksJ2_checkBoundsBeginEnd_0 2 rfl rfl)
theorem dJ2_checkBoundsBeginEnd_3 : decode cJ2_checkBoundsBeginEnd 3 = .ok (.getstatic 1053, 3) := dk_178 4 29 (dk_at dksJ2_checkBoundsBeginEnd_0 3 rfl rfl)
theorem dJ2_checkBoundsBeginEnd_6 : decode cJ2_checkBoundsBeginEnd 6 = .ok (.invokestatic 1062, 3) := dk_184 4 38 (dk_at dksJ2_checkBoundsBeginEnd_0 6 rfl rfl)
theorem dJ2_checkBoundsBeginEnd_9 : decode cJ2_checkBoundsBeginEnd 9 = .ok (.pop, 1) := dk_87 (dk_at dksJ2_checkBoundsBeginEnd_0 9 rfl rfl)
theorem dJ2_checkBoundsBeginEnd_10 : decode cJ2_checkBoundsBeginEnd 10 = .ok (.return_, 1) := dk_177 (dk_at dksJ2_checkBoundsBeginEnd_0 10 rfl rfl)
theorem q98 : (Jvm.Cond.initialized "java/lang/String") ∈ lw_all := lw_g (lw_at lw_m1 11 rfl) rfl
theorem q419 : (Jvm.Cond.instanceMethod ({ cls := "java/lang/String", name := "length", desc := "()I" } : Jvm.MethodName)) ∈ lw_all := lw_g (lw_at lw_m2 92 rfl) rfl
theorem q420 : (Jvm.Cond.selects "java/lang/String" ({ cls := "java/lang/String", name := "length", desc := "()I" } : Jvm.MethodName) ({ cls := "java/lang/String", name := "length", desc := "()I" } : Jvm.MethodName)) ∈ lw_all := lw_g (lw_at lw_m2 93 rfl) rfl
theorem q421 : (Jvm.Cond.code ({ cls := "java/lang/String", name := "length", desc := "()I" } : Jvm.MethodName) prog_21_method_54_code (1 : Nat) (Option.some Jvm.ClassFile.FieldType.int)) ∈ lw_all := lw_g (lw_at lw_m2 94 rfl) rfl
theorem q422 : (Jvm.Cond.methodLink "java/lang/String" (335 : Nat) ({ cls := "java/lang/String", name := "coder", desc := "()B" } : Jvm.MethodName)) ∈ lw_all := lw_g (lw_at lw_m2 95 rfl) rfl
theorem q423 : (Jvm.Cond.instanceMethod ({ cls := "java/lang/String", name := "coder", desc := "()B" } : Jvm.MethodName)) ∈ lw_all := lw_g (lw_at lw_m2 96 rfl) rfl
theorem q424 : (Jvm.Cond.selects "java/lang/String" ({ cls := "java/lang/String", name := "coder", desc := "()B" } : Jvm.MethodName) ({ cls := "java/lang/String", name := "coder", desc := "()B" } : Jvm.MethodName)) ∈ lw_all := lw_g (lw_at lw_m2 97 rfl) rfl
theorem q425 : (Jvm.Cond.code ({ cls := "java/lang/String", name := "coder", desc := "()B" } : Jvm.MethodName) prog_21_method_152_code (1 : Nat) (Option.some Jvm.ClassFile.FieldType.byte)) ∈ lw_all := lw_g (lw_at lw_m2 98 rfl) rfl
theorem q426 : (Jvm.Cond.fieldLink "java/lang/String" (38 : Nat) "java/lang/String" "COMPACT_STRINGS" "Z") ∈ lw_all := lw_g (lw_at lw_m2 99 rfl) rfl
theorem q427 : (Jvm.Cond.laysStatic "java/lang/String" "COMPACT_STRINGS" "Z") ∈ lw_tbl := lw_at lw_m2 100 rfl
theorem q429 : (Jvm.Cond.instanceMethod ({ cls := "java/lang/String", name := "charAt", desc := "(I)C" } : Jvm.MethodName)) ∈ lw_all := lw_g (lw_at lw_m2 102 rfl) rfl
theorem q430 : (Jvm.Cond.selects "java/lang/String" ({ cls := "java/lang/String", name := "charAt", desc := "(I)C" } : Jvm.MethodName) ({ cls := "java/lang/String", name := "charAt", desc := "(I)C" } : Jvm.MethodName)) ∈ lw_all := lw_g (lw_at lw_m2 103 rfl) rfl
theorem q431 : (Jvm.Cond.code ({ cls := "java/lang/String", name := "charAt", desc := "(I)C" } : Jvm.MethodName) prog_21_method_56_code (2 : Nat) (Option.some Jvm.ClassFile.FieldType.char)) ∈ lw_all := lw_g (lw_at lw_m2 104 rfl) rfl
theorem q432 : (Jvm.Cond.methodLink "java/lang/String" (492 : Nat) ({ cls := "java/lang/String", name := "isLatin1", desc := "()Z" } : Jvm.MethodName)) ∈ lw_all := lw_g (lw_at lw_m2 105 rfl) rfl
theorem q433 : (Jvm.Cond.instanceMethod ({ cls := "java/lang/String", name := "isLatin1", desc := "()Z" } : Jvm.MethodName)) ∈ lw_all := lw_g (lw_at lw_m2 106 rfl) rfl
theorem q434 : (Jvm.Cond.selects "java/lang/String" ({ cls := "java/lang/String", name := "isLatin1", desc := "()Z" } : Jvm.MethodName) ({ cls := "java/lang/String", name := "isLatin1", desc := "()Z" } : Jvm.MethodName)) ∈ lw_all := lw_g (lw_at lw_m2 107 rfl) rfl
theorem q435 : (Jvm.Cond.code ({ cls := "java/lang/String", name := "isLatin1", desc := "()Z" } : Jvm.MethodName) prog_21_method_154_code (1 : Nat) (Option.some Jvm.ClassFile.FieldType.boolean)) ∈ lw_all := lw_g (lw_at lw_m2 108 rfl) rfl
theorem q436 : (Jvm.Cond.methodLink "java/lang/String" (495 : Nat) ({ cls := "java/lang/StringLatin1", name := "charAt", desc := "([BI)C" } : Jvm.MethodName)) ∈ lw_all := lw_g (lw_at lw_m2 109 rfl) rfl
theorem q440 : (Jvm.Cond.static ({ cls := "java/lang/String", name := "checkIndex", desc := "(II)V" } : Jvm.MethodName)) ∈ lw_all := lw_g (lw_at lw_m2 113 rfl) rfl
theorem q441 : (Jvm.Cond.code ({ cls := "java/lang/String", name := "checkIndex", desc := "(II)V" } : Jvm.MethodName) prog_21_method_155_code (2 : Nat) (Option.none : Option Jvm.ClassFile.FieldType)) ∈ lw_all := lw_g (lw_at lw_m2 114 rfl) rfl
theorem q442 : (Jvm.Cond.fieldLink "java/lang/String" (1053 : Nat) "jdk/internal/util/Preconditions" "SIOOBE_FORMATTER" "Ljava/util/function/BiFunction;") ∈ lw_all := lw_g (lw_at lw_m2 115 rfl) rfl
theorem q444 : (Jvm.Cond.methodLink "java/lang/String" (1059 : Nat) ({ cls := "jdk/internal/util/Preconditions", name := "checkIndex", desc := "(IILjava/util/function/BiFunction;)I" } : Jvm.MethodName)) ∈ lw_all := lw_g (lw_at lw_m2 117 rfl) rfl
theorem q447 : (Jvm.Cond.methodLink "java/lang/String" (498 : Nat) ({ cls := "java/lang/StringUTF16", name := "charAt", desc := "([BI)C" } : Jvm.MethodName)) ∈ lw_all := lw_g (lw_at lw_m2 120 rfl) rfl
theorem q477 : (Jvm.Cond.instanceMethod ({ cls := "java/lang/String", name := "indexOf", desc := "(I)I" } : Jvm.MethodName)) ∈ lw_all := lw_g (lw_at lw_m2 150 rfl) rfl
theorem q478 : (Jvm.Cond.selects "java/lang/String" ({ cls := "java/lang/String", name := "indexOf", desc := "(I)I" } : Jvm.MethodName) ({ cls := "java/lang/String", name := "indexOf", desc := "(I)I" } : Jvm.MethodName)) ∈ lw_all := lw_g (lw_at lw_m2 151 rfl) rfl
theorem q479 : (Jvm.Cond.code ({ cls := "java/lang/String", name := "indexOf", desc := "(I)I" } : Jvm.MethodName) prog_21_method_79_code (2 : Nat) (Option.some Jvm.ClassFile.FieldType.int)) ∈ lw_all := lw_g (lw_at lw_m2 152 rfl) rfl
theorem q480 : (Jvm.Cond.methodLink "java/lang/String" (633 : Nat) ({ cls := "java/lang/String", name := "indexOf", desc := "(II)I" } : Jvm.MethodName)) ∈ lw_all := lw_g (lw_at lw_m2 153 rfl) rfl
theorem q481 : (Jvm.Cond.instanceMethod ({ cls := "java/lang/String", name := "indexOf", desc := "(II)I" } : Jvm.MethodName)) ∈ lw_all := lw_g (lw_at lw_m2 154 rfl) rfl
theorem q482 : (Jvm.Cond.selects "java/lang/String" ({ cls := "java/lang/String", name := "indexOf", desc := "(II)I" } : Jvm.MethodName) ({ cls := "java/lang/String", name := "indexOf", desc := "(II)I" } : Jvm.MethodName)) ∈ lw_all := lw_g (lw_at lw_m2 155 rfl) rfl
theorem q483 : (Jvm.Cond.code ({ cls := "java/lang/String", name := "indexOf", desc := "(II)I" } : Jvm.MethodName) prog_21_method_80_code (3 : Nat) (Option.some Jvm.ClassFile.FieldType.int)) ∈ lw_all := lw_g (lw_at lw_m2 156 rfl) rfl
theorem q484 : (Jvm.Cond.methodLink "java/lang/String" (505 : Nat) ({ cls := "java/lang/String", name := "length", desc := "()I" } : Jvm.MethodName)) ∈ lw_all := lw_g (lw_at lw_m2 157 rfl) rfl
theorem q485 : (Jvm.Cond.methodLink "java/lang/String" (637 : Nat) ({ cls := "java/lang/StringLatin1", name := "indexOf", desc := "([BIII)I" } : Jvm.MethodName)) ∈ lw_all := lw_g (lw_at lw_m2 158 rfl) rfl
theorem q498 : (Jvm.Cond.methodLink "java/lang/String" (640 : Nat) ({ cls := "java/lang/StringUTF16", name := "indexOf", desc := "([BIII)I" } : Jvm.MethodName)) ∈ lw_all := lw_g (lw_at lw_m2 171 rfl) rfl
theorem q511 : (Jvm.Cond.static ({ cls := "java/lang/String", name := "checkBoundsBeginEnd", desc := "(III)V" } : Jvm.MethodName)) ∈ lw_all := lw_g (lw_at lw_m2 184 rfl) rfl
theorem q512 : (Jvm.Cond.code ({ cls := "java/lang/String", name := "checkBoundsBeginEnd", desc := "(III)V" } : Jvm.MethodName) prog_21_method_158_code (3 : Nat) (Option.none : Option Jvm.ClassFile.FieldType)) ∈ lw_all := lw_g (lw_at lw_m2 185 rfl) rfl
theorem q513 : (Jvm.Cond.methodLink "java/lang/String" (1062 : Nat) ({ cls := "jdk/internal/util/Preconditions", name := "checkFromToIndex", desc := "(IIILjava/util/function/BiFunction;)I" } : Jvm.MethodName)) ∈ lw_all := lw_g (lw_at lw_m2 186 rfl) rfl
theorem q1461 : (Jvm.Cond.fieldLink "java/lang/String" (9 : Nat) "java/lang/String" "value" "[B") ∈ lw_all := lw_g (lw_at lw_m6 174 rfl) rfl
theorem q1462 : (Jvm.Cond.fieldLink "java/lang/String" (15 : Nat) "java/lang/String" "coder" "B") ∈ lw_all := lw_g (lw_at lw_m6 175 rfl) rfl
/-! java/lang/StringLatin1 -/
set_option maxRecDepth 100000
def RJ3 : String := "java/lang/StringLatin1"
abbrev cJ3_charAt : ByteArray := prog_22_method_2_code
def yJ3_charAt : MethodName := ⟨RJ3, "charAt", "([BI)C"⟩
def dkwJ3_charAt_0 : List UInt8 := [27, 42, 190, 184, 0, 9, 42, 27, 51, 17, 0, 255, 126, 146, 172]
abbrev dktJ3_charAt_0 : List UInt8 := dkwJ3_charAt_0 ++ []
theorem dksJ3_charAt_0 : cJ3_charAt.data.toList.drop 0 = dktJ3_charAt_0 := by decide +kernel
theorem dJ3_charAt_0 : decode cJ3_charAt 0 = .ok (.iload_n 1, 1) := dk_27 (dk_at dksJ3_charAt_0 0 rfl rfl)
theorem dJ3_charAt_1 : decode cJ3_charAt 1 = .ok (.aload_n 0, 1) := dk_42 (dk_at dksJ3_charAt_0 1 rfl rfl)
theorem dJ3_charAt_2 : decode cJ3_charAt 2 = .ok (.arraylength, 1) := dk_190 (dk_at dksJ3_charAt_0 2 rfl rfl)
theorem dJ3_charAt_3 : decode cJ3_charAt 3 = .ok (.invokestatic 9, 3) := dk_184 0 9 (dk_at dksJ3_charAt_0 3 rfl rfl)
theorem dJ3_charAt_6 : decode cJ3_charAt 6 = .ok (.aload_n 0, 1) := dk_42 (dk_at dksJ3_charAt_0 6 rfl rfl)
theorem dJ3_charAt_7 : decode cJ3_charAt 7 = .ok (.iload_n 1, 1) := dk_27 (dk_at dksJ3_charAt_0 7 rfl rfl)
theorem dJ3_charAt_8 : decode cJ3_charAt 8 = .ok (.baload, 1) := dk_51 (dk_at dksJ3_charAt_0 8 rfl rfl)
theorem dJ3_charAt_9 : decode cJ3_charAt 9 = .ok (.sipush 255, 3) := dk_17 0 255 (dk_at dksJ3_charAt_0 9 rfl rfl)
theorem dJ3_charAt_12 : decode cJ3_charAt 12 = .ok (.iand, 1) := dk_126 (dk_at dksJ3_charAt_0 12 rfl rfl)
theorem dJ3_charAt_13 : decode cJ3_charAt 13 = .ok (.i2c, 1) := dk_146 (dk_at dksJ3_charAt_0 13 rfl rfl)
theorem dJ3_charAt_14 : decode cJ3_charAt 14 = .ok (.ireturn, 1) := dk_172 (dk_at dksJ3_charAt_0 14 rfl rfl)
abbrev cJ3_indexOf : ByteArray := prog_22_method_22_code
def yJ3_indexOf : MethodName := ⟨RJ3, "indexOf", "([BIII)I"⟩
def dkwJ3_indexOf_1 : List UInt8 := [161, 0, 5, 2, 172, 42, 27, 28, 29, 184, 0, 95, 172]
abbrev dktJ3_indexOf_1 : List UInt8 := dkwJ3_indexOf_1 ++ []
def dkwJ3_indexOf_0 : List UInt8 := [27, 184, 0, 88, 154, 0, 5, 2, 172, 28, 3, 184, 0, 92, 61, 29, 42, 190, 184, 0, 38, 62, 28, 29]
abbrev dktJ3_indexOf_0 : List UInt8 := dkwJ3_indexOf_0 ++ dktJ3_indexOf_1
theorem dksJ3_indexOf_0 : cJ3_indexOf.data.toList.drop 0 = dktJ3_indexOf_0 := by decide +kernel
theorem dksJ3_indexOf_1 : cJ3_indexOf.data.toList.drop 24 = dktJ3_indexOf_1 := dk_seg dksJ3_indexOf_0 24 rfl rfl
theorem dJ3_indexOf_0 : decode cJ3_indexOf 0 = .ok (.iload_n 1, 1) := dk_27 (dk_at dksJ3_indexOf_0 0 rfl rfl)
theorem dJ3_indexOf_1 : decode cJ3_indexOf 1 = .ok (.invokestatic 88, 3) := dk_184 0 88 (dk_at dksJ3_indexOf_0 1 rfl rfl)
theorem dJ3_indexOf_4 : decode cJ3_indexOf 4 = .ok (.ifCond .ne 5, 3) := dk_154 0 5 (dk_at dksJ3_indexOf_0 4 rfl rfl)
theorem dJ3_indexOf_7 : decode cJ3_indexOf 7 = .ok (.iconst (-1), 1) := dk_2 (dk_at dksJ3_indexOf_0 7 rfl rfl)
theorem dJ3_indexOf_8 : decode cJ3_indexOf 8 = .ok (.ireturn, 1) := dk_172 (dk_at dksJ3_indexOf_0 8 rfl rfl)
theorem dJ3_indexOf_9 : decode cJ3_indexOf 9 = .ok (.iload_n 2, 1) := dk_28 (dk_at dksJ3_indexOf_0 9 rfl rfl)
theorem dJ3_indexOf_10 : decode cJ3_indexOf 10 = .ok (.iconst 0, 1) := dk_3 (dk_at dksJ3_indexOf_0 10 rfl rfl)
theorem dJ3_indexOf_11 : decode cJ3_indexOf 11 = .ok (.invokestatic 92, 3) := dk_184 0 92 (dk_at dksJ3_indexOf_0 11 rfl rfl)
theorem dJ3_indexOf_14 : decode cJ3_indexOf 14 = .ok (.istore_n 2, 1) := dk_61 (dk_at dksJ3_indexOf_0 14 rfl rfl)
theorem dJ3_indexOf_15 : decode cJ3_indexOf 15 = .ok (.iload_n 3, 1) := dk_29 (dk_at dksJ3_indexOf_0 15 rfl rfl)
theorem dJ3_indexOf_16 : decode cJ3_indexOf 16 = .ok (.aload_n 0, 1) := dk_42 (dk_at dksJ3_indexOf_0 16 rfl rfl)
theorem dJ3_indexOf_17 : decode cJ3_indexOf 17 = .ok (.arraylength, 1) := dk_190 (dk_at dksJ3_indexOf_0 17 rfl rfl)
theorem dJ3_indexOf_18 : decode cJ3_indexOf 18 = .ok (.invokestatic 38, 3) := dk_184 0 38 (dk_at dksJ3_indexOf_0 18 rfl rfl)
theorem dJ3_indexOf_21 : decode cJ3_indexOf 21 = .ok (.istore_n 3, 1) := dk_62 (dk_at dksJ3_indexOf_0 21 rfl rfl)
theorem dJ3_indexOf_22 : decode cJ3_indexOf 22 = .ok (.iload_n 2, 1) := dk_28 (dk_at dksJ3_indexOf_0 22 rfl rfl)
theorem dJ3_indexOf_23 : decode cJ3_indexOf 23 = .ok (.iload_n 3, 1) := dk_29 (dk_at dksJ3_indexOf_0 23 rfl rfl)
theorem dJ3_indexOf_24 : decode cJ3_indexOf 24 = .ok (.if_icmp .lt 5, 3) := dk_161 0 5 (dk_at dksJ3_indexOf_1 0 rfl rfl)
theorem dJ3_indexOf_27 : decode cJ3_indexOf 27 = .ok (.iconst (-1), 1) := dk_2 (dk_at dksJ3_indexOf_1 3 rfl rfl)
theorem dJ3_indexOf_28 : decode cJ3_indexOf 28 = .ok (.ireturn, 1) := dk_172 (dk_at dksJ3_indexOf_1 4 rfl rfl)
theorem dJ3_indexOf_29 : decode cJ3_indexOf 29 = .ok (.aload_n 0, 1) := dk_42 (dk_at dksJ3_indexOf_1 5 rfl rfl)
theorem dJ3_indexOf_30 : decode cJ3_indexOf 30 = .ok (.iload_n 1, 1) := dk_27 (dk_at dksJ3_indexOf_1 6 rfl rfl)
theorem dJ3_indexOf_31 : decode cJ3_indexOf 31 = .ok (.iload_n 2, 1) := dk_28 (dk_at dksJ3_indexOf_1 7 rfl rfl)
theorem dJ3_indexOf_32 : decode cJ3_indexOf 32 = .ok (.iload_n 3, 1) := dk_29 (dk_at dksJ3_indexOf_1 8 rfl rfl)
theorem dJ3_indexOf_33 : decode cJ3_indexOf 33 = .ok (.invokestatic 95, 3) := dk_184 0 95 (dk_at dksJ3_indexOf_1 9 rfl rfl)
theorem dJ3_indexOf_36 : decode cJ3_indexOf 36 = .ok (.ireturn, 1) := dk_172 (dk_at dksJ3_indexOf_1 12 rfl rfl)
abbrev cJ3_canEncode : ByteArray := prog_22_method_4_code
def yJ3_canEncode : MethodName := ⟨RJ3, "canEncode", "(I)Z"⟩
def dkwJ3_canEncode_0 : List UInt8 := [26, 155, 0, 14, 26, 17, 0, 255, 163, 0, 7, 4, 167, 0, 4, 3, 172]
abbrev dktJ3_canEncode_0 : List UInt8 := dkwJ3_canEncode_0 ++ []
theorem dksJ3_canEncode_0 : cJ3_canEncode.data.toList.drop 0 = dktJ3_canEncode_0 := by decide +kernel
theorem dJ3_canEncode_0 : decode cJ3_canEncode 0 = .ok (.iload_n 0, 1) := dk_26 (dk_at dksJ3_canEncode_0 0 rfl rfl)
theorem dJ3_canEncode_1 : decode cJ3_canEncode 1 = .ok (.ifCond .lt 14, 3) := dk_155 0 14 (dk_at dksJ3_canEncode_0 1 rfl rfl)
theorem dJ3_canEncode_4 : decode cJ3_canEncode 4 = .ok (.iload_n 0, 1) := dk_26 (dk_at dksJ3_canEncode_0 4 rfl rfl)
theorem dJ3_canEncode_5 : decode cJ3_canEncode 5 = .ok (.sipush 255, 3) := dk_17 0 255 (dk_at dksJ3_canEncode_0 5 rfl rfl)
theorem dJ3_canEncode_8 : decode cJ3_canEncode 8 = .ok (.if_icmp .gt 7, 3) := dk_163 0 7 (dk_at dksJ3_canEncode_0 8 rfl rfl)
theorem dJ3_canEncode_11 : decode cJ3_canEncode 11 = .ok (.iconst 1, 1) := dk_4 (dk_at dksJ3_canEncode_0 11 rfl rfl)
theorem dJ3_canEncode_12 : decode cJ3_canEncode 12 = .ok (.goto 4, 3) := dk_167 0 4 (dk_at dksJ3_canEncode_0 12 rfl rfl)
theorem dJ3_canEncode_15 : decode cJ3_canEncode 15 = .ok (.iconst 0, 1) := dk_3 (dk_at dksJ3_canEncode_0 15 rfl rfl)
theorem dJ3_canEncode_16 : decode cJ3_canEncode 16 = .ok (.ireturn, 1) := dk_172 (dk_at dksJ3_canEncode_0 16 rfl rfl)
abbrev cJ3_indexOfChar : ByteArray := prog_22_method_23_code
def yJ3_indexOfChar : MethodName := ⟨RJ3, "indexOfChar", "([BIII)I"⟩
def dkwJ3_indexOfChar_1 : List UInt8 := [172, 132, 5, 1, 167, 255, 235, 2, 172]
abbrev dktJ3_indexOfChar_1 : List UInt8 := dkwJ3_indexOfChar_1 ++ []
def dkwJ3_indexOfChar_0 : List UInt8 := [27, 145, 54, 4, 28, 54, 5, 21, 5, 29, 162, 0, 21, 42, 21, 5, 51, 21, 4, 160, 0, 6, 21, 5]
abbrev dktJ3_indexOfChar_0 : List UInt8 := dkwJ3_indexOfChar_0 ++ dktJ3_indexOfChar_1
theorem dksJ3_indexOfChar_0 : cJ3_indexOfChar.data.toList.drop 0 = dktJ3_indexOfChar_0 := by decide +kernel
theorem dksJ3_indexOfChar_1 : cJ3_indexOfChar.data.toList.drop 24 = dktJ3_indexOfChar_1 := dk_seg dksJ3_indexOfChar_0 24 rfl rfl
theorem dJ3_indexOfChar_0 : decode cJ3_indexOfChar 0 = .ok (.iload_n 1, 1) := dk_27 (dk_at dksJ3_indexOfChar_0 0 rfl rfl)
theorem dJ3_indexOfChar_1 : decode cJ3_indexOfChar 1 = .ok (.i2b, 1) := dk_145 (dk_at dksJ3_indexOfChar_0 1 rfl rfl)
theorem dJ3_indexOfChar_2 : decode cJ3_indexOfChar 2 = .ok (.istore 4, 2) := dk_54 4 (dk_at dksJ3_indexOfChar_0 2 rfl rfl)
theorem dJ3_indexOfChar_4 : decode cJ3_indexOfChar 4 = .ok (.iload_n 2, 1) := dk_28 (dk_at dksJ3_indexOfChar_0 4 rfl rfl)
theorem dJ3_indexOfChar_5 : decode cJ3_indexOfChar 5 = .ok (.istore 5, 2) := dk_54 5 (dk_at dksJ3_indexOfChar_0 5 rfl rfl)
theorem dJ3_indexOfChar_7 : decode cJ3_indexOfChar 7 = .ok (.iload 5, 2) := dk_21 5 (dk_at dksJ3_indexOfChar_0 7 rfl rfl)
theorem dJ3_indexOfChar_9 : decode cJ3_indexOfChar 9 = .ok (.iload_n 3, 1) := dk_29 (dk_at dksJ3_indexOfChar_0 9 rfl rfl)
theorem dJ3_indexOfChar_10 : decode cJ3_indexOfChar 10 = .ok (.if_icmp .ge 21, 3) := dk_162 0 21 (dk_at dksJ3_indexOfChar_0 10 rfl rfl)
theorem dJ3_indexOfChar_13 : decode cJ3_indexOfChar 13 = .ok (.aload_n 0, 1) := dk_42 (dk_at dksJ3_indexOfChar_0 13 rfl rfl)
theorem dJ3_indexOfChar_14 : decode cJ3_indexOfChar 14 = .ok (.iload 5, 2) := dk_21 5 (dk_at dksJ3_indexOfChar_0 14 rfl rfl)
theorem dJ3_indexOfChar_16 : decode cJ3_indexOfChar 16 = .ok (.baload, 1) := dk_51 (dk_at dksJ3_indexOfChar_0 16 rfl rfl)
theorem dJ3_indexOfChar_17 : decode cJ3_indexOfChar 17 = .ok (.iload 4, 2) := dk_21 4 (dk_at dksJ3_indexOfChar_0 17 rfl rfl)
theorem dJ3_indexOfChar_19 : decode cJ3_indexOfChar 19 = .ok (.if_icmp .ne 6, 3) := dk_160 0 6 (dk_at dksJ3_indexOfChar_0 19 rfl rfl)
theorem dJ3_indexOfChar_22 : decode cJ3_indexOfChar 22 = .ok (.iload 5, 2) := dk_21 5 (dk_at dksJ3_indexOfChar_0 22 rfl rfl)
theorem dJ3_indexOfChar_24 : decode cJ3_indexOfChar 24 = .ok (.ireturn, 1) := dk_172 (dk_at dksJ3_indexOfChar_1 0 rfl rfl)
theorem dJ3_indexOfChar_25 : decode cJ3_indexOfChar 25 = .ok (.iinc 5 1, 3) := dk_132 5 1 (dk_at dksJ3_indexOfChar_1 1 rfl rfl)
theorem dJ3_indexOfChar_28 : decode cJ3_indexOfChar 28 = .ok (.goto (-21), 3) := dk_167 255 235 (dk_at dksJ3_indexOfChar_1 4 rfl rfl)
theorem dJ3_indexOfChar_31 : decode cJ3_indexOfChar 31 = .ok (.iconst (-1), 1) := dk_2 (dk_at dksJ3_indexOfChar_1 7 rfl rfl)
theorem dJ3_indexOfChar_32 : decode cJ3_indexOfChar 32 = .ok (.ireturn, 1) := dk_172 (dk_at dksJ3_indexOfChar_1 8 rfl rfl)
theorem q99 : (Jvm.Cond.initialized "java/lang/StringLatin1") ∈ lw_all := lw_g (lw_at lw_m1 12 rfl) rfl
theorem q437 : (Jvm.Cond.static ({ cls := "java/lang/StringLatin1", name := "charAt", desc := "([BI)C" } : Jvm.MethodName)) ∈ lw_all := lw_g (lw_at lw_m2 110 rfl) rfl
theorem q438 : (Jvm.Cond.code ({ cls := "java/lang/StringLatin1", name := "charAt", desc := "([BI)C" } : Jvm.MethodName) prog_22_method_2_code (2 : Nat) (Option.some Jvm.ClassFile.FieldType.char)) ∈ lw_all := lw_g (lw_at lw_m2 111 rfl) rfl
theorem q439 : (Jvm.Cond.methodLink "java/lang/StringLatin1" (9 : Nat) ({ cls := "java/lang/String", name := "checkIndex", desc := "(II)V" } : Jvm.MethodName)) ∈ lw_all := lw_g (lw_at lw_m2 112 rfl) rfl
theorem q486 : (Jvm.Cond.static ({ cls := "java/lang/StringLatin1", name := "indexOf", desc := "([BIII)I" } : Jvm.MethodName)) ∈ lw_all := lw_g (lw_at lw_m2 159 rfl) rfl
theorem q487 : (Jvm.Cond.code ({ cls := "java/lang/StringLatin1", name := "indexOf", desc := "([BIII)I" } : Jvm.MethodName) prog_22_method_22_code (4 : Nat) (Option.some Jvm.ClassFile.FieldType.int)) ∈ lw_all := lw_g (lw_at lw_m2 160 rfl) rfl
theorem q488 : (Jvm.Cond.methodLink "java/lang/StringLatin1" (88 : Nat) ({ cls := "java/lang/StringLatin1", name := "canEncode", desc := "(I)Z" } : Jvm.MethodName)) ∈ lw_all := lw_g (lw_at lw_m2 161 rfl) rfl
theorem q489 : (Jvm.Cond.static ({ cls := "java/lang/StringLatin1", name := "canEncode", desc := "(I)Z" } : Jvm.MethodName)) ∈ lw_all := lw_g (lw_at lw_m2 162 rfl) rfl
theorem q490 : (Jvm.Cond.code ({ cls := "java/lang/StringLatin1", name := "canEncode", desc := "(I)Z" } : Jvm.MethodName) prog_22_method_4_code (1 : Nat) (Option.some Jvm.ClassFile.FieldType.boolean)) ∈ lw_all := lw_g (lw_at lw_m2 163 rfl) rfl
theorem q491 : (Jvm.Cond.methodLink "java/lang/StringLatin1" (92 : Nat) ({ cls := "java/lang/Math", name := "max", desc := "(II)I" } : Jvm.MethodName)) ∈ lw_all := lw_g (lw_at lw_m2 164 rfl) rfl
theorem q494 : (Jvm.Cond.methodLink "java/lang/StringLatin1" (38 : Nat) ({ cls := "java/lang/Math", name := "min", desc := "(II)I" } : Jvm.MethodName)) ∈ lw_all := lw_g (lw_at lw_m2 167 rfl) rfl
theorem q495 : (Jvm.Cond.methodLink "java/lang/StringLatin1" (95 : Nat) ({ cls := "java/lang/StringLatin1", name := "indexOfChar", desc := "([BIII)I" } : Jvm.MethodName)) ∈ lw_all := lw_g (lw_at lw_m2 168 rfl) rfl
theorem q496 : (Jvm.Cond.static ({ cls := "java/lang/StringLatin1", name := "indexOfChar", desc := "([BIII)I" } : Jvm.MethodName)) ∈ lw_all := lw_g (lw_at lw_m2 169 rfl) rfl
theorem q497 : (Jvm.Cond.code ({ cls := "java/lang/StringLatin1", name := "indexOfChar", desc := "([BIII)I" } : Jvm.MethodName) prog_22_method_23_code (6 : Nat) (Option.some Jvm.ClassFile.FieldType.int)) ∈ lw_all := lw_g (lw_at lw_m2 170 rfl) rfl
/-! jdk/internal/util/Preconditions -/
set_option maxRecDepth 100000
def RJ4 : String := "jdk/internal/util/Preconditions"
abbrev cJ4_checkIndex : ByteArray := prog_27_method_11_code
def yJ4_checkIndex : MethodName := ⟨RJ4, "checkIndex", "(IILjava/util/function/BiFunction;)I"⟩
def dkwJ4_checkIndex_0 : List UInt8 := [26, 155, 0, 8, 26, 27, 161, 0, 10, 44, 26, 27, 184, 0, 95, 191, 26, 172]
abbrev dktJ4_checkIndex_0 : List UInt8 := dkwJ4_checkIndex_0 ++ []
theorem dksJ4_checkIndex_0 : cJ4_checkIndex.data.toList.drop 0 = dktJ4_checkIndex_0 := by decide +kernel
theorem dJ4_checkIndex_0 : decode cJ4_checkIndex 0 = .ok (.iload_n 0, 1) := dk_26 (dk_at dksJ4_checkIndex_0 0 rfl rfl)
theorem dJ4_checkIndex_1 : decode cJ4_checkIndex 1 = .ok (.ifCond .lt 8, 3) := dk_155 0 8 (dk_at dksJ4_checkIndex_0 1 rfl rfl)
theorem dJ4_checkIndex_4 : decode cJ4_checkIndex 4 = .ok (.iload_n 0, 1) := dk_26 (dk_at dksJ4_checkIndex_0 4 rfl rfl)
theorem dJ4_checkIndex_5 : decode cJ4_checkIndex 5 = .ok (.iload_n 1, 1) := dk_27 (dk_at dksJ4_checkIndex_0 5 rfl rfl)
theorem dJ4_checkIndex_6 : decode cJ4_checkIndex 6 = .ok (.if_icmp .lt 10, 3) := dk_161 0 10 (dk_at dksJ4_checkIndex_0 6 rfl rfl)
theorem dJ4_checkIndex_9 : decode cJ4_checkIndex 9 = .ok (.aload_n 2, 1) := dk_44 (dk_at dksJ4_checkIndex_0 9 rfl rfl)
theorem dJ4_checkIndex_10 : decode cJ4_checkIndex 10 = .ok (.iload_n 0, 1) := dk_26 (dk_at dksJ4_checkIndex_0 10 rfl rfl)
theorem dJ4_checkIndex_11 : decode cJ4_checkIndex 11 = .ok (.iload_n 1, 1) := dk_27 (dk_at dksJ4_checkIndex_0 11 rfl rfl)
theorem dJ4_checkIndex_12 : decode cJ4_checkIndex 12 = .ok (.invokestatic 95, 3) := dk_184 0 95 (dk_at dksJ4_checkIndex_0 12 rfl rfl)
theorem dJ4_checkIndex_15 : decode cJ4_checkIndex 15 = .ok (.athrow, 1) := dk_191 (dk_at dksJ4_checkIndex_0 15 rfl rfl)
theorem dJ4_checkIndex_16 : decode cJ4_checkIndex 16 = .ok (.iload_n 0, 1) := dk_26 (dk_at dksJ4_checkIndex_0 16 rfl rfl)
theorem dJ4_checkIndex_17 : decode cJ4_checkIndex 17 = .ok (.ireturn, 1) := dk_172 (dk_at dksJ4_checkIndex_0 17 rfl rfl)
abbrev cJ4_checkFromToIndex : ByteArray := prog_27_method_12_code
def yJ4_checkFromToIndex : MethodName := ⟨RJ4, "checkFromToIndex", "(IIILjava/util/function/BiFunction;)I"⟩
def dkwJ4_checkFromToIndex_0 : List UInt8 := [26, 155, 0, 13, 26, 27, 163, 0, 8, 27, 28, 164, 0, 11, 45, 26, 27, 28, 184, 0, 99, 191, 26, 172]
abbrev dktJ4_checkFromToIndex_0 : List UInt8 := dkwJ4_checkFromToIndex_0 ++ []
theorem dksJ4_checkFromToIndex_0 : cJ4_checkFromToIndex.data.toList.drop 0 = dktJ4_checkFromToIndex_0 := by decide +kernel
theorem dJ4_checkFromToIndex_0 : decode cJ4_checkFromToIndex 0 = .ok (.iload_n 0, 1) := dk_26 (dk_at dksJ4_checkFromToIndex_0 0 rfl rfl)
theorem dJ4_checkFromToIndex_1 : decode cJ4_checkFromToIndex 1 = .ok (.ifCond .lt 13, 3) := dk_155 0 13 (dk_at dksJ4_checkFromToIndex_0 1 rfl rfl)
theorem dJ4_checkFromToIndex_4 : decode cJ4_checkFromToIndex 4 = .ok (.iload_n 0, 1) := dk_26 (dk_at dksJ4_checkFromToIndex_0 4 rfl rfl)
theorem dJ4_checkFromToIndex_5 : decode cJ4_checkFromToIndex 5 = .ok (.iload_n 1, 1) := dk_27 (dk_at dksJ4_checkFromToIndex_0 5 rfl rfl)
theorem dJ4_checkFromToIndex_6 : decode cJ4_checkFromToIndex 6 = .ok (.if_icmp .gt 8, 3) := dk_163 0 8 (dk_at dksJ4_checkFromToIndex_0 6 rfl rfl)
theorem dJ4_checkFromToIndex_9 : decode cJ4_checkFromToIndex 9 = .ok (.iload_n 1, 1) := dk_27 (dk_at dksJ4_checkFromToIndex_0 9 rfl rfl)
theorem dJ4_checkFromToIndex_10 : decode cJ4_checkFromToIndex 10 = .ok (.iload_n 2, 1) := dk_28 (dk_at dksJ4_checkFromToIndex_0 10 rfl rfl)
theorem dJ4_checkFromToIndex_11 : decode cJ4_checkFromToIndex 11 = .ok (.if_icmp .le 11, 3) := dk_164 0 11 (dk_at dksJ4_checkFromToIndex_0 11 rfl rfl)
theorem dJ4_checkFromToIndex_14 : decode cJ4_checkFromToIndex 14 = .ok (.aload_n 3, 1) := dk_45 (dk_at dksJ4_checkFromToIndex_0 14 rfl rfl)
theorem dJ4_checkFromToIndex_15 : decode cJ4_checkFromToIndex 15 = .ok (.iload_n 0, 1) := dk_26 (dk_at dksJ4_checkFromToIndex_0 15 rfl rfl)
theorem dJ4_checkFromToIndex_16 : decode cJ4_checkFromToIndex 16 = .ok (.iload_n 1, 1) := dk_27 (dk_at dksJ4_checkFromToIndex_0 16 rfl rfl)
theorem dJ4_checkFromToIndex_17 : decode cJ4_checkFromToIndex 17 = .ok (.iload_n 2, 1) := dk_28 (dk_at dksJ4_checkFromToIndex_0 17 rfl rfl)
theorem dJ4_checkFromToIndex_18 : decode cJ4_checkFromToIndex 18 = .ok (.invokestatic 99, 3) := dk_184 0 99 (dk_at dksJ4_checkFromToIndex_0 18 rfl rfl)
theorem dJ4_checkFromToIndex_21 : decode cJ4_checkFromToIndex 21 = .ok (.athrow, 1) := dk_191 (dk_at dksJ4_checkFromToIndex_0 21 rfl rfl)
theorem dJ4_checkFromToIndex_22 : decode cJ4_checkFromToIndex 22 = .ok (.iload_n 0, 1) := dk_26 (dk_at dksJ4_checkFromToIndex_0 22 rfl rfl)
theorem dJ4_checkFromToIndex_23 : decode cJ4_checkFromToIndex 23 = .ok (.ireturn, 1) := dk_172 (dk_at dksJ4_checkFromToIndex_0 23 rfl rfl)
theorem q100 : (Jvm.Cond.initialized "jdk/internal/util/Preconditions") ∈ lw_all := lw_g (lw_at lw_m1 13 rfl) rfl
theorem q443 : (Jvm.Cond.laysStatic "jdk/internal/util/Preconditions" "SIOOBE_FORMATTER" "Ljava/util/function/BiFunction;") ∈ lw_tbl := lw_at lw_m2 116 rfl
theorem q445 : (Jvm.Cond.static ({ cls := "jdk/internal/util/Preconditions", name := "checkIndex", desc := "(IILjava/util/function/BiFunction;)I" } : Jvm.MethodName)) ∈ lw_all := lw_g (lw_at lw_m2 118 rfl) rfl
theorem q446 : (Jvm.Cond.code ({ cls := "jdk/internal/util/Preconditions", name := "checkIndex", desc := "(IILjava/util/function/BiFunction;)I" } : Jvm.MethodName) prog_27_method_11_code (3 : Nat) (Option.some Jvm.ClassFile.FieldType.int)) ∈ lw_all := lw_g (lw_at lw_m2 119 rfl) rfl
theorem q514 : (Jvm.Cond.static ({ cls := "jdk/internal/util/Preconditions", name := "checkFromToIndex", desc := "(IIILjava/util/function/BiFunction;)I" } : Jvm.MethodName)) ∈ lw_all := lw_g (lw_at lw_m2 187 rfl) rfl
theorem q515 : (Jvm.Cond.code ({ cls := "jdk/internal/util/Preconditions", name := "checkFromToIndex", desc := "(IIILjava/util/function/BiFunction;)I" } : Jvm.MethodName) prog_27_method_12_code (4 : Nat) (Option.some Jvm.ClassFile.FieldType.int)) ∈ lw_all := lw_g (lw_at lw_m2 188 rfl) rfl
/-! java/lang/Throwable -/
set_option maxRecDepth 100000
def RJ7 : String := "java/lang/Throwable"
def TJ7 : u_T := fun k => match k with
  | 0 => ("java/lang/Throwable", "cause", "Ljava/lang/Throwable;", false)
  | 1 => ("java/lang/Throwable", "stackTrace", "[Ljava/lang/StackTraceElement;", false)
  | 2 => ("java/lang/Throwable", "suppressedExceptions", "Ljava/util/List;", false)
  | 3 => ("java/lang/Throwable", "detailMessage", "Ljava/lang/String;", false)
  | _ => ("java/lang/Throwable", "backtrace", "Ljava/lang/Object;", false)
def tyJ7 : Nat → FieldType := fun k => match k with
  | 0 => .object "java/lang/Throwable"
  | 1 => .array (.object "java/lang/StackTraceElement")
  | 2 => .object "java/util/List"
  | 3 => .object "java/lang/String"
  | _ => .object "java/lang/Object"
abbrev wsJ70 : List Cond := u_ws RJ7 TJ7 5
theorem nmJ7 : ∀ a, a < 5 → ∀ b, b < 5 → a ≠ b → (TJ7 a).2.1 ≠ (TJ7 b).2.1 := by decide +kernel
theorem tyJ7_ok : ∀ k, k < 5 → parseFieldDescriptor (TJ7 k).2.2.1 = some (tyJ7 k) := by decide +kernel
abbrev cJ7_init : ByteArray := prog_25_method_1_code
def yJ7_init : MethodName := ⟨RJ7, "<init>", "()V"⟩
def dkwJ7_init_1 : List UInt8 := [182, 0, 27, 87, 177]
abbrev dktJ7_init_1 : List UInt8 := dkwJ7_init_1 ++ []
def dkwJ7_init_0 : List UInt8 := [42, 183, 0, 1, 42, 42, 181, 0, 7, 42, 178, 0, 13, 181, 0, 17, 42, 178, 0, 20, 181, 0, 24, 42]
abbrev dktJ7_init_0 : List UInt8 := dkwJ7_init_0 ++ dktJ7_init_1
theorem dksJ7_init_0 : cJ7_init.data.toList.drop 0 = dktJ7_init_0 := by decide +kernel
theorem dksJ7_init_1 : cJ7_init.data.toList.drop 24 = dktJ7_init_1 := dk_seg dksJ7_init_0 24 rfl rfl
theorem dJ7_init_0 : decode cJ7_init 0 = .ok (.aload_n 0, 1) := dk_42 (dk_at dksJ7_init_0 0 rfl rfl)
theorem dJ7_init_1 : decode cJ7_init 1 = .ok (.invokespecial 1, 3) := dk_183 0 1 (dk_at dksJ7_init_0 1 rfl rfl)
theorem dJ7_init_4 : decode cJ7_init 4 = .ok (.aload_n 0, 1) := dk_42 (dk_at dksJ7_init_0 4 rfl rfl)
theorem dJ7_init_5 : decode cJ7_init 5 = .ok (.aload_n 0, 1) := dk_42 (dk_at dksJ7_init_0 5 rfl rfl)
theorem dJ7_init_6 : decode cJ7_init 6 = .ok (.putfield 7, 3) := dk_181 0 7 (dk_at dksJ7_init_0 6 rfl rfl)
theorem dJ7_init_9 : decode cJ7_init 9 = .ok (.aload_n 0, 1) := dk_42 (dk_at dksJ7_init_0 9 rfl rfl)
theorem dJ7_init_10 : decode cJ7_init 10 = .ok (.getstatic 13, 3) := dk_178 0 13 (dk_at dksJ7_init_0 10 rfl rfl)
theorem dJ7_init_13 : decode cJ7_init 13 = .ok (.putfield 17, 3) := dk_181 0 17 (dk_at dksJ7_init_0 13 rfl rfl)
theorem dJ7_init_16 : decode cJ7_init 16 = .ok (.aload_n 0, 1) := dk_42 (dk_at dksJ7_init_0 16 rfl rfl)
theorem dJ7_init_17 : decode cJ7_init 17 = .ok (.getstatic 20, 3) := dk_178 0 20 (dk_at dksJ7_init_0 17 rfl rfl)
theorem dJ7_init_20 : decode cJ7_init 20 = .ok (.putfield 24, 3) := dk_181 0 24 (dk_at dksJ7_init_0 20 rfl rfl)
theorem dJ7_init_23 : decode cJ7_init 23 = .ok (.aload_n 0, 1) := dk_42 (dk_at dksJ7_init_0 23 rfl rfl)
theorem dJ7_init_24 : decode cJ7_init 24 = .ok (.invokevirtual 27, 3) := dk_182 0 27 (dk_at dksJ7_init_1 0 rfl rfl)
theorem dJ7_init_27 : decode cJ7_init 27 = .ok (.pop, 1) := dk_87 (dk_at dksJ7_init_1 3 rfl rfl)
theorem dJ7_init_28 : decode cJ7_init 28 = .ok (.return_, 1) := dk_177 (dk_at dksJ7_init_1 4 rfl rfl)
abbrev cJ7_init_2 : ByteArray := prog_25_method_5_code
def yJ7_init_2 : MethodName := ⟨RJ7, "<init>", "(Ljava/lang/String;Ljava/lang/Throwable;ZZ)V"⟩
def dkwJ7_init_2_2 : List UInt8 := [44, 181, 0, 7, 29, 154, 0, 8, 42, 1, 181, 0, 24, 177]
abbrev dktJ7_init_2_2 : List UInt8 := dkwJ7_init_2_2 ++ []
def dkwJ7_init_2_1 : List UInt8 := [21, 4, 153, 0, 11, 42, 182, 0, 27, 87, 167, 0, 8, 42, 1, 181, 0, 17, 42, 43, 181, 0, 31, 42]
abbrev dktJ7_init_2_1 : List UInt8 := dkwJ7_init_2_1 ++ dktJ7_init_2_2
def dkwJ7_init_2_0 : List UInt8 := [42, 183, 0, 1, 42, 42, 181, 0, 7, 42, 178, 0, 13, 181, 0, 17, 42, 178, 0, 20, 181, 0, 24]
abbrev dktJ7_init_2_0 : List UInt8 := dkwJ7_init_2_0 ++ dktJ7_init_2_1
theorem dksJ7_init_2_0 : cJ7_init_2.data.toList.drop 0 = dktJ7_init_2_0 := by decide +kernel
theorem dksJ7_init_2_1 : cJ7_init_2.data.toList.drop 23 = dktJ7_init_2_1 := dk_seg dksJ7_init_2_0 23 rfl rfl
theorem dksJ7_init_2_2 : cJ7_init_2.data.toList.drop 47 = dktJ7_init_2_2 := dk_seg dksJ7_init_2_1 24 rfl rfl
theorem dJ7_init_2_0 : decode cJ7_init_2 0 = .ok (.aload_n 0, 1) := dk_42 (dk_at dksJ7_init_2_0 0 rfl rfl)
theorem dJ7_init_2_1 : decode cJ7_init_2 1 = .ok (.invokespecial 1, 3) := dk_183 0 1 (dk_at dksJ7_init_2_0 1 rfl rfl)
theorem dJ7_init_2_4 : decode cJ7_init_2 4 = .ok (.aload_n 0, 1) := dk_42 (dk_at dksJ7_init_2_0 4 rfl rfl)
theorem dJ7_init_2_5 : decode cJ7_init_2 5 = .ok (.aload_n 0, 1) := dk_42 (dk_at dksJ7_init_2_0 5 rfl rfl)
theorem dJ7_init_2_6 : decode cJ7_init_2 6 = .ok (.putfield 7, 3) := dk_181 0 7 (dk_at dksJ7_init_2_0 6 rfl rfl)
theorem dJ7_init_2_9 : decode cJ7_init_2 9 = .ok (.aload_n 0, 1) := dk_42 (dk_at dksJ7_init_2_0 9 rfl rfl)
theorem dJ7_init_2_10 : decode cJ7_init_2 10 = .ok (.getstatic 13, 3) := dk_178 0 13 (dk_at dksJ7_init_2_0 10 rfl rfl)
theorem dJ7_init_2_13 : decode cJ7_init_2 13 = .ok (.putfield 17, 3) := dk_181 0 17 (dk_at dksJ7_init_2_0 13 rfl rfl)
theorem dJ7_init_2_16 : decode cJ7_init_2 16 = .ok (.aload_n 0, 1) := dk_42 (dk_at dksJ7_init_2_0 16 rfl rfl)
theorem dJ7_init_2_17 : decode cJ7_init_2 17 = .ok (.getstatic 20, 3) := dk_178 0 20 (dk_at dksJ7_init_2_0 17 rfl rfl)
theorem dJ7_init_2_20 : decode cJ7_init_2 20 = .ok (.putfield 24, 3) := dk_181 0 24 (dk_at dksJ7_init_2_0 20 rfl rfl)
theorem dJ7_init_2_23 : decode cJ7_init_2 23 = .ok (.iload 4, 2) := dk_21 4 (dk_at dksJ7_init_2_1 0 rfl rfl)
theorem dJ7_init_2_25 : decode cJ7_init_2 25 = .ok (.ifCond .eq 11, 3) := dk_153 0 11 (dk_at dksJ7_init_2_1 2 rfl rfl)
theorem dJ7_init_2_28 : decode cJ7_init_2 28 = .ok (.aload_n 0, 1) := dk_42 (dk_at dksJ7_init_2_1 5 rfl rfl)
theorem dJ7_init_2_29 : decode cJ7_init_2 29 = .ok (.invokevirtual 27, 3) := dk_182 0 27 (dk_at dksJ7_init_2_1 6 rfl rfl)
theorem dJ7_init_2_32 : decode cJ7_init_2 32 = .ok (.pop, 1) := dk_87 (dk_at dksJ7_init_2_1 9 rfl rfl)
theorem dJ7_init_2_33 : decode cJ7_init_2 33 = .ok (.goto 8, 3) := dk_167 0 8 (dk_at dksJ7_init_2_1 10 rfl rfl)
theorem dJ7_init_2_36 : decode cJ7_init_2 36 = .ok (.aload_n 0, 1) := dk_42 (dk_at dksJ7_init_2_1 13 rfl rfl)
theorem dJ7_init_2_37 : decode cJ7_init_2 37 = .ok (.aconst_null, 1) := dk_1 (dk_at dksJ7_init_2_1 14 rfl rfl)
theorem dJ7_init_2_38 : decode cJ7_init_2 38 = .ok (.putfield 17, 3) := dk_181 0 17 (dk_at dksJ7_init_2_1 15 rfl rfl)
theorem dJ7_init_2_41 : decode cJ7_init_2 41 = .ok (.aload_n 0, 1) := dk_42 (dk_at dksJ7_init_2_1 18 rfl rfl)
theorem dJ7_init_2_42 : decode cJ7_init_2 42 = .ok (.aload_n 1, 1) := dk_43 (dk_at dksJ7_init_2_1 19 rfl rfl)
theorem dJ7_init_2_43 : decode cJ7_init_2 43 = .ok (.putfield 31, 3) := dk_181 0 31 (dk_at dksJ7_init_2_1 20 rfl rfl)
theorem dJ7_init_2_46 : decode cJ7_init_2 46 = .ok (.aload_n 0, 1) := dk_42 (dk_at dksJ7_init_2_1 23 rfl rfl)
theorem dJ7_init_2_47 : decode cJ7_init_2 47 = .ok (.aload_n 2, 1) := dk_44 (dk_at dksJ7_init_2_2 0 rfl rfl)
theorem dJ7_init_2_48 : decode cJ7_init_2 48 = .ok (.putfield 7, 3) := dk_181 0 7 (dk_at dksJ7_init_2_2 1 rfl rfl)
theorem dJ7_init_2_51 : decode cJ7_init_2 51 = .ok (.iload_n 3, 1) := dk_29 (dk_at dksJ7_init_2_2 4 rfl rfl)
theorem dJ7_init_2_52 : decode cJ7_init_2 52 = .ok (.ifCond .ne 8, 3) := dk_154 0 8 (dk_at dksJ7_init_2_2 5 rfl rfl)
theorem dJ7_init_2_55 : decode cJ7_init_2 55 = .ok (.aload_n 0, 1) := dk_42 (dk_at dksJ7_init_2_2 8 rfl rfl)
theorem dJ7_init_2_56 : decode cJ7_init_2 56 = .ok (.aconst_null, 1) := dk_1 (dk_at dksJ7_init_2_2 9 rfl rfl)
theorem dJ7_init_2_57 : decode cJ7_init_2 57 = .ok (.putfield 24, 3) := dk_181 0 24 (dk_at dksJ7_init_2_2 10 rfl rfl)
theorem dJ7_init_2_60 : decode cJ7_init_2 60 = .ok (.return_, 1) := dk_177 (dk_at dksJ7_init_2_2 13 rfl rfl)
theorem q103 : (Jvm.Cond.initialized "java/lang/Throwable") ∈ lw_all := lw_g (lw_at lw_m1 16 rfl) rfl
theorem q543 : (Jvm.Cond.declares ({ cls := "java/lang/Throwable", name := "<init>", desc := "()V" } : Jvm.MethodName)) ∈ lw_tbl := lw_at lw_m2 216 rfl
theorem q544 : (Jvm.Cond.declares ({ cls := "java/lang/Throwable", name := "<init>", desc := "(Ljava/lang/String;)V" } : Jvm.MethodName)) ∈ lw_tbl := lw_at lw_m2 217 rfl
theorem q548 : (Jvm.Cond.lays "java/lang/Throwable" "java/lang/Throwable" "cause" "Ljava/lang/Throwable;") ∈ lw_all := lw_g (lw_at lw_m2 221 rfl) rfl
theorem q550 : (Jvm.Cond.lays "java/lang/Throwable" "java/lang/Throwable" "stackTrace" "[Ljava/lang/StackTraceElement;") ∈ lw_all := lw_g (lw_at lw_m2 223 rfl) rfl
theorem q552 : (Jvm.Cond.lays "java/lang/Throwable" "java/lang/Throwable" "suppressedExceptions" "Ljava/util/List;") ∈ lw_all := lw_g (lw_at lw_m2 225 rfl) rfl
theorem q554 : (Jvm.Cond.lays "java/lang/Throwable" "java/lang/Throwable" "detailMessage" "Ljava/lang/String;") ∈ lw_all := lw_g (lw_at lw_m2 227 rfl) rfl
theorem q556 : (Jvm.Cond.lays "java/lang/Throwable" "java/lang/Throwable" "backtrace" "Ljava/lang/Object;") ∈ lw_all := lw_g (lw_at lw_m2 229 rfl) rfl
theorem q557 : (Jvm.Cond.fieldLink "java/lang/Throwable" (198 : Nat) "java/lang/Throwable" "backtrace" "Ljava/lang/Object;") ∈ lw_all := lw_g (lw_at lw_m2 230 rfl) rfl
theorem q558 : (Jvm.Cond.superclass "java/lang/Throwable" "java/lang/Object") ∈ lw_all := lw_g (lw_at lw_m2 231 rfl) rfl
theorem q559 : (Jvm.Cond.instanceMethod ({ cls := "java/lang/Throwable", name := "<init>", desc := "()V" } : Jvm.MethodName)) ∈ lw_all := lw_g (lw_at lw_m2 232 rfl) rfl
theorem q560 : (Jvm.Cond.code ({ cls := "java/lang/Throwable", name := "<init>", desc := "()V" } : Jvm.MethodName) prog_25_method_1_code (1 : Nat) (Option.none : Option Jvm.ClassFile.FieldType)) ∈ lw_all := lw_g (lw_at lw_m2 233 rfl) rfl
theorem q561 : (Jvm.Cond.methodLink "java/lang/Throwable" (1 : Nat) ({ cls := "java/lang/Object", name := "<init>", desc := "()V" } : Jvm.MethodName)) ∈ lw_all := lw_g (lw_at lw_m2 234 rfl) rfl
theorem q562 : (Jvm.Cond.fieldLink "java/lang/Throwable" (13 : Nat) "java/lang/Throwable" "UNASSIGNED_STACK" "[Ljava/lang/StackTraceElement;") ∈ lw_all := lw_g (lw_at lw_m2 235 rfl) rfl
theorem q563 : (Jvm.Cond.laysStatic "java/lang/Throwable" "UNASSIGNED_STACK" "[Ljava/lang/StackTraceElement;") ∈ lw_tbl := lw_at lw_m2 236 rfl
theorem q564 : (Jvm.Cond.fieldLink "java/lang/Throwable" (20 : Nat) "java/lang/Throwable" "SUPPRESSED_SENTINEL" "Ljava/util/List;") ∈ lw_all := lw_g (lw_at lw_m2 237 rfl) rfl
theorem q565 : (Jvm.Cond.laysStatic "java/lang/Throwable" "SUPPRESSED_SENTINEL" "Ljava/util/List;") ∈ lw_tbl := lw_at lw_m2 238 rfl
theorem q566 : (Jvm.Cond.methodLink "java/lang/Throwable" (27 : Nat) ({ cls := "java/lang/Throwable", name := "fillInStackTrace", desc := "()Ljava/lang/Throwable;" } : Jvm.MethodName)) ∈ lw_all := lw_g (lw_at lw_m2 239 rfl) rfl
theorem q567 : (Jvm.Cond.instanceMethod ({ cls := "java/lang/Throwable", name := "fillInStackTrace", desc := "()Ljava/lang/Throwable;" } : Jvm.MethodName)) ∈ lw_all := lw_g (lw_at lw_m3 0 rfl) rfl
theorem q568 : (Jvm.Cond.sameMethod "java/lang/Throwable" "java/lang/Throwable" "fillInStackTrace" "()Ljava/lang/Throwable;") ∈ lw_all := lw_g (lw_at lw_m3 1 rfl) rfl
theorem q569 : (Jvm.Cond.codeSync ({ cls := "java/lang/Throwable", name := "fillInStackTrace", desc := "()Ljava/lang/Throwable;" } : Jvm.MethodName) prog_25_method_18_code (1 : Nat) (Option.some (Jvm.ClassFile.FieldType.object "java/lang/Throwable"))) ∈ lw_all := lw_g (lw_at lw_m3 2 rfl) rfl
theorem q570 : (Jvm.Cond.methodLink "java/lang/Throwable" (202 : Nat) ({ cls := "java/lang/Throwable", name := "fillInStackTrace", desc := "(I)Ljava/lang/Throwable;" } : Jvm.MethodName)) ∈ lw_all := lw_g (lw_at lw_m3 3 rfl) rfl
theorem q571 : (Jvm.Cond.privateMethod ({ cls := "java/lang/Throwable", name := "fillInStackTrace", desc := "(I)Ljava/lang/Throwable;" } : Jvm.MethodName)) ∈ lw_tbl := lw_at lw_m3 4 rfl
theorem q572 : (Jvm.Cond.instanceMethod ({ cls := "java/lang/Throwable", name := "fillInStackTrace", desc := "(I)Ljava/lang/Throwable;" } : Jvm.MethodName)) ∈ lw_all := lw_g (lw_at lw_m3 5 rfl) rfl
theorem q573 : (Jvm.Cond.instantiable "java/lang/Throwable" (6 : Nat)) ∈ lw_all := lw_g (lw_at lw_m3 6 rfl) rfl
theorem q574 : (Jvm.Cond.native ({ cls := "java/lang/Throwable", name := "fillInStackTrace", desc := "(I)Ljava/lang/Throwable;" } : Jvm.MethodName)) ∈ lw_all := lw_g (lw_at lw_m3 7 rfl) rfl
theorem q582 : (Jvm.Cond.instanceMethod ({ cls := "java/lang/Throwable", name := "<init>", desc := "(Ljava/lang/String;Ljava/lang/Throwable;ZZ)V" } : Jvm.MethodName)) ∈ lw_all := lw_g (lw_at lw_m3 15 rfl) rfl
theorem q583 : (Jvm.Cond.code ({ cls := "java/lang/Throwable", name := "<init>", desc := "(Ljava/lang/String;Ljava/lang/Throwable;ZZ)V" } : Jvm.MethodName) prog_25_method_5_code (5 : Nat) (Option.none : Option Jvm.ClassFile.FieldType)) ∈ lw_all := lw_g (lw_at lw_m3 16 rfl) rfl
theorem q588 : (Jvm.Cond.fieldLink "java/lang/Throwable" (198 : Nat) "java/lang/Throwable" "backtrace" "Ljava/lang/Object;") ∈ lw_all := lw_g (lw_at lw_m3 21 rfl) rfl
theorem q589 : (Jvm.Cond.fieldLink "java/lang/Throwable" (31 : Nat) "java/lang/Throwable" "detailMessage" "Ljava/lang/String;") ∈ lw_all := lw_g (lw_at lw_m3 22 rfl) rfl
theorem q590 : (Jvm.Cond.fieldLink "java/lang/Throwable" (7 : Nat) "java/lang/Throwable" "cause" "Ljava/lang/Throwable;") ∈ lw_all := lw_g (lw_at lw_m3 23 rfl) rfl
theorem q591 : (Jvm.Cond.fieldLink "java/lang/Throwable" (17 : Nat) "java/lang/Throwable" "stackTrace" "[Ljava/lang/StackTraceElement;") ∈ lw_all := lw_g (lw_at lw_m3 24 rfl) rfl
theorem q592 : (Jvm.Cond.fieldLink "java/lang/Throwable" (24 : Nat) "java/lang/Throwable" "suppressedExceptions" "Ljava/util/List;") ∈ lw_all := lw_g (lw_at lw_m3 25 rfl) rfl
theorem q597 : (Jvm.Cond.soleField "java/lang/Throwable" "backtrace") ∈ lw_all := lw_g (lw_at lw_m3 30 rfl) rfl
theorem q598 : (Jvm.Cond.soleField "java/lang/Throwable" "detailMessage") ∈ lw_all := lw_g (lw_at lw_m3 31 rfl) rfl
theorem q599 : (Jvm.Cond.soleField "java/lang/Throwable" "cause") ∈ lw_all := lw_g (lw_at lw_m3 32 rfl) rfl
theorem q600 : (Jvm.Cond.soleField "java/lang/Throwable" "stackTrace") ∈ lw_all := lw_g (lw_at lw_m3 33 rfl) rfl
theorem q602 : (Jvm.Cond.soleField "java/lang/Throwable" "depth") ∈ lw_all := lw_g (lw_at lw_m3 35 rfl) rfl
theorem q603 : (Jvm.Cond.soleField "java/lang/Throwable" "suppressedExceptions") ∈ lw_all := lw_g (lw_at lw_m3 36 rfl) rfl
theorem q1455 : (Jvm.Cond.sameMethod "java/lang/Throwable" "java/lang/Throwable" "fillInStackTrace" "(I)Ljava/lang/Throwable;") ∈ lw_all := lw_g (lw_at lw_m6 168 rfl) rfl
theorem in_J7 : ∀ w ∈ wsJ70, w ∈ lw_all := lw_in wsJ70 [548, 550, 552, 554, 556] (by decide +kernel) (by decide +kernel)
/-! java/lang/Exception -/
set_option maxRecDepth 100000
def RJ8 : String := "java/lang/Exception"
abbrev cJ8_init : ByteArray := prog_18_method_5_code
def yJ8_init : MethodName := ⟨RJ8, "<init>", "(Ljava/lang/String;Ljava/lang/Throwable;ZZ)V"⟩
def dkwJ8_init_0 : List UInt8 := [42, 43, 44, 29, 21, 4, 183, 0, 16, 177]
abbrev dktJ8_init_0 : List UInt8 := dkwJ8_init_0 ++ []
theorem dksJ8_init_0 : cJ8_init.data.toList.drop 0 = dktJ8_init_0 := by decide +kernel
theorem dJ8_init_0 : decode cJ8_init 0 = .ok (.aload_n 0, 1) := dk_42 (dk_at dksJ8_init_0 0 rfl rfl)
theorem dJ8_init_1 : decode cJ8_init 1 = .ok (.aload_n 1, 1) := dk_43 (dk_at dksJ8_init_0 1 rfl rfl)
theorem dJ8_init_2 : decode cJ8_init 2 = .ok (.aload_n 2, 1) := dk_44 (dk_at dksJ8_init_0 2 rfl rfl)
theorem dJ8_init_3 : decode cJ8_init 3 = .ok (.iload_n 3, 1) := dk_29 (dk_at dksJ8_init_0 3 rfl rfl)
theorem dJ8_init_4 : decode cJ8_init 4 = .ok (.iload 4, 2) := dk_21 4 (dk_at dksJ8_init_0 4 rfl rfl)
theorem dJ8_init_6 : decode cJ8_init 6 = .ok (.invokespecial 16, 3) := dk_183 0 16 (dk_at dksJ8_init_0 6 rfl rfl)
theorem dJ8_init_9 : decode cJ8_init 9 = .ok (.return_, 1) := dk_177 (dk_at dksJ8_init_0 9 rfl rfl)
theorem q104 : (Jvm.Cond.initialized "java/lang/Exception") ∈ lw_all := lw_g (lw_at lw_m1 17 rfl) rfl
theorem q541 : (Jvm.Cond.declares ({ cls := "java/lang/Exception", name := "<init>", desc := "()V" } : Jvm.MethodName)) ∈ lw_tbl := lw_at lw_m2 214 rfl
theorem q542 : (Jvm.Cond.declares ({ cls := "java/lang/Exception", name := "<init>", desc := "(Ljava/lang/String;)V" } : Jvm.MethodName)) ∈ lw_tbl := lw_at lw_m2 215 rfl
theorem q579 : (Jvm.Cond.instanceMethod ({ cls := "java/lang/Exception", name := "<init>", desc := "(Ljava/lang/String;Ljava/lang/Throwable;ZZ)V" } : Jvm.MethodName)) ∈ lw_all := lw_g (lw_at lw_m3 12 rfl) rfl
theorem q580 : (Jvm.Cond.code ({ cls := "java/lang/Exception", name := "<init>", desc := "(Ljava/lang/String;Ljava/lang/Throwable;ZZ)V" } : Jvm.MethodName) prog_18_method_5_code (5 : Nat) (Option.none : Option Jvm.ClassFile.FieldType)) ∈ lw_all := lw_g (lw_at lw_m3 13 rfl) rfl
theorem q581 : (Jvm.Cond.methodLink "java/lang/Exception" (16 : Nat) ({ cls := "java/lang/Throwable", name := "<init>", desc := "(Ljava/lang/String;Ljava/lang/Throwable;ZZ)V" } : Jvm.MethodName)) ∈ lw_all := lw_g (lw_at lw_m3 14 rfl) rfl
/-! java/lang/Integer -/
set_option maxRecDepth 100000
def RJ9 : String := "java/lang/Integer"
abbrev cJ9_numberOfTrailingZeros : ByteArray := prog_19_method_48_code
def yJ9_numberOfTrailingZeros : MethodName := ⟨RJ9, "numberOfTrailingZeros", "(I)I"⟩
def dkwJ9_numberOfTrailingZeros_3 : List UInt8 := [5, 124, 59, 27, 26, 4, 124, 96, 172]
abbrev dktJ9_numberOfTrailingZeros_3 : List UInt8 := dkwJ9_numberOfTrailingZeros_3 ++ []
def dkwJ9_numberOfTrailingZeros_2 : List UInt8 := [124, 59, 26, 16, 16, 164, 0, 10, 132, 1, 4, 26, 7, 124, 59, 26, 7, 164, 0, 10, 132, 1, 2, 26]
abbrev dktJ9_numberOfTrailingZeros_2 : List UInt8 := dkwJ9_numberOfTrailingZeros_2 ++ dktJ9_numberOfTrailingZeros_3
def dkwJ9_numberOfTrailingZeros_1 : List UInt8 := [164, 0, 11, 132, 1, 16, 26, 16, 16, 124, 59, 26, 17, 1, 0, 164, 0, 11, 132, 1, 8, 26, 16, 8]
abbrev dktJ9_numberOfTrailingZeros_1 : List UInt8 := dkwJ9_numberOfTrailingZeros_1 ++ dktJ9_numberOfTrailingZeros_2
def dkwJ9_numberOfTrailingZeros_0 : List UInt8 := [26, 2, 130, 26, 4, 100, 126, 59, 26, 157, 0, 8, 26, 16, 32, 126, 172, 4, 60, 26, 19, 1, 8]
abbrev dktJ9_numberOfTrailingZeros_0 : List UInt8 := dkwJ9_numberOfTrailingZeros_0 ++ dktJ9_numberOfTrailingZeros_1
theorem dksJ9_numberOfTrailingZeros_0 : cJ9_numberOfTrailingZeros.data.toList.drop 0 = dktJ9_numberOfTrailingZeros_0 := by decide +kernel
theorem dksJ9_numberOfTrailingZeros_1 : cJ9_numberOfTrailingZeros.data.toList.drop 23 = dktJ9_numberOfTrailingZeros_1 := dk_seg dksJ9_numberOfTrailingZeros_0 23 rfl rfl
theorem dksJ9_numberOfTrailingZeros_2 : cJ9_numberOfTrailingZeros.data.toList.drop 47 = dktJ9_numberOfTrailingZeros_2 := dk_seg dksJ9_numberOfTrailingZeros_1 24 rfl rfl
theorem dksJ9_numberOfTrailingZeros_3 : cJ9_numberOfTrailingZeros.data.toList.drop 71 = dktJ9_numberOfTrailingZeros_3 := dk_seg dksJ9_numberOfTrailingZeros_2 24 rfl rfl
theorem dJ9_numberOfTrailingZeros_0 : decode cJ9_numberOfTrailingZeros 0 = .ok (.iload_n 0, 1) := dk_26 (dk_at dksJ9_numberOfTrailingZeros_0 0 rfl rfl)
theorem dJ9_numberOfTrailingZeros_1 : decode cJ9_numberOfTrailingZeros 1 = .ok (.iconst (-1), 1) := dk_2 (dk_at dksJ9_numberOfTrailingZeros_0 1 rfl rfl)
theorem dJ9_numberOfTrailingZeros_2 : decode cJ9_numberOfTrailingZeros 2 = .ok (.ixor, 1) := dk_130 (dk_at dksJ9_numberOfTrailingZeros_0 2 rfl rfl)
theorem dJ9_numberOfTrailingZeros_3 : decode cJ9_numberOfTrailingZeros 3 = .ok (.iload_n 0, 1) := dk_26 (dk_at dksJ9_numberOfTrailingZeros_0 3 rfl rfl)
theorem dJ9_numberOfTrailingZeros_4 : decode cJ9_numberOfTrailingZeros 4 = .ok (.iconst 1, 1) := dk_4 (dk_at dksJ9_numberOfTrailingZeros_0 4 rfl rfl)
theorem dJ9_numberOfTrailingZeros_5 : decode cJ9_numberOfTrailingZeros 5 = .ok (.isub, 1) := dk_100 (dk_at dksJ9_numberOfTrailingZeros_0 5 rfl rfl)
theorem dJ9_numberOfTrailingZeros_6 : decode cJ9_numberOfTrailingZeros 6 = .ok (.iand, 1) := dk_126 (dk_at dksJ9_numberOfTrailingZeros_0 6 rfl rfl)
theorem dJ9_numberOfTrailingZeros_7 : decode cJ9_numberOfTrailingZeros 7 = .ok (.istore_n 0, 1) := dk_59 (dk_at dksJ9_numberOfTrailingZeros_0 7 rfl rfl)
theorem dJ9_numberOfTrailingZeros_8 : decode cJ9_numberOfTrailingZeros 8 = .ok (.iload_n 0, 1) := dk_26 (dk_at dksJ9_numberOfTrailingZeros_0 8 rfl rfl)
theorem dJ9_numberOfTrailingZeros_9 : decode cJ9_numberOfTrailingZeros 9 = .ok (.ifCond .gt 8, 3) := dk_157 0 8 (dk_at dksJ9_numberOfTrailingZeros_0 9 rfl rfl)
theorem dJ9_numberOfTrailingZeros_12 : decode cJ9_numberOfTrailingZeros 12 = .ok (.iload_n 0, 1) := dk_26 (dk_at dksJ9_numberOfTrailingZeros_0 12 rfl rfl)
theorem dJ9_numberOfTrailingZeros_13 : decode cJ9_numberOfTrailingZeros 13 = .ok (.bipush 32, 2) := dk_16 32 (dk_at dksJ9_numberOfTrailingZeros_0 13 rfl rfl)
theorem dJ9_numberOfTrailingZeros_15 : decode cJ9_numberOfTrailingZeros 15 = .ok (.iand, 1) := dk_126 (dk_at dksJ9_numberOfTrailingZeros_0 15 rfl rfl)
theorem dJ9_numberOfTrailingZeros_16 : decode cJ9_numberOfTrailingZeros 16 = .ok (.ireturn, 1) := dk_172 (dk_at dksJ9_numberOfTrailingZeros_0 16 rfl rfl)
theorem dJ9_numberOfTrailingZeros_17 : decode cJ9_numberOfTrailingZeros 17 = .ok (.iconst 1, 1) := dk_4 (dk_at dksJ9_numberOfTrailingZeros_0 17 rfl rfl)
theorem dJ9_numberOfTrailingZeros_18 : decode cJ9_numberOfTrailingZeros 18 = .ok (.istore_n 1, 1) := dk_60 (dk_at dksJ9_numberOfTrailingZeros_0 18 rfl rfl)
theorem dJ9_numberOfTrailingZeros_19 : decode cJ9_numberOfTrailingZeros 19 = .ok (.iload_n 0, 1) := dk_26 (dk_at dksJ9_numberOfTrailingZeros_0 19 rfl rfl)
theorem dJ9_numberOfTrailingZeros_20 : decode cJ9_numberOfTrailingZeros 20 = .ok (.ldc_w 264, 3) := dk_19 1 8 (dk_at dksJ9_numberOfTrailingZeros_0 20 rfl rfl)
theorem dJ9_numberOfTrailingZeros_23 : decode cJ9_numberOfTrailingZeros 23 = .ok (.if_icmp .le 11, 3) := dk_164 0 11 (dk_at dksJ9_numberOfTrailingZeros_1 0 rfl rfl)
theorem dJ9_numberOfTrailingZeros_26 : decode cJ9_numberOfTrailingZeros 26 = .ok (.iinc 1 16, 3) := dk_132 1 16 (dk_at dksJ9_numberOfTrailingZeros_1 3 rfl rfl)
theorem dJ9_numberOfTrailingZeros_29 : decode cJ9_numberOfTrailingZeros 29 = .ok (.iload_n 0, 1) := dk_26 (dk_at dksJ9_numberOfTrailingZeros_1 6 rfl rfl)
theorem dJ9_numberOfTrailingZeros_30 : decode cJ9_numberOfTrailingZeros 30 = .ok (.bipush 16, 2) := dk_16 16 (dk_at dksJ9_numberOfTrailingZeros_1 7 rfl rfl)
theorem dJ9_numberOfTrailingZeros_32 : decode cJ9_numberOfTrailingZeros 32 = .ok (.iushr, 1) := dk_124 (dk_at dksJ9_numberOfTrailingZeros_1 9 rfl rfl)
theorem dJ9_numberOfTrailingZeros_33 : decode cJ9_numberOfTrailingZeros 33 = .ok (.istore_n 0, 1) := dk_59 (dk_at dksJ9_numberOfTrailingZeros_1 10 rfl rfl)
theorem dJ9_numberOfTrailingZeros_34 : decode cJ9_numberOfTrailingZeros 34 = .ok (.iload_n 0, 1) := dk_26 (dk_at dksJ9_numberOfTrailingZeros_1 11 rfl rfl)
theorem dJ9_numberOfTrailingZeros_35 : decode cJ9_numberOfTrailingZeros 35 = .ok (.sipush 256, 3) := dk_17 1 0 (dk_at dksJ9_numberOfTrailingZeros_1 12 rfl rfl)
theorem dJ9_numberOfTrailingZeros_38 : decode cJ9_numberOfTrailingZeros 38 = .ok (.if_icmp .le 11, 3) := dk_164 0 11 (dk_at dksJ9_numberOfTrailingZeros_1 15 rfl rfl)
theorem dJ9_numberOfTrailingZeros_41 : decode cJ9_numberOfTrailingZeros 41 = .ok (.iinc 1 8, 3) := dk_132 1 8 (dk_at dksJ9_numberOfTrailingZeros_1 18 rfl rfl)
theorem dJ9_numberOfTrailingZeros_44 : decode cJ9_numberOfTrailingZeros 44 = .ok (.iload_n 0, 1) := dk_26 (dk_at dksJ9_numberOfTrailingZeros_1 21 rfl rfl)
theorem dJ9_numberOfTrailingZeros_45 : decode cJ9_numberOfTrailingZeros 45 = .ok (.bipush 8, 2) := dk_16 8 (dk_at dksJ9_numberOfTrailingZeros_1 22 rfl rfl)
theorem dJ9_numberOfTrailingZeros_47 : decode cJ9_numberOfTrailingZeros 47 = .ok (.iushr, 1) := dk_124 (dk_at dksJ9_numberOfTrailingZeros_2 0 rfl rfl)
theorem dJ9_numberOfTrailingZeros_48 : decode cJ9_numberOfTrailingZeros 48 = .ok (.istore_n 0, 1) := dk_59 (dk_at dksJ9_numberOfTrailingZeros_2 1 rfl rfl)
theorem dJ9_numberOfTrailingZeros_49 : decode cJ9_numberOfTrailingZeros 49 = .ok (.iload_n 0, 1) := dk_26 (dk_at dksJ9_numberOfTrailingZeros_2 2 rfl rfl)
theorem dJ9_numberOfTrailingZeros_50 : decode cJ9_numberOfTrailingZeros 50 = .ok (.bipush 16, 2) := dk_16 16 (dk_at dksJ9_numberOfTrailingZeros_2 3 rfl rfl)
theorem dJ9_numberOfTrailingZeros_52 : decode cJ9_numberOfTrailingZeros 52 = .ok (.if_icmp .le 10, 3) := dk_164 0 10 (dk_at dksJ9_numberOfTrailingZeros_2 5 rfl rfl)
theorem dJ9_numberOfTrailingZeros_55 : decode cJ9_numberOfTrailingZeros 55 = .ok (.iinc 1 4, 3) := dk_132 1 4 (dk_at dksJ9_numberOfTrailingZeros_2 8 rfl rfl)
theorem dJ9_numberOfTrailingZeros_58 : decode cJ9_numberOfTrailingZeros 58 = .ok (.iload_n 0, 1) := dk_26 (dk_at dksJ9_numberOfTrailingZeros_2 11 rfl rfl)
theorem dJ9_numberOfTrailingZeros_59 : decode cJ9_numberOfTrailingZeros 59 = .ok (.iconst 4, 1) := dk_7 (dk_at dksJ9_numberOfTrailingZeros_2 12 rfl rfl)
theorem dJ9_numberOfTrailingZeros_60 : decode cJ9_numberOfTrailingZeros 60 = .ok (.iushr, 1) := dk_124 (dk_at dksJ9_numberOfTrailingZeros_2 13 rfl rfl)
theorem dJ9_numberOfTrailingZeros_61 : decode cJ9_numberOfTrailingZeros 61 = .ok (.istore_n 0, 1) := dk_59 (dk_at dksJ9_numberOfTrailingZeros_2 14 rfl rfl)
theorem dJ9_numberOfTrailingZeros_62 : decode cJ9_numberOfTrailingZeros 62 = .ok (.iload_n 0, 1) := dk_26 (dk_at dksJ9_numberOfTrailingZeros_2 15 rfl rfl)
theorem dJ9_numberOfTrailingZeros_63 : decode cJ9_numberOfTrailingZeros 63 = .ok (.iconst 4, 1) := dk_7 (dk_at dksJ9_numberOfTrailingZeros_2 16 rfl rfl)
theorem dJ9_numberOfTrailingZeros_64 : decode cJ9_numberOfTrailingZeros 64 = .ok (.if_icmp .le 10, 3) := dk_164 0 10 (dk_at dksJ9_numberOfTrailingZeros_2 17 rfl rfl)
theorem dJ9_numberOfTrailingZeros_67 : decode cJ9_numberOfTrailingZeros 67 = .ok (.iinc 1 2, 3) := dk_132 1 2 (dk_at dksJ9_numberOfTrailingZeros_2 20 rfl rfl)
theorem dJ9_numberOfTrailingZeros_70 : decode cJ9_numberOfTrailingZeros 70 = .ok (.iload_n 0, 1) := dk_26 (dk_at dksJ9_numberOfTrailingZeros_2 23 rfl rfl)
theorem dJ9_numberOfTrailingZeros_71 : decode cJ9_numberOfTrailingZeros 71 = .ok (.iconst 2, 1) := dk_5 (dk_at dksJ9_numberOfTrailingZeros_3 0 rfl rfl)
theorem dJ9_numberOfTrailingZeros_72 : decode cJ9_numberOfTrailingZeros 72 = .ok (.iushr, 1) := dk_124 (dk_at dksJ9_numberOfTrailingZeros_3 1 rfl rfl)
theorem dJ9_numberOfTrailingZeros_73 : decode cJ9_numberOfTrailingZeros 73 = .ok (.istore_n 0, 1) := dk_59 (dk_at dksJ9_numberOfTrailingZeros_3 2 rfl rfl)
theorem dJ9_numberOfTrailingZeros_74 : decode cJ9_numberOfTrailingZeros 74 = .ok (.iload_n 1, 1) := dk_27 (dk_at dksJ9_numberOfTrailingZeros_3 3 rfl rfl)
theorem dJ9_numberOfTrailingZeros_75 : decode cJ9_numberOfTrailingZeros 75 = .ok (.iload_n 0, 1) := dk_26 (dk_at dksJ9_numberOfTrailingZeros_3 4 rfl rfl)
theorem dJ9_numberOfTrailingZeros_76 : decode cJ9_numberOfTrailingZeros 76 = .ok (.iconst 1, 1) := dk_4 (dk_at dksJ9_numberOfTrailingZeros_3 5 rfl rfl)
theorem dJ9_numberOfTrailingZeros_77 : decode cJ9_numberOfTrailingZeros 77 = .ok (.iushr, 1) := dk_124 (dk_at dksJ9_numberOfTrailingZeros_3 6 rfl rfl)
theorem dJ9_numberOfTrailingZeros_78 : decode cJ9_numberOfTrailingZeros 78 = .ok (.iadd, 1) := dk_96 (dk_at dksJ9_numberOfTrailingZeros_3 7 rfl rfl)
theorem dJ9_numberOfTrailingZeros_79 : decode cJ9_numberOfTrailingZeros 79 = .ok (.ireturn, 1) := dk_172 (dk_at dksJ9_numberOfTrailingZeros_3 8 rfl rfl)
abbrev cJ9_bitCount : ByteArray := prog_19_method_49_code
def yJ9_bitCount : MethodName := ⟨RJ9, "bitCount", "(I)I"⟩
def dkwJ9_bitCount_2 : List UInt8 := [26, 16, 63, 126, 172]
abbrev dktJ9_bitCount_2 : List UInt8 := dkwJ9_bitCount_2 ++ []
def dkwJ9_bitCount_1 : List UInt8 := [26, 26, 7, 124, 96, 19, 1, 11, 126, 59, 26, 26, 16, 8, 124, 96, 59, 26, 26, 16, 16, 124, 96, 59]
abbrev dktJ9_bitCount_1 : List UInt8 := dkwJ9_bitCount_1 ++ dktJ9_bitCount_2
def dkwJ9_bitCount_0 : List UInt8 := [26, 26, 4, 124, 19, 1, 9, 126, 100, 59, 26, 19, 1, 10, 126, 26, 5, 124, 19, 1, 10, 126, 96, 59]
abbrev dktJ9_bitCount_0 : List UInt8 := dkwJ9_bitCount_0 ++ dktJ9_bitCount_1
theorem dksJ9_bitCount_0 : cJ9_bitCount.data.toList.drop 0 = dktJ9_bitCount_0 := by decide +kernel
theorem dksJ9_bitCount_1 : cJ9_bitCount.data.toList.drop 24 = dktJ9_bitCount_1 := dk_seg dksJ9_bitCount_0 24 rfl rfl
theorem dksJ9_bitCount_2 : cJ9_bitCount.data.toList.drop 48 = dktJ9_bitCount_2 := dk_seg dksJ9_bitCount_1 24 rfl rfl
theorem dJ9_bitCount_0 : decode cJ9_bitCount 0 = .ok (.iload_n 0, 1) := dk_26 (dk_at dksJ9_bitCount_0 0 rfl rfl)
theorem dJ9_bitCount_1 : decode cJ9_bitCount 1 = .ok (.iload_n 0, 1) := dk_26 (dk_at dksJ9_bitCount_0 1 rfl rfl)
theorem dJ9_bitCount_2 : decode cJ9_bitCount 2 = .ok (.iconst 1, 1) := dk_4 (dk_at dksJ9_bitCount_0 2 rfl rfl)
theorem dJ9_bitCount_3 : decode cJ9_bitCount 3 = .ok (.iushr, 1) := dk_124 (dk_at dksJ9_bitCount_0 3 rfl rfl)
theorem dJ9_bitCount_4 : decode cJ9_bitCount 4 = .ok (.ldc_w 265, 3) := dk_19 1 9 (dk_at dksJ9_bitCount_0 4 rfl rfl)
theorem dJ9_bitCount_7 : decode cJ9_bitCount 7 = .ok (.iand, 1) := dk_126 (dk_at dksJ9_bitCount_0 7 rfl rfl)
theorem dJ9_bitCount_8 : decode cJ9_bitCount 8 = .ok (.isub, 1) := dk_100 (dk_at dksJ9_bitCount_0 8 rfl rfl)
theorem dJ9_bitCount_9 : decode cJ9_bitCount 9 = .ok (.istore_n 0, 1) := dk_59 (dk_at dksJ9_bitCount_0 9 rfl rfl)
theorem dJ9_bitCount_10 : decode cJ9_bitCount 10 = .ok (.iload_n 0, 1) := dk_26 (dk_at dksJ9_bitCount_0 10 rfl rfl)
theorem dJ9_bitCount_11 : decode cJ9_bitCount 11 = .ok (.ldc_w 266, 3) := dk_19 1 10 (dk_at dksJ9_bitCount_0 11 rfl rfl)
theorem dJ9_bitCount_14 : decode cJ9_bitCount 14 = .ok (.iand, 1) := dk_126 (dk_at dksJ9_bitCount_0 14 rfl rfl)
theorem dJ9_bitCount_15 : decode cJ9_bitCount 15 = .ok (.iload_n 0, 1) := dk_26 (dk_at dksJ9_bitCount_0 15 rfl rfl)
theorem dJ9_bitCount_16 : decode cJ9_bitCount 16 = .ok (.iconst 2, 1) := dk_5 (dk_at dksJ9_bitCount_0 16 rfl rfl)
theorem dJ9_bitCount_17 : decode cJ9_bitCount 17 = .ok (.iushr, 1) := dk_124 (dk_at dksJ9_bitCount_0 17 rfl rfl)
theorem dJ9_bitCount_18 : decode cJ9_bitCount 18 = .ok (.ldc_w 266, 3) := dk_19 1 10 (dk_at dksJ9_bitCount_0 18 rfl rfl)
theorem dJ9_bitCount_21 : decode cJ9_bitCount 21 = .ok (.iand, 1) := dk_126 (dk_at dksJ9_bitCount_0 21 rfl rfl)
theorem dJ9_bitCount_22 : decode cJ9_bitCount 22 = .ok (.iadd, 1) := dk_96 (dk_at dksJ9_bitCount_0 22 rfl rfl)
theorem dJ9_bitCount_23 : decode cJ9_bitCount 23 = .ok (.istore_n 0, 1) := dk_59 (dk_at dksJ9_bitCount_0 23 rfl rfl)
theorem dJ9_bitCount_24 : decode cJ9_bitCount 24 = .ok (.iload_n 0, 1) := dk_26 (dk_at dksJ9_bitCount_1 0 rfl rfl)
theorem dJ9_bitCount_25 : decode cJ9_bitCount 25 = .ok (.iload_n 0, 1) := dk_26 (dk_at dksJ9_bitCount_1 1 rfl rfl)
theorem dJ9_bitCount_26 : decode cJ9_bitCount 26 = .ok (.iconst 4, 1) := dk_7 (dk_at dksJ9_bitCount_1 2 rfl rfl)
theorem dJ9_bitCount_27 : decode cJ9_bitCount 27 = .ok (.iushr, 1) := dk_124 (dk_at dksJ9_bitCount_1 3 rfl rfl)
theorem dJ9_bitCount_28 : decode cJ9_bitCount 28 = .ok (.iadd, 1) := dk_96 (dk_at dksJ9_bitCount_1 4 rfl rfl)
theorem dJ9_bitCount_29 : decode cJ9_bitCount 29 = .ok (.ldc_w 267, 3) := dk_19 1 11 (dk_at dksJ9_bitCount_1 5 rfl rfl)
theorem dJ9_bitCount_32 : decode cJ9_bitCount 32 = .ok (.iand, 1) := dk_126 (dk_at dksJ9_bitCount_1 8 rfl rfl)
theorem dJ9_bitCount_33 : decode cJ9_bitCount 33 = .ok (.istore_n 0, 1) := dk_59 (dk_at dksJ9_bitCount_1 9 rfl rfl)
theorem dJ9_bitCount_34 : decode cJ9_bitCount 34 = .ok (.iload_n 0, 1) := dk_26 (dk_at dksJ9_bitCount_1 10 rfl rfl)
theorem dJ9_bitCount_35 : decode cJ9_bitCount 35 = .ok (.iload_n 0, 1) := dk_26 (dk_at dksJ9_bitCount_1 11 rfl rfl)
theorem dJ9_bitCount_36 : decode cJ9_bitCount 36 = .ok (.bipush 8, 2) := dk_16 8 (dk_at dksJ9_bitCount_1 12 rfl rfl)
theorem dJ9_bitCount_38 : decode cJ9_bitCount 38 = .ok (.iushr, 1) := dk_124 (dk_at dksJ9_bitCount_1 14 rfl rfl)
theorem dJ9_bitCount_39 : decode cJ9_bitCount 39 = .ok (.iadd, 1) := dk_96 (dk_at dksJ9_bitCount_1 15 rfl rfl)
theorem dJ9_bitCount_40 : decode cJ9_bitCount 40 = .ok (.istore_n 0, 1) := dk_59 (dk_at dksJ9_bitCount_1 16 rfl rfl)
theorem dJ9_bitCount_41 : decode cJ9_bitCount 41 = .ok (.iload_n 0, 1) := dk_26 (dk_at dksJ9_bitCount_1 17 rfl rfl)
theorem dJ9_bitCount_42 : decode cJ9_bitCount 42 = .ok (.iload_n 0, 1) := dk_26 (dk_at dksJ9_bitCount_1 18 rfl rfl)
theorem dJ9_bitCount_43 : decode cJ9_bitCount 43 = .ok (.bipush 16, 2) := dk_16 16 (dk_at dksJ9_bitCount_1 19 rfl rfl)
theorem dJ9_bitCount_45 : decode cJ9_bitCount 45 = .ok (.iushr, 1) := dk_124 (dk_at dksJ9_bitCount_1 21 rfl rfl)
theorem dJ9_bitCount_46 : decode cJ9_bitCount 46 = .ok (.iadd, 1) := dk_96 (dk_at dksJ9_bitCount_1 22 rfl rfl)
theorem dJ9_bitCount_47 : decode cJ9_bitCount 47 = .ok (.istore_n 0, 1) := dk_59 (dk_at dksJ9_bitCount_1 23 rfl rfl)
theorem dJ9_bitCount_48 : decode cJ9_bitCount 48 = .ok (.iload_n 0, 1) := dk_26 (dk_at dksJ9_bitCount_2 0 rfl rfl)
theorem dJ9_bitCount_49 : decode cJ9_bitCount 49 = .ok (.bipush 63, 2) := dk_16 63 (dk_at dksJ9_bitCount_2 1 rfl rfl)
theorem dJ9_bitCount_51 : decode cJ9_bitCount 51 = .ok (.iand, 1) := dk_126 (dk_at dksJ9_bitCount_2 3 rfl rfl)
theorem dJ9_bitCount_52 : decode cJ9_bitCount 52 = .ok (.ireturn, 1) := dk_172 (dk_at dksJ9_bitCount_2 4 rfl rfl)
theorem q111 : (Jvm.Cond.initialized "java/lang/Integer") ∈ lw_all := lw_g (lw_at lw_m1 24 rfl) rfl
theorem q883 : (Jvm.Cond.static ({ cls := "java/lang/Integer", name := "numberOfTrailingZeros", desc := "(I)I" } : Jvm.MethodName)) ∈ lw_all := lw_g (lw_at lw_m4 76 rfl) rfl
theorem q884 : (Jvm.Cond.code ({ cls := "java/lang/Integer", name := "numberOfTrailingZeros", desc := "(I)I" } : Jvm.MethodName) prog_19_method_48_code (2 : Nat) (Option.some Jvm.ClassFile.FieldType.int)) ∈ lw_all := lw_g (lw_at lw_m4 77 rfl) rfl
theorem q885 : (Jvm.Cond.constant "java/lang/Integer" (264 : Nat) (65536 : Int32)) ∈ lw_all := lw_g (lw_at lw_m4 78 rfl) rfl
theorem q965 : (Jvm.Cond.static ({ cls := "java/lang/Integer", name := "bitCount", desc := "(I)I" } : Jvm.MethodName)) ∈ lw_all := lw_g (lw_at lw_m4 158 rfl) rfl
theorem q966 : (Jvm.Cond.code ({ cls := "java/lang/Integer", name := "bitCount", desc := "(I)I" } : Jvm.MethodName) prog_19_method_49_code (1 : Nat) (Option.some Jvm.ClassFile.FieldType.int)) ∈ lw_all := lw_g (lw_at lw_m4 159 rfl) rfl
theorem q967 : (Jvm.Cond.constant "java/lang/Integer" (265 : Nat) (1431655765 : Int32)) ∈ lw_all := lw_g (lw_at lw_m4 160 rfl) rfl
theorem q968 : (Jvm.Cond.constant "java/lang/Integer" (266 : Nat) (858993459 : Int32)) ∈ lw_all := lw_g (lw_at lw_m4 161 rfl) rfl
theorem q969 : (Jvm.Cond.constant "java/lang/Integer" (267 : Nat) (252645135 : Int32)) ∈ lw_all := lw_g (lw_at lw_m4 162 rfl) rfl
/-! java/lang/Object -/
set_option maxRecDepth 100000
def RJ10 : String := "java/lang/Object"
abbrev cJ10_init : ByteArray := object_method_1_code
def yJ10_init : MethodName := ⟨RJ10, "<init>", "()V"⟩
theorem dJ10_init_0 : decode cJ10_init 0 = .ok (.return_, 1) := by decide +kernel
theorem q119 : (Jvm.Cond.instanceMethod ({ cls := "java/lang/Object", name := "<init>", desc := "()V" } : Jvm.MethodName)) ∈ lw_all := lw_g (lw_at lw_m1 32 rfl) rfl
theorem q120 : (Jvm.Cond.code ({ cls := "java/lang/Object", name := "<init>", desc := "()V" } : Jvm.MethodName) object_method_1_code (1 : Nat) (Option.none : Option Jvm.ClassFile.FieldType)) ∈ lw_all := lw_g (lw_at lw_m1 33 rfl) rfl
theorem q729 : (Jvm.Cond.native ({ cls := "java/lang/Object", name := "clone", desc := "()Ljava/lang/Object;" } : Jvm.MethodName)) ∈ lw_all := lw_g (lw_at lw_m3 162 rfl) rfl
theorem q730 : (Jvm.Cond.instanceMethod ({ cls := "java/lang/Object", name := "clone", desc := "()Ljava/lang/Object;" } : Jvm.MethodName)) ∈ lw_all := lw_g (lw_at lw_m3 163 rfl) rfl
theorem q1456 : (Jvm.Cond.initialized "java/lang/Object") ∈ lw_all := lw_g (lw_at lw_m6 169 rfl) rfl
theorem q122 : (Jvm.Cond.arrayOver (Jvm.ClassFile.FieldType.object "java/lang/String")) ∈ lw_tbl := lw_at lw_m1 35 rfl
set_option maxRecDepth 100000
theorem q145 : (Jvm.Cond.arrayOver (Jvm.ClassFile.FieldType.object "DoughDebts$Term")) ∈ lw_tbl := lw_at lw_m1 58 rfl
theorem q159 : (Jvm.Cond.arrayClass Jvm.ClassFile.FieldType.byte) ∈ lw_all := lw_g (lw_at lw_m1 72 rfl) rfl
theorem q161 : (Jvm.Cond.arrayOver (Jvm.ClassFile.FieldType.object "DoughDebts$House")) ∈ lw_tbl := lw_at lw_m1 74 rfl
theorem q217 : (Jvm.Cond.arrayClass Jvm.ClassFile.FieldType.int) ∈ lw_all := lw_g (lw_at lw_m1 130 rfl) rfl
theorem q218 : (Jvm.Cond.arrayOver (Jvm.ClassFile.FieldType.object "DoughDebts$Days")) ∈ lw_tbl := lw_at lw_m1 131 rfl
theorem q220 : (Jvm.Cond.arrayOver (Jvm.ClassFile.FieldType.array Jvm.ClassFile.FieldType.int)) ∈ lw_tbl := lw_at lw_m1 133 rfl
theorem q222 : (Jvm.Cond.arrayOver (Jvm.ClassFile.FieldType.object "DoughDebts$Leaven")) ∈ lw_tbl := lw_at lw_m1 135 rfl
theorem q368 : (Jvm.Cond.arrayClass Jvm.ClassFile.FieldType.long) ∈ lw_all := lw_g (lw_at lw_m2 41 rfl) rfl
theorem q728 : (Jvm.Cond.sameMethod "[B" "java/lang/Object" "clone" "()Ljava/lang/Object;") ∈ lw_all := lw_g (lw_at lw_m3 161 rfl) rfl
set_option maxRecDepth 100000
theorem q731 : (Jvm.Cond.selects "[B" ({ cls := "[B", name := "clone", desc := "()Ljava/lang/Object;" } : Jvm.MethodName) ({ cls := "java/lang/Object", name := "clone", desc := "()Ljava/lang/Object;" } : Jvm.MethodName)) ∈ lw_all := lw_g (lw_at lw_m3 164 rfl) rfl
theorem q732 : (Jvm.Cond.castable "[B" "java/lang/Cloneable") ∈ lw_tbl := lw_at lw_m3 165 rfl
theorem q97 : (Jvm.Cond.initialized "DoughDebts$Token") ∈ lw_all := lw_g (lw_at lw_m1 10 rfl) rfl
set_option maxRecDepth 100000
theorem q402 : (Jvm.Cond.laysStatic "DoughDebts$Token" "END" "LDoughDebts$Token;") ∈ lw_tbl := lw_at lw_m2 75 rfl
theorem q404 : (Jvm.Cond.laysStatic "DoughDebts$Token" "NONE" "LDoughDebts$Token;") ∈ lw_tbl := lw_at lw_m2 77 rfl
theorem q409 : (Jvm.Cond.laysStatic "DoughDebts$Token" "WORD" "LDoughDebts$Token;") ∈ lw_tbl := lw_at lw_m2 82 rfl
theorem q474 : (Jvm.Cond.laysStatic "DoughDebts$Token" "NUMBER" "LDoughDebts$Token;") ∈ lw_tbl := lw_at lw_m2 147 rfl
theorem q534 : (Jvm.Cond.laysStatic "DoughDebts$Token" "SIGN" "LDoughDebts$Token;") ∈ lw_tbl := lw_at lw_m2 207 rfl
theorem q94 : (Jvm.Cond.initialized "java/lang/System") ∈ lw_all := lw_g (lw_at lw_m1 7 rfl) rfl
set_option maxRecDepth 100000
theorem q714 : (Jvm.Cond.static ({ cls := "java/lang/System", name := "arraycopy", desc := "(Ljava/lang/Object;ILjava/lang/Object;II)V" } : Jvm.MethodName)) ∈ lw_all := lw_g (lw_at lw_m3 147 rfl) rfl
theorem q715 : (Jvm.Cond.native ({ cls := "java/lang/System", name := "arraycopy", desc := "(Ljava/lang/Object;ILjava/lang/Object;II)V" } : Jvm.MethodName)) ∈ lw_all := lw_g (lw_at lw_m3 148 rfl) rfl
theorem q96 : (Jvm.Cond.initialized "java/lang/Enum") ∈ lw_all := lw_g (lw_at lw_m1 9 rfl) rfl
set_option maxRecDepth 100000
