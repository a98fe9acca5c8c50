/-! DoughDebts$Text -/
set_option maxRecDepth 100000
def RX1 : String := "DoughDebts$Text"
def TX1 : u_T := fun k => match k with
  | 0 => ("DoughDebts$Text", "worth", "[LDoughDebts$Term;", true)
  | 1 => ("DoughDebts$Text", "when", "[LDoughDebts$Term;", true)
  | _ => ("DoughDebts$Text", "many", "I", false)
def tyX1 : Nat → FieldType := fun k => match k with
  | 0 => .array (.object "DoughDebts$Term")
  | 1 => .array (.object "DoughDebts$Term")
  | _ => .int
abbrev wsX10 : List Cond := u_ws RX1 TX1 3
theorem nmX1 : ∀ a, a < 3 → ∀ b, b < 3 → a ≠ b → (TX1 a).2.1 ≠ (TX1 b).2.1 := by decide +kernel
theorem tyX1_ok : ∀ k, k < 3 → parseFieldDescriptor (TX1 k).2.2.1 = some (tyX1 k) := by decide +kernel
abbrev cX1_init : ByteArray := prog_9_method_1_code
def yX1_init : MethodName := ⟨RX1, "<init>", "()V"⟩
def dkwX1_init_0 : List UInt8 := [42, 183, 0, 3, 42, 16, 16, 189, 0, 9, 181, 0, 11, 42, 16, 16, 189, 0, 9, 181, 0, 17, 177]
abbrev dktX1_init_0 : List UInt8 := dkwX1_init_0 ++ []
theorem dksX1_init_0 : cX1_init.data.toList.drop 0 = dktX1_init_0 := by decide +kernel
theorem dX1_init_0 : decode cX1_init 0 = .ok (.aload_n 0, 1) := dk_42 (dk_at dksX1_init_0 0 rfl rfl)
theorem dX1_init_1 : decode cX1_init 1 = .ok (.invokespecial 3, 3) := dk_183 0 3 (dk_at dksX1_init_0 1 rfl rfl)
theorem dX1_init_4 : decode cX1_init 4 = .ok (.aload_n 0, 1) := dk_42 (dk_at dksX1_init_0 4 rfl rfl)
theorem dX1_init_5 : decode cX1_init 5 = .ok (.bipush 16, 2) := dk_16 16 (dk_at dksX1_init_0 5 rfl rfl)
theorem dX1_init_7 : decode cX1_init 7 = .ok (.anewarray 9, 3) := dk_189 0 9 (dk_at dksX1_init_0 7 rfl rfl)
theorem dX1_init_10 : decode cX1_init 10 = .ok (.putfield 11, 3) := dk_181 0 11 (dk_at dksX1_init_0 10 rfl rfl)
theorem dX1_init_13 : decode cX1_init 13 = .ok (.aload_n 0, 1) := dk_42 (dk_at dksX1_init_0 13 rfl rfl)
theorem dX1_init_14 : decode cX1_init 14 = .ok (.bipush 16, 2) := dk_16 16 (dk_at dksX1_init_0 14 rfl rfl)
theorem dX1_init_16 : decode cX1_init 16 = .ok (.anewarray 9, 3) := dk_189 0 9 (dk_at dksX1_init_0 16 rfl rfl)
theorem dX1_init_19 : decode cX1_init 19 = .ok (.putfield 17, 3) := dk_181 0 17 (dk_at dksX1_init_0 19 rfl rfl)
theorem dX1_init_22 : decode cX1_init 22 = .ok (.return_, 1) := dk_177 (dk_at dksX1_init_0 22 rfl rfl)
abbrev cX1_first : ByteArray := prog_9_method_2_code
def yX1_first : MethodName := ⟨RX1, "first", "([I)I"⟩
def dkwX1_first_1 : List UInt8 := [50, 43, 182, 0, 24, 153, 0, 5, 28, 172, 132, 2, 1, 167, 255, 221, 2, 172]
abbrev dktX1_first_1 : List UInt8 := dkwX1_first_1 ++ []
def dkwX1_first_0 : List UInt8 := [3, 61, 28, 42, 180, 0, 20, 162, 0, 33, 42, 180, 0, 17, 28, 50, 198, 0, 16, 42, 180, 0, 17, 28]
abbrev dktX1_first_0 : List UInt8 := dkwX1_first_0 ++ dktX1_first_1
theorem dksX1_first_0 : cX1_first.data.toList.drop 0 = dktX1_first_0 := by decide +kernel
theorem dksX1_first_1 : cX1_first.data.toList.drop 24 = dktX1_first_1 := dk_seg dksX1_first_0 24 rfl rfl
theorem dX1_first_0 : decode cX1_first 0 = .ok (.iconst 0, 1) := dk_3 (dk_at dksX1_first_0 0 rfl rfl)
theorem dX1_first_1 : decode cX1_first 1 = .ok (.istore_n 2, 1) := dk_61 (dk_at dksX1_first_0 1 rfl rfl)
theorem dX1_first_2 : decode cX1_first 2 = .ok (.iload_n 2, 1) := dk_28 (dk_at dksX1_first_0 2 rfl rfl)
theorem dX1_first_3 : decode cX1_first 3 = .ok (.aload_n 0, 1) := dk_42 (dk_at dksX1_first_0 3 rfl rfl)
theorem dX1_first_4 : decode cX1_first 4 = .ok (.getfield 20, 3) := dk_180 0 20 (dk_at dksX1_first_0 4 rfl rfl)
theorem dX1_first_7 : decode cX1_first 7 = .ok (.if_icmp .ge 33, 3) := dk_162 0 33 (dk_at dksX1_first_0 7 rfl rfl)
theorem dX1_first_10 : decode cX1_first 10 = .ok (.aload_n 0, 1) := dk_42 (dk_at dksX1_first_0 10 rfl rfl)
theorem dX1_first_11 : decode cX1_first 11 = .ok (.getfield 17, 3) := dk_180 0 17 (dk_at dksX1_first_0 11 rfl rfl)
theorem dX1_first_14 : decode cX1_first 14 = .ok (.iload_n 2, 1) := dk_28 (dk_at dksX1_first_0 14 rfl rfl)
theorem dX1_first_15 : decode cX1_first 15 = .ok (.aaload, 1) := dk_50 (dk_at dksX1_first_0 15 rfl rfl)
theorem dX1_first_16 : decode cX1_first 16 = .ok (.ifnull 16, 3) := dk_198 0 16 (dk_at dksX1_first_0 16 rfl rfl)
theorem dX1_first_19 : decode cX1_first 19 = .ok (.aload_n 0, 1) := dk_42 (dk_at dksX1_first_0 19 rfl rfl)
theorem dX1_first_20 : decode cX1_first 20 = .ok (.getfield 17, 3) := dk_180 0 17 (dk_at dksX1_first_0 20 rfl rfl)
theorem dX1_first_23 : decode cX1_first 23 = .ok (.iload_n 2, 1) := dk_28 (dk_at dksX1_first_0 23 rfl rfl)
theorem dX1_first_24 : decode cX1_first 24 = .ok (.aaload, 1) := dk_50 (dk_at dksX1_first_1 0 rfl rfl)
theorem dX1_first_25 : decode cX1_first 25 = .ok (.aload_n 1, 1) := dk_43 (dk_at dksX1_first_1 1 rfl rfl)
theorem dX1_first_26 : decode cX1_first 26 = .ok (.invokevirtual 24, 3) := dk_182 0 24 (dk_at dksX1_first_1 2 rfl rfl)
theorem dX1_first_29 : decode cX1_first 29 = .ok (.ifCond .eq 5, 3) := dk_153 0 5 (dk_at dksX1_first_1 5 rfl rfl)
theorem dX1_first_32 : decode cX1_first 32 = .ok (.iload_n 2, 1) := dk_28 (dk_at dksX1_first_1 8 rfl rfl)
theorem dX1_first_33 : decode cX1_first 33 = .ok (.ireturn, 1) := dk_172 (dk_at dksX1_first_1 9 rfl rfl)
theorem dX1_first_34 : decode cX1_first 34 = .ok (.iinc 2 1, 3) := dk_132 2 1 (dk_at dksX1_first_1 10 rfl rfl)
theorem dX1_first_37 : decode cX1_first 37 = .ok (.goto (-35), 3) := dk_167 255 221 (dk_at dksX1_first_1 13 rfl rfl)
theorem dX1_first_40 : decode cX1_first 40 = .ok (.iconst (-1), 1) := dk_2 (dk_at dksX1_first_1 16 rfl rfl)
theorem dX1_first_41 : decode cX1_first 41 = .ok (.ireturn, 1) := dk_172 (dk_at dksX1_first_1 17 rfl rfl)
theorem q89 : (Jvm.Cond.initialized "DoughDebts$Text") ∈ lw_all := lw_g (lw_at lw_m1 2 rfl) rfl
theorem q139 : (Jvm.Cond.instantiable "DoughDebts$Text" (3 : Nat)) ∈ lw_all := lw_g (lw_at lw_m1 52 rfl) rfl
theorem q141 : (Jvm.Cond.instanceMethod ({ cls := "DoughDebts$Text", name := "<init>", desc := "()V" } : Jvm.MethodName)) ∈ lw_all := lw_g (lw_at lw_m1 54 rfl) rfl
theorem q142 : (Jvm.Cond.code ({ cls := "DoughDebts$Text", name := "<init>", desc := "()V" } : Jvm.MethodName) prog_9_method_1_code (1 : Nat) (Option.none : Option Jvm.ClassFile.FieldType)) ∈ lw_all := lw_g (lw_at lw_m1 55 rfl) rfl
theorem q143 : (Jvm.Cond.methodLink "DoughDebts$Text" (3 : Nat) ({ cls := "java/lang/Object", name := "<init>", desc := "()V" } : Jvm.MethodName)) ∈ lw_all := lw_g (lw_at lw_m1 56 rfl) rfl
theorem q144 : (Jvm.Cond.classLink "DoughDebts$Text" (9 : Nat) "DoughDebts$Term") ∈ lw_all := lw_g (lw_at lw_m1 57 rfl) rfl
theorem q146 : (Jvm.Cond.fieldLink "DoughDebts$Text" (11 : Nat) "DoughDebts$Text" "worth" "[LDoughDebts$Term;") ∈ lw_all := lw_g (lw_at lw_m1 59 rfl) rfl
theorem q148 : (Jvm.Cond.fieldLink "DoughDebts$Text" (17 : Nat) "DoughDebts$Text" "when" "[LDoughDebts$Term;") ∈ lw_all := lw_g (lw_at lw_m1 61 rfl) rfl
theorem q150 : (Jvm.Cond.fieldLink "DoughDebts$Text" (20 : Nat) "DoughDebts$Text" "many" "I") ∈ lw_all := lw_g (lw_at lw_m1 63 rfl) rfl
theorem q152 : (Jvm.Cond.laysFinal "DoughDebts$Text" "DoughDebts$Text" "worth" "[LDoughDebts$Term;") ∈ lw_all := lw_g (lw_at lw_m1 65 rfl) rfl
theorem q153 : (Jvm.Cond.soleField "DoughDebts$Text" "worth") ∈ lw_all := lw_g (lw_at lw_m1 66 rfl) rfl
theorem q154 : (Jvm.Cond.laysFinal "DoughDebts$Text" "DoughDebts$Text" "when" "[LDoughDebts$Term;") ∈ lw_all := lw_g (lw_at lw_m1 67 rfl) rfl
theorem q155 : (Jvm.Cond.soleField "DoughDebts$Text" "when") ∈ lw_all := lw_g (lw_at lw_m1 68 rfl) rfl
theorem q156 : (Jvm.Cond.lays "DoughDebts$Text" "DoughDebts$Text" "many" "I") ∈ lw_all := lw_g (lw_at lw_m1 69 rfl) rfl
theorem q157 : (Jvm.Cond.soleField "DoughDebts$Text" "many") ∈ lw_all := lw_g (lw_at lw_m1 70 rfl) rfl
theorem q158 : (Jvm.Cond.superclass "DoughDebts$Text" "java/lang/Object") ∈ lw_all := lw_g (lw_at lw_m1 71 rfl) rfl
theorem q796 : (Jvm.Cond.instanceMethod ({ cls := "DoughDebts$Text", name := "first", desc := "([I)I" } : Jvm.MethodName)) ∈ lw_all := lw_g (lw_at lw_m3 229 rfl) rfl
theorem q797 : (Jvm.Cond.selects "DoughDebts$Text" ({ cls := "DoughDebts$Text", name := "first", desc := "([I)I" } : Jvm.MethodName) ({ cls := "DoughDebts$Text", name := "first", desc := "([I)I" } : Jvm.MethodName)) ∈ lw_all := lw_g (lw_at lw_m3 230 rfl) rfl
theorem q798 : (Jvm.Cond.code ({ cls := "DoughDebts$Text", name := "first", desc := "([I)I" } : Jvm.MethodName) prog_9_method_2_code (3 : Nat) (Option.some Jvm.ClassFile.FieldType.int)) ∈ lw_all := lw_g (lw_at lw_m3 231 rfl) rfl
theorem q799 : (Jvm.Cond.methodLink "DoughDebts$Text" (24 : Nat) ({ cls := "DoughDebts$Term", name := "of", desc := "([I)I" } : Jvm.MethodName)) ∈ lw_all := lw_g (lw_at lw_m3 232 rfl) rfl
theorem in_X1 : ∀ w ∈ wsX10, w ∈ lw_all := lw_in wsX10 [152, 154, 156] (by decide +kernel) (by decide +kernel)
/-! DoughDebts$Days -/
set_option maxRecDepth 100000
def RX2 : String := "DoughDebts$Days"
def TX2 : u_T := fun k => match k with
  | 0 => ("DoughDebts$Days", "day", "I", false)
  | 1 => ("DoughDebts$Days", "state", "I", false)
  | 2 => ("DoughDebts$Days", "lost", "I", false)
  | 3 => ("DoughDebts$Days", "burnt", "I", false)
  | 4 => ("DoughDebts$Days", "booked", "I", false)
  | 5 => ("DoughDebts$Days", "dough", "[I", true)
  | 6 => ("DoughDebts$Days", "bread", "[I", true)
  | 7 => ("DoughDebts$Days", "wood", "[I", true)
  | 8 => ("DoughDebts$Days", "first", "[I", true)
  | 9 => ("DoughDebts$Days", "mondays", "[I", true)
  | 10 => ("DoughDebts$Days", "sour", "[I", true)
  | _ => ("DoughDebts$Days", "book", "[I", true)
def tyX2 : Nat → FieldType := fun k => match k with
  | 0 => .int
  | 1 => .int
  | 2 => .int
  | 3 => .int
  | 4 => .int
  | 5 => .array .int
  | 6 => .array .int
  | 7 => .array .int
  | 8 => .array .int
  | 9 => .array .int
  | 10 => .array .int
  | _ => .array .int
abbrev wsX20 : List Cond := u_ws RX2 TX2 12
theorem nmX2 : ∀ a, a < 12 → ∀ b, b < 12 → a ≠ b → (TX2 a).2.1 ≠ (TX2 b).2.1 := by decide +kernel
theorem tyX2_ok : ∀ k, k < 12 → parseFieldDescriptor (TX2 k).2.2.1 = some (tyX2 k) := by decide +kernel
abbrev cX2_init : ByteArray := prog_2_method_1_code
def yX2_init : MethodName := ⟨RX2, "<init>", "()V"⟩
def dkwX2_init_2 : List UInt8 := [181, 0, 28, 42, 16, 9, 188, 10, 181, 0, 31, 42, 16, 9, 188, 10, 181, 0, 34, 177]
abbrev dktX2_init_2 : List UInt8 := dkwX2_init_2 ++ []
def dkwX2_init_1 : List UInt8 := [181, 0, 19, 42, 16, 9, 188, 10, 181, 0, 22, 42, 16, 9, 188, 10, 181, 0, 25, 42, 16, 9, 188, 10]
abbrev dktX2_init_1 : List UInt8 := dkwX2_init_1 ++ dktX2_init_2
def dkwX2_init_0 : List UInt8 := [42, 183, 0, 3, 42, 2, 181, 0, 9, 42, 16, 9, 188, 10, 181, 0, 15, 42, 16, 9, 188, 10]
abbrev dktX2_init_0 : List UInt8 := dkwX2_init_0 ++ dktX2_init_1
theorem dksX2_init_0 : cX2_init.data.toList.drop 0 = dktX2_init_0 := by decide +kernel
theorem dksX2_init_1 : cX2_init.data.toList.drop 22 = dktX2_init_1 := dk_seg dksX2_init_0 22 rfl rfl
theorem dksX2_init_2 : cX2_init.data.toList.drop 46 = dktX2_init_2 := dk_seg dksX2_init_1 24 rfl rfl
theorem dX2_init_0 : decode cX2_init 0 = .ok (.aload_n 0, 1) := dk_42 (dk_at dksX2_init_0 0 rfl rfl)
theorem dX2_init_1 : decode cX2_init 1 = .ok (.invokespecial 3, 3) := dk_183 0 3 (dk_at dksX2_init_0 1 rfl rfl)
theorem dX2_init_4 : decode cX2_init 4 = .ok (.aload_n 0, 1) := dk_42 (dk_at dksX2_init_0 4 rfl rfl)
theorem dX2_init_5 : decode cX2_init 5 = .ok (.iconst (-1), 1) := dk_2 (dk_at dksX2_init_0 5 rfl rfl)
theorem dX2_init_6 : decode cX2_init 6 = .ok (.putfield 9, 3) := dk_181 0 9 (dk_at dksX2_init_0 6 rfl rfl)
theorem dX2_init_9 : decode cX2_init 9 = .ok (.aload_n 0, 1) := dk_42 (dk_at dksX2_init_0 9 rfl rfl)
theorem dX2_init_10 : decode cX2_init 10 = .ok (.bipush 9, 2) := dk_16 9 (dk_at dksX2_init_0 10 rfl rfl)
theorem dX2_init_12 : decode cX2_init 12 = .ok (.newarray .int, 2) := dk_188_10 (dk_at dksX2_init_0 12 rfl rfl)
theorem dX2_init_14 : decode cX2_init 14 = .ok (.putfield 15, 3) := dk_181 0 15 (dk_at dksX2_init_0 14 rfl rfl)
theorem dX2_init_17 : decode cX2_init 17 = .ok (.aload_n 0, 1) := dk_42 (dk_at dksX2_init_0 17 rfl rfl)
theorem dX2_init_18 : decode cX2_init 18 = .ok (.bipush 9, 2) := dk_16 9 (dk_at dksX2_init_0 18 rfl rfl)
theorem dX2_init_20 : decode cX2_init 20 = .ok (.newarray .int, 2) := dk_188_10 (dk_at dksX2_init_0 20 rfl rfl)
theorem dX2_init_22 : decode cX2_init 22 = .ok (.putfield 19, 3) := dk_181 0 19 (dk_at dksX2_init_1 0 rfl rfl)
theorem dX2_init_25 : decode cX2_init 25 = .ok (.aload_n 0, 1) := dk_42 (dk_at dksX2_init_1 3 rfl rfl)
theorem dX2_init_26 : decode cX2_init 26 = .ok (.bipush 9, 2) := dk_16 9 (dk_at dksX2_init_1 4 rfl rfl)
theorem dX2_init_28 : decode cX2_init 28 = .ok (.newarray .int, 2) := dk_188_10 (dk_at dksX2_init_1 6 rfl rfl)
theorem dX2_init_30 : decode cX2_init 30 = .ok (.putfield 22, 3) := dk_181 0 22 (dk_at dksX2_init_1 8 rfl rfl)
theorem dX2_init_33 : decode cX2_init 33 = .ok (.aload_n 0, 1) := dk_42 (dk_at dksX2_init_1 11 rfl rfl)
theorem dX2_init_34 : decode cX2_init 34 = .ok (.bipush 9, 2) := dk_16 9 (dk_at dksX2_init_1 12 rfl rfl)
theorem dX2_init_36 : decode cX2_init 36 = .ok (.newarray .int, 2) := dk_188_10 (dk_at dksX2_init_1 14 rfl rfl)
theorem dX2_init_38 : decode cX2_init 38 = .ok (.putfield 25, 3) := dk_181 0 25 (dk_at dksX2_init_1 16 rfl rfl)
theorem dX2_init_41 : decode cX2_init 41 = .ok (.aload_n 0, 1) := dk_42 (dk_at dksX2_init_1 19 rfl rfl)
theorem dX2_init_42 : decode cX2_init 42 = .ok (.bipush 9, 2) := dk_16 9 (dk_at dksX2_init_1 20 rfl rfl)
theorem dX2_init_44 : decode cX2_init 44 = .ok (.newarray .int, 2) := dk_188_10 (dk_at dksX2_init_1 22 rfl rfl)
theorem dX2_init_46 : decode cX2_init 46 = .ok (.putfield 28, 3) := dk_181 0 28 (dk_at dksX2_init_2 0 rfl rfl)
theorem dX2_init_49 : decode cX2_init 49 = .ok (.aload_n 0, 1) := dk_42 (dk_at dksX2_init_2 3 rfl rfl)
theorem dX2_init_50 : decode cX2_init 50 = .ok (.bipush 9, 2) := dk_16 9 (dk_at dksX2_init_2 4 rfl rfl)
theorem dX2_init_52 : decode cX2_init 52 = .ok (.newarray .int, 2) := dk_188_10 (dk_at dksX2_init_2 6 rfl rfl)
theorem dX2_init_54 : decode cX2_init 54 = .ok (.putfield 31, 3) := dk_181 0 31 (dk_at dksX2_init_2 8 rfl rfl)
theorem dX2_init_57 : decode cX2_init 57 = .ok (.aload_n 0, 1) := dk_42 (dk_at dksX2_init_2 11 rfl rfl)
theorem dX2_init_58 : decode cX2_init 58 = .ok (.bipush 9, 2) := dk_16 9 (dk_at dksX2_init_2 12 rfl rfl)
theorem dX2_init_60 : decode cX2_init 60 = .ok (.newarray .int, 2) := dk_188_10 (dk_at dksX2_init_2 14 rfl rfl)
theorem dX2_init_62 : decode cX2_init 62 = .ok (.putfield 34, 3) := dk_181 0 34 (dk_at dksX2_init_2 16 rfl rfl)
theorem dX2_init_65 : decode cX2_init 65 = .ok (.return_, 1) := dk_177 (dk_at dksX2_init_2 19 rfl rfl)
abbrev cX2_become : ByteArray := prog_2_method_2_code
def yX2_become : MethodName := ⟨RX2, "become", "(LDoughDebts$Days;)V"⟩
def dkwX2_become_5 : List UInt8 := [184, 0, 49, 177]
abbrev dktX2_become_5 : List UInt8 := dkwX2_become_5 ++ []
def dkwX2_become_4 : List UInt8 := [184, 0, 49, 43, 180, 0, 31, 42, 180, 0, 31, 184, 0, 49, 43, 180, 0, 34, 42, 180, 0, 34]
abbrev dktX2_become_4 : List UInt8 := dkwX2_become_4 ++ dktX2_become_5
def dkwX2_become_3 : List UInt8 := [184, 0, 49, 43, 180, 0, 25, 42, 180, 0, 25, 184, 0, 49, 43, 180, 0, 28, 42, 180, 0, 28]
abbrev dktX2_become_3 : List UInt8 := dkwX2_become_3 ++ dktX2_become_4
def dkwX2_become_2 : List UInt8 := [184, 0, 49, 43, 180, 0, 19, 42, 180, 0, 19, 184, 0, 49, 43, 180, 0, 22, 42, 180, 0, 22]
abbrev dktX2_become_2 : List UInt8 := dkwX2_become_2 ++ dktX2_become_3
def dkwX2_become_1 : List UInt8 := [42, 43, 180, 0, 9, 181, 0, 9, 42, 43, 180, 0, 46, 181, 0, 46, 43, 180, 0, 15, 42, 180, 0, 15]
abbrev dktX2_become_1 : List UInt8 := dkwX2_become_1 ++ dktX2_become_2
def dkwX2_become_0 : List UInt8 := [42, 43, 180, 0, 37, 181, 0, 37, 42, 43, 180, 0, 40, 181, 0, 40, 42, 43, 180, 0, 43, 181, 0, 43]
abbrev dktX2_become_0 : List UInt8 := dkwX2_become_0 ++ dktX2_become_1
theorem dksX2_become_0 : cX2_become.data.toList.drop 0 = dktX2_become_0 := by decide +kernel
theorem dksX2_become_1 : cX2_become.data.toList.drop 24 = dktX2_become_1 := dk_seg dksX2_become_0 24 rfl rfl
theorem dksX2_become_2 : cX2_become.data.toList.drop 48 = dktX2_become_2 := dk_seg dksX2_become_1 24 rfl rfl
theorem dksX2_become_3 : cX2_become.data.toList.drop 70 = dktX2_become_3 := dk_seg dksX2_become_2 22 rfl rfl
theorem dksX2_become_4 : cX2_become.data.toList.drop 92 = dktX2_become_4 := dk_seg dksX2_become_3 22 rfl rfl
theorem dksX2_become_5 : cX2_become.data.toList.drop 114 = dktX2_become_5 := dk_seg dksX2_become_4 22 rfl rfl
theorem dX2_become_0 : decode cX2_become 0 = .ok (.aload_n 0, 1) := dk_42 (dk_at dksX2_become_0 0 rfl rfl)
theorem dX2_become_1 : decode cX2_become 1 = .ok (.aload_n 1, 1) := dk_43 (dk_at dksX2_become_0 1 rfl rfl)
theorem dX2_become_2 : decode cX2_become 2 = .ok (.getfield 37, 3) := dk_180 0 37 (dk_at dksX2_become_0 2 rfl rfl)
theorem dX2_become_5 : decode cX2_become 5 = .ok (.putfield 37, 3) := dk_181 0 37 (dk_at dksX2_become_0 5 rfl rfl)
theorem dX2_become_8 : decode cX2_become 8 = .ok (.aload_n 0, 1) := dk_42 (dk_at dksX2_become_0 8 rfl rfl)
theorem dX2_become_9 : decode cX2_become 9 = .ok (.aload_n 1, 1) := dk_43 (dk_at dksX2_become_0 9 rfl rfl)
theorem dX2_become_10 : decode cX2_become 10 = .ok (.getfield 40, 3) := dk_180 0 40 (dk_at dksX2_become_0 10 rfl rfl)
theorem dX2_become_13 : decode cX2_become 13 = .ok (.putfield 40, 3) := dk_181 0 40 (dk_at dksX2_become_0 13 rfl rfl)
theorem dX2_become_16 : decode cX2_become 16 = .ok (.aload_n 0, 1) := dk_42 (dk_at dksX2_become_0 16 rfl rfl)
theorem dX2_become_17 : decode cX2_become 17 = .ok (.aload_n 1, 1) := dk_43 (dk_at dksX2_become_0 17 rfl rfl)
theorem dX2_become_18 : decode cX2_become 18 = .ok (.getfield 43, 3) := dk_180 0 43 (dk_at dksX2_become_0 18 rfl rfl)
theorem dX2_become_21 : decode cX2_become 21 = .ok (.putfield 43, 3) := dk_181 0 43 (dk_at dksX2_become_0 21 rfl rfl)
theorem dX2_become_24 : decode cX2_become 24 = .ok (.aload_n 0, 1) := dk_42 (dk_at dksX2_become_1 0 rfl rfl)
theorem dX2_become_25 : decode cX2_become 25 = .ok (.aload_n 1, 1) := dk_43 (dk_at dksX2_become_1 1 rfl rfl)
theorem dX2_become_26 : decode cX2_become 26 = .ok (.getfield 9, 3) := dk_180 0 9 (dk_at dksX2_become_1 2 rfl rfl)
theorem dX2_become_29 : decode cX2_become 29 = .ok (.putfield 9, 3) := dk_181 0 9 (dk_at dksX2_become_1 5 rfl rfl)
theorem dX2_become_32 : decode cX2_become 32 = .ok (.aload_n 0, 1) := dk_42 (dk_at dksX2_become_1 8 rfl rfl)
theorem dX2_become_33 : decode cX2_become 33 = .ok (.aload_n 1, 1) := dk_43 (dk_at dksX2_become_1 9 rfl rfl)
theorem dX2_become_34 : decode cX2_become 34 = .ok (.getfield 46, 3) := dk_180 0 46 (dk_at dksX2_become_1 10 rfl rfl)
theorem dX2_become_37 : decode cX2_become 37 = .ok (.putfield 46, 3) := dk_181 0 46 (dk_at dksX2_become_1 13 rfl rfl)
theorem dX2_become_40 : decode cX2_become 40 = .ok (.aload_n 1, 1) := dk_43 (dk_at dksX2_become_1 16 rfl rfl)
theorem dX2_become_41 : decode cX2_become 41 = .ok (.getfield 15, 3) := dk_180 0 15 (dk_at dksX2_become_1 17 rfl rfl)
theorem dX2_become_44 : decode cX2_become 44 = .ok (.aload_n 0, 1) := dk_42 (dk_at dksX2_become_1 20 rfl rfl)
theorem dX2_become_45 : decode cX2_become 45 = .ok (.getfield 15, 3) := dk_180 0 15 (dk_at dksX2_become_1 21 rfl rfl)
theorem dX2_become_48 : decode cX2_become 48 = .ok (.invokestatic 49, 3) := dk_184 0 49 (dk_at dksX2_become_2 0 rfl rfl)
theorem dX2_become_51 : decode cX2_become 51 = .ok (.aload_n 1, 1) := dk_43 (dk_at dksX2_become_2 3 rfl rfl)
theorem dX2_become_52 : decode cX2_become 52 = .ok (.getfield 19, 3) := dk_180 0 19 (dk_at dksX2_become_2 4 rfl rfl)
theorem dX2_become_55 : decode cX2_become 55 = .ok (.aload_n 0, 1) := dk_42 (dk_at dksX2_become_2 7 rfl rfl)
theorem dX2_become_56 : decode cX2_become 56 = .ok (.getfield 19, 3) := dk_180 0 19 (dk_at dksX2_become_2 8 rfl rfl)
theorem dX2_become_59 : decode cX2_become 59 = .ok (.invokestatic 49, 3) := dk_184 0 49 (dk_at dksX2_become_2 11 rfl rfl)
theorem dX2_become_62 : decode cX2_become 62 = .ok (.aload_n 1, 1) := dk_43 (dk_at dksX2_become_2 14 rfl rfl)
theorem dX2_become_63 : decode cX2_become 63 = .ok (.getfield 22, 3) := dk_180 0 22 (dk_at dksX2_become_2 15 rfl rfl)
theorem dX2_become_66 : decode cX2_become 66 = .ok (.aload_n 0, 1) := dk_42 (dk_at dksX2_become_2 18 rfl rfl)
theorem dX2_become_67 : decode cX2_become 67 = .ok (.getfield 22, 3) := dk_180 0 22 (dk_at dksX2_become_2 19 rfl rfl)
theorem dX2_become_70 : decode cX2_become 70 = .ok (.invokestatic 49, 3) := dk_184 0 49 (dk_at dksX2_become_3 0 rfl rfl)
theorem dX2_become_73 : decode cX2_become 73 = .ok (.aload_n 1, 1) := dk_43 (dk_at dksX2_become_3 3 rfl rfl)
theorem dX2_become_74 : decode cX2_become 74 = .ok (.getfield 25, 3) := dk_180 0 25 (dk_at dksX2_become_3 4 rfl rfl)
theorem dX2_become_77 : decode cX2_become 77 = .ok (.aload_n 0, 1) := dk_42 (dk_at dksX2_become_3 7 rfl rfl)
theorem dX2_become_78 : decode cX2_become 78 = .ok (.getfield 25, 3) := dk_180 0 25 (dk_at dksX2_become_3 8 rfl rfl)
theorem dX2_become_81 : decode cX2_become 81 = .ok (.invokestatic 49, 3) := dk_184 0 49 (dk_at dksX2_become_3 11 rfl rfl)
theorem dX2_become_84 : decode cX2_become 84 = .ok (.aload_n 1, 1) := dk_43 (dk_at dksX2_become_3 14 rfl rfl)
theorem dX2_become_85 : decode cX2_become 85 = .ok (.getfield 28, 3) := dk_180 0 28 (dk_at dksX2_become_3 15 rfl rfl)
theorem dX2_become_88 : decode cX2_become 88 = .ok (.aload_n 0, 1) := dk_42 (dk_at dksX2_become_3 18 rfl rfl)
theorem dX2_become_89 : decode cX2_become 89 = .ok (.getfield 28, 3) := dk_180 0 28 (dk_at dksX2_become_3 19 rfl rfl)
theorem dX2_become_92 : decode cX2_become 92 = .ok (.invokestatic 49, 3) := dk_184 0 49 (dk_at dksX2_become_4 0 rfl rfl)
theorem dX2_become_95 : decode cX2_become 95 = .ok (.aload_n 1, 1) := dk_43 (dk_at dksX2_become_4 3 rfl rfl)
theorem dX2_become_96 : decode cX2_become 96 = .ok (.getfield 31, 3) := dk_180 0 31 (dk_at dksX2_become_4 4 rfl rfl)
theorem dX2_become_99 : decode cX2_become 99 = .ok (.aload_n 0, 1) := dk_42 (dk_at dksX2_become_4 7 rfl rfl)
theorem dX2_become_100 : decode cX2_become 100 = .ok (.getfield 31, 3) := dk_180 0 31 (dk_at dksX2_become_4 8 rfl rfl)
theorem dX2_become_103 : decode cX2_become 103 = .ok (.invokestatic 49, 3) := dk_184 0 49 (dk_at dksX2_become_4 11 rfl rfl)
theorem dX2_become_106 : decode cX2_become 106 = .ok (.aload_n 1, 1) := dk_43 (dk_at dksX2_become_4 14 rfl rfl)
theorem dX2_become_107 : decode cX2_become 107 = .ok (.getfield 34, 3) := dk_180 0 34 (dk_at dksX2_become_4 15 rfl rfl)
theorem dX2_become_110 : decode cX2_become 110 = .ok (.aload_n 0, 1) := dk_42 (dk_at dksX2_become_4 18 rfl rfl)
theorem dX2_become_111 : decode cX2_become 111 = .ok (.getfield 34, 3) := dk_180 0 34 (dk_at dksX2_become_4 19 rfl rfl)
theorem dX2_become_114 : decode cX2_become 114 = .ok (.invokestatic 49, 3) := dk_184 0 49 (dk_at dksX2_become_5 0 rfl rfl)
theorem dX2_become_117 : decode cX2_become 117 = .ok (.return_, 1) := dk_177 (dk_at dksX2_become_5 3 rfl rfl)
abbrev cX2_draw : ByteArray := prog_2_method_3_code
def yX2_draw : MethodName := ⟨RX2, "draw", "(I)I"⟩
def dkwX2_draw_0 : List UInt8 := [42, 18, 53, 42, 180, 0, 40, 104, 18, 54, 96, 181, 0, 40, 42, 180, 0, 40, 16, 8, 124, 27, 112, 172]
abbrev dktX2_draw_0 : List UInt8 := dkwX2_draw_0 ++ []
theorem dksX2_draw_0 : cX2_draw.data.toList.drop 0 = dktX2_draw_0 := by decide +kernel
theorem dX2_draw_0 : decode cX2_draw 0 = .ok (.aload_n 0, 1) := dk_42 (dk_at dksX2_draw_0 0 rfl rfl)
theorem dX2_draw_1 : decode cX2_draw 1 = .ok (.ldc 53, 2) := dk_18 53 (dk_at dksX2_draw_0 1 rfl rfl)
theorem dX2_draw_3 : decode cX2_draw 3 = .ok (.aload_n 0, 1) := dk_42 (dk_at dksX2_draw_0 3 rfl rfl)
theorem dX2_draw_4 : decode cX2_draw 4 = .ok (.getfield 40, 3) := dk_180 0 40 (dk_at dksX2_draw_0 4 rfl rfl)
theorem dX2_draw_7 : decode cX2_draw 7 = .ok (.imul, 1) := dk_104 (dk_at dksX2_draw_0 7 rfl rfl)
theorem dX2_draw_8 : decode cX2_draw 8 = .ok (.ldc 54, 2) := dk_18 54 (dk_at dksX2_draw_0 8 rfl rfl)
theorem dX2_draw_10 : decode cX2_draw 10 = .ok (.iadd, 1) := dk_96 (dk_at dksX2_draw_0 10 rfl rfl)
theorem dX2_draw_11 : decode cX2_draw 11 = .ok (.putfield 40, 3) := dk_181 0 40 (dk_at dksX2_draw_0 11 rfl rfl)
theorem dX2_draw_14 : decode cX2_draw 14 = .ok (.aload_n 0, 1) := dk_42 (dk_at dksX2_draw_0 14 rfl rfl)
theorem dX2_draw_15 : decode cX2_draw 15 = .ok (.getfield 40, 3) := dk_180 0 40 (dk_at dksX2_draw_0 15 rfl rfl)
theorem dX2_draw_18 : decode cX2_draw 18 = .ok (.bipush 8, 2) := dk_16 8 (dk_at dksX2_draw_0 18 rfl rfl)
theorem dX2_draw_20 : decode cX2_draw 20 = .ok (.iushr, 1) := dk_124 (dk_at dksX2_draw_0 20 rfl rfl)
theorem dX2_draw_21 : decode cX2_draw 21 = .ok (.iload_n 1, 1) := dk_27 (dk_at dksX2_draw_0 21 rfl rfl)
theorem dX2_draw_22 : decode cX2_draw 22 = .ok (.irem, 1) := dk_112 (dk_at dksX2_draw_0 22 rfl rfl)
theorem dX2_draw_23 : decode cX2_draw 23 = .ok (.ireturn, 1) := dk_172 (dk_at dksX2_draw_0 23 rfl rfl)
theorem q90 : (Jvm.Cond.initialized "DoughDebts$Days") ∈ lw_all := lw_g (lw_at lw_m1 3 rfl) rfl
theorem q163 : (Jvm.Cond.instantiable "DoughDebts$Days" (12 : Nat)) ∈ lw_all := lw_g (lw_at lw_m1 76 rfl) rfl
theorem q165 : (Jvm.Cond.instanceMethod ({ cls := "DoughDebts$Days", name := "<init>", desc := "()V" } : Jvm.MethodName)) ∈ lw_all := lw_g (lw_at lw_m1 78 rfl) rfl
theorem q166 : (Jvm.Cond.code ({ cls := "DoughDebts$Days", name := "<init>", desc := "()V" } : Jvm.MethodName) prog_2_method_1_code (1 : Nat) (Option.none : Option Jvm.ClassFile.FieldType)) ∈ lw_all := lw_g (lw_at lw_m1 79 rfl) rfl
theorem q167 : (Jvm.Cond.methodLink "DoughDebts$Days" (3 : Nat) ({ cls := "java/lang/Object", name := "<init>", desc := "()V" } : Jvm.MethodName)) ∈ lw_all := lw_g (lw_at lw_m1 80 rfl) rfl
theorem q168 : (Jvm.Cond.fieldLink "DoughDebts$Days" (37 : Nat) "DoughDebts$Days" "day" "I") ∈ lw_all := lw_g (lw_at lw_m1 81 rfl) rfl
theorem q170 : (Jvm.Cond.fieldLink "DoughDebts$Days" (40 : Nat) "DoughDebts$Days" "state" "I") ∈ lw_all := lw_g (lw_at lw_m1 83 rfl) rfl
theorem q172 : (Jvm.Cond.fieldLink "DoughDebts$Days" (43 : Nat) "DoughDebts$Days" "lost" "I") ∈ lw_all := lw_g (lw_at lw_m1 85 rfl) rfl
theorem q174 : (Jvm.Cond.fieldLink "DoughDebts$Days" (9 : Nat) "DoughDebts$Days" "burnt" "I") ∈ lw_all := lw_g (lw_at lw_m1 87 rfl) rfl
theorem q176 : (Jvm.Cond.fieldLink "DoughDebts$Days" (46 : Nat) "DoughDebts$Days" "booked" "I") ∈ lw_all := lw_g (lw_at lw_m1 89 rfl) rfl
theorem q178 : (Jvm.Cond.fieldLink "DoughDebts$Days" (15 : Nat) "DoughDebts$Days" "dough" "[I") ∈ lw_all := lw_g (lw_at lw_m1 91 rfl) rfl
theorem q180 : (Jvm.Cond.fieldLink "DoughDebts$Days" (19 : Nat) "DoughDebts$Days" "bread" "[I") ∈ lw_all := lw_g (lw_at lw_m1 93 rfl) rfl
theorem q182 : (Jvm.Cond.fieldLink "DoughDebts$Days" (22 : Nat) "DoughDebts$Days" "wood" "[I") ∈ lw_all := lw_g (lw_at lw_m1 95 rfl) rfl
theorem q184 : (Jvm.Cond.fieldLink "DoughDebts$Days" (25 : Nat) "DoughDebts$Days" "first" "[I") ∈ lw_all := lw_g (lw_at lw_m1 97 rfl) rfl
theorem q186 : (Jvm.Cond.fieldLink "DoughDebts$Days" (28 : Nat) "DoughDebts$Days" "mondays" "[I") ∈ lw_all := lw_g (lw_at lw_m1 99 rfl) rfl
theorem q188 : (Jvm.Cond.fieldLink "DoughDebts$Days" (31 : Nat) "DoughDebts$Days" "sour" "[I") ∈ lw_all := lw_g (lw_at lw_m1 101 rfl) rfl
theorem q190 : (Jvm.Cond.fieldLink "DoughDebts$Days" (34 : Nat) "DoughDebts$Days" "book" "[I") ∈ lw_all := lw_g (lw_at lw_m1 103 rfl) rfl
theorem q192 : (Jvm.Cond.lays "DoughDebts$Days" "DoughDebts$Days" "day" "I") ∈ lw_all := lw_g (lw_at lw_m1 105 rfl) rfl
theorem q193 : (Jvm.Cond.soleField "DoughDebts$Days" "day") ∈ lw_all := lw_g (lw_at lw_m1 106 rfl) rfl
theorem q194 : (Jvm.Cond.lays "DoughDebts$Days" "DoughDebts$Days" "state" "I") ∈ lw_all := lw_g (lw_at lw_m1 107 rfl) rfl
theorem q195 : (Jvm.Cond.soleField "DoughDebts$Days" "state") ∈ lw_all := lw_g (lw_at lw_m1 108 rfl) rfl
theorem q196 : (Jvm.Cond.lays "DoughDebts$Days" "DoughDebts$Days" "lost" "I") ∈ lw_all := lw_g (lw_at lw_m1 109 rfl) rfl
theorem q197 : (Jvm.Cond.soleField "DoughDebts$Days" "lost") ∈ lw_all := lw_g (lw_at lw_m1 110 rfl) rfl
theorem q198 : (Jvm.Cond.lays "DoughDebts$Days" "DoughDebts$Days" "burnt" "I") ∈ lw_all := lw_g (lw_at lw_m1 111 rfl) rfl
theorem q199 : (Jvm.Cond.soleField "DoughDebts$Days" "burnt") ∈ lw_all := lw_g (lw_at lw_m1 112 rfl) rfl
theorem q200 : (Jvm.Cond.lays "DoughDebts$Days" "DoughDebts$Days" "booked" "I") ∈ lw_all := lw_g (lw_at lw_m1 113 rfl) rfl
theorem q201 : (Jvm.Cond.soleField "DoughDebts$Days" "booked") ∈ lw_all := lw_g (lw_at lw_m1 114 rfl) rfl
theorem q202 : (Jvm.Cond.laysFinal "DoughDebts$Days" "DoughDebts$Days" "dough" "[I") ∈ lw_all := lw_g (lw_at lw_m1 115 rfl) rfl
theorem q203 : (Jvm.Cond.soleField "DoughDebts$Days" "dough") ∈ lw_all := lw_g (lw_at lw_m1 116 rfl) rfl
theorem q204 : (Jvm.Cond.laysFinal "DoughDebts$Days" "DoughDebts$Days" "bread" "[I") ∈ lw_all := lw_g (lw_at lw_m1 117 rfl) rfl
theorem q205 : (Jvm.Cond.soleField "DoughDebts$Days" "bread") ∈ lw_all := lw_g (lw_at lw_m1 118 rfl) rfl
theorem q206 : (Jvm.Cond.laysFinal "DoughDebts$Days" "DoughDebts$Days" "wood" "[I") ∈ lw_all := lw_g (lw_at lw_m1 119 rfl) rfl
theorem q207 : (Jvm.Cond.soleField "DoughDebts$Days" "wood") ∈ lw_all := lw_g (lw_at lw_m1 120 rfl) rfl
theorem q208 : (Jvm.Cond.laysFinal "DoughDebts$Days" "DoughDebts$Days" "first" "[I") ∈ lw_all := lw_g (lw_at lw_m1 121 rfl) rfl
theorem q209 : (Jvm.Cond.soleField "DoughDebts$Days" "first") ∈ lw_all := lw_g (lw_at lw_m1 122 rfl) rfl
theorem q210 : (Jvm.Cond.laysFinal "DoughDebts$Days" "DoughDebts$Days" "mondays" "[I") ∈ lw_all := lw_g (lw_at lw_m1 123 rfl) rfl
theorem q211 : (Jvm.Cond.soleField "DoughDebts$Days" "mondays") ∈ lw_all := lw_g (lw_at lw_m1 124 rfl) rfl
theorem q212 : (Jvm.Cond.laysFinal "DoughDebts$Days" "DoughDebts$Days" "sour" "[I") ∈ lw_all := lw_g (lw_at lw_m1 125 rfl) rfl
theorem q213 : (Jvm.Cond.soleField "DoughDebts$Days" "sour") ∈ lw_all := lw_g (lw_at lw_m1 126 rfl) rfl
theorem q214 : (Jvm.Cond.laysFinal "DoughDebts$Days" "DoughDebts$Days" "book" "[I") ∈ lw_all := lw_g (lw_at lw_m1 127 rfl) rfl
theorem q215 : (Jvm.Cond.soleField "DoughDebts$Days" "book") ∈ lw_all := lw_g (lw_at lw_m1 128 rfl) rfl
theorem q216 : (Jvm.Cond.superclass "DoughDebts$Days" "java/lang/Object") ∈ lw_all := lw_g (lw_at lw_m1 129 rfl) rfl
theorem q707 : (Jvm.Cond.instanceMethod ({ cls := "DoughDebts$Days", name := "become", desc := "(LDoughDebts$Days;)V" } : Jvm.MethodName)) ∈ lw_all := lw_g (lw_at lw_m3 140 rfl) rfl
theorem q708 : (Jvm.Cond.selects "DoughDebts$Days" ({ cls := "DoughDebts$Days", name := "become", desc := "(LDoughDebts$Days;)V" } : Jvm.MethodName) ({ cls := "DoughDebts$Days", name := "become", desc := "(LDoughDebts$Days;)V" } : Jvm.MethodName)) ∈ lw_all := lw_g (lw_at lw_m3 141 rfl) rfl
theorem q709 : (Jvm.Cond.code ({ cls := "DoughDebts$Days", name := "become", desc := "(LDoughDebts$Days;)V" } : Jvm.MethodName) prog_2_method_2_code (2 : Nat) (Option.none : Option Jvm.ClassFile.FieldType)) ∈ lw_all := lw_g (lw_at lw_m3 142 rfl) rfl
theorem q710 : (Jvm.Cond.methodLinkNest "DoughDebts$Days" (49 : Nat) ({ cls := "DoughDebts", name := "copies", desc := "([I[I)V" } : Jvm.MethodName) "DoughDebts") ∈ lw_tbl := lw_at lw_m3 143 rfl
theorem q830 : (Jvm.Cond.instanceMethod ({ cls := "DoughDebts$Days", name := "draw", desc := "(I)I" } : Jvm.MethodName)) ∈ lw_all := lw_g (lw_at lw_m4 23 rfl) rfl
theorem q831 : (Jvm.Cond.selects "DoughDebts$Days" ({ cls := "DoughDebts$Days", name := "draw", desc := "(I)I" } : Jvm.MethodName) ({ cls := "DoughDebts$Days", name := "draw", desc := "(I)I" } : Jvm.MethodName)) ∈ lw_all := lw_g (lw_at lw_m4 24 rfl) rfl
theorem q832 : (Jvm.Cond.code ({ cls := "DoughDebts$Days", name := "draw", desc := "(I)I" } : Jvm.MethodName) prog_2_method_3_code (2 : Nat) (Option.some Jvm.ClassFile.FieldType.int)) ∈ lw_all := lw_g (lw_at lw_m4 25 rfl) rfl
theorem q833 : (Jvm.Cond.constant "DoughDebts$Days" (53 : Nat) (1664525 : Int32)) ∈ lw_all := lw_g (lw_at lw_m4 26 rfl) rfl
theorem q834 : (Jvm.Cond.constant "DoughDebts$Days" (54 : Nat) (1013904223 : Int32)) ∈ lw_all := lw_g (lw_at lw_m4 27 rfl) rfl
theorem in_X2 : ∀ w ∈ wsX20, w ∈ lw_all := lw_in wsX20 [192, 194, 196, 198, 200, 202, 204, 206, 208, 210, 212, 214] (by decide +kernel) (by decide +kernel)
/-! DoughDebts$House -/
set_option maxRecDepth 100000
def RX4 : String := "DoughDebts$House"
def TX4 : u_T := fun k => match k with
  | 0 => ("DoughDebts$House", "size", "I", true)
  | 1 => ("DoughDebts$House", "need", "I", true)
  | 2 => ("DoughDebts$House", "minutes", "I", true)
  | _ => ("DoughDebts$House", "mark", "[B", true)
def tyX4 : Nat → FieldType := fun k => match k with
  | 0 => .int
  | 1 => .int
  | 2 => .int
  | _ => .array .byte
abbrev wsX40 : List Cond := u_ws RX4 TX4 4
theorem nmX4 : ∀ a, a < 4 → ∀ b, b < 4 → a ≠ b → (TX4 a).2.1 ≠ (TX4 b).2.1 := by decide +kernel
theorem tyX4_ok : ∀ k, k < 4 → parseFieldDescriptor (TX4 k).2.2.1 = some (tyX4 k) := by decide +kernel
abbrev cX4_init : ByteArray := prog_4_method_1_code
def yX4_init : MethodName := ⟨RX4, "<init>", "(III[B)V"⟩
def dkwX4_init_1 : List UInt8 := [181, 0, 19, 177]
abbrev dktX4_init_1 : List UInt8 := dkwX4_init_1 ++ []
def dkwX4_init_0 : List UInt8 := [42, 183, 0, 1, 42, 27, 181, 0, 7, 42, 28, 181, 0, 13, 42, 29, 181, 0, 16, 42, 25, 4]
abbrev dktX4_init_0 : List UInt8 := dkwX4_init_0 ++ dktX4_init_1
theorem dksX4_init_0 : cX4_init.data.toList.drop 0 = dktX4_init_0 := by decide +kernel
theorem dksX4_init_1 : cX4_init.data.toList.drop 22 = dktX4_init_1 := dk_seg dksX4_init_0 22 rfl rfl
theorem dX4_init_0 : decode cX4_init 0 = .ok (.aload_n 0, 1) := dk_42 (dk_at dksX4_init_0 0 rfl rfl)
theorem dX4_init_1 : decode cX4_init 1 = .ok (.invokespecial 1, 3) := dk_183 0 1 (dk_at dksX4_init_0 1 rfl rfl)
theorem dX4_init_4 : decode cX4_init 4 = .ok (.aload_n 0, 1) := dk_42 (dk_at dksX4_init_0 4 rfl rfl)
theorem dX4_init_5 : decode cX4_init 5 = .ok (.iload_n 1, 1) := dk_27 (dk_at dksX4_init_0 5 rfl rfl)
theorem dX4_init_6 : decode cX4_init 6 = .ok (.putfield 7, 3) := dk_181 0 7 (dk_at dksX4_init_0 6 rfl rfl)
theorem dX4_init_9 : decode cX4_init 9 = .ok (.aload_n 0, 1) := dk_42 (dk_at dksX4_init_0 9 rfl rfl)
theorem dX4_init_10 : decode cX4_init 10 = .ok (.iload_n 2, 1) := dk_28 (dk_at dksX4_init_0 10 rfl rfl)
theorem dX4_init_11 : decode cX4_init 11 = .ok (.putfield 13, 3) := dk_181 0 13 (dk_at dksX4_init_0 11 rfl rfl)
theorem dX4_init_14 : decode cX4_init 14 = .ok (.aload_n 0, 1) := dk_42 (dk_at dksX4_init_0 14 rfl rfl)
theorem dX4_init_15 : decode cX4_init 15 = .ok (.iload_n 3, 1) := dk_29 (dk_at dksX4_init_0 15 rfl rfl)
theorem dX4_init_16 : decode cX4_init 16 = .ok (.putfield 16, 3) := dk_181 0 16 (dk_at dksX4_init_0 16 rfl rfl)
theorem dX4_init_19 : decode cX4_init 19 = .ok (.aload_n 0, 1) := dk_42 (dk_at dksX4_init_0 19 rfl rfl)
theorem dX4_init_20 : decode cX4_init 20 = .ok (.aload 4, 2) := dk_25 4 (dk_at dksX4_init_0 20 rfl rfl)
theorem dX4_init_22 : decode cX4_init 22 = .ok (.putfield 19, 3) := dk_181 0 19 (dk_at dksX4_init_1 0 rfl rfl)
theorem dX4_init_25 : decode cX4_init 25 = .ok (.return_, 1) := dk_177 (dk_at dksX4_init_1 3 rfl rfl)
theorem q95 : (Jvm.Cond.initialized "DoughDebts$House") ∈ lw_all := lw_g (lw_at lw_m1 8 rfl) rfl
theorem q736 : (Jvm.Cond.instantiable "DoughDebts$House" (4 : Nat)) ∈ lw_all := lw_g (lw_at lw_m3 169 rfl) rfl
theorem q738 : (Jvm.Cond.instanceMethod ({ cls := "DoughDebts$House", name := "<init>", desc := "(III[B)V" } : Jvm.MethodName)) ∈ lw_all := lw_g (lw_at lw_m3 171 rfl) rfl
theorem q739 : (Jvm.Cond.code ({ cls := "DoughDebts$House", name := "<init>", desc := "(III[B)V" } : Jvm.MethodName) prog_4_method_1_code (5 : Nat) (Option.none : Option Jvm.ClassFile.FieldType)) ∈ lw_all := lw_g (lw_at lw_m3 172 rfl) rfl
theorem q740 : (Jvm.Cond.methodLink "DoughDebts$House" (1 : Nat) ({ cls := "java/lang/Object", name := "<init>", desc := "()V" } : Jvm.MethodName)) ∈ lw_all := lw_g (lw_at lw_m3 173 rfl) rfl
theorem q741 : (Jvm.Cond.fieldLink "DoughDebts$House" (7 : Nat) "DoughDebts$House" "size" "I") ∈ lw_all := lw_g (lw_at lw_m3 174 rfl) rfl
theorem q743 : (Jvm.Cond.fieldLink "DoughDebts$House" (13 : Nat) "DoughDebts$House" "need" "I") ∈ lw_all := lw_g (lw_at lw_m3 176 rfl) rfl
theorem q745 : (Jvm.Cond.fieldLink "DoughDebts$House" (16 : Nat) "DoughDebts$House" "minutes" "I") ∈ lw_all := lw_g (lw_at lw_m3 178 rfl) rfl
theorem q747 : (Jvm.Cond.fieldLink "DoughDebts$House" (19 : Nat) "DoughDebts$House" "mark" "[B") ∈ lw_all := lw_g (lw_at lw_m3 180 rfl) rfl
theorem q749 : (Jvm.Cond.laysFinal "DoughDebts$House" "DoughDebts$House" "size" "I") ∈ lw_all := lw_g (lw_at lw_m3 182 rfl) rfl
theorem q750 : (Jvm.Cond.soleField "DoughDebts$House" "size") ∈ lw_all := lw_g (lw_at lw_m3 183 rfl) rfl
theorem q751 : (Jvm.Cond.laysFinal "DoughDebts$House" "DoughDebts$House" "need" "I") ∈ lw_all := lw_g (lw_at lw_m3 184 rfl) rfl
theorem q752 : (Jvm.Cond.soleField "DoughDebts$House" "need") ∈ lw_all := lw_g (lw_at lw_m3 185 rfl) rfl
theorem q753 : (Jvm.Cond.laysFinal "DoughDebts$House" "DoughDebts$House" "minutes" "I") ∈ lw_all := lw_g (lw_at lw_m3 186 rfl) rfl
theorem q754 : (Jvm.Cond.soleField "DoughDebts$House" "minutes") ∈ lw_all := lw_g (lw_at lw_m3 187 rfl) rfl
theorem q755 : (Jvm.Cond.laysFinal "DoughDebts$House" "DoughDebts$House" "mark" "[B") ∈ lw_all := lw_g (lw_at lw_m3 188 rfl) rfl
theorem q756 : (Jvm.Cond.soleField "DoughDebts$House" "mark") ∈ lw_all := lw_g (lw_at lw_m3 189 rfl) rfl
theorem q757 : (Jvm.Cond.superclass "DoughDebts$House" "java/lang/Object") ∈ lw_all := lw_g (lw_at lw_m3 190 rfl) rfl
theorem in_X4 : ∀ w ∈ wsX40, w ∈ lw_all := lw_in wsX40 [749, 751, 753, 755] (by decide +kernel) (by decide +kernel)
/-! DoughDebts$Fault -/
set_option maxRecDepth 100000
def RX5 : String := "DoughDebts$Fault"
def TX5 : u_T := fun k => match k with
  | 0 => ("java/lang/Throwable", "cause", "Ljava/lang/Throwable;", false)
  | 1 => ("java/lang/Throwable", "stackTrace", "[Ljava/lang/StackTraceElement;", false)
  | 2 => ("java/lang/Throwable", "suppressedExceptions", "Ljava/util/List;", false)
  | 3 => ("java/lang/Throwable", "detailMessage", "Ljava/lang/String;", false)
  | 4 => ("java/lang/Throwable", "backtrace", "Ljava/lang/Object;", false)
  | 5 => ("java/lang/Throwable", "depth", "I", false)
  | 6 => ("DoughDebts$Fault", "kind", "I", true)
  | _ => ("DoughDebts$Fault", "place", "I", true)
def tyX5 : Nat → FieldType := fun k => match k with
  | 0 => .object "java/lang/Throwable"
  | 1 => .array (.object "java/lang/StackTraceElement")
  | 2 => .object "java/util/List"
  | 3 => .object "java/lang/String"
  | 4 => .object "java/lang/Object"
  | 5 => .int
  | 6 => .int
  | _ => .int
abbrev wsX50 : List Cond := u_ws RX5 TX5 8
theorem nmX5 : ∀ a, a < 8 → ∀ b, b < 8 → a ≠ b → (TX5 a).2.1 ≠ (TX5 b).2.1 := by decide +kernel
theorem tyX5_ok : ∀ k, k < 8 → parseFieldDescriptor (TX5 k).2.2.1 = some (tyX5 k) := by decide +kernel
abbrev cX5_init : ByteArray := prog_3_method_1_code
def yX5_init : MethodName := ⟨RX5, "<init>", "(II)V"⟩
def dkwX5_init_0 : List UInt8 := [42, 1, 1, 3, 3, 183, 0, 1, 42, 27, 181, 0, 7, 42, 28, 181, 0, 13, 177]
abbrev dktX5_init_0 : List UInt8 := dkwX5_init_0 ++ []
theorem dksX5_init_0 : cX5_init.data.toList.drop 0 = dktX5_init_0 := by decide +kernel
theorem dX5_init_0 : decode cX5_init 0 = .ok (.aload_n 0, 1) := dk_42 (dk_at dksX5_init_0 0 rfl rfl)
theorem dX5_init_1 : decode cX5_init 1 = .ok (.aconst_null, 1) := dk_1 (dk_at dksX5_init_0 1 rfl rfl)
theorem dX5_init_2 : decode cX5_init 2 = .ok (.aconst_null, 1) := dk_1 (dk_at dksX5_init_0 2 rfl rfl)
theorem dX5_init_3 : decode cX5_init 3 = .ok (.iconst 0, 1) := dk_3 (dk_at dksX5_init_0 3 rfl rfl)
theorem dX5_init_4 : decode cX5_init 4 = .ok (.iconst 0, 1) := dk_3 (dk_at dksX5_init_0 4 rfl rfl)
theorem dX5_init_5 : decode cX5_init 5 = .ok (.invokespecial 1, 3) := dk_183 0 1 (dk_at dksX5_init_0 5 rfl rfl)
theorem dX5_init_8 : decode cX5_init 8 = .ok (.aload_n 0, 1) := dk_42 (dk_at dksX5_init_0 8 rfl rfl)
theorem dX5_init_9 : decode cX5_init 9 = .ok (.iload_n 1, 1) := dk_27 (dk_at dksX5_init_0 9 rfl rfl)
theorem dX5_init_10 : decode cX5_init 10 = .ok (.putfield 7, 3) := dk_181 0 7 (dk_at dksX5_init_0 10 rfl rfl)
theorem dX5_init_13 : decode cX5_init 13 = .ok (.aload_n 0, 1) := dk_42 (dk_at dksX5_init_0 13 rfl rfl)
theorem dX5_init_14 : decode cX5_init 14 = .ok (.iload_n 2, 1) := dk_28 (dk_at dksX5_init_0 14 rfl rfl)
theorem dX5_init_15 : decode cX5_init 15 = .ok (.putfield 13, 3) := dk_181 0 13 (dk_at dksX5_init_0 15 rfl rfl)
theorem dX5_init_18 : decode cX5_init 18 = .ok (.return_, 1) := dk_177 (dk_at dksX5_init_0 18 rfl rfl)
theorem q105 : (Jvm.Cond.initialized "DoughDebts$Fault") ∈ lw_all := lw_g (lw_at lw_m1 18 rfl) rfl
theorem q539 : (Jvm.Cond.instantiable "DoughDebts$Fault" (8 : Nat)) ∈ lw_all := lw_g (lw_at lw_m2 212 rfl) rfl
theorem q540 : (Jvm.Cond.castable "DoughDebts$Fault" "DoughDebts$Fault") ∈ lw_tbl := lw_at lw_m2 213 rfl
theorem q545 : (Jvm.Cond.selects "DoughDebts$Fault" ({ cls := "java/lang/Throwable", name := "fillInStackTrace", desc := "(I)Ljava/lang/Throwable;" } : Jvm.MethodName) ({ cls := "java/lang/Throwable", name := "fillInStackTrace", desc := "(I)Ljava/lang/Throwable;" } : Jvm.MethodName)) ∈ lw_all := lw_g (lw_at lw_m2 218 rfl) rfl
theorem q546 : (Jvm.Cond.selects "DoughDebts$Fault" ({ cls := "java/lang/Throwable", name := "fillInStackTrace", desc := "()Ljava/lang/Throwable;" } : Jvm.MethodName) ({ cls := "java/lang/Throwable", name := "fillInStackTrace", desc := "()Ljava/lang/Throwable;" } : Jvm.MethodName)) ∈ lw_all := lw_g (lw_at lw_m2 219 rfl) rfl
theorem q547 : (Jvm.Cond.lays "DoughDebts$Fault" "java/lang/Throwable" "cause" "Ljava/lang/Throwable;") ∈ lw_all := lw_g (lw_at lw_m2 220 rfl) rfl
theorem q549 : (Jvm.Cond.lays "DoughDebts$Fault" "java/lang/Throwable" "stackTrace" "[Ljava/lang/StackTraceElement;") ∈ lw_all := lw_g (lw_at lw_m2 222 rfl) rfl
theorem q551 : (Jvm.Cond.lays "DoughDebts$Fault" "java/lang/Throwable" "suppressedExceptions" "Ljava/util/List;") ∈ lw_all := lw_g (lw_at lw_m2 224 rfl) rfl
theorem q553 : (Jvm.Cond.lays "DoughDebts$Fault" "java/lang/Throwable" "detailMessage" "Ljava/lang/String;") ∈ lw_all := lw_g (lw_at lw_m2 226 rfl) rfl
theorem q555 : (Jvm.Cond.lays "DoughDebts$Fault" "java/lang/Throwable" "backtrace" "Ljava/lang/Object;") ∈ lw_all := lw_g (lw_at lw_m2 228 rfl) rfl
theorem q576 : (Jvm.Cond.instanceMethod ({ cls := "DoughDebts$Fault", name := "<init>", desc := "(II)V" } : Jvm.MethodName)) ∈ lw_all := lw_g (lw_at lw_m3 9 rfl) rfl
theorem q577 : (Jvm.Cond.code ({ cls := "DoughDebts$Fault", name := "<init>", desc := "(II)V" } : Jvm.MethodName) prog_3_method_1_code (3 : Nat) (Option.none : Option Jvm.ClassFile.FieldType)) ∈ lw_all := lw_g (lw_at lw_m3 10 rfl) rfl
theorem q578 : (Jvm.Cond.methodLink "DoughDebts$Fault" (1 : Nat) ({ cls := "java/lang/Exception", name := "<init>", desc := "(Ljava/lang/String;Ljava/lang/Throwable;ZZ)V" } : Jvm.MethodName)) ∈ lw_all := lw_g (lw_at lw_m3 11 rfl) rfl
theorem q584 : (Jvm.Cond.fieldLink "DoughDebts$Fault" (7 : Nat) "DoughDebts$Fault" "kind" "I") ∈ lw_all := lw_g (lw_at lw_m3 17 rfl) rfl
theorem q586 : (Jvm.Cond.fieldLink "DoughDebts$Fault" (13 : Nat) "DoughDebts$Fault" "place" "I") ∈ lw_all := lw_g (lw_at lw_m3 19 rfl) rfl
theorem q593 : (Jvm.Cond.laysFinal "DoughDebts$Fault" "DoughDebts$Fault" "kind" "I") ∈ lw_all := lw_g (lw_at lw_m3 26 rfl) rfl
theorem q594 : (Jvm.Cond.soleField "DoughDebts$Fault" "kind") ∈ lw_all := lw_g (lw_at lw_m3 27 rfl) rfl
theorem q595 : (Jvm.Cond.laysFinal "DoughDebts$Fault" "DoughDebts$Fault" "place" "I") ∈ lw_all := lw_g (lw_at lw_m3 28 rfl) rfl
theorem q596 : (Jvm.Cond.soleField "DoughDebts$Fault" "place") ∈ lw_all := lw_g (lw_at lw_m3 29 rfl) rfl
theorem q601 : (Jvm.Cond.lays "DoughDebts$Fault" "java/lang/Throwable" "depth" "I") ∈ lw_all := lw_g (lw_at lw_m3 34 rfl) rfl
theorem q604 : (Jvm.Cond.superclass "DoughDebts$Fault" "java/lang/Exception") ∈ lw_all := lw_g (lw_at lw_m3 37 rfl) rfl
theorem in_X5 : ∀ w ∈ wsX50, w ∈ lw_all := lw_in wsX50 [547, 549, 551, 553, 555, 601, 593, 595] (by decide +kernel) (by decide +kernel)
/-! DoughDebts$Term -/
set_option maxRecDepth 100000
def RX6 : String := "DoughDebts$Term"
abbrev cX6_init : ByteArray := prog_8_method_1_code
def yX6_init : MethodName := ⟨RX6, "<init>", "()V"⟩
theorem dX6_init_0 : decode cX6_init 0 = .ok (.aload_n 0, 1) := by decide +kernel
theorem dX6_init_1 : decode cX6_init 1 = .ok (.invokespecial 1, 3) := by decide +kernel
theorem dX6_init_4 : decode cX6_init 4 = .ok (.return_, 1) := by decide +kernel
theorem q106 : (Jvm.Cond.initialized "DoughDebts$Term") ∈ lw_all := lw_g (lw_at lw_m1 19 rfl) rfl
theorem q623 : (Jvm.Cond.instanceMethod ({ cls := "DoughDebts$Term", name := "<init>", desc := "()V" } : Jvm.MethodName)) ∈ lw_all := lw_g (lw_at lw_m3 56 rfl) rfl
theorem q624 : (Jvm.Cond.code ({ cls := "DoughDebts$Term", name := "<init>", desc := "()V" } : Jvm.MethodName) prog_8_method_1_code (1 : Nat) (Option.none : Option Jvm.ClassFile.FieldType)) ∈ lw_all := lw_g (lw_at lw_m3 57 rfl) rfl
theorem q625 : (Jvm.Cond.methodLink "DoughDebts$Term" (1 : Nat) ({ cls := "java/lang/Object", name := "<init>", desc := "()V" } : Jvm.MethodName)) ∈ lw_all := lw_g (lw_at lw_m3 58 rfl) rfl
theorem q800 : (Jvm.Cond.declares ({ cls := "DoughDebts$Term", name := "of", desc := "([I)I" } : Jvm.MethodName)) ∈ lw_tbl := lw_at lw_m3 233 rfl
theorem q801 : (Jvm.Cond.sameMethod "DoughDebts$Term" "DoughDebts$Term" "of" "([I)I") ∈ lw_all := lw_g (lw_at lw_m3 234 rfl) rfl
/-! DoughDebts$Number -/
set_option maxRecDepth 100000
def RX7 : String := "DoughDebts$Number"
def TX7 : u_T := fun k => match k with
  | _ => ("DoughDebts$Number", "v", "I", true)
def tyX7 : Nat → FieldType := fun k => match k with
  | _ => .int
abbrev wsX70 : List Cond := u_ws RX7 TX7 1
theorem nmX7 : ∀ a, a < 1 → ∀ b, b < 1 → a ≠ b → (TX7 a).2.1 ≠ (TX7 b).2.1 := by decide +kernel
theorem tyX7_ok : ∀ k, k < 1 → parseFieldDescriptor (TX7 k).2.2.1 = some (tyX7 k) := by decide +kernel
abbrev cX7_init : ByteArray := prog_7_method_1_code
def yX7_init : MethodName := ⟨RX7, "<init>", "(I)V"⟩
def dkwX7_init_0 : List UInt8 := [42, 183, 0, 1, 42, 27, 181, 0, 7, 177]
abbrev dktX7_init_0 : List UInt8 := dkwX7_init_0 ++ []
theorem dksX7_init_0 : cX7_init.data.toList.drop 0 = dktX7_init_0 := by decide +kernel
theorem dX7_init_0 : decode cX7_init 0 = .ok (.aload_n 0, 1) := dk_42 (dk_at dksX7_init_0 0 rfl rfl)
theorem dX7_init_1 : decode cX7_init 1 = .ok (.invokespecial 1, 3) := dk_183 0 1 (dk_at dksX7_init_0 1 rfl rfl)
theorem dX7_init_4 : decode cX7_init 4 = .ok (.aload_n 0, 1) := dk_42 (dk_at dksX7_init_0 4 rfl rfl)
theorem dX7_init_5 : decode cX7_init 5 = .ok (.iload_n 1, 1) := dk_27 (dk_at dksX7_init_0 5 rfl rfl)
theorem dX7_init_6 : decode cX7_init 6 = .ok (.putfield 7, 3) := dk_181 0 7 (dk_at dksX7_init_0 6 rfl rfl)
theorem dX7_init_9 : decode cX7_init 9 = .ok (.return_, 1) := dk_177 (dk_at dksX7_init_0 9 rfl rfl)
abbrev cX7_of : ByteArray := prog_7_method_2_code
def yX7_of : MethodName := ⟨RX7, "of", "([I)I"⟩
theorem dX7_of_0 : decode cX7_of 0 = .ok (.aload_n 0, 1) := by decide +kernel
theorem dX7_of_1 : decode cX7_of 1 = .ok (.getfield 7, 3) := by decide +kernel
theorem dX7_of_4 : decode cX7_of 4 = .ok (.ireturn, 1) := by decide +kernel
theorem q107 : (Jvm.Cond.initialized "DoughDebts$Number") ∈ lw_all := lw_g (lw_at lw_m1 20 rfl) rfl
theorem q618 : (Jvm.Cond.instantiable "DoughDebts$Number" (1 : Nat)) ∈ lw_all := lw_g (lw_at lw_m3 51 rfl) rfl
theorem q620 : (Jvm.Cond.instanceMethod ({ cls := "DoughDebts$Number", name := "<init>", desc := "(I)V" } : Jvm.MethodName)) ∈ lw_all := lw_g (lw_at lw_m3 53 rfl) rfl
theorem q621 : (Jvm.Cond.code ({ cls := "DoughDebts$Number", name := "<init>", desc := "(I)V" } : Jvm.MethodName) prog_7_method_1_code (2 : Nat) (Option.none : Option Jvm.ClassFile.FieldType)) ∈ lw_all := lw_g (lw_at lw_m3 54 rfl) rfl
theorem q622 : (Jvm.Cond.methodLinkNest "DoughDebts$Number" (1 : Nat) ({ cls := "DoughDebts$Term", name := "<init>", desc := "()V" } : Jvm.MethodName) "DoughDebts") ∈ lw_tbl := lw_at lw_m3 55 rfl
theorem q626 : (Jvm.Cond.fieldLink "DoughDebts$Number" (7 : Nat) "DoughDebts$Number" "v" "I") ∈ lw_all := lw_g (lw_at lw_m3 59 rfl) rfl
theorem q627 : (Jvm.Cond.laysFinal "DoughDebts$Number" "DoughDebts$Number" "v" "I") ∈ lw_all := lw_g (lw_at lw_m3 60 rfl) rfl
theorem q628 : (Jvm.Cond.soleField "DoughDebts$Number" "v") ∈ lw_all := lw_g (lw_at lw_m3 61 rfl) rfl
theorem q629 : (Jvm.Cond.superclass "DoughDebts$Number" "DoughDebts$Term") ∈ lw_all := lw_g (lw_at lw_m3 62 rfl) rfl
theorem q806 : (Jvm.Cond.instanceMethod ({ cls := "DoughDebts$Number", name := "of", desc := "([I)I" } : Jvm.MethodName)) ∈ lw_all := lw_g (lw_at lw_m3 239 rfl) rfl
theorem q807 : (Jvm.Cond.code ({ cls := "DoughDebts$Number", name := "of", desc := "([I)I" } : Jvm.MethodName) prog_7_method_2_code (2 : Nat) (Option.some Jvm.ClassFile.FieldType.int)) ∈ lw_all := lw_g (lw_at lw_m4 0 rfl) rfl
theorem q813 : (Jvm.Cond.selects "DoughDebts$Number" ({ cls := "DoughDebts$Term", name := "of", desc := "([I)I" } : Jvm.MethodName) ({ cls := "DoughDebts$Number", name := "of", desc := "([I)I" } : Jvm.MethodName)) ∈ lw_all := lw_g (lw_at lw_m4 6 rfl) rfl
theorem q1457 : (Jvm.Cond.castable "DoughDebts$Number" "DoughDebts$Term") ∈ lw_tbl := lw_at lw_m6 170 rfl
theorem in_X7 : ∀ w ∈ wsX70, w ∈ lw_all := lw_in wsX70 [627] (by decide +kernel) (by decide +kernel)
/-! DoughDebts$Word -/
set_option maxRecDepth 100000
def RX8 : String := "DoughDebts$Word"
def TX8 : u_T := fun k => match k with
  | _ => ("DoughDebts$Word", "k", "I", true)
def tyX8 : Nat → FieldType := fun k => match k with
  | _ => .int
abbrev wsX80 : List Cond := u_ws RX8 TX8 1
theorem nmX8 : ∀ a, a < 1 → ∀ b, b < 1 → a ≠ b → (TX8 a).2.1 ≠ (TX8 b).2.1 := by decide +kernel
theorem tyX8_ok : ∀ k, k < 1 → parseFieldDescriptor (TX8 k).2.2.1 = some (tyX8 k) := by decide +kernel
abbrev cX8_init : ByteArray := prog_12_method_1_code
def yX8_init : MethodName := ⟨RX8, "<init>", "(I)V"⟩
def dkwX8_init_0 : List UInt8 := [42, 183, 0, 1, 42, 27, 181, 0, 7, 177]
abbrev dktX8_init_0 : List UInt8 := dkwX8_init_0 ++ []
theorem dksX8_init_0 : cX8_init.data.toList.drop 0 = dktX8_init_0 := by decide +kernel
theorem dX8_init_0 : decode cX8_init 0 = .ok (.aload_n 0, 1) := dk_42 (dk_at dksX8_init_0 0 rfl rfl)
theorem dX8_init_1 : decode cX8_init 1 = .ok (.invokespecial 1, 3) := dk_183 0 1 (dk_at dksX8_init_0 1 rfl rfl)
theorem dX8_init_4 : decode cX8_init 4 = .ok (.aload_n 0, 1) := dk_42 (dk_at dksX8_init_0 4 rfl rfl)
theorem dX8_init_5 : decode cX8_init 5 = .ok (.iload_n 1, 1) := dk_27 (dk_at dksX8_init_0 5 rfl rfl)
theorem dX8_init_6 : decode cX8_init 6 = .ok (.putfield 7, 3) := dk_181 0 7 (dk_at dksX8_init_0 6 rfl rfl)
theorem dX8_init_9 : decode cX8_init 9 = .ok (.return_, 1) := dk_177 (dk_at dksX8_init_0 9 rfl rfl)
abbrev cX8_of : ByteArray := prog_12_method_2_code
def yX8_of : MethodName := ⟨RX8, "of", "([I)I"⟩
def dkwX8_of_0 : List UInt8 := [43, 42, 180, 0, 7, 46, 172]
abbrev dktX8_of_0 : List UInt8 := dkwX8_of_0 ++ []
theorem dksX8_of_0 : cX8_of.data.toList.drop 0 = dktX8_of_0 := by decide +kernel
theorem dX8_of_0 : decode cX8_of 0 = .ok (.aload_n 1, 1) := dk_43 (dk_at dksX8_of_0 0 rfl rfl)
theorem dX8_of_1 : decode cX8_of 1 = .ok (.aload_n 0, 1) := dk_42 (dk_at dksX8_of_0 1 rfl rfl)
theorem dX8_of_2 : decode cX8_of 2 = .ok (.getfield 7, 3) := dk_180 0 7 (dk_at dksX8_of_0 2 rfl rfl)
theorem dX8_of_5 : decode cX8_of 5 = .ok (.iaload, 1) := dk_46 (dk_at dksX8_of_0 5 rfl rfl)
theorem dX8_of_6 : decode cX8_of 6 = .ok (.ireturn, 1) := dk_172 (dk_at dksX8_of_0 6 rfl rfl)
theorem q108 : (Jvm.Cond.initialized "DoughDebts$Word") ∈ lw_all := lw_g (lw_at lw_m1 21 rfl) rfl
theorem q631 : (Jvm.Cond.instantiable "DoughDebts$Word" (1 : Nat)) ∈ lw_all := lw_g (lw_at lw_m3 64 rfl) rfl
theorem q633 : (Jvm.Cond.instanceMethod ({ cls := "DoughDebts$Word", name := "<init>", desc := "(I)V" } : Jvm.MethodName)) ∈ lw_all := lw_g (lw_at lw_m3 66 rfl) rfl
theorem q634 : (Jvm.Cond.code ({ cls := "DoughDebts$Word", name := "<init>", desc := "(I)V" } : Jvm.MethodName) prog_12_method_1_code (2 : Nat) (Option.none : Option Jvm.ClassFile.FieldType)) ∈ lw_all := lw_g (lw_at lw_m3 67 rfl) rfl
theorem q635 : (Jvm.Cond.methodLinkNest "DoughDebts$Word" (1 : Nat) ({ cls := "DoughDebts$Term", name := "<init>", desc := "()V" } : Jvm.MethodName) "DoughDebts") ∈ lw_tbl := lw_at lw_m3 68 rfl
theorem q636 : (Jvm.Cond.fieldLink "DoughDebts$Word" (7 : Nat) "DoughDebts$Word" "k" "I") ∈ lw_all := lw_g (lw_at lw_m3 69 rfl) rfl
theorem q637 : (Jvm.Cond.laysFinal "DoughDebts$Word" "DoughDebts$Word" "k" "I") ∈ lw_all := lw_g (lw_at lw_m3 70 rfl) rfl
theorem q638 : (Jvm.Cond.soleField "DoughDebts$Word" "k") ∈ lw_all := lw_g (lw_at lw_m3 71 rfl) rfl
theorem q639 : (Jvm.Cond.superclass "DoughDebts$Word" "DoughDebts$Term") ∈ lw_all := lw_g (lw_at lw_m3 72 rfl) rfl
theorem q811 : (Jvm.Cond.instanceMethod ({ cls := "DoughDebts$Word", name := "of", desc := "([I)I" } : Jvm.MethodName)) ∈ lw_all := lw_g (lw_at lw_m4 4 rfl) rfl
theorem q812 : (Jvm.Cond.code ({ cls := "DoughDebts$Word", name := "of", desc := "([I)I" } : Jvm.MethodName) prog_12_method_2_code (2 : Nat) (Option.some Jvm.ClassFile.FieldType.int)) ∈ lw_all := lw_g (lw_at lw_m4 5 rfl) rfl
theorem q815 : (Jvm.Cond.selects "DoughDebts$Word" ({ cls := "DoughDebts$Term", name := "of", desc := "([I)I" } : Jvm.MethodName) ({ cls := "DoughDebts$Word", name := "of", desc := "([I)I" } : Jvm.MethodName)) ∈ lw_all := lw_g (lw_at lw_m4 8 rfl) rfl
theorem q1458 : (Jvm.Cond.castable "DoughDebts$Word" "DoughDebts$Term") ∈ lw_tbl := lw_at lw_m6 171 rfl
theorem in_X8 : ∀ w ∈ wsX80, w ∈ lw_all := lw_in wsX80 [637] (by decide +kernel) (by decide +kernel)
/-! DoughDebts$Two -/
set_option maxRecDepth 100000
def RX9 : String := "DoughDebts$Two"
def TX9 : u_T := fun k => match k with
  | 0 => ("DoughDebts$Two", "sign", "C", true)
  | 1 => ("DoughDebts$Two", "a", "LDoughDebts$Term;", true)
  | _ => ("DoughDebts$Two", "b", "LDoughDebts$Term;", true)
def tyX9 : Nat → FieldType := fun k => match k with
  | 0 => .char
  | 1 => .object "DoughDebts$Term"
  | _ => .object "DoughDebts$Term"
abbrev wsX90 : List Cond := u_ws RX9 TX9 3
theorem nmX9 : ∀ a, a < 3 → ∀ b, b < 3 → a ≠ b → (TX9 a).2.1 ≠ (TX9 b).2.1 := by decide +kernel
theorem tyX9_ok : ∀ k, k < 3 → parseFieldDescriptor (TX9 k).2.2.1 = some (tyX9 k) := by decide +kernel
abbrev cX9_init : ByteArray := prog_11_method_1_code
def yX9_init : MethodName := ⟨RX9, "<init>", "(CLDoughDebts$Term;LDoughDebts$Term;)V"⟩
def dkwX9_init_0 : List UInt8 := [42, 183, 0, 1, 42, 27, 181, 0, 7, 42, 44, 181, 0, 13, 42, 45, 181, 0, 17, 177]
abbrev dktX9_init_0 : List UInt8 := dkwX9_init_0 ++ []
theorem dksX9_init_0 : cX9_init.data.toList.drop 0 = dktX9_init_0 := by decide +kernel
theorem dX9_init_0 : decode cX9_init 0 = .ok (.aload_n 0, 1) := dk_42 (dk_at dksX9_init_0 0 rfl rfl)
theorem dX9_init_1 : decode cX9_init 1 = .ok (.invokespecial 1, 3) := dk_183 0 1 (dk_at dksX9_init_0 1 rfl rfl)
theorem dX9_init_4 : decode cX9_init 4 = .ok (.aload_n 0, 1) := dk_42 (dk_at dksX9_init_0 4 rfl rfl)
theorem dX9_init_5 : decode cX9_init 5 = .ok (.iload_n 1, 1) := dk_27 (dk_at dksX9_init_0 5 rfl rfl)
theorem dX9_init_6 : decode cX9_init 6 = .ok (.putfield 7, 3) := dk_181 0 7 (dk_at dksX9_init_0 6 rfl rfl)
theorem dX9_init_9 : decode cX9_init 9 = .ok (.aload_n 0, 1) := dk_42 (dk_at dksX9_init_0 9 rfl rfl)
theorem dX9_init_10 : decode cX9_init 10 = .ok (.aload_n 2, 1) := dk_44 (dk_at dksX9_init_0 10 rfl rfl)
theorem dX9_init_11 : decode cX9_init 11 = .ok (.putfield 13, 3) := dk_181 0 13 (dk_at dksX9_init_0 11 rfl rfl)
theorem dX9_init_14 : decode cX9_init 14 = .ok (.aload_n 0, 1) := dk_42 (dk_at dksX9_init_0 14 rfl rfl)
theorem dX9_init_15 : decode cX9_init 15 = .ok (.aload_n 3, 1) := dk_45 (dk_at dksX9_init_0 15 rfl rfl)
theorem dX9_init_16 : decode cX9_init 16 = .ok (.putfield 17, 3) := dk_181 0 17 (dk_at dksX9_init_0 16 rfl rfl)
theorem dX9_init_19 : decode cX9_init 19 = .ok (.return_, 1) := dk_177 (dk_at dksX9_init_0 19 rfl rfl)
abbrev cX9_of : ByteArray := prog_11_method_2_code
def yX9_of : MethodName := ⟨RX9, "of", "([I)I"⟩
def dkwX9_of_4 : List UInt8 := [167, 0, 4, 3, 172, 28, 29, 126, 172, 28, 29, 128, 172]
abbrev dktX9_of_4 : List UInt8 := dkwX9_of_4 ++ []
def dkwX9_of_3 : List UInt8 := [167, 0, 4, 3, 172, 28, 29, 160, 0, 7, 4, 167, 0, 4, 3, 172, 28, 29, 164, 0, 7, 4]
abbrev dktX9_of_3 : List UInt8 := dkwX9_of_3 ++ dktX9_of_4
def dkwX9_of_2 : List UInt8 := [28, 29, 96, 172, 28, 29, 100, 172, 28, 29, 104, 172, 28, 29, 108, 172, 28, 29, 162, 0, 7, 4]
abbrev dktX9_of_2 : List UInt8 := dkwX9_of_2 ++ dktX9_of_3
def dkwX9_of_1 : List UInt8 := [170, 0, 0, 0, 0, 167, 0, 0, 0, 38, 0, 0, 0, 62, 0, 0, 0, 163, 0, 0, 0, 167, 0, 0, 0, 167, 0, 0, 0, 167, 0, 0, 0, 122, 0, 0, 0, 114, 0, 0, 0, 167, 0, 0, 0, 118, 0, 0, 0, 167, 0, 0, 0, 126, 0, 0, 0, 167, 0, 0, 0, 167, 0, 0, 0, 167, 0, 0, 0, 167, 0, 0, 0, 167, 0, 0, 0, 167, 0, 0, 0, 167, 0, 0, 0, 167, 0, 0, 0, 167, 0, 0, 0, 167, 0, 0, 0, 167, 0, 0, 0, 167, 0, 0, 0, 130, 0, 0, 0, 141, 0, 0, 0, 152]
abbrev dktX9_of_1 : List UInt8 := dkwX9_of_1 ++ dktX9_of_2
def dkwX9_of_0 : List UInt8 := [42, 180, 0, 13, 43, 182, 0, 20, 61, 42, 180, 0, 17, 43, 182, 0, 20, 62, 42, 180, 0, 7]
abbrev dktX9_of_0 : List UInt8 := dkwX9_of_0 ++ dktX9_of_1
theorem dksX9_of_0 : cX9_of.data.toList.drop 0 = dktX9_of_0 := by decide +kernel
theorem dksX9_of_1 : cX9_of.data.toList.drop 22 = dktX9_of_1 := dk_seg dksX9_of_0 22 rfl rfl
theorem dksX9_of_2 : cX9_of.data.toList.drop 136 = dktX9_of_2 := dk_seg dksX9_of_1 114 rfl rfl
theorem dksX9_of_3 : cX9_of.data.toList.drop 158 = dktX9_of_3 := dk_seg dksX9_of_2 22 rfl rfl
theorem dksX9_of_4 : cX9_of.data.toList.drop 180 = dktX9_of_4 := dk_seg dksX9_of_3 22 rfl rfl
theorem dX9_of_0 : decode cX9_of 0 = .ok (.aload_n 0, 1) := dk_42 (dk_at dksX9_of_0 0 rfl rfl)
theorem dX9_of_1 : decode cX9_of 1 = .ok (.getfield 13, 3) := dk_180 0 13 (dk_at dksX9_of_0 1 rfl rfl)
theorem dX9_of_4 : decode cX9_of 4 = .ok (.aload_n 1, 1) := dk_43 (dk_at dksX9_of_0 4 rfl rfl)
theorem dX9_of_5 : decode cX9_of 5 = .ok (.invokevirtual 20, 3) := dk_182 0 20 (dk_at dksX9_of_0 5 rfl rfl)
theorem dX9_of_8 : decode cX9_of 8 = .ok (.istore_n 2, 1) := dk_61 (dk_at dksX9_of_0 8 rfl rfl)
theorem dX9_of_9 : decode cX9_of 9 = .ok (.aload_n 0, 1) := dk_42 (dk_at dksX9_of_0 9 rfl rfl)
theorem dX9_of_10 : decode cX9_of 10 = .ok (.getfield 17, 3) := dk_180 0 17 (dk_at dksX9_of_0 10 rfl rfl)
theorem dX9_of_13 : decode cX9_of 13 = .ok (.aload_n 1, 1) := dk_43 (dk_at dksX9_of_0 13 rfl rfl)
theorem dX9_of_14 : decode cX9_of 14 = .ok (.invokevirtual 20, 3) := dk_182 0 20 (dk_at dksX9_of_0 14 rfl rfl)
theorem dX9_of_17 : decode cX9_of 17 = .ok (.istore_n 3, 1) := dk_62 (dk_at dksX9_of_0 17 rfl rfl)
theorem dX9_of_18 : decode cX9_of 18 = .ok (.aload_n 0, 1) := dk_42 (dk_at dksX9_of_0 18 rfl rfl)
theorem dX9_of_19 : decode cX9_of 19 = .ok (.getfield 7, 3) := dk_180 0 7 (dk_at dksX9_of_0 19 rfl rfl)
theorem dX9_of_22 : decode cX9_of 22 = .ok (.tableswitch 167 38 62 #[163, 167, 167, 167, 122, 114, 167, 118, 167, 126, 167, 167, 167, 167, 167, 167, 167, 167, 167, 167, 167, 167, 130, 141, 152], 114) := by decide +kernel
theorem dX9_of_136 : decode cX9_of 136 = .ok (.iload_n 2, 1) := dk_28 (dk_at dksX9_of_2 0 rfl rfl)
theorem dX9_of_137 : decode cX9_of 137 = .ok (.iload_n 3, 1) := dk_29 (dk_at dksX9_of_2 1 rfl rfl)
theorem dX9_of_138 : decode cX9_of 138 = .ok (.iadd, 1) := dk_96 (dk_at dksX9_of_2 2 rfl rfl)
theorem dX9_of_139 : decode cX9_of 139 = .ok (.ireturn, 1) := dk_172 (dk_at dksX9_of_2 3 rfl rfl)
theorem dX9_of_140 : decode cX9_of 140 = .ok (.iload_n 2, 1) := dk_28 (dk_at dksX9_of_2 4 rfl rfl)
theorem dX9_of_141 : decode cX9_of 141 = .ok (.iload_n 3, 1) := dk_29 (dk_at dksX9_of_2 5 rfl rfl)
theorem dX9_of_142 : decode cX9_of 142 = .ok (.isub, 1) := dk_100 (dk_at dksX9_of_2 6 rfl rfl)
theorem dX9_of_143 : decode cX9_of 143 = .ok (.ireturn, 1) := dk_172 (dk_at dksX9_of_2 7 rfl rfl)
theorem dX9_of_144 : decode cX9_of 144 = .ok (.iload_n 2, 1) := dk_28 (dk_at dksX9_of_2 8 rfl rfl)
theorem dX9_of_145 : decode cX9_of 145 = .ok (.iload_n 3, 1) := dk_29 (dk_at dksX9_of_2 9 rfl rfl)
theorem dX9_of_146 : decode cX9_of 146 = .ok (.imul, 1) := dk_104 (dk_at dksX9_of_2 10 rfl rfl)
theorem dX9_of_147 : decode cX9_of 147 = .ok (.ireturn, 1) := dk_172 (dk_at dksX9_of_2 11 rfl rfl)
theorem dX9_of_148 : decode cX9_of 148 = .ok (.iload_n 2, 1) := dk_28 (dk_at dksX9_of_2 12 rfl rfl)
theorem dX9_of_149 : decode cX9_of 149 = .ok (.iload_n 3, 1) := dk_29 (dk_at dksX9_of_2 13 rfl rfl)
theorem dX9_of_150 : decode cX9_of 150 = .ok (.idiv, 1) := dk_108 (dk_at dksX9_of_2 14 rfl rfl)
theorem dX9_of_151 : decode cX9_of 151 = .ok (.ireturn, 1) := dk_172 (dk_at dksX9_of_2 15 rfl rfl)
theorem dX9_of_152 : decode cX9_of 152 = .ok (.iload_n 2, 1) := dk_28 (dk_at dksX9_of_2 16 rfl rfl)
theorem dX9_of_153 : decode cX9_of 153 = .ok (.iload_n 3, 1) := dk_29 (dk_at dksX9_of_2 17 rfl rfl)
theorem dX9_of_154 : decode cX9_of 154 = .ok (.if_icmp .ge 7, 3) := dk_162 0 7 (dk_at dksX9_of_2 18 rfl rfl)
theorem dX9_of_157 : decode cX9_of 157 = .ok (.iconst 1, 1) := dk_4 (dk_at dksX9_of_2 21 rfl rfl)
theorem dX9_of_158 : decode cX9_of 158 = .ok (.goto 4, 3) := dk_167 0 4 (dk_at dksX9_of_3 0 rfl rfl)
theorem dX9_of_161 : decode cX9_of 161 = .ok (.iconst 0, 1) := dk_3 (dk_at dksX9_of_3 3 rfl rfl)
theorem dX9_of_162 : decode cX9_of 162 = .ok (.ireturn, 1) := dk_172 (dk_at dksX9_of_3 4 rfl rfl)
theorem dX9_of_163 : decode cX9_of 163 = .ok (.iload_n 2, 1) := dk_28 (dk_at dksX9_of_3 5 rfl rfl)
theorem dX9_of_164 : decode cX9_of 164 = .ok (.iload_n 3, 1) := dk_29 (dk_at dksX9_of_3 6 rfl rfl)
theorem dX9_of_165 : decode cX9_of 165 = .ok (.if_icmp .ne 7, 3) := dk_160 0 7 (dk_at dksX9_of_3 7 rfl rfl)
theorem dX9_of_168 : decode cX9_of 168 = .ok (.iconst 1, 1) := dk_4 (dk_at dksX9_of_3 10 rfl rfl)
theorem dX9_of_169 : decode cX9_of 169 = .ok (.goto 4, 3) := dk_167 0 4 (dk_at dksX9_of_3 11 rfl rfl)
theorem dX9_of_172 : decode cX9_of 172 = .ok (.iconst 0, 1) := dk_3 (dk_at dksX9_of_3 14 rfl rfl)
theorem dX9_of_173 : decode cX9_of 173 = .ok (.ireturn, 1) := dk_172 (dk_at dksX9_of_3 15 rfl rfl)
theorem dX9_of_174 : decode cX9_of 174 = .ok (.iload_n 2, 1) := dk_28 (dk_at dksX9_of_3 16 rfl rfl)
theorem dX9_of_175 : decode cX9_of 175 = .ok (.iload_n 3, 1) := dk_29 (dk_at dksX9_of_3 17 rfl rfl)
theorem dX9_of_176 : decode cX9_of 176 = .ok (.if_icmp .le 7, 3) := dk_164 0 7 (dk_at dksX9_of_3 18 rfl rfl)
theorem dX9_of_179 : decode cX9_of 179 = .ok (.iconst 1, 1) := dk_4 (dk_at dksX9_of_3 21 rfl rfl)
theorem dX9_of_180 : decode cX9_of 180 = .ok (.goto 4, 3) := dk_167 0 4 (dk_at dksX9_of_4 0 rfl rfl)
theorem dX9_of_183 : decode cX9_of 183 = .ok (.iconst 0, 1) := dk_3 (dk_at dksX9_of_4 3 rfl rfl)
theorem dX9_of_184 : decode cX9_of 184 = .ok (.ireturn, 1) := dk_172 (dk_at dksX9_of_4 4 rfl rfl)
theorem dX9_of_185 : decode cX9_of 185 = .ok (.iload_n 2, 1) := dk_28 (dk_at dksX9_of_4 5 rfl rfl)
theorem dX9_of_186 : decode cX9_of 186 = .ok (.iload_n 3, 1) := dk_29 (dk_at dksX9_of_4 6 rfl rfl)
theorem dX9_of_187 : decode cX9_of 187 = .ok (.iand, 1) := dk_126 (dk_at dksX9_of_4 7 rfl rfl)
theorem dX9_of_188 : decode cX9_of 188 = .ok (.ireturn, 1) := dk_172 (dk_at dksX9_of_4 8 rfl rfl)
theorem dX9_of_189 : decode cX9_of 189 = .ok (.iload_n 2, 1) := dk_28 (dk_at dksX9_of_4 9 rfl rfl)
theorem dX9_of_190 : decode cX9_of 190 = .ok (.iload_n 3, 1) := dk_29 (dk_at dksX9_of_4 10 rfl rfl)
theorem dX9_of_191 : decode cX9_of 191 = .ok (.ior, 1) := dk_128 (dk_at dksX9_of_4 11 rfl rfl)
theorem dX9_of_192 : decode cX9_of 192 = .ok (.ireturn, 1) := dk_172 (dk_at dksX9_of_4 12 rfl rfl)
theorem q109 : (Jvm.Cond.initialized "DoughDebts$Two") ∈ lw_all := lw_g (lw_at lw_m1 22 rfl) rfl
theorem q645 : (Jvm.Cond.instantiable "DoughDebts$Two" (3 : Nat)) ∈ lw_all := lw_g (lw_at lw_m3 78 rfl) rfl
theorem q647 : (Jvm.Cond.instanceMethod ({ cls := "DoughDebts$Two", name := "<init>", desc := "(CLDoughDebts$Term;LDoughDebts$Term;)V" } : Jvm.MethodName)) ∈ lw_all := lw_g (lw_at lw_m3 80 rfl) rfl
theorem q648 : (Jvm.Cond.code ({ cls := "DoughDebts$Two", name := "<init>", desc := "(CLDoughDebts$Term;LDoughDebts$Term;)V" } : Jvm.MethodName) prog_11_method_1_code (4 : Nat) (Option.none : Option Jvm.ClassFile.FieldType)) ∈ lw_all := lw_g (lw_at lw_m3 81 rfl) rfl
theorem q649 : (Jvm.Cond.methodLinkNest "DoughDebts$Two" (1 : Nat) ({ cls := "DoughDebts$Term", name := "<init>", desc := "()V" } : Jvm.MethodName) "DoughDebts") ∈ lw_tbl := lw_at lw_m3 82 rfl
theorem q650 : (Jvm.Cond.fieldLink "DoughDebts$Two" (7 : Nat) "DoughDebts$Two" "sign" "C") ∈ lw_all := lw_g (lw_at lw_m3 83 rfl) rfl
theorem q651 : (Jvm.Cond.fieldLink "DoughDebts$Two" (13 : Nat) "DoughDebts$Two" "a" "LDoughDebts$Term;") ∈ lw_all := lw_g (lw_at lw_m3 84 rfl) rfl
theorem q652 : (Jvm.Cond.fieldLink "DoughDebts$Two" (17 : Nat) "DoughDebts$Two" "b" "LDoughDebts$Term;") ∈ lw_all := lw_g (lw_at lw_m3 85 rfl) rfl
theorem q653 : (Jvm.Cond.laysFinal "DoughDebts$Two" "DoughDebts$Two" "sign" "C") ∈ lw_all := lw_g (lw_at lw_m3 86 rfl) rfl
theorem q654 : (Jvm.Cond.soleField "DoughDebts$Two" "sign") ∈ lw_all := lw_g (lw_at lw_m3 87 rfl) rfl
theorem q655 : (Jvm.Cond.laysFinal "DoughDebts$Two" "DoughDebts$Two" "a" "LDoughDebts$Term;") ∈ lw_all := lw_g (lw_at lw_m3 88 rfl) rfl
theorem q656 : (Jvm.Cond.soleField "DoughDebts$Two" "a") ∈ lw_all := lw_g (lw_at lw_m3 89 rfl) rfl
theorem q657 : (Jvm.Cond.laysFinal "DoughDebts$Two" "DoughDebts$Two" "b" "LDoughDebts$Term;") ∈ lw_all := lw_g (lw_at lw_m3 90 rfl) rfl
theorem q658 : (Jvm.Cond.soleField "DoughDebts$Two" "b") ∈ lw_all := lw_g (lw_at lw_m3 91 rfl) rfl
theorem q659 : (Jvm.Cond.superclass "DoughDebts$Two" "DoughDebts$Term") ∈ lw_all := lw_g (lw_at lw_m3 92 rfl) rfl
theorem q808 : (Jvm.Cond.instanceMethod ({ cls := "DoughDebts$Two", name := "of", desc := "([I)I" } : Jvm.MethodName)) ∈ lw_all := lw_g (lw_at lw_m4 1 rfl) rfl
theorem q809 : (Jvm.Cond.code ({ cls := "DoughDebts$Two", name := "of", desc := "([I)I" } : Jvm.MethodName) prog_11_method_2_code (4 : Nat) (Option.some Jvm.ClassFile.FieldType.int)) ∈ lw_all := lw_g (lw_at lw_m4 2 rfl) rfl
theorem q810 : (Jvm.Cond.methodLink "DoughDebts$Two" (20 : Nat) ({ cls := "DoughDebts$Term", name := "of", desc := "([I)I" } : Jvm.MethodName)) ∈ lw_all := lw_g (lw_at lw_m4 3 rfl) rfl
theorem q814 : (Jvm.Cond.selects "DoughDebts$Two" ({ cls := "DoughDebts$Term", name := "of", desc := "([I)I" } : Jvm.MethodName) ({ cls := "DoughDebts$Two", name := "of", desc := "([I)I" } : Jvm.MethodName)) ∈ lw_all := lw_g (lw_at lw_m4 7 rfl) rfl
theorem q1459 : (Jvm.Cond.castable "DoughDebts$Two" "DoughDebts$Term") ∈ lw_tbl := lw_at lw_m6 172 rfl
theorem in_X9 : ∀ w ∈ wsX90, w ∈ lw_all := lw_in wsX90 [653, 655, 657] (by decide +kernel) (by decide +kernel)
/-! DoughDebts$Not -/
set_option maxRecDepth 100000
def RX10 : String := "DoughDebts$Not"
def TX10 : u_T := fun k => match k with
  | _ => ("DoughDebts$Not", "in", "LDoughDebts$Term;", true)
def tyX10 : Nat → FieldType := fun k => match k with
  | _ => .object "DoughDebts$Term"
abbrev wsX100 : List Cond := u_ws RX10 TX10 1
theorem nmX10 : ∀ a, a < 1 → ∀ b, b < 1 → a ≠ b → (TX10 a).2.1 ≠ (TX10 b).2.1 := by decide +kernel
theorem tyX10_ok : ∀ k, k < 1 → parseFieldDescriptor (TX10 k).2.2.1 = some (tyX10 k) := by decide +kernel
abbrev cX10_init : ByteArray := prog_6_method_1_code
def yX10_init : MethodName := ⟨RX10, "<init>", "(LDoughDebts$Term;)V"⟩
def dkwX10_init_0 : List UInt8 := [42, 183, 0, 1, 42, 43, 181, 0, 7, 177]
abbrev dktX10_init_0 : List UInt8 := dkwX10_init_0 ++ []
theorem dksX10_init_0 : cX10_init.data.toList.drop 0 = dktX10_init_0 := by decide +kernel
theorem dX10_init_0 : decode cX10_init 0 = .ok (.aload_n 0, 1) := dk_42 (dk_at dksX10_init_0 0 rfl rfl)
theorem dX10_init_1 : decode cX10_init 1 = .ok (.invokespecial 1, 3) := dk_183 0 1 (dk_at dksX10_init_0 1 rfl rfl)
theorem dX10_init_4 : decode cX10_init 4 = .ok (.aload_n 0, 1) := dk_42 (dk_at dksX10_init_0 4 rfl rfl)
theorem dX10_init_5 : decode cX10_init 5 = .ok (.aload_n 1, 1) := dk_43 (dk_at dksX10_init_0 5 rfl rfl)
theorem dX10_init_6 : decode cX10_init 6 = .ok (.putfield 7, 3) := dk_181 0 7 (dk_at dksX10_init_0 6 rfl rfl)
theorem dX10_init_9 : decode cX10_init 9 = .ok (.return_, 1) := dk_177 (dk_at dksX10_init_0 9 rfl rfl)
abbrev cX10_of : ByteArray := prog_6_method_2_code
def yX10_of : MethodName := ⟨RX10, "of", "([I)I"⟩
def dkwX10_of_0 : List UInt8 := [4, 42, 180, 0, 7, 43, 182, 0, 13, 100, 172]
abbrev dktX10_of_0 : List UInt8 := dkwX10_of_0 ++ []
theorem dksX10_of_0 : cX10_of.data.toList.drop 0 = dktX10_of_0 := by decide +kernel
theorem dX10_of_0 : decode cX10_of 0 = .ok (.iconst 1, 1) := dk_4 (dk_at dksX10_of_0 0 rfl rfl)
theorem dX10_of_1 : decode cX10_of 1 = .ok (.aload_n 0, 1) := dk_42 (dk_at dksX10_of_0 1 rfl rfl)
theorem dX10_of_2 : decode cX10_of 2 = .ok (.getfield 7, 3) := dk_180 0 7 (dk_at dksX10_of_0 2 rfl rfl)
theorem dX10_of_5 : decode cX10_of 5 = .ok (.aload_n 1, 1) := dk_43 (dk_at dksX10_of_0 5 rfl rfl)
theorem dX10_of_6 : decode cX10_of 6 = .ok (.invokevirtual 13, 3) := dk_182 0 13 (dk_at dksX10_of_0 6 rfl rfl)
theorem dX10_of_9 : decode cX10_of 9 = .ok (.isub, 1) := dk_100 (dk_at dksX10_of_0 9 rfl rfl)
theorem dX10_of_10 : decode cX10_of 10 = .ok (.ireturn, 1) := dk_172 (dk_at dksX10_of_0 10 rfl rfl)
theorem q110 : (Jvm.Cond.initialized "DoughDebts$Not") ∈ lw_all := lw_g (lw_at lw_m1 23 rfl) rfl
theorem q681 : (Jvm.Cond.instantiable "DoughDebts$Not" (1 : Nat)) ∈ lw_all := lw_g (lw_at lw_m3 114 rfl) rfl
theorem q683 : (Jvm.Cond.instanceMethod ({ cls := "DoughDebts$Not", name := "<init>", desc := "(LDoughDebts$Term;)V" } : Jvm.MethodName)) ∈ lw_all := lw_g (lw_at lw_m3 116 rfl) rfl
theorem q684 : (Jvm.Cond.code ({ cls := "DoughDebts$Not", name := "<init>", desc := "(LDoughDebts$Term;)V" } : Jvm.MethodName) prog_6_method_1_code (2 : Nat) (Option.none : Option Jvm.ClassFile.FieldType)) ∈ lw_all := lw_g (lw_at lw_m3 117 rfl) rfl
theorem q685 : (Jvm.Cond.methodLinkNest "DoughDebts$Not" (1 : Nat) ({ cls := "DoughDebts$Term", name := "<init>", desc := "()V" } : Jvm.MethodName) "DoughDebts") ∈ lw_tbl := lw_at lw_m3 118 rfl
theorem q686 : (Jvm.Cond.fieldLink "DoughDebts$Not" (7 : Nat) "DoughDebts$Not" "in" "LDoughDebts$Term;") ∈ lw_all := lw_g (lw_at lw_m3 119 rfl) rfl
theorem q687 : (Jvm.Cond.laysFinal "DoughDebts$Not" "DoughDebts$Not" "in" "LDoughDebts$Term;") ∈ lw_all := lw_g (lw_at lw_m3 120 rfl) rfl
theorem q688 : (Jvm.Cond.soleField "DoughDebts$Not" "in") ∈ lw_all := lw_g (lw_at lw_m3 121 rfl) rfl
theorem q689 : (Jvm.Cond.superclass "DoughDebts$Not" "DoughDebts$Term") ∈ lw_all := lw_g (lw_at lw_m3 122 rfl) rfl
theorem q802 : (Jvm.Cond.selects "DoughDebts$Not" ({ cls := "DoughDebts$Term", name := "of", desc := "([I)I" } : Jvm.MethodName) ({ cls := "DoughDebts$Not", name := "of", desc := "([I)I" } : Jvm.MethodName)) ∈ lw_all := lw_g (lw_at lw_m3 235 rfl) rfl
theorem q803 : (Jvm.Cond.instanceMethod ({ cls := "DoughDebts$Not", name := "of", desc := "([I)I" } : Jvm.MethodName)) ∈ lw_all := lw_g (lw_at lw_m3 236 rfl) rfl
theorem q804 : (Jvm.Cond.code ({ cls := "DoughDebts$Not", name := "of", desc := "([I)I" } : Jvm.MethodName) prog_6_method_2_code (2 : Nat) (Option.some Jvm.ClassFile.FieldType.int)) ∈ lw_all := lw_g (lw_at lw_m3 237 rfl) rfl
theorem q805 : (Jvm.Cond.methodLink "DoughDebts$Not" (13 : Nat) ({ cls := "DoughDebts$Term", name := "of", desc := "([I)I" } : Jvm.MethodName)) ∈ lw_all := lw_g (lw_at lw_m3 238 rfl) rfl
theorem q1460 : (Jvm.Cond.castable "DoughDebts$Not" "DoughDebts$Term") ∈ lw_tbl := lw_at lw_m6 173 rfl
theorem in_X10 : ∀ w ∈ wsX100, w ∈ lw_all := lw_in wsX100 [687] (by decide +kernel) (by decide +kernel)
/-! DoughDebts$Leaven -/
set_option maxRecDepth 100000
def RX11 : String := "DoughDebts$Leaven"
def TX11 : u_T := fun k => match k with
  | 0 => ("DoughDebts$Leaven", "house", "I", true)
  | 1 => ("DoughDebts$Leaven", "a", "I", true)
  | 2 => ("DoughDebts$Leaven", "b", "I", true)
  | _ => ("DoughDebts$Leaven", "age", "I", true)
def tyX11 : Nat → FieldType := fun k => match k with
  | 0 => .int
  | 1 => .int
  | 2 => .int
  | _ => .int
abbrev wsX110 : List Cond := u_ws RX11 TX11 4
theorem nmX11 : ∀ a, a < 4 → ∀ b, b < 4 → a ≠ b → (TX11 a).2.1 ≠ (TX11 b).2.1 := by decide +kernel
theorem tyX11_ok : ∀ k, k < 4 → parseFieldDescriptor (TX11 k).2.2.1 = some (tyX11 k) := by decide +kernel
abbrev cX11_init : ByteArray := prog_5_method_1_code
def yX11_init : MethodName := ⟨RX11, "<init>", "(IIII)V"⟩
def dkwX11_init_1 : List UInt8 := [181, 0, 19, 177]
abbrev dktX11_init_1 : List UInt8 := dkwX11_init_1 ++ []
def dkwX11_init_0 : List UInt8 := [42, 183, 0, 1, 42, 27, 181, 0, 7, 42, 28, 181, 0, 13, 42, 29, 181, 0, 16, 42, 21, 4]
abbrev dktX11_init_0 : List UInt8 := dkwX11_init_0 ++ dktX11_init_1
theorem dksX11_init_0 : cX11_init.data.toList.drop 0 = dktX11_init_0 := by decide +kernel
theorem dksX11_init_1 : cX11_init.data.toList.drop 22 = dktX11_init_1 := dk_seg dksX11_init_0 22 rfl rfl
theorem dX11_init_0 : decode cX11_init 0 = .ok (.aload_n 0, 1) := dk_42 (dk_at dksX11_init_0 0 rfl rfl)
theorem dX11_init_1 : decode cX11_init 1 = .ok (.invokespecial 1, 3) := dk_183 0 1 (dk_at dksX11_init_0 1 rfl rfl)
theorem dX11_init_4 : decode cX11_init 4 = .ok (.aload_n 0, 1) := dk_42 (dk_at dksX11_init_0 4 rfl rfl)
theorem dX11_init_5 : decode cX11_init 5 = .ok (.iload_n 1, 1) := dk_27 (dk_at dksX11_init_0 5 rfl rfl)
theorem dX11_init_6 : decode cX11_init 6 = .ok (.putfield 7, 3) := dk_181 0 7 (dk_at dksX11_init_0 6 rfl rfl)
theorem dX11_init_9 : decode cX11_init 9 = .ok (.aload_n 0, 1) := dk_42 (dk_at dksX11_init_0 9 rfl rfl)
theorem dX11_init_10 : decode cX11_init 10 = .ok (.iload_n 2, 1) := dk_28 (dk_at dksX11_init_0 10 rfl rfl)
theorem dX11_init_11 : decode cX11_init 11 = .ok (.putfield 13, 3) := dk_181 0 13 (dk_at dksX11_init_0 11 rfl rfl)
theorem dX11_init_14 : decode cX11_init 14 = .ok (.aload_n 0, 1) := dk_42 (dk_at dksX11_init_0 14 rfl rfl)
theorem dX11_init_15 : decode cX11_init 15 = .ok (.iload_n 3, 1) := dk_29 (dk_at dksX11_init_0 15 rfl rfl)
theorem dX11_init_16 : decode cX11_init 16 = .ok (.putfield 16, 3) := dk_181 0 16 (dk_at dksX11_init_0 16 rfl rfl)
theorem dX11_init_19 : decode cX11_init 19 = .ok (.aload_n 0, 1) := dk_42 (dk_at dksX11_init_0 19 rfl rfl)
theorem dX11_init_20 : decode cX11_init 20 = .ok (.iload 4, 2) := dk_21 4 (dk_at dksX11_init_0 20 rfl rfl)
theorem dX11_init_22 : decode cX11_init 22 = .ok (.putfield 19, 3) := dk_181 0 19 (dk_at dksX11_init_1 0 rfl rfl)
theorem dX11_init_25 : decode cX11_init 25 = .ok (.return_, 1) := dk_177 (dk_at dksX11_init_1 3 rfl rfl)
theorem q112 : (Jvm.Cond.initialized "DoughDebts$Leaven") ∈ lw_all := lw_g (lw_at lw_m1 25 rfl) rfl
theorem q917 : (Jvm.Cond.instantiable "DoughDebts$Leaven" (4 : Nat)) ∈ lw_all := lw_g (lw_at lw_m4 110 rfl) rfl
theorem q919 : (Jvm.Cond.instanceMethod ({ cls := "DoughDebts$Leaven", name := "<init>", desc := "(IIII)V" } : Jvm.MethodName)) ∈ lw_all := lw_g (lw_at lw_m4 112 rfl) rfl
theorem q920 : (Jvm.Cond.code ({ cls := "DoughDebts$Leaven", name := "<init>", desc := "(IIII)V" } : Jvm.MethodName) prog_5_method_1_code (5 : Nat) (Option.none : Option Jvm.ClassFile.FieldType)) ∈ lw_all := lw_g (lw_at lw_m4 113 rfl) rfl
theorem q921 : (Jvm.Cond.methodLink "DoughDebts$Leaven" (1 : Nat) ({ cls := "java/lang/Object", name := "<init>", desc := "()V" } : Jvm.MethodName)) ∈ lw_all := lw_g (lw_at lw_m4 114 rfl) rfl
theorem q922 : (Jvm.Cond.fieldLink "DoughDebts$Leaven" (7 : Nat) "DoughDebts$Leaven" "house" "I") ∈ lw_all := lw_g (lw_at lw_m4 115 rfl) rfl
theorem q924 : (Jvm.Cond.fieldLink "DoughDebts$Leaven" (13 : Nat) "DoughDebts$Leaven" "a" "I") ∈ lw_all := lw_g (lw_at lw_m4 117 rfl) rfl
theorem q926 : (Jvm.Cond.fieldLink "DoughDebts$Leaven" (16 : Nat) "DoughDebts$Leaven" "b" "I") ∈ lw_all := lw_g (lw_at lw_m4 119 rfl) rfl
theorem q928 : (Jvm.Cond.fieldLink "DoughDebts$Leaven" (19 : Nat) "DoughDebts$Leaven" "age" "I") ∈ lw_all := lw_g (lw_at lw_m4 121 rfl) rfl
theorem q930 : (Jvm.Cond.laysFinal "DoughDebts$Leaven" "DoughDebts$Leaven" "house" "I") ∈ lw_all := lw_g (lw_at lw_m4 123 rfl) rfl
theorem q931 : (Jvm.Cond.soleField "DoughDebts$Leaven" "house") ∈ lw_all := lw_g (lw_at lw_m4 124 rfl) rfl
theorem q932 : (Jvm.Cond.laysFinal "DoughDebts$Leaven" "DoughDebts$Leaven" "a" "I") ∈ lw_all := lw_g (lw_at lw_m4 125 rfl) rfl
theorem q933 : (Jvm.Cond.soleField "DoughDebts$Leaven" "a") ∈ lw_all := lw_g (lw_at lw_m4 126 rfl) rfl
theorem q934 : (Jvm.Cond.laysFinal "DoughDebts$Leaven" "DoughDebts$Leaven" "b" "I") ∈ lw_all := lw_g (lw_at lw_m4 127 rfl) rfl
theorem q935 : (Jvm.Cond.soleField "DoughDebts$Leaven" "b") ∈ lw_all := lw_g (lw_at lw_m4 128 rfl) rfl
theorem q936 : (Jvm.Cond.laysFinal "DoughDebts$Leaven" "DoughDebts$Leaven" "age" "I") ∈ lw_all := lw_g (lw_at lw_m4 129 rfl) rfl
theorem q937 : (Jvm.Cond.soleField "DoughDebts$Leaven" "age") ∈ lw_all := lw_g (lw_at lw_m4 130 rfl) rfl
theorem q938 : (Jvm.Cond.superclass "DoughDebts$Leaven" "java/lang/Object") ∈ lw_all := lw_g (lw_at lw_m4 131 rfl) rfl
theorem in_X11 : ∀ w ∈ wsX110, w ∈ lw_all := lw_in wsX110 [930, 932, 934, 936] (by decide +kernel) (by decide +kernel)
