/-! DoughDebts -/
set_option maxRecDepth 100000
def RX0 : String := "DoughDebts"
def TX0 : u_T := fun k => match k with
  | 0 => ("DoughDebts", "tape", "[B", true)
  | 1 => ("DoughDebts", "taped", "I", false)
  | 2 => ("DoughDebts", "ruleWords", "[Ljava/lang/String;", true)
  | 3 => ("DoughDebts", "asked", "[Ljava/lang/String;", true)
  | 4 => ("DoughDebts", "others", "[Ljava/lang/String;", true)
  | 5 => ("DoughDebts", "token", "LDoughDebts$Token;", false)
  | 6 => ("DoughDebts", "spot", "I", false)
  | 7 => ("DoughDebts", "from", "I", false)
  | 8 => ("DoughDebts", "value", "I", false)
  | 9 => ("DoughDebts", "open", "I", false)
  | 10 => ("DoughDebts", "faultKind", "I", false)
  | 11 => ("DoughDebts", "faultPlace", "I", false)
  | 12 => ("DoughDebts", "rule", "LDoughDebts$Text;", false)
  | 13 => ("DoughDebts", "houses", "[LDoughDebts$House;", true)
  | 14 => ("DoughDebts", "houseMany", "I", false)
  | 15 => ("DoughDebts", "settings", "[I", true)
  | 16 => ("DoughDebts", "most", "[I", true)
  | 17 => ("DoughDebts", "now", "LDoughDebts$Days;", true)
  | 18 => ("DoughDebts", "kept", "LDoughDebts$Days;", true)
  | 19 => ("DoughDebts", "ahead", "[LDoughDebts$Days;", true)
  | 20 => ("DoughDebts", "undoable", "I", false)
  | 21 => ("DoughDebts", "has", "[I", true)
  | 22 => ("DoughDebts", "worths", "[I", true)
  | 23 => ("DoughDebts", "today", "[I", true)
  | 24 => ("DoughDebts", "heat", "I", false)
  | 25 => ("DoughDebts", "tried", "[I", true)
  | 26 => ("DoughDebts", "pieces", "[I", true)
  | 27 => ("DoughDebts", "bestOrder", "[I", true)
  | 28 => ("DoughDebts", "found", "I", false)
  | 29 => ("DoughDebts", "leastWood", "I", false)
  | 30 => ("DoughDebts", "went", "[[I", true)
  | 31 => ("DoughDebts", "leavens", "[LDoughDebts$Leaven;", true)
  | 32 => ("DoughDebts", "leavenMany", "I", false)
  | 33 => ("DoughDebts", "parts", "[J", true)
  | 34 => ("DoughDebts", "rises", "[[I", true)
  | 35 => ("DoughDebts", "above", "J", false)
  | 36 => ("DoughDebts", "below", "J", false)
  | 37 => ("DoughDebts", "debts", "[[I", true)
  | 38 => ("DoughDebts", "groups", "[I", true)
  | 39 => ("DoughDebts", "sums", "[I", true)
  | 40 => ("DoughDebts", "keptHouses", "[LDoughDebts$House;", true)
  | 41 => ("DoughDebts", "keptLeavens", "[LDoughDebts$Leaven;", true)
  | 42 => ("DoughDebts", "keptRises", "[[I", true)
  | 43 => ("DoughDebts", "keptDebts", "[[I", true)
  | 44 => ("DoughDebts", "keptSettings", "[I", true)
  | 45 => ("DoughDebts", "keptRule", "LDoughDebts$Text;", false)
  | 46 => ("DoughDebts", "keptHouseMany", "I", false)
  | _ => ("DoughDebts", "keptLeavenMany", "I", false)
def tyX0 : Nat → FieldType := fun k => match k with
  | 0 => .array .byte
  | 1 => .int
  | 2 => .array (.object "java/lang/String")
  | 3 => .array (.object "java/lang/String")
  | 4 => .array (.object "java/lang/String")
  | 5 => .object "DoughDebts$Token"
  | 6 => .int
  | 7 => .int
  | 8 => .int
  | 9 => .int
  | 10 => .int
  | 11 => .int
  | 12 => .object "DoughDebts$Text"
  | 13 => .array (.object "DoughDebts$House")
  | 14 => .int
  | 15 => .array .int
  | 16 => .array .int
  | 17 => .object "DoughDebts$Days"
  | 18 => .object "DoughDebts$Days"
  | 19 => .array (.object "DoughDebts$Days")
  | 20 => .int
  | 21 => .array .int
  | 22 => .array .int
  | 23 => .array .int
  | 24 => .int
  | 25 => .array .int
  | 26 => .array .int
  | 27 => .array .int
  | 28 => .int
  | 29 => .int
  | 30 => .array (.array .int)
  | 31 => .array (.object "DoughDebts$Leaven")
  | 32 => .int
  | 33 => .array .long
  | 34 => .array (.array .int)
  | 35 => .long
  | 36 => .long
  | 37 => .array (.array .int)
  | 38 => .array .int
  | 39 => .array .int
  | 40 => .array (.object "DoughDebts$House")
  | 41 => .array (.object "DoughDebts$Leaven")
  | 42 => .array (.array .int)
  | 43 => .array (.array .int)
  | 44 => .array .int
  | 45 => .object "DoughDebts$Text"
  | 46 => .int
  | _ => .int
abbrev wsX00 : List Cond := u_ws RX0 TX0 48
set_option maxRecDepth 100000 in
theorem nmX0 : ∀ a, a < 48 → ∀ b, b < 48 → a ≠ b → (TX0 a).2.1 ≠ (TX0 b).2.1 := by decide +kernel
set_option maxRecDepth 100000 in
theorem tyX0_ok : ∀ k, k < 48 → parseFieldDescriptor (TX0 k).2.2.1 = some (tyX0 k) := by decide +kernel
abbrev cX0_init : ByteArray := prog_1_method_3_code
def yX0_init : MethodName := ⟨RX0, "<init>", "()V"⟩
def dkwX0_init_21 : List UInt8 := [132, 1, 1, 167, 255, 237, 177]
abbrev dktX0_init_21 : List UInt8 := dkwX0_init_21 ++ []
def dkwX0_init_20 : List UInt8 := [188, 10, 181, 0, 150, 3, 60, 27, 16, 8, 162, 0, 19, 42, 180, 0, 126, 27, 50, 27, 16, 9, 79]
abbrev dktX0_init_20 : List UInt8 := dkwX0_init_20 ++ dktX0_init_21
def dkwX0_init_19 : List UInt8 := [16, 8, 197, 0, 111, 2, 181, 0, 144, 42, 16, 9, 16, 9, 197, 0, 111, 2, 181, 0, 147, 42, 7]
abbrev dktX0_init_19 : List UInt8 := dkwX0_init_19 ++ dktX0_init_20
def dkwX0_init_18 : List UInt8 := [181, 0, 135, 42, 16, 9, 189, 0, 66, 181, 0, 138, 42, 16, 60, 189, 0, 116, 181, 0, 141, 42, 16, 8]
abbrev dktX0_init_18 : List UInt8 := dkwX0_init_18 ++ dktX0_init_19
def dkwX0_init_17 : List UInt8 := [197, 0, 111, 2, 181, 0, 129, 42, 17, 2, 0, 188, 10, 181, 0, 132, 42, 17, 2, 0, 188, 10]
abbrev dktX0_init_17 : List UInt8 := dkwX0_init_17 ++ dktX0_init_18
def dkwX0_init_16 : List UInt8 := [188, 11, 181, 0, 122, 42, 16, 8, 16, 8, 197, 0, 111, 2, 181, 0, 126, 42, 16, 9, 16, 9]
abbrev dktX0_init_16 : List UInt8 := dkwX0_init_16 ++ dktX0_init_17
def dkwX0_init_15 : List UInt8 := [17, 0, 201, 16, 9, 197, 0, 111, 2, 181, 0, 113, 42, 16, 60, 189, 0, 116, 181, 0, 118, 42, 16, 60]
abbrev dktX0_init_15 : List UInt8 := dkwX0_init_15 ++ dktX0_init_16
def dkwX0_init_14 : List UInt8 := [16, 9, 188, 10, 181, 0, 102, 42, 16, 9, 188, 10, 181, 0, 105, 42, 16, 9, 188, 10, 181, 0, 108, 42]
abbrev dktX0_init_14 : List UInt8 := dkwX0_init_14 ++ dktX0_init_15
def dkwX0_init_13 : List UInt8 := [16, 10, 188, 10, 181, 0, 93, 42, 16, 9, 188, 10, 181, 0, 96, 42, 16, 9, 188, 10, 181, 0, 99, 42]
abbrev dktX0_init_13 : List UInt8 := dkwX0_init_13 ++ dktX0_init_14
def dkwX0_init_12 : List UInt8 := [187, 0, 79, 89, 183, 0, 81, 83, 89, 16, 7, 187, 0, 79, 89, 183, 0, 81, 83, 181, 0, 89, 42]
abbrev dktX0_init_12 : List UInt8 := dkwX0_init_12 ++ dktX0_init_13
def dkwX0_init_11 : List UInt8 := [83, 89, 7, 187, 0, 79, 89, 183, 0, 81, 83, 89, 8, 187, 0, 79, 89, 183, 0, 81, 83, 89, 16, 6]
abbrev dktX0_init_11 : List UInt8 := dkwX0_init_11 ++ dktX0_init_12
def dkwX0_init_10 : List UInt8 := [89, 183, 0, 81, 83, 89, 5, 187, 0, 79, 89, 183, 0, 81, 83, 89, 6, 187, 0, 79, 89, 183, 0, 81]
abbrev dktX0_init_10 : List UInt8 := dkwX0_init_10 ++ dktX0_init_11
def dkwX0_init_9 : List UInt8 := [181, 0, 86, 42, 16, 8, 189, 0, 79, 89, 3, 187, 0, 79, 89, 183, 0, 81, 83, 89, 4, 187, 0, 79]
abbrev dktX0_init_9 : List UInt8 := dkwX0_init_9 ++ dktX0_init_10
def dkwX0_init_8 : List UInt8 := [181, 0, 76, 42, 187, 0, 79, 89, 183, 0, 81, 181, 0, 82, 42, 187, 0, 79, 89, 183, 0, 81]
abbrev dktX0_init_8 : List UInt8 := dkwX0_init_8 ++ dktX0_init_9
def dkwX0_init_7 : List UInt8 := [7, 188, 10, 89, 3, 16, 99, 79, 89, 4, 16, 99, 79, 89, 5, 16, 99, 79, 89, 6, 16, 100, 79]
abbrev dktX0_init_7 : List UInt8 := dkwX0_init_7 ++ dktX0_init_8
def dkwX0_init_6 : List UInt8 := [7, 188, 10, 89, 3, 16, 10, 79, 89, 4, 4, 79, 89, 5, 4, 79, 89, 6, 3, 79, 181, 0, 72, 42]
abbrev dktX0_init_6 : List UInt8 := dkwX0_init_6 ++ dktX0_init_7
def dkwX0_init_5 : List UInt8 := [181, 0, 55, 42, 187, 0, 59, 89, 183, 0, 61, 181, 0, 62, 42, 16, 9, 189, 0, 66, 181, 0, 68, 42]
abbrev dktX0_init_5 : List UInt8 := dkwX0_init_5 ++ dktX0_init_6
def dkwX0_init_4 : List UInt8 := [3, 18, 44, 83, 89, 4, 18, 46, 83, 89, 5, 18, 48, 83, 89, 6, 18, 50, 83, 181, 0, 52, 42, 2]
abbrev dktX0_init_4 : List UInt8 := dkwX0_init_4 ++ dktX0_init_5
def dkwX0_init_3 : List UInt8 := [18, 35, 83, 89, 16, 8, 18, 37, 83, 89, 16, 9, 18, 39, 83, 181, 0, 41, 42, 7, 189, 0, 13, 89]
abbrev dktX0_init_3 : List UInt8 := dkwX0_init_3 ++ dktX0_init_4
def dkwX0_init_2 : List UInt8 := [89, 6, 18, 27, 83, 89, 7, 18, 29, 83, 89, 8, 18, 31, 83, 89, 16, 6, 18, 33, 83, 89, 16, 7]
abbrev dktX0_init_2 : List UInt8 := dkwX0_init_2 ++ dktX0_init_3
def dkwX0_init_1 : List UInt8 := [181, 0, 17, 42, 16, 10, 189, 0, 13, 89, 3, 18, 21, 83, 89, 4, 18, 23, 83, 89, 5, 18, 25, 83]
abbrev dktX0_init_1 : List UInt8 := dkwX0_init_1 ++ dktX0_init_2
def dkwX0_init_0 : List UInt8 := [42, 183, 0, 1, 42, 17, 1, 144, 188, 8, 181, 0, 9, 42, 4, 189, 0, 13, 89, 3, 18, 15, 83]
abbrev dktX0_init_0 : List UInt8 := dkwX0_init_0 ++ dktX0_init_1
theorem dksX0_init_0 : cX0_init.data.toList.drop 0 = dktX0_init_0 := by decide +kernel
theorem dksX0_init_1 : cX0_init.data.toList.drop 23 = dktX0_init_1 := dk_seg dksX0_init_0 23 rfl rfl
theorem dksX0_init_2 : cX0_init.data.toList.drop 47 = dktX0_init_2 := dk_seg dksX0_init_1 24 rfl rfl
theorem dksX0_init_3 : cX0_init.data.toList.drop 71 = dktX0_init_3 := dk_seg dksX0_init_2 24 rfl rfl
theorem dksX0_init_4 : cX0_init.data.toList.drop 95 = dktX0_init_4 := dk_seg dksX0_init_3 24 rfl rfl
theorem dksX0_init_5 : cX0_init.data.toList.drop 119 = dktX0_init_5 := dk_seg dksX0_init_4 24 rfl rfl
theorem dksX0_init_6 : cX0_init.data.toList.drop 143 = dktX0_init_6 := dk_seg dksX0_init_5 24 rfl rfl
theorem dksX0_init_7 : cX0_init.data.toList.drop 167 = dktX0_init_7 := dk_seg dksX0_init_6 24 rfl rfl
theorem dksX0_init_8 : cX0_init.data.toList.drop 190 = dktX0_init_8 := dk_seg dksX0_init_7 23 rfl rfl
theorem dksX0_init_9 : cX0_init.data.toList.drop 212 = dktX0_init_9 := dk_seg dksX0_init_8 22 rfl rfl
theorem dksX0_init_10 : cX0_init.data.toList.drop 236 = dktX0_init_10 := dk_seg dksX0_init_9 24 rfl rfl
theorem dksX0_init_11 : cX0_init.data.toList.drop 260 = dktX0_init_11 := dk_seg dksX0_init_10 24 rfl rfl
theorem dksX0_init_12 : cX0_init.data.toList.drop 284 = dktX0_init_12 := dk_seg dksX0_init_11 24 rfl rfl
theorem dksX0_init_13 : cX0_init.data.toList.drop 307 = dktX0_init_13 := dk_seg dksX0_init_12 23 rfl rfl
theorem dksX0_init_14 : cX0_init.data.toList.drop 331 = dktX0_init_14 := dk_seg dksX0_init_13 24 rfl rfl
theorem dksX0_init_15 : cX0_init.data.toList.drop 355 = dktX0_init_15 := dk_seg dksX0_init_14 24 rfl rfl
theorem dksX0_init_16 : cX0_init.data.toList.drop 379 = dktX0_init_16 := dk_seg dksX0_init_15 24 rfl rfl
theorem dksX0_init_17 : cX0_init.data.toList.drop 401 = dktX0_init_17 := dk_seg dksX0_init_16 22 rfl rfl
theorem dksX0_init_18 : cX0_init.data.toList.drop 423 = dktX0_init_18 := dk_seg dksX0_init_17 22 rfl rfl
theorem dksX0_init_19 : cX0_init.data.toList.drop 447 = dktX0_init_19 := dk_seg dksX0_init_18 24 rfl rfl
theorem dksX0_init_20 : cX0_init.data.toList.drop 470 = dktX0_init_20 := dk_seg dksX0_init_19 23 rfl rfl
theorem dksX0_init_21 : cX0_init.data.toList.drop 493 = dktX0_init_21 := dk_seg dksX0_init_20 23 rfl rfl
theorem dX0_init_0 : decode cX0_init 0 = .ok (.aload_n 0, 1) := dk_42 (dk_at dksX0_init_0 0 rfl rfl)
theorem dX0_init_1 : decode cX0_init 1 = .ok (.invokespecial 1, 3) := dk_183 0 1 (dk_at dksX0_init_0 1 rfl rfl)
theorem dX0_init_4 : decode cX0_init 4 = .ok (.aload_n 0, 1) := dk_42 (dk_at dksX0_init_0 4 rfl rfl)
theorem dX0_init_5 : decode cX0_init 5 = .ok (.sipush 400, 3) := dk_17 1 144 (dk_at dksX0_init_0 5 rfl rfl)
theorem dX0_init_8 : decode cX0_init 8 = .ok (.newarray .byte, 2) := dk_188_8 (dk_at dksX0_init_0 8 rfl rfl)
theorem dX0_init_10 : decode cX0_init 10 = .ok (.putfield 9, 3) := dk_181 0 9 (dk_at dksX0_init_0 10 rfl rfl)
theorem dX0_init_13 : decode cX0_init 13 = .ok (.aload_n 0, 1) := dk_42 (dk_at dksX0_init_0 13 rfl rfl)
theorem dX0_init_14 : decode cX0_init 14 = .ok (.iconst 1, 1) := dk_4 (dk_at dksX0_init_0 14 rfl rfl)
theorem dX0_init_15 : decode cX0_init 15 = .ok (.anewarray 13, 3) := dk_189 0 13 (dk_at dksX0_init_0 15 rfl rfl)
theorem dX0_init_18 : decode cX0_init 18 = .ok (.dup, 1) := dk_89 (dk_at dksX0_init_0 18 rfl rfl)
theorem dX0_init_19 : decode cX0_init 19 = .ok (.iconst 0, 1) := dk_3 (dk_at dksX0_init_0 19 rfl rfl)
theorem dX0_init_20 : decode cX0_init 20 = .ok (.ldc 15, 2) := dk_18 15 (dk_at dksX0_init_0 20 rfl rfl)
theorem dX0_init_22 : decode cX0_init 22 = .ok (.aastore, 1) := dk_83 (dk_at dksX0_init_0 22 rfl rfl)
theorem dX0_init_23 : decode cX0_init 23 = .ok (.putfield 17, 3) := dk_181 0 17 (dk_at dksX0_init_1 0 rfl rfl)
theorem dX0_init_26 : decode cX0_init 26 = .ok (.aload_n 0, 1) := dk_42 (dk_at dksX0_init_1 3 rfl rfl)
theorem dX0_init_27 : decode cX0_init 27 = .ok (.bipush 10, 2) := dk_16 10 (dk_at dksX0_init_1 4 rfl rfl)
theorem dX0_init_29 : decode cX0_init 29 = .ok (.anewarray 13, 3) := dk_189 0 13 (dk_at dksX0_init_1 6 rfl rfl)
theorem dX0_init_32 : decode cX0_init 32 = .ok (.dup, 1) := dk_89 (dk_at dksX0_init_1 9 rfl rfl)
theorem dX0_init_33 : decode cX0_init 33 = .ok (.iconst 0, 1) := dk_3 (dk_at dksX0_init_1 10 rfl rfl)
theorem dX0_init_34 : decode cX0_init 34 = .ok (.ldc 21, 2) := dk_18 21 (dk_at dksX0_init_1 11 rfl rfl)
theorem dX0_init_36 : decode cX0_init 36 = .ok (.aastore, 1) := dk_83 (dk_at dksX0_init_1 13 rfl rfl)
theorem dX0_init_37 : decode cX0_init 37 = .ok (.dup, 1) := dk_89 (dk_at dksX0_init_1 14 rfl rfl)
theorem dX0_init_38 : decode cX0_init 38 = .ok (.iconst 1, 1) := dk_4 (dk_at dksX0_init_1 15 rfl rfl)
theorem dX0_init_39 : decode cX0_init 39 = .ok (.ldc 23, 2) := dk_18 23 (dk_at dksX0_init_1 16 rfl rfl)
theorem dX0_init_41 : decode cX0_init 41 = .ok (.aastore, 1) := dk_83 (dk_at dksX0_init_1 18 rfl rfl)
theorem dX0_init_42 : decode cX0_init 42 = .ok (.dup, 1) := dk_89 (dk_at dksX0_init_1 19 rfl rfl)
theorem dX0_init_43 : decode cX0_init 43 = .ok (.iconst 2, 1) := dk_5 (dk_at dksX0_init_1 20 rfl rfl)
theorem dX0_init_44 : decode cX0_init 44 = .ok (.ldc 25, 2) := dk_18 25 (dk_at dksX0_init_1 21 rfl rfl)
theorem dX0_init_46 : decode cX0_init 46 = .ok (.aastore, 1) := dk_83 (dk_at dksX0_init_1 23 rfl rfl)
theorem dX0_init_47 : decode cX0_init 47 = .ok (.dup, 1) := dk_89 (dk_at dksX0_init_2 0 rfl rfl)
theorem dX0_init_48 : decode cX0_init 48 = .ok (.iconst 3, 1) := dk_6 (dk_at dksX0_init_2 1 rfl rfl)
theorem dX0_init_49 : decode cX0_init 49 = .ok (.ldc 27, 2) := dk_18 27 (dk_at dksX0_init_2 2 rfl rfl)
theorem dX0_init_51 : decode cX0_init 51 = .ok (.aastore, 1) := dk_83 (dk_at dksX0_init_2 4 rfl rfl)
theorem dX0_init_52 : decode cX0_init 52 = .ok (.dup, 1) := dk_89 (dk_at dksX0_init_2 5 rfl rfl)
theorem dX0_init_53 : decode cX0_init 53 = .ok (.iconst 4, 1) := dk_7 (dk_at dksX0_init_2 6 rfl rfl)
theorem dX0_init_54 : decode cX0_init 54 = .ok (.ldc 29, 2) := dk_18 29 (dk_at dksX0_init_2 7 rfl rfl)
theorem dX0_init_56 : decode cX0_init 56 = .ok (.aastore, 1) := dk_83 (dk_at dksX0_init_2 9 rfl rfl)
theorem dX0_init_57 : decode cX0_init 57 = .ok (.dup, 1) := dk_89 (dk_at dksX0_init_2 10 rfl rfl)
theorem dX0_init_58 : decode cX0_init 58 = .ok (.iconst 5, 1) := dk_8 (dk_at dksX0_init_2 11 rfl rfl)
theorem dX0_init_59 : decode cX0_init 59 = .ok (.ldc 31, 2) := dk_18 31 (dk_at dksX0_init_2 12 rfl rfl)
theorem dX0_init_61 : decode cX0_init 61 = .ok (.aastore, 1) := dk_83 (dk_at dksX0_init_2 14 rfl rfl)
theorem dX0_init_62 : decode cX0_init 62 = .ok (.dup, 1) := dk_89 (dk_at dksX0_init_2 15 rfl rfl)
theorem dX0_init_63 : decode cX0_init 63 = .ok (.bipush 6, 2) := dk_16 6 (dk_at dksX0_init_2 16 rfl rfl)
theorem dX0_init_65 : decode cX0_init 65 = .ok (.ldc 33, 2) := dk_18 33 (dk_at dksX0_init_2 18 rfl rfl)
theorem dX0_init_67 : decode cX0_init 67 = .ok (.aastore, 1) := dk_83 (dk_at dksX0_init_2 20 rfl rfl)
theorem dX0_init_68 : decode cX0_init 68 = .ok (.dup, 1) := dk_89 (dk_at dksX0_init_2 21 rfl rfl)
theorem dX0_init_69 : decode cX0_init 69 = .ok (.bipush 7, 2) := dk_16 7 (dk_at dksX0_init_2 22 rfl rfl)
theorem dX0_init_71 : decode cX0_init 71 = .ok (.ldc 35, 2) := dk_18 35 (dk_at dksX0_init_3 0 rfl rfl)
theorem dX0_init_73 : decode cX0_init 73 = .ok (.aastore, 1) := dk_83 (dk_at dksX0_init_3 2 rfl rfl)
theorem dX0_init_74 : decode cX0_init 74 = .ok (.dup, 1) := dk_89 (dk_at dksX0_init_3 3 rfl rfl)
theorem dX0_init_75 : decode cX0_init 75 = .ok (.bipush 8, 2) := dk_16 8 (dk_at dksX0_init_3 4 rfl rfl)
theorem dX0_init_77 : decode cX0_init 77 = .ok (.ldc 37, 2) := dk_18 37 (dk_at dksX0_init_3 6 rfl rfl)
theorem dX0_init_79 : decode cX0_init 79 = .ok (.aastore, 1) := dk_83 (dk_at dksX0_init_3 8 rfl rfl)
theorem dX0_init_80 : decode cX0_init 80 = .ok (.dup, 1) := dk_89 (dk_at dksX0_init_3 9 rfl rfl)
theorem dX0_init_81 : decode cX0_init 81 = .ok (.bipush 9, 2) := dk_16 9 (dk_at dksX0_init_3 10 rfl rfl)
theorem dX0_init_83 : decode cX0_init 83 = .ok (.ldc 39, 2) := dk_18 39 (dk_at dksX0_init_3 12 rfl rfl)
theorem dX0_init_85 : decode cX0_init 85 = .ok (.aastore, 1) := dk_83 (dk_at dksX0_init_3 14 rfl rfl)
theorem dX0_init_86 : decode cX0_init 86 = .ok (.putfield 41, 3) := dk_181 0 41 (dk_at dksX0_init_3 15 rfl rfl)
theorem dX0_init_89 : decode cX0_init 89 = .ok (.aload_n 0, 1) := dk_42 (dk_at dksX0_init_3 18 rfl rfl)
theorem dX0_init_90 : decode cX0_init 90 = .ok (.iconst 4, 1) := dk_7 (dk_at dksX0_init_3 19 rfl rfl)
theorem dX0_init_91 : decode cX0_init 91 = .ok (.anewarray 13, 3) := dk_189 0 13 (dk_at dksX0_init_3 20 rfl rfl)
theorem dX0_init_94 : decode cX0_init 94 = .ok (.dup, 1) := dk_89 (dk_at dksX0_init_3 23 rfl rfl)
theorem dX0_init_95 : decode cX0_init 95 = .ok (.iconst 0, 1) := dk_3 (dk_at dksX0_init_4 0 rfl rfl)
theorem dX0_init_96 : decode cX0_init 96 = .ok (.ldc 44, 2) := dk_18 44 (dk_at dksX0_init_4 1 rfl rfl)
theorem dX0_init_98 : decode cX0_init 98 = .ok (.aastore, 1) := dk_83 (dk_at dksX0_init_4 3 rfl rfl)
theorem dX0_init_99 : decode cX0_init 99 = .ok (.dup, 1) := dk_89 (dk_at dksX0_init_4 4 rfl rfl)
theorem dX0_init_100 : decode cX0_init 100 = .ok (.iconst 1, 1) := dk_4 (dk_at dksX0_init_4 5 rfl rfl)
theorem dX0_init_101 : decode cX0_init 101 = .ok (.ldc 46, 2) := dk_18 46 (dk_at dksX0_init_4 6 rfl rfl)
theorem dX0_init_103 : decode cX0_init 103 = .ok (.aastore, 1) := dk_83 (dk_at dksX0_init_4 8 rfl rfl)
theorem dX0_init_104 : decode cX0_init 104 = .ok (.dup, 1) := dk_89 (dk_at dksX0_init_4 9 rfl rfl)
theorem dX0_init_105 : decode cX0_init 105 = .ok (.iconst 2, 1) := dk_5 (dk_at dksX0_init_4 10 rfl rfl)
theorem dX0_init_106 : decode cX0_init 106 = .ok (.ldc 48, 2) := dk_18 48 (dk_at dksX0_init_4 11 rfl rfl)
theorem dX0_init_108 : decode cX0_init 108 = .ok (.aastore, 1) := dk_83 (dk_at dksX0_init_4 13 rfl rfl)
theorem dX0_init_109 : decode cX0_init 109 = .ok (.dup, 1) := dk_89 (dk_at dksX0_init_4 14 rfl rfl)
theorem dX0_init_110 : decode cX0_init 110 = .ok (.iconst 3, 1) := dk_6 (dk_at dksX0_init_4 15 rfl rfl)
theorem dX0_init_111 : decode cX0_init 111 = .ok (.ldc 50, 2) := dk_18 50 (dk_at dksX0_init_4 16 rfl rfl)
theorem dX0_init_113 : decode cX0_init 113 = .ok (.aastore, 1) := dk_83 (dk_at dksX0_init_4 18 rfl rfl)
theorem dX0_init_114 : decode cX0_init 114 = .ok (.putfield 52, 3) := dk_181 0 52 (dk_at dksX0_init_4 19 rfl rfl)
theorem dX0_init_117 : decode cX0_init 117 = .ok (.aload_n 0, 1) := dk_42 (dk_at dksX0_init_4 22 rfl rfl)
theorem dX0_init_118 : decode cX0_init 118 = .ok (.iconst (-1), 1) := dk_2 (dk_at dksX0_init_4 23 rfl rfl)
theorem dX0_init_119 : decode cX0_init 119 = .ok (.putfield 55, 3) := dk_181 0 55 (dk_at dksX0_init_5 0 rfl rfl)
theorem dX0_init_122 : decode cX0_init 122 = .ok (.aload_n 0, 1) := dk_42 (dk_at dksX0_init_5 3 rfl rfl)
theorem dX0_init_123 : decode cX0_init 123 = .ok (.new 59, 3) := dk_187 0 59 (dk_at dksX0_init_5 4 rfl rfl)
theorem dX0_init_126 : decode cX0_init 126 = .ok (.dup, 1) := dk_89 (dk_at dksX0_init_5 7 rfl rfl)
theorem dX0_init_127 : decode cX0_init 127 = .ok (.invokespecial 61, 3) := dk_183 0 61 (dk_at dksX0_init_5 8 rfl rfl)
theorem dX0_init_130 : decode cX0_init 130 = .ok (.putfield 62, 3) := dk_181 0 62 (dk_at dksX0_init_5 11 rfl rfl)
theorem dX0_init_133 : decode cX0_init 133 = .ok (.aload_n 0, 1) := dk_42 (dk_at dksX0_init_5 14 rfl rfl)
theorem dX0_init_134 : decode cX0_init 134 = .ok (.bipush 9, 2) := dk_16 9 (dk_at dksX0_init_5 15 rfl rfl)
theorem dX0_init_136 : decode cX0_init 136 = .ok (.anewarray 66, 3) := dk_189 0 66 (dk_at dksX0_init_5 17 rfl rfl)
theorem dX0_init_139 : decode cX0_init 139 = .ok (.putfield 68, 3) := dk_181 0 68 (dk_at dksX0_init_5 20 rfl rfl)
theorem dX0_init_142 : decode cX0_init 142 = .ok (.aload_n 0, 1) := dk_42 (dk_at dksX0_init_5 23 rfl rfl)
theorem dX0_init_143 : decode cX0_init 143 = .ok (.iconst 4, 1) := dk_7 (dk_at dksX0_init_6 0 rfl rfl)
theorem dX0_init_144 : decode cX0_init 144 = .ok (.newarray .int, 2) := dk_188_10 (dk_at dksX0_init_6 1 rfl rfl)
theorem dX0_init_146 : decode cX0_init 146 = .ok (.dup, 1) := dk_89 (dk_at dksX0_init_6 3 rfl rfl)
theorem dX0_init_147 : decode cX0_init 147 = .ok (.iconst 0, 1) := dk_3 (dk_at dksX0_init_6 4 rfl rfl)
theorem dX0_init_148 : decode cX0_init 148 = .ok (.bipush 10, 2) := dk_16 10 (dk_at dksX0_init_6 5 rfl rfl)
theorem dX0_init_150 : decode cX0_init 150 = .ok (.iastore, 1) := dk_79 (dk_at dksX0_init_6 7 rfl rfl)
theorem dX0_init_151 : decode cX0_init 151 = .ok (.dup, 1) := dk_89 (dk_at dksX0_init_6 8 rfl rfl)
theorem dX0_init_152 : decode cX0_init 152 = .ok (.iconst 1, 1) := dk_4 (dk_at dksX0_init_6 9 rfl rfl)
theorem dX0_init_153 : decode cX0_init 153 = .ok (.iconst 1, 1) := dk_4 (dk_at dksX0_init_6 10 rfl rfl)
theorem dX0_init_154 : decode cX0_init 154 = .ok (.iastore, 1) := dk_79 (dk_at dksX0_init_6 11 rfl rfl)
theorem dX0_init_155 : decode cX0_init 155 = .ok (.dup, 1) := dk_89 (dk_at dksX0_init_6 12 rfl rfl)
theorem dX0_init_156 : decode cX0_init 156 = .ok (.iconst 2, 1) := dk_5 (dk_at dksX0_init_6 13 rfl rfl)
theorem dX0_init_157 : decode cX0_init 157 = .ok (.iconst 1, 1) := dk_4 (dk_at dksX0_init_6 14 rfl rfl)
theorem dX0_init_158 : decode cX0_init 158 = .ok (.iastore, 1) := dk_79 (dk_at dksX0_init_6 15 rfl rfl)
theorem dX0_init_159 : decode cX0_init 159 = .ok (.dup, 1) := dk_89 (dk_at dksX0_init_6 16 rfl rfl)
theorem dX0_init_160 : decode cX0_init 160 = .ok (.iconst 3, 1) := dk_6 (dk_at dksX0_init_6 17 rfl rfl)
theorem dX0_init_161 : decode cX0_init 161 = .ok (.iconst 0, 1) := dk_3 (dk_at dksX0_init_6 18 rfl rfl)
theorem dX0_init_162 : decode cX0_init 162 = .ok (.iastore, 1) := dk_79 (dk_at dksX0_init_6 19 rfl rfl)
theorem dX0_init_163 : decode cX0_init 163 = .ok (.putfield 72, 3) := dk_181 0 72 (dk_at dksX0_init_6 20 rfl rfl)
theorem dX0_init_166 : decode cX0_init 166 = .ok (.aload_n 0, 1) := dk_42 (dk_at dksX0_init_6 23 rfl rfl)
theorem dX0_init_167 : decode cX0_init 167 = .ok (.iconst 4, 1) := dk_7 (dk_at dksX0_init_7 0 rfl rfl)
theorem dX0_init_168 : decode cX0_init 168 = .ok (.newarray .int, 2) := dk_188_10 (dk_at dksX0_init_7 1 rfl rfl)
theorem dX0_init_170 : decode cX0_init 170 = .ok (.dup, 1) := dk_89 (dk_at dksX0_init_7 3 rfl rfl)
theorem dX0_init_171 : decode cX0_init 171 = .ok (.iconst 0, 1) := dk_3 (dk_at dksX0_init_7 4 rfl rfl)
theorem dX0_init_172 : decode cX0_init 172 = .ok (.bipush 99, 2) := dk_16 99 (dk_at dksX0_init_7 5 rfl rfl)
theorem dX0_init_174 : decode cX0_init 174 = .ok (.iastore, 1) := dk_79 (dk_at dksX0_init_7 7 rfl rfl)
theorem dX0_init_175 : decode cX0_init 175 = .ok (.dup, 1) := dk_89 (dk_at dksX0_init_7 8 rfl rfl)
theorem dX0_init_176 : decode cX0_init 176 = .ok (.iconst 1, 1) := dk_4 (dk_at dksX0_init_7 9 rfl rfl)
theorem dX0_init_177 : decode cX0_init 177 = .ok (.bipush 99, 2) := dk_16 99 (dk_at dksX0_init_7 10 rfl rfl)
theorem dX0_init_179 : decode cX0_init 179 = .ok (.iastore, 1) := dk_79 (dk_at dksX0_init_7 12 rfl rfl)
theorem dX0_init_180 : decode cX0_init 180 = .ok (.dup, 1) := dk_89 (dk_at dksX0_init_7 13 rfl rfl)
theorem dX0_init_181 : decode cX0_init 181 = .ok (.iconst 2, 1) := dk_5 (dk_at dksX0_init_7 14 rfl rfl)
theorem dX0_init_182 : decode cX0_init 182 = .ok (.bipush 99, 2) := dk_16 99 (dk_at dksX0_init_7 15 rfl rfl)
theorem dX0_init_184 : decode cX0_init 184 = .ok (.iastore, 1) := dk_79 (dk_at dksX0_init_7 17 rfl rfl)
theorem dX0_init_185 : decode cX0_init 185 = .ok (.dup, 1) := dk_89 (dk_at dksX0_init_7 18 rfl rfl)
theorem dX0_init_186 : decode cX0_init 186 = .ok (.iconst 3, 1) := dk_6 (dk_at dksX0_init_7 19 rfl rfl)
theorem dX0_init_187 : decode cX0_init 187 = .ok (.bipush 100, 2) := dk_16 100 (dk_at dksX0_init_7 20 rfl rfl)
theorem dX0_init_189 : decode cX0_init 189 = .ok (.iastore, 1) := dk_79 (dk_at dksX0_init_7 22 rfl rfl)
theorem dX0_init_190 : decode cX0_init 190 = .ok (.putfield 76, 3) := dk_181 0 76 (dk_at dksX0_init_8 0 rfl rfl)
theorem dX0_init_193 : decode cX0_init 193 = .ok (.aload_n 0, 1) := dk_42 (dk_at dksX0_init_8 3 rfl rfl)
theorem dX0_init_194 : decode cX0_init 194 = .ok (.new 79, 3) := dk_187 0 79 (dk_at dksX0_init_8 4 rfl rfl)
theorem dX0_init_197 : decode cX0_init 197 = .ok (.dup, 1) := dk_89 (dk_at dksX0_init_8 7 rfl rfl)
theorem dX0_init_198 : decode cX0_init 198 = .ok (.invokespecial 81, 3) := dk_183 0 81 (dk_at dksX0_init_8 8 rfl rfl)
theorem dX0_init_201 : decode cX0_init 201 = .ok (.putfield 82, 3) := dk_181 0 82 (dk_at dksX0_init_8 11 rfl rfl)
theorem dX0_init_204 : decode cX0_init 204 = .ok (.aload_n 0, 1) := dk_42 (dk_at dksX0_init_8 14 rfl rfl)
theorem dX0_init_205 : decode cX0_init 205 = .ok (.new 79, 3) := dk_187 0 79 (dk_at dksX0_init_8 15 rfl rfl)
theorem dX0_init_208 : decode cX0_init 208 = .ok (.dup, 1) := dk_89 (dk_at dksX0_init_8 18 rfl rfl)
theorem dX0_init_209 : decode cX0_init 209 = .ok (.invokespecial 81, 3) := dk_183 0 81 (dk_at dksX0_init_8 19 rfl rfl)
theorem dX0_init_212 : decode cX0_init 212 = .ok (.putfield 86, 3) := dk_181 0 86 (dk_at dksX0_init_9 0 rfl rfl)
theorem dX0_init_215 : decode cX0_init 215 = .ok (.aload_n 0, 1) := dk_42 (dk_at dksX0_init_9 3 rfl rfl)
theorem dX0_init_216 : decode cX0_init 216 = .ok (.bipush 8, 2) := dk_16 8 (dk_at dksX0_init_9 4 rfl rfl)
theorem dX0_init_218 : decode cX0_init 218 = .ok (.anewarray 79, 3) := dk_189 0 79 (dk_at dksX0_init_9 6 rfl rfl)
theorem dX0_init_221 : decode cX0_init 221 = .ok (.dup, 1) := dk_89 (dk_at dksX0_init_9 9 rfl rfl)
theorem dX0_init_222 : decode cX0_init 222 = .ok (.iconst 0, 1) := dk_3 (dk_at dksX0_init_9 10 rfl rfl)
theorem dX0_init_223 : decode cX0_init 223 = .ok (.new 79, 3) := dk_187 0 79 (dk_at dksX0_init_9 11 rfl rfl)
theorem dX0_init_226 : decode cX0_init 226 = .ok (.dup, 1) := dk_89 (dk_at dksX0_init_9 14 rfl rfl)
theorem dX0_init_227 : decode cX0_init 227 = .ok (.invokespecial 81, 3) := dk_183 0 81 (dk_at dksX0_init_9 15 rfl rfl)
theorem dX0_init_230 : decode cX0_init 230 = .ok (.aastore, 1) := dk_83 (dk_at dksX0_init_9 18 rfl rfl)
theorem dX0_init_231 : decode cX0_init 231 = .ok (.dup, 1) := dk_89 (dk_at dksX0_init_9 19 rfl rfl)
theorem dX0_init_232 : decode cX0_init 232 = .ok (.iconst 1, 1) := dk_4 (dk_at dksX0_init_9 20 rfl rfl)
theorem dX0_init_233 : decode cX0_init 233 = .ok (.new 79, 3) := dk_187 0 79 (dk_at dksX0_init_9 21 rfl rfl)
theorem dX0_init_236 : decode cX0_init 236 = .ok (.dup, 1) := dk_89 (dk_at dksX0_init_10 0 rfl rfl)
theorem dX0_init_237 : decode cX0_init 237 = .ok (.invokespecial 81, 3) := dk_183 0 81 (dk_at dksX0_init_10 1 rfl rfl)
theorem dX0_init_240 : decode cX0_init 240 = .ok (.aastore, 1) := dk_83 (dk_at dksX0_init_10 4 rfl rfl)
theorem dX0_init_241 : decode cX0_init 241 = .ok (.dup, 1) := dk_89 (dk_at dksX0_init_10 5 rfl rfl)
theorem dX0_init_242 : decode cX0_init 242 = .ok (.iconst 2, 1) := dk_5 (dk_at dksX0_init_10 6 rfl rfl)
theorem dX0_init_243 : decode cX0_init 243 = .ok (.new 79, 3) := dk_187 0 79 (dk_at dksX0_init_10 7 rfl rfl)
theorem dX0_init_246 : decode cX0_init 246 = .ok (.dup, 1) := dk_89 (dk_at dksX0_init_10 10 rfl rfl)
theorem dX0_init_247 : decode cX0_init 247 = .ok (.invokespecial 81, 3) := dk_183 0 81 (dk_at dksX0_init_10 11 rfl rfl)
theorem dX0_init_250 : decode cX0_init 250 = .ok (.aastore, 1) := dk_83 (dk_at dksX0_init_10 14 rfl rfl)
theorem dX0_init_251 : decode cX0_init 251 = .ok (.dup, 1) := dk_89 (dk_at dksX0_init_10 15 rfl rfl)
theorem dX0_init_252 : decode cX0_init 252 = .ok (.iconst 3, 1) := dk_6 (dk_at dksX0_init_10 16 rfl rfl)
theorem dX0_init_253 : decode cX0_init 253 = .ok (.new 79, 3) := dk_187 0 79 (dk_at dksX0_init_10 17 rfl rfl)
theorem dX0_init_256 : decode cX0_init 256 = .ok (.dup, 1) := dk_89 (dk_at dksX0_init_10 20 rfl rfl)
theorem dX0_init_257 : decode cX0_init 257 = .ok (.invokespecial 81, 3) := dk_183 0 81 (dk_at dksX0_init_10 21 rfl rfl)
theorem dX0_init_260 : decode cX0_init 260 = .ok (.aastore, 1) := dk_83 (dk_at dksX0_init_11 0 rfl rfl)
theorem dX0_init_261 : decode cX0_init 261 = .ok (.dup, 1) := dk_89 (dk_at dksX0_init_11 1 rfl rfl)
theorem dX0_init_262 : decode cX0_init 262 = .ok (.iconst 4, 1) := dk_7 (dk_at dksX0_init_11 2 rfl rfl)
theorem dX0_init_263 : decode cX0_init 263 = .ok (.new 79, 3) := dk_187 0 79 (dk_at dksX0_init_11 3 rfl rfl)
theorem dX0_init_266 : decode cX0_init 266 = .ok (.dup, 1) := dk_89 (dk_at dksX0_init_11 6 rfl rfl)
theorem dX0_init_267 : decode cX0_init 267 = .ok (.invokespecial 81, 3) := dk_183 0 81 (dk_at dksX0_init_11 7 rfl rfl)
theorem dX0_init_270 : decode cX0_init 270 = .ok (.aastore, 1) := dk_83 (dk_at dksX0_init_11 10 rfl rfl)
theorem dX0_init_271 : decode cX0_init 271 = .ok (.dup, 1) := dk_89 (dk_at dksX0_init_11 11 rfl rfl)
theorem dX0_init_272 : decode cX0_init 272 = .ok (.iconst 5, 1) := dk_8 (dk_at dksX0_init_11 12 rfl rfl)
theorem dX0_init_273 : decode cX0_init 273 = .ok (.new 79, 3) := dk_187 0 79 (dk_at dksX0_init_11 13 rfl rfl)
theorem dX0_init_276 : decode cX0_init 276 = .ok (.dup, 1) := dk_89 (dk_at dksX0_init_11 16 rfl rfl)
theorem dX0_init_277 : decode cX0_init 277 = .ok (.invokespecial 81, 3) := dk_183 0 81 (dk_at dksX0_init_11 17 rfl rfl)
theorem dX0_init_280 : decode cX0_init 280 = .ok (.aastore, 1) := dk_83 (dk_at dksX0_init_11 20 rfl rfl)
theorem dX0_init_281 : decode cX0_init 281 = .ok (.dup, 1) := dk_89 (dk_at dksX0_init_11 21 rfl rfl)
theorem dX0_init_282 : decode cX0_init 282 = .ok (.bipush 6, 2) := dk_16 6 (dk_at dksX0_init_11 22 rfl rfl)
theorem dX0_init_284 : decode cX0_init 284 = .ok (.new 79, 3) := dk_187 0 79 (dk_at dksX0_init_12 0 rfl rfl)
theorem dX0_init_287 : decode cX0_init 287 = .ok (.dup, 1) := dk_89 (dk_at dksX0_init_12 3 rfl rfl)
theorem dX0_init_288 : decode cX0_init 288 = .ok (.invokespecial 81, 3) := dk_183 0 81 (dk_at dksX0_init_12 4 rfl rfl)
theorem dX0_init_291 : decode cX0_init 291 = .ok (.aastore, 1) := dk_83 (dk_at dksX0_init_12 7 rfl rfl)
theorem dX0_init_292 : decode cX0_init 292 = .ok (.dup, 1) := dk_89 (dk_at dksX0_init_12 8 rfl rfl)
theorem dX0_init_293 : decode cX0_init 293 = .ok (.bipush 7, 2) := dk_16 7 (dk_at dksX0_init_12 9 rfl rfl)
theorem dX0_init_295 : decode cX0_init 295 = .ok (.new 79, 3) := dk_187 0 79 (dk_at dksX0_init_12 11 rfl rfl)
theorem dX0_init_298 : decode cX0_init 298 = .ok (.dup, 1) := dk_89 (dk_at dksX0_init_12 14 rfl rfl)
theorem dX0_init_299 : decode cX0_init 299 = .ok (.invokespecial 81, 3) := dk_183 0 81 (dk_at dksX0_init_12 15 rfl rfl)
theorem dX0_init_302 : decode cX0_init 302 = .ok (.aastore, 1) := dk_83 (dk_at dksX0_init_12 18 rfl rfl)
theorem dX0_init_303 : decode cX0_init 303 = .ok (.putfield 89, 3) := dk_181 0 89 (dk_at dksX0_init_12 19 rfl rfl)
theorem dX0_init_306 : decode cX0_init 306 = .ok (.aload_n 0, 1) := dk_42 (dk_at dksX0_init_12 22 rfl rfl)
theorem dX0_init_307 : decode cX0_init 307 = .ok (.bipush 10, 2) := dk_16 10 (dk_at dksX0_init_13 0 rfl rfl)
theorem dX0_init_309 : decode cX0_init 309 = .ok (.newarray .int, 2) := dk_188_10 (dk_at dksX0_init_13 2 rfl rfl)
theorem dX0_init_311 : decode cX0_init 311 = .ok (.putfield 93, 3) := dk_181 0 93 (dk_at dksX0_init_13 4 rfl rfl)
theorem dX0_init_314 : decode cX0_init 314 = .ok (.aload_n 0, 1) := dk_42 (dk_at dksX0_init_13 7 rfl rfl)
theorem dX0_init_315 : decode cX0_init 315 = .ok (.bipush 9, 2) := dk_16 9 (dk_at dksX0_init_13 8 rfl rfl)
theorem dX0_init_317 : decode cX0_init 317 = .ok (.newarray .int, 2) := dk_188_10 (dk_at dksX0_init_13 10 rfl rfl)
theorem dX0_init_319 : decode cX0_init 319 = .ok (.putfield 96, 3) := dk_181 0 96 (dk_at dksX0_init_13 12 rfl rfl)
theorem dX0_init_322 : decode cX0_init 322 = .ok (.aload_n 0, 1) := dk_42 (dk_at dksX0_init_13 15 rfl rfl)
theorem dX0_init_323 : decode cX0_init 323 = .ok (.bipush 9, 2) := dk_16 9 (dk_at dksX0_init_13 16 rfl rfl)
theorem dX0_init_325 : decode cX0_init 325 = .ok (.newarray .int, 2) := dk_188_10 (dk_at dksX0_init_13 18 rfl rfl)
theorem dX0_init_327 : decode cX0_init 327 = .ok (.putfield 99, 3) := dk_181 0 99 (dk_at dksX0_init_13 20 rfl rfl)
theorem dX0_init_330 : decode cX0_init 330 = .ok (.aload_n 0, 1) := dk_42 (dk_at dksX0_init_13 23 rfl rfl)
theorem dX0_init_331 : decode cX0_init 331 = .ok (.bipush 9, 2) := dk_16 9 (dk_at dksX0_init_14 0 rfl rfl)
theorem dX0_init_333 : decode cX0_init 333 = .ok (.newarray .int, 2) := dk_188_10 (dk_at dksX0_init_14 2 rfl rfl)
theorem dX0_init_335 : decode cX0_init 335 = .ok (.putfield 102, 3) := dk_181 0 102 (dk_at dksX0_init_14 4 rfl rfl)
theorem dX0_init_338 : decode cX0_init 338 = .ok (.aload_n 0, 1) := dk_42 (dk_at dksX0_init_14 7 rfl rfl)
theorem dX0_init_339 : decode cX0_init 339 = .ok (.bipush 9, 2) := dk_16 9 (dk_at dksX0_init_14 8 rfl rfl)
theorem dX0_init_341 : decode cX0_init 341 = .ok (.newarray .int, 2) := dk_188_10 (dk_at dksX0_init_14 10 rfl rfl)
theorem dX0_init_343 : decode cX0_init 343 = .ok (.putfield 105, 3) := dk_181 0 105 (dk_at dksX0_init_14 12 rfl rfl)
theorem dX0_init_346 : decode cX0_init 346 = .ok (.aload_n 0, 1) := dk_42 (dk_at dksX0_init_14 15 rfl rfl)
theorem dX0_init_347 : decode cX0_init 347 = .ok (.bipush 9, 2) := dk_16 9 (dk_at dksX0_init_14 16 rfl rfl)
theorem dX0_init_349 : decode cX0_init 349 = .ok (.newarray .int, 2) := dk_188_10 (dk_at dksX0_init_14 18 rfl rfl)
theorem dX0_init_351 : decode cX0_init 351 = .ok (.putfield 108, 3) := dk_181 0 108 (dk_at dksX0_init_14 20 rfl rfl)
theorem dX0_init_354 : decode cX0_init 354 = .ok (.aload_n 0, 1) := dk_42 (dk_at dksX0_init_14 23 rfl rfl)
theorem dX0_init_355 : decode cX0_init 355 = .ok (.sipush 201, 3) := dk_17 0 201 (dk_at dksX0_init_15 0 rfl rfl)
theorem dX0_init_358 : decode cX0_init 358 = .ok (.bipush 9, 2) := dk_16 9 (dk_at dksX0_init_15 3 rfl rfl)
theorem dX0_init_360 : decode cX0_init 360 = .ok (.multianewarray 111 2, 4) := by decide +kernel
theorem dX0_init_364 : decode cX0_init 364 = .ok (.putfield 113, 3) := dk_181 0 113 (dk_at dksX0_init_15 9 rfl rfl)
theorem dX0_init_367 : decode cX0_init 367 = .ok (.aload_n 0, 1) := dk_42 (dk_at dksX0_init_15 12 rfl rfl)
theorem dX0_init_368 : decode cX0_init 368 = .ok (.bipush 60, 2) := dk_16 60 (dk_at dksX0_init_15 13 rfl rfl)
theorem dX0_init_370 : decode cX0_init 370 = .ok (.anewarray 116, 3) := dk_189 0 116 (dk_at dksX0_init_15 15 rfl rfl)
theorem dX0_init_373 : decode cX0_init 373 = .ok (.putfield 118, 3) := dk_181 0 118 (dk_at dksX0_init_15 18 rfl rfl)
theorem dX0_init_376 : decode cX0_init 376 = .ok (.aload_n 0, 1) := dk_42 (dk_at dksX0_init_15 21 rfl rfl)
theorem dX0_init_377 : decode cX0_init 377 = .ok (.bipush 60, 2) := dk_16 60 (dk_at dksX0_init_15 22 rfl rfl)
theorem dX0_init_379 : decode cX0_init 379 = .ok (.newarray .long, 2) := dk_188_11 (dk_at dksX0_init_16 0 rfl rfl)
theorem dX0_init_381 : decode cX0_init 381 = .ok (.putfield 122, 3) := dk_181 0 122 (dk_at dksX0_init_16 2 rfl rfl)
theorem dX0_init_384 : decode cX0_init 384 = .ok (.aload_n 0, 1) := dk_42 (dk_at dksX0_init_16 5 rfl rfl)
theorem dX0_init_385 : decode cX0_init 385 = .ok (.bipush 8, 2) := dk_16 8 (dk_at dksX0_init_16 6 rfl rfl)
theorem dX0_init_387 : decode cX0_init 387 = .ok (.bipush 8, 2) := dk_16 8 (dk_at dksX0_init_16 8 rfl rfl)
theorem dX0_init_389 : decode cX0_init 389 = .ok (.multianewarray 111 2, 4) := by decide +kernel
theorem dX0_init_393 : decode cX0_init 393 = .ok (.putfield 126, 3) := dk_181 0 126 (dk_at dksX0_init_16 14 rfl rfl)
theorem dX0_init_396 : decode cX0_init 396 = .ok (.aload_n 0, 1) := dk_42 (dk_at dksX0_init_16 17 rfl rfl)
theorem dX0_init_397 : decode cX0_init 397 = .ok (.bipush 9, 2) := dk_16 9 (dk_at dksX0_init_16 18 rfl rfl)
theorem dX0_init_399 : decode cX0_init 399 = .ok (.bipush 9, 2) := dk_16 9 (dk_at dksX0_init_16 20 rfl rfl)
theorem dX0_init_401 : decode cX0_init 401 = .ok (.multianewarray 111 2, 4) := by decide +kernel
theorem dX0_init_405 : decode cX0_init 405 = .ok (.putfield 129, 3) := dk_181 0 129 (dk_at dksX0_init_17 4 rfl rfl)
theorem dX0_init_408 : decode cX0_init 408 = .ok (.aload_n 0, 1) := dk_42 (dk_at dksX0_init_17 7 rfl rfl)
theorem dX0_init_409 : decode cX0_init 409 = .ok (.sipush 512, 3) := dk_17 2 0 (dk_at dksX0_init_17 8 rfl rfl)
theorem dX0_init_412 : decode cX0_init 412 = .ok (.newarray .int, 2) := dk_188_10 (dk_at dksX0_init_17 11 rfl rfl)
theorem dX0_init_414 : decode cX0_init 414 = .ok (.putfield 132, 3) := dk_181 0 132 (dk_at dksX0_init_17 13 rfl rfl)
theorem dX0_init_417 : decode cX0_init 417 = .ok (.aload_n 0, 1) := dk_42 (dk_at dksX0_init_17 16 rfl rfl)
theorem dX0_init_418 : decode cX0_init 418 = .ok (.sipush 512, 3) := dk_17 2 0 (dk_at dksX0_init_17 17 rfl rfl)
theorem dX0_init_421 : decode cX0_init 421 = .ok (.newarray .int, 2) := dk_188_10 (dk_at dksX0_init_17 20 rfl rfl)
theorem dX0_init_423 : decode cX0_init 423 = .ok (.putfield 135, 3) := dk_181 0 135 (dk_at dksX0_init_18 0 rfl rfl)
theorem dX0_init_426 : decode cX0_init 426 = .ok (.aload_n 0, 1) := dk_42 (dk_at dksX0_init_18 3 rfl rfl)
theorem dX0_init_427 : decode cX0_init 427 = .ok (.bipush 9, 2) := dk_16 9 (dk_at dksX0_init_18 4 rfl rfl)
theorem dX0_init_429 : decode cX0_init 429 = .ok (.anewarray 66, 3) := dk_189 0 66 (dk_at dksX0_init_18 6 rfl rfl)
theorem dX0_init_432 : decode cX0_init 432 = .ok (.putfield 138, 3) := dk_181 0 138 (dk_at dksX0_init_18 9 rfl rfl)
theorem dX0_init_435 : decode cX0_init 435 = .ok (.aload_n 0, 1) := dk_42 (dk_at dksX0_init_18 12 rfl rfl)
theorem dX0_init_436 : decode cX0_init 436 = .ok (.bipush 60, 2) := dk_16 60 (dk_at dksX0_init_18 13 rfl rfl)
theorem dX0_init_438 : decode cX0_init 438 = .ok (.anewarray 116, 3) := dk_189 0 116 (dk_at dksX0_init_18 15 rfl rfl)
theorem dX0_init_441 : decode cX0_init 441 = .ok (.putfield 141, 3) := dk_181 0 141 (dk_at dksX0_init_18 18 rfl rfl)
theorem dX0_init_444 : decode cX0_init 444 = .ok (.aload_n 0, 1) := dk_42 (dk_at dksX0_init_18 21 rfl rfl)
theorem dX0_init_445 : decode cX0_init 445 = .ok (.bipush 8, 2) := dk_16 8 (dk_at dksX0_init_18 22 rfl rfl)
theorem dX0_init_447 : decode cX0_init 447 = .ok (.bipush 8, 2) := dk_16 8 (dk_at dksX0_init_19 0 rfl rfl)
theorem dX0_init_449 : decode cX0_init 449 = .ok (.multianewarray 111 2, 4) := by decide +kernel
theorem dX0_init_453 : decode cX0_init 453 = .ok (.putfield 144, 3) := dk_181 0 144 (dk_at dksX0_init_19 6 rfl rfl)
theorem dX0_init_456 : decode cX0_init 456 = .ok (.aload_n 0, 1) := dk_42 (dk_at dksX0_init_19 9 rfl rfl)
theorem dX0_init_457 : decode cX0_init 457 = .ok (.bipush 9, 2) := dk_16 9 (dk_at dksX0_init_19 10 rfl rfl)
theorem dX0_init_459 : decode cX0_init 459 = .ok (.bipush 9, 2) := dk_16 9 (dk_at dksX0_init_19 12 rfl rfl)
theorem dX0_init_461 : decode cX0_init 461 = .ok (.multianewarray 111 2, 4) := by decide +kernel
theorem dX0_init_465 : decode cX0_init 465 = .ok (.putfield 147, 3) := dk_181 0 147 (dk_at dksX0_init_19 18 rfl rfl)
theorem dX0_init_468 : decode cX0_init 468 = .ok (.aload_n 0, 1) := dk_42 (dk_at dksX0_init_19 21 rfl rfl)
theorem dX0_init_469 : decode cX0_init 469 = .ok (.iconst 4, 1) := dk_7 (dk_at dksX0_init_19 22 rfl rfl)
theorem dX0_init_470 : decode cX0_init 470 = .ok (.newarray .int, 2) := dk_188_10 (dk_at dksX0_init_20 0 rfl rfl)
theorem dX0_init_472 : decode cX0_init 472 = .ok (.putfield 150, 3) := dk_181 0 150 (dk_at dksX0_init_20 2 rfl rfl)
theorem dX0_init_475 : decode cX0_init 475 = .ok (.iconst 0, 1) := dk_3 (dk_at dksX0_init_20 5 rfl rfl)
theorem dX0_init_476 : decode cX0_init 476 = .ok (.istore_n 1, 1) := dk_60 (dk_at dksX0_init_20 6 rfl rfl)
theorem dX0_init_477 : decode cX0_init 477 = .ok (.iload_n 1, 1) := dk_27 (dk_at dksX0_init_20 7 rfl rfl)
theorem dX0_init_478 : decode cX0_init 478 = .ok (.bipush 8, 2) := dk_16 8 (dk_at dksX0_init_20 8 rfl rfl)
theorem dX0_init_480 : decode cX0_init 480 = .ok (.if_icmp .ge 19, 3) := dk_162 0 19 (dk_at dksX0_init_20 10 rfl rfl)
theorem dX0_init_483 : decode cX0_init 483 = .ok (.aload_n 0, 1) := dk_42 (dk_at dksX0_init_20 13 rfl rfl)
theorem dX0_init_484 : decode cX0_init 484 = .ok (.getfield 126, 3) := dk_180 0 126 (dk_at dksX0_init_20 14 rfl rfl)
theorem dX0_init_487 : decode cX0_init 487 = .ok (.iload_n 1, 1) := dk_27 (dk_at dksX0_init_20 17 rfl rfl)
theorem dX0_init_488 : decode cX0_init 488 = .ok (.aaload, 1) := dk_50 (dk_at dksX0_init_20 18 rfl rfl)
theorem dX0_init_489 : decode cX0_init 489 = .ok (.iload_n 1, 1) := dk_27 (dk_at dksX0_init_20 19 rfl rfl)
theorem dX0_init_490 : decode cX0_init 490 = .ok (.bipush 9, 2) := dk_16 9 (dk_at dksX0_init_20 20 rfl rfl)
theorem dX0_init_492 : decode cX0_init 492 = .ok (.iastore, 1) := dk_79 (dk_at dksX0_init_20 22 rfl rfl)
theorem dX0_init_493 : decode cX0_init 493 = .ok (.iinc 1 1, 3) := dk_132 1 1 (dk_at dksX0_init_21 0 rfl rfl)
theorem dX0_init_496 : decode cX0_init 496 = .ok (.goto (-19), 3) := dk_167 255 237 (dk_at dksX0_init_21 3 rfl rfl)
theorem dX0_init_499 : decode cX0_init 499 = .ok (.return_, 1) := dk_177 (dk_at dksX0_init_21 6 rfl rfl)
abbrev cX0_feed : ByteArray := prog_1_method_5_code
def yX0_feed : MethodName := ⟨RX0, "feed", "(IIIII)I"⟩
def dkwX0_feed_2 : List UInt8 := [172]
abbrev dktX0_feed_2 : List UInt8 := dkwX0_feed_2 ++ []
def dkwX0_feed_1 : List UInt8 := [182, 0, 156, 42, 29, 182, 0, 156, 42, 21, 4, 182, 0, 156, 42, 21, 5, 182, 0, 156, 42, 180, 0, 153]
abbrev dktX0_feed_1 : List UInt8 := dkwX0_feed_1 ++ dktX0_feed_2
def dkwX0_feed_0 : List UInt8 := [42, 180, 0, 153, 16, 20, 96, 17, 1, 144, 164, 0, 5, 2, 172, 42, 27, 182, 0, 156, 42, 28]
abbrev dktX0_feed_0 : List UInt8 := dkwX0_feed_0 ++ dktX0_feed_1
theorem dksX0_feed_0 : cX0_feed.data.toList.drop 0 = dktX0_feed_0 := by decide +kernel
theorem dksX0_feed_1 : cX0_feed.data.toList.drop 22 = dktX0_feed_1 := dk_seg dksX0_feed_0 22 rfl rfl
theorem dksX0_feed_2 : cX0_feed.data.toList.drop 46 = dktX0_feed_2 := dk_seg dksX0_feed_1 24 rfl rfl
theorem dX0_feed_0 : decode cX0_feed 0 = .ok (.aload_n 0, 1) := dk_42 (dk_at dksX0_feed_0 0 rfl rfl)
theorem dX0_feed_1 : decode cX0_feed 1 = .ok (.getfield 153, 3) := dk_180 0 153 (dk_at dksX0_feed_0 1 rfl rfl)
theorem dX0_feed_4 : decode cX0_feed 4 = .ok (.bipush 20, 2) := dk_16 20 (dk_at dksX0_feed_0 4 rfl rfl)
theorem dX0_feed_6 : decode cX0_feed 6 = .ok (.iadd, 1) := dk_96 (dk_at dksX0_feed_0 6 rfl rfl)
theorem dX0_feed_7 : decode cX0_feed 7 = .ok (.sipush 400, 3) := dk_17 1 144 (dk_at dksX0_feed_0 7 rfl rfl)
theorem dX0_feed_10 : decode cX0_feed 10 = .ok (.if_icmp .le 5, 3) := dk_164 0 5 (dk_at dksX0_feed_0 10 rfl rfl)
theorem dX0_feed_13 : decode cX0_feed 13 = .ok (.iconst (-1), 1) := dk_2 (dk_at dksX0_feed_0 13 rfl rfl)
theorem dX0_feed_14 : decode cX0_feed 14 = .ok (.ireturn, 1) := dk_172 (dk_at dksX0_feed_0 14 rfl rfl)
theorem dX0_feed_15 : decode cX0_feed 15 = .ok (.aload_n 0, 1) := dk_42 (dk_at dksX0_feed_0 15 rfl rfl)
theorem dX0_feed_16 : decode cX0_feed 16 = .ok (.iload_n 1, 1) := dk_27 (dk_at dksX0_feed_0 16 rfl rfl)
theorem dX0_feed_17 : decode cX0_feed 17 = .ok (.invokevirtual 156, 3) := dk_182 0 156 (dk_at dksX0_feed_0 17 rfl rfl)
theorem dX0_feed_20 : decode cX0_feed 20 = .ok (.aload_n 0, 1) := dk_42 (dk_at dksX0_feed_0 20 rfl rfl)
theorem dX0_feed_21 : decode cX0_feed 21 = .ok (.iload_n 2, 1) := dk_28 (dk_at dksX0_feed_0 21 rfl rfl)
theorem dX0_feed_22 : decode cX0_feed 22 = .ok (.invokevirtual 156, 3) := dk_182 0 156 (dk_at dksX0_feed_1 0 rfl rfl)
theorem dX0_feed_25 : decode cX0_feed 25 = .ok (.aload_n 0, 1) := dk_42 (dk_at dksX0_feed_1 3 rfl rfl)
theorem dX0_feed_26 : decode cX0_feed 26 = .ok (.iload_n 3, 1) := dk_29 (dk_at dksX0_feed_1 4 rfl rfl)
theorem dX0_feed_27 : decode cX0_feed 27 = .ok (.invokevirtual 156, 3) := dk_182 0 156 (dk_at dksX0_feed_1 5 rfl rfl)
theorem dX0_feed_30 : decode cX0_feed 30 = .ok (.aload_n 0, 1) := dk_42 (dk_at dksX0_feed_1 8 rfl rfl)
theorem dX0_feed_31 : decode cX0_feed 31 = .ok (.iload 4, 2) := dk_21 4 (dk_at dksX0_feed_1 9 rfl rfl)
theorem dX0_feed_33 : decode cX0_feed 33 = .ok (.invokevirtual 156, 3) := dk_182 0 156 (dk_at dksX0_feed_1 11 rfl rfl)
theorem dX0_feed_36 : decode cX0_feed 36 = .ok (.aload_n 0, 1) := dk_42 (dk_at dksX0_feed_1 14 rfl rfl)
theorem dX0_feed_37 : decode cX0_feed 37 = .ok (.iload 5, 2) := dk_21 5 (dk_at dksX0_feed_1 15 rfl rfl)
theorem dX0_feed_39 : decode cX0_feed 39 = .ok (.invokevirtual 156, 3) := dk_182 0 156 (dk_at dksX0_feed_1 17 rfl rfl)
theorem dX0_feed_42 : decode cX0_feed 42 = .ok (.aload_n 0, 1) := dk_42 (dk_at dksX0_feed_1 20 rfl rfl)
theorem dX0_feed_43 : decode cX0_feed 43 = .ok (.getfield 153, 3) := dk_180 0 153 (dk_at dksX0_feed_1 21 rfl rfl)
theorem dX0_feed_46 : decode cX0_feed 46 = .ok (.ireturn, 1) := dk_172 (dk_at dksX0_feed_2 0 rfl rfl)
abbrev cX0_puts : ByteArray := prog_1_method_4_code
def yX0_puts : MethodName := ⟨RX0, "puts", "(I)V"⟩
def dkwX0_puts_1 : List UInt8 := [180, 0, 153, 4, 96, 181, 0, 153, 132, 2, 248, 167, 255, 226, 177]
abbrev dktX0_puts_1 : List UInt8 := dkwX0_puts_1 ++ []
def dkwX0_puts_0 : List UInt8 := [16, 24, 61, 28, 155, 0, 32, 42, 180, 0, 9, 42, 180, 0, 153, 27, 28, 122, 145, 84, 42, 89]
abbrev dktX0_puts_0 : List UInt8 := dkwX0_puts_0 ++ dktX0_puts_1
theorem dksX0_puts_0 : cX0_puts.data.toList.drop 0 = dktX0_puts_0 := by decide +kernel
theorem dksX0_puts_1 : cX0_puts.data.toList.drop 22 = dktX0_puts_1 := dk_seg dksX0_puts_0 22 rfl rfl
theorem dX0_puts_0 : decode cX0_puts 0 = .ok (.bipush 24, 2) := dk_16 24 (dk_at dksX0_puts_0 0 rfl rfl)
theorem dX0_puts_2 : decode cX0_puts 2 = .ok (.istore_n 2, 1) := dk_61 (dk_at dksX0_puts_0 2 rfl rfl)
theorem dX0_puts_3 : decode cX0_puts 3 = .ok (.iload_n 2, 1) := dk_28 (dk_at dksX0_puts_0 3 rfl rfl)
theorem dX0_puts_4 : decode cX0_puts 4 = .ok (.ifCond .lt 32, 3) := dk_155 0 32 (dk_at dksX0_puts_0 4 rfl rfl)
theorem dX0_puts_7 : decode cX0_puts 7 = .ok (.aload_n 0, 1) := dk_42 (dk_at dksX0_puts_0 7 rfl rfl)
theorem dX0_puts_8 : decode cX0_puts 8 = .ok (.getfield 9, 3) := dk_180 0 9 (dk_at dksX0_puts_0 8 rfl rfl)
theorem dX0_puts_11 : decode cX0_puts 11 = .ok (.aload_n 0, 1) := dk_42 (dk_at dksX0_puts_0 11 rfl rfl)
theorem dX0_puts_12 : decode cX0_puts 12 = .ok (.getfield 153, 3) := dk_180 0 153 (dk_at dksX0_puts_0 12 rfl rfl)
theorem dX0_puts_15 : decode cX0_puts 15 = .ok (.iload_n 1, 1) := dk_27 (dk_at dksX0_puts_0 15 rfl rfl)
theorem dX0_puts_16 : decode cX0_puts 16 = .ok (.iload_n 2, 1) := dk_28 (dk_at dksX0_puts_0 16 rfl rfl)
theorem dX0_puts_17 : decode cX0_puts 17 = .ok (.ishr, 1) := dk_122 (dk_at dksX0_puts_0 17 rfl rfl)
theorem dX0_puts_18 : decode cX0_puts 18 = .ok (.i2b, 1) := dk_145 (dk_at dksX0_puts_0 18 rfl rfl)
theorem dX0_puts_19 : decode cX0_puts 19 = .ok (.bastore, 1) := dk_84 (dk_at dksX0_puts_0 19 rfl rfl)
theorem dX0_puts_20 : decode cX0_puts 20 = .ok (.aload_n 0, 1) := dk_42 (dk_at dksX0_puts_0 20 rfl rfl)
theorem dX0_puts_21 : decode cX0_puts 21 = .ok (.dup, 1) := dk_89 (dk_at dksX0_puts_0 21 rfl rfl)
theorem dX0_puts_22 : decode cX0_puts 22 = .ok (.getfield 153, 3) := dk_180 0 153 (dk_at dksX0_puts_1 0 rfl rfl)
theorem dX0_puts_25 : decode cX0_puts 25 = .ok (.iconst 1, 1) := dk_4 (dk_at dksX0_puts_1 3 rfl rfl)
theorem dX0_puts_26 : decode cX0_puts 26 = .ok (.iadd, 1) := dk_96 (dk_at dksX0_puts_1 4 rfl rfl)
theorem dX0_puts_27 : decode cX0_puts 27 = .ok (.putfield 153, 3) := dk_181 0 153 (dk_at dksX0_puts_1 5 rfl rfl)
theorem dX0_puts_30 : decode cX0_puts 30 = .ok (.iinc 2 (-8), 3) := dk_132 2 248 (dk_at dksX0_puts_1 8 rfl rfl)
theorem dX0_puts_33 : decode cX0_puts 33 = .ok (.goto (-30), 3) := dk_167 255 226 (dk_at dksX0_puts_1 11 rfl rfl)
theorem dX0_puts_36 : decode cX0_puts 36 = .ok (.return_, 1) := dk_177 (dk_at dksX0_puts_1 14 rfl rfl)
abbrev cX0_end : ByteArray := prog_1_method_6_code
def yX0_end : MethodName := ⟨RX0, "end", "(I)Z"⟩
def dkwX0_end_0 : List UInt8 := [27, 3, 42, 180, 0, 153, 184, 0, 160, 154, 0, 5, 3, 172, 42, 27, 181, 0, 153, 4, 172]
abbrev dktX0_end_0 : List UInt8 := dkwX0_end_0 ++ []
theorem dksX0_end_0 : cX0_end.data.toList.drop 0 = dktX0_end_0 := by decide +kernel
theorem dX0_end_0 : decode cX0_end 0 = .ok (.iload_n 1, 1) := dk_27 (dk_at dksX0_end_0 0 rfl rfl)
theorem dX0_end_1 : decode cX0_end 1 = .ok (.iconst 0, 1) := dk_3 (dk_at dksX0_end_0 1 rfl rfl)
theorem dX0_end_2 : decode cX0_end 2 = .ok (.aload_n 0, 1) := dk_42 (dk_at dksX0_end_0 2 rfl rfl)
theorem dX0_end_3 : decode cX0_end 3 = .ok (.getfield 153, 3) := dk_180 0 153 (dk_at dksX0_end_0 3 rfl rfl)
theorem dX0_end_6 : decode cX0_end 6 = .ok (.invokestatic 160, 3) := dk_184 0 160 (dk_at dksX0_end_0 6 rfl rfl)
theorem dX0_end_9 : decode cX0_end 9 = .ok (.ifCond .ne 5, 3) := dk_154 0 5 (dk_at dksX0_end_0 9 rfl rfl)
theorem dX0_end_12 : decode cX0_end 12 = .ok (.iconst 0, 1) := dk_3 (dk_at dksX0_end_0 12 rfl rfl)
theorem dX0_end_13 : decode cX0_end 13 = .ok (.ireturn, 1) := dk_172 (dk_at dksX0_end_0 13 rfl rfl)
theorem dX0_end_14 : decode cX0_end 14 = .ok (.aload_n 0, 1) := dk_42 (dk_at dksX0_end_0 14 rfl rfl)
theorem dX0_end_15 : decode cX0_end 15 = .ok (.iload_n 1, 1) := dk_27 (dk_at dksX0_end_0 15 rfl rfl)
theorem dX0_end_16 : decode cX0_end 16 = .ok (.putfield 153, 3) := dk_181 0 153 (dk_at dksX0_end_0 16 rfl rfl)
theorem dX0_end_19 : decode cX0_end 19 = .ok (.iconst 1, 1) := dk_4 (dk_at dksX0_end_0 19 rfl rfl)
theorem dX0_end_20 : decode cX0_end 20 = .ok (.ireturn, 1) := dk_172 (dk_at dksX0_end_0 20 rfl rfl)
abbrev cX0_isIn : ByteArray := prog_1_method_1_code
def yX0_isIn : MethodName := ⟨RX0, "isIn", "(III)Z"⟩
def dkwX0_isIn_0 : List UInt8 := [26, 27, 161, 0, 12, 26, 28, 163, 0, 7, 4, 167, 0, 4, 3, 172]
abbrev dktX0_isIn_0 : List UInt8 := dkwX0_isIn_0 ++ []
theorem dksX0_isIn_0 : cX0_isIn.data.toList.drop 0 = dktX0_isIn_0 := by decide +kernel
theorem dX0_isIn_0 : decode cX0_isIn 0 = .ok (.iload_n 0, 1) := dk_26 (dk_at dksX0_isIn_0 0 rfl rfl)
theorem dX0_isIn_1 : decode cX0_isIn 1 = .ok (.iload_n 1, 1) := dk_27 (dk_at dksX0_isIn_0 1 rfl rfl)
theorem dX0_isIn_2 : decode cX0_isIn 2 = .ok (.if_icmp .lt 12, 3) := dk_161 0 12 (dk_at dksX0_isIn_0 2 rfl rfl)
theorem dX0_isIn_5 : decode cX0_isIn 5 = .ok (.iload_n 0, 1) := dk_26 (dk_at dksX0_isIn_0 5 rfl rfl)
theorem dX0_isIn_6 : decode cX0_isIn 6 = .ok (.iload_n 2, 1) := dk_28 (dk_at dksX0_isIn_0 6 rfl rfl)
theorem dX0_isIn_7 : decode cX0_isIn 7 = .ok (.if_icmp .gt 7, 3) := dk_163 0 7 (dk_at dksX0_isIn_0 7 rfl rfl)
theorem dX0_isIn_10 : decode cX0_isIn 10 = .ok (.iconst 1, 1) := dk_4 (dk_at dksX0_isIn_0 10 rfl rfl)
theorem dX0_isIn_11 : decode cX0_isIn 11 = .ok (.goto 4, 3) := dk_167 0 4 (dk_at dksX0_isIn_0 11 rfl rfl)
theorem dX0_isIn_14 : decode cX0_isIn 14 = .ok (.iconst 0, 1) := dk_3 (dk_at dksX0_isIn_0 14 rfl rfl)
theorem dX0_isIn_15 : decode cX0_isIn 15 = .ok (.ireturn, 1) := dk_172 (dk_at dksX0_isIn_0 15 rfl rfl)
abbrev cX0_text : ByteArray := prog_1_method_25_code
def yX0_text : MethodName := ⟨RX0, "text", "()I"⟩
def dkwX0_text_2 : List UInt8 := [180, 1, 60, 181, 0, 55, 2, 61, 42, 3, 181, 0, 153, 28, 172, 78, 42, 3, 181, 0, 153, 45, 191]
abbrev dktX0_text_2 : List UInt8 := dkwX0_text_2 ++ []
def dkwX0_text_1 : List UInt8 := [180, 1, 42, 60, 42, 3, 181, 0, 153, 27, 172, 76, 42, 43, 180, 1, 57, 181, 1, 50, 42, 43]
abbrev dktX0_text_1 : List UInt8 := dkwX0_text_1 ++ dktX0_text_2
def dkwX0_text_0 : List UInt8 := [42, 3, 181, 1, 50, 42, 2, 181, 0, 55, 42, 42, 182, 1, 53, 181, 0, 62, 42, 180, 0, 62]
abbrev dktX0_text_0 : List UInt8 := dkwX0_text_0 ++ dktX0_text_1
theorem dksX0_text_0 : cX0_text.data.toList.drop 0 = dktX0_text_0 := by decide +kernel
theorem dksX0_text_1 : cX0_text.data.toList.drop 22 = dktX0_text_1 := dk_seg dksX0_text_0 22 rfl rfl
theorem dksX0_text_2 : cX0_text.data.toList.drop 44 = dktX0_text_2 := dk_seg dksX0_text_1 22 rfl rfl
theorem dX0_text_0 : decode cX0_text 0 = .ok (.aload_n 0, 1) := dk_42 (dk_at dksX0_text_0 0 rfl rfl)
theorem dX0_text_1 : decode cX0_text 1 = .ok (.iconst 0, 1) := dk_3 (dk_at dksX0_text_0 1 rfl rfl)
theorem dX0_text_2 : decode cX0_text 2 = .ok (.putfield 306, 3) := dk_181 1 50 (dk_at dksX0_text_0 2 rfl rfl)
theorem dX0_text_5 : decode cX0_text 5 = .ok (.aload_n 0, 1) := dk_42 (dk_at dksX0_text_0 5 rfl rfl)
theorem dX0_text_6 : decode cX0_text 6 = .ok (.iconst (-1), 1) := dk_2 (dk_at dksX0_text_0 6 rfl rfl)
theorem dX0_text_7 : decode cX0_text 7 = .ok (.putfield 55, 3) := dk_181 0 55 (dk_at dksX0_text_0 7 rfl rfl)
theorem dX0_text_10 : decode cX0_text 10 = .ok (.aload_n 0, 1) := dk_42 (dk_at dksX0_text_0 10 rfl rfl)
theorem dX0_text_11 : decode cX0_text 11 = .ok (.aload_n 0, 1) := dk_42 (dk_at dksX0_text_0 11 rfl rfl)
theorem dX0_text_12 : decode cX0_text 12 = .ok (.invokevirtual 309, 3) := dk_182 1 53 (dk_at dksX0_text_0 12 rfl rfl)
theorem dX0_text_15 : decode cX0_text 15 = .ok (.putfield 62, 3) := dk_181 0 62 (dk_at dksX0_text_0 15 rfl rfl)
theorem dX0_text_18 : decode cX0_text 18 = .ok (.aload_n 0, 1) := dk_42 (dk_at dksX0_text_0 18 rfl rfl)
theorem dX0_text_19 : decode cX0_text 19 = .ok (.getfield 62, 3) := dk_180 0 62 (dk_at dksX0_text_0 19 rfl rfl)
theorem dX0_text_22 : decode cX0_text 22 = .ok (.getfield 298, 3) := dk_180 1 42 (dk_at dksX0_text_1 0 rfl rfl)
theorem dX0_text_25 : decode cX0_text 25 = .ok (.istore_n 1, 1) := dk_60 (dk_at dksX0_text_1 3 rfl rfl)
theorem dX0_text_26 : decode cX0_text 26 = .ok (.aload_n 0, 1) := dk_42 (dk_at dksX0_text_1 4 rfl rfl)
theorem dX0_text_27 : decode cX0_text 27 = .ok (.iconst 0, 1) := dk_3 (dk_at dksX0_text_1 5 rfl rfl)
theorem dX0_text_28 : decode cX0_text 28 = .ok (.putfield 153, 3) := dk_181 0 153 (dk_at dksX0_text_1 6 rfl rfl)
theorem dX0_text_31 : decode cX0_text 31 = .ok (.iload_n 1, 1) := dk_27 (dk_at dksX0_text_1 9 rfl rfl)
theorem dX0_text_32 : decode cX0_text 32 = .ok (.ireturn, 1) := dk_172 (dk_at dksX0_text_1 10 rfl rfl)
theorem dX0_text_33 : decode cX0_text 33 = .ok (.astore_n 1, 1) := dk_76 (dk_at dksX0_text_1 11 rfl rfl)
theorem dX0_text_34 : decode cX0_text 34 = .ok (.aload_n 0, 1) := dk_42 (dk_at dksX0_text_1 12 rfl rfl)
theorem dX0_text_35 : decode cX0_text 35 = .ok (.aload_n 1, 1) := dk_43 (dk_at dksX0_text_1 13 rfl rfl)
theorem dX0_text_36 : decode cX0_text 36 = .ok (.getfield 313, 3) := dk_180 1 57 (dk_at dksX0_text_1 14 rfl rfl)
theorem dX0_text_39 : decode cX0_text 39 = .ok (.putfield 306, 3) := dk_181 1 50 (dk_at dksX0_text_1 17 rfl rfl)
theorem dX0_text_42 : decode cX0_text 42 = .ok (.aload_n 0, 1) := dk_42 (dk_at dksX0_text_1 20 rfl rfl)
theorem dX0_text_43 : decode cX0_text 43 = .ok (.aload_n 1, 1) := dk_43 (dk_at dksX0_text_1 21 rfl rfl)
theorem dX0_text_44 : decode cX0_text 44 = .ok (.getfield 316, 3) := dk_180 1 60 (dk_at dksX0_text_2 0 rfl rfl)
theorem dX0_text_47 : decode cX0_text 47 = .ok (.putfield 55, 3) := dk_181 0 55 (dk_at dksX0_text_2 3 rfl rfl)
theorem dX0_text_50 : decode cX0_text 50 = .ok (.iconst (-1), 1) := dk_2 (dk_at dksX0_text_2 6 rfl rfl)
theorem dX0_text_51 : decode cX0_text 51 = .ok (.istore_n 2, 1) := dk_61 (dk_at dksX0_text_2 7 rfl rfl)
theorem dX0_text_52 : decode cX0_text 52 = .ok (.aload_n 0, 1) := dk_42 (dk_at dksX0_text_2 8 rfl rfl)
theorem dX0_text_53 : decode cX0_text 53 = .ok (.iconst 0, 1) := dk_3 (dk_at dksX0_text_2 9 rfl rfl)
theorem dX0_text_54 : decode cX0_text 54 = .ok (.putfield 153, 3) := dk_181 0 153 (dk_at dksX0_text_2 10 rfl rfl)
theorem dX0_text_57 : decode cX0_text 57 = .ok (.iload_n 2, 1) := dk_28 (dk_at dksX0_text_2 13 rfl rfl)
theorem dX0_text_58 : decode cX0_text 58 = .ok (.ireturn, 1) := dk_172 (dk_at dksX0_text_2 14 rfl rfl)
theorem dX0_text_59 : decode cX0_text 59 = .ok (.astore_n 3, 1) := dk_78 (dk_at dksX0_text_2 15 rfl rfl)
theorem dX0_text_60 : decode cX0_text 60 = .ok (.aload_n 0, 1) := dk_42 (dk_at dksX0_text_2 16 rfl rfl)
theorem dX0_text_61 : decode cX0_text 61 = .ok (.iconst 0, 1) := dk_3 (dk_at dksX0_text_2 17 rfl rfl)
theorem dX0_text_62 : decode cX0_text 62 = .ok (.putfield 153, 3) := dk_181 0 153 (dk_at dksX0_text_2 18 rfl rfl)
theorem dX0_text_65 : decode cX0_text 65 = .ok (.aload_n 3, 1) := dk_45 (dk_at dksX0_text_2 21 rfl rfl)
theorem dX0_text_66 : decode cX0_text 66 = .ok (.athrow, 1) := dk_191 (dk_at dksX0_text_2 22 rfl rfl)
abbrev cX0_readsRule : ByteArray := prog_1_method_24_code
def yX0_readsRule : MethodName := ⟨RX0, "readsRule", "()LDoughDebts$Text;"⟩
def dkwX0_readsRule_6 : List UInt8 := [176]
abbrev dktX0_readsRule_6 : List UInt8 := dkwX0_readsRule_6 ++ []
def dkwX0_readsRule_5 : List UInt8 := [182, 1, 29, 83, 42, 16, 59, 182, 1, 32, 43, 89, 180, 1, 42, 4, 96, 181, 1, 42, 167, 255, 144, 43]
abbrev dktX0_readsRule_5 : List UInt8 := dkwX0_readsRule_5 ++ dktX0_readsRule_6
def dkwX0_readsRule_4 : List UInt8 := [42, 18, 44, 182, 1, 15, 153, 0, 20, 42, 182, 0, 246, 43, 180, 1, 48, 43, 180, 1, 42, 42]
abbrev dktX0_readsRule_4 : List UInt8 := dkwX0_readsRule_4 ++ dktX0_readsRule_5
def dkwX0_readsRule_3 : List UInt8 := [180, 0, 171, 183, 0, 235, 191, 42, 182, 0, 246, 43, 180, 1, 45, 43, 180, 1, 42, 42, 182, 1, 36, 83]
abbrev dktX0_readsRule_3 : List UInt8 := dkwX0_readsRule_3 ++ dktX0_readsRule_4
def dkwX0_readsRule_2 : List UInt8 := [167, 0, 4, 3, 182, 0, 242, 43, 180, 1, 42, 16, 16, 160, 0, 16, 187, 0, 233, 89, 6, 42]
abbrev dktX0_readsRule_2 : List UInt8 := dkwX0_readsRule_2 ++ dktX0_readsRule_3
def dkwX0_readsRule_1 : List UInt8 := [180, 0, 182, 178, 0, 201, 165, 0, 108, 42, 42, 42, 180, 0, 17, 182, 0, 211, 2, 159, 0, 7, 4]
abbrev dktX0_readsRule_1 : List UInt8 := dkwX0_readsRule_1 ++ dktX0_readsRule_2
def dkwX0_readsRule_0 : List UInt8 := [187, 0, 59, 89, 183, 0, 61, 76, 42, 3, 181, 0, 168, 42, 3, 181, 1, 12, 42, 182, 0, 246, 42]
abbrev dktX0_readsRule_0 : List UInt8 := dkwX0_readsRule_0 ++ dktX0_readsRule_1
theorem dksX0_readsRule_0 : cX0_readsRule.data.toList.drop 0 = dktX0_readsRule_0 := by decide +kernel
theorem dksX0_readsRule_1 : cX0_readsRule.data.toList.drop 23 = dktX0_readsRule_1 := dk_seg dksX0_readsRule_0 23 rfl rfl
theorem dksX0_readsRule_2 : cX0_readsRule.data.toList.drop 46 = dktX0_readsRule_2 := dk_seg dksX0_readsRule_1 23 rfl rfl
theorem dksX0_readsRule_3 : cX0_readsRule.data.toList.drop 68 = dktX0_readsRule_3 := dk_seg dksX0_readsRule_2 22 rfl rfl
theorem dksX0_readsRule_4 : cX0_readsRule.data.toList.drop 92 = dktX0_readsRule_4 := dk_seg dksX0_readsRule_3 24 rfl rfl
theorem dksX0_readsRule_5 : cX0_readsRule.data.toList.drop 114 = dktX0_readsRule_5 := dk_seg dksX0_readsRule_4 22 rfl rfl
theorem dksX0_readsRule_6 : cX0_readsRule.data.toList.drop 138 = dktX0_readsRule_6 := dk_seg dksX0_readsRule_5 24 rfl rfl
theorem dX0_readsRule_0 : decode cX0_readsRule 0 = .ok (.new 59, 3) := dk_187 0 59 (dk_at dksX0_readsRule_0 0 rfl rfl)
theorem dX0_readsRule_3 : decode cX0_readsRule 3 = .ok (.dup, 1) := dk_89 (dk_at dksX0_readsRule_0 3 rfl rfl)
theorem dX0_readsRule_4 : decode cX0_readsRule 4 = .ok (.invokespecial 61, 3) := dk_183 0 61 (dk_at dksX0_readsRule_0 4 rfl rfl)
theorem dX0_readsRule_7 : decode cX0_readsRule 7 = .ok (.astore_n 1, 1) := dk_76 (dk_at dksX0_readsRule_0 7 rfl rfl)
theorem dX0_readsRule_8 : decode cX0_readsRule 8 = .ok (.aload_n 0, 1) := dk_42 (dk_at dksX0_readsRule_0 8 rfl rfl)
theorem dX0_readsRule_9 : decode cX0_readsRule 9 = .ok (.iconst 0, 1) := dk_3 (dk_at dksX0_readsRule_0 9 rfl rfl)
theorem dX0_readsRule_10 : decode cX0_readsRule 10 = .ok (.putfield 168, 3) := dk_181 0 168 (dk_at dksX0_readsRule_0 10 rfl rfl)
theorem dX0_readsRule_13 : decode cX0_readsRule 13 = .ok (.aload_n 0, 1) := dk_42 (dk_at dksX0_readsRule_0 13 rfl rfl)
theorem dX0_readsRule_14 : decode cX0_readsRule 14 = .ok (.iconst 0, 1) := dk_3 (dk_at dksX0_readsRule_0 14 rfl rfl)
theorem dX0_readsRule_15 : decode cX0_readsRule 15 = .ok (.putfield 268, 3) := dk_181 1 12 (dk_at dksX0_readsRule_0 15 rfl rfl)
theorem dX0_readsRule_18 : decode cX0_readsRule 18 = .ok (.aload_n 0, 1) := dk_42 (dk_at dksX0_readsRule_0 18 rfl rfl)
theorem dX0_readsRule_19 : decode cX0_readsRule 19 = .ok (.invokevirtual 246, 3) := dk_182 0 246 (dk_at dksX0_readsRule_0 19 rfl rfl)
theorem dX0_readsRule_22 : decode cX0_readsRule 22 = .ok (.aload_n 0, 1) := dk_42 (dk_at dksX0_readsRule_0 22 rfl rfl)
theorem dX0_readsRule_23 : decode cX0_readsRule 23 = .ok (.getfield 182, 3) := dk_180 0 182 (dk_at dksX0_readsRule_1 0 rfl rfl)
theorem dX0_readsRule_26 : decode cX0_readsRule 26 = .ok (.getstatic 201, 3) := dk_178 0 201 (dk_at dksX0_readsRule_1 3 rfl rfl)
theorem dX0_readsRule_29 : decode cX0_readsRule 29 = .ok (.if_acmp .eq 108, 3) := dk_165 0 108 (dk_at dksX0_readsRule_1 6 rfl rfl)
theorem dX0_readsRule_32 : decode cX0_readsRule 32 = .ok (.aload_n 0, 1) := dk_42 (dk_at dksX0_readsRule_1 9 rfl rfl)
theorem dX0_readsRule_33 : decode cX0_readsRule 33 = .ok (.aload_n 0, 1) := dk_42 (dk_at dksX0_readsRule_1 10 rfl rfl)
theorem dX0_readsRule_34 : decode cX0_readsRule 34 = .ok (.aload_n 0, 1) := dk_42 (dk_at dksX0_readsRule_1 11 rfl rfl)
theorem dX0_readsRule_35 : decode cX0_readsRule 35 = .ok (.getfield 17, 3) := dk_180 0 17 (dk_at dksX0_readsRule_1 12 rfl rfl)
theorem dX0_readsRule_38 : decode cX0_readsRule 38 = .ok (.invokevirtual 211, 3) := dk_182 0 211 (dk_at dksX0_readsRule_1 15 rfl rfl)
theorem dX0_readsRule_41 : decode cX0_readsRule 41 = .ok (.iconst (-1), 1) := dk_2 (dk_at dksX0_readsRule_1 18 rfl rfl)
theorem dX0_readsRule_42 : decode cX0_readsRule 42 = .ok (.if_icmp .eq 7, 3) := dk_159 0 7 (dk_at dksX0_readsRule_1 19 rfl rfl)
theorem dX0_readsRule_45 : decode cX0_readsRule 45 = .ok (.iconst 1, 1) := dk_4 (dk_at dksX0_readsRule_1 22 rfl rfl)
theorem dX0_readsRule_46 : decode cX0_readsRule 46 = .ok (.goto 4, 3) := dk_167 0 4 (dk_at dksX0_readsRule_2 0 rfl rfl)
theorem dX0_readsRule_49 : decode cX0_readsRule 49 = .ok (.iconst 0, 1) := dk_3 (dk_at dksX0_readsRule_2 3 rfl rfl)
theorem dX0_readsRule_50 : decode cX0_readsRule 50 = .ok (.invokevirtual 242, 3) := dk_182 0 242 (dk_at dksX0_readsRule_2 4 rfl rfl)
theorem dX0_readsRule_53 : decode cX0_readsRule 53 = .ok (.aload_n 1, 1) := dk_43 (dk_at dksX0_readsRule_2 7 rfl rfl)
theorem dX0_readsRule_54 : decode cX0_readsRule 54 = .ok (.getfield 298, 3) := dk_180 1 42 (dk_at dksX0_readsRule_2 8 rfl rfl)
theorem dX0_readsRule_57 : decode cX0_readsRule 57 = .ok (.bipush 16, 2) := dk_16 16 (dk_at dksX0_readsRule_2 11 rfl rfl)
theorem dX0_readsRule_59 : decode cX0_readsRule 59 = .ok (.if_icmp .ne 16, 3) := dk_160 0 16 (dk_at dksX0_readsRule_2 13 rfl rfl)
theorem dX0_readsRule_62 : decode cX0_readsRule 62 = .ok (.new 233, 3) := dk_187 0 233 (dk_at dksX0_readsRule_2 16 rfl rfl)
theorem dX0_readsRule_65 : decode cX0_readsRule 65 = .ok (.dup, 1) := dk_89 (dk_at dksX0_readsRule_2 19 rfl rfl)
theorem dX0_readsRule_66 : decode cX0_readsRule 66 = .ok (.iconst 3, 1) := dk_6 (dk_at dksX0_readsRule_2 20 rfl rfl)
theorem dX0_readsRule_67 : decode cX0_readsRule 67 = .ok (.aload_n 0, 1) := dk_42 (dk_at dksX0_readsRule_2 21 rfl rfl)
theorem dX0_readsRule_68 : decode cX0_readsRule 68 = .ok (.getfield 171, 3) := dk_180 0 171 (dk_at dksX0_readsRule_3 0 rfl rfl)
theorem dX0_readsRule_71 : decode cX0_readsRule 71 = .ok (.invokespecial 235, 3) := dk_183 0 235 (dk_at dksX0_readsRule_3 3 rfl rfl)
theorem dX0_readsRule_74 : decode cX0_readsRule 74 = .ok (.athrow, 1) := dk_191 (dk_at dksX0_readsRule_3 6 rfl rfl)
theorem dX0_readsRule_75 : decode cX0_readsRule 75 = .ok (.aload_n 0, 1) := dk_42 (dk_at dksX0_readsRule_3 7 rfl rfl)
theorem dX0_readsRule_76 : decode cX0_readsRule 76 = .ok (.invokevirtual 246, 3) := dk_182 0 246 (dk_at dksX0_readsRule_3 8 rfl rfl)
theorem dX0_readsRule_79 : decode cX0_readsRule 79 = .ok (.aload_n 1, 1) := dk_43 (dk_at dksX0_readsRule_3 11 rfl rfl)
theorem dX0_readsRule_80 : decode cX0_readsRule 80 = .ok (.getfield 301, 3) := dk_180 1 45 (dk_at dksX0_readsRule_3 12 rfl rfl)
theorem dX0_readsRule_83 : decode cX0_readsRule 83 = .ok (.aload_n 1, 1) := dk_43 (dk_at dksX0_readsRule_3 15 rfl rfl)
theorem dX0_readsRule_84 : decode cX0_readsRule 84 = .ok (.getfield 298, 3) := dk_180 1 42 (dk_at dksX0_readsRule_3 16 rfl rfl)
theorem dX0_readsRule_87 : decode cX0_readsRule 87 = .ok (.aload_n 0, 1) := dk_42 (dk_at dksX0_readsRule_3 19 rfl rfl)
theorem dX0_readsRule_88 : decode cX0_readsRule 88 = .ok (.invokevirtual 292, 3) := dk_182 1 36 (dk_at dksX0_readsRule_3 20 rfl rfl)
theorem dX0_readsRule_91 : decode cX0_readsRule 91 = .ok (.aastore, 1) := dk_83 (dk_at dksX0_readsRule_3 23 rfl rfl)
theorem dX0_readsRule_92 : decode cX0_readsRule 92 = .ok (.aload_n 0, 1) := dk_42 (dk_at dksX0_readsRule_4 0 rfl rfl)
theorem dX0_readsRule_93 : decode cX0_readsRule 93 = .ok (.ldc 44, 2) := dk_18 44 (dk_at dksX0_readsRule_4 1 rfl rfl)
theorem dX0_readsRule_95 : decode cX0_readsRule 95 = .ok (.invokevirtual 271, 3) := dk_182 1 15 (dk_at dksX0_readsRule_4 3 rfl rfl)
theorem dX0_readsRule_98 : decode cX0_readsRule 98 = .ok (.ifCond .eq 20, 3) := dk_153 0 20 (dk_at dksX0_readsRule_4 6 rfl rfl)
theorem dX0_readsRule_101 : decode cX0_readsRule 101 = .ok (.aload_n 0, 1) := dk_42 (dk_at dksX0_readsRule_4 9 rfl rfl)
theorem dX0_readsRule_102 : decode cX0_readsRule 102 = .ok (.invokevirtual 246, 3) := dk_182 0 246 (dk_at dksX0_readsRule_4 10 rfl rfl)
theorem dX0_readsRule_105 : decode cX0_readsRule 105 = .ok (.aload_n 1, 1) := dk_43 (dk_at dksX0_readsRule_4 13 rfl rfl)
theorem dX0_readsRule_106 : decode cX0_readsRule 106 = .ok (.getfield 304, 3) := dk_180 1 48 (dk_at dksX0_readsRule_4 14 rfl rfl)
theorem dX0_readsRule_109 : decode cX0_readsRule 109 = .ok (.aload_n 1, 1) := dk_43 (dk_at dksX0_readsRule_4 17 rfl rfl)
theorem dX0_readsRule_110 : decode cX0_readsRule 110 = .ok (.getfield 298, 3) := dk_180 1 42 (dk_at dksX0_readsRule_4 18 rfl rfl)
theorem dX0_readsRule_113 : decode cX0_readsRule 113 = .ok (.aload_n 0, 1) := dk_42 (dk_at dksX0_readsRule_4 21 rfl rfl)
theorem dX0_readsRule_114 : decode cX0_readsRule 114 = .ok (.invokevirtual 285, 3) := dk_182 1 29 (dk_at dksX0_readsRule_5 0 rfl rfl)
theorem dX0_readsRule_117 : decode cX0_readsRule 117 = .ok (.aastore, 1) := dk_83 (dk_at dksX0_readsRule_5 3 rfl rfl)
theorem dX0_readsRule_118 : decode cX0_readsRule 118 = .ok (.aload_n 0, 1) := dk_42 (dk_at dksX0_readsRule_5 4 rfl rfl)
theorem dX0_readsRule_119 : decode cX0_readsRule 119 = .ok (.bipush 59, 2) := dk_16 59 (dk_at dksX0_readsRule_5 5 rfl rfl)
theorem dX0_readsRule_121 : decode cX0_readsRule 121 = .ok (.invokevirtual 288, 3) := dk_182 1 32 (dk_at dksX0_readsRule_5 7 rfl rfl)
theorem dX0_readsRule_124 : decode cX0_readsRule 124 = .ok (.aload_n 1, 1) := dk_43 (dk_at dksX0_readsRule_5 10 rfl rfl)
theorem dX0_readsRule_125 : decode cX0_readsRule 125 = .ok (.dup, 1) := dk_89 (dk_at dksX0_readsRule_5 11 rfl rfl)
theorem dX0_readsRule_126 : decode cX0_readsRule 126 = .ok (.getfield 298, 3) := dk_180 1 42 (dk_at dksX0_readsRule_5 12 rfl rfl)
theorem dX0_readsRule_129 : decode cX0_readsRule 129 = .ok (.iconst 1, 1) := dk_4 (dk_at dksX0_readsRule_5 15 rfl rfl)
theorem dX0_readsRule_130 : decode cX0_readsRule 130 = .ok (.iadd, 1) := dk_96 (dk_at dksX0_readsRule_5 16 rfl rfl)
theorem dX0_readsRule_131 : decode cX0_readsRule 131 = .ok (.putfield 298, 3) := dk_181 1 42 (dk_at dksX0_readsRule_5 17 rfl rfl)
theorem dX0_readsRule_134 : decode cX0_readsRule 134 = .ok (.goto (-112), 3) := dk_167 255 144 (dk_at dksX0_readsRule_5 20 rfl rfl)
theorem dX0_readsRule_137 : decode cX0_readsRule 137 = .ok (.aload_n 1, 1) := dk_43 (dk_at dksX0_readsRule_5 23 rfl rfl)
theorem dX0_readsRule_138 : decode cX0_readsRule 138 = .ok (.areturn, 1) := dk_176 (dk_at dksX0_readsRule_6 0 rfl rfl)
abbrev cX0_readNext : ByteArray := prog_1_method_14_code
def yX0_readNext : MethodName := ⟨RX0, "readNext", "()V"⟩
def dkwX0_readNext_12 : List UInt8 := [181, 0, 182, 42, 27, 181, 0, 198, 177]
abbrev dktX0_readNext_12 : List UInt8 := dkwX0_readNext_12 ++ []
def dkwX0_readNext_11 : List UInt8 := [42, 178, 0, 225, 181, 0, 182, 167, 0, 24, 18, 228, 27, 182, 0, 230, 155, 0, 15, 42, 178, 0, 195]
abbrev dktX0_readNext_11 : List UInt8 := dkwX0_readNext_11 ++ dktX0_readNext_12
def dkwX0_readNext_10 : List UInt8 := [180, 0, 168, 4, 96, 181, 0, 168, 167, 255, 204, 42, 180, 0, 168, 42, 180, 0, 171, 100, 7, 163, 0, 34]
abbrev dktX0_readNext_10 : List UInt8 := dkwX0_readNext_10 ++ dktX0_readNext_11
def dkwX0_readNext_9 : List UInt8 := [180, 0, 198, 104, 42, 42, 180, 0, 168, 182, 0, 174, 96, 16, 48, 100, 184, 0, 219, 181, 0, 198, 42, 89]
abbrev dktX0_readNext_9 : List UInt8 := dkwX0_readNext_9 ++ dktX0_readNext_10
def dkwX0_readNext_8 : List UInt8 := [100, 181, 0, 198, 42, 42, 180, 0, 168, 182, 0, 174, 184, 0, 215, 153, 0, 44, 42, 18, 218, 16, 10, 42]
abbrev dktX0_readNext_8 : List UInt8 := dkwX0_readNext_8 ++ dktX0_readNext_9
def dkwX0_readNext_7 : List UInt8 := [160, 0, 127, 42, 178, 0, 204, 181, 0, 182, 167, 0, 117, 27, 184, 0, 215, 153, 0, 89, 42, 27, 16, 48]
abbrev dktX0_readNext_7 : List UInt8 := dkwX0_readNext_7 ++ dktX0_readNext_8
def dkwX0_readNext_6 : List UInt8 := [160, 0, 151, 42, 42, 180, 0, 41, 182, 0, 211, 2, 160, 0, 139, 42, 42, 180, 0, 52, 182, 0, 211, 2]
abbrev dktX0_readNext_6 : List UInt8 := dkwX0_readNext_6 ++ dktX0_readNext_7
def dkwX0_readNext_5 : List UInt8 := [181, 0, 168, 167, 255, 232, 42, 178, 0, 186, 181, 0, 182, 42, 42, 180, 0, 17, 182, 0, 211, 2]
abbrev dktX0_readNext_5 : List UInt8 := dkwX0_readNext_5 ++ dktX0_readNext_6
def dkwX0_readNext_4 : List UInt8 := [153, 0, 83, 42, 42, 180, 0, 168, 182, 0, 174, 184, 0, 207, 153, 0, 16, 42, 89, 180, 0, 168, 4, 96]
abbrev dktX0_readNext_4 : List UInt8 := dkwX0_readNext_4 ++ dktX0_readNext_5
def dkwX0_readNext_3 : List UInt8 := [181, 0, 182, 27, 2, 160, 0, 4, 177, 42, 89, 180, 0, 168, 4, 96, 181, 0, 168, 27, 184, 0, 207]
abbrev dktX0_readNext_3 : List UInt8 := dkwX0_readNext_3 ++ dktX0_readNext_4
def dkwX0_readNext_2 : List UInt8 := [42, 42, 180, 0, 168, 182, 0, 174, 60, 42, 27, 2, 160, 0, 9, 178, 0, 201, 167, 0, 6, 178, 0, 204]
abbrev dktX0_readNext_2 : List UInt8 := dkwX0_readNext_2 ++ dktX0_readNext_3
def dkwX0_readNext_1 : List UInt8 := [160, 0, 16, 42, 89, 180, 0, 168, 4, 96, 181, 0, 168, 167, 255, 220, 42, 42, 180, 0, 168, 181, 0, 171]
abbrev dktX0_readNext_1 : List UInt8 := dkwX0_readNext_1 ++ dktX0_readNext_2
def dkwX0_readNext_0 : List UInt8 := [42, 42, 180, 0, 168, 182, 0, 174, 16, 32, 159, 0, 16, 42, 42, 180, 0, 168, 182, 0, 174, 16, 10]
abbrev dktX0_readNext_0 : List UInt8 := dkwX0_readNext_0 ++ dktX0_readNext_1
theorem dksX0_readNext_0 : cX0_readNext.data.toList.drop 0 = dktX0_readNext_0 := by decide +kernel
theorem dksX0_readNext_1 : cX0_readNext.data.toList.drop 23 = dktX0_readNext_1 := dk_seg dksX0_readNext_0 23 rfl rfl
theorem dksX0_readNext_2 : cX0_readNext.data.toList.drop 47 = dktX0_readNext_2 := dk_seg dksX0_readNext_1 24 rfl rfl
theorem dksX0_readNext_3 : cX0_readNext.data.toList.drop 71 = dktX0_readNext_3 := dk_seg dksX0_readNext_2 24 rfl rfl
theorem dksX0_readNext_4 : cX0_readNext.data.toList.drop 94 = dktX0_readNext_4 := dk_seg dksX0_readNext_3 23 rfl rfl
theorem dksX0_readNext_5 : cX0_readNext.data.toList.drop 118 = dktX0_readNext_5 := dk_seg dksX0_readNext_4 24 rfl rfl
theorem dksX0_readNext_6 : cX0_readNext.data.toList.drop 140 = dktX0_readNext_6 := dk_seg dksX0_readNext_5 22 rfl rfl
theorem dksX0_readNext_7 : cX0_readNext.data.toList.drop 164 = dktX0_readNext_7 := dk_seg dksX0_readNext_6 24 rfl rfl
theorem dksX0_readNext_8 : cX0_readNext.data.toList.drop 188 = dktX0_readNext_8 := dk_seg dksX0_readNext_7 24 rfl rfl
theorem dksX0_readNext_9 : cX0_readNext.data.toList.drop 212 = dktX0_readNext_9 := dk_seg dksX0_readNext_8 24 rfl rfl
theorem dksX0_readNext_10 : cX0_readNext.data.toList.drop 236 = dktX0_readNext_10 := dk_seg dksX0_readNext_9 24 rfl rfl
theorem dksX0_readNext_11 : cX0_readNext.data.toList.drop 260 = dktX0_readNext_11 := dk_seg dksX0_readNext_10 24 rfl rfl
theorem dksX0_readNext_12 : cX0_readNext.data.toList.drop 283 = dktX0_readNext_12 := dk_seg dksX0_readNext_11 23 rfl rfl
theorem dX0_readNext_0 : decode cX0_readNext 0 = .ok (.aload_n 0, 1) := dk_42 (dk_at dksX0_readNext_0 0 rfl rfl)
theorem dX0_readNext_1 : decode cX0_readNext 1 = .ok (.aload_n 0, 1) := dk_42 (dk_at dksX0_readNext_0 1 rfl rfl)
theorem dX0_readNext_2 : decode cX0_readNext 2 = .ok (.getfield 168, 3) := dk_180 0 168 (dk_at dksX0_readNext_0 2 rfl rfl)
theorem dX0_readNext_5 : decode cX0_readNext 5 = .ok (.invokevirtual 174, 3) := dk_182 0 174 (dk_at dksX0_readNext_0 5 rfl rfl)
theorem dX0_readNext_8 : decode cX0_readNext 8 = .ok (.bipush 32, 2) := dk_16 32 (dk_at dksX0_readNext_0 8 rfl rfl)
theorem dX0_readNext_10 : decode cX0_readNext 10 = .ok (.if_icmp .eq 16, 3) := dk_159 0 16 (dk_at dksX0_readNext_0 10 rfl rfl)
theorem dX0_readNext_13 : decode cX0_readNext 13 = .ok (.aload_n 0, 1) := dk_42 (dk_at dksX0_readNext_0 13 rfl rfl)
theorem dX0_readNext_14 : decode cX0_readNext 14 = .ok (.aload_n 0, 1) := dk_42 (dk_at dksX0_readNext_0 14 rfl rfl)
theorem dX0_readNext_15 : decode cX0_readNext 15 = .ok (.getfield 168, 3) := dk_180 0 168 (dk_at dksX0_readNext_0 15 rfl rfl)
theorem dX0_readNext_18 : decode cX0_readNext 18 = .ok (.invokevirtual 174, 3) := dk_182 0 174 (dk_at dksX0_readNext_0 18 rfl rfl)
theorem dX0_readNext_21 : decode cX0_readNext 21 = .ok (.bipush 10, 2) := dk_16 10 (dk_at dksX0_readNext_0 21 rfl rfl)
theorem dX0_readNext_23 : decode cX0_readNext 23 = .ok (.if_icmp .ne 16, 3) := dk_160 0 16 (dk_at dksX0_readNext_1 0 rfl rfl)
theorem dX0_readNext_26 : decode cX0_readNext 26 = .ok (.aload_n 0, 1) := dk_42 (dk_at dksX0_readNext_1 3 rfl rfl)
theorem dX0_readNext_27 : decode cX0_readNext 27 = .ok (.dup, 1) := dk_89 (dk_at dksX0_readNext_1 4 rfl rfl)
theorem dX0_readNext_28 : decode cX0_readNext 28 = .ok (.getfield 168, 3) := dk_180 0 168 (dk_at dksX0_readNext_1 5 rfl rfl)
theorem dX0_readNext_31 : decode cX0_readNext 31 = .ok (.iconst 1, 1) := dk_4 (dk_at dksX0_readNext_1 8 rfl rfl)
theorem dX0_readNext_32 : decode cX0_readNext 32 = .ok (.iadd, 1) := dk_96 (dk_at dksX0_readNext_1 9 rfl rfl)
theorem dX0_readNext_33 : decode cX0_readNext 33 = .ok (.putfield 168, 3) := dk_181 0 168 (dk_at dksX0_readNext_1 10 rfl rfl)
theorem dX0_readNext_36 : decode cX0_readNext 36 = .ok (.goto (-36), 3) := dk_167 255 220 (dk_at dksX0_readNext_1 13 rfl rfl)
theorem dX0_readNext_39 : decode cX0_readNext 39 = .ok (.aload_n 0, 1) := dk_42 (dk_at dksX0_readNext_1 16 rfl rfl)
theorem dX0_readNext_40 : decode cX0_readNext 40 = .ok (.aload_n 0, 1) := dk_42 (dk_at dksX0_readNext_1 17 rfl rfl)
theorem dX0_readNext_41 : decode cX0_readNext 41 = .ok (.getfield 168, 3) := dk_180 0 168 (dk_at dksX0_readNext_1 18 rfl rfl)
theorem dX0_readNext_44 : decode cX0_readNext 44 = .ok (.putfield 171, 3) := dk_181 0 171 (dk_at dksX0_readNext_1 21 rfl rfl)
theorem dX0_readNext_47 : decode cX0_readNext 47 = .ok (.aload_n 0, 1) := dk_42 (dk_at dksX0_readNext_2 0 rfl rfl)
theorem dX0_readNext_48 : decode cX0_readNext 48 = .ok (.aload_n 0, 1) := dk_42 (dk_at dksX0_readNext_2 1 rfl rfl)
theorem dX0_readNext_49 : decode cX0_readNext 49 = .ok (.getfield 168, 3) := dk_180 0 168 (dk_at dksX0_readNext_2 2 rfl rfl)
theorem dX0_readNext_52 : decode cX0_readNext 52 = .ok (.invokevirtual 174, 3) := dk_182 0 174 (dk_at dksX0_readNext_2 5 rfl rfl)
theorem dX0_readNext_55 : decode cX0_readNext 55 = .ok (.istore_n 1, 1) := dk_60 (dk_at dksX0_readNext_2 8 rfl rfl)
theorem dX0_readNext_56 : decode cX0_readNext 56 = .ok (.aload_n 0, 1) := dk_42 (dk_at dksX0_readNext_2 9 rfl rfl)
theorem dX0_readNext_57 : decode cX0_readNext 57 = .ok (.iload_n 1, 1) := dk_27 (dk_at dksX0_readNext_2 10 rfl rfl)
theorem dX0_readNext_58 : decode cX0_readNext 58 = .ok (.iconst (-1), 1) := dk_2 (dk_at dksX0_readNext_2 11 rfl rfl)
theorem dX0_readNext_59 : decode cX0_readNext 59 = .ok (.if_icmp .ne 9, 3) := dk_160 0 9 (dk_at dksX0_readNext_2 12 rfl rfl)
theorem dX0_readNext_62 : decode cX0_readNext 62 = .ok (.getstatic 201, 3) := dk_178 0 201 (dk_at dksX0_readNext_2 15 rfl rfl)
theorem dX0_readNext_65 : decode cX0_readNext 65 = .ok (.goto 6, 3) := dk_167 0 6 (dk_at dksX0_readNext_2 18 rfl rfl)
theorem dX0_readNext_68 : decode cX0_readNext 68 = .ok (.getstatic 204, 3) := dk_178 0 204 (dk_at dksX0_readNext_2 21 rfl rfl)
theorem dX0_readNext_71 : decode cX0_readNext 71 = .ok (.putfield 182, 3) := dk_181 0 182 (dk_at dksX0_readNext_3 0 rfl rfl)
theorem dX0_readNext_74 : decode cX0_readNext 74 = .ok (.iload_n 1, 1) := dk_27 (dk_at dksX0_readNext_3 3 rfl rfl)
theorem dX0_readNext_75 : decode cX0_readNext 75 = .ok (.iconst (-1), 1) := dk_2 (dk_at dksX0_readNext_3 4 rfl rfl)
theorem dX0_readNext_76 : decode cX0_readNext 76 = .ok (.if_icmp .ne 4, 3) := dk_160 0 4 (dk_at dksX0_readNext_3 5 rfl rfl)
theorem dX0_readNext_79 : decode cX0_readNext 79 = .ok (.return_, 1) := dk_177 (dk_at dksX0_readNext_3 8 rfl rfl)
theorem dX0_readNext_80 : decode cX0_readNext 80 = .ok (.aload_n 0, 1) := dk_42 (dk_at dksX0_readNext_3 9 rfl rfl)
theorem dX0_readNext_81 : decode cX0_readNext 81 = .ok (.dup, 1) := dk_89 (dk_at dksX0_readNext_3 10 rfl rfl)
theorem dX0_readNext_82 : decode cX0_readNext 82 = .ok (.getfield 168, 3) := dk_180 0 168 (dk_at dksX0_readNext_3 11 rfl rfl)
theorem dX0_readNext_85 : decode cX0_readNext 85 = .ok (.iconst 1, 1) := dk_4 (dk_at dksX0_readNext_3 14 rfl rfl)
theorem dX0_readNext_86 : decode cX0_readNext 86 = .ok (.iadd, 1) := dk_96 (dk_at dksX0_readNext_3 15 rfl rfl)
theorem dX0_readNext_87 : decode cX0_readNext 87 = .ok (.putfield 168, 3) := dk_181 0 168 (dk_at dksX0_readNext_3 16 rfl rfl)
theorem dX0_readNext_90 : decode cX0_readNext 90 = .ok (.iload_n 1, 1) := dk_27 (dk_at dksX0_readNext_3 19 rfl rfl)
theorem dX0_readNext_91 : decode cX0_readNext 91 = .ok (.invokestatic 207, 3) := dk_184 0 207 (dk_at dksX0_readNext_3 20 rfl rfl)
theorem dX0_readNext_94 : decode cX0_readNext 94 = .ok (.ifCond .eq 83, 3) := dk_153 0 83 (dk_at dksX0_readNext_4 0 rfl rfl)
theorem dX0_readNext_97 : decode cX0_readNext 97 = .ok (.aload_n 0, 1) := dk_42 (dk_at dksX0_readNext_4 3 rfl rfl)
theorem dX0_readNext_98 : decode cX0_readNext 98 = .ok (.aload_n 0, 1) := dk_42 (dk_at dksX0_readNext_4 4 rfl rfl)
theorem dX0_readNext_99 : decode cX0_readNext 99 = .ok (.getfield 168, 3) := dk_180 0 168 (dk_at dksX0_readNext_4 5 rfl rfl)
theorem dX0_readNext_102 : decode cX0_readNext 102 = .ok (.invokevirtual 174, 3) := dk_182 0 174 (dk_at dksX0_readNext_4 8 rfl rfl)
theorem dX0_readNext_105 : decode cX0_readNext 105 = .ok (.invokestatic 207, 3) := dk_184 0 207 (dk_at dksX0_readNext_4 11 rfl rfl)
theorem dX0_readNext_108 : decode cX0_readNext 108 = .ok (.ifCond .eq 16, 3) := dk_153 0 16 (dk_at dksX0_readNext_4 14 rfl rfl)
theorem dX0_readNext_111 : decode cX0_readNext 111 = .ok (.aload_n 0, 1) := dk_42 (dk_at dksX0_readNext_4 17 rfl rfl)
theorem dX0_readNext_112 : decode cX0_readNext 112 = .ok (.dup, 1) := dk_89 (dk_at dksX0_readNext_4 18 rfl rfl)
theorem dX0_readNext_113 : decode cX0_readNext 113 = .ok (.getfield 168, 3) := dk_180 0 168 (dk_at dksX0_readNext_4 19 rfl rfl)
theorem dX0_readNext_116 : decode cX0_readNext 116 = .ok (.iconst 1, 1) := dk_4 (dk_at dksX0_readNext_4 22 rfl rfl)
theorem dX0_readNext_117 : decode cX0_readNext 117 = .ok (.iadd, 1) := dk_96 (dk_at dksX0_readNext_4 23 rfl rfl)
theorem dX0_readNext_118 : decode cX0_readNext 118 = .ok (.putfield 168, 3) := dk_181 0 168 (dk_at dksX0_readNext_5 0 rfl rfl)
theorem dX0_readNext_121 : decode cX0_readNext 121 = .ok (.goto (-24), 3) := dk_167 255 232 (dk_at dksX0_readNext_5 3 rfl rfl)
theorem dX0_readNext_124 : decode cX0_readNext 124 = .ok (.aload_n 0, 1) := dk_42 (dk_at dksX0_readNext_5 6 rfl rfl)
theorem dX0_readNext_125 : decode cX0_readNext 125 = .ok (.getstatic 186, 3) := dk_178 0 186 (dk_at dksX0_readNext_5 7 rfl rfl)
theorem dX0_readNext_128 : decode cX0_readNext 128 = .ok (.putfield 182, 3) := dk_181 0 182 (dk_at dksX0_readNext_5 10 rfl rfl)
theorem dX0_readNext_131 : decode cX0_readNext 131 = .ok (.aload_n 0, 1) := dk_42 (dk_at dksX0_readNext_5 13 rfl rfl)
theorem dX0_readNext_132 : decode cX0_readNext 132 = .ok (.aload_n 0, 1) := dk_42 (dk_at dksX0_readNext_5 14 rfl rfl)
theorem dX0_readNext_133 : decode cX0_readNext 133 = .ok (.getfield 17, 3) := dk_180 0 17 (dk_at dksX0_readNext_5 15 rfl rfl)
theorem dX0_readNext_136 : decode cX0_readNext 136 = .ok (.invokevirtual 211, 3) := dk_182 0 211 (dk_at dksX0_readNext_5 18 rfl rfl)
theorem dX0_readNext_139 : decode cX0_readNext 139 = .ok (.iconst (-1), 1) := dk_2 (dk_at dksX0_readNext_5 21 rfl rfl)
theorem dX0_readNext_140 : decode cX0_readNext 140 = .ok (.if_icmp .ne 151, 3) := dk_160 0 151 (dk_at dksX0_readNext_6 0 rfl rfl)
theorem dX0_readNext_143 : decode cX0_readNext 143 = .ok (.aload_n 0, 1) := dk_42 (dk_at dksX0_readNext_6 3 rfl rfl)
theorem dX0_readNext_144 : decode cX0_readNext 144 = .ok (.aload_n 0, 1) := dk_42 (dk_at dksX0_readNext_6 4 rfl rfl)
theorem dX0_readNext_145 : decode cX0_readNext 145 = .ok (.getfield 41, 3) := dk_180 0 41 (dk_at dksX0_readNext_6 5 rfl rfl)
theorem dX0_readNext_148 : decode cX0_readNext 148 = .ok (.invokevirtual 211, 3) := dk_182 0 211 (dk_at dksX0_readNext_6 8 rfl rfl)
theorem dX0_readNext_151 : decode cX0_readNext 151 = .ok (.iconst (-1), 1) := dk_2 (dk_at dksX0_readNext_6 11 rfl rfl)
theorem dX0_readNext_152 : decode cX0_readNext 152 = .ok (.if_icmp .ne 139, 3) := dk_160 0 139 (dk_at dksX0_readNext_6 12 rfl rfl)
theorem dX0_readNext_155 : decode cX0_readNext 155 = .ok (.aload_n 0, 1) := dk_42 (dk_at dksX0_readNext_6 15 rfl rfl)
theorem dX0_readNext_156 : decode cX0_readNext 156 = .ok (.aload_n 0, 1) := dk_42 (dk_at dksX0_readNext_6 16 rfl rfl)
theorem dX0_readNext_157 : decode cX0_readNext 157 = .ok (.getfield 52, 3) := dk_180 0 52 (dk_at dksX0_readNext_6 17 rfl rfl)
theorem dX0_readNext_160 : decode cX0_readNext 160 = .ok (.invokevirtual 211, 3) := dk_182 0 211 (dk_at dksX0_readNext_6 20 rfl rfl)
theorem dX0_readNext_163 : decode cX0_readNext 163 = .ok (.iconst (-1), 1) := dk_2 (dk_at dksX0_readNext_6 23 rfl rfl)
theorem dX0_readNext_164 : decode cX0_readNext 164 = .ok (.if_icmp .ne 127, 3) := dk_160 0 127 (dk_at dksX0_readNext_7 0 rfl rfl)
theorem dX0_readNext_167 : decode cX0_readNext 167 = .ok (.aload_n 0, 1) := dk_42 (dk_at dksX0_readNext_7 3 rfl rfl)
theorem dX0_readNext_168 : decode cX0_readNext 168 = .ok (.getstatic 204, 3) := dk_178 0 204 (dk_at dksX0_readNext_7 4 rfl rfl)
theorem dX0_readNext_171 : decode cX0_readNext 171 = .ok (.putfield 182, 3) := dk_181 0 182 (dk_at dksX0_readNext_7 7 rfl rfl)
theorem dX0_readNext_174 : decode cX0_readNext 174 = .ok (.goto 117, 3) := dk_167 0 117 (dk_at dksX0_readNext_7 10 rfl rfl)
theorem dX0_readNext_177 : decode cX0_readNext 177 = .ok (.iload_n 1, 1) := dk_27 (dk_at dksX0_readNext_7 13 rfl rfl)
theorem dX0_readNext_178 : decode cX0_readNext 178 = .ok (.invokestatic 215, 3) := dk_184 0 215 (dk_at dksX0_readNext_7 14 rfl rfl)
theorem dX0_readNext_181 : decode cX0_readNext 181 = .ok (.ifCond .eq 89, 3) := dk_153 0 89 (dk_at dksX0_readNext_7 17 rfl rfl)
theorem dX0_readNext_184 : decode cX0_readNext 184 = .ok (.aload_n 0, 1) := dk_42 (dk_at dksX0_readNext_7 20 rfl rfl)
theorem dX0_readNext_185 : decode cX0_readNext 185 = .ok (.iload_n 1, 1) := dk_27 (dk_at dksX0_readNext_7 21 rfl rfl)
theorem dX0_readNext_186 : decode cX0_readNext 186 = .ok (.bipush 48, 2) := dk_16 48 (dk_at dksX0_readNext_7 22 rfl rfl)
theorem dX0_readNext_188 : decode cX0_readNext 188 = .ok (.isub, 1) := dk_100 (dk_at dksX0_readNext_8 0 rfl rfl)
theorem dX0_readNext_189 : decode cX0_readNext 189 = .ok (.putfield 198, 3) := dk_181 0 198 (dk_at dksX0_readNext_8 1 rfl rfl)
theorem dX0_readNext_192 : decode cX0_readNext 192 = .ok (.aload_n 0, 1) := dk_42 (dk_at dksX0_readNext_8 4 rfl rfl)
theorem dX0_readNext_193 : decode cX0_readNext 193 = .ok (.aload_n 0, 1) := dk_42 (dk_at dksX0_readNext_8 5 rfl rfl)
theorem dX0_readNext_194 : decode cX0_readNext 194 = .ok (.getfield 168, 3) := dk_180 0 168 (dk_at dksX0_readNext_8 6 rfl rfl)
theorem dX0_readNext_197 : decode cX0_readNext 197 = .ok (.invokevirtual 174, 3) := dk_182 0 174 (dk_at dksX0_readNext_8 9 rfl rfl)
theorem dX0_readNext_200 : decode cX0_readNext 200 = .ok (.invokestatic 215, 3) := dk_184 0 215 (dk_at dksX0_readNext_8 12 rfl rfl)
theorem dX0_readNext_203 : decode cX0_readNext 203 = .ok (.ifCond .eq 44, 3) := dk_153 0 44 (dk_at dksX0_readNext_8 15 rfl rfl)
theorem dX0_readNext_206 : decode cX0_readNext 206 = .ok (.aload_n 0, 1) := dk_42 (dk_at dksX0_readNext_8 18 rfl rfl)
theorem dX0_readNext_207 : decode cX0_readNext 207 = .ok (.ldc 218, 2) := dk_18 218 (dk_at dksX0_readNext_8 19 rfl rfl)
theorem dX0_readNext_209 : decode cX0_readNext 209 = .ok (.bipush 10, 2) := dk_16 10 (dk_at dksX0_readNext_8 21 rfl rfl)
theorem dX0_readNext_211 : decode cX0_readNext 211 = .ok (.aload_n 0, 1) := dk_42 (dk_at dksX0_readNext_8 23 rfl rfl)
theorem dX0_readNext_212 : decode cX0_readNext 212 = .ok (.getfield 198, 3) := dk_180 0 198 (dk_at dksX0_readNext_9 0 rfl rfl)
theorem dX0_readNext_215 : decode cX0_readNext 215 = .ok (.imul, 1) := dk_104 (dk_at dksX0_readNext_9 3 rfl rfl)
theorem dX0_readNext_216 : decode cX0_readNext 216 = .ok (.aload_n 0, 1) := dk_42 (dk_at dksX0_readNext_9 4 rfl rfl)
theorem dX0_readNext_217 : decode cX0_readNext 217 = .ok (.aload_n 0, 1) := dk_42 (dk_at dksX0_readNext_9 5 rfl rfl)
theorem dX0_readNext_218 : decode cX0_readNext 218 = .ok (.getfield 168, 3) := dk_180 0 168 (dk_at dksX0_readNext_9 6 rfl rfl)
theorem dX0_readNext_221 : decode cX0_readNext 221 = .ok (.invokevirtual 174, 3) := dk_182 0 174 (dk_at dksX0_readNext_9 9 rfl rfl)
theorem dX0_readNext_224 : decode cX0_readNext 224 = .ok (.iadd, 1) := dk_96 (dk_at dksX0_readNext_9 12 rfl rfl)
theorem dX0_readNext_225 : decode cX0_readNext 225 = .ok (.bipush 48, 2) := dk_16 48 (dk_at dksX0_readNext_9 13 rfl rfl)
theorem dX0_readNext_227 : decode cX0_readNext 227 = .ok (.isub, 1) := dk_100 (dk_at dksX0_readNext_9 15 rfl rfl)
theorem dX0_readNext_228 : decode cX0_readNext 228 = .ok (.invokestatic 219, 3) := dk_184 0 219 (dk_at dksX0_readNext_9 16 rfl rfl)
theorem dX0_readNext_231 : decode cX0_readNext 231 = .ok (.putfield 198, 3) := dk_181 0 198 (dk_at dksX0_readNext_9 19 rfl rfl)
theorem dX0_readNext_234 : decode cX0_readNext 234 = .ok (.aload_n 0, 1) := dk_42 (dk_at dksX0_readNext_9 22 rfl rfl)
theorem dX0_readNext_235 : decode cX0_readNext 235 = .ok (.dup, 1) := dk_89 (dk_at dksX0_readNext_9 23 rfl rfl)
theorem dX0_readNext_236 : decode cX0_readNext 236 = .ok (.getfield 168, 3) := dk_180 0 168 (dk_at dksX0_readNext_10 0 rfl rfl)
theorem dX0_readNext_239 : decode cX0_readNext 239 = .ok (.iconst 1, 1) := dk_4 (dk_at dksX0_readNext_10 3 rfl rfl)
theorem dX0_readNext_240 : decode cX0_readNext 240 = .ok (.iadd, 1) := dk_96 (dk_at dksX0_readNext_10 4 rfl rfl)
theorem dX0_readNext_241 : decode cX0_readNext 241 = .ok (.putfield 168, 3) := dk_181 0 168 (dk_at dksX0_readNext_10 5 rfl rfl)
theorem dX0_readNext_244 : decode cX0_readNext 244 = .ok (.goto (-52), 3) := dk_167 255 204 (dk_at dksX0_readNext_10 8 rfl rfl)
theorem dX0_readNext_247 : decode cX0_readNext 247 = .ok (.aload_n 0, 1) := dk_42 (dk_at dksX0_readNext_10 11 rfl rfl)
theorem dX0_readNext_248 : decode cX0_readNext 248 = .ok (.getfield 168, 3) := dk_180 0 168 (dk_at dksX0_readNext_10 12 rfl rfl)
theorem dX0_readNext_251 : decode cX0_readNext 251 = .ok (.aload_n 0, 1) := dk_42 (dk_at dksX0_readNext_10 15 rfl rfl)
theorem dX0_readNext_252 : decode cX0_readNext 252 = .ok (.getfield 171, 3) := dk_180 0 171 (dk_at dksX0_readNext_10 16 rfl rfl)
theorem dX0_readNext_255 : decode cX0_readNext 255 = .ok (.isub, 1) := dk_100 (dk_at dksX0_readNext_10 19 rfl rfl)
theorem dX0_readNext_256 : decode cX0_readNext 256 = .ok (.iconst 4, 1) := dk_7 (dk_at dksX0_readNext_10 20 rfl rfl)
theorem dX0_readNext_257 : decode cX0_readNext 257 = .ok (.if_icmp .gt 34, 3) := dk_163 0 34 (dk_at dksX0_readNext_10 21 rfl rfl)
theorem dX0_readNext_260 : decode cX0_readNext 260 = .ok (.aload_n 0, 1) := dk_42 (dk_at dksX0_readNext_11 0 rfl rfl)
theorem dX0_readNext_261 : decode cX0_readNext 261 = .ok (.getstatic 225, 3) := dk_178 0 225 (dk_at dksX0_readNext_11 1 rfl rfl)
theorem dX0_readNext_264 : decode cX0_readNext 264 = .ok (.putfield 182, 3) := dk_181 0 182 (dk_at dksX0_readNext_11 4 rfl rfl)
theorem dX0_readNext_267 : decode cX0_readNext 267 = .ok (.goto 24, 3) := dk_167 0 24 (dk_at dksX0_readNext_11 7 rfl rfl)
theorem dX0_readNext_270 : decode cX0_readNext 270 = .ok (.ldc 228, 2) := dk_18 228 (dk_at dksX0_readNext_11 10 rfl rfl)
theorem dX0_readNext_272 : decode cX0_readNext 272 = .ok (.iload_n 1, 1) := dk_27 (dk_at dksX0_readNext_11 12 rfl rfl)
theorem dX0_readNext_273 : decode cX0_readNext 273 = .ok (.invokevirtual 230, 3) := dk_182 0 230 (dk_at dksX0_readNext_11 13 rfl rfl)
theorem dX0_readNext_276 : decode cX0_readNext 276 = .ok (.ifCond .lt 15, 3) := dk_155 0 15 (dk_at dksX0_readNext_11 16 rfl rfl)
theorem dX0_readNext_279 : decode cX0_readNext 279 = .ok (.aload_n 0, 1) := dk_42 (dk_at dksX0_readNext_11 19 rfl rfl)
theorem dX0_readNext_280 : decode cX0_readNext 280 = .ok (.getstatic 195, 3) := dk_178 0 195 (dk_at dksX0_readNext_11 20 rfl rfl)
theorem dX0_readNext_283 : decode cX0_readNext 283 = .ok (.putfield 182, 3) := dk_181 0 182 (dk_at dksX0_readNext_12 0 rfl rfl)
theorem dX0_readNext_286 : decode cX0_readNext 286 = .ok (.aload_n 0, 1) := dk_42 (dk_at dksX0_readNext_12 3 rfl rfl)
theorem dX0_readNext_287 : decode cX0_readNext 287 = .ok (.iload_n 1, 1) := dk_27 (dk_at dksX0_readNext_12 4 rfl rfl)
theorem dX0_readNext_288 : decode cX0_readNext 288 = .ok (.putfield 198, 3) := dk_181 0 198 (dk_at dksX0_readNext_12 5 rfl rfl)
theorem dX0_readNext_291 : decode cX0_readNext 291 = .ok (.return_, 1) := dk_177 (dk_at dksX0_readNext_12 8 rfl rfl)
abbrev cX0_raw : ByteArray := prog_1_method_7_code
def yX0_raw : MethodName := ⟨RX0, "raw", "(I)I"⟩
def dkwX0_raw_0 : List UInt8 := [27, 42, 180, 0, 153, 162, 0, 16, 42, 180, 0, 9, 27, 51, 17, 0, 255, 126, 167, 0, 4, 2, 172]
abbrev dktX0_raw_0 : List UInt8 := dkwX0_raw_0 ++ []
theorem dksX0_raw_0 : cX0_raw.data.toList.drop 0 = dktX0_raw_0 := by decide +kernel
theorem dX0_raw_0 : decode cX0_raw 0 = .ok (.iload_n 1, 1) := dk_27 (dk_at dksX0_raw_0 0 rfl rfl)
theorem dX0_raw_1 : decode cX0_raw 1 = .ok (.aload_n 0, 1) := dk_42 (dk_at dksX0_raw_0 1 rfl rfl)
theorem dX0_raw_2 : decode cX0_raw 2 = .ok (.getfield 153, 3) := dk_180 0 153 (dk_at dksX0_raw_0 2 rfl rfl)
theorem dX0_raw_5 : decode cX0_raw 5 = .ok (.if_icmp .ge 16, 3) := dk_162 0 16 (dk_at dksX0_raw_0 5 rfl rfl)
theorem dX0_raw_8 : decode cX0_raw 8 = .ok (.aload_n 0, 1) := dk_42 (dk_at dksX0_raw_0 8 rfl rfl)
theorem dX0_raw_9 : decode cX0_raw 9 = .ok (.getfield 9, 3) := dk_180 0 9 (dk_at dksX0_raw_0 9 rfl rfl)
theorem dX0_raw_12 : decode cX0_raw 12 = .ok (.iload_n 1, 1) := dk_27 (dk_at dksX0_raw_0 12 rfl rfl)
theorem dX0_raw_13 : decode cX0_raw 13 = .ok (.baload, 1) := dk_51 (dk_at dksX0_raw_0 13 rfl rfl)
theorem dX0_raw_14 : decode cX0_raw 14 = .ok (.sipush 255, 3) := dk_17 0 255 (dk_at dksX0_raw_0 14 rfl rfl)
theorem dX0_raw_17 : decode cX0_raw 17 = .ok (.iand, 1) := dk_126 (dk_at dksX0_raw_0 17 rfl rfl)
theorem dX0_raw_18 : decode cX0_raw 18 = .ok (.goto 4, 3) := dk_167 0 4 (dk_at dksX0_raw_0 18 rfl rfl)
theorem dX0_raw_21 : decode cX0_raw 21 = .ok (.iconst (-1), 1) := dk_2 (dk_at dksX0_raw_0 21 rfl rfl)
theorem dX0_raw_22 : decode cX0_raw 22 = .ok (.ireturn, 1) := dk_172 (dk_at dksX0_raw_0 22 rfl rfl)
abbrev cX0_isLetter : ByteArray := prog_1_method_8_code
def yX0_isLetter : MethodName := ⟨RX0, "isLetter", "(I)Z"⟩
def dkwX0_isLetter_1 : List UInt8 := [167, 0, 4, 3, 172]
abbrev dktX0_isLetter_1 : List UInt8 := dkwX0_isLetter_1 ++ []
def dkwX0_isLetter_0 : List UInt8 := [26, 16, 97, 16, 122, 184, 0, 160, 154, 0, 14, 26, 16, 65, 16, 90, 184, 0, 160, 153, 0, 7, 4]
abbrev dktX0_isLetter_0 : List UInt8 := dkwX0_isLetter_0 ++ dktX0_isLetter_1
theorem dksX0_isLetter_0 : cX0_isLetter.data.toList.drop 0 = dktX0_isLetter_0 := by decide +kernel
theorem dksX0_isLetter_1 : cX0_isLetter.data.toList.drop 23 = dktX0_isLetter_1 := dk_seg dksX0_isLetter_0 23 rfl rfl
theorem dX0_isLetter_0 : decode cX0_isLetter 0 = .ok (.iload_n 0, 1) := dk_26 (dk_at dksX0_isLetter_0 0 rfl rfl)
theorem dX0_isLetter_1 : decode cX0_isLetter 1 = .ok (.bipush 97, 2) := dk_16 97 (dk_at dksX0_isLetter_0 1 rfl rfl)
theorem dX0_isLetter_3 : decode cX0_isLetter 3 = .ok (.bipush 122, 2) := dk_16 122 (dk_at dksX0_isLetter_0 3 rfl rfl)
theorem dX0_isLetter_5 : decode cX0_isLetter 5 = .ok (.invokestatic 160, 3) := dk_184 0 160 (dk_at dksX0_isLetter_0 5 rfl rfl)
theorem dX0_isLetter_8 : decode cX0_isLetter 8 = .ok (.ifCond .ne 14, 3) := dk_154 0 14 (dk_at dksX0_isLetter_0 8 rfl rfl)
theorem dX0_isLetter_11 : decode cX0_isLetter 11 = .ok (.iload_n 0, 1) := dk_26 (dk_at dksX0_isLetter_0 11 rfl rfl)
theorem dX0_isLetter_12 : decode cX0_isLetter 12 = .ok (.bipush 65, 2) := dk_16 65 (dk_at dksX0_isLetter_0 12 rfl rfl)
theorem dX0_isLetter_14 : decode cX0_isLetter 14 = .ok (.bipush 90, 2) := dk_16 90 (dk_at dksX0_isLetter_0 14 rfl rfl)
theorem dX0_isLetter_16 : decode cX0_isLetter 16 = .ok (.invokestatic 160, 3) := dk_184 0 160 (dk_at dksX0_isLetter_0 16 rfl rfl)
theorem dX0_isLetter_19 : decode cX0_isLetter 19 = .ok (.ifCond .eq 7, 3) := dk_153 0 7 (dk_at dksX0_isLetter_0 19 rfl rfl)
theorem dX0_isLetter_22 : decode cX0_isLetter 22 = .ok (.iconst 1, 1) := dk_4 (dk_at dksX0_isLetter_0 22 rfl rfl)
theorem dX0_isLetter_23 : decode cX0_isLetter 23 = .ok (.goto 4, 3) := dk_167 0 4 (dk_at dksX0_isLetter_1 0 rfl rfl)
theorem dX0_isLetter_26 : decode cX0_isLetter 26 = .ok (.iconst 0, 1) := dk_3 (dk_at dksX0_isLetter_1 3 rfl rfl)
theorem dX0_isLetter_27 : decode cX0_isLetter 27 = .ok (.ireturn, 1) := dk_172 (dk_at dksX0_isLetter_1 4 rfl rfl)
abbrev cX0_wordOf : ByteArray := prog_1_method_11_code
def yX0_wordOf : MethodName := ⟨RX0, "wordOf", "([Ljava/lang/String;)I"⟩
def dkwX0_wordOf_1 : List UInt8 := [182, 0, 191, 153, 0, 5, 28, 172, 132, 2, 1, 167, 255, 225, 2, 172]
abbrev dktX0_wordOf_1 : List UInt8 := dkwX0_wordOf_1 ++ []
def dkwX0_wordOf_0 : List UInt8 := [3, 61, 28, 43, 190, 162, 0, 31, 42, 180, 0, 182, 178, 0, 186, 166, 0, 21, 42, 43, 28, 50]
abbrev dktX0_wordOf_0 : List UInt8 := dkwX0_wordOf_0 ++ dktX0_wordOf_1
theorem dksX0_wordOf_0 : cX0_wordOf.data.toList.drop 0 = dktX0_wordOf_0 := by decide +kernel
theorem dksX0_wordOf_1 : cX0_wordOf.data.toList.drop 22 = dktX0_wordOf_1 := dk_seg dksX0_wordOf_0 22 rfl rfl
theorem dX0_wordOf_0 : decode cX0_wordOf 0 = .ok (.iconst 0, 1) := dk_3 (dk_at dksX0_wordOf_0 0 rfl rfl)
theorem dX0_wordOf_1 : decode cX0_wordOf 1 = .ok (.istore_n 2, 1) := dk_61 (dk_at dksX0_wordOf_0 1 rfl rfl)
theorem dX0_wordOf_2 : decode cX0_wordOf 2 = .ok (.iload_n 2, 1) := dk_28 (dk_at dksX0_wordOf_0 2 rfl rfl)
theorem dX0_wordOf_3 : decode cX0_wordOf 3 = .ok (.aload_n 1, 1) := dk_43 (dk_at dksX0_wordOf_0 3 rfl rfl)
theorem dX0_wordOf_4 : decode cX0_wordOf 4 = .ok (.arraylength, 1) := dk_190 (dk_at dksX0_wordOf_0 4 rfl rfl)
theorem dX0_wordOf_5 : decode cX0_wordOf 5 = .ok (.if_icmp .ge 31, 3) := dk_162 0 31 (dk_at dksX0_wordOf_0 5 rfl rfl)
theorem dX0_wordOf_8 : decode cX0_wordOf 8 = .ok (.aload_n 0, 1) := dk_42 (dk_at dksX0_wordOf_0 8 rfl rfl)
theorem dX0_wordOf_9 : decode cX0_wordOf 9 = .ok (.getfield 182, 3) := dk_180 0 182 (dk_at dksX0_wordOf_0 9 rfl rfl)
theorem dX0_wordOf_12 : decode cX0_wordOf 12 = .ok (.getstatic 186, 3) := dk_178 0 186 (dk_at dksX0_wordOf_0 12 rfl rfl)
theorem dX0_wordOf_15 : decode cX0_wordOf 15 = .ok (.if_acmp .ne 21, 3) := dk_166 0 21 (dk_at dksX0_wordOf_0 15 rfl rfl)
theorem dX0_wordOf_18 : decode cX0_wordOf 18 = .ok (.aload_n 0, 1) := dk_42 (dk_at dksX0_wordOf_0 18 rfl rfl)
theorem dX0_wordOf_19 : decode cX0_wordOf 19 = .ok (.aload_n 1, 1) := dk_43 (dk_at dksX0_wordOf_0 19 rfl rfl)
theorem dX0_wordOf_20 : decode cX0_wordOf 20 = .ok (.iload_n 2, 1) := dk_28 (dk_at dksX0_wordOf_0 20 rfl rfl)
theorem dX0_wordOf_21 : decode cX0_wordOf 21 = .ok (.aaload, 1) := dk_50 (dk_at dksX0_wordOf_0 21 rfl rfl)
theorem dX0_wordOf_22 : decode cX0_wordOf 22 = .ok (.invokevirtual 191, 3) := dk_182 0 191 (dk_at dksX0_wordOf_1 0 rfl rfl)
theorem dX0_wordOf_25 : decode cX0_wordOf 25 = .ok (.ifCond .eq 5, 3) := dk_153 0 5 (dk_at dksX0_wordOf_1 3 rfl rfl)
theorem dX0_wordOf_28 : decode cX0_wordOf 28 = .ok (.iload_n 2, 1) := dk_28 (dk_at dksX0_wordOf_1 6 rfl rfl)
theorem dX0_wordOf_29 : decode cX0_wordOf 29 = .ok (.ireturn, 1) := dk_172 (dk_at dksX0_wordOf_1 7 rfl rfl)
theorem dX0_wordOf_30 : decode cX0_wordOf 30 = .ok (.iinc 2 1, 3) := dk_132 2 1 (dk_at dksX0_wordOf_1 8 rfl rfl)
theorem dX0_wordOf_33 : decode cX0_wordOf 33 = .ok (.goto (-31), 3) := dk_167 255 225 (dk_at dksX0_wordOf_1 11 rfl rfl)
theorem dX0_wordOf_36 : decode cX0_wordOf 36 = .ok (.iconst (-1), 1) := dk_2 (dk_at dksX0_wordOf_1 14 rfl rfl)
theorem dX0_wordOf_37 : decode cX0_wordOf 37 = .ok (.ireturn, 1) := dk_172 (dk_at dksX0_wordOf_1 15 rfl rfl)
abbrev cX0_spells : ByteArray := prog_1_method_10_code
def yX0_spells : MethodName := ⟨RX0, "spells", "(Ljava/lang/String;)Z"⟩
def dkwX0_spells_2 : List UInt8 := [3, 172, 132, 2, 1, 167, 255, 225, 4, 172]
abbrev dktX0_spells_2 : List UInt8 := dkwX0_spells_2 ++ []
def dkwX0_spells_1 : List UInt8 := [182, 0, 164, 162, 0, 29, 42, 42, 180, 0, 171, 28, 96, 182, 0, 174, 43, 28, 182, 0, 178, 159, 0, 5]
abbrev dktX0_spells_1 : List UInt8 := dkwX0_spells_1 ++ dktX0_spells_2
def dkwX0_spells_0 : List UInt8 := [43, 182, 0, 164, 42, 180, 0, 168, 42, 180, 0, 171, 100, 159, 0, 5, 3, 172, 3, 61, 28, 43]
abbrev dktX0_spells_0 : List UInt8 := dkwX0_spells_0 ++ dktX0_spells_1
theorem dksX0_spells_0 : cX0_spells.data.toList.drop 0 = dktX0_spells_0 := by decide +kernel
theorem dksX0_spells_1 : cX0_spells.data.toList.drop 22 = dktX0_spells_1 := dk_seg dksX0_spells_0 22 rfl rfl
theorem dksX0_spells_2 : cX0_spells.data.toList.drop 46 = dktX0_spells_2 := dk_seg dksX0_spells_1 24 rfl rfl
theorem dX0_spells_0 : decode cX0_spells 0 = .ok (.aload_n 1, 1) := dk_43 (dk_at dksX0_spells_0 0 rfl rfl)
theorem dX0_spells_1 : decode cX0_spells 1 = .ok (.invokevirtual 164, 3) := dk_182 0 164 (dk_at dksX0_spells_0 1 rfl rfl)
theorem dX0_spells_4 : decode cX0_spells 4 = .ok (.aload_n 0, 1) := dk_42 (dk_at dksX0_spells_0 4 rfl rfl)
theorem dX0_spells_5 : decode cX0_spells 5 = .ok (.getfield 168, 3) := dk_180 0 168 (dk_at dksX0_spells_0 5 rfl rfl)
theorem dX0_spells_8 : decode cX0_spells 8 = .ok (.aload_n 0, 1) := dk_42 (dk_at dksX0_spells_0 8 rfl rfl)
theorem dX0_spells_9 : decode cX0_spells 9 = .ok (.getfield 171, 3) := dk_180 0 171 (dk_at dksX0_spells_0 9 rfl rfl)
theorem dX0_spells_12 : decode cX0_spells 12 = .ok (.isub, 1) := dk_100 (dk_at dksX0_spells_0 12 rfl rfl)
theorem dX0_spells_13 : decode cX0_spells 13 = .ok (.if_icmp .eq 5, 3) := dk_159 0 5 (dk_at dksX0_spells_0 13 rfl rfl)
theorem dX0_spells_16 : decode cX0_spells 16 = .ok (.iconst 0, 1) := dk_3 (dk_at dksX0_spells_0 16 rfl rfl)
theorem dX0_spells_17 : decode cX0_spells 17 = .ok (.ireturn, 1) := dk_172 (dk_at dksX0_spells_0 17 rfl rfl)
theorem dX0_spells_18 : decode cX0_spells 18 = .ok (.iconst 0, 1) := dk_3 (dk_at dksX0_spells_0 18 rfl rfl)
theorem dX0_spells_19 : decode cX0_spells 19 = .ok (.istore_n 2, 1) := dk_61 (dk_at dksX0_spells_0 19 rfl rfl)
theorem dX0_spells_20 : decode cX0_spells 20 = .ok (.iload_n 2, 1) := dk_28 (dk_at dksX0_spells_0 20 rfl rfl)
theorem dX0_spells_21 : decode cX0_spells 21 = .ok (.aload_n 1, 1) := dk_43 (dk_at dksX0_spells_0 21 rfl rfl)
theorem dX0_spells_22 : decode cX0_spells 22 = .ok (.invokevirtual 164, 3) := dk_182 0 164 (dk_at dksX0_spells_1 0 rfl rfl)
theorem dX0_spells_25 : decode cX0_spells 25 = .ok (.if_icmp .ge 29, 3) := dk_162 0 29 (dk_at dksX0_spells_1 3 rfl rfl)
theorem dX0_spells_28 : decode cX0_spells 28 = .ok (.aload_n 0, 1) := dk_42 (dk_at dksX0_spells_1 6 rfl rfl)
theorem dX0_spells_29 : decode cX0_spells 29 = .ok (.aload_n 0, 1) := dk_42 (dk_at dksX0_spells_1 7 rfl rfl)
theorem dX0_spells_30 : decode cX0_spells 30 = .ok (.getfield 171, 3) := dk_180 0 171 (dk_at dksX0_spells_1 8 rfl rfl)
theorem dX0_spells_33 : decode cX0_spells 33 = .ok (.iload_n 2, 1) := dk_28 (dk_at dksX0_spells_1 11 rfl rfl)
theorem dX0_spells_34 : decode cX0_spells 34 = .ok (.iadd, 1) := dk_96 (dk_at dksX0_spells_1 12 rfl rfl)
theorem dX0_spells_35 : decode cX0_spells 35 = .ok (.invokevirtual 174, 3) := dk_182 0 174 (dk_at dksX0_spells_1 13 rfl rfl)
theorem dX0_spells_38 : decode cX0_spells 38 = .ok (.aload_n 1, 1) := dk_43 (dk_at dksX0_spells_1 16 rfl rfl)
theorem dX0_spells_39 : decode cX0_spells 39 = .ok (.iload_n 2, 1) := dk_28 (dk_at dksX0_spells_1 17 rfl rfl)
theorem dX0_spells_40 : decode cX0_spells 40 = .ok (.invokevirtual 178, 3) := dk_182 0 178 (dk_at dksX0_spells_1 18 rfl rfl)
theorem dX0_spells_43 : decode cX0_spells 43 = .ok (.if_icmp .eq 5, 3) := dk_159 0 5 (dk_at dksX0_spells_1 21 rfl rfl)
theorem dX0_spells_46 : decode cX0_spells 46 = .ok (.iconst 0, 1) := dk_3 (dk_at dksX0_spells_2 0 rfl rfl)
theorem dX0_spells_47 : decode cX0_spells 47 = .ok (.ireturn, 1) := dk_172 (dk_at dksX0_spells_2 1 rfl rfl)
theorem dX0_spells_48 : decode cX0_spells 48 = .ok (.iinc 2 1, 3) := dk_132 2 1 (dk_at dksX0_spells_2 2 rfl rfl)
theorem dX0_spells_51 : decode cX0_spells 51 = .ok (.goto (-31), 3) := dk_167 255 225 (dk_at dksX0_spells_2 5 rfl rfl)
theorem dX0_spells_54 : decode cX0_spells 54 = .ok (.iconst 1, 1) := dk_4 (dk_at dksX0_spells_2 8 rfl rfl)
theorem dX0_spells_55 : decode cX0_spells 55 = .ok (.ireturn, 1) := dk_172 (dk_at dksX0_spells_2 9 rfl rfl)
abbrev cX0_isDigit : ByteArray := prog_1_method_9_code
def yX0_isDigit : MethodName := ⟨RX0, "isDigit", "(I)Z"⟩
def dkwX0_isDigit_0 : List UInt8 := [26, 16, 48, 16, 57, 184, 0, 160, 172]
abbrev dktX0_isDigit_0 : List UInt8 := dkwX0_isDigit_0 ++ []
theorem dksX0_isDigit_0 : cX0_isDigit.data.toList.drop 0 = dktX0_isDigit_0 := by decide +kernel
theorem dX0_isDigit_0 : decode cX0_isDigit 0 = .ok (.iload_n 0, 1) := dk_26 (dk_at dksX0_isDigit_0 0 rfl rfl)
theorem dX0_isDigit_1 : decode cX0_isDigit 1 = .ok (.bipush 48, 2) := dk_16 48 (dk_at dksX0_isDigit_0 1 rfl rfl)
theorem dX0_isDigit_3 : decode cX0_isDigit 3 = .ok (.bipush 57, 2) := dk_16 57 (dk_at dksX0_isDigit_0 3 rfl rfl)
theorem dX0_isDigit_5 : decode cX0_isDigit 5 = .ok (.invokestatic 160, 3) := dk_184 0 160 (dk_at dksX0_isDigit_0 5 rfl rfl)
theorem dX0_isDigit_8 : decode cX0_isDigit 8 = .ok (.ireturn, 1) := dk_172 (dk_at dksX0_isDigit_0 8 rfl rfl)
abbrev cX0_must : ByteArray := prog_1_method_15_code
def yX0_must : MethodName := ⟨RX0, "must", "(Z)V"⟩
def dkwX0_must_0 : List UInt8 := [27, 154, 0, 16, 187, 0, 233, 89, 4, 42, 180, 0, 171, 183, 0, 235, 191, 177]
abbrev dktX0_must_0 : List UInt8 := dkwX0_must_0 ++ []
theorem dksX0_must_0 : cX0_must.data.toList.drop 0 = dktX0_must_0 := by decide +kernel
theorem dX0_must_0 : decode cX0_must 0 = .ok (.iload_n 1, 1) := dk_27 (dk_at dksX0_must_0 0 rfl rfl)
theorem dX0_must_1 : decode cX0_must 1 = .ok (.ifCond .ne 16, 3) := dk_154 0 16 (dk_at dksX0_must_0 1 rfl rfl)
theorem dX0_must_4 : decode cX0_must 4 = .ok (.new 233, 3) := dk_187 0 233 (dk_at dksX0_must_0 4 rfl rfl)
theorem dX0_must_7 : decode cX0_must 7 = .ok (.dup, 1) := dk_89 (dk_at dksX0_must_0 7 rfl rfl)
theorem dX0_must_8 : decode cX0_must 8 = .ok (.iconst 1, 1) := dk_4 (dk_at dksX0_must_0 8 rfl rfl)
theorem dX0_must_9 : decode cX0_must 9 = .ok (.aload_n 0, 1) := dk_42 (dk_at dksX0_must_0 9 rfl rfl)
theorem dX0_must_10 : decode cX0_must 10 = .ok (.getfield 171, 3) := dk_180 0 171 (dk_at dksX0_must_0 10 rfl rfl)
theorem dX0_must_13 : decode cX0_must 13 = .ok (.invokespecial 235, 3) := dk_183 0 235 (dk_at dksX0_must_0 13 rfl rfl)
theorem dX0_must_16 : decode cX0_must 16 = .ok (.athrow, 1) := dk_191 (dk_at dksX0_must_0 16 rfl rfl)
theorem dX0_must_17 : decode cX0_must 17 = .ok (.return_, 1) := dk_177 (dk_at dksX0_must_0 17 rfl rfl)
abbrev cX0_sum : ByteArray := prog_1_method_19_code
def yX0_sum : MethodName := ⟨RX0, "sum", "()LDoughDebts$Term;"⟩
def dkwX0_sum_2 : List UInt8 := [167, 255, 214, 43, 176]
abbrev dktX0_sum_2 : List UInt8 := dkwX0_sum_2 ++ []
def dkwX0_sum_1 : List UInt8 := [180, 0, 198, 146, 61, 42, 182, 0, 246, 187, 1, 4, 89, 28, 43, 42, 182, 1, 9, 183, 1, 6, 76]
abbrev dktX0_sum_1 : List UInt8 := dkwX0_sum_1 ++ dktX0_sum_2
def dkwX0_sum_0 : List UInt8 := [42, 182, 1, 9, 76, 42, 16, 43, 182, 0, 238, 154, 0, 12, 42, 16, 45, 182, 0, 238, 153, 0, 30, 42]
abbrev dktX0_sum_0 : List UInt8 := dkwX0_sum_0 ++ dktX0_sum_1
theorem dksX0_sum_0 : cX0_sum.data.toList.drop 0 = dktX0_sum_0 := by decide +kernel
theorem dksX0_sum_1 : cX0_sum.data.toList.drop 24 = dktX0_sum_1 := dk_seg dksX0_sum_0 24 rfl rfl
theorem dksX0_sum_2 : cX0_sum.data.toList.drop 47 = dktX0_sum_2 := dk_seg dksX0_sum_1 23 rfl rfl
theorem dX0_sum_0 : decode cX0_sum 0 = .ok (.aload_n 0, 1) := dk_42 (dk_at dksX0_sum_0 0 rfl rfl)
theorem dX0_sum_1 : decode cX0_sum 1 = .ok (.invokevirtual 265, 3) := dk_182 1 9 (dk_at dksX0_sum_0 1 rfl rfl)
theorem dX0_sum_4 : decode cX0_sum 4 = .ok (.astore_n 1, 1) := dk_76 (dk_at dksX0_sum_0 4 rfl rfl)
theorem dX0_sum_5 : decode cX0_sum 5 = .ok (.aload_n 0, 1) := dk_42 (dk_at dksX0_sum_0 5 rfl rfl)
theorem dX0_sum_6 : decode cX0_sum 6 = .ok (.bipush 43, 2) := dk_16 43 (dk_at dksX0_sum_0 6 rfl rfl)
theorem dX0_sum_8 : decode cX0_sum 8 = .ok (.invokevirtual 238, 3) := dk_182 0 238 (dk_at dksX0_sum_0 8 rfl rfl)
theorem dX0_sum_11 : decode cX0_sum 11 = .ok (.ifCond .ne 12, 3) := dk_154 0 12 (dk_at dksX0_sum_0 11 rfl rfl)
theorem dX0_sum_14 : decode cX0_sum 14 = .ok (.aload_n 0, 1) := dk_42 (dk_at dksX0_sum_0 14 rfl rfl)
theorem dX0_sum_15 : decode cX0_sum 15 = .ok (.bipush 45, 2) := dk_16 45 (dk_at dksX0_sum_0 15 rfl rfl)
theorem dX0_sum_17 : decode cX0_sum 17 = .ok (.invokevirtual 238, 3) := dk_182 0 238 (dk_at dksX0_sum_0 17 rfl rfl)
theorem dX0_sum_20 : decode cX0_sum 20 = .ok (.ifCond .eq 30, 3) := dk_153 0 30 (dk_at dksX0_sum_0 20 rfl rfl)
theorem dX0_sum_23 : decode cX0_sum 23 = .ok (.aload_n 0, 1) := dk_42 (dk_at dksX0_sum_0 23 rfl rfl)
theorem dX0_sum_24 : decode cX0_sum 24 = .ok (.getfield 198, 3) := dk_180 0 198 (dk_at dksX0_sum_1 0 rfl rfl)
theorem dX0_sum_27 : decode cX0_sum 27 = .ok (.i2c, 1) := dk_146 (dk_at dksX0_sum_1 3 rfl rfl)
theorem dX0_sum_28 : decode cX0_sum 28 = .ok (.istore_n 2, 1) := dk_61 (dk_at dksX0_sum_1 4 rfl rfl)
theorem dX0_sum_29 : decode cX0_sum 29 = .ok (.aload_n 0, 1) := dk_42 (dk_at dksX0_sum_1 5 rfl rfl)
theorem dX0_sum_30 : decode cX0_sum 30 = .ok (.invokevirtual 246, 3) := dk_182 0 246 (dk_at dksX0_sum_1 6 rfl rfl)
theorem dX0_sum_33 : decode cX0_sum 33 = .ok (.new 260, 3) := dk_187 1 4 (dk_at dksX0_sum_1 9 rfl rfl)
theorem dX0_sum_36 : decode cX0_sum 36 = .ok (.dup, 1) := dk_89 (dk_at dksX0_sum_1 12 rfl rfl)
theorem dX0_sum_37 : decode cX0_sum 37 = .ok (.iload_n 2, 1) := dk_28 (dk_at dksX0_sum_1 13 rfl rfl)
theorem dX0_sum_38 : decode cX0_sum 38 = .ok (.aload_n 1, 1) := dk_43 (dk_at dksX0_sum_1 14 rfl rfl)
theorem dX0_sum_39 : decode cX0_sum 39 = .ok (.aload_n 0, 1) := dk_42 (dk_at dksX0_sum_1 15 rfl rfl)
theorem dX0_sum_40 : decode cX0_sum 40 = .ok (.invokevirtual 265, 3) := dk_182 1 9 (dk_at dksX0_sum_1 16 rfl rfl)
theorem dX0_sum_43 : decode cX0_sum 43 = .ok (.invokespecial 262, 3) := dk_183 1 6 (dk_at dksX0_sum_1 19 rfl rfl)
theorem dX0_sum_46 : decode cX0_sum 46 = .ok (.astore_n 1, 1) := dk_76 (dk_at dksX0_sum_1 22 rfl rfl)
theorem dX0_sum_47 : decode cX0_sum 47 = .ok (.goto (-42), 3) := dk_167 255 214 (dk_at dksX0_sum_2 0 rfl rfl)
theorem dX0_sum_50 : decode cX0_sum 50 = .ok (.aload_n 1, 1) := dk_43 (dk_at dksX0_sum_2 3 rfl rfl)
theorem dX0_sum_51 : decode cX0_sum 51 = .ok (.areturn, 1) := dk_176 (dk_at dksX0_sum_2 4 rfl rfl)
abbrev cX0_product : ByteArray := prog_1_method_18_code
def yX0_product : MethodName := ⟨RX0, "product", "()LDoughDebts$Term;"⟩
def dkwX0_product_4 : List UInt8 := [43, 176]
abbrev dktX0_product_4 : List UInt8 := dkwX0_product_4 ++ []
def dkwX0_product_3 : List UInt8 := [180, 0, 171, 183, 0, 235, 191, 187, 1, 4, 89, 28, 43, 42, 182, 1, 0, 183, 1, 6, 76, 167, 255, 169]
abbrev dktX0_product_3 : List UInt8 := dkwX0_product_3 ++ dktX0_product_4
def dkwX0_product_2 : List UInt8 := [166, 0, 7, 4, 167, 0, 4, 3, 182, 0, 242, 42, 180, 0, 198, 154, 0, 16, 187, 0, 233, 89, 5, 42]
abbrev dktX0_product_2 : List UInt8 := dkwX0_product_2 ++ dktX0_product_3
def dkwX0_product_1 : List UInt8 := [180, 0, 198, 146, 61, 42, 182, 0, 246, 28, 16, 47, 160, 0, 42, 42, 42, 180, 0, 182, 178, 0, 225]
abbrev dktX0_product_1 : List UInt8 := dkwX0_product_1 ++ dktX0_product_2
def dkwX0_product_0 : List UInt8 := [42, 182, 1, 0, 76, 42, 16, 42, 182, 0, 238, 154, 0, 12, 42, 16, 47, 182, 0, 238, 153, 0, 75, 42]
abbrev dktX0_product_0 : List UInt8 := dkwX0_product_0 ++ dktX0_product_1
theorem dksX0_product_0 : cX0_product.data.toList.drop 0 = dktX0_product_0 := by decide +kernel
theorem dksX0_product_1 : cX0_product.data.toList.drop 24 = dktX0_product_1 := dk_seg dksX0_product_0 24 rfl rfl
theorem dksX0_product_2 : cX0_product.data.toList.drop 47 = dktX0_product_2 := dk_seg dksX0_product_1 23 rfl rfl
theorem dksX0_product_3 : cX0_product.data.toList.drop 71 = dktX0_product_3 := dk_seg dksX0_product_2 24 rfl rfl
theorem dksX0_product_4 : cX0_product.data.toList.drop 95 = dktX0_product_4 := dk_seg dksX0_product_3 24 rfl rfl
theorem dX0_product_0 : decode cX0_product 0 = .ok (.aload_n 0, 1) := dk_42 (dk_at dksX0_product_0 0 rfl rfl)
theorem dX0_product_1 : decode cX0_product 1 = .ok (.invokevirtual 256, 3) := dk_182 1 0 (dk_at dksX0_product_0 1 rfl rfl)
theorem dX0_product_4 : decode cX0_product 4 = .ok (.astore_n 1, 1) := dk_76 (dk_at dksX0_product_0 4 rfl rfl)
theorem dX0_product_5 : decode cX0_product 5 = .ok (.aload_n 0, 1) := dk_42 (dk_at dksX0_product_0 5 rfl rfl)
theorem dX0_product_6 : decode cX0_product 6 = .ok (.bipush 42, 2) := dk_16 42 (dk_at dksX0_product_0 6 rfl rfl)
theorem dX0_product_8 : decode cX0_product 8 = .ok (.invokevirtual 238, 3) := dk_182 0 238 (dk_at dksX0_product_0 8 rfl rfl)
theorem dX0_product_11 : decode cX0_product 11 = .ok (.ifCond .ne 12, 3) := dk_154 0 12 (dk_at dksX0_product_0 11 rfl rfl)
theorem dX0_product_14 : decode cX0_product 14 = .ok (.aload_n 0, 1) := dk_42 (dk_at dksX0_product_0 14 rfl rfl)
theorem dX0_product_15 : decode cX0_product 15 = .ok (.bipush 47, 2) := dk_16 47 (dk_at dksX0_product_0 15 rfl rfl)
theorem dX0_product_17 : decode cX0_product 17 = .ok (.invokevirtual 238, 3) := dk_182 0 238 (dk_at dksX0_product_0 17 rfl rfl)
theorem dX0_product_20 : decode cX0_product 20 = .ok (.ifCond .eq 75, 3) := dk_153 0 75 (dk_at dksX0_product_0 20 rfl rfl)
theorem dX0_product_23 : decode cX0_product 23 = .ok (.aload_n 0, 1) := dk_42 (dk_at dksX0_product_0 23 rfl rfl)
theorem dX0_product_24 : decode cX0_product 24 = .ok (.getfield 198, 3) := dk_180 0 198 (dk_at dksX0_product_1 0 rfl rfl)
theorem dX0_product_27 : decode cX0_product 27 = .ok (.i2c, 1) := dk_146 (dk_at dksX0_product_1 3 rfl rfl)
theorem dX0_product_28 : decode cX0_product 28 = .ok (.istore_n 2, 1) := dk_61 (dk_at dksX0_product_1 4 rfl rfl)
theorem dX0_product_29 : decode cX0_product 29 = .ok (.aload_n 0, 1) := dk_42 (dk_at dksX0_product_1 5 rfl rfl)
theorem dX0_product_30 : decode cX0_product 30 = .ok (.invokevirtual 246, 3) := dk_182 0 246 (dk_at dksX0_product_1 6 rfl rfl)
theorem dX0_product_33 : decode cX0_product 33 = .ok (.iload_n 2, 1) := dk_28 (dk_at dksX0_product_1 9 rfl rfl)
theorem dX0_product_34 : decode cX0_product 34 = .ok (.bipush 47, 2) := dk_16 47 (dk_at dksX0_product_1 10 rfl rfl)
theorem dX0_product_36 : decode cX0_product 36 = .ok (.if_icmp .ne 42, 3) := dk_160 0 42 (dk_at dksX0_product_1 12 rfl rfl)
theorem dX0_product_39 : decode cX0_product 39 = .ok (.aload_n 0, 1) := dk_42 (dk_at dksX0_product_1 15 rfl rfl)
theorem dX0_product_40 : decode cX0_product 40 = .ok (.aload_n 0, 1) := dk_42 (dk_at dksX0_product_1 16 rfl rfl)
theorem dX0_product_41 : decode cX0_product 41 = .ok (.getfield 182, 3) := dk_180 0 182 (dk_at dksX0_product_1 17 rfl rfl)
theorem dX0_product_44 : decode cX0_product 44 = .ok (.getstatic 225, 3) := dk_178 0 225 (dk_at dksX0_product_1 20 rfl rfl)
theorem dX0_product_47 : decode cX0_product 47 = .ok (.if_acmp .ne 7, 3) := dk_166 0 7 (dk_at dksX0_product_2 0 rfl rfl)
theorem dX0_product_50 : decode cX0_product 50 = .ok (.iconst 1, 1) := dk_4 (dk_at dksX0_product_2 3 rfl rfl)
theorem dX0_product_51 : decode cX0_product 51 = .ok (.goto 4, 3) := dk_167 0 4 (dk_at dksX0_product_2 4 rfl rfl)
theorem dX0_product_54 : decode cX0_product 54 = .ok (.iconst 0, 1) := dk_3 (dk_at dksX0_product_2 7 rfl rfl)
theorem dX0_product_55 : decode cX0_product 55 = .ok (.invokevirtual 242, 3) := dk_182 0 242 (dk_at dksX0_product_2 8 rfl rfl)
theorem dX0_product_58 : decode cX0_product 58 = .ok (.aload_n 0, 1) := dk_42 (dk_at dksX0_product_2 11 rfl rfl)
theorem dX0_product_59 : decode cX0_product 59 = .ok (.getfield 198, 3) := dk_180 0 198 (dk_at dksX0_product_2 12 rfl rfl)
theorem dX0_product_62 : decode cX0_product 62 = .ok (.ifCond .ne 16, 3) := dk_154 0 16 (dk_at dksX0_product_2 15 rfl rfl)
theorem dX0_product_65 : decode cX0_product 65 = .ok (.new 233, 3) := dk_187 0 233 (dk_at dksX0_product_2 18 rfl rfl)
theorem dX0_product_68 : decode cX0_product 68 = .ok (.dup, 1) := dk_89 (dk_at dksX0_product_2 21 rfl rfl)
theorem dX0_product_69 : decode cX0_product 69 = .ok (.iconst 2, 1) := dk_5 (dk_at dksX0_product_2 22 rfl rfl)
theorem dX0_product_70 : decode cX0_product 70 = .ok (.aload_n 0, 1) := dk_42 (dk_at dksX0_product_2 23 rfl rfl)
theorem dX0_product_71 : decode cX0_product 71 = .ok (.getfield 171, 3) := dk_180 0 171 (dk_at dksX0_product_3 0 rfl rfl)
theorem dX0_product_74 : decode cX0_product 74 = .ok (.invokespecial 235, 3) := dk_183 0 235 (dk_at dksX0_product_3 3 rfl rfl)
theorem dX0_product_77 : decode cX0_product 77 = .ok (.athrow, 1) := dk_191 (dk_at dksX0_product_3 6 rfl rfl)
theorem dX0_product_78 : decode cX0_product 78 = .ok (.new 260, 3) := dk_187 1 4 (dk_at dksX0_product_3 7 rfl rfl)
theorem dX0_product_81 : decode cX0_product 81 = .ok (.dup, 1) := dk_89 (dk_at dksX0_product_3 10 rfl rfl)
theorem dX0_product_82 : decode cX0_product 82 = .ok (.iload_n 2, 1) := dk_28 (dk_at dksX0_product_3 11 rfl rfl)
theorem dX0_product_83 : decode cX0_product 83 = .ok (.aload_n 1, 1) := dk_43 (dk_at dksX0_product_3 12 rfl rfl)
theorem dX0_product_84 : decode cX0_product 84 = .ok (.aload_n 0, 1) := dk_42 (dk_at dksX0_product_3 13 rfl rfl)
theorem dX0_product_85 : decode cX0_product 85 = .ok (.invokevirtual 256, 3) := dk_182 1 0 (dk_at dksX0_product_3 14 rfl rfl)
theorem dX0_product_88 : decode cX0_product 88 = .ok (.invokespecial 262, 3) := dk_183 1 6 (dk_at dksX0_product_3 17 rfl rfl)
theorem dX0_product_91 : decode cX0_product 91 = .ok (.astore_n 1, 1) := dk_76 (dk_at dksX0_product_3 20 rfl rfl)
theorem dX0_product_92 : decode cX0_product 92 = .ok (.goto (-87), 3) := dk_167 255 169 (dk_at dksX0_product_3 21 rfl rfl)
theorem dX0_product_95 : decode cX0_product 95 = .ok (.aload_n 1, 1) := dk_43 (dk_at dksX0_product_4 0 rfl rfl)
theorem dX0_product_96 : decode cX0_product 96 = .ok (.areturn, 1) := dk_176 (dk_at dksX0_product_4 1 rfl rfl)
abbrev cX0_unit : ByteArray := prog_1_method_17_code
def yX0_unit : MethodName := ⟨RX0, "unit", "()LDoughDebts$Term;"⟩
def dkwX0_unit_2 : List UInt8 := [182, 0, 242, 42, 182, 0, 246, 187, 0, 253, 89, 27, 183, 0, 255, 176]
abbrev dktX0_unit_2 : List UInt8 := dkwX0_unit_2 ++ []
def dkwX0_unit_1 : List UInt8 := [183, 0, 251, 176, 42, 42, 180, 0, 41, 182, 0, 211, 60, 42, 27, 2, 159, 0, 7, 4, 167, 0, 4, 3]
abbrev dktX0_unit_1 : List UInt8 := dkwX0_unit_1 ++ dktX0_unit_2
def dkwX0_unit_0 : List UInt8 := [42, 180, 0, 182, 178, 0, 225, 166, 0, 21, 42, 180, 0, 198, 60, 42, 182, 0, 246, 187, 0, 249, 89, 27]
abbrev dktX0_unit_0 : List UInt8 := dkwX0_unit_0 ++ dktX0_unit_1
theorem dksX0_unit_0 : cX0_unit.data.toList.drop 0 = dktX0_unit_0 := by decide +kernel
theorem dksX0_unit_1 : cX0_unit.data.toList.drop 24 = dktX0_unit_1 := dk_seg dksX0_unit_0 24 rfl rfl
theorem dksX0_unit_2 : cX0_unit.data.toList.drop 48 = dktX0_unit_2 := dk_seg dksX0_unit_1 24 rfl rfl
theorem dX0_unit_0 : decode cX0_unit 0 = .ok (.aload_n 0, 1) := dk_42 (dk_at dksX0_unit_0 0 rfl rfl)
theorem dX0_unit_1 : decode cX0_unit 1 = .ok (.getfield 182, 3) := dk_180 0 182 (dk_at dksX0_unit_0 1 rfl rfl)
theorem dX0_unit_4 : decode cX0_unit 4 = .ok (.getstatic 225, 3) := dk_178 0 225 (dk_at dksX0_unit_0 4 rfl rfl)
theorem dX0_unit_7 : decode cX0_unit 7 = .ok (.if_acmp .ne 21, 3) := dk_166 0 21 (dk_at dksX0_unit_0 7 rfl rfl)
theorem dX0_unit_10 : decode cX0_unit 10 = .ok (.aload_n 0, 1) := dk_42 (dk_at dksX0_unit_0 10 rfl rfl)
theorem dX0_unit_11 : decode cX0_unit 11 = .ok (.getfield 198, 3) := dk_180 0 198 (dk_at dksX0_unit_0 11 rfl rfl)
theorem dX0_unit_14 : decode cX0_unit 14 = .ok (.istore_n 1, 1) := dk_60 (dk_at dksX0_unit_0 14 rfl rfl)
theorem dX0_unit_15 : decode cX0_unit 15 = .ok (.aload_n 0, 1) := dk_42 (dk_at dksX0_unit_0 15 rfl rfl)
theorem dX0_unit_16 : decode cX0_unit 16 = .ok (.invokevirtual 246, 3) := dk_182 0 246 (dk_at dksX0_unit_0 16 rfl rfl)
theorem dX0_unit_19 : decode cX0_unit 19 = .ok (.new 249, 3) := dk_187 0 249 (dk_at dksX0_unit_0 19 rfl rfl)
theorem dX0_unit_22 : decode cX0_unit 22 = .ok (.dup, 1) := dk_89 (dk_at dksX0_unit_0 22 rfl rfl)
theorem dX0_unit_23 : decode cX0_unit 23 = .ok (.iload_n 1, 1) := dk_27 (dk_at dksX0_unit_0 23 rfl rfl)
theorem dX0_unit_24 : decode cX0_unit 24 = .ok (.invokespecial 251, 3) := dk_183 0 251 (dk_at dksX0_unit_1 0 rfl rfl)
theorem dX0_unit_27 : decode cX0_unit 27 = .ok (.areturn, 1) := dk_176 (dk_at dksX0_unit_1 3 rfl rfl)
theorem dX0_unit_28 : decode cX0_unit 28 = .ok (.aload_n 0, 1) := dk_42 (dk_at dksX0_unit_1 4 rfl rfl)
theorem dX0_unit_29 : decode cX0_unit 29 = .ok (.aload_n 0, 1) := dk_42 (dk_at dksX0_unit_1 5 rfl rfl)
theorem dX0_unit_30 : decode cX0_unit 30 = .ok (.getfield 41, 3) := dk_180 0 41 (dk_at dksX0_unit_1 6 rfl rfl)
theorem dX0_unit_33 : decode cX0_unit 33 = .ok (.invokevirtual 211, 3) := dk_182 0 211 (dk_at dksX0_unit_1 9 rfl rfl)
theorem dX0_unit_36 : decode cX0_unit 36 = .ok (.istore_n 1, 1) := dk_60 (dk_at dksX0_unit_1 12 rfl rfl)
theorem dX0_unit_37 : decode cX0_unit 37 = .ok (.aload_n 0, 1) := dk_42 (dk_at dksX0_unit_1 13 rfl rfl)
theorem dX0_unit_38 : decode cX0_unit 38 = .ok (.iload_n 1, 1) := dk_27 (dk_at dksX0_unit_1 14 rfl rfl)
theorem dX0_unit_39 : decode cX0_unit 39 = .ok (.iconst (-1), 1) := dk_2 (dk_at dksX0_unit_1 15 rfl rfl)
theorem dX0_unit_40 : decode cX0_unit 40 = .ok (.if_icmp .eq 7, 3) := dk_159 0 7 (dk_at dksX0_unit_1 16 rfl rfl)
theorem dX0_unit_43 : decode cX0_unit 43 = .ok (.iconst 1, 1) := dk_4 (dk_at dksX0_unit_1 19 rfl rfl)
theorem dX0_unit_44 : decode cX0_unit 44 = .ok (.goto 4, 3) := dk_167 0 4 (dk_at dksX0_unit_1 20 rfl rfl)
theorem dX0_unit_47 : decode cX0_unit 47 = .ok (.iconst 0, 1) := dk_3 (dk_at dksX0_unit_1 23 rfl rfl)
theorem dX0_unit_48 : decode cX0_unit 48 = .ok (.invokevirtual 242, 3) := dk_182 0 242 (dk_at dksX0_unit_2 0 rfl rfl)
theorem dX0_unit_51 : decode cX0_unit 51 = .ok (.aload_n 0, 1) := dk_42 (dk_at dksX0_unit_2 3 rfl rfl)
theorem dX0_unit_52 : decode cX0_unit 52 = .ok (.invokevirtual 246, 3) := dk_182 0 246 (dk_at dksX0_unit_2 4 rfl rfl)
theorem dX0_unit_55 : decode cX0_unit 55 = .ok (.new 253, 3) := dk_187 0 253 (dk_at dksX0_unit_2 7 rfl rfl)
theorem dX0_unit_58 : decode cX0_unit 58 = .ok (.dup, 1) := dk_89 (dk_at dksX0_unit_2 10 rfl rfl)
theorem dX0_unit_59 : decode cX0_unit 59 = .ok (.iload_n 1, 1) := dk_27 (dk_at dksX0_unit_2 11 rfl rfl)
theorem dX0_unit_60 : decode cX0_unit 60 = .ok (.invokespecial 255, 3) := dk_183 0 255 (dk_at dksX0_unit_2 12 rfl rfl)
theorem dX0_unit_63 : decode cX0_unit 63 = .ok (.areturn, 1) := dk_176 (dk_at dksX0_unit_2 15 rfl rfl)
abbrev cX0_isSign : ByteArray := prog_1_method_13_code
def yX0_isSign : MethodName := ⟨RX0, "isSign", "(C)Z"⟩
def dkwX0_isSign_0 : List UInt8 := [42, 180, 0, 182, 178, 0, 195, 166, 0, 15, 42, 180, 0, 198, 27, 160, 0, 7, 4, 167, 0, 4, 3, 172]
abbrev dktX0_isSign_0 : List UInt8 := dkwX0_isSign_0 ++ []
theorem dksX0_isSign_0 : cX0_isSign.data.toList.drop 0 = dktX0_isSign_0 := by decide +kernel
theorem dX0_isSign_0 : decode cX0_isSign 0 = .ok (.aload_n 0, 1) := dk_42 (dk_at dksX0_isSign_0 0 rfl rfl)
theorem dX0_isSign_1 : decode cX0_isSign 1 = .ok (.getfield 182, 3) := dk_180 0 182 (dk_at dksX0_isSign_0 1 rfl rfl)
theorem dX0_isSign_4 : decode cX0_isSign 4 = .ok (.getstatic 195, 3) := dk_178 0 195 (dk_at dksX0_isSign_0 4 rfl rfl)
theorem dX0_isSign_7 : decode cX0_isSign 7 = .ok (.if_acmp .ne 15, 3) := dk_166 0 15 (dk_at dksX0_isSign_0 7 rfl rfl)
theorem dX0_isSign_10 : decode cX0_isSign 10 = .ok (.aload_n 0, 1) := dk_42 (dk_at dksX0_isSign_0 10 rfl rfl)
theorem dX0_isSign_11 : decode cX0_isSign 11 = .ok (.getfield 198, 3) := dk_180 0 198 (dk_at dksX0_isSign_0 11 rfl rfl)
theorem dX0_isSign_14 : decode cX0_isSign 14 = .ok (.iload_n 1, 1) := dk_27 (dk_at dksX0_isSign_0 14 rfl rfl)
theorem dX0_isSign_15 : decode cX0_isSign 15 = .ok (.if_icmp .ne 7, 3) := dk_160 0 7 (dk_at dksX0_isSign_0 15 rfl rfl)
theorem dX0_isSign_18 : decode cX0_isSign 18 = .ok (.iconst 1, 1) := dk_4 (dk_at dksX0_isSign_0 18 rfl rfl)
theorem dX0_isSign_19 : decode cX0_isSign 19 = .ok (.goto 4, 3) := dk_167 0 4 (dk_at dksX0_isSign_0 19 rfl rfl)
theorem dX0_isSign_22 : decode cX0_isSign 22 = .ok (.iconst 0, 1) := dk_3 (dk_at dksX0_isSign_0 22 rfl rfl)
theorem dX0_isSign_23 : decode cX0_isSign 23 = .ok (.ireturn, 1) := dk_172 (dk_at dksX0_isSign_0 23 rfl rfl)
abbrev cX0_isWord : ByteArray := prog_1_method_12_code
def yX0_isWord : MethodName := ⟨RX0, "isWord", "(Ljava/lang/String;)Z"⟩
def dkwX0_isWord_0 : List UInt8 := [42, 180, 0, 182, 178, 0, 186, 166, 0, 15, 42, 43, 182, 0, 191, 153, 0, 7, 4, 167, 0, 4, 3, 172]
abbrev dktX0_isWord_0 : List UInt8 := dkwX0_isWord_0 ++ []
theorem dksX0_isWord_0 : cX0_isWord.data.toList.drop 0 = dktX0_isWord_0 := by decide +kernel
theorem dX0_isWord_0 : decode cX0_isWord 0 = .ok (.aload_n 0, 1) := dk_42 (dk_at dksX0_isWord_0 0 rfl rfl)
theorem dX0_isWord_1 : decode cX0_isWord 1 = .ok (.getfield 182, 3) := dk_180 0 182 (dk_at dksX0_isWord_0 1 rfl rfl)
theorem dX0_isWord_4 : decode cX0_isWord 4 = .ok (.getstatic 186, 3) := dk_178 0 186 (dk_at dksX0_isWord_0 4 rfl rfl)
theorem dX0_isWord_7 : decode cX0_isWord 7 = .ok (.if_acmp .ne 15, 3) := dk_166 0 15 (dk_at dksX0_isWord_0 7 rfl rfl)
theorem dX0_isWord_10 : decode cX0_isWord 10 = .ok (.aload_n 0, 1) := dk_42 (dk_at dksX0_isWord_0 10 rfl rfl)
theorem dX0_isWord_11 : decode cX0_isWord 11 = .ok (.aload_n 1, 1) := dk_43 (dk_at dksX0_isWord_0 11 rfl rfl)
theorem dX0_isWord_12 : decode cX0_isWord 12 = .ok (.invokevirtual 191, 3) := dk_182 0 191 (dk_at dksX0_isWord_0 12 rfl rfl)
theorem dX0_isWord_15 : decode cX0_isWord 15 = .ok (.ifCond .eq 7, 3) := dk_153 0 7 (dk_at dksX0_isWord_0 15 rfl rfl)
theorem dX0_isWord_18 : decode cX0_isWord 18 = .ok (.iconst 1, 1) := dk_4 (dk_at dksX0_isWord_0 18 rfl rfl)
theorem dX0_isWord_19 : decode cX0_isWord 19 = .ok (.goto 4, 3) := dk_167 0 4 (dk_at dksX0_isWord_0 19 rfl rfl)
theorem dX0_isWord_22 : decode cX0_isWord 22 = .ok (.iconst 0, 1) := dk_3 (dk_at dksX0_isWord_0 22 rfl rfl)
theorem dX0_isWord_23 : decode cX0_isWord 23 = .ok (.ireturn, 1) := dk_172 (dk_at dksX0_isWord_0 23 rfl rfl)
abbrev cX0_any : ByteArray := prog_1_method_23_code
def yX0_any : MethodName := ⟨RX0, "any", "()LDoughDebts$Term;"⟩
def dkwX0_any_1 : List UInt8 := [43, 42, 182, 1, 39, 183, 1, 6, 76, 167, 255, 228, 43, 176]
abbrev dktX0_any_1 : List UInt8 := dkwX0_any_1 ++ []
def dkwX0_any_0 : List UInt8 := [42, 182, 1, 39, 76, 42, 18, 46, 182, 1, 15, 153, 0, 25, 42, 182, 0, 246, 187, 1, 4, 89, 16, 124]
abbrev dktX0_any_0 : List UInt8 := dkwX0_any_0 ++ dktX0_any_1
theorem dksX0_any_0 : cX0_any.data.toList.drop 0 = dktX0_any_0 := by decide +kernel
theorem dksX0_any_1 : cX0_any.data.toList.drop 24 = dktX0_any_1 := dk_seg dksX0_any_0 24 rfl rfl
theorem dX0_any_0 : decode cX0_any 0 = .ok (.aload_n 0, 1) := dk_42 (dk_at dksX0_any_0 0 rfl rfl)
theorem dX0_any_1 : decode cX0_any 1 = .ok (.invokevirtual 295, 3) := dk_182 1 39 (dk_at dksX0_any_0 1 rfl rfl)
theorem dX0_any_4 : decode cX0_any 4 = .ok (.astore_n 1, 1) := dk_76 (dk_at dksX0_any_0 4 rfl rfl)
theorem dX0_any_5 : decode cX0_any 5 = .ok (.aload_n 0, 1) := dk_42 (dk_at dksX0_any_0 5 rfl rfl)
theorem dX0_any_6 : decode cX0_any 6 = .ok (.ldc 46, 2) := dk_18 46 (dk_at dksX0_any_0 6 rfl rfl)
theorem dX0_any_8 : decode cX0_any 8 = .ok (.invokevirtual 271, 3) := dk_182 1 15 (dk_at dksX0_any_0 8 rfl rfl)
theorem dX0_any_11 : decode cX0_any 11 = .ok (.ifCond .eq 25, 3) := dk_153 0 25 (dk_at dksX0_any_0 11 rfl rfl)
theorem dX0_any_14 : decode cX0_any 14 = .ok (.aload_n 0, 1) := dk_42 (dk_at dksX0_any_0 14 rfl rfl)
theorem dX0_any_15 : decode cX0_any 15 = .ok (.invokevirtual 246, 3) := dk_182 0 246 (dk_at dksX0_any_0 15 rfl rfl)
theorem dX0_any_18 : decode cX0_any 18 = .ok (.new 260, 3) := dk_187 1 4 (dk_at dksX0_any_0 18 rfl rfl)
theorem dX0_any_21 : decode cX0_any 21 = .ok (.dup, 1) := dk_89 (dk_at dksX0_any_0 21 rfl rfl)
theorem dX0_any_22 : decode cX0_any 22 = .ok (.bipush 124, 2) := dk_16 124 (dk_at dksX0_any_0 22 rfl rfl)
theorem dX0_any_24 : decode cX0_any 24 = .ok (.aload_n 1, 1) := dk_43 (dk_at dksX0_any_1 0 rfl rfl)
theorem dX0_any_25 : decode cX0_any 25 = .ok (.aload_n 0, 1) := dk_42 (dk_at dksX0_any_1 1 rfl rfl)
theorem dX0_any_26 : decode cX0_any 26 = .ok (.invokevirtual 295, 3) := dk_182 1 39 (dk_at dksX0_any_1 2 rfl rfl)
theorem dX0_any_29 : decode cX0_any 29 = .ok (.invokespecial 262, 3) := dk_183 1 6 (dk_at dksX0_any_1 5 rfl rfl)
theorem dX0_any_32 : decode cX0_any 32 = .ok (.astore_n 1, 1) := dk_76 (dk_at dksX0_any_1 8 rfl rfl)
theorem dX0_any_33 : decode cX0_any 33 = .ok (.goto (-28), 3) := dk_167 255 228 (dk_at dksX0_any_1 9 rfl rfl)
theorem dX0_any_36 : decode cX0_any 36 = .ok (.aload_n 1, 1) := dk_43 (dk_at dksX0_any_1 12 rfl rfl)
theorem dX0_any_37 : decode cX0_any 37 = .ok (.areturn, 1) := dk_176 (dk_at dksX0_any_1 13 rfl rfl)
abbrev cX0_both : ByteArray := prog_1_method_22_code
def yX0_both : MethodName := ⟨RX0, "both", "()LDoughDebts$Term;"⟩
def dkwX0_both_1 : List UInt8 := [43, 42, 182, 1, 21, 183, 1, 6, 76, 167, 255, 228, 43, 176]
abbrev dktX0_both_1 : List UInt8 := dkwX0_both_1 ++ []
def dkwX0_both_0 : List UInt8 := [42, 182, 1, 21, 76, 42, 18, 48, 182, 1, 15, 153, 0, 25, 42, 182, 0, 246, 187, 1, 4, 89, 16, 38]
abbrev dktX0_both_0 : List UInt8 := dkwX0_both_0 ++ dktX0_both_1
theorem dksX0_both_0 : cX0_both.data.toList.drop 0 = dktX0_both_0 := by decide +kernel
theorem dksX0_both_1 : cX0_both.data.toList.drop 24 = dktX0_both_1 := dk_seg dksX0_both_0 24 rfl rfl
theorem dX0_both_0 : decode cX0_both 0 = .ok (.aload_n 0, 1) := dk_42 (dk_at dksX0_both_0 0 rfl rfl)
theorem dX0_both_1 : decode cX0_both 1 = .ok (.invokevirtual 277, 3) := dk_182 1 21 (dk_at dksX0_both_0 1 rfl rfl)
theorem dX0_both_4 : decode cX0_both 4 = .ok (.astore_n 1, 1) := dk_76 (dk_at dksX0_both_0 4 rfl rfl)
theorem dX0_both_5 : decode cX0_both 5 = .ok (.aload_n 0, 1) := dk_42 (dk_at dksX0_both_0 5 rfl rfl)
theorem dX0_both_6 : decode cX0_both 6 = .ok (.ldc 48, 2) := dk_18 48 (dk_at dksX0_both_0 6 rfl rfl)
theorem dX0_both_8 : decode cX0_both 8 = .ok (.invokevirtual 271, 3) := dk_182 1 15 (dk_at dksX0_both_0 8 rfl rfl)
theorem dX0_both_11 : decode cX0_both 11 = .ok (.ifCond .eq 25, 3) := dk_153 0 25 (dk_at dksX0_both_0 11 rfl rfl)
theorem dX0_both_14 : decode cX0_both 14 = .ok (.aload_n 0, 1) := dk_42 (dk_at dksX0_both_0 14 rfl rfl)
theorem dX0_both_15 : decode cX0_both 15 = .ok (.invokevirtual 246, 3) := dk_182 0 246 (dk_at dksX0_both_0 15 rfl rfl)
theorem dX0_both_18 : decode cX0_both 18 = .ok (.new 260, 3) := dk_187 1 4 (dk_at dksX0_both_0 18 rfl rfl)
theorem dX0_both_21 : decode cX0_both 21 = .ok (.dup, 1) := dk_89 (dk_at dksX0_both_0 21 rfl rfl)
theorem dX0_both_22 : decode cX0_both 22 = .ok (.bipush 38, 2) := dk_16 38 (dk_at dksX0_both_0 22 rfl rfl)
theorem dX0_both_24 : decode cX0_both 24 = .ok (.aload_n 1, 1) := dk_43 (dk_at dksX0_both_1 0 rfl rfl)
theorem dX0_both_25 : decode cX0_both 25 = .ok (.aload_n 0, 1) := dk_42 (dk_at dksX0_both_1 1 rfl rfl)
theorem dX0_both_26 : decode cX0_both 26 = .ok (.invokevirtual 277, 3) := dk_182 1 21 (dk_at dksX0_both_1 2 rfl rfl)
theorem dX0_both_29 : decode cX0_both 29 = .ok (.invokespecial 262, 3) := dk_183 1 6 (dk_at dksX0_both_1 5 rfl rfl)
theorem dX0_both_32 : decode cX0_both 32 = .ok (.astore_n 1, 1) := dk_76 (dk_at dksX0_both_1 8 rfl rfl)
theorem dX0_both_33 : decode cX0_both 33 = .ok (.goto (-28), 3) := dk_167 255 228 (dk_at dksX0_both_1 9 rfl rfl)
theorem dX0_both_36 : decode cX0_both 36 = .ok (.aload_n 1, 1) := dk_43 (dk_at dksX0_both_1 12 rfl rfl)
theorem dX0_both_37 : decode cX0_both 37 = .ok (.areturn, 1) := dk_176 (dk_at dksX0_both_1 13 rfl rfl)
abbrev cX0_oneOf : ByteArray := prog_1_method_21_code
def yX0_oneOf : MethodName := ⟨RX0, "oneOf", "()LDoughDebts$Term;"⟩
def dkwX0_oneOf_5 : List UInt8 := [146, 61, 42, 182, 0, 246, 187, 1, 4, 89, 28, 43, 42, 182, 1, 36, 183, 1, 6, 176]
abbrev dktX0_oneOf_5 : List UInt8 := dkwX0_oneOf_5 ++ []
def dkwX0_oneOf_4 : List UInt8 := [154, 0, 12, 42, 16, 62, 182, 0, 238, 153, 0, 7, 4, 167, 0, 4, 3, 182, 0, 242, 42, 180, 0, 198]
abbrev dktX0_oneOf_4 : List UInt8 := dkwX0_oneOf_4 ++ dktX0_oneOf_5
def dkwX0_oneOf_3 : List UInt8 := [43, 176, 42, 182, 1, 36, 76, 42, 42, 16, 60, 182, 0, 238, 154, 0, 21, 42, 16, 61, 182, 0, 238]
abbrev dktX0_oneOf_3 : List UInt8 := dkwX0_oneOf_3 ++ dktX0_oneOf_4
def dkwX0_oneOf_2 : List UInt8 := [182, 1, 18, 42, 182, 1, 29, 76, 42, 16, 41, 182, 1, 32, 42, 89, 180, 1, 12, 4, 100, 181, 1, 12]
abbrev dktX0_oneOf_2 : List UInt8 := dkwX0_oneOf_2 ++ dktX0_oneOf_3
def dkwX0_oneOf_1 : List UInt8 := [100, 181, 1, 12, 187, 1, 24, 89, 43, 183, 1, 26, 176, 42, 16, 40, 182, 0, 238, 153, 0, 30, 42]
abbrev dktX0_oneOf_1 : List UInt8 := dkwX0_oneOf_1 ++ dktX0_oneOf_2
def dkwX0_oneOf_0 : List UInt8 := [42, 18, 50, 182, 1, 15, 153, 0, 31, 42, 182, 1, 18, 42, 182, 1, 21, 76, 42, 89, 180, 1, 12, 4]
abbrev dktX0_oneOf_0 : List UInt8 := dkwX0_oneOf_0 ++ dktX0_oneOf_1
theorem dksX0_oneOf_0 : cX0_oneOf.data.toList.drop 0 = dktX0_oneOf_0 := by decide +kernel
theorem dksX0_oneOf_1 : cX0_oneOf.data.toList.drop 24 = dktX0_oneOf_1 := dk_seg dksX0_oneOf_0 24 rfl rfl
theorem dksX0_oneOf_2 : cX0_oneOf.data.toList.drop 47 = dktX0_oneOf_2 := dk_seg dksX0_oneOf_1 23 rfl rfl
theorem dksX0_oneOf_3 : cX0_oneOf.data.toList.drop 71 = dktX0_oneOf_3 := dk_seg dksX0_oneOf_2 24 rfl rfl
theorem dksX0_oneOf_4 : cX0_oneOf.data.toList.drop 94 = dktX0_oneOf_4 := dk_seg dksX0_oneOf_3 23 rfl rfl
theorem dksX0_oneOf_5 : cX0_oneOf.data.toList.drop 118 = dktX0_oneOf_5 := dk_seg dksX0_oneOf_4 24 rfl rfl
theorem dX0_oneOf_0 : decode cX0_oneOf 0 = .ok (.aload_n 0, 1) := dk_42 (dk_at dksX0_oneOf_0 0 rfl rfl)
theorem dX0_oneOf_1 : decode cX0_oneOf 1 = .ok (.ldc 50, 2) := dk_18 50 (dk_at dksX0_oneOf_0 1 rfl rfl)
theorem dX0_oneOf_3 : decode cX0_oneOf 3 = .ok (.invokevirtual 271, 3) := dk_182 1 15 (dk_at dksX0_oneOf_0 3 rfl rfl)
theorem dX0_oneOf_6 : decode cX0_oneOf 6 = .ok (.ifCond .eq 31, 3) := dk_153 0 31 (dk_at dksX0_oneOf_0 6 rfl rfl)
theorem dX0_oneOf_9 : decode cX0_oneOf 9 = .ok (.aload_n 0, 1) := dk_42 (dk_at dksX0_oneOf_0 9 rfl rfl)
theorem dX0_oneOf_10 : decode cX0_oneOf 10 = .ok (.invokevirtual 274, 3) := dk_182 1 18 (dk_at dksX0_oneOf_0 10 rfl rfl)
theorem dX0_oneOf_13 : decode cX0_oneOf 13 = .ok (.aload_n 0, 1) := dk_42 (dk_at dksX0_oneOf_0 13 rfl rfl)
theorem dX0_oneOf_14 : decode cX0_oneOf 14 = .ok (.invokevirtual 277, 3) := dk_182 1 21 (dk_at dksX0_oneOf_0 14 rfl rfl)
theorem dX0_oneOf_17 : decode cX0_oneOf 17 = .ok (.astore_n 1, 1) := dk_76 (dk_at dksX0_oneOf_0 17 rfl rfl)
theorem dX0_oneOf_18 : decode cX0_oneOf 18 = .ok (.aload_n 0, 1) := dk_42 (dk_at dksX0_oneOf_0 18 rfl rfl)
theorem dX0_oneOf_19 : decode cX0_oneOf 19 = .ok (.dup, 1) := dk_89 (dk_at dksX0_oneOf_0 19 rfl rfl)
theorem dX0_oneOf_20 : decode cX0_oneOf 20 = .ok (.getfield 268, 3) := dk_180 1 12 (dk_at dksX0_oneOf_0 20 rfl rfl)
theorem dX0_oneOf_23 : decode cX0_oneOf 23 = .ok (.iconst 1, 1) := dk_4 (dk_at dksX0_oneOf_0 23 rfl rfl)
theorem dX0_oneOf_24 : decode cX0_oneOf 24 = .ok (.isub, 1) := dk_100 (dk_at dksX0_oneOf_1 0 rfl rfl)
theorem dX0_oneOf_25 : decode cX0_oneOf 25 = .ok (.putfield 268, 3) := dk_181 1 12 (dk_at dksX0_oneOf_1 1 rfl rfl)
theorem dX0_oneOf_28 : decode cX0_oneOf 28 = .ok (.new 280, 3) := dk_187 1 24 (dk_at dksX0_oneOf_1 4 rfl rfl)
theorem dX0_oneOf_31 : decode cX0_oneOf 31 = .ok (.dup, 1) := dk_89 (dk_at dksX0_oneOf_1 7 rfl rfl)
theorem dX0_oneOf_32 : decode cX0_oneOf 32 = .ok (.aload_n 1, 1) := dk_43 (dk_at dksX0_oneOf_1 8 rfl rfl)
theorem dX0_oneOf_33 : decode cX0_oneOf 33 = .ok (.invokespecial 282, 3) := dk_183 1 26 (dk_at dksX0_oneOf_1 9 rfl rfl)
theorem dX0_oneOf_36 : decode cX0_oneOf 36 = .ok (.areturn, 1) := dk_176 (dk_at dksX0_oneOf_1 12 rfl rfl)
theorem dX0_oneOf_37 : decode cX0_oneOf 37 = .ok (.aload_n 0, 1) := dk_42 (dk_at dksX0_oneOf_1 13 rfl rfl)
theorem dX0_oneOf_38 : decode cX0_oneOf 38 = .ok (.bipush 40, 2) := dk_16 40 (dk_at dksX0_oneOf_1 14 rfl rfl)
theorem dX0_oneOf_40 : decode cX0_oneOf 40 = .ok (.invokevirtual 238, 3) := dk_182 0 238 (dk_at dksX0_oneOf_1 16 rfl rfl)
theorem dX0_oneOf_43 : decode cX0_oneOf 43 = .ok (.ifCond .eq 30, 3) := dk_153 0 30 (dk_at dksX0_oneOf_1 19 rfl rfl)
theorem dX0_oneOf_46 : decode cX0_oneOf 46 = .ok (.aload_n 0, 1) := dk_42 (dk_at dksX0_oneOf_1 22 rfl rfl)
theorem dX0_oneOf_47 : decode cX0_oneOf 47 = .ok (.invokevirtual 274, 3) := dk_182 1 18 (dk_at dksX0_oneOf_2 0 rfl rfl)
theorem dX0_oneOf_50 : decode cX0_oneOf 50 = .ok (.aload_n 0, 1) := dk_42 (dk_at dksX0_oneOf_2 3 rfl rfl)
theorem dX0_oneOf_51 : decode cX0_oneOf 51 = .ok (.invokevirtual 285, 3) := dk_182 1 29 (dk_at dksX0_oneOf_2 4 rfl rfl)
theorem dX0_oneOf_54 : decode cX0_oneOf 54 = .ok (.astore_n 1, 1) := dk_76 (dk_at dksX0_oneOf_2 7 rfl rfl)
theorem dX0_oneOf_55 : decode cX0_oneOf 55 = .ok (.aload_n 0, 1) := dk_42 (dk_at dksX0_oneOf_2 8 rfl rfl)
theorem dX0_oneOf_56 : decode cX0_oneOf 56 = .ok (.bipush 41, 2) := dk_16 41 (dk_at dksX0_oneOf_2 9 rfl rfl)
theorem dX0_oneOf_58 : decode cX0_oneOf 58 = .ok (.invokevirtual 288, 3) := dk_182 1 32 (dk_at dksX0_oneOf_2 11 rfl rfl)
theorem dX0_oneOf_61 : decode cX0_oneOf 61 = .ok (.aload_n 0, 1) := dk_42 (dk_at dksX0_oneOf_2 14 rfl rfl)
theorem dX0_oneOf_62 : decode cX0_oneOf 62 = .ok (.dup, 1) := dk_89 (dk_at dksX0_oneOf_2 15 rfl rfl)
theorem dX0_oneOf_63 : decode cX0_oneOf 63 = .ok (.getfield 268, 3) := dk_180 1 12 (dk_at dksX0_oneOf_2 16 rfl rfl)
theorem dX0_oneOf_66 : decode cX0_oneOf 66 = .ok (.iconst 1, 1) := dk_4 (dk_at dksX0_oneOf_2 19 rfl rfl)
theorem dX0_oneOf_67 : decode cX0_oneOf 67 = .ok (.isub, 1) := dk_100 (dk_at dksX0_oneOf_2 20 rfl rfl)
theorem dX0_oneOf_68 : decode cX0_oneOf 68 = .ok (.putfield 268, 3) := dk_181 1 12 (dk_at dksX0_oneOf_2 21 rfl rfl)
theorem dX0_oneOf_71 : decode cX0_oneOf 71 = .ok (.aload_n 1, 1) := dk_43 (dk_at dksX0_oneOf_3 0 rfl rfl)
theorem dX0_oneOf_72 : decode cX0_oneOf 72 = .ok (.areturn, 1) := dk_176 (dk_at dksX0_oneOf_3 1 rfl rfl)
theorem dX0_oneOf_73 : decode cX0_oneOf 73 = .ok (.aload_n 0, 1) := dk_42 (dk_at dksX0_oneOf_3 2 rfl rfl)
theorem dX0_oneOf_74 : decode cX0_oneOf 74 = .ok (.invokevirtual 292, 3) := dk_182 1 36 (dk_at dksX0_oneOf_3 3 rfl rfl)
theorem dX0_oneOf_77 : decode cX0_oneOf 77 = .ok (.astore_n 1, 1) := dk_76 (dk_at dksX0_oneOf_3 6 rfl rfl)
theorem dX0_oneOf_78 : decode cX0_oneOf 78 = .ok (.aload_n 0, 1) := dk_42 (dk_at dksX0_oneOf_3 7 rfl rfl)
theorem dX0_oneOf_79 : decode cX0_oneOf 79 = .ok (.aload_n 0, 1) := dk_42 (dk_at dksX0_oneOf_3 8 rfl rfl)
theorem dX0_oneOf_80 : decode cX0_oneOf 80 = .ok (.bipush 60, 2) := dk_16 60 (dk_at dksX0_oneOf_3 9 rfl rfl)
theorem dX0_oneOf_82 : decode cX0_oneOf 82 = .ok (.invokevirtual 238, 3) := dk_182 0 238 (dk_at dksX0_oneOf_3 11 rfl rfl)
theorem dX0_oneOf_85 : decode cX0_oneOf 85 = .ok (.ifCond .ne 21, 3) := dk_154 0 21 (dk_at dksX0_oneOf_3 14 rfl rfl)
theorem dX0_oneOf_88 : decode cX0_oneOf 88 = .ok (.aload_n 0, 1) := dk_42 (dk_at dksX0_oneOf_3 17 rfl rfl)
theorem dX0_oneOf_89 : decode cX0_oneOf 89 = .ok (.bipush 61, 2) := dk_16 61 (dk_at dksX0_oneOf_3 18 rfl rfl)
theorem dX0_oneOf_91 : decode cX0_oneOf 91 = .ok (.invokevirtual 238, 3) := dk_182 0 238 (dk_at dksX0_oneOf_3 20 rfl rfl)
theorem dX0_oneOf_94 : decode cX0_oneOf 94 = .ok (.ifCond .ne 12, 3) := dk_154 0 12 (dk_at dksX0_oneOf_4 0 rfl rfl)
theorem dX0_oneOf_97 : decode cX0_oneOf 97 = .ok (.aload_n 0, 1) := dk_42 (dk_at dksX0_oneOf_4 3 rfl rfl)
theorem dX0_oneOf_98 : decode cX0_oneOf 98 = .ok (.bipush 62, 2) := dk_16 62 (dk_at dksX0_oneOf_4 4 rfl rfl)
theorem dX0_oneOf_100 : decode cX0_oneOf 100 = .ok (.invokevirtual 238, 3) := dk_182 0 238 (dk_at dksX0_oneOf_4 6 rfl rfl)
theorem dX0_oneOf_103 : decode cX0_oneOf 103 = .ok (.ifCond .eq 7, 3) := dk_153 0 7 (dk_at dksX0_oneOf_4 9 rfl rfl)
theorem dX0_oneOf_106 : decode cX0_oneOf 106 = .ok (.iconst 1, 1) := dk_4 (dk_at dksX0_oneOf_4 12 rfl rfl)
theorem dX0_oneOf_107 : decode cX0_oneOf 107 = .ok (.goto 4, 3) := dk_167 0 4 (dk_at dksX0_oneOf_4 13 rfl rfl)
theorem dX0_oneOf_110 : decode cX0_oneOf 110 = .ok (.iconst 0, 1) := dk_3 (dk_at dksX0_oneOf_4 16 rfl rfl)
theorem dX0_oneOf_111 : decode cX0_oneOf 111 = .ok (.invokevirtual 242, 3) := dk_182 0 242 (dk_at dksX0_oneOf_4 17 rfl rfl)
theorem dX0_oneOf_114 : decode cX0_oneOf 114 = .ok (.aload_n 0, 1) := dk_42 (dk_at dksX0_oneOf_4 20 rfl rfl)
theorem dX0_oneOf_115 : decode cX0_oneOf 115 = .ok (.getfield 198, 3) := dk_180 0 198 (dk_at dksX0_oneOf_4 21 rfl rfl)
theorem dX0_oneOf_118 : decode cX0_oneOf 118 = .ok (.i2c, 1) := dk_146 (dk_at dksX0_oneOf_5 0 rfl rfl)
theorem dX0_oneOf_119 : decode cX0_oneOf 119 = .ok (.istore_n 2, 1) := dk_61 (dk_at dksX0_oneOf_5 1 rfl rfl)
theorem dX0_oneOf_120 : decode cX0_oneOf 120 = .ok (.aload_n 0, 1) := dk_42 (dk_at dksX0_oneOf_5 2 rfl rfl)
theorem dX0_oneOf_121 : decode cX0_oneOf 121 = .ok (.invokevirtual 246, 3) := dk_182 0 246 (dk_at dksX0_oneOf_5 3 rfl rfl)
theorem dX0_oneOf_124 : decode cX0_oneOf 124 = .ok (.new 260, 3) := dk_187 1 4 (dk_at dksX0_oneOf_5 6 rfl rfl)
theorem dX0_oneOf_127 : decode cX0_oneOf 127 = .ok (.dup, 1) := dk_89 (dk_at dksX0_oneOf_5 9 rfl rfl)
theorem dX0_oneOf_128 : decode cX0_oneOf 128 = .ok (.iload_n 2, 1) := dk_28 (dk_at dksX0_oneOf_5 10 rfl rfl)
theorem dX0_oneOf_129 : decode cX0_oneOf 129 = .ok (.aload_n 1, 1) := dk_43 (dk_at dksX0_oneOf_5 11 rfl rfl)
theorem dX0_oneOf_130 : decode cX0_oneOf 130 = .ok (.aload_n 0, 1) := dk_42 (dk_at dksX0_oneOf_5 12 rfl rfl)
theorem dX0_oneOf_131 : decode cX0_oneOf 131 = .ok (.invokevirtual 292, 3) := dk_182 1 36 (dk_at dksX0_oneOf_5 13 rfl rfl)
theorem dX0_oneOf_134 : decode cX0_oneOf 134 = .ok (.invokespecial 262, 3) := dk_183 1 6 (dk_at dksX0_oneOf_5 16 rfl rfl)
theorem dX0_oneOf_137 : decode cX0_oneOf 137 = .ok (.areturn, 1) := dk_176 (dk_at dksX0_oneOf_5 19 rfl rfl)
abbrev cX0_opens : ByteArray := prog_1_method_20_code
def yX0_opens : MethodName := ⟨RX0, "opens", "()V"⟩
def dkwX0_opens_1 : List UInt8 := [180, 1, 12, 4, 96, 181, 1, 12, 42, 182, 0, 246, 177]
abbrev dktX0_opens_1 : List UInt8 := dkwX0_opens_1 ++ []
def dkwX0_opens_0 : List UInt8 := [42, 180, 1, 12, 16, 8, 160, 0, 16, 187, 0, 233, 89, 6, 42, 180, 0, 171, 183, 0, 235, 191, 42, 89]
abbrev dktX0_opens_0 : List UInt8 := dkwX0_opens_0 ++ dktX0_opens_1
theorem dksX0_opens_0 : cX0_opens.data.toList.drop 0 = dktX0_opens_0 := by decide +kernel
theorem dksX0_opens_1 : cX0_opens.data.toList.drop 24 = dktX0_opens_1 := dk_seg dksX0_opens_0 24 rfl rfl
theorem dX0_opens_0 : decode cX0_opens 0 = .ok (.aload_n 0, 1) := dk_42 (dk_at dksX0_opens_0 0 rfl rfl)
theorem dX0_opens_1 : decode cX0_opens 1 = .ok (.getfield 268, 3) := dk_180 1 12 (dk_at dksX0_opens_0 1 rfl rfl)
theorem dX0_opens_4 : decode cX0_opens 4 = .ok (.bipush 8, 2) := dk_16 8 (dk_at dksX0_opens_0 4 rfl rfl)
theorem dX0_opens_6 : decode cX0_opens 6 = .ok (.if_icmp .ne 16, 3) := dk_160 0 16 (dk_at dksX0_opens_0 6 rfl rfl)
theorem dX0_opens_9 : decode cX0_opens 9 = .ok (.new 233, 3) := dk_187 0 233 (dk_at dksX0_opens_0 9 rfl rfl)
theorem dX0_opens_12 : decode cX0_opens 12 = .ok (.dup, 1) := dk_89 (dk_at dksX0_opens_0 12 rfl rfl)
theorem dX0_opens_13 : decode cX0_opens 13 = .ok (.iconst 3, 1) := dk_6 (dk_at dksX0_opens_0 13 rfl rfl)
theorem dX0_opens_14 : decode cX0_opens 14 = .ok (.aload_n 0, 1) := dk_42 (dk_at dksX0_opens_0 14 rfl rfl)
theorem dX0_opens_15 : decode cX0_opens 15 = .ok (.getfield 171, 3) := dk_180 0 171 (dk_at dksX0_opens_0 15 rfl rfl)
theorem dX0_opens_18 : decode cX0_opens 18 = .ok (.invokespecial 235, 3) := dk_183 0 235 (dk_at dksX0_opens_0 18 rfl rfl)
theorem dX0_opens_21 : decode cX0_opens 21 = .ok (.athrow, 1) := dk_191 (dk_at dksX0_opens_0 21 rfl rfl)
theorem dX0_opens_22 : decode cX0_opens 22 = .ok (.aload_n 0, 1) := dk_42 (dk_at dksX0_opens_0 22 rfl rfl)
theorem dX0_opens_23 : decode cX0_opens 23 = .ok (.dup, 1) := dk_89 (dk_at dksX0_opens_0 23 rfl rfl)
theorem dX0_opens_24 : decode cX0_opens 24 = .ok (.getfield 268, 3) := dk_180 1 12 (dk_at dksX0_opens_1 0 rfl rfl)
theorem dX0_opens_27 : decode cX0_opens 27 = .ok (.iconst 1, 1) := dk_4 (dk_at dksX0_opens_1 3 rfl rfl)
theorem dX0_opens_28 : decode cX0_opens 28 = .ok (.iadd, 1) := dk_96 (dk_at dksX0_opens_1 4 rfl rfl)
theorem dX0_opens_29 : decode cX0_opens 29 = .ok (.putfield 268, 3) := dk_181 1 12 (dk_at dksX0_opens_1 5 rfl rfl)
theorem dX0_opens_32 : decode cX0_opens 32 = .ok (.aload_n 0, 1) := dk_42 (dk_at dksX0_opens_1 8 rfl rfl)
theorem dX0_opens_33 : decode cX0_opens 33 = .ok (.invokevirtual 246, 3) := dk_182 0 246 (dk_at dksX0_opens_1 9 rfl rfl)
theorem dX0_opens_36 : decode cX0_opens 36 = .ok (.return_, 1) := dk_177 (dk_at dksX0_opens_1 12 rfl rfl)
abbrev cX0_takesSign : ByteArray := prog_1_method_16_code
def yX0_takesSign : MethodName := ⟨RX0, "takesSign", "(C)V"⟩
def dkwX0_takesSign_0 : List UInt8 := [42, 42, 27, 182, 0, 238, 182, 0, 242, 42, 182, 0, 246, 177]
abbrev dktX0_takesSign_0 : List UInt8 := dkwX0_takesSign_0 ++ []
theorem dksX0_takesSign_0 : cX0_takesSign.data.toList.drop 0 = dktX0_takesSign_0 := by decide +kernel
theorem dX0_takesSign_0 : decode cX0_takesSign 0 = .ok (.aload_n 0, 1) := dk_42 (dk_at dksX0_takesSign_0 0 rfl rfl)
theorem dX0_takesSign_1 : decode cX0_takesSign 1 = .ok (.aload_n 0, 1) := dk_42 (dk_at dksX0_takesSign_0 1 rfl rfl)
theorem dX0_takesSign_2 : decode cX0_takesSign 2 = .ok (.iload_n 1, 1) := dk_27 (dk_at dksX0_takesSign_0 2 rfl rfl)
theorem dX0_takesSign_3 : decode cX0_takesSign 3 = .ok (.invokevirtual 238, 3) := dk_182 0 238 (dk_at dksX0_takesSign_0 3 rfl rfl)
theorem dX0_takesSign_6 : decode cX0_takesSign 6 = .ok (.invokevirtual 242, 3) := dk_182 0 242 (dk_at dksX0_takesSign_0 6 rfl rfl)
theorem dX0_takesSign_9 : decode cX0_takesSign 9 = .ok (.aload_n 0, 1) := dk_42 (dk_at dksX0_takesSign_0 9 rfl rfl)
theorem dX0_takesSign_10 : decode cX0_takesSign 10 = .ok (.invokevirtual 246, 3) := dk_182 0 246 (dk_at dksX0_takesSign_0 10 rfl rfl)
theorem dX0_takesSign_13 : decode cX0_takesSign 13 = .ok (.return_, 1) := dk_177 (dk_at dksX0_takesSign_0 13 rfl rfl)
abbrev cX0_fault : ByteArray := prog_1_method_26_code
def yX0_fault : MethodName := ⟨RX0, "fault", "(I)I"⟩
def dkwX0_fault_1 : List UInt8 := [172]
abbrev dktX0_fault_1 : List UInt8 := dkwX0_fault_1 ++ []
def dkwX0_fault_0 : List UInt8 := [27, 154, 0, 10, 42, 180, 1, 50, 167, 0, 16, 27, 4, 160, 0, 10, 42, 180, 0, 55, 167, 0, 4, 2]
abbrev dktX0_fault_0 : List UInt8 := dkwX0_fault_0 ++ dktX0_fault_1
theorem dksX0_fault_0 : cX0_fault.data.toList.drop 0 = dktX0_fault_0 := by decide +kernel
theorem dksX0_fault_1 : cX0_fault.data.toList.drop 24 = dktX0_fault_1 := dk_seg dksX0_fault_0 24 rfl rfl
theorem dX0_fault_0 : decode cX0_fault 0 = .ok (.iload_n 1, 1) := dk_27 (dk_at dksX0_fault_0 0 rfl rfl)
theorem dX0_fault_1 : decode cX0_fault 1 = .ok (.ifCond .ne 10, 3) := dk_154 0 10 (dk_at dksX0_fault_0 1 rfl rfl)
theorem dX0_fault_4 : decode cX0_fault 4 = .ok (.aload_n 0, 1) := dk_42 (dk_at dksX0_fault_0 4 rfl rfl)
theorem dX0_fault_5 : decode cX0_fault 5 = .ok (.getfield 306, 3) := dk_180 1 50 (dk_at dksX0_fault_0 5 rfl rfl)
theorem dX0_fault_8 : decode cX0_fault 8 = .ok (.goto 16, 3) := dk_167 0 16 (dk_at dksX0_fault_0 8 rfl rfl)
theorem dX0_fault_11 : decode cX0_fault 11 = .ok (.iload_n 1, 1) := dk_27 (dk_at dksX0_fault_0 11 rfl rfl)
theorem dX0_fault_12 : decode cX0_fault 12 = .ok (.iconst 1, 1) := dk_4 (dk_at dksX0_fault_0 12 rfl rfl)
theorem dX0_fault_13 : decode cX0_fault 13 = .ok (.if_icmp .ne 10, 3) := dk_160 0 10 (dk_at dksX0_fault_0 13 rfl rfl)
theorem dX0_fault_16 : decode cX0_fault 16 = .ok (.aload_n 0, 1) := dk_42 (dk_at dksX0_fault_0 16 rfl rfl)
theorem dX0_fault_17 : decode cX0_fault 17 = .ok (.getfield 55, 3) := dk_180 0 55 (dk_at dksX0_fault_0 17 rfl rfl)
theorem dX0_fault_20 : decode cX0_fault 20 = .ok (.goto 4, 3) := dk_167 0 4 (dk_at dksX0_fault_0 20 rfl rfl)
theorem dX0_fault_23 : decode cX0_fault 23 = .ok (.iconst (-1), 1) := dk_2 (dk_at dksX0_fault_0 23 rfl rfl)
theorem dX0_fault_24 : decode cX0_fault 24 = .ok (.ireturn, 1) := dk_172 (dk_at dksX0_fault_1 0 rfl rfl)
abbrev cX0_state : ByteArray := prog_1_method_29_code
def yX0_state : MethodName := ⟨RX0, "state", "(I)I"⟩
def dkwX0_state_0 : List UInt8 := [42, 180, 0, 82, 180, 1, 72, 61, 42, 180, 0, 82, 27, 181, 1, 72, 28, 172]
abbrev dktX0_state_0 : List UInt8 := dkwX0_state_0 ++ []
theorem dksX0_state_0 : cX0_state.data.toList.drop 0 = dktX0_state_0 := by decide +kernel
theorem dX0_state_0 : decode cX0_state 0 = .ok (.aload_n 0, 1) := dk_42 (dk_at dksX0_state_0 0 rfl rfl)
theorem dX0_state_1 : decode cX0_state 1 = .ok (.getfield 82, 3) := dk_180 0 82 (dk_at dksX0_state_0 1 rfl rfl)
theorem dX0_state_4 : decode cX0_state 4 = .ok (.getfield 328, 3) := dk_180 1 72 (dk_at dksX0_state_0 4 rfl rfl)
theorem dX0_state_7 : decode cX0_state 7 = .ok (.istore_n 2, 1) := dk_61 (dk_at dksX0_state_0 7 rfl rfl)
theorem dX0_state_8 : decode cX0_state 8 = .ok (.aload_n 0, 1) := dk_42 (dk_at dksX0_state_0 8 rfl rfl)
theorem dX0_state_9 : decode cX0_state 9 = .ok (.getfield 82, 3) := dk_180 0 82 (dk_at dksX0_state_0 9 rfl rfl)
theorem dX0_state_12 : decode cX0_state 12 = .ok (.iload_n 1, 1) := dk_27 (dk_at dksX0_state_0 12 rfl rfl)
theorem dX0_state_13 : decode cX0_state 13 = .ok (.putfield 328, 3) := dk_181 1 72 (dk_at dksX0_state_0 13 rfl rfl)
theorem dX0_state_16 : decode cX0_state 16 = .ok (.iload_n 2, 1) := dk_28 (dk_at dksX0_state_0 16 rfl rfl)
theorem dX0_state_17 : decode cX0_state 17 = .ok (.ireturn, 1) := dk_172 (dk_at dksX0_state_0 17 rfl rfl)
abbrev cX0_undo : ByteArray := prog_1_method_32_code
def yX0_undo : MethodName := ⟨RX0, "undo", "()Z"⟩
def dkwX0_undo_1 : List UInt8 := [180, 0, 89, 42, 180, 1, 75, 50, 182, 1, 78, 4, 172]
abbrev dktX0_undo_1 : List UInt8 := dkwX0_undo_1 ++ []
def dkwX0_undo_0 : List UInt8 := [42, 180, 1, 75, 154, 0, 5, 3, 172, 42, 89, 180, 1, 75, 4, 100, 181, 1, 75, 42, 180, 0, 82, 42]
abbrev dktX0_undo_0 : List UInt8 := dkwX0_undo_0 ++ dktX0_undo_1
theorem dksX0_undo_0 : cX0_undo.data.toList.drop 0 = dktX0_undo_0 := by decide +kernel
theorem dksX0_undo_1 : cX0_undo.data.toList.drop 24 = dktX0_undo_1 := dk_seg dksX0_undo_0 24 rfl rfl
theorem dX0_undo_0 : decode cX0_undo 0 = .ok (.aload_n 0, 1) := dk_42 (dk_at dksX0_undo_0 0 rfl rfl)
theorem dX0_undo_1 : decode cX0_undo 1 = .ok (.getfield 331, 3) := dk_180 1 75 (dk_at dksX0_undo_0 1 rfl rfl)
theorem dX0_undo_4 : decode cX0_undo 4 = .ok (.ifCond .ne 5, 3) := dk_154 0 5 (dk_at dksX0_undo_0 4 rfl rfl)
theorem dX0_undo_7 : decode cX0_undo 7 = .ok (.iconst 0, 1) := dk_3 (dk_at dksX0_undo_0 7 rfl rfl)
theorem dX0_undo_8 : decode cX0_undo 8 = .ok (.ireturn, 1) := dk_172 (dk_at dksX0_undo_0 8 rfl rfl)
theorem dX0_undo_9 : decode cX0_undo 9 = .ok (.aload_n 0, 1) := dk_42 (dk_at dksX0_undo_0 9 rfl rfl)
theorem dX0_undo_10 : decode cX0_undo 10 = .ok (.dup, 1) := dk_89 (dk_at dksX0_undo_0 10 rfl rfl)
theorem dX0_undo_11 : decode cX0_undo 11 = .ok (.getfield 331, 3) := dk_180 1 75 (dk_at dksX0_undo_0 11 rfl rfl)
theorem dX0_undo_14 : decode cX0_undo 14 = .ok (.iconst 1, 1) := dk_4 (dk_at dksX0_undo_0 14 rfl rfl)
theorem dX0_undo_15 : decode cX0_undo 15 = .ok (.isub, 1) := dk_100 (dk_at dksX0_undo_0 15 rfl rfl)
theorem dX0_undo_16 : decode cX0_undo 16 = .ok (.putfield 331, 3) := dk_181 1 75 (dk_at dksX0_undo_0 16 rfl rfl)
theorem dX0_undo_19 : decode cX0_undo 19 = .ok (.aload_n 0, 1) := dk_42 (dk_at dksX0_undo_0 19 rfl rfl)
theorem dX0_undo_20 : decode cX0_undo 20 = .ok (.getfield 82, 3) := dk_180 0 82 (dk_at dksX0_undo_0 20 rfl rfl)
theorem dX0_undo_23 : decode cX0_undo 23 = .ok (.aload_n 0, 1) := dk_42 (dk_at dksX0_undo_0 23 rfl rfl)
theorem dX0_undo_24 : decode cX0_undo 24 = .ok (.getfield 89, 3) := dk_180 0 89 (dk_at dksX0_undo_1 0 rfl rfl)
theorem dX0_undo_27 : decode cX0_undo 27 = .ok (.aload_n 0, 1) := dk_42 (dk_at dksX0_undo_1 3 rfl rfl)
theorem dX0_undo_28 : decode cX0_undo 28 = .ok (.getfield 331, 3) := dk_180 1 75 (dk_at dksX0_undo_1 4 rfl rfl)
theorem dX0_undo_31 : decode cX0_undo 31 = .ok (.aaload, 1) := dk_50 (dk_at dksX0_undo_1 7 rfl rfl)
theorem dX0_undo_32 : decode cX0_undo 32 = .ok (.invokevirtual 334, 3) := dk_182 1 78 (dk_at dksX0_undo_1 8 rfl rfl)
theorem dX0_undo_35 : decode cX0_undo 35 = .ok (.iconst 1, 1) := dk_4 (dk_at dksX0_undo_1 11 rfl rfl)
theorem dX0_undo_36 : decode cX0_undo 36 = .ok (.ireturn, 1) := dk_172 (dk_at dksX0_undo_1 12 rfl rfl)
abbrev cX0_copies : ByteArray := prog_1_method_27_code
def yX0_copies : MethodName := ⟨RX0, "copies", "([I[I)V"⟩
def dkwX0_copies_0 : List UInt8 := [42, 3, 43, 3, 42, 190, 184, 1, 63, 177]
abbrev dktX0_copies_0 : List UInt8 := dkwX0_copies_0 ++ []
theorem dksX0_copies_0 : cX0_copies.data.toList.drop 0 = dktX0_copies_0 := by decide +kernel
theorem dX0_copies_0 : decode cX0_copies 0 = .ok (.aload_n 0, 1) := dk_42 (dk_at dksX0_copies_0 0 rfl rfl)
theorem dX0_copies_1 : decode cX0_copies 1 = .ok (.iconst 0, 1) := dk_3 (dk_at dksX0_copies_0 1 rfl rfl)
theorem dX0_copies_2 : decode cX0_copies 2 = .ok (.aload_n 1, 1) := dk_43 (dk_at dksX0_copies_0 2 rfl rfl)
theorem dX0_copies_3 : decode cX0_copies 3 = .ok (.iconst 0, 1) := dk_3 (dk_at dksX0_copies_0 3 rfl rfl)
theorem dX0_copies_4 : decode cX0_copies 4 = .ok (.aload_n 0, 1) := dk_42 (dk_at dksX0_copies_0 4 rfl rfl)
theorem dX0_copies_5 : decode cX0_copies 5 = .ok (.arraylength, 1) := dk_190 (dk_at dksX0_copies_0 5 rfl rfl)
theorem dX0_copies_6 : decode cX0_copies 6 = .ok (.invokestatic 319, 3) := dk_184 1 63 (dk_at dksX0_copies_0 6 rfl rfl)
theorem dX0_copies_9 : decode cX0_copies 9 = .ok (.return_, 1) := dk_177 (dk_at dksX0_copies_0 9 rfl rfl)
abbrev cX0_house : ByteArray := prog_1_method_34_code
def yX0_house : MethodName := ⟨RX0, "house", "(III)I"⟩
def dkwX0_house_4 : List UInt8 := [182, 1, 95, 42, 180, 1, 69, 4, 100, 172]
abbrev dktX0_house_4 : List UInt8 := dkwX0_house_4 ++ []
def dkwX0_house_3 : List UInt8 := [187, 0, 66, 89, 27, 28, 29, 25, 4, 183, 1, 92, 83, 42, 89, 180, 1, 69, 4, 96, 181, 1, 69, 42]
abbrev dktX0_house_3 : List UInt8 := dkwX0_house_3 ++ dktX0_house_4
def dkwX0_house_2 : List UInt8 := [153, 0, 12, 42, 180, 1, 69, 16, 9, 160, 0, 5, 2, 172, 42, 180, 0, 68, 42, 180, 1, 69]
abbrev dktX0_house_2 : List UInt8 := dkwX0_house_2 ++ dktX0_house_3
def dkwX0_house_1 : List UInt8 := [184, 0, 160, 153, 0, 33, 28, 4, 17, 3, 231, 184, 0, 160, 153, 0, 22, 29, 4, 16, 99, 184, 0, 160]
abbrev dktX0_house_1 : List UInt8 := dkwX0_house_1 ++ dktX0_house_2
def dkwX0_house_0 : List UInt8 := [42, 4, 8, 16, 97, 16, 104, 182, 1, 88, 58, 4, 25, 4, 198, 0, 44, 27, 3, 17, 3, 231]
abbrev dktX0_house_0 : List UInt8 := dkwX0_house_0 ++ dktX0_house_1
theorem dksX0_house_0 : cX0_house.data.toList.drop 0 = dktX0_house_0 := by decide +kernel
theorem dksX0_house_1 : cX0_house.data.toList.drop 22 = dktX0_house_1 := dk_seg dksX0_house_0 22 rfl rfl
theorem dksX0_house_2 : cX0_house.data.toList.drop 46 = dktX0_house_2 := dk_seg dksX0_house_1 24 rfl rfl
theorem dksX0_house_3 : cX0_house.data.toList.drop 68 = dktX0_house_3 := dk_seg dksX0_house_2 22 rfl rfl
theorem dksX0_house_4 : cX0_house.data.toList.drop 92 = dktX0_house_4 := dk_seg dksX0_house_3 24 rfl rfl
theorem dX0_house_0 : decode cX0_house 0 = .ok (.aload_n 0, 1) := dk_42 (dk_at dksX0_house_0 0 rfl rfl)
theorem dX0_house_1 : decode cX0_house 1 = .ok (.iconst 1, 1) := dk_4 (dk_at dksX0_house_0 1 rfl rfl)
theorem dX0_house_2 : decode cX0_house 2 = .ok (.iconst 5, 1) := dk_8 (dk_at dksX0_house_0 2 rfl rfl)
theorem dX0_house_3 : decode cX0_house 3 = .ok (.bipush 97, 2) := dk_16 97 (dk_at dksX0_house_0 3 rfl rfl)
theorem dX0_house_5 : decode cX0_house 5 = .ok (.bipush 104, 2) := dk_16 104 (dk_at dksX0_house_0 5 rfl rfl)
theorem dX0_house_7 : decode cX0_house 7 = .ok (.invokevirtual 344, 3) := dk_182 1 88 (dk_at dksX0_house_0 7 rfl rfl)
theorem dX0_house_10 : decode cX0_house 10 = .ok (.astore 4, 2) := dk_58 4 (dk_at dksX0_house_0 10 rfl rfl)
theorem dX0_house_12 : decode cX0_house 12 = .ok (.aload 4, 2) := dk_25 4 (dk_at dksX0_house_0 12 rfl rfl)
theorem dX0_house_14 : decode cX0_house 14 = .ok (.ifnull 44, 3) := dk_198 0 44 (dk_at dksX0_house_0 14 rfl rfl)
theorem dX0_house_17 : decode cX0_house 17 = .ok (.iload_n 1, 1) := dk_27 (dk_at dksX0_house_0 17 rfl rfl)
theorem dX0_house_18 : decode cX0_house 18 = .ok (.iconst 0, 1) := dk_3 (dk_at dksX0_house_0 18 rfl rfl)
theorem dX0_house_19 : decode cX0_house 19 = .ok (.sipush 999, 3) := dk_17 3 231 (dk_at dksX0_house_0 19 rfl rfl)
theorem dX0_house_22 : decode cX0_house 22 = .ok (.invokestatic 160, 3) := dk_184 0 160 (dk_at dksX0_house_1 0 rfl rfl)
theorem dX0_house_25 : decode cX0_house 25 = .ok (.ifCond .eq 33, 3) := dk_153 0 33 (dk_at dksX0_house_1 3 rfl rfl)
theorem dX0_house_28 : decode cX0_house 28 = .ok (.iload_n 2, 1) := dk_28 (dk_at dksX0_house_1 6 rfl rfl)
theorem dX0_house_29 : decode cX0_house 29 = .ok (.iconst 1, 1) := dk_4 (dk_at dksX0_house_1 7 rfl rfl)
theorem dX0_house_30 : decode cX0_house 30 = .ok (.sipush 999, 3) := dk_17 3 231 (dk_at dksX0_house_1 8 rfl rfl)
theorem dX0_house_33 : decode cX0_house 33 = .ok (.invokestatic 160, 3) := dk_184 0 160 (dk_at dksX0_house_1 11 rfl rfl)
theorem dX0_house_36 : decode cX0_house 36 = .ok (.ifCond .eq 22, 3) := dk_153 0 22 (dk_at dksX0_house_1 14 rfl rfl)
theorem dX0_house_39 : decode cX0_house 39 = .ok (.iload_n 3, 1) := dk_29 (dk_at dksX0_house_1 17 rfl rfl)
theorem dX0_house_40 : decode cX0_house 40 = .ok (.iconst 1, 1) := dk_4 (dk_at dksX0_house_1 18 rfl rfl)
theorem dX0_house_41 : decode cX0_house 41 = .ok (.bipush 99, 2) := dk_16 99 (dk_at dksX0_house_1 19 rfl rfl)
theorem dX0_house_43 : decode cX0_house 43 = .ok (.invokestatic 160, 3) := dk_184 0 160 (dk_at dksX0_house_1 21 rfl rfl)
theorem dX0_house_46 : decode cX0_house 46 = .ok (.ifCond .eq 12, 3) := dk_153 0 12 (dk_at dksX0_house_2 0 rfl rfl)
theorem dX0_house_49 : decode cX0_house 49 = .ok (.aload_n 0, 1) := dk_42 (dk_at dksX0_house_2 3 rfl rfl)
theorem dX0_house_50 : decode cX0_house 50 = .ok (.getfield 325, 3) := dk_180 1 69 (dk_at dksX0_house_2 4 rfl rfl)
theorem dX0_house_53 : decode cX0_house 53 = .ok (.bipush 9, 2) := dk_16 9 (dk_at dksX0_house_2 7 rfl rfl)
theorem dX0_house_55 : decode cX0_house 55 = .ok (.if_icmp .ne 5, 3) := dk_160 0 5 (dk_at dksX0_house_2 9 rfl rfl)
theorem dX0_house_58 : decode cX0_house 58 = .ok (.iconst (-1), 1) := dk_2 (dk_at dksX0_house_2 12 rfl rfl)
theorem dX0_house_59 : decode cX0_house 59 = .ok (.ireturn, 1) := dk_172 (dk_at dksX0_house_2 13 rfl rfl)
theorem dX0_house_60 : decode cX0_house 60 = .ok (.aload_n 0, 1) := dk_42 (dk_at dksX0_house_2 14 rfl rfl)
theorem dX0_house_61 : decode cX0_house 61 = .ok (.getfield 68, 3) := dk_180 0 68 (dk_at dksX0_house_2 15 rfl rfl)
theorem dX0_house_64 : decode cX0_house 64 = .ok (.aload_n 0, 1) := dk_42 (dk_at dksX0_house_2 18 rfl rfl)
theorem dX0_house_65 : decode cX0_house 65 = .ok (.getfield 325, 3) := dk_180 1 69 (dk_at dksX0_house_2 19 rfl rfl)
theorem dX0_house_68 : decode cX0_house 68 = .ok (.new 66, 3) := dk_187 0 66 (dk_at dksX0_house_3 0 rfl rfl)
theorem dX0_house_71 : decode cX0_house 71 = .ok (.dup, 1) := dk_89 (dk_at dksX0_house_3 3 rfl rfl)
theorem dX0_house_72 : decode cX0_house 72 = .ok (.iload_n 1, 1) := dk_27 (dk_at dksX0_house_3 4 rfl rfl)
theorem dX0_house_73 : decode cX0_house 73 = .ok (.iload_n 2, 1) := dk_28 (dk_at dksX0_house_3 5 rfl rfl)
theorem dX0_house_74 : decode cX0_house 74 = .ok (.iload_n 3, 1) := dk_29 (dk_at dksX0_house_3 6 rfl rfl)
theorem dX0_house_75 : decode cX0_house 75 = .ok (.aload 4, 2) := dk_25 4 (dk_at dksX0_house_3 7 rfl rfl)
theorem dX0_house_77 : decode cX0_house 77 = .ok (.invokespecial 348, 3) := dk_183 1 92 (dk_at dksX0_house_3 9 rfl rfl)
theorem dX0_house_80 : decode cX0_house 80 = .ok (.aastore, 1) := dk_83 (dk_at dksX0_house_3 12 rfl rfl)
theorem dX0_house_81 : decode cX0_house 81 = .ok (.aload_n 0, 1) := dk_42 (dk_at dksX0_house_3 13 rfl rfl)
theorem dX0_house_82 : decode cX0_house 82 = .ok (.dup, 1) := dk_89 (dk_at dksX0_house_3 14 rfl rfl)
theorem dX0_house_83 : decode cX0_house 83 = .ok (.getfield 325, 3) := dk_180 1 69 (dk_at dksX0_house_3 15 rfl rfl)
theorem dX0_house_86 : decode cX0_house 86 = .ok (.iconst 1, 1) := dk_4 (dk_at dksX0_house_3 18 rfl rfl)
theorem dX0_house_87 : decode cX0_house 87 = .ok (.iadd, 1) := dk_96 (dk_at dksX0_house_3 19 rfl rfl)
theorem dX0_house_88 : decode cX0_house 88 = .ok (.putfield 325, 3) := dk_181 1 69 (dk_at dksX0_house_3 20 rfl rfl)
theorem dX0_house_91 : decode cX0_house 91 = .ok (.aload_n 0, 1) := dk_42 (dk_at dksX0_house_3 23 rfl rfl)
theorem dX0_house_92 : decode cX0_house 92 = .ok (.invokevirtual 351, 3) := dk_182 1 95 (dk_at dksX0_house_4 0 rfl rfl)
theorem dX0_house_95 : decode cX0_house 95 = .ok (.aload_n 0, 1) := dk_42 (dk_at dksX0_house_4 3 rfl rfl)
theorem dX0_house_96 : decode cX0_house 96 = .ok (.getfield 325, 3) := dk_180 1 69 (dk_at dksX0_house_4 4 rfl rfl)
theorem dX0_house_99 : decode cX0_house 99 = .ok (.iconst 1, 1) := dk_4 (dk_at dksX0_house_4 7 rfl rfl)
theorem dX0_house_100 : decode cX0_house 100 = .ok (.isub, 1) := dk_100 (dk_at dksX0_house_4 8 rfl rfl)
theorem dX0_house_101 : decode cX0_house 101 = .ok (.ireturn, 1) := dk_172 (dk_at dksX0_house_4 9 rfl rfl)
abbrev cX0_takesRow : ByteArray := prog_1_method_33_code
def yX0_takesRow : MethodName := ⟨RX0, "takesRow", "(IIII)[B"⟩
def dkwX0_takesRow_4 : List UInt8 := [167, 255, 236, 25, 6, 176]
abbrev dktX0_takesRow_4 : List UInt8 := dkwX0_takesRow_4 ++ []
def dkwX0_takesRow_3 : List UInt8 := [54, 7, 21, 7, 21, 5, 162, 0, 19, 25, 6, 21, 7, 92, 51, 29, 100, 145, 84, 132, 7, 1]
abbrev dktX0_takesRow_3 : List UInt8 := dkwX0_takesRow_3 ++ dktX0_takesRow_4
def dkwX0_takesRow_2 : List UInt8 := [154, 0, 5, 1, 176, 132, 6, 1, 167, 255, 228, 42, 180, 0, 9, 21, 5, 184, 1, 82, 58, 6, 3]
abbrev dktX0_takesRow_2 : List UInt8 := dkwX0_takesRow_2 ++ dktX0_takesRow_3
def dkwX0_takesRow_1 : List UInt8 := [54, 6, 21, 6, 21, 5, 162, 0, 27, 42, 180, 0, 9, 21, 6, 51, 29, 21, 4, 184, 0, 160]
abbrev dktX0_takesRow_1 : List UInt8 := dkwX0_takesRow_1 ++ dktX0_takesRow_2
def dkwX0_takesRow_0 : List UInt8 := [42, 180, 0, 153, 54, 5, 42, 3, 181, 0, 153, 21, 5, 27, 28, 184, 0, 160, 154, 0, 5, 1, 176, 3]
abbrev dktX0_takesRow_0 : List UInt8 := dkwX0_takesRow_0 ++ dktX0_takesRow_1
theorem dksX0_takesRow_0 : cX0_takesRow.data.toList.drop 0 = dktX0_takesRow_0 := by decide +kernel
theorem dksX0_takesRow_1 : cX0_takesRow.data.toList.drop 24 = dktX0_takesRow_1 := dk_seg dksX0_takesRow_0 24 rfl rfl
theorem dksX0_takesRow_2 : cX0_takesRow.data.toList.drop 46 = dktX0_takesRow_2 := dk_seg dksX0_takesRow_1 22 rfl rfl
theorem dksX0_takesRow_3 : cX0_takesRow.data.toList.drop 69 = dktX0_takesRow_3 := dk_seg dksX0_takesRow_2 23 rfl rfl
theorem dksX0_takesRow_4 : cX0_takesRow.data.toList.drop 91 = dktX0_takesRow_4 := dk_seg dksX0_takesRow_3 22 rfl rfl
theorem dX0_takesRow_0 : decode cX0_takesRow 0 = .ok (.aload_n 0, 1) := dk_42 (dk_at dksX0_takesRow_0 0 rfl rfl)
theorem dX0_takesRow_1 : decode cX0_takesRow 1 = .ok (.getfield 153, 3) := dk_180 0 153 (dk_at dksX0_takesRow_0 1 rfl rfl)
theorem dX0_takesRow_4 : decode cX0_takesRow 4 = .ok (.istore 5, 2) := dk_54 5 (dk_at dksX0_takesRow_0 4 rfl rfl)
theorem dX0_takesRow_6 : decode cX0_takesRow 6 = .ok (.aload_n 0, 1) := dk_42 (dk_at dksX0_takesRow_0 6 rfl rfl)
theorem dX0_takesRow_7 : decode cX0_takesRow 7 = .ok (.iconst 0, 1) := dk_3 (dk_at dksX0_takesRow_0 7 rfl rfl)
theorem dX0_takesRow_8 : decode cX0_takesRow 8 = .ok (.putfield 153, 3) := dk_181 0 153 (dk_at dksX0_takesRow_0 8 rfl rfl)
theorem dX0_takesRow_11 : decode cX0_takesRow 11 = .ok (.iload 5, 2) := dk_21 5 (dk_at dksX0_takesRow_0 11 rfl rfl)
theorem dX0_takesRow_13 : decode cX0_takesRow 13 = .ok (.iload_n 1, 1) := dk_27 (dk_at dksX0_takesRow_0 13 rfl rfl)
theorem dX0_takesRow_14 : decode cX0_takesRow 14 = .ok (.iload_n 2, 1) := dk_28 (dk_at dksX0_takesRow_0 14 rfl rfl)
theorem dX0_takesRow_15 : decode cX0_takesRow 15 = .ok (.invokestatic 160, 3) := dk_184 0 160 (dk_at dksX0_takesRow_0 15 rfl rfl)
theorem dX0_takesRow_18 : decode cX0_takesRow 18 = .ok (.ifCond .ne 5, 3) := dk_154 0 5 (dk_at dksX0_takesRow_0 18 rfl rfl)
theorem dX0_takesRow_21 : decode cX0_takesRow 21 = .ok (.aconst_null, 1) := dk_1 (dk_at dksX0_takesRow_0 21 rfl rfl)
theorem dX0_takesRow_22 : decode cX0_takesRow 22 = .ok (.areturn, 1) := dk_176 (dk_at dksX0_takesRow_0 22 rfl rfl)
theorem dX0_takesRow_23 : decode cX0_takesRow 23 = .ok (.iconst 0, 1) := dk_3 (dk_at dksX0_takesRow_0 23 rfl rfl)
theorem dX0_takesRow_24 : decode cX0_takesRow 24 = .ok (.istore 6, 2) := dk_54 6 (dk_at dksX0_takesRow_1 0 rfl rfl)
theorem dX0_takesRow_26 : decode cX0_takesRow 26 = .ok (.iload 6, 2) := dk_21 6 (dk_at dksX0_takesRow_1 2 rfl rfl)
theorem dX0_takesRow_28 : decode cX0_takesRow 28 = .ok (.iload 5, 2) := dk_21 5 (dk_at dksX0_takesRow_1 4 rfl rfl)
theorem dX0_takesRow_30 : decode cX0_takesRow 30 = .ok (.if_icmp .ge 27, 3) := dk_162 0 27 (dk_at dksX0_takesRow_1 6 rfl rfl)
theorem dX0_takesRow_33 : decode cX0_takesRow 33 = .ok (.aload_n 0, 1) := dk_42 (dk_at dksX0_takesRow_1 9 rfl rfl)
theorem dX0_takesRow_34 : decode cX0_takesRow 34 = .ok (.getfield 9, 3) := dk_180 0 9 (dk_at dksX0_takesRow_1 10 rfl rfl)
theorem dX0_takesRow_37 : decode cX0_takesRow 37 = .ok (.iload 6, 2) := dk_21 6 (dk_at dksX0_takesRow_1 13 rfl rfl)
theorem dX0_takesRow_39 : decode cX0_takesRow 39 = .ok (.baload, 1) := dk_51 (dk_at dksX0_takesRow_1 15 rfl rfl)
theorem dX0_takesRow_40 : decode cX0_takesRow 40 = .ok (.iload_n 3, 1) := dk_29 (dk_at dksX0_takesRow_1 16 rfl rfl)
theorem dX0_takesRow_41 : decode cX0_takesRow 41 = .ok (.iload 4, 2) := dk_21 4 (dk_at dksX0_takesRow_1 17 rfl rfl)
theorem dX0_takesRow_43 : decode cX0_takesRow 43 = .ok (.invokestatic 160, 3) := dk_184 0 160 (dk_at dksX0_takesRow_1 19 rfl rfl)
theorem dX0_takesRow_46 : decode cX0_takesRow 46 = .ok (.ifCond .ne 5, 3) := dk_154 0 5 (dk_at dksX0_takesRow_2 0 rfl rfl)
theorem dX0_takesRow_49 : decode cX0_takesRow 49 = .ok (.aconst_null, 1) := dk_1 (dk_at dksX0_takesRow_2 3 rfl rfl)
theorem dX0_takesRow_50 : decode cX0_takesRow 50 = .ok (.areturn, 1) := dk_176 (dk_at dksX0_takesRow_2 4 rfl rfl)
theorem dX0_takesRow_51 : decode cX0_takesRow 51 = .ok (.iinc 6 1, 3) := dk_132 6 1 (dk_at dksX0_takesRow_2 5 rfl rfl)
theorem dX0_takesRow_54 : decode cX0_takesRow 54 = .ok (.goto (-28), 3) := dk_167 255 228 (dk_at dksX0_takesRow_2 8 rfl rfl)
theorem dX0_takesRow_57 : decode cX0_takesRow 57 = .ok (.aload_n 0, 1) := dk_42 (dk_at dksX0_takesRow_2 11 rfl rfl)
theorem dX0_takesRow_58 : decode cX0_takesRow 58 = .ok (.getfield 9, 3) := dk_180 0 9 (dk_at dksX0_takesRow_2 12 rfl rfl)
theorem dX0_takesRow_61 : decode cX0_takesRow 61 = .ok (.iload 5, 2) := dk_21 5 (dk_at dksX0_takesRow_2 15 rfl rfl)
theorem dX0_takesRow_63 : decode cX0_takesRow 63 = .ok (.invokestatic 338, 3) := dk_184 1 82 (dk_at dksX0_takesRow_2 17 rfl rfl)
theorem dX0_takesRow_66 : decode cX0_takesRow 66 = .ok (.astore 6, 2) := dk_58 6 (dk_at dksX0_takesRow_2 20 rfl rfl)
theorem dX0_takesRow_68 : decode cX0_takesRow 68 = .ok (.iconst 0, 1) := dk_3 (dk_at dksX0_takesRow_2 22 rfl rfl)
theorem dX0_takesRow_69 : decode cX0_takesRow 69 = .ok (.istore 7, 2) := dk_54 7 (dk_at dksX0_takesRow_3 0 rfl rfl)
theorem dX0_takesRow_71 : decode cX0_takesRow 71 = .ok (.iload 7, 2) := dk_21 7 (dk_at dksX0_takesRow_3 2 rfl rfl)
theorem dX0_takesRow_73 : decode cX0_takesRow 73 = .ok (.iload 5, 2) := dk_21 5 (dk_at dksX0_takesRow_3 4 rfl rfl)
theorem dX0_takesRow_75 : decode cX0_takesRow 75 = .ok (.if_icmp .ge 19, 3) := dk_162 0 19 (dk_at dksX0_takesRow_3 6 rfl rfl)
theorem dX0_takesRow_78 : decode cX0_takesRow 78 = .ok (.aload 6, 2) := dk_25 6 (dk_at dksX0_takesRow_3 9 rfl rfl)
theorem dX0_takesRow_80 : decode cX0_takesRow 80 = .ok (.iload 7, 2) := dk_21 7 (dk_at dksX0_takesRow_3 11 rfl rfl)
theorem dX0_takesRow_82 : decode cX0_takesRow 82 = .ok (.dup2, 1) := dk_92 (dk_at dksX0_takesRow_3 13 rfl rfl)
theorem dX0_takesRow_83 : decode cX0_takesRow 83 = .ok (.baload, 1) := dk_51 (dk_at dksX0_takesRow_3 14 rfl rfl)
theorem dX0_takesRow_84 : decode cX0_takesRow 84 = .ok (.iload_n 3, 1) := dk_29 (dk_at dksX0_takesRow_3 15 rfl rfl)
theorem dX0_takesRow_85 : decode cX0_takesRow 85 = .ok (.isub, 1) := dk_100 (dk_at dksX0_takesRow_3 16 rfl rfl)
theorem dX0_takesRow_86 : decode cX0_takesRow 86 = .ok (.i2b, 1) := dk_145 (dk_at dksX0_takesRow_3 17 rfl rfl)
theorem dX0_takesRow_87 : decode cX0_takesRow 87 = .ok (.bastore, 1) := dk_84 (dk_at dksX0_takesRow_3 18 rfl rfl)
theorem dX0_takesRow_88 : decode cX0_takesRow 88 = .ok (.iinc 7 1, 3) := dk_132 7 1 (dk_at dksX0_takesRow_3 19 rfl rfl)
theorem dX0_takesRow_91 : decode cX0_takesRow 91 = .ok (.goto (-20), 3) := dk_167 255 236 (dk_at dksX0_takesRow_4 0 rfl rfl)
theorem dX0_takesRow_94 : decode cX0_takesRow 94 = .ok (.aload 6, 2) := dk_25 6 (dk_at dksX0_takesRow_4 3 rfl rfl)
theorem dX0_takesRow_96 : decode cX0_takesRow 96 = .ok (.areturn, 1) := dk_176 (dk_at dksX0_takesRow_4 5 rfl rfl)
abbrev cX0_forgets : ByteArray := prog_1_method_30_code
def yX0_forgets : MethodName := ⟨RX0, "forgets", "()V"⟩
def dkwX0_forgets_0 : List UInt8 := [42, 3, 181, 1, 75, 177]
abbrev dktX0_forgets_0 : List UInt8 := dkwX0_forgets_0 ++ []
theorem dksX0_forgets_0 : cX0_forgets.data.toList.drop 0 = dktX0_forgets_0 := by decide +kernel
theorem dX0_forgets_0 : decode cX0_forgets 0 = .ok (.aload_n 0, 1) := dk_42 (dk_at dksX0_forgets_0 0 rfl rfl)
theorem dX0_forgets_1 : decode cX0_forgets 1 = .ok (.iconst 0, 1) := dk_3 (dk_at dksX0_forgets_0 1 rfl rfl)
theorem dX0_forgets_2 : decode cX0_forgets 2 = .ok (.putfield 331, 3) := dk_181 1 75 (dk_at dksX0_forgets_0 2 rfl rfl)
theorem dX0_forgets_5 : decode cX0_forgets 5 = .ok (.return_, 1) := dk_177 (dk_at dksX0_forgets_0 5 rfl rfl)
abbrev cX0_give : ByteArray := prog_1_method_35_code
def yX0_give : MethodName := ⟨RX0, "give", "(II)Z"⟩
def dkwX0_give_2 : List UInt8 := [46, 28, 96, 79, 42, 182, 1, 95, 4, 172]
abbrev dktX0_give_2 : List UInt8 := dkwX0_give_2 ++ []
def dkwX0_give_1 : List UInt8 := [180, 1, 101, 27, 46, 28, 96, 19, 1, 103, 164, 0, 5, 3, 172, 42, 180, 0, 82, 180, 1, 101, 27, 92]
abbrev dktX0_give_1 : List UInt8 := dkwX0_give_1 ++ dktX0_give_2
def dkwX0_give_0 : List UInt8 := [42, 27, 182, 1, 98, 153, 0, 30, 28, 3, 18, 218, 184, 0, 160, 153, 0, 20, 42, 180, 0, 82]
abbrev dktX0_give_0 : List UInt8 := dkwX0_give_0 ++ dktX0_give_1
theorem dksX0_give_0 : cX0_give.data.toList.drop 0 = dktX0_give_0 := by decide +kernel
theorem dksX0_give_1 : cX0_give.data.toList.drop 22 = dktX0_give_1 := dk_seg dksX0_give_0 22 rfl rfl
theorem dksX0_give_2 : cX0_give.data.toList.drop 46 = dktX0_give_2 := dk_seg dksX0_give_1 24 rfl rfl
theorem dX0_give_0 : decode cX0_give 0 = .ok (.aload_n 0, 1) := dk_42 (dk_at dksX0_give_0 0 rfl rfl)
theorem dX0_give_1 : decode cX0_give 1 = .ok (.iload_n 1, 1) := dk_27 (dk_at dksX0_give_0 1 rfl rfl)
theorem dX0_give_2 : decode cX0_give 2 = .ok (.invokevirtual 354, 3) := dk_182 1 98 (dk_at dksX0_give_0 2 rfl rfl)
theorem dX0_give_5 : decode cX0_give 5 = .ok (.ifCond .eq 30, 3) := dk_153 0 30 (dk_at dksX0_give_0 5 rfl rfl)
theorem dX0_give_8 : decode cX0_give 8 = .ok (.iload_n 2, 1) := dk_28 (dk_at dksX0_give_0 8 rfl rfl)
theorem dX0_give_9 : decode cX0_give 9 = .ok (.iconst 0, 1) := dk_3 (dk_at dksX0_give_0 9 rfl rfl)
theorem dX0_give_10 : decode cX0_give 10 = .ok (.ldc 218, 2) := dk_18 218 (dk_at dksX0_give_0 10 rfl rfl)
theorem dX0_give_12 : decode cX0_give 12 = .ok (.invokestatic 160, 3) := dk_184 0 160 (dk_at dksX0_give_0 12 rfl rfl)
theorem dX0_give_15 : decode cX0_give 15 = .ok (.ifCond .eq 20, 3) := dk_153 0 20 (dk_at dksX0_give_0 15 rfl rfl)
theorem dX0_give_18 : decode cX0_give 18 = .ok (.aload_n 0, 1) := dk_42 (dk_at dksX0_give_0 18 rfl rfl)
theorem dX0_give_19 : decode cX0_give 19 = .ok (.getfield 82, 3) := dk_180 0 82 (dk_at dksX0_give_0 19 rfl rfl)
theorem dX0_give_22 : decode cX0_give 22 = .ok (.getfield 357, 3) := dk_180 1 101 (dk_at dksX0_give_1 0 rfl rfl)
theorem dX0_give_25 : decode cX0_give 25 = .ok (.iload_n 1, 1) := dk_27 (dk_at dksX0_give_1 3 rfl rfl)
theorem dX0_give_26 : decode cX0_give 26 = .ok (.iaload, 1) := dk_46 (dk_at dksX0_give_1 4 rfl rfl)
theorem dX0_give_27 : decode cX0_give 27 = .ok (.iload_n 2, 1) := dk_28 (dk_at dksX0_give_1 5 rfl rfl)
theorem dX0_give_28 : decode cX0_give 28 = .ok (.iadd, 1) := dk_96 (dk_at dksX0_give_1 6 rfl rfl)
theorem dX0_give_29 : decode cX0_give 29 = .ok (.ldc_w 359, 3) := dk_19 1 103 (dk_at dksX0_give_1 7 rfl rfl)
theorem dX0_give_32 : decode cX0_give 32 = .ok (.if_icmp .le 5, 3) := dk_164 0 5 (dk_at dksX0_give_1 10 rfl rfl)
theorem dX0_give_35 : decode cX0_give 35 = .ok (.iconst 0, 1) := dk_3 (dk_at dksX0_give_1 13 rfl rfl)
theorem dX0_give_36 : decode cX0_give 36 = .ok (.ireturn, 1) := dk_172 (dk_at dksX0_give_1 14 rfl rfl)
theorem dX0_give_37 : decode cX0_give 37 = .ok (.aload_n 0, 1) := dk_42 (dk_at dksX0_give_1 15 rfl rfl)
theorem dX0_give_38 : decode cX0_give 38 = .ok (.getfield 82, 3) := dk_180 0 82 (dk_at dksX0_give_1 16 rfl rfl)
theorem dX0_give_41 : decode cX0_give 41 = .ok (.getfield 357, 3) := dk_180 1 101 (dk_at dksX0_give_1 19 rfl rfl)
theorem dX0_give_44 : decode cX0_give 44 = .ok (.iload_n 1, 1) := dk_27 (dk_at dksX0_give_1 22 rfl rfl)
theorem dX0_give_45 : decode cX0_give 45 = .ok (.dup2, 1) := dk_92 (dk_at dksX0_give_1 23 rfl rfl)
theorem dX0_give_46 : decode cX0_give 46 = .ok (.iaload, 1) := dk_46 (dk_at dksX0_give_2 0 rfl rfl)
theorem dX0_give_47 : decode cX0_give 47 = .ok (.iload_n 2, 1) := dk_28 (dk_at dksX0_give_2 1 rfl rfl)
theorem dX0_give_48 : decode cX0_give 48 = .ok (.iadd, 1) := dk_96 (dk_at dksX0_give_2 2 rfl rfl)
theorem dX0_give_49 : decode cX0_give 49 = .ok (.iastore, 1) := dk_79 (dk_at dksX0_give_2 3 rfl rfl)
theorem dX0_give_50 : decode cX0_give 50 = .ok (.aload_n 0, 1) := dk_42 (dk_at dksX0_give_2 4 rfl rfl)
theorem dX0_give_51 : decode cX0_give 51 = .ok (.invokevirtual 351, 3) := dk_182 1 95 (dk_at dksX0_give_2 5 rfl rfl)
theorem dX0_give_54 : decode cX0_give 54 = .ok (.iconst 1, 1) := dk_4 (dk_at dksX0_give_2 8 rfl rfl)
theorem dX0_give_55 : decode cX0_give 55 = .ok (.ireturn, 1) := dk_172 (dk_at dksX0_give_2 9 rfl rfl)
abbrev cX0_isHouse : ByteArray := prog_1_method_28_code
def yX0_isHouse : MethodName := ⟨RX0, "isHouse", "(I)Z"⟩
def dkwX0_isHouse_0 : List UInt8 := [27, 3, 42, 180, 1, 69, 4, 100, 184, 0, 160, 172]
abbrev dktX0_isHouse_0 : List UInt8 := dkwX0_isHouse_0 ++ []
theorem dksX0_isHouse_0 : cX0_isHouse.data.toList.drop 0 = dktX0_isHouse_0 := by decide +kernel
theorem dX0_isHouse_0 : decode cX0_isHouse 0 = .ok (.iload_n 1, 1) := dk_27 (dk_at dksX0_isHouse_0 0 rfl rfl)
theorem dX0_isHouse_1 : decode cX0_isHouse 1 = .ok (.iconst 0, 1) := dk_3 (dk_at dksX0_isHouse_0 1 rfl rfl)
theorem dX0_isHouse_2 : decode cX0_isHouse 2 = .ok (.aload_n 0, 1) := dk_42 (dk_at dksX0_isHouse_0 2 rfl rfl)
theorem dX0_isHouse_3 : decode cX0_isHouse 3 = .ok (.getfield 325, 3) := dk_180 1 69 (dk_at dksX0_isHouse_0 3 rfl rfl)
theorem dX0_isHouse_6 : decode cX0_isHouse 6 = .ok (.iconst 1, 1) := dk_4 (dk_at dksX0_isHouse_0 6 rfl rfl)
theorem dX0_isHouse_7 : decode cX0_isHouse 7 = .ok (.isub, 1) := dk_100 (dk_at dksX0_isHouse_0 7 rfl rfl)
theorem dX0_isHouse_8 : decode cX0_isHouse 8 = .ok (.invokestatic 160, 3) := dk_184 0 160 (dk_at dksX0_isHouse_0 8 rfl rfl)
theorem dX0_isHouse_11 : decode cX0_isHouse 11 = .ok (.ireturn, 1) := dk_172 (dk_at dksX0_isHouse_0 11 rfl rfl)
abbrev cX0_set : ByteArray := prog_1_method_36_code
def yX0_set : MethodName := ⟨RX0, "set", "(II)Z"⟩
def dkwX0_set_1 : List UInt8 := [46, 184, 0, 160, 154, 0, 5, 3, 172, 42, 180, 0, 72, 27, 28, 79, 42, 182, 1, 95, 4, 172]
abbrev dktX0_set_1 : List UInt8 := dkwX0_set_1 ++ []
def dkwX0_set_0 : List UInt8 := [27, 3, 6, 184, 0, 160, 153, 0, 25, 28, 27, 154, 0, 7, 4, 167, 0, 4, 3, 42, 180, 0, 76, 27]
abbrev dktX0_set_0 : List UInt8 := dkwX0_set_0 ++ dktX0_set_1
theorem dksX0_set_0 : cX0_set.data.toList.drop 0 = dktX0_set_0 := by decide +kernel
theorem dksX0_set_1 : cX0_set.data.toList.drop 24 = dktX0_set_1 := dk_seg dksX0_set_0 24 rfl rfl
theorem dX0_set_0 : decode cX0_set 0 = .ok (.iload_n 1, 1) := dk_27 (dk_at dksX0_set_0 0 rfl rfl)
theorem dX0_set_1 : decode cX0_set 1 = .ok (.iconst 0, 1) := dk_3 (dk_at dksX0_set_0 1 rfl rfl)
theorem dX0_set_2 : decode cX0_set 2 = .ok (.iconst 3, 1) := dk_6 (dk_at dksX0_set_0 2 rfl rfl)
theorem dX0_set_3 : decode cX0_set 3 = .ok (.invokestatic 160, 3) := dk_184 0 160 (dk_at dksX0_set_0 3 rfl rfl)
theorem dX0_set_6 : decode cX0_set 6 = .ok (.ifCond .eq 25, 3) := dk_153 0 25 (dk_at dksX0_set_0 6 rfl rfl)
theorem dX0_set_9 : decode cX0_set 9 = .ok (.iload_n 2, 1) := dk_28 (dk_at dksX0_set_0 9 rfl rfl)
theorem dX0_set_10 : decode cX0_set 10 = .ok (.iload_n 1, 1) := dk_27 (dk_at dksX0_set_0 10 rfl rfl)
theorem dX0_set_11 : decode cX0_set 11 = .ok (.ifCond .ne 7, 3) := dk_154 0 7 (dk_at dksX0_set_0 11 rfl rfl)
theorem dX0_set_14 : decode cX0_set 14 = .ok (.iconst 1, 1) := dk_4 (dk_at dksX0_set_0 14 rfl rfl)
theorem dX0_set_15 : decode cX0_set 15 = .ok (.goto 4, 3) := dk_167 0 4 (dk_at dksX0_set_0 15 rfl rfl)
theorem dX0_set_18 : decode cX0_set 18 = .ok (.iconst 0, 1) := dk_3 (dk_at dksX0_set_0 18 rfl rfl)
theorem dX0_set_19 : decode cX0_set 19 = .ok (.aload_n 0, 1) := dk_42 (dk_at dksX0_set_0 19 rfl rfl)
theorem dX0_set_20 : decode cX0_set 20 = .ok (.getfield 76, 3) := dk_180 0 76 (dk_at dksX0_set_0 20 rfl rfl)
theorem dX0_set_23 : decode cX0_set 23 = .ok (.iload_n 1, 1) := dk_27 (dk_at dksX0_set_0 23 rfl rfl)
theorem dX0_set_24 : decode cX0_set 24 = .ok (.iaload, 1) := dk_46 (dk_at dksX0_set_1 0 rfl rfl)
theorem dX0_set_25 : decode cX0_set 25 = .ok (.invokestatic 160, 3) := dk_184 0 160 (dk_at dksX0_set_1 1 rfl rfl)
theorem dX0_set_28 : decode cX0_set 28 = .ok (.ifCond .ne 5, 3) := dk_154 0 5 (dk_at dksX0_set_1 4 rfl rfl)
theorem dX0_set_31 : decode cX0_set 31 = .ok (.iconst 0, 1) := dk_3 (dk_at dksX0_set_1 7 rfl rfl)
theorem dX0_set_32 : decode cX0_set 32 = .ok (.ireturn, 1) := dk_172 (dk_at dksX0_set_1 8 rfl rfl)
theorem dX0_set_33 : decode cX0_set 33 = .ok (.aload_n 0, 1) := dk_42 (dk_at dksX0_set_1 9 rfl rfl)
theorem dX0_set_34 : decode cX0_set 34 = .ok (.getfield 72, 3) := dk_180 0 72 (dk_at dksX0_set_1 10 rfl rfl)
theorem dX0_set_37 : decode cX0_set 37 = .ok (.iload_n 1, 1) := dk_27 (dk_at dksX0_set_1 13 rfl rfl)
theorem dX0_set_38 : decode cX0_set 38 = .ok (.iload_n 2, 1) := dk_28 (dk_at dksX0_set_1 14 rfl rfl)
theorem dX0_set_39 : decode cX0_set 39 = .ok (.iastore, 1) := dk_79 (dk_at dksX0_set_1 15 rfl rfl)
theorem dX0_set_40 : decode cX0_set 40 = .ok (.aload_n 0, 1) := dk_42 (dk_at dksX0_set_1 16 rfl rfl)
theorem dX0_set_41 : decode cX0_set 41 = .ok (.invokevirtual 351, 3) := dk_182 1 95 (dk_at dksX0_set_1 17 rfl rfl)
theorem dX0_set_44 : decode cX0_set 44 = .ok (.iconst 1, 1) := dk_4 (dk_at dksX0_set_1 20 rfl rfl)
theorem dX0_set_45 : decode cX0_set 45 = .ok (.ireturn, 1) := dk_172 (dk_at dksX0_set_1 21 rfl rfl)
abbrev cX0_order : ByteArray := prog_1_method_40_code
def yX0_order : MethodName := ⟨RX0, "order", "(I)I"⟩
def dkwX0_order_0 : List UInt8 := [42, 27, 182, 1, 98, 154, 0, 5, 2, 172, 42, 182, 1, 139, 42, 180, 0, 99, 27, 46, 172]
abbrev dktX0_order_0 : List UInt8 := dkwX0_order_0 ++ []
theorem dksX0_order_0 : cX0_order.data.toList.drop 0 = dktX0_order_0 := by decide +kernel
theorem dX0_order_0 : decode cX0_order 0 = .ok (.aload_n 0, 1) := dk_42 (dk_at dksX0_order_0 0 rfl rfl)
theorem dX0_order_1 : decode cX0_order 1 = .ok (.iload_n 1, 1) := dk_27 (dk_at dksX0_order_0 1 rfl rfl)
theorem dX0_order_2 : decode cX0_order 2 = .ok (.invokevirtual 354, 3) := dk_182 1 98 (dk_at dksX0_order_0 2 rfl rfl)
theorem dX0_order_5 : decode cX0_order 5 = .ok (.ifCond .ne 5, 3) := dk_154 0 5 (dk_at dksX0_order_0 5 rfl rfl)
theorem dX0_order_8 : decode cX0_order 8 = .ok (.iconst (-1), 1) := dk_2 (dk_at dksX0_order_0 8 rfl rfl)
theorem dX0_order_9 : decode cX0_order 9 = .ok (.ireturn, 1) := dk_172 (dk_at dksX0_order_0 9 rfl rfl)
theorem dX0_order_10 : decode cX0_order 10 = .ok (.aload_n 0, 1) := dk_42 (dk_at dksX0_order_0 10 rfl rfl)
theorem dX0_order_11 : decode cX0_order 11 = .ok (.invokevirtual 395, 3) := dk_182 1 139 (dk_at dksX0_order_0 11 rfl rfl)
theorem dX0_order_14 : decode cX0_order 14 = .ok (.aload_n 0, 1) := dk_42 (dk_at dksX0_order_0 14 rfl rfl)
theorem dX0_order_15 : decode cX0_order 15 = .ok (.getfield 99, 3) := dk_180 0 99 (dk_at dksX0_order_0 15 rfl rfl)
theorem dX0_order_18 : decode cX0_order 18 = .ok (.iload_n 1, 1) := dk_27 (dk_at dksX0_order_0 18 rfl rfl)
theorem dX0_order_19 : decode cX0_order 19 = .ok (.iaload, 1) := dk_46 (dk_at dksX0_order_0 19 rfl rfl)
theorem dX0_order_20 : decode cX0_order 20 = .ok (.ireturn, 1) := dk_172 (dk_at dksX0_order_0 20 rfl rfl)
abbrev cX0_findsToday : ByteArray := prog_1_method_39_code
def yX0_findsToday : MethodName := ⟨RX0, "findsToday", "()V"⟩
def dkwX0_findsToday_4 : List UInt8 := [180, 0, 99, 3, 42, 180, 0, 99, 4, 28, 184, 1, 63, 42, 180, 0, 99, 3, 27, 79, 177]
abbrev dktX0_findsToday_4 : List UInt8 := dkwX0_findsToday_4 ++ []
def dkwX0_findsToday_3 : List UInt8 := [167, 255, 222, 3, 61, 42, 180, 0, 99, 28, 46, 27, 159, 0, 9, 132, 2, 1, 167, 255, 243, 42]
abbrev dktX0_findsToday_3 : List UInt8 := dkwX0_findsToday_3 ++ dktX0_findsToday_4
def dkwX0_findsToday_2 : List UInt8 := [180, 1, 136, 28, 46, 42, 180, 0, 82, 180, 1, 136, 27, 46, 162, 0, 5, 28, 60, 132, 2, 1]
abbrev dktX0_findsToday_2 : List UInt8 := dkwX0_findsToday_2 ++ dktX0_findsToday_3
def dkwX0_findsToday_1 : List UInt8 := [180, 1, 69, 154, 0, 4, 177, 3, 60, 4, 61, 28, 42, 180, 1, 69, 162, 0, 32, 42, 180, 0, 82]
abbrev dktX0_findsToday_1 : List UInt8 := dkwX0_findsToday_1 ++ dktX0_findsToday_2
def dkwX0_findsToday_0 : List UInt8 := [42, 42, 180, 0, 99, 182, 1, 132, 42, 180, 0, 82, 180, 1, 116, 16, 7, 112, 154, 0, 10, 42]
abbrev dktX0_findsToday_0 : List UInt8 := dkwX0_findsToday_0 ++ dktX0_findsToday_1
theorem dksX0_findsToday_0 : cX0_findsToday.data.toList.drop 0 = dktX0_findsToday_0 := by decide +kernel
theorem dksX0_findsToday_1 : cX0_findsToday.data.toList.drop 22 = dktX0_findsToday_1 := dk_seg dksX0_findsToday_0 22 rfl rfl
theorem dksX0_findsToday_2 : cX0_findsToday.data.toList.drop 45 = dktX0_findsToday_2 := dk_seg dksX0_findsToday_1 23 rfl rfl
theorem dksX0_findsToday_3 : cX0_findsToday.data.toList.drop 67 = dktX0_findsToday_3 := dk_seg dksX0_findsToday_2 22 rfl rfl
theorem dksX0_findsToday_4 : cX0_findsToday.data.toList.drop 89 = dktX0_findsToday_4 := dk_seg dksX0_findsToday_3 22 rfl rfl
theorem dX0_findsToday_0 : decode cX0_findsToday 0 = .ok (.aload_n 0, 1) := dk_42 (dk_at dksX0_findsToday_0 0 rfl rfl)
theorem dX0_findsToday_1 : decode cX0_findsToday 1 = .ok (.aload_n 0, 1) := dk_42 (dk_at dksX0_findsToday_0 1 rfl rfl)
theorem dX0_findsToday_2 : decode cX0_findsToday 2 = .ok (.getfield 99, 3) := dk_180 0 99 (dk_at dksX0_findsToday_0 2 rfl rfl)
theorem dX0_findsToday_5 : decode cX0_findsToday 5 = .ok (.invokevirtual 388, 3) := dk_182 1 132 (dk_at dksX0_findsToday_0 5 rfl rfl)
theorem dX0_findsToday_8 : decode cX0_findsToday 8 = .ok (.aload_n 0, 1) := dk_42 (dk_at dksX0_findsToday_0 8 rfl rfl)
theorem dX0_findsToday_9 : decode cX0_findsToday 9 = .ok (.getfield 82, 3) := dk_180 0 82 (dk_at dksX0_findsToday_0 9 rfl rfl)
theorem dX0_findsToday_12 : decode cX0_findsToday 12 = .ok (.getfield 372, 3) := dk_180 1 116 (dk_at dksX0_findsToday_0 12 rfl rfl)
theorem dX0_findsToday_15 : decode cX0_findsToday 15 = .ok (.bipush 7, 2) := dk_16 7 (dk_at dksX0_findsToday_0 15 rfl rfl)
theorem dX0_findsToday_17 : decode cX0_findsToday 17 = .ok (.irem, 1) := dk_112 (dk_at dksX0_findsToday_0 17 rfl rfl)
theorem dX0_findsToday_18 : decode cX0_findsToday 18 = .ok (.ifCond .ne 10, 3) := dk_154 0 10 (dk_at dksX0_findsToday_0 18 rfl rfl)
theorem dX0_findsToday_21 : decode cX0_findsToday 21 = .ok (.aload_n 0, 1) := dk_42 (dk_at dksX0_findsToday_0 21 rfl rfl)
theorem dX0_findsToday_22 : decode cX0_findsToday 22 = .ok (.getfield 325, 3) := dk_180 1 69 (dk_at dksX0_findsToday_1 0 rfl rfl)
theorem dX0_findsToday_25 : decode cX0_findsToday 25 = .ok (.ifCond .ne 4, 3) := dk_154 0 4 (dk_at dksX0_findsToday_1 3 rfl rfl)
theorem dX0_findsToday_28 : decode cX0_findsToday 28 = .ok (.return_, 1) := dk_177 (dk_at dksX0_findsToday_1 6 rfl rfl)
theorem dX0_findsToday_29 : decode cX0_findsToday 29 = .ok (.iconst 0, 1) := dk_3 (dk_at dksX0_findsToday_1 7 rfl rfl)
theorem dX0_findsToday_30 : decode cX0_findsToday 30 = .ok (.istore_n 1, 1) := dk_60 (dk_at dksX0_findsToday_1 8 rfl rfl)
theorem dX0_findsToday_31 : decode cX0_findsToday 31 = .ok (.iconst 1, 1) := dk_4 (dk_at dksX0_findsToday_1 9 rfl rfl)
theorem dX0_findsToday_32 : decode cX0_findsToday 32 = .ok (.istore_n 2, 1) := dk_61 (dk_at dksX0_findsToday_1 10 rfl rfl)
theorem dX0_findsToday_33 : decode cX0_findsToday 33 = .ok (.iload_n 2, 1) := dk_28 (dk_at dksX0_findsToday_1 11 rfl rfl)
theorem dX0_findsToday_34 : decode cX0_findsToday 34 = .ok (.aload_n 0, 1) := dk_42 (dk_at dksX0_findsToday_1 12 rfl rfl)
theorem dX0_findsToday_35 : decode cX0_findsToday 35 = .ok (.getfield 325, 3) := dk_180 1 69 (dk_at dksX0_findsToday_1 13 rfl rfl)
theorem dX0_findsToday_38 : decode cX0_findsToday 38 = .ok (.if_icmp .ge 32, 3) := dk_162 0 32 (dk_at dksX0_findsToday_1 16 rfl rfl)
theorem dX0_findsToday_41 : decode cX0_findsToday 41 = .ok (.aload_n 0, 1) := dk_42 (dk_at dksX0_findsToday_1 19 rfl rfl)
theorem dX0_findsToday_42 : decode cX0_findsToday 42 = .ok (.getfield 82, 3) := dk_180 0 82 (dk_at dksX0_findsToday_1 20 rfl rfl)
theorem dX0_findsToday_45 : decode cX0_findsToday 45 = .ok (.getfield 392, 3) := dk_180 1 136 (dk_at dksX0_findsToday_2 0 rfl rfl)
theorem dX0_findsToday_48 : decode cX0_findsToday 48 = .ok (.iload_n 2, 1) := dk_28 (dk_at dksX0_findsToday_2 3 rfl rfl)
theorem dX0_findsToday_49 : decode cX0_findsToday 49 = .ok (.iaload, 1) := dk_46 (dk_at dksX0_findsToday_2 4 rfl rfl)
theorem dX0_findsToday_50 : decode cX0_findsToday 50 = .ok (.aload_n 0, 1) := dk_42 (dk_at dksX0_findsToday_2 5 rfl rfl)
theorem dX0_findsToday_51 : decode cX0_findsToday 51 = .ok (.getfield 82, 3) := dk_180 0 82 (dk_at dksX0_findsToday_2 6 rfl rfl)
theorem dX0_findsToday_54 : decode cX0_findsToday 54 = .ok (.getfield 392, 3) := dk_180 1 136 (dk_at dksX0_findsToday_2 9 rfl rfl)
theorem dX0_findsToday_57 : decode cX0_findsToday 57 = .ok (.iload_n 1, 1) := dk_27 (dk_at dksX0_findsToday_2 12 rfl rfl)
theorem dX0_findsToday_58 : decode cX0_findsToday 58 = .ok (.iaload, 1) := dk_46 (dk_at dksX0_findsToday_2 13 rfl rfl)
theorem dX0_findsToday_59 : decode cX0_findsToday 59 = .ok (.if_icmp .ge 5, 3) := dk_162 0 5 (dk_at dksX0_findsToday_2 14 rfl rfl)
theorem dX0_findsToday_62 : decode cX0_findsToday 62 = .ok (.iload_n 2, 1) := dk_28 (dk_at dksX0_findsToday_2 17 rfl rfl)
theorem dX0_findsToday_63 : decode cX0_findsToday 63 = .ok (.istore_n 1, 1) := dk_60 (dk_at dksX0_findsToday_2 18 rfl rfl)
theorem dX0_findsToday_64 : decode cX0_findsToday 64 = .ok (.iinc 2 1, 3) := dk_132 2 1 (dk_at dksX0_findsToday_2 19 rfl rfl)
theorem dX0_findsToday_67 : decode cX0_findsToday 67 = .ok (.goto (-34), 3) := dk_167 255 222 (dk_at dksX0_findsToday_3 0 rfl rfl)
theorem dX0_findsToday_70 : decode cX0_findsToday 70 = .ok (.iconst 0, 1) := dk_3 (dk_at dksX0_findsToday_3 3 rfl rfl)
theorem dX0_findsToday_71 : decode cX0_findsToday 71 = .ok (.istore_n 2, 1) := dk_61 (dk_at dksX0_findsToday_3 4 rfl rfl)
theorem dX0_findsToday_72 : decode cX0_findsToday 72 = .ok (.aload_n 0, 1) := dk_42 (dk_at dksX0_findsToday_3 5 rfl rfl)
theorem dX0_findsToday_73 : decode cX0_findsToday 73 = .ok (.getfield 99, 3) := dk_180 0 99 (dk_at dksX0_findsToday_3 6 rfl rfl)
theorem dX0_findsToday_76 : decode cX0_findsToday 76 = .ok (.iload_n 2, 1) := dk_28 (dk_at dksX0_findsToday_3 9 rfl rfl)
theorem dX0_findsToday_77 : decode cX0_findsToday 77 = .ok (.iaload, 1) := dk_46 (dk_at dksX0_findsToday_3 10 rfl rfl)
theorem dX0_findsToday_78 : decode cX0_findsToday 78 = .ok (.iload_n 1, 1) := dk_27 (dk_at dksX0_findsToday_3 11 rfl rfl)
theorem dX0_findsToday_79 : decode cX0_findsToday 79 = .ok (.if_icmp .eq 9, 3) := dk_159 0 9 (dk_at dksX0_findsToday_3 12 rfl rfl)
theorem dX0_findsToday_82 : decode cX0_findsToday 82 = .ok (.iinc 2 1, 3) := dk_132 2 1 (dk_at dksX0_findsToday_3 15 rfl rfl)
theorem dX0_findsToday_85 : decode cX0_findsToday 85 = .ok (.goto (-13), 3) := dk_167 255 243 (dk_at dksX0_findsToday_3 18 rfl rfl)
theorem dX0_findsToday_88 : decode cX0_findsToday 88 = .ok (.aload_n 0, 1) := dk_42 (dk_at dksX0_findsToday_3 21 rfl rfl)
theorem dX0_findsToday_89 : decode cX0_findsToday 89 = .ok (.getfield 99, 3) := dk_180 0 99 (dk_at dksX0_findsToday_4 0 rfl rfl)
theorem dX0_findsToday_92 : decode cX0_findsToday 92 = .ok (.iconst 0, 1) := dk_3 (dk_at dksX0_findsToday_4 3 rfl rfl)
theorem dX0_findsToday_93 : decode cX0_findsToday 93 = .ok (.aload_n 0, 1) := dk_42 (dk_at dksX0_findsToday_4 4 rfl rfl)
theorem dX0_findsToday_94 : decode cX0_findsToday 94 = .ok (.getfield 99, 3) := dk_180 0 99 (dk_at dksX0_findsToday_4 5 rfl rfl)
theorem dX0_findsToday_97 : decode cX0_findsToday 97 = .ok (.iconst 1, 1) := dk_4 (dk_at dksX0_findsToday_4 8 rfl rfl)
theorem dX0_findsToday_98 : decode cX0_findsToday 98 = .ok (.iload_n 2, 1) := dk_28 (dk_at dksX0_findsToday_4 9 rfl rfl)
theorem dX0_findsToday_99 : decode cX0_findsToday 99 = .ok (.invokestatic 319, 3) := dk_184 1 63 (dk_at dksX0_findsToday_4 10 rfl rfl)
theorem dX0_findsToday_102 : decode cX0_findsToday 102 = .ok (.aload_n 0, 1) := dk_42 (dk_at dksX0_findsToday_4 13 rfl rfl)
theorem dX0_findsToday_103 : decode cX0_findsToday 103 = .ok (.getfield 99, 3) := dk_180 0 99 (dk_at dksX0_findsToday_4 14 rfl rfl)
theorem dX0_findsToday_106 : decode cX0_findsToday 106 = .ok (.iconst 0, 1) := dk_3 (dk_at dksX0_findsToday_4 17 rfl rfl)
theorem dX0_findsToday_107 : decode cX0_findsToday 107 = .ok (.iload_n 1, 1) := dk_27 (dk_at dksX0_findsToday_4 18 rfl rfl)
theorem dX0_findsToday_108 : decode cX0_findsToday 108 = .ok (.iastore, 1) := dk_79 (dk_at dksX0_findsToday_4 19 rfl rfl)
theorem dX0_findsToday_109 : decode cX0_findsToday 109 = .ok (.return_, 1) := dk_177 (dk_at dksX0_findsToday_4 20 rfl rfl)
abbrev cX0_lines : ByteArray := prog_1_method_38_code
def yX0_lines : MethodName := ⟨RX0, "lines", "([I)V"⟩
def dkwX0_lines_2 : List UInt8 := [43, 29, 4, 100, 46, 79, 132, 3, 255, 167, 255, 222, 43, 29, 28, 79, 132, 2, 1, 167, 255, 191, 177]
abbrev dktX0_lines_2 : List UInt8 := dkwX0_lines_2 ++ []
def dkwX0_lines_1 : List UInt8 := [158, 0, 36, 42, 180, 0, 96, 43, 29, 4, 100, 46, 46, 42, 180, 0, 96, 28, 46, 162, 0, 17, 43, 29]
abbrev dktX0_lines_1 : List UInt8 := dkwX0_lines_1 ++ dktX0_lines_2
def dkwX0_lines_0 : List UInt8 := [3, 61, 28, 42, 180, 1, 69, 162, 0, 63, 42, 180, 0, 96, 28, 42, 28, 182, 1, 129, 79, 28, 62, 29]
abbrev dktX0_lines_0 : List UInt8 := dkwX0_lines_0 ++ dktX0_lines_1
theorem dksX0_lines_0 : cX0_lines.data.toList.drop 0 = dktX0_lines_0 := by decide +kernel
theorem dksX0_lines_1 : cX0_lines.data.toList.drop 24 = dktX0_lines_1 := dk_seg dksX0_lines_0 24 rfl rfl
theorem dksX0_lines_2 : cX0_lines.data.toList.drop 48 = dktX0_lines_2 := dk_seg dksX0_lines_1 24 rfl rfl
theorem dX0_lines_0 : decode cX0_lines 0 = .ok (.iconst 0, 1) := dk_3 (dk_at dksX0_lines_0 0 rfl rfl)
theorem dX0_lines_1 : decode cX0_lines 1 = .ok (.istore_n 2, 1) := dk_61 (dk_at dksX0_lines_0 1 rfl rfl)
theorem dX0_lines_2 : decode cX0_lines 2 = .ok (.iload_n 2, 1) := dk_28 (dk_at dksX0_lines_0 2 rfl rfl)
theorem dX0_lines_3 : decode cX0_lines 3 = .ok (.aload_n 0, 1) := dk_42 (dk_at dksX0_lines_0 3 rfl rfl)
theorem dX0_lines_4 : decode cX0_lines 4 = .ok (.getfield 325, 3) := dk_180 1 69 (dk_at dksX0_lines_0 4 rfl rfl)
theorem dX0_lines_7 : decode cX0_lines 7 = .ok (.if_icmp .ge 63, 3) := dk_162 0 63 (dk_at dksX0_lines_0 7 rfl rfl)
theorem dX0_lines_10 : decode cX0_lines 10 = .ok (.aload_n 0, 1) := dk_42 (dk_at dksX0_lines_0 10 rfl rfl)
theorem dX0_lines_11 : decode cX0_lines 11 = .ok (.getfield 96, 3) := dk_180 0 96 (dk_at dksX0_lines_0 11 rfl rfl)
theorem dX0_lines_14 : decode cX0_lines 14 = .ok (.iload_n 2, 1) := dk_28 (dk_at dksX0_lines_0 14 rfl rfl)
theorem dX0_lines_15 : decode cX0_lines 15 = .ok (.aload_n 0, 1) := dk_42 (dk_at dksX0_lines_0 15 rfl rfl)
theorem dX0_lines_16 : decode cX0_lines 16 = .ok (.iload_n 2, 1) := dk_28 (dk_at dksX0_lines_0 16 rfl rfl)
theorem dX0_lines_17 : decode cX0_lines 17 = .ok (.invokevirtual 385, 3) := dk_182 1 129 (dk_at dksX0_lines_0 17 rfl rfl)
theorem dX0_lines_20 : decode cX0_lines 20 = .ok (.iastore, 1) := dk_79 (dk_at dksX0_lines_0 20 rfl rfl)
theorem dX0_lines_21 : decode cX0_lines 21 = .ok (.iload_n 2, 1) := dk_28 (dk_at dksX0_lines_0 21 rfl rfl)
theorem dX0_lines_22 : decode cX0_lines 22 = .ok (.istore_n 3, 1) := dk_62 (dk_at dksX0_lines_0 22 rfl rfl)
theorem dX0_lines_23 : decode cX0_lines 23 = .ok (.iload_n 3, 1) := dk_29 (dk_at dksX0_lines_0 23 rfl rfl)
theorem dX0_lines_24 : decode cX0_lines 24 = .ok (.ifCond .le 36, 3) := dk_158 0 36 (dk_at dksX0_lines_1 0 rfl rfl)
theorem dX0_lines_27 : decode cX0_lines 27 = .ok (.aload_n 0, 1) := dk_42 (dk_at dksX0_lines_1 3 rfl rfl)
theorem dX0_lines_28 : decode cX0_lines 28 = .ok (.getfield 96, 3) := dk_180 0 96 (dk_at dksX0_lines_1 4 rfl rfl)
theorem dX0_lines_31 : decode cX0_lines 31 = .ok (.aload_n 1, 1) := dk_43 (dk_at dksX0_lines_1 7 rfl rfl)
theorem dX0_lines_32 : decode cX0_lines 32 = .ok (.iload_n 3, 1) := dk_29 (dk_at dksX0_lines_1 8 rfl rfl)
theorem dX0_lines_33 : decode cX0_lines 33 = .ok (.iconst 1, 1) := dk_4 (dk_at dksX0_lines_1 9 rfl rfl)
theorem dX0_lines_34 : decode cX0_lines 34 = .ok (.isub, 1) := dk_100 (dk_at dksX0_lines_1 10 rfl rfl)
theorem dX0_lines_35 : decode cX0_lines 35 = .ok (.iaload, 1) := dk_46 (dk_at dksX0_lines_1 11 rfl rfl)
theorem dX0_lines_36 : decode cX0_lines 36 = .ok (.iaload, 1) := dk_46 (dk_at dksX0_lines_1 12 rfl rfl)
theorem dX0_lines_37 : decode cX0_lines 37 = .ok (.aload_n 0, 1) := dk_42 (dk_at dksX0_lines_1 13 rfl rfl)
theorem dX0_lines_38 : decode cX0_lines 38 = .ok (.getfield 96, 3) := dk_180 0 96 (dk_at dksX0_lines_1 14 rfl rfl)
theorem dX0_lines_41 : decode cX0_lines 41 = .ok (.iload_n 2, 1) := dk_28 (dk_at dksX0_lines_1 17 rfl rfl)
theorem dX0_lines_42 : decode cX0_lines 42 = .ok (.iaload, 1) := dk_46 (dk_at dksX0_lines_1 18 rfl rfl)
theorem dX0_lines_43 : decode cX0_lines 43 = .ok (.if_icmp .ge 17, 3) := dk_162 0 17 (dk_at dksX0_lines_1 19 rfl rfl)
theorem dX0_lines_46 : decode cX0_lines 46 = .ok (.aload_n 1, 1) := dk_43 (dk_at dksX0_lines_1 22 rfl rfl)
theorem dX0_lines_47 : decode cX0_lines 47 = .ok (.iload_n 3, 1) := dk_29 (dk_at dksX0_lines_1 23 rfl rfl)
theorem dX0_lines_48 : decode cX0_lines 48 = .ok (.aload_n 1, 1) := dk_43 (dk_at dksX0_lines_2 0 rfl rfl)
theorem dX0_lines_49 : decode cX0_lines 49 = .ok (.iload_n 3, 1) := dk_29 (dk_at dksX0_lines_2 1 rfl rfl)
theorem dX0_lines_50 : decode cX0_lines 50 = .ok (.iconst 1, 1) := dk_4 (dk_at dksX0_lines_2 2 rfl rfl)
theorem dX0_lines_51 : decode cX0_lines 51 = .ok (.isub, 1) := dk_100 (dk_at dksX0_lines_2 3 rfl rfl)
theorem dX0_lines_52 : decode cX0_lines 52 = .ok (.iaload, 1) := dk_46 (dk_at dksX0_lines_2 4 rfl rfl)
theorem dX0_lines_53 : decode cX0_lines 53 = .ok (.iastore, 1) := dk_79 (dk_at dksX0_lines_2 5 rfl rfl)
theorem dX0_lines_54 : decode cX0_lines 54 = .ok (.iinc 3 (-1), 3) := dk_132 3 255 (dk_at dksX0_lines_2 6 rfl rfl)
theorem dX0_lines_57 : decode cX0_lines 57 = .ok (.goto (-34), 3) := dk_167 255 222 (dk_at dksX0_lines_2 9 rfl rfl)
theorem dX0_lines_60 : decode cX0_lines 60 = .ok (.aload_n 1, 1) := dk_43 (dk_at dksX0_lines_2 12 rfl rfl)
theorem dX0_lines_61 : decode cX0_lines 61 = .ok (.iload_n 3, 1) := dk_29 (dk_at dksX0_lines_2 13 rfl rfl)
theorem dX0_lines_62 : decode cX0_lines 62 = .ok (.iload_n 2, 1) := dk_28 (dk_at dksX0_lines_2 14 rfl rfl)
theorem dX0_lines_63 : decode cX0_lines 63 = .ok (.iastore, 1) := dk_79 (dk_at dksX0_lines_2 15 rfl rfl)
theorem dX0_lines_64 : decode cX0_lines 64 = .ok (.iinc 2 1, 3) := dk_132 2 1 (dk_at dksX0_lines_2 16 rfl rfl)
theorem dX0_lines_67 : decode cX0_lines 67 = .ok (.goto (-65), 3) := dk_167 255 191 (dk_at dksX0_lines_2 19 rfl rfl)
theorem dX0_lines_70 : decode cX0_lines 70 = .ok (.return_, 1) := dk_177 (dk_at dksX0_lines_2 22 rfl rfl)
abbrev cX0_worthOf : ByteArray := prog_1_method_37_code
def yX0_worthOf : MethodName := ⟨RX0, "worthOf", "(I)I"⟩
def dkwX0_worthOf_7 : List UInt8 := [29, 50, 42, 180, 0, 93, 182, 1, 124, 172]
abbrev dktX0_worthOf_7 : List UInt8 := dkwX0_worthOf_7 ++ []
def dkwX0_worthOf_6 : List UInt8 := [42, 180, 0, 93, 182, 1, 121, 62, 29, 2, 160, 0, 7, 3, 167, 0, 19, 42, 180, 0, 62, 180, 1, 45]
abbrev dktX0_worthOf_6 : List UInt8 := dkwX0_worthOf_6 ++ dktX0_worthOf_7
def dkwX0_worthOf_5 : List UInt8 := [180, 0, 82, 180, 1, 116, 79, 42, 180, 0, 93, 16, 9, 42, 27, 182, 1, 118, 116, 79, 42, 180, 0, 62]
abbrev dktX0_worthOf_5 : List UInt8 := dkwX0_worthOf_5 ++ dktX0_worthOf_6
def dkwX0_worthOf_4 : List UInt8 := [180, 0, 82, 180, 1, 114, 27, 46, 79, 42, 180, 0, 93, 16, 7, 27, 79, 42, 180, 0, 93, 16, 8, 42]
abbrev dktX0_worthOf_4 : List UInt8 := dkwX0_worthOf_4 ++ dktX0_worthOf_5
def dkwX0_worthOf_3 : List UInt8 := [79, 42, 180, 0, 93, 8, 42, 180, 0, 82, 180, 1, 112, 27, 46, 79, 42, 180, 0, 93, 16, 6, 42]
abbrev dktX0_worthOf_3 : List UInt8 := dkwX0_worthOf_3 ++ dktX0_worthOf_4
def dkwX0_worthOf_2 : List UInt8 := [42, 180, 0, 82, 180, 1, 108, 27, 46, 79, 42, 180, 0, 93, 7, 42, 180, 0, 82, 180, 1, 110, 27, 46]
abbrev dktX0_worthOf_2 : List UInt8 := dkwX0_worthOf_2 ++ dktX0_worthOf_3
def dkwX0_worthOf_1 : List UInt8 := [180, 1, 106, 79, 42, 180, 0, 93, 5, 42, 180, 0, 82, 180, 1, 101, 27, 46, 79, 42, 180, 0, 93, 6]
abbrev dktX0_worthOf_1 : List UInt8 := dkwX0_worthOf_1 ++ dktX0_worthOf_2
def dkwX0_worthOf_0 : List UInt8 := [42, 180, 0, 68, 27, 50, 77, 42, 180, 0, 93, 3, 44, 180, 1, 104, 79, 42, 180, 0, 93, 4, 44]
abbrev dktX0_worthOf_0 : List UInt8 := dkwX0_worthOf_0 ++ dktX0_worthOf_1
theorem dksX0_worthOf_0 : cX0_worthOf.data.toList.drop 0 = dktX0_worthOf_0 := by decide +kernel
theorem dksX0_worthOf_1 : cX0_worthOf.data.toList.drop 23 = dktX0_worthOf_1 := dk_seg dksX0_worthOf_0 23 rfl rfl
theorem dksX0_worthOf_2 : cX0_worthOf.data.toList.drop 47 = dktX0_worthOf_2 := dk_seg dksX0_worthOf_1 24 rfl rfl
theorem dksX0_worthOf_3 : cX0_worthOf.data.toList.drop 71 = dktX0_worthOf_3 := dk_seg dksX0_worthOf_2 24 rfl rfl
theorem dksX0_worthOf_4 : cX0_worthOf.data.toList.drop 94 = dktX0_worthOf_4 := dk_seg dksX0_worthOf_3 23 rfl rfl
theorem dksX0_worthOf_5 : cX0_worthOf.data.toList.drop 118 = dktX0_worthOf_5 := dk_seg dksX0_worthOf_4 24 rfl rfl
theorem dksX0_worthOf_6 : cX0_worthOf.data.toList.drop 142 = dktX0_worthOf_6 := dk_seg dksX0_worthOf_5 24 rfl rfl
theorem dksX0_worthOf_7 : cX0_worthOf.data.toList.drop 166 = dktX0_worthOf_7 := dk_seg dksX0_worthOf_6 24 rfl rfl
theorem dX0_worthOf_0 : decode cX0_worthOf 0 = .ok (.aload_n 0, 1) := dk_42 (dk_at dksX0_worthOf_0 0 rfl rfl)
theorem dX0_worthOf_1 : decode cX0_worthOf 1 = .ok (.getfield 68, 3) := dk_180 0 68 (dk_at dksX0_worthOf_0 1 rfl rfl)
theorem dX0_worthOf_4 : decode cX0_worthOf 4 = .ok (.iload_n 1, 1) := dk_27 (dk_at dksX0_worthOf_0 4 rfl rfl)
theorem dX0_worthOf_5 : decode cX0_worthOf 5 = .ok (.aaload, 1) := dk_50 (dk_at dksX0_worthOf_0 5 rfl rfl)
theorem dX0_worthOf_6 : decode cX0_worthOf 6 = .ok (.astore_n 2, 1) := dk_77 (dk_at dksX0_worthOf_0 6 rfl rfl)
theorem dX0_worthOf_7 : decode cX0_worthOf 7 = .ok (.aload_n 0, 1) := dk_42 (dk_at dksX0_worthOf_0 7 rfl rfl)
theorem dX0_worthOf_8 : decode cX0_worthOf 8 = .ok (.getfield 93, 3) := dk_180 0 93 (dk_at dksX0_worthOf_0 8 rfl rfl)
theorem dX0_worthOf_11 : decode cX0_worthOf 11 = .ok (.iconst 0, 1) := dk_3 (dk_at dksX0_worthOf_0 11 rfl rfl)
theorem dX0_worthOf_12 : decode cX0_worthOf 12 = .ok (.aload_n 2, 1) := dk_44 (dk_at dksX0_worthOf_0 12 rfl rfl)
theorem dX0_worthOf_13 : decode cX0_worthOf 13 = .ok (.getfield 360, 3) := dk_180 1 104 (dk_at dksX0_worthOf_0 13 rfl rfl)
theorem dX0_worthOf_16 : decode cX0_worthOf 16 = .ok (.iastore, 1) := dk_79 (dk_at dksX0_worthOf_0 16 rfl rfl)
theorem dX0_worthOf_17 : decode cX0_worthOf 17 = .ok (.aload_n 0, 1) := dk_42 (dk_at dksX0_worthOf_0 17 rfl rfl)
theorem dX0_worthOf_18 : decode cX0_worthOf 18 = .ok (.getfield 93, 3) := dk_180 0 93 (dk_at dksX0_worthOf_0 18 rfl rfl)
theorem dX0_worthOf_21 : decode cX0_worthOf 21 = .ok (.iconst 1, 1) := dk_4 (dk_at dksX0_worthOf_0 21 rfl rfl)
theorem dX0_worthOf_22 : decode cX0_worthOf 22 = .ok (.aload_n 2, 1) := dk_44 (dk_at dksX0_worthOf_0 22 rfl rfl)
theorem dX0_worthOf_23 : decode cX0_worthOf 23 = .ok (.getfield 362, 3) := dk_180 1 106 (dk_at dksX0_worthOf_1 0 rfl rfl)
theorem dX0_worthOf_26 : decode cX0_worthOf 26 = .ok (.iastore, 1) := dk_79 (dk_at dksX0_worthOf_1 3 rfl rfl)
theorem dX0_worthOf_27 : decode cX0_worthOf 27 = .ok (.aload_n 0, 1) := dk_42 (dk_at dksX0_worthOf_1 4 rfl rfl)
theorem dX0_worthOf_28 : decode cX0_worthOf 28 = .ok (.getfield 93, 3) := dk_180 0 93 (dk_at dksX0_worthOf_1 5 rfl rfl)
theorem dX0_worthOf_31 : decode cX0_worthOf 31 = .ok (.iconst 2, 1) := dk_5 (dk_at dksX0_worthOf_1 8 rfl rfl)
theorem dX0_worthOf_32 : decode cX0_worthOf 32 = .ok (.aload_n 0, 1) := dk_42 (dk_at dksX0_worthOf_1 9 rfl rfl)
theorem dX0_worthOf_33 : decode cX0_worthOf 33 = .ok (.getfield 82, 3) := dk_180 0 82 (dk_at dksX0_worthOf_1 10 rfl rfl)
theorem dX0_worthOf_36 : decode cX0_worthOf 36 = .ok (.getfield 357, 3) := dk_180 1 101 (dk_at dksX0_worthOf_1 13 rfl rfl)
theorem dX0_worthOf_39 : decode cX0_worthOf 39 = .ok (.iload_n 1, 1) := dk_27 (dk_at dksX0_worthOf_1 16 rfl rfl)
theorem dX0_worthOf_40 : decode cX0_worthOf 40 = .ok (.iaload, 1) := dk_46 (dk_at dksX0_worthOf_1 17 rfl rfl)
theorem dX0_worthOf_41 : decode cX0_worthOf 41 = .ok (.iastore, 1) := dk_79 (dk_at dksX0_worthOf_1 18 rfl rfl)
theorem dX0_worthOf_42 : decode cX0_worthOf 42 = .ok (.aload_n 0, 1) := dk_42 (dk_at dksX0_worthOf_1 19 rfl rfl)
theorem dX0_worthOf_43 : decode cX0_worthOf 43 = .ok (.getfield 93, 3) := dk_180 0 93 (dk_at dksX0_worthOf_1 20 rfl rfl)
theorem dX0_worthOf_46 : decode cX0_worthOf 46 = .ok (.iconst 3, 1) := dk_6 (dk_at dksX0_worthOf_1 23 rfl rfl)
theorem dX0_worthOf_47 : decode cX0_worthOf 47 = .ok (.aload_n 0, 1) := dk_42 (dk_at dksX0_worthOf_2 0 rfl rfl)
theorem dX0_worthOf_48 : decode cX0_worthOf 48 = .ok (.getfield 82, 3) := dk_180 0 82 (dk_at dksX0_worthOf_2 1 rfl rfl)
theorem dX0_worthOf_51 : decode cX0_worthOf 51 = .ok (.getfield 364, 3) := dk_180 1 108 (dk_at dksX0_worthOf_2 4 rfl rfl)
theorem dX0_worthOf_54 : decode cX0_worthOf 54 = .ok (.iload_n 1, 1) := dk_27 (dk_at dksX0_worthOf_2 7 rfl rfl)
theorem dX0_worthOf_55 : decode cX0_worthOf 55 = .ok (.iaload, 1) := dk_46 (dk_at dksX0_worthOf_2 8 rfl rfl)
theorem dX0_worthOf_56 : decode cX0_worthOf 56 = .ok (.iastore, 1) := dk_79 (dk_at dksX0_worthOf_2 9 rfl rfl)
theorem dX0_worthOf_57 : decode cX0_worthOf 57 = .ok (.aload_n 0, 1) := dk_42 (dk_at dksX0_worthOf_2 10 rfl rfl)
theorem dX0_worthOf_58 : decode cX0_worthOf 58 = .ok (.getfield 93, 3) := dk_180 0 93 (dk_at dksX0_worthOf_2 11 rfl rfl)
theorem dX0_worthOf_61 : decode cX0_worthOf 61 = .ok (.iconst 4, 1) := dk_7 (dk_at dksX0_worthOf_2 14 rfl rfl)
theorem dX0_worthOf_62 : decode cX0_worthOf 62 = .ok (.aload_n 0, 1) := dk_42 (dk_at dksX0_worthOf_2 15 rfl rfl)
theorem dX0_worthOf_63 : decode cX0_worthOf 63 = .ok (.getfield 82, 3) := dk_180 0 82 (dk_at dksX0_worthOf_2 16 rfl rfl)
theorem dX0_worthOf_66 : decode cX0_worthOf 66 = .ok (.getfield 366, 3) := dk_180 1 110 (dk_at dksX0_worthOf_2 19 rfl rfl)
theorem dX0_worthOf_69 : decode cX0_worthOf 69 = .ok (.iload_n 1, 1) := dk_27 (dk_at dksX0_worthOf_2 22 rfl rfl)
theorem dX0_worthOf_70 : decode cX0_worthOf 70 = .ok (.iaload, 1) := dk_46 (dk_at dksX0_worthOf_2 23 rfl rfl)
theorem dX0_worthOf_71 : decode cX0_worthOf 71 = .ok (.iastore, 1) := dk_79 (dk_at dksX0_worthOf_3 0 rfl rfl)
theorem dX0_worthOf_72 : decode cX0_worthOf 72 = .ok (.aload_n 0, 1) := dk_42 (dk_at dksX0_worthOf_3 1 rfl rfl)
theorem dX0_worthOf_73 : decode cX0_worthOf 73 = .ok (.getfield 93, 3) := dk_180 0 93 (dk_at dksX0_worthOf_3 2 rfl rfl)
theorem dX0_worthOf_76 : decode cX0_worthOf 76 = .ok (.iconst 5, 1) := dk_8 (dk_at dksX0_worthOf_3 5 rfl rfl)
theorem dX0_worthOf_77 : decode cX0_worthOf 77 = .ok (.aload_n 0, 1) := dk_42 (dk_at dksX0_worthOf_3 6 rfl rfl)
theorem dX0_worthOf_78 : decode cX0_worthOf 78 = .ok (.getfield 82, 3) := dk_180 0 82 (dk_at dksX0_worthOf_3 7 rfl rfl)
theorem dX0_worthOf_81 : decode cX0_worthOf 81 = .ok (.getfield 368, 3) := dk_180 1 112 (dk_at dksX0_worthOf_3 10 rfl rfl)
theorem dX0_worthOf_84 : decode cX0_worthOf 84 = .ok (.iload_n 1, 1) := dk_27 (dk_at dksX0_worthOf_3 13 rfl rfl)
theorem dX0_worthOf_85 : decode cX0_worthOf 85 = .ok (.iaload, 1) := dk_46 (dk_at dksX0_worthOf_3 14 rfl rfl)
theorem dX0_worthOf_86 : decode cX0_worthOf 86 = .ok (.iastore, 1) := dk_79 (dk_at dksX0_worthOf_3 15 rfl rfl)
theorem dX0_worthOf_87 : decode cX0_worthOf 87 = .ok (.aload_n 0, 1) := dk_42 (dk_at dksX0_worthOf_3 16 rfl rfl)
theorem dX0_worthOf_88 : decode cX0_worthOf 88 = .ok (.getfield 93, 3) := dk_180 0 93 (dk_at dksX0_worthOf_3 17 rfl rfl)
theorem dX0_worthOf_91 : decode cX0_worthOf 91 = .ok (.bipush 6, 2) := dk_16 6 (dk_at dksX0_worthOf_3 20 rfl rfl)
theorem dX0_worthOf_93 : decode cX0_worthOf 93 = .ok (.aload_n 0, 1) := dk_42 (dk_at dksX0_worthOf_3 22 rfl rfl)
theorem dX0_worthOf_94 : decode cX0_worthOf 94 = .ok (.getfield 82, 3) := dk_180 0 82 (dk_at dksX0_worthOf_4 0 rfl rfl)
theorem dX0_worthOf_97 : decode cX0_worthOf 97 = .ok (.getfield 370, 3) := dk_180 1 114 (dk_at dksX0_worthOf_4 3 rfl rfl)
theorem dX0_worthOf_100 : decode cX0_worthOf 100 = .ok (.iload_n 1, 1) := dk_27 (dk_at dksX0_worthOf_4 6 rfl rfl)
theorem dX0_worthOf_101 : decode cX0_worthOf 101 = .ok (.iaload, 1) := dk_46 (dk_at dksX0_worthOf_4 7 rfl rfl)
theorem dX0_worthOf_102 : decode cX0_worthOf 102 = .ok (.iastore, 1) := dk_79 (dk_at dksX0_worthOf_4 8 rfl rfl)
theorem dX0_worthOf_103 : decode cX0_worthOf 103 = .ok (.aload_n 0, 1) := dk_42 (dk_at dksX0_worthOf_4 9 rfl rfl)
theorem dX0_worthOf_104 : decode cX0_worthOf 104 = .ok (.getfield 93, 3) := dk_180 0 93 (dk_at dksX0_worthOf_4 10 rfl rfl)
theorem dX0_worthOf_107 : decode cX0_worthOf 107 = .ok (.bipush 7, 2) := dk_16 7 (dk_at dksX0_worthOf_4 13 rfl rfl)
theorem dX0_worthOf_109 : decode cX0_worthOf 109 = .ok (.iload_n 1, 1) := dk_27 (dk_at dksX0_worthOf_4 15 rfl rfl)
theorem dX0_worthOf_110 : decode cX0_worthOf 110 = .ok (.iastore, 1) := dk_79 (dk_at dksX0_worthOf_4 16 rfl rfl)
theorem dX0_worthOf_111 : decode cX0_worthOf 111 = .ok (.aload_n 0, 1) := dk_42 (dk_at dksX0_worthOf_4 17 rfl rfl)
theorem dX0_worthOf_112 : decode cX0_worthOf 112 = .ok (.getfield 93, 3) := dk_180 0 93 (dk_at dksX0_worthOf_4 18 rfl rfl)
theorem dX0_worthOf_115 : decode cX0_worthOf 115 = .ok (.bipush 8, 2) := dk_16 8 (dk_at dksX0_worthOf_4 21 rfl rfl)
theorem dX0_worthOf_117 : decode cX0_worthOf 117 = .ok (.aload_n 0, 1) := dk_42 (dk_at dksX0_worthOf_4 23 rfl rfl)
theorem dX0_worthOf_118 : decode cX0_worthOf 118 = .ok (.getfield 82, 3) := dk_180 0 82 (dk_at dksX0_worthOf_5 0 rfl rfl)
theorem dX0_worthOf_121 : decode cX0_worthOf 121 = .ok (.getfield 372, 3) := dk_180 1 116 (dk_at dksX0_worthOf_5 3 rfl rfl)
theorem dX0_worthOf_124 : decode cX0_worthOf 124 = .ok (.iastore, 1) := dk_79 (dk_at dksX0_worthOf_5 6 rfl rfl)
theorem dX0_worthOf_125 : decode cX0_worthOf 125 = .ok (.aload_n 0, 1) := dk_42 (dk_at dksX0_worthOf_5 7 rfl rfl)
theorem dX0_worthOf_126 : decode cX0_worthOf 126 = .ok (.getfield 93, 3) := dk_180 0 93 (dk_at dksX0_worthOf_5 8 rfl rfl)
theorem dX0_worthOf_129 : decode cX0_worthOf 129 = .ok (.bipush 9, 2) := dk_16 9 (dk_at dksX0_worthOf_5 11 rfl rfl)
theorem dX0_worthOf_131 : decode cX0_worthOf 131 = .ok (.aload_n 0, 1) := dk_42 (dk_at dksX0_worthOf_5 13 rfl rfl)
theorem dX0_worthOf_132 : decode cX0_worthOf 132 = .ok (.iload_n 1, 1) := dk_27 (dk_at dksX0_worthOf_5 14 rfl rfl)
theorem dX0_worthOf_133 : decode cX0_worthOf 133 = .ok (.invokevirtual 374, 3) := dk_182 1 118 (dk_at dksX0_worthOf_5 15 rfl rfl)
theorem dX0_worthOf_136 : decode cX0_worthOf 136 = .ok (.ineg, 1) := dk_116 (dk_at dksX0_worthOf_5 18 rfl rfl)
theorem dX0_worthOf_137 : decode cX0_worthOf 137 = .ok (.iastore, 1) := dk_79 (dk_at dksX0_worthOf_5 19 rfl rfl)
theorem dX0_worthOf_138 : decode cX0_worthOf 138 = .ok (.aload_n 0, 1) := dk_42 (dk_at dksX0_worthOf_5 20 rfl rfl)
theorem dX0_worthOf_139 : decode cX0_worthOf 139 = .ok (.getfield 62, 3) := dk_180 0 62 (dk_at dksX0_worthOf_5 21 rfl rfl)
theorem dX0_worthOf_142 : decode cX0_worthOf 142 = .ok (.aload_n 0, 1) := dk_42 (dk_at dksX0_worthOf_6 0 rfl rfl)
theorem dX0_worthOf_143 : decode cX0_worthOf 143 = .ok (.getfield 93, 3) := dk_180 0 93 (dk_at dksX0_worthOf_6 1 rfl rfl)
theorem dX0_worthOf_146 : decode cX0_worthOf 146 = .ok (.invokevirtual 377, 3) := dk_182 1 121 (dk_at dksX0_worthOf_6 4 rfl rfl)
theorem dX0_worthOf_149 : decode cX0_worthOf 149 = .ok (.istore_n 3, 1) := dk_62 (dk_at dksX0_worthOf_6 7 rfl rfl)
theorem dX0_worthOf_150 : decode cX0_worthOf 150 = .ok (.iload_n 3, 1) := dk_29 (dk_at dksX0_worthOf_6 8 rfl rfl)
theorem dX0_worthOf_151 : decode cX0_worthOf 151 = .ok (.iconst (-1), 1) := dk_2 (dk_at dksX0_worthOf_6 9 rfl rfl)
theorem dX0_worthOf_152 : decode cX0_worthOf 152 = .ok (.if_icmp .ne 7, 3) := dk_160 0 7 (dk_at dksX0_worthOf_6 10 rfl rfl)
theorem dX0_worthOf_155 : decode cX0_worthOf 155 = .ok (.iconst 0, 1) := dk_3 (dk_at dksX0_worthOf_6 13 rfl rfl)
theorem dX0_worthOf_156 : decode cX0_worthOf 156 = .ok (.goto 19, 3) := dk_167 0 19 (dk_at dksX0_worthOf_6 14 rfl rfl)
theorem dX0_worthOf_159 : decode cX0_worthOf 159 = .ok (.aload_n 0, 1) := dk_42 (dk_at dksX0_worthOf_6 17 rfl rfl)
theorem dX0_worthOf_160 : decode cX0_worthOf 160 = .ok (.getfield 62, 3) := dk_180 0 62 (dk_at dksX0_worthOf_6 18 rfl rfl)
theorem dX0_worthOf_163 : decode cX0_worthOf 163 = .ok (.getfield 301, 3) := dk_180 1 45 (dk_at dksX0_worthOf_6 21 rfl rfl)
theorem dX0_worthOf_166 : decode cX0_worthOf 166 = .ok (.iload_n 3, 1) := dk_29 (dk_at dksX0_worthOf_7 0 rfl rfl)
theorem dX0_worthOf_167 : decode cX0_worthOf 167 = .ok (.aaload, 1) := dk_50 (dk_at dksX0_worthOf_7 1 rfl rfl)
theorem dX0_worthOf_168 : decode cX0_worthOf 168 = .ok (.aload_n 0, 1) := dk_42 (dk_at dksX0_worthOf_7 2 rfl rfl)
theorem dX0_worthOf_169 : decode cX0_worthOf 169 = .ok (.getfield 93, 3) := dk_180 0 93 (dk_at dksX0_worthOf_7 3 rfl rfl)
theorem dX0_worthOf_172 : decode cX0_worthOf 172 = .ok (.invokevirtual 380, 3) := dk_182 1 124 (dk_at dksX0_worthOf_7 6 rfl rfl)
theorem dX0_worthOf_175 : decode cX0_worthOf 175 = .ok (.ireturn, 1) := dk_172 (dk_at dksX0_worthOf_7 9 rfl rfl)
abbrev cX0_netOf : ByteArray := prog_1_method_74_code
def yX0_netOf : MethodName := ⟨RX0, "netOf", "(I)I"⟩
def dkwX0_netOf_1 : List UInt8 := [180, 0, 129, 27, 50, 29, 46, 100, 96, 61, 132, 3, 1, 167, 255, 225, 28, 172]
abbrev dktX0_netOf_1 : List UInt8 := dkwX0_netOf_1 ++ []
def dkwX0_netOf_0 : List UInt8 := [3, 61, 3, 62, 29, 42, 180, 1, 69, 162, 0, 29, 28, 42, 180, 0, 129, 29, 50, 27, 46, 42]
abbrev dktX0_netOf_0 : List UInt8 := dkwX0_netOf_0 ++ dktX0_netOf_1
theorem dksX0_netOf_0 : cX0_netOf.data.toList.drop 0 = dktX0_netOf_0 := by decide +kernel
theorem dksX0_netOf_1 : cX0_netOf.data.toList.drop 22 = dktX0_netOf_1 := dk_seg dksX0_netOf_0 22 rfl rfl
theorem dX0_netOf_0 : decode cX0_netOf 0 = .ok (.iconst 0, 1) := dk_3 (dk_at dksX0_netOf_0 0 rfl rfl)
theorem dX0_netOf_1 : decode cX0_netOf 1 = .ok (.istore_n 2, 1) := dk_61 (dk_at dksX0_netOf_0 1 rfl rfl)
theorem dX0_netOf_2 : decode cX0_netOf 2 = .ok (.iconst 0, 1) := dk_3 (dk_at dksX0_netOf_0 2 rfl rfl)
theorem dX0_netOf_3 : decode cX0_netOf 3 = .ok (.istore_n 3, 1) := dk_62 (dk_at dksX0_netOf_0 3 rfl rfl)
theorem dX0_netOf_4 : decode cX0_netOf 4 = .ok (.iload_n 3, 1) := dk_29 (dk_at dksX0_netOf_0 4 rfl rfl)
theorem dX0_netOf_5 : decode cX0_netOf 5 = .ok (.aload_n 0, 1) := dk_42 (dk_at dksX0_netOf_0 5 rfl rfl)
theorem dX0_netOf_6 : decode cX0_netOf 6 = .ok (.getfield 325, 3) := dk_180 1 69 (dk_at dksX0_netOf_0 6 rfl rfl)
theorem dX0_netOf_9 : decode cX0_netOf 9 = .ok (.if_icmp .ge 29, 3) := dk_162 0 29 (dk_at dksX0_netOf_0 9 rfl rfl)
theorem dX0_netOf_12 : decode cX0_netOf 12 = .ok (.iload_n 2, 1) := dk_28 (dk_at dksX0_netOf_0 12 rfl rfl)
theorem dX0_netOf_13 : decode cX0_netOf 13 = .ok (.aload_n 0, 1) := dk_42 (dk_at dksX0_netOf_0 13 rfl rfl)
theorem dX0_netOf_14 : decode cX0_netOf 14 = .ok (.getfield 129, 3) := dk_180 0 129 (dk_at dksX0_netOf_0 14 rfl rfl)
theorem dX0_netOf_17 : decode cX0_netOf 17 = .ok (.iload_n 3, 1) := dk_29 (dk_at dksX0_netOf_0 17 rfl rfl)
theorem dX0_netOf_18 : decode cX0_netOf 18 = .ok (.aaload, 1) := dk_50 (dk_at dksX0_netOf_0 18 rfl rfl)
theorem dX0_netOf_19 : decode cX0_netOf 19 = .ok (.iload_n 1, 1) := dk_27 (dk_at dksX0_netOf_0 19 rfl rfl)
theorem dX0_netOf_20 : decode cX0_netOf 20 = .ok (.iaload, 1) := dk_46 (dk_at dksX0_netOf_0 20 rfl rfl)
theorem dX0_netOf_21 : decode cX0_netOf 21 = .ok (.aload_n 0, 1) := dk_42 (dk_at dksX0_netOf_0 21 rfl rfl)
theorem dX0_netOf_22 : decode cX0_netOf 22 = .ok (.getfield 129, 3) := dk_180 0 129 (dk_at dksX0_netOf_1 0 rfl rfl)
theorem dX0_netOf_25 : decode cX0_netOf 25 = .ok (.iload_n 1, 1) := dk_27 (dk_at dksX0_netOf_1 3 rfl rfl)
theorem dX0_netOf_26 : decode cX0_netOf 26 = .ok (.aaload, 1) := dk_50 (dk_at dksX0_netOf_1 4 rfl rfl)
theorem dX0_netOf_27 : decode cX0_netOf 27 = .ok (.iload_n 3, 1) := dk_29 (dk_at dksX0_netOf_1 5 rfl rfl)
theorem dX0_netOf_28 : decode cX0_netOf 28 = .ok (.iaload, 1) := dk_46 (dk_at dksX0_netOf_1 6 rfl rfl)
theorem dX0_netOf_29 : decode cX0_netOf 29 = .ok (.isub, 1) := dk_100 (dk_at dksX0_netOf_1 7 rfl rfl)
theorem dX0_netOf_30 : decode cX0_netOf 30 = .ok (.iadd, 1) := dk_96 (dk_at dksX0_netOf_1 8 rfl rfl)
theorem dX0_netOf_31 : decode cX0_netOf 31 = .ok (.istore_n 2, 1) := dk_61 (dk_at dksX0_netOf_1 9 rfl rfl)
theorem dX0_netOf_32 : decode cX0_netOf 32 = .ok (.iinc 3 1, 3) := dk_132 3 1 (dk_at dksX0_netOf_1 10 rfl rfl)
theorem dX0_netOf_35 : decode cX0_netOf 35 = .ok (.goto (-31), 3) := dk_167 255 225 (dk_at dksX0_netOf_1 13 rfl rfl)
theorem dX0_netOf_38 : decode cX0_netOf 38 = .ok (.iload_n 2, 1) := dk_28 (dk_at dksX0_netOf_1 16 rfl rfl)
theorem dX0_netOf_39 : decode cX0_netOf 39 = .ok (.ireturn, 1) := dk_172 (dk_at dksX0_netOf_1 17 rfl rfl)
abbrev cX0_days : ByteArray := prog_1_method_45_code
def yX0_days : MethodName := ⟨RX0, "days", "(I)I"⟩
def dkwX0_days_3 : List UInt8 := [132, 3, 1, 167, 255, 218, 28, 172]
abbrev dktX0_days_3 : List UInt8 := dkwX0_days_3 ++ []
def dkwX0_days_2 : List UInt8 := [161, 0, 7, 42, 182, 1, 180, 28, 42, 182, 1, 183, 153, 0, 7, 4, 167, 0, 4, 3, 96, 61]
abbrev dktX0_days_2 : List UInt8 := dkwX0_days_2 ++ dktX0_days_3
def dkwX0_days_1 : List UInt8 := [164, 0, 5, 2, 172, 3, 61, 3, 62, 29, 27, 162, 0, 39, 29, 27, 42, 180, 0, 89, 190, 100]
abbrev dktX0_days_1 : List UInt8 := dkwX0_days_1 ++ dktX0_days_2
def dkwX0_days_0 : List UInt8 := [27, 4, 17, 1, 144, 184, 0, 160, 153, 0, 18, 42, 180, 0, 82, 180, 1, 116, 27, 96, 17, 39, 15]
abbrev dktX0_days_0 : List UInt8 := dkwX0_days_0 ++ dktX0_days_1
theorem dksX0_days_0 : cX0_days.data.toList.drop 0 = dktX0_days_0 := by decide +kernel
theorem dksX0_days_1 : cX0_days.data.toList.drop 23 = dktX0_days_1 := dk_seg dksX0_days_0 23 rfl rfl
theorem dksX0_days_2 : cX0_days.data.toList.drop 45 = dktX0_days_2 := dk_seg dksX0_days_1 22 rfl rfl
theorem dksX0_days_3 : cX0_days.data.toList.drop 67 = dktX0_days_3 := dk_seg dksX0_days_2 22 rfl rfl
theorem dX0_days_0 : decode cX0_days 0 = .ok (.iload_n 1, 1) := dk_27 (dk_at dksX0_days_0 0 rfl rfl)
theorem dX0_days_1 : decode cX0_days 1 = .ok (.iconst 1, 1) := dk_4 (dk_at dksX0_days_0 1 rfl rfl)
theorem dX0_days_2 : decode cX0_days 2 = .ok (.sipush 400, 3) := dk_17 1 144 (dk_at dksX0_days_0 2 rfl rfl)
theorem dX0_days_5 : decode cX0_days 5 = .ok (.invokestatic 160, 3) := dk_184 0 160 (dk_at dksX0_days_0 5 rfl rfl)
theorem dX0_days_8 : decode cX0_days 8 = .ok (.ifCond .eq 18, 3) := dk_153 0 18 (dk_at dksX0_days_0 8 rfl rfl)
theorem dX0_days_11 : decode cX0_days 11 = .ok (.aload_n 0, 1) := dk_42 (dk_at dksX0_days_0 11 rfl rfl)
theorem dX0_days_12 : decode cX0_days 12 = .ok (.getfield 82, 3) := dk_180 0 82 (dk_at dksX0_days_0 12 rfl rfl)
theorem dX0_days_15 : decode cX0_days 15 = .ok (.getfield 372, 3) := dk_180 1 116 (dk_at dksX0_days_0 15 rfl rfl)
theorem dX0_days_18 : decode cX0_days 18 = .ok (.iload_n 1, 1) := dk_27 (dk_at dksX0_days_0 18 rfl rfl)
theorem dX0_days_19 : decode cX0_days 19 = .ok (.iadd, 1) := dk_96 (dk_at dksX0_days_0 19 rfl rfl)
theorem dX0_days_20 : decode cX0_days 20 = .ok (.sipush 9999, 3) := dk_17 39 15 (dk_at dksX0_days_0 20 rfl rfl)
theorem dX0_days_23 : decode cX0_days 23 = .ok (.if_icmp .le 5, 3) := dk_164 0 5 (dk_at dksX0_days_1 0 rfl rfl)
theorem dX0_days_26 : decode cX0_days 26 = .ok (.iconst (-1), 1) := dk_2 (dk_at dksX0_days_1 3 rfl rfl)
theorem dX0_days_27 : decode cX0_days 27 = .ok (.ireturn, 1) := dk_172 (dk_at dksX0_days_1 4 rfl rfl)
theorem dX0_days_28 : decode cX0_days 28 = .ok (.iconst 0, 1) := dk_3 (dk_at dksX0_days_1 5 rfl rfl)
theorem dX0_days_29 : decode cX0_days 29 = .ok (.istore_n 2, 1) := dk_61 (dk_at dksX0_days_1 6 rfl rfl)
theorem dX0_days_30 : decode cX0_days 30 = .ok (.iconst 0, 1) := dk_3 (dk_at dksX0_days_1 7 rfl rfl)
theorem dX0_days_31 : decode cX0_days 31 = .ok (.istore_n 3, 1) := dk_62 (dk_at dksX0_days_1 8 rfl rfl)
theorem dX0_days_32 : decode cX0_days 32 = .ok (.iload_n 3, 1) := dk_29 (dk_at dksX0_days_1 9 rfl rfl)
theorem dX0_days_33 : decode cX0_days 33 = .ok (.iload_n 1, 1) := dk_27 (dk_at dksX0_days_1 10 rfl rfl)
theorem dX0_days_34 : decode cX0_days 34 = .ok (.if_icmp .ge 39, 3) := dk_162 0 39 (dk_at dksX0_days_1 11 rfl rfl)
theorem dX0_days_37 : decode cX0_days 37 = .ok (.iload_n 3, 1) := dk_29 (dk_at dksX0_days_1 14 rfl rfl)
theorem dX0_days_38 : decode cX0_days 38 = .ok (.iload_n 1, 1) := dk_27 (dk_at dksX0_days_1 15 rfl rfl)
theorem dX0_days_39 : decode cX0_days 39 = .ok (.aload_n 0, 1) := dk_42 (dk_at dksX0_days_1 16 rfl rfl)
theorem dX0_days_40 : decode cX0_days 40 = .ok (.getfield 89, 3) := dk_180 0 89 (dk_at dksX0_days_1 17 rfl rfl)
theorem dX0_days_43 : decode cX0_days 43 = .ok (.arraylength, 1) := dk_190 (dk_at dksX0_days_1 20 rfl rfl)
theorem dX0_days_44 : decode cX0_days 44 = .ok (.isub, 1) := dk_100 (dk_at dksX0_days_1 21 rfl rfl)
theorem dX0_days_45 : decode cX0_days 45 = .ok (.if_icmp .lt 7, 3) := dk_161 0 7 (dk_at dksX0_days_2 0 rfl rfl)
theorem dX0_days_48 : decode cX0_days 48 = .ok (.aload_n 0, 1) := dk_42 (dk_at dksX0_days_2 3 rfl rfl)
theorem dX0_days_49 : decode cX0_days 49 = .ok (.invokevirtual 436, 3) := dk_182 1 180 (dk_at dksX0_days_2 4 rfl rfl)
theorem dX0_days_52 : decode cX0_days 52 = .ok (.iload_n 2, 1) := dk_28 (dk_at dksX0_days_2 7 rfl rfl)
theorem dX0_days_53 : decode cX0_days 53 = .ok (.aload_n 0, 1) := dk_42 (dk_at dksX0_days_2 8 rfl rfl)
theorem dX0_days_54 : decode cX0_days 54 = .ok (.invokevirtual 439, 3) := dk_182 1 183 (dk_at dksX0_days_2 9 rfl rfl)
theorem dX0_days_57 : decode cX0_days 57 = .ok (.ifCond .eq 7, 3) := dk_153 0 7 (dk_at dksX0_days_2 12 rfl rfl)
theorem dX0_days_60 : decode cX0_days 60 = .ok (.iconst 1, 1) := dk_4 (dk_at dksX0_days_2 15 rfl rfl)
theorem dX0_days_61 : decode cX0_days 61 = .ok (.goto 4, 3) := dk_167 0 4 (dk_at dksX0_days_2 16 rfl rfl)
theorem dX0_days_64 : decode cX0_days 64 = .ok (.iconst 0, 1) := dk_3 (dk_at dksX0_days_2 19 rfl rfl)
theorem dX0_days_65 : decode cX0_days 65 = .ok (.iadd, 1) := dk_96 (dk_at dksX0_days_2 20 rfl rfl)
theorem dX0_days_66 : decode cX0_days 66 = .ok (.istore_n 2, 1) := dk_61 (dk_at dksX0_days_2 21 rfl rfl)
theorem dX0_days_67 : decode cX0_days 67 = .ok (.iinc 3 1, 3) := dk_132 3 1 (dk_at dksX0_days_3 0 rfl rfl)
theorem dX0_days_70 : decode cX0_days 70 = .ok (.goto (-38), 3) := dk_167 255 218 (dk_at dksX0_days_3 3 rfl rfl)
theorem dX0_days_73 : decode cX0_days 73 = .ok (.iload_n 2, 1) := dk_28 (dk_at dksX0_days_3 6 rfl rfl)
theorem dX0_days_74 : decode cX0_days 74 = .ok (.ireturn, 1) := dk_172 (dk_at dksX0_days_3 7 rfl rfl)
abbrev cX0_keepsAhead : ByteArray := prog_1_method_31_code
def yX0_keepsAhead : MethodName := ⟨RX0, "keepsAhead", "()V"⟩
def dkwX0_keepsAhead_3 : List UInt8 := [182, 1, 78, 42, 89, 180, 1, 75, 4, 96, 181, 1, 75, 177]
abbrev dktX0_keepsAhead_3 : List UInt8 := dkwX0_keepsAhead_3 ++ []
def dkwX0_keepsAhead_2 : List UInt8 := [42, 180, 0, 89, 42, 180, 1, 75, 43, 83, 42, 180, 0, 89, 42, 180, 1, 75, 50, 42, 180, 0, 82]
abbrev dktX0_keepsAhead_2 : List UInt8 := dkwX0_keepsAhead_2 ++ dktX0_keepsAhead_3
def dkwX0_keepsAhead_1 : List UInt8 := [42, 180, 0, 89, 3, 42, 180, 1, 75, 4, 100, 184, 1, 63, 42, 89, 180, 1, 75, 4, 100, 181, 1, 75]
abbrev dktX0_keepsAhead_1 : List UInt8 := dkwX0_keepsAhead_1 ++ dktX0_keepsAhead_2
def dkwX0_keepsAhead_0 : List UInt8 := [42, 180, 1, 75, 42, 180, 0, 89, 190, 160, 0, 49, 42, 180, 0, 89, 3, 50, 76, 42, 180, 0, 89, 4]
abbrev dktX0_keepsAhead_0 : List UInt8 := dkwX0_keepsAhead_0 ++ dktX0_keepsAhead_1
theorem dksX0_keepsAhead_0 : cX0_keepsAhead.data.toList.drop 0 = dktX0_keepsAhead_0 := by decide +kernel
theorem dksX0_keepsAhead_1 : cX0_keepsAhead.data.toList.drop 24 = dktX0_keepsAhead_1 := dk_seg dksX0_keepsAhead_0 24 rfl rfl
theorem dksX0_keepsAhead_2 : cX0_keepsAhead.data.toList.drop 48 = dktX0_keepsAhead_2 := dk_seg dksX0_keepsAhead_1 24 rfl rfl
theorem dksX0_keepsAhead_3 : cX0_keepsAhead.data.toList.drop 71 = dktX0_keepsAhead_3 := dk_seg dksX0_keepsAhead_2 23 rfl rfl
theorem dX0_keepsAhead_0 : decode cX0_keepsAhead 0 = .ok (.aload_n 0, 1) := dk_42 (dk_at dksX0_keepsAhead_0 0 rfl rfl)
theorem dX0_keepsAhead_1 : decode cX0_keepsAhead 1 = .ok (.getfield 331, 3) := dk_180 1 75 (dk_at dksX0_keepsAhead_0 1 rfl rfl)
theorem dX0_keepsAhead_4 : decode cX0_keepsAhead 4 = .ok (.aload_n 0, 1) := dk_42 (dk_at dksX0_keepsAhead_0 4 rfl rfl)
theorem dX0_keepsAhead_5 : decode cX0_keepsAhead 5 = .ok (.getfield 89, 3) := dk_180 0 89 (dk_at dksX0_keepsAhead_0 5 rfl rfl)
theorem dX0_keepsAhead_8 : decode cX0_keepsAhead 8 = .ok (.arraylength, 1) := dk_190 (dk_at dksX0_keepsAhead_0 8 rfl rfl)
theorem dX0_keepsAhead_9 : decode cX0_keepsAhead 9 = .ok (.if_icmp .ne 49, 3) := dk_160 0 49 (dk_at dksX0_keepsAhead_0 9 rfl rfl)
theorem dX0_keepsAhead_12 : decode cX0_keepsAhead 12 = .ok (.aload_n 0, 1) := dk_42 (dk_at dksX0_keepsAhead_0 12 rfl rfl)
theorem dX0_keepsAhead_13 : decode cX0_keepsAhead 13 = .ok (.getfield 89, 3) := dk_180 0 89 (dk_at dksX0_keepsAhead_0 13 rfl rfl)
theorem dX0_keepsAhead_16 : decode cX0_keepsAhead 16 = .ok (.iconst 0, 1) := dk_3 (dk_at dksX0_keepsAhead_0 16 rfl rfl)
theorem dX0_keepsAhead_17 : decode cX0_keepsAhead 17 = .ok (.aaload, 1) := dk_50 (dk_at dksX0_keepsAhead_0 17 rfl rfl)
theorem dX0_keepsAhead_18 : decode cX0_keepsAhead 18 = .ok (.astore_n 1, 1) := dk_76 (dk_at dksX0_keepsAhead_0 18 rfl rfl)
theorem dX0_keepsAhead_19 : decode cX0_keepsAhead 19 = .ok (.aload_n 0, 1) := dk_42 (dk_at dksX0_keepsAhead_0 19 rfl rfl)
theorem dX0_keepsAhead_20 : decode cX0_keepsAhead 20 = .ok (.getfield 89, 3) := dk_180 0 89 (dk_at dksX0_keepsAhead_0 20 rfl rfl)
theorem dX0_keepsAhead_23 : decode cX0_keepsAhead 23 = .ok (.iconst 1, 1) := dk_4 (dk_at dksX0_keepsAhead_0 23 rfl rfl)
theorem dX0_keepsAhead_24 : decode cX0_keepsAhead 24 = .ok (.aload_n 0, 1) := dk_42 (dk_at dksX0_keepsAhead_1 0 rfl rfl)
theorem dX0_keepsAhead_25 : decode cX0_keepsAhead 25 = .ok (.getfield 89, 3) := dk_180 0 89 (dk_at dksX0_keepsAhead_1 1 rfl rfl)
theorem dX0_keepsAhead_28 : decode cX0_keepsAhead 28 = .ok (.iconst 0, 1) := dk_3 (dk_at dksX0_keepsAhead_1 4 rfl rfl)
theorem dX0_keepsAhead_29 : decode cX0_keepsAhead 29 = .ok (.aload_n 0, 1) := dk_42 (dk_at dksX0_keepsAhead_1 5 rfl rfl)
theorem dX0_keepsAhead_30 : decode cX0_keepsAhead 30 = .ok (.getfield 331, 3) := dk_180 1 75 (dk_at dksX0_keepsAhead_1 6 rfl rfl)
theorem dX0_keepsAhead_33 : decode cX0_keepsAhead 33 = .ok (.iconst 1, 1) := dk_4 (dk_at dksX0_keepsAhead_1 9 rfl rfl)
theorem dX0_keepsAhead_34 : decode cX0_keepsAhead 34 = .ok (.isub, 1) := dk_100 (dk_at dksX0_keepsAhead_1 10 rfl rfl)
theorem dX0_keepsAhead_35 : decode cX0_keepsAhead 35 = .ok (.invokestatic 319, 3) := dk_184 1 63 (dk_at dksX0_keepsAhead_1 11 rfl rfl)
theorem dX0_keepsAhead_38 : decode cX0_keepsAhead 38 = .ok (.aload_n 0, 1) := dk_42 (dk_at dksX0_keepsAhead_1 14 rfl rfl)
theorem dX0_keepsAhead_39 : decode cX0_keepsAhead 39 = .ok (.dup, 1) := dk_89 (dk_at dksX0_keepsAhead_1 15 rfl rfl)
theorem dX0_keepsAhead_40 : decode cX0_keepsAhead 40 = .ok (.getfield 331, 3) := dk_180 1 75 (dk_at dksX0_keepsAhead_1 16 rfl rfl)
theorem dX0_keepsAhead_43 : decode cX0_keepsAhead 43 = .ok (.iconst 1, 1) := dk_4 (dk_at dksX0_keepsAhead_1 19 rfl rfl)
theorem dX0_keepsAhead_44 : decode cX0_keepsAhead 44 = .ok (.isub, 1) := dk_100 (dk_at dksX0_keepsAhead_1 20 rfl rfl)
theorem dX0_keepsAhead_45 : decode cX0_keepsAhead 45 = .ok (.putfield 331, 3) := dk_181 1 75 (dk_at dksX0_keepsAhead_1 21 rfl rfl)
theorem dX0_keepsAhead_48 : decode cX0_keepsAhead 48 = .ok (.aload_n 0, 1) := dk_42 (dk_at dksX0_keepsAhead_2 0 rfl rfl)
theorem dX0_keepsAhead_49 : decode cX0_keepsAhead 49 = .ok (.getfield 89, 3) := dk_180 0 89 (dk_at dksX0_keepsAhead_2 1 rfl rfl)
theorem dX0_keepsAhead_52 : decode cX0_keepsAhead 52 = .ok (.aload_n 0, 1) := dk_42 (dk_at dksX0_keepsAhead_2 4 rfl rfl)
theorem dX0_keepsAhead_53 : decode cX0_keepsAhead 53 = .ok (.getfield 331, 3) := dk_180 1 75 (dk_at dksX0_keepsAhead_2 5 rfl rfl)
theorem dX0_keepsAhead_56 : decode cX0_keepsAhead 56 = .ok (.aload_n 1, 1) := dk_43 (dk_at dksX0_keepsAhead_2 8 rfl rfl)
theorem dX0_keepsAhead_57 : decode cX0_keepsAhead 57 = .ok (.aastore, 1) := dk_83 (dk_at dksX0_keepsAhead_2 9 rfl rfl)
theorem dX0_keepsAhead_58 : decode cX0_keepsAhead 58 = .ok (.aload_n 0, 1) := dk_42 (dk_at dksX0_keepsAhead_2 10 rfl rfl)
theorem dX0_keepsAhead_59 : decode cX0_keepsAhead 59 = .ok (.getfield 89, 3) := dk_180 0 89 (dk_at dksX0_keepsAhead_2 11 rfl rfl)
theorem dX0_keepsAhead_62 : decode cX0_keepsAhead 62 = .ok (.aload_n 0, 1) := dk_42 (dk_at dksX0_keepsAhead_2 14 rfl rfl)
theorem dX0_keepsAhead_63 : decode cX0_keepsAhead 63 = .ok (.getfield 331, 3) := dk_180 1 75 (dk_at dksX0_keepsAhead_2 15 rfl rfl)
theorem dX0_keepsAhead_66 : decode cX0_keepsAhead 66 = .ok (.aaload, 1) := dk_50 (dk_at dksX0_keepsAhead_2 18 rfl rfl)
theorem dX0_keepsAhead_67 : decode cX0_keepsAhead 67 = .ok (.aload_n 0, 1) := dk_42 (dk_at dksX0_keepsAhead_2 19 rfl rfl)
theorem dX0_keepsAhead_68 : decode cX0_keepsAhead 68 = .ok (.getfield 82, 3) := dk_180 0 82 (dk_at dksX0_keepsAhead_2 20 rfl rfl)
theorem dX0_keepsAhead_71 : decode cX0_keepsAhead 71 = .ok (.invokevirtual 334, 3) := dk_182 1 78 (dk_at dksX0_keepsAhead_3 0 rfl rfl)
theorem dX0_keepsAhead_74 : decode cX0_keepsAhead 74 = .ok (.aload_n 0, 1) := dk_42 (dk_at dksX0_keepsAhead_3 3 rfl rfl)
theorem dX0_keepsAhead_75 : decode cX0_keepsAhead 75 = .ok (.dup, 1) := dk_89 (dk_at dksX0_keepsAhead_3 4 rfl rfl)
theorem dX0_keepsAhead_76 : decode cX0_keepsAhead 76 = .ok (.getfield 331, 3) := dk_180 1 75 (dk_at dksX0_keepsAhead_3 5 rfl rfl)
theorem dX0_keepsAhead_79 : decode cX0_keepsAhead 79 = .ok (.iconst 1, 1) := dk_4 (dk_at dksX0_keepsAhead_3 8 rfl rfl)
theorem dX0_keepsAhead_80 : decode cX0_keepsAhead 80 = .ok (.iadd, 1) := dk_96 (dk_at dksX0_keepsAhead_3 9 rfl rfl)
theorem dX0_keepsAhead_81 : decode cX0_keepsAhead 81 = .ok (.putfield 331, 3) := dk_181 1 75 (dk_at dksX0_keepsAhead_3 10 rfl rfl)
theorem dX0_keepsAhead_84 : decode cX0_keepsAhead 84 = .ok (.return_, 1) := dk_177 (dk_at dksX0_keepsAhead_3 13 rfl rfl)
abbrev cX0_goesBy : ByteArray := prog_1_method_44_code
def yX0_goesBy : MethodName := ⟨RX0, "goesBy", "()Z"⟩
def dkwX0_goesBy_9 : List UInt8 := [181, 1, 116, 27, 2, 159, 0, 7, 4, 167, 0, 4, 3, 172]
abbrev dktX0_goesBy_9 : List UInt8 := dkwX0_goesBy_9 ++ []
def dkwX0_goesBy_8 : List UInt8 := [167, 0, 9, 42, 180, 0, 99, 27, 46, 181, 1, 177, 42, 180, 0, 82, 89, 180, 1, 116, 4, 96]
abbrev dktX0_goesBy_8 : List UInt8 := dkwX0_goesBy_8 ++ dktX0_goesBy_9
def dkwX0_goesBy_7 : List UInt8 := [42, 180, 0, 82, 42, 180, 1, 69, 4, 96, 181, 1, 174, 42, 180, 0, 82, 27, 2, 160, 0, 7, 2]
abbrev dktX0_goesBy_7 : List UInt8 := dkwX0_goesBy_7 ++ dktX0_goesBy_8
def dkwX0_goesBy_6 : List UInt8 := [154, 0, 7, 4, 167, 0, 4, 3, 96, 79, 42, 180, 0, 99, 42, 180, 0, 82, 180, 1, 167, 184, 1, 170]
abbrev dktX0_goesBy_6 : List UInt8 := dkwX0_goesBy_6 ++ dktX0_goesBy_7
def dkwX0_goesBy_5 : List UInt8 := [180, 0, 82, 180, 1, 136, 42, 180, 0, 99, 3, 46, 92, 46, 42, 180, 0, 82, 180, 1, 116, 16, 7, 112]
abbrev dktX0_goesBy_5 : List UInt8 := dkwX0_goesBy_5 ++ dktX0_goesBy_6
def dkwX0_goesBy_4 : List UInt8 := [158, 0, 56, 42, 180, 0, 82, 180, 1, 112, 42, 180, 0, 99, 3, 46, 92, 46, 4, 96, 79, 42]
abbrev dktX0_goesBy_4 : List UInt8 := dkwX0_goesBy_4 ++ dktX0_goesBy_5
def dkwX0_goesBy_3 : List UInt8 := [28, 27, 160, 0, 7, 4, 167, 0, 4, 3, 182, 1, 163, 132, 2, 1, 167, 255, 230, 42, 180, 1, 69]
abbrev dktX0_goesBy_3 : List UInt8 := dkwX0_goesBy_3 ++ dktX0_goesBy_4
def dkwX0_goesBy_2 : List UInt8 := [180, 1, 69, 182, 1, 160, 60, 42, 3, 181, 1, 145, 3, 61, 28, 42, 180, 1, 69, 162, 0, 24, 42, 28]
abbrev dktX0_goesBy_2 : List UInt8 := dkwX0_goesBy_2 ++ dktX0_goesBy_3
def dkwX0_goesBy_1 : List UInt8 := [180, 0, 82, 16, 100, 182, 1, 160, 42, 180, 0, 72, 6, 46, 162, 0, 15, 42, 180, 0, 82, 42]
abbrev dktX0_goesBy_1 : List UInt8 := dkwX0_goesBy_1 ++ dktX0_goesBy_2
def dkwX0_goesBy_0 : List UInt8 := [42, 182, 1, 139, 2, 60, 42, 180, 0, 72, 6, 46, 158, 0, 40, 42, 180, 1, 69, 158, 0, 33, 42]
abbrev dktX0_goesBy_0 : List UInt8 := dkwX0_goesBy_0 ++ dktX0_goesBy_1
theorem dksX0_goesBy_0 : cX0_goesBy.data.toList.drop 0 = dktX0_goesBy_0 := by decide +kernel
theorem dksX0_goesBy_1 : cX0_goesBy.data.toList.drop 23 = dktX0_goesBy_1 := dk_seg dksX0_goesBy_0 23 rfl rfl
theorem dksX0_goesBy_2 : cX0_goesBy.data.toList.drop 45 = dktX0_goesBy_2 := dk_seg dksX0_goesBy_1 22 rfl rfl
theorem dksX0_goesBy_3 : cX0_goesBy.data.toList.drop 69 = dktX0_goesBy_3 := dk_seg dksX0_goesBy_2 24 rfl rfl
theorem dksX0_goesBy_4 : cX0_goesBy.data.toList.drop 92 = dktX0_goesBy_4 := dk_seg dksX0_goesBy_3 23 rfl rfl
theorem dksX0_goesBy_5 : cX0_goesBy.data.toList.drop 114 = dktX0_goesBy_5 := dk_seg dksX0_goesBy_4 22 rfl rfl
theorem dksX0_goesBy_6 : cX0_goesBy.data.toList.drop 138 = dktX0_goesBy_6 := dk_seg dksX0_goesBy_5 24 rfl rfl
theorem dksX0_goesBy_7 : cX0_goesBy.data.toList.drop 162 = dktX0_goesBy_7 := dk_seg dksX0_goesBy_6 24 rfl rfl
theorem dksX0_goesBy_8 : cX0_goesBy.data.toList.drop 185 = dktX0_goesBy_8 := dk_seg dksX0_goesBy_7 23 rfl rfl
theorem dksX0_goesBy_9 : cX0_goesBy.data.toList.drop 207 = dktX0_goesBy_9 := dk_seg dksX0_goesBy_8 22 rfl rfl
theorem dX0_goesBy_0 : decode cX0_goesBy 0 = .ok (.aload_n 0, 1) := dk_42 (dk_at dksX0_goesBy_0 0 rfl rfl)
theorem dX0_goesBy_1 : decode cX0_goesBy 1 = .ok (.invokevirtual 395, 3) := dk_182 1 139 (dk_at dksX0_goesBy_0 1 rfl rfl)
theorem dX0_goesBy_4 : decode cX0_goesBy 4 = .ok (.iconst (-1), 1) := dk_2 (dk_at dksX0_goesBy_0 4 rfl rfl)
theorem dX0_goesBy_5 : decode cX0_goesBy 5 = .ok (.istore_n 1, 1) := dk_60 (dk_at dksX0_goesBy_0 5 rfl rfl)
theorem dX0_goesBy_6 : decode cX0_goesBy 6 = .ok (.aload_n 0, 1) := dk_42 (dk_at dksX0_goesBy_0 6 rfl rfl)
theorem dX0_goesBy_7 : decode cX0_goesBy 7 = .ok (.getfield 72, 3) := dk_180 0 72 (dk_at dksX0_goesBy_0 7 rfl rfl)
theorem dX0_goesBy_10 : decode cX0_goesBy 10 = .ok (.iconst 3, 1) := dk_6 (dk_at dksX0_goesBy_0 10 rfl rfl)
theorem dX0_goesBy_11 : decode cX0_goesBy 11 = .ok (.iaload, 1) := dk_46 (dk_at dksX0_goesBy_0 11 rfl rfl)
theorem dX0_goesBy_12 : decode cX0_goesBy 12 = .ok (.ifCond .le 40, 3) := dk_158 0 40 (dk_at dksX0_goesBy_0 12 rfl rfl)
theorem dX0_goesBy_15 : decode cX0_goesBy 15 = .ok (.aload_n 0, 1) := dk_42 (dk_at dksX0_goesBy_0 15 rfl rfl)
theorem dX0_goesBy_16 : decode cX0_goesBy 16 = .ok (.getfield 325, 3) := dk_180 1 69 (dk_at dksX0_goesBy_0 16 rfl rfl)
theorem dX0_goesBy_19 : decode cX0_goesBy 19 = .ok (.ifCond .le 33, 3) := dk_158 0 33 (dk_at dksX0_goesBy_0 19 rfl rfl)
theorem dX0_goesBy_22 : decode cX0_goesBy 22 = .ok (.aload_n 0, 1) := dk_42 (dk_at dksX0_goesBy_0 22 rfl rfl)
theorem dX0_goesBy_23 : decode cX0_goesBy 23 = .ok (.getfield 82, 3) := dk_180 0 82 (dk_at dksX0_goesBy_1 0 rfl rfl)
theorem dX0_goesBy_26 : decode cX0_goesBy 26 = .ok (.bipush 100, 2) := dk_16 100 (dk_at dksX0_goesBy_1 3 rfl rfl)
theorem dX0_goesBy_28 : decode cX0_goesBy 28 = .ok (.invokevirtual 416, 3) := dk_182 1 160 (dk_at dksX0_goesBy_1 5 rfl rfl)
theorem dX0_goesBy_31 : decode cX0_goesBy 31 = .ok (.aload_n 0, 1) := dk_42 (dk_at dksX0_goesBy_1 8 rfl rfl)
theorem dX0_goesBy_32 : decode cX0_goesBy 32 = .ok (.getfield 72, 3) := dk_180 0 72 (dk_at dksX0_goesBy_1 9 rfl rfl)
theorem dX0_goesBy_35 : decode cX0_goesBy 35 = .ok (.iconst 3, 1) := dk_6 (dk_at dksX0_goesBy_1 12 rfl rfl)
theorem dX0_goesBy_36 : decode cX0_goesBy 36 = .ok (.iaload, 1) := dk_46 (dk_at dksX0_goesBy_1 13 rfl rfl)
theorem dX0_goesBy_37 : decode cX0_goesBy 37 = .ok (.if_icmp .ge 15, 3) := dk_162 0 15 (dk_at dksX0_goesBy_1 14 rfl rfl)
theorem dX0_goesBy_40 : decode cX0_goesBy 40 = .ok (.aload_n 0, 1) := dk_42 (dk_at dksX0_goesBy_1 17 rfl rfl)
theorem dX0_goesBy_41 : decode cX0_goesBy 41 = .ok (.getfield 82, 3) := dk_180 0 82 (dk_at dksX0_goesBy_1 18 rfl rfl)
theorem dX0_goesBy_44 : decode cX0_goesBy 44 = .ok (.aload_n 0, 1) := dk_42 (dk_at dksX0_goesBy_1 21 rfl rfl)
theorem dX0_goesBy_45 : decode cX0_goesBy 45 = .ok (.getfield 325, 3) := dk_180 1 69 (dk_at dksX0_goesBy_2 0 rfl rfl)
theorem dX0_goesBy_48 : decode cX0_goesBy 48 = .ok (.invokevirtual 416, 3) := dk_182 1 160 (dk_at dksX0_goesBy_2 3 rfl rfl)
theorem dX0_goesBy_51 : decode cX0_goesBy 51 = .ok (.istore_n 1, 1) := dk_60 (dk_at dksX0_goesBy_2 6 rfl rfl)
theorem dX0_goesBy_52 : decode cX0_goesBy 52 = .ok (.aload_n 0, 1) := dk_42 (dk_at dksX0_goesBy_2 7 rfl rfl)
theorem dX0_goesBy_53 : decode cX0_goesBy 53 = .ok (.iconst 0, 1) := dk_3 (dk_at dksX0_goesBy_2 8 rfl rfl)
theorem dX0_goesBy_54 : decode cX0_goesBy 54 = .ok (.putfield 401, 3) := dk_181 1 145 (dk_at dksX0_goesBy_2 9 rfl rfl)
theorem dX0_goesBy_57 : decode cX0_goesBy 57 = .ok (.iconst 0, 1) := dk_3 (dk_at dksX0_goesBy_2 12 rfl rfl)
theorem dX0_goesBy_58 : decode cX0_goesBy 58 = .ok (.istore_n 2, 1) := dk_61 (dk_at dksX0_goesBy_2 13 rfl rfl)
theorem dX0_goesBy_59 : decode cX0_goesBy 59 = .ok (.iload_n 2, 1) := dk_28 (dk_at dksX0_goesBy_2 14 rfl rfl)
theorem dX0_goesBy_60 : decode cX0_goesBy 60 = .ok (.aload_n 0, 1) := dk_42 (dk_at dksX0_goesBy_2 15 rfl rfl)
theorem dX0_goesBy_61 : decode cX0_goesBy 61 = .ok (.getfield 325, 3) := dk_180 1 69 (dk_at dksX0_goesBy_2 16 rfl rfl)
theorem dX0_goesBy_64 : decode cX0_goesBy 64 = .ok (.if_icmp .ge 24, 3) := dk_162 0 24 (dk_at dksX0_goesBy_2 19 rfl rfl)
theorem dX0_goesBy_67 : decode cX0_goesBy 67 = .ok (.aload_n 0, 1) := dk_42 (dk_at dksX0_goesBy_2 22 rfl rfl)
theorem dX0_goesBy_68 : decode cX0_goesBy 68 = .ok (.iload_n 2, 1) := dk_28 (dk_at dksX0_goesBy_2 23 rfl rfl)
theorem dX0_goesBy_69 : decode cX0_goesBy 69 = .ok (.iload_n 2, 1) := dk_28 (dk_at dksX0_goesBy_3 0 rfl rfl)
theorem dX0_goesBy_70 : decode cX0_goesBy 70 = .ok (.iload_n 1, 1) := dk_27 (dk_at dksX0_goesBy_3 1 rfl rfl)
theorem dX0_goesBy_71 : decode cX0_goesBy 71 = .ok (.if_icmp .ne 7, 3) := dk_160 0 7 (dk_at dksX0_goesBy_3 2 rfl rfl)
theorem dX0_goesBy_74 : decode cX0_goesBy 74 = .ok (.iconst 1, 1) := dk_4 (dk_at dksX0_goesBy_3 5 rfl rfl)
theorem dX0_goesBy_75 : decode cX0_goesBy 75 = .ok (.goto 4, 3) := dk_167 0 4 (dk_at dksX0_goesBy_3 6 rfl rfl)
theorem dX0_goesBy_78 : decode cX0_goesBy 78 = .ok (.iconst 0, 1) := dk_3 (dk_at dksX0_goesBy_3 9 rfl rfl)
theorem dX0_goesBy_79 : decode cX0_goesBy 79 = .ok (.invokevirtual 419, 3) := dk_182 1 163 (dk_at dksX0_goesBy_3 10 rfl rfl)
theorem dX0_goesBy_82 : decode cX0_goesBy 82 = .ok (.iinc 2 1, 3) := dk_132 2 1 (dk_at dksX0_goesBy_3 13 rfl rfl)
theorem dX0_goesBy_85 : decode cX0_goesBy 85 = .ok (.goto (-26), 3) := dk_167 255 230 (dk_at dksX0_goesBy_3 16 rfl rfl)
theorem dX0_goesBy_88 : decode cX0_goesBy 88 = .ok (.aload_n 0, 1) := dk_42 (dk_at dksX0_goesBy_3 19 rfl rfl)
theorem dX0_goesBy_89 : decode cX0_goesBy 89 = .ok (.getfield 325, 3) := dk_180 1 69 (dk_at dksX0_goesBy_3 20 rfl rfl)
theorem dX0_goesBy_92 : decode cX0_goesBy 92 = .ok (.ifCond .le 56, 3) := dk_158 0 56 (dk_at dksX0_goesBy_4 0 rfl rfl)
theorem dX0_goesBy_95 : decode cX0_goesBy 95 = .ok (.aload_n 0, 1) := dk_42 (dk_at dksX0_goesBy_4 3 rfl rfl)
theorem dX0_goesBy_96 : decode cX0_goesBy 96 = .ok (.getfield 82, 3) := dk_180 0 82 (dk_at dksX0_goesBy_4 4 rfl rfl)
theorem dX0_goesBy_99 : decode cX0_goesBy 99 = .ok (.getfield 368, 3) := dk_180 1 112 (dk_at dksX0_goesBy_4 7 rfl rfl)
theorem dX0_goesBy_102 : decode cX0_goesBy 102 = .ok (.aload_n 0, 1) := dk_42 (dk_at dksX0_goesBy_4 10 rfl rfl)
theorem dX0_goesBy_103 : decode cX0_goesBy 103 = .ok (.getfield 99, 3) := dk_180 0 99 (dk_at dksX0_goesBy_4 11 rfl rfl)
theorem dX0_goesBy_106 : decode cX0_goesBy 106 = .ok (.iconst 0, 1) := dk_3 (dk_at dksX0_goesBy_4 14 rfl rfl)
theorem dX0_goesBy_107 : decode cX0_goesBy 107 = .ok (.iaload, 1) := dk_46 (dk_at dksX0_goesBy_4 15 rfl rfl)
theorem dX0_goesBy_108 : decode cX0_goesBy 108 = .ok (.dup2, 1) := dk_92 (dk_at dksX0_goesBy_4 16 rfl rfl)
theorem dX0_goesBy_109 : decode cX0_goesBy 109 = .ok (.iaload, 1) := dk_46 (dk_at dksX0_goesBy_4 17 rfl rfl)
theorem dX0_goesBy_110 : decode cX0_goesBy 110 = .ok (.iconst 1, 1) := dk_4 (dk_at dksX0_goesBy_4 18 rfl rfl)
theorem dX0_goesBy_111 : decode cX0_goesBy 111 = .ok (.iadd, 1) := dk_96 (dk_at dksX0_goesBy_4 19 rfl rfl)
theorem dX0_goesBy_112 : decode cX0_goesBy 112 = .ok (.iastore, 1) := dk_79 (dk_at dksX0_goesBy_4 20 rfl rfl)
theorem dX0_goesBy_113 : decode cX0_goesBy 113 = .ok (.aload_n 0, 1) := dk_42 (dk_at dksX0_goesBy_4 21 rfl rfl)
theorem dX0_goesBy_114 : decode cX0_goesBy 114 = .ok (.getfield 82, 3) := dk_180 0 82 (dk_at dksX0_goesBy_5 0 rfl rfl)
theorem dX0_goesBy_117 : decode cX0_goesBy 117 = .ok (.getfield 392, 3) := dk_180 1 136 (dk_at dksX0_goesBy_5 3 rfl rfl)
theorem dX0_goesBy_120 : decode cX0_goesBy 120 = .ok (.aload_n 0, 1) := dk_42 (dk_at dksX0_goesBy_5 6 rfl rfl)
theorem dX0_goesBy_121 : decode cX0_goesBy 121 = .ok (.getfield 99, 3) := dk_180 0 99 (dk_at dksX0_goesBy_5 7 rfl rfl)
theorem dX0_goesBy_124 : decode cX0_goesBy 124 = .ok (.iconst 0, 1) := dk_3 (dk_at dksX0_goesBy_5 10 rfl rfl)
theorem dX0_goesBy_125 : decode cX0_goesBy 125 = .ok (.iaload, 1) := dk_46 (dk_at dksX0_goesBy_5 11 rfl rfl)
theorem dX0_goesBy_126 : decode cX0_goesBy 126 = .ok (.dup2, 1) := dk_92 (dk_at dksX0_goesBy_5 12 rfl rfl)
theorem dX0_goesBy_127 : decode cX0_goesBy 127 = .ok (.iaload, 1) := dk_46 (dk_at dksX0_goesBy_5 13 rfl rfl)
theorem dX0_goesBy_128 : decode cX0_goesBy 128 = .ok (.aload_n 0, 1) := dk_42 (dk_at dksX0_goesBy_5 14 rfl rfl)
theorem dX0_goesBy_129 : decode cX0_goesBy 129 = .ok (.getfield 82, 3) := dk_180 0 82 (dk_at dksX0_goesBy_5 15 rfl rfl)
theorem dX0_goesBy_132 : decode cX0_goesBy 132 = .ok (.getfield 372, 3) := dk_180 1 116 (dk_at dksX0_goesBy_5 18 rfl rfl)
theorem dX0_goesBy_135 : decode cX0_goesBy 135 = .ok (.bipush 7, 2) := dk_16 7 (dk_at dksX0_goesBy_5 21 rfl rfl)
theorem dX0_goesBy_137 : decode cX0_goesBy 137 = .ok (.irem, 1) := dk_112 (dk_at dksX0_goesBy_5 23 rfl rfl)
theorem dX0_goesBy_138 : decode cX0_goesBy 138 = .ok (.ifCond .ne 7, 3) := dk_154 0 7 (dk_at dksX0_goesBy_6 0 rfl rfl)
theorem dX0_goesBy_141 : decode cX0_goesBy 141 = .ok (.iconst 1, 1) := dk_4 (dk_at dksX0_goesBy_6 3 rfl rfl)
theorem dX0_goesBy_142 : decode cX0_goesBy 142 = .ok (.goto 4, 3) := dk_167 0 4 (dk_at dksX0_goesBy_6 4 rfl rfl)
theorem dX0_goesBy_145 : decode cX0_goesBy 145 = .ok (.iconst 0, 1) := dk_3 (dk_at dksX0_goesBy_6 7 rfl rfl)
theorem dX0_goesBy_146 : decode cX0_goesBy 146 = .ok (.iadd, 1) := dk_96 (dk_at dksX0_goesBy_6 8 rfl rfl)
theorem dX0_goesBy_147 : decode cX0_goesBy 147 = .ok (.iastore, 1) := dk_79 (dk_at dksX0_goesBy_6 9 rfl rfl)
theorem dX0_goesBy_148 : decode cX0_goesBy 148 = .ok (.aload_n 0, 1) := dk_42 (dk_at dksX0_goesBy_6 10 rfl rfl)
theorem dX0_goesBy_149 : decode cX0_goesBy 149 = .ok (.getfield 99, 3) := dk_180 0 99 (dk_at dksX0_goesBy_6 11 rfl rfl)
theorem dX0_goesBy_152 : decode cX0_goesBy 152 = .ok (.aload_n 0, 1) := dk_42 (dk_at dksX0_goesBy_6 14 rfl rfl)
theorem dX0_goesBy_153 : decode cX0_goesBy 153 = .ok (.getfield 82, 3) := dk_180 0 82 (dk_at dksX0_goesBy_6 15 rfl rfl)
theorem dX0_goesBy_156 : decode cX0_goesBy 156 = .ok (.getfield 423, 3) := dk_180 1 167 (dk_at dksX0_goesBy_6 18 rfl rfl)
theorem dX0_goesBy_159 : decode cX0_goesBy 159 = .ok (.invokestatic 426, 3) := dk_184 1 170 (dk_at dksX0_goesBy_6 21 rfl rfl)
theorem dX0_goesBy_162 : decode cX0_goesBy 162 = .ok (.aload_n 0, 1) := dk_42 (dk_at dksX0_goesBy_7 0 rfl rfl)
theorem dX0_goesBy_163 : decode cX0_goesBy 163 = .ok (.getfield 82, 3) := dk_180 0 82 (dk_at dksX0_goesBy_7 1 rfl rfl)
theorem dX0_goesBy_166 : decode cX0_goesBy 166 = .ok (.aload_n 0, 1) := dk_42 (dk_at dksX0_goesBy_7 4 rfl rfl)
theorem dX0_goesBy_167 : decode cX0_goesBy 167 = .ok (.getfield 325, 3) := dk_180 1 69 (dk_at dksX0_goesBy_7 5 rfl rfl)
theorem dX0_goesBy_170 : decode cX0_goesBy 170 = .ok (.iconst 1, 1) := dk_4 (dk_at dksX0_goesBy_7 8 rfl rfl)
theorem dX0_goesBy_171 : decode cX0_goesBy 171 = .ok (.iadd, 1) := dk_96 (dk_at dksX0_goesBy_7 9 rfl rfl)
theorem dX0_goesBy_172 : decode cX0_goesBy 172 = .ok (.putfield 430, 3) := dk_181 1 174 (dk_at dksX0_goesBy_7 10 rfl rfl)
theorem dX0_goesBy_175 : decode cX0_goesBy 175 = .ok (.aload_n 0, 1) := dk_42 (dk_at dksX0_goesBy_7 13 rfl rfl)
theorem dX0_goesBy_176 : decode cX0_goesBy 176 = .ok (.getfield 82, 3) := dk_180 0 82 (dk_at dksX0_goesBy_7 14 rfl rfl)
theorem dX0_goesBy_179 : decode cX0_goesBy 179 = .ok (.iload_n 1, 1) := dk_27 (dk_at dksX0_goesBy_7 17 rfl rfl)
theorem dX0_goesBy_180 : decode cX0_goesBy 180 = .ok (.iconst (-1), 1) := dk_2 (dk_at dksX0_goesBy_7 18 rfl rfl)
theorem dX0_goesBy_181 : decode cX0_goesBy 181 = .ok (.if_icmp .ne 7, 3) := dk_160 0 7 (dk_at dksX0_goesBy_7 19 rfl rfl)
theorem dX0_goesBy_184 : decode cX0_goesBy 184 = .ok (.iconst (-1), 1) := dk_2 (dk_at dksX0_goesBy_7 22 rfl rfl)
theorem dX0_goesBy_185 : decode cX0_goesBy 185 = .ok (.goto 9, 3) := dk_167 0 9 (dk_at dksX0_goesBy_8 0 rfl rfl)
theorem dX0_goesBy_188 : decode cX0_goesBy 188 = .ok (.aload_n 0, 1) := dk_42 (dk_at dksX0_goesBy_8 3 rfl rfl)
theorem dX0_goesBy_189 : decode cX0_goesBy 189 = .ok (.getfield 99, 3) := dk_180 0 99 (dk_at dksX0_goesBy_8 4 rfl rfl)
theorem dX0_goesBy_192 : decode cX0_goesBy 192 = .ok (.iload_n 1, 1) := dk_27 (dk_at dksX0_goesBy_8 7 rfl rfl)
theorem dX0_goesBy_193 : decode cX0_goesBy 193 = .ok (.iaload, 1) := dk_46 (dk_at dksX0_goesBy_8 8 rfl rfl)
theorem dX0_goesBy_194 : decode cX0_goesBy 194 = .ok (.putfield 433, 3) := dk_181 1 177 (dk_at dksX0_goesBy_8 9 rfl rfl)
theorem dX0_goesBy_197 : decode cX0_goesBy 197 = .ok (.aload_n 0, 1) := dk_42 (dk_at dksX0_goesBy_8 12 rfl rfl)
theorem dX0_goesBy_198 : decode cX0_goesBy 198 = .ok (.getfield 82, 3) := dk_180 0 82 (dk_at dksX0_goesBy_8 13 rfl rfl)
theorem dX0_goesBy_201 : decode cX0_goesBy 201 = .ok (.dup, 1) := dk_89 (dk_at dksX0_goesBy_8 16 rfl rfl)
theorem dX0_goesBy_202 : decode cX0_goesBy 202 = .ok (.getfield 372, 3) := dk_180 1 116 (dk_at dksX0_goesBy_8 17 rfl rfl)
theorem dX0_goesBy_205 : decode cX0_goesBy 205 = .ok (.iconst 1, 1) := dk_4 (dk_at dksX0_goesBy_8 20 rfl rfl)
theorem dX0_goesBy_206 : decode cX0_goesBy 206 = .ok (.iadd, 1) := dk_96 (dk_at dksX0_goesBy_8 21 rfl rfl)
theorem dX0_goesBy_207 : decode cX0_goesBy 207 = .ok (.putfield 372, 3) := dk_181 1 116 (dk_at dksX0_goesBy_9 0 rfl rfl)
theorem dX0_goesBy_210 : decode cX0_goesBy 210 = .ok (.iload_n 1, 1) := dk_27 (dk_at dksX0_goesBy_9 3 rfl rfl)
theorem dX0_goesBy_211 : decode cX0_goesBy 211 = .ok (.iconst (-1), 1) := dk_2 (dk_at dksX0_goesBy_9 4 rfl rfl)
theorem dX0_goesBy_212 : decode cX0_goesBy 212 = .ok (.if_icmp .eq 7, 3) := dk_159 0 7 (dk_at dksX0_goesBy_9 5 rfl rfl)
theorem dX0_goesBy_215 : decode cX0_goesBy 215 = .ok (.iconst 1, 1) := dk_4 (dk_at dksX0_goesBy_9 8 rfl rfl)
theorem dX0_goesBy_216 : decode cX0_goesBy 216 = .ok (.goto 4, 3) := dk_167 0 4 (dk_at dksX0_goesBy_9 9 rfl rfl)
theorem dX0_goesBy_219 : decode cX0_goesBy 219 = .ok (.iconst 0, 1) := dk_3 (dk_at dksX0_goesBy_9 12 rfl rfl)
theorem dX0_goesBy_220 : decode cX0_goesBy 220 = .ok (.ireturn, 1) := dk_172 (dk_at dksX0_goesBy_9 13 rfl rfl)
abbrev cX0_bakes : ByteArray := prog_1_method_43_code
def yX0_bakes : MethodName := ⟨RX0, "bakes", "(IZ)V"⟩
def dkwX0_bakes_6 : List UInt8 := [4, 100, 46, 92, 46, 21, 5, 96, 79, 177]
abbrev dktX0_bakes_6 : List UInt8 := dkwX0_bakes_6 ++ []
def dkwX0_bakes_5 : List UInt8 := [46, 21, 4, 21, 5, 100, 96, 79, 27, 158, 0, 24, 42, 180, 0, 82, 180, 1, 108, 42, 180, 0, 99, 27]
abbrev dktX0_bakes_5 : List UInt8 := dkwX0_bakes_5 ++ dktX0_bakes_6
def dkwX0_bakes_4 : List UInt8 := [27, 154, 0, 7, 3, 167, 0, 8, 21, 4, 16, 9, 108, 54, 5, 42, 180, 0, 82, 180, 1, 108, 29, 92]
abbrev dktX0_bakes_4 : List UInt8 := dkwX0_bakes_4 ++ dktX0_bakes_5
def dkwX0_bakes_3 : List UInt8 := [167, 0, 4, 3, 79, 28, 153, 0, 18, 42, 180, 0, 82, 89, 180, 1, 157, 21, 4, 96, 181, 1, 157, 177]
abbrev dktX0_bakes_3 : List UInt8 := dkwX0_bakes_3 ++ dktX0_bakes_4
def dkwX0_bakes_2 : List UInt8 := [180, 0, 82, 180, 1, 114, 29, 21, 4, 154, 0, 17, 42, 180, 0, 82, 180, 1, 114, 29, 46, 4, 96]
abbrev dktX0_bakes_2 : List UInt8 := dkwX0_bakes_2 ++ dktX0_bakes_3
def dkwX0_bakes_1 : List UInt8 := [42, 29, 182, 1, 154, 96, 79, 42, 180, 0, 82, 180, 1, 101, 29, 92, 46, 21, 4, 100, 79, 42]
abbrev dktX0_bakes_1 : List UInt8 := dkwX0_bakes_1 ++ dktX0_bakes_2
def dkwX0_bakes_0 : List UInt8 := [42, 180, 0, 99, 27, 46, 62, 42, 29, 182, 1, 142, 54, 4, 42, 180, 0, 82, 180, 1, 110, 29, 92, 46]
abbrev dktX0_bakes_0 : List UInt8 := dkwX0_bakes_0 ++ dktX0_bakes_1
theorem dksX0_bakes_0 : cX0_bakes.data.toList.drop 0 = dktX0_bakes_0 := by decide +kernel
theorem dksX0_bakes_1 : cX0_bakes.data.toList.drop 24 = dktX0_bakes_1 := dk_seg dksX0_bakes_0 24 rfl rfl
theorem dksX0_bakes_2 : cX0_bakes.data.toList.drop 46 = dktX0_bakes_2 := dk_seg dksX0_bakes_1 22 rfl rfl
theorem dksX0_bakes_3 : cX0_bakes.data.toList.drop 69 = dktX0_bakes_3 := dk_seg dksX0_bakes_2 23 rfl rfl
theorem dksX0_bakes_4 : cX0_bakes.data.toList.drop 93 = dktX0_bakes_4 := dk_seg dksX0_bakes_3 24 rfl rfl
theorem dksX0_bakes_5 : cX0_bakes.data.toList.drop 117 = dktX0_bakes_5 := dk_seg dksX0_bakes_4 24 rfl rfl
theorem dksX0_bakes_6 : cX0_bakes.data.toList.drop 141 = dktX0_bakes_6 := dk_seg dksX0_bakes_5 24 rfl rfl
theorem dX0_bakes_0 : decode cX0_bakes 0 = .ok (.aload_n 0, 1) := dk_42 (dk_at dksX0_bakes_0 0 rfl rfl)
theorem dX0_bakes_1 : decode cX0_bakes 1 = .ok (.getfield 99, 3) := dk_180 0 99 (dk_at dksX0_bakes_0 1 rfl rfl)
theorem dX0_bakes_4 : decode cX0_bakes 4 = .ok (.iload_n 1, 1) := dk_27 (dk_at dksX0_bakes_0 4 rfl rfl)
theorem dX0_bakes_5 : decode cX0_bakes 5 = .ok (.iaload, 1) := dk_46 (dk_at dksX0_bakes_0 5 rfl rfl)
theorem dX0_bakes_6 : decode cX0_bakes 6 = .ok (.istore_n 3, 1) := dk_62 (dk_at dksX0_bakes_0 6 rfl rfl)
theorem dX0_bakes_7 : decode cX0_bakes 7 = .ok (.aload_n 0, 1) := dk_42 (dk_at dksX0_bakes_0 7 rfl rfl)
theorem dX0_bakes_8 : decode cX0_bakes 8 = .ok (.iload_n 3, 1) := dk_29 (dk_at dksX0_bakes_0 8 rfl rfl)
theorem dX0_bakes_9 : decode cX0_bakes 9 = .ok (.invokevirtual 398, 3) := dk_182 1 142 (dk_at dksX0_bakes_0 9 rfl rfl)
theorem dX0_bakes_12 : decode cX0_bakes 12 = .ok (.istore 4, 2) := dk_54 4 (dk_at dksX0_bakes_0 12 rfl rfl)
theorem dX0_bakes_14 : decode cX0_bakes 14 = .ok (.aload_n 0, 1) := dk_42 (dk_at dksX0_bakes_0 14 rfl rfl)
theorem dX0_bakes_15 : decode cX0_bakes 15 = .ok (.getfield 82, 3) := dk_180 0 82 (dk_at dksX0_bakes_0 15 rfl rfl)
theorem dX0_bakes_18 : decode cX0_bakes 18 = .ok (.getfield 366, 3) := dk_180 1 110 (dk_at dksX0_bakes_0 18 rfl rfl)
theorem dX0_bakes_21 : decode cX0_bakes 21 = .ok (.iload_n 3, 1) := dk_29 (dk_at dksX0_bakes_0 21 rfl rfl)
theorem dX0_bakes_22 : decode cX0_bakes 22 = .ok (.dup2, 1) := dk_92 (dk_at dksX0_bakes_0 22 rfl rfl)
theorem dX0_bakes_23 : decode cX0_bakes 23 = .ok (.iaload, 1) := dk_46 (dk_at dksX0_bakes_0 23 rfl rfl)
theorem dX0_bakes_24 : decode cX0_bakes 24 = .ok (.aload_n 0, 1) := dk_42 (dk_at dksX0_bakes_1 0 rfl rfl)
theorem dX0_bakes_25 : decode cX0_bakes 25 = .ok (.iload_n 3, 1) := dk_29 (dk_at dksX0_bakes_1 1 rfl rfl)
theorem dX0_bakes_26 : decode cX0_bakes 26 = .ok (.invokevirtual 410, 3) := dk_182 1 154 (dk_at dksX0_bakes_1 2 rfl rfl)
theorem dX0_bakes_29 : decode cX0_bakes 29 = .ok (.iadd, 1) := dk_96 (dk_at dksX0_bakes_1 5 rfl rfl)
theorem dX0_bakes_30 : decode cX0_bakes 30 = .ok (.iastore, 1) := dk_79 (dk_at dksX0_bakes_1 6 rfl rfl)
theorem dX0_bakes_31 : decode cX0_bakes 31 = .ok (.aload_n 0, 1) := dk_42 (dk_at dksX0_bakes_1 7 rfl rfl)
theorem dX0_bakes_32 : decode cX0_bakes 32 = .ok (.getfield 82, 3) := dk_180 0 82 (dk_at dksX0_bakes_1 8 rfl rfl)
theorem dX0_bakes_35 : decode cX0_bakes 35 = .ok (.getfield 357, 3) := dk_180 1 101 (dk_at dksX0_bakes_1 11 rfl rfl)
theorem dX0_bakes_38 : decode cX0_bakes 38 = .ok (.iload_n 3, 1) := dk_29 (dk_at dksX0_bakes_1 14 rfl rfl)
theorem dX0_bakes_39 : decode cX0_bakes 39 = .ok (.dup2, 1) := dk_92 (dk_at dksX0_bakes_1 15 rfl rfl)
theorem dX0_bakes_40 : decode cX0_bakes 40 = .ok (.iaload, 1) := dk_46 (dk_at dksX0_bakes_1 16 rfl rfl)
theorem dX0_bakes_41 : decode cX0_bakes 41 = .ok (.iload 4, 2) := dk_21 4 (dk_at dksX0_bakes_1 17 rfl rfl)
theorem dX0_bakes_43 : decode cX0_bakes 43 = .ok (.isub, 1) := dk_100 (dk_at dksX0_bakes_1 19 rfl rfl)
theorem dX0_bakes_44 : decode cX0_bakes 44 = .ok (.iastore, 1) := dk_79 (dk_at dksX0_bakes_1 20 rfl rfl)
theorem dX0_bakes_45 : decode cX0_bakes 45 = .ok (.aload_n 0, 1) := dk_42 (dk_at dksX0_bakes_1 21 rfl rfl)
theorem dX0_bakes_46 : decode cX0_bakes 46 = .ok (.getfield 82, 3) := dk_180 0 82 (dk_at dksX0_bakes_2 0 rfl rfl)
theorem dX0_bakes_49 : decode cX0_bakes 49 = .ok (.getfield 370, 3) := dk_180 1 114 (dk_at dksX0_bakes_2 3 rfl rfl)
theorem dX0_bakes_52 : decode cX0_bakes 52 = .ok (.iload_n 3, 1) := dk_29 (dk_at dksX0_bakes_2 6 rfl rfl)
theorem dX0_bakes_53 : decode cX0_bakes 53 = .ok (.iload 4, 2) := dk_21 4 (dk_at dksX0_bakes_2 7 rfl rfl)
theorem dX0_bakes_55 : decode cX0_bakes 55 = .ok (.ifCond .ne 17, 3) := dk_154 0 17 (dk_at dksX0_bakes_2 9 rfl rfl)
theorem dX0_bakes_58 : decode cX0_bakes 58 = .ok (.aload_n 0, 1) := dk_42 (dk_at dksX0_bakes_2 12 rfl rfl)
theorem dX0_bakes_59 : decode cX0_bakes 59 = .ok (.getfield 82, 3) := dk_180 0 82 (dk_at dksX0_bakes_2 13 rfl rfl)
theorem dX0_bakes_62 : decode cX0_bakes 62 = .ok (.getfield 370, 3) := dk_180 1 114 (dk_at dksX0_bakes_2 16 rfl rfl)
theorem dX0_bakes_65 : decode cX0_bakes 65 = .ok (.iload_n 3, 1) := dk_29 (dk_at dksX0_bakes_2 19 rfl rfl)
theorem dX0_bakes_66 : decode cX0_bakes 66 = .ok (.iaload, 1) := dk_46 (dk_at dksX0_bakes_2 20 rfl rfl)
theorem dX0_bakes_67 : decode cX0_bakes 67 = .ok (.iconst 1, 1) := dk_4 (dk_at dksX0_bakes_2 21 rfl rfl)
theorem dX0_bakes_68 : decode cX0_bakes 68 = .ok (.iadd, 1) := dk_96 (dk_at dksX0_bakes_2 22 rfl rfl)
theorem dX0_bakes_69 : decode cX0_bakes 69 = .ok (.goto 4, 3) := dk_167 0 4 (dk_at dksX0_bakes_3 0 rfl rfl)
theorem dX0_bakes_72 : decode cX0_bakes 72 = .ok (.iconst 0, 1) := dk_3 (dk_at dksX0_bakes_3 3 rfl rfl)
theorem dX0_bakes_73 : decode cX0_bakes 73 = .ok (.iastore, 1) := dk_79 (dk_at dksX0_bakes_3 4 rfl rfl)
theorem dX0_bakes_74 : decode cX0_bakes 74 = .ok (.iload_n 2, 1) := dk_28 (dk_at dksX0_bakes_3 5 rfl rfl)
theorem dX0_bakes_75 : decode cX0_bakes 75 = .ok (.ifCond .eq 18, 3) := dk_153 0 18 (dk_at dksX0_bakes_3 6 rfl rfl)
theorem dX0_bakes_78 : decode cX0_bakes 78 = .ok (.aload_n 0, 1) := dk_42 (dk_at dksX0_bakes_3 9 rfl rfl)
theorem dX0_bakes_79 : decode cX0_bakes 79 = .ok (.getfield 82, 3) := dk_180 0 82 (dk_at dksX0_bakes_3 10 rfl rfl)
theorem dX0_bakes_82 : decode cX0_bakes 82 = .ok (.dup, 1) := dk_89 (dk_at dksX0_bakes_3 13 rfl rfl)
theorem dX0_bakes_83 : decode cX0_bakes 83 = .ok (.getfield 413, 3) := dk_180 1 157 (dk_at dksX0_bakes_3 14 rfl rfl)
theorem dX0_bakes_86 : decode cX0_bakes 86 = .ok (.iload 4, 2) := dk_21 4 (dk_at dksX0_bakes_3 17 rfl rfl)
theorem dX0_bakes_88 : decode cX0_bakes 88 = .ok (.iadd, 1) := dk_96 (dk_at dksX0_bakes_3 19 rfl rfl)
theorem dX0_bakes_89 : decode cX0_bakes 89 = .ok (.putfield 413, 3) := dk_181 1 157 (dk_at dksX0_bakes_3 20 rfl rfl)
theorem dX0_bakes_92 : decode cX0_bakes 92 = .ok (.return_, 1) := dk_177 (dk_at dksX0_bakes_3 23 rfl rfl)
theorem dX0_bakes_93 : decode cX0_bakes 93 = .ok (.iload_n 1, 1) := dk_27 (dk_at dksX0_bakes_4 0 rfl rfl)
theorem dX0_bakes_94 : decode cX0_bakes 94 = .ok (.ifCond .ne 7, 3) := dk_154 0 7 (dk_at dksX0_bakes_4 1 rfl rfl)
theorem dX0_bakes_97 : decode cX0_bakes 97 = .ok (.iconst 0, 1) := dk_3 (dk_at dksX0_bakes_4 4 rfl rfl)
theorem dX0_bakes_98 : decode cX0_bakes 98 = .ok (.goto 8, 3) := dk_167 0 8 (dk_at dksX0_bakes_4 5 rfl rfl)
theorem dX0_bakes_101 : decode cX0_bakes 101 = .ok (.iload 4, 2) := dk_21 4 (dk_at dksX0_bakes_4 8 rfl rfl)
theorem dX0_bakes_103 : decode cX0_bakes 103 = .ok (.bipush 9, 2) := dk_16 9 (dk_at dksX0_bakes_4 10 rfl rfl)
theorem dX0_bakes_105 : decode cX0_bakes 105 = .ok (.idiv, 1) := dk_108 (dk_at dksX0_bakes_4 12 rfl rfl)
theorem dX0_bakes_106 : decode cX0_bakes 106 = .ok (.istore 5, 2) := dk_54 5 (dk_at dksX0_bakes_4 13 rfl rfl)
theorem dX0_bakes_108 : decode cX0_bakes 108 = .ok (.aload_n 0, 1) := dk_42 (dk_at dksX0_bakes_4 15 rfl rfl)
theorem dX0_bakes_109 : decode cX0_bakes 109 = .ok (.getfield 82, 3) := dk_180 0 82 (dk_at dksX0_bakes_4 16 rfl rfl)
theorem dX0_bakes_112 : decode cX0_bakes 112 = .ok (.getfield 364, 3) := dk_180 1 108 (dk_at dksX0_bakes_4 19 rfl rfl)
theorem dX0_bakes_115 : decode cX0_bakes 115 = .ok (.iload_n 3, 1) := dk_29 (dk_at dksX0_bakes_4 22 rfl rfl)
theorem dX0_bakes_116 : decode cX0_bakes 116 = .ok (.dup2, 1) := dk_92 (dk_at dksX0_bakes_4 23 rfl rfl)
theorem dX0_bakes_117 : decode cX0_bakes 117 = .ok (.iaload, 1) := dk_46 (dk_at dksX0_bakes_5 0 rfl rfl)
theorem dX0_bakes_118 : decode cX0_bakes 118 = .ok (.iload 4, 2) := dk_21 4 (dk_at dksX0_bakes_5 1 rfl rfl)
theorem dX0_bakes_120 : decode cX0_bakes 120 = .ok (.iload 5, 2) := dk_21 5 (dk_at dksX0_bakes_5 3 rfl rfl)
theorem dX0_bakes_122 : decode cX0_bakes 122 = .ok (.isub, 1) := dk_100 (dk_at dksX0_bakes_5 5 rfl rfl)
theorem dX0_bakes_123 : decode cX0_bakes 123 = .ok (.iadd, 1) := dk_96 (dk_at dksX0_bakes_5 6 rfl rfl)
theorem dX0_bakes_124 : decode cX0_bakes 124 = .ok (.iastore, 1) := dk_79 (dk_at dksX0_bakes_5 7 rfl rfl)
theorem dX0_bakes_125 : decode cX0_bakes 125 = .ok (.iload_n 1, 1) := dk_27 (dk_at dksX0_bakes_5 8 rfl rfl)
theorem dX0_bakes_126 : decode cX0_bakes 126 = .ok (.ifCond .le 24, 3) := dk_158 0 24 (dk_at dksX0_bakes_5 9 rfl rfl)
theorem dX0_bakes_129 : decode cX0_bakes 129 = .ok (.aload_n 0, 1) := dk_42 (dk_at dksX0_bakes_5 12 rfl rfl)
theorem dX0_bakes_130 : decode cX0_bakes 130 = .ok (.getfield 82, 3) := dk_180 0 82 (dk_at dksX0_bakes_5 13 rfl rfl)
theorem dX0_bakes_133 : decode cX0_bakes 133 = .ok (.getfield 364, 3) := dk_180 1 108 (dk_at dksX0_bakes_5 16 rfl rfl)
theorem dX0_bakes_136 : decode cX0_bakes 136 = .ok (.aload_n 0, 1) := dk_42 (dk_at dksX0_bakes_5 19 rfl rfl)
theorem dX0_bakes_137 : decode cX0_bakes 137 = .ok (.getfield 99, 3) := dk_180 0 99 (dk_at dksX0_bakes_5 20 rfl rfl)
theorem dX0_bakes_140 : decode cX0_bakes 140 = .ok (.iload_n 1, 1) := dk_27 (dk_at dksX0_bakes_5 23 rfl rfl)
theorem dX0_bakes_141 : decode cX0_bakes 141 = .ok (.iconst 1, 1) := dk_4 (dk_at dksX0_bakes_6 0 rfl rfl)
theorem dX0_bakes_142 : decode cX0_bakes 142 = .ok (.isub, 1) := dk_100 (dk_at dksX0_bakes_6 1 rfl rfl)
theorem dX0_bakes_143 : decode cX0_bakes 143 = .ok (.iaload, 1) := dk_46 (dk_at dksX0_bakes_6 2 rfl rfl)
theorem dX0_bakes_144 : decode cX0_bakes 144 = .ok (.dup2, 1) := dk_92 (dk_at dksX0_bakes_6 3 rfl rfl)
theorem dX0_bakes_145 : decode cX0_bakes 145 = .ok (.iaload, 1) := dk_46 (dk_at dksX0_bakes_6 4 rfl rfl)
theorem dX0_bakes_146 : decode cX0_bakes 146 = .ok (.iload 5, 2) := dk_21 5 (dk_at dksX0_bakes_6 5 rfl rfl)
theorem dX0_bakes_148 : decode cX0_bakes 148 = .ok (.iadd, 1) := dk_96 (dk_at dksX0_bakes_6 7 rfl rfl)
theorem dX0_bakes_149 : decode cX0_bakes 149 = .ok (.iastore, 1) := dk_79 (dk_at dksX0_bakes_6 8 rfl rfl)
theorem dX0_bakes_150 : decode cX0_bakes 150 = .ok (.return_, 1) := dk_177 (dk_at dksX0_bakes_6 9 rfl rfl)
abbrev cX0_loafOf : ByteArray := prog_1_method_41_code
def yX0_loafOf : MethodName := ⟨RX0, "loafOf", "(I)I"⟩
def dkwX0_loafOf_0 : List UInt8 := [42, 180, 0, 68, 27, 50, 180, 1, 104, 42, 180, 0, 82, 180, 1, 101, 27, 46, 184, 0, 219, 172]
abbrev dktX0_loafOf_0 : List UInt8 := dkwX0_loafOf_0 ++ []
theorem dksX0_loafOf_0 : cX0_loafOf.data.toList.drop 0 = dktX0_loafOf_0 := by decide +kernel
theorem dX0_loafOf_0 : decode cX0_loafOf 0 = .ok (.aload_n 0, 1) := dk_42 (dk_at dksX0_loafOf_0 0 rfl rfl)
theorem dX0_loafOf_1 : decode cX0_loafOf 1 = .ok (.getfield 68, 3) := dk_180 0 68 (dk_at dksX0_loafOf_0 1 rfl rfl)
theorem dX0_loafOf_4 : decode cX0_loafOf 4 = .ok (.iload_n 1, 1) := dk_27 (dk_at dksX0_loafOf_0 4 rfl rfl)
theorem dX0_loafOf_5 : decode cX0_loafOf 5 = .ok (.aaload, 1) := dk_50 (dk_at dksX0_loafOf_0 5 rfl rfl)
theorem dX0_loafOf_6 : decode cX0_loafOf 6 = .ok (.getfield 360, 3) := dk_180 1 104 (dk_at dksX0_loafOf_0 6 rfl rfl)
theorem dX0_loafOf_9 : decode cX0_loafOf 9 = .ok (.aload_n 0, 1) := dk_42 (dk_at dksX0_loafOf_0 9 rfl rfl)
theorem dX0_loafOf_10 : decode cX0_loafOf 10 = .ok (.getfield 82, 3) := dk_180 0 82 (dk_at dksX0_loafOf_0 10 rfl rfl)
theorem dX0_loafOf_13 : decode cX0_loafOf 13 = .ok (.getfield 357, 3) := dk_180 1 101 (dk_at dksX0_loafOf_0 13 rfl rfl)
theorem dX0_loafOf_16 : decode cX0_loafOf 16 = .ok (.iload_n 1, 1) := dk_27 (dk_at dksX0_loafOf_0 16 rfl rfl)
theorem dX0_loafOf_17 : decode cX0_loafOf 17 = .ok (.iaload, 1) := dk_46 (dk_at dksX0_loafOf_0 17 rfl rfl)
theorem dX0_loafOf_18 : decode cX0_loafOf 18 = .ok (.invokestatic 219, 3) := dk_184 0 219 (dk_at dksX0_loafOf_0 18 rfl rfl)
theorem dX0_loafOf_21 : decode cX0_loafOf 21 = .ok (.ireturn, 1) := dk_172 (dk_at dksX0_loafOf_0 21 rfl rfl)
abbrev cX0_fires : ByteArray := prog_1_method_42_code
def yX0_fires : MethodName := ⟨RX0, "fires", "(I)I"⟩
def dkwX0_fires_3 : List UInt8 := [46, 104, 96, 42, 180, 0, 72, 4, 46, 44, 180, 1, 148, 104, 100, 184, 1, 151, 181, 1, 145, 29, 172]
abbrev dktX0_fires_3 : List UInt8 := dkwX0_fires_3 ++ []
def dkwX0_fires_2 : List UInt8 := [46, 96, 4, 100, 42, 180, 0, 72, 3, 46, 108, 62, 42, 3, 42, 180, 1, 145, 29, 42, 180, 0, 72, 3]
abbrev dktX0_fires_2 : List UInt8 := dkwX0_fires_2 ++ dktX0_fires_3
def dkwX0_fires_1 : List UInt8 := [180, 1, 106, 161, 0, 7, 3, 167, 0, 28, 44, 180, 1, 106, 42, 180, 1, 145, 100, 42, 180, 0, 72, 3]
abbrev dktX0_fires_1 : List UInt8 := dkwX0_fires_1 ++ dktX0_fires_2
def dkwX0_fires_0 : List UInt8 := [42, 27, 182, 1, 142, 154, 0, 5, 3, 172, 42, 180, 0, 68, 27, 50, 77, 42, 180, 1, 145, 44]
abbrev dktX0_fires_0 : List UInt8 := dkwX0_fires_0 ++ dktX0_fires_1
theorem dksX0_fires_0 : cX0_fires.data.toList.drop 0 = dktX0_fires_0 := by decide +kernel
theorem dksX0_fires_1 : cX0_fires.data.toList.drop 22 = dktX0_fires_1 := dk_seg dksX0_fires_0 22 rfl rfl
theorem dksX0_fires_2 : cX0_fires.data.toList.drop 46 = dktX0_fires_2 := dk_seg dksX0_fires_1 24 rfl rfl
theorem dksX0_fires_3 : cX0_fires.data.toList.drop 70 = dktX0_fires_3 := dk_seg dksX0_fires_2 24 rfl rfl
theorem dX0_fires_0 : decode cX0_fires 0 = .ok (.aload_n 0, 1) := dk_42 (dk_at dksX0_fires_0 0 rfl rfl)
theorem dX0_fires_1 : decode cX0_fires 1 = .ok (.iload_n 1, 1) := dk_27 (dk_at dksX0_fires_0 1 rfl rfl)
theorem dX0_fires_2 : decode cX0_fires 2 = .ok (.invokevirtual 398, 3) := dk_182 1 142 (dk_at dksX0_fires_0 2 rfl rfl)
theorem dX0_fires_5 : decode cX0_fires 5 = .ok (.ifCond .ne 5, 3) := dk_154 0 5 (dk_at dksX0_fires_0 5 rfl rfl)
theorem dX0_fires_8 : decode cX0_fires 8 = .ok (.iconst 0, 1) := dk_3 (dk_at dksX0_fires_0 8 rfl rfl)
theorem dX0_fires_9 : decode cX0_fires 9 = .ok (.ireturn, 1) := dk_172 (dk_at dksX0_fires_0 9 rfl rfl)
theorem dX0_fires_10 : decode cX0_fires 10 = .ok (.aload_n 0, 1) := dk_42 (dk_at dksX0_fires_0 10 rfl rfl)
theorem dX0_fires_11 : decode cX0_fires 11 = .ok (.getfield 68, 3) := dk_180 0 68 (dk_at dksX0_fires_0 11 rfl rfl)
theorem dX0_fires_14 : decode cX0_fires 14 = .ok (.iload_n 1, 1) := dk_27 (dk_at dksX0_fires_0 14 rfl rfl)
theorem dX0_fires_15 : decode cX0_fires 15 = .ok (.aaload, 1) := dk_50 (dk_at dksX0_fires_0 15 rfl rfl)
theorem dX0_fires_16 : decode cX0_fires 16 = .ok (.astore_n 2, 1) := dk_77 (dk_at dksX0_fires_0 16 rfl rfl)
theorem dX0_fires_17 : decode cX0_fires 17 = .ok (.aload_n 0, 1) := dk_42 (dk_at dksX0_fires_0 17 rfl rfl)
theorem dX0_fires_18 : decode cX0_fires 18 = .ok (.getfield 401, 3) := dk_180 1 145 (dk_at dksX0_fires_0 18 rfl rfl)
theorem dX0_fires_21 : decode cX0_fires 21 = .ok (.aload_n 2, 1) := dk_44 (dk_at dksX0_fires_0 21 rfl rfl)
theorem dX0_fires_22 : decode cX0_fires 22 = .ok (.getfield 362, 3) := dk_180 1 106 (dk_at dksX0_fires_1 0 rfl rfl)
theorem dX0_fires_25 : decode cX0_fires 25 = .ok (.if_icmp .lt 7, 3) := dk_161 0 7 (dk_at dksX0_fires_1 3 rfl rfl)
theorem dX0_fires_28 : decode cX0_fires 28 = .ok (.iconst 0, 1) := dk_3 (dk_at dksX0_fires_1 6 rfl rfl)
theorem dX0_fires_29 : decode cX0_fires 29 = .ok (.goto 28, 3) := dk_167 0 28 (dk_at dksX0_fires_1 7 rfl rfl)
theorem dX0_fires_32 : decode cX0_fires 32 = .ok (.aload_n 2, 1) := dk_44 (dk_at dksX0_fires_1 10 rfl rfl)
theorem dX0_fires_33 : decode cX0_fires 33 = .ok (.getfield 362, 3) := dk_180 1 106 (dk_at dksX0_fires_1 11 rfl rfl)
theorem dX0_fires_36 : decode cX0_fires 36 = .ok (.aload_n 0, 1) := dk_42 (dk_at dksX0_fires_1 14 rfl rfl)
theorem dX0_fires_37 : decode cX0_fires 37 = .ok (.getfield 401, 3) := dk_180 1 145 (dk_at dksX0_fires_1 15 rfl rfl)
theorem dX0_fires_40 : decode cX0_fires 40 = .ok (.isub, 1) := dk_100 (dk_at dksX0_fires_1 18 rfl rfl)
theorem dX0_fires_41 : decode cX0_fires 41 = .ok (.aload_n 0, 1) := dk_42 (dk_at dksX0_fires_1 19 rfl rfl)
theorem dX0_fires_42 : decode cX0_fires 42 = .ok (.getfield 72, 3) := dk_180 0 72 (dk_at dksX0_fires_1 20 rfl rfl)
theorem dX0_fires_45 : decode cX0_fires 45 = .ok (.iconst 0, 1) := dk_3 (dk_at dksX0_fires_1 23 rfl rfl)
theorem dX0_fires_46 : decode cX0_fires 46 = .ok (.iaload, 1) := dk_46 (dk_at dksX0_fires_2 0 rfl rfl)
theorem dX0_fires_47 : decode cX0_fires 47 = .ok (.iadd, 1) := dk_96 (dk_at dksX0_fires_2 1 rfl rfl)
theorem dX0_fires_48 : decode cX0_fires 48 = .ok (.iconst 1, 1) := dk_4 (dk_at dksX0_fires_2 2 rfl rfl)
theorem dX0_fires_49 : decode cX0_fires 49 = .ok (.isub, 1) := dk_100 (dk_at dksX0_fires_2 3 rfl rfl)
theorem dX0_fires_50 : decode cX0_fires 50 = .ok (.aload_n 0, 1) := dk_42 (dk_at dksX0_fires_2 4 rfl rfl)
theorem dX0_fires_51 : decode cX0_fires 51 = .ok (.getfield 72, 3) := dk_180 0 72 (dk_at dksX0_fires_2 5 rfl rfl)
theorem dX0_fires_54 : decode cX0_fires 54 = .ok (.iconst 0, 1) := dk_3 (dk_at dksX0_fires_2 8 rfl rfl)
theorem dX0_fires_55 : decode cX0_fires 55 = .ok (.iaload, 1) := dk_46 (dk_at dksX0_fires_2 9 rfl rfl)
theorem dX0_fires_56 : decode cX0_fires 56 = .ok (.idiv, 1) := dk_108 (dk_at dksX0_fires_2 10 rfl rfl)
theorem dX0_fires_57 : decode cX0_fires 57 = .ok (.istore_n 3, 1) := dk_62 (dk_at dksX0_fires_2 11 rfl rfl)
theorem dX0_fires_58 : decode cX0_fires 58 = .ok (.aload_n 0, 1) := dk_42 (dk_at dksX0_fires_2 12 rfl rfl)
theorem dX0_fires_59 : decode cX0_fires 59 = .ok (.iconst 0, 1) := dk_3 (dk_at dksX0_fires_2 13 rfl rfl)
theorem dX0_fires_60 : decode cX0_fires 60 = .ok (.aload_n 0, 1) := dk_42 (dk_at dksX0_fires_2 14 rfl rfl)
theorem dX0_fires_61 : decode cX0_fires 61 = .ok (.getfield 401, 3) := dk_180 1 145 (dk_at dksX0_fires_2 15 rfl rfl)
theorem dX0_fires_64 : decode cX0_fires 64 = .ok (.iload_n 3, 1) := dk_29 (dk_at dksX0_fires_2 18 rfl rfl)
theorem dX0_fires_65 : decode cX0_fires 65 = .ok (.aload_n 0, 1) := dk_42 (dk_at dksX0_fires_2 19 rfl rfl)
theorem dX0_fires_66 : decode cX0_fires 66 = .ok (.getfield 72, 3) := dk_180 0 72 (dk_at dksX0_fires_2 20 rfl rfl)
theorem dX0_fires_69 : decode cX0_fires 69 = .ok (.iconst 0, 1) := dk_3 (dk_at dksX0_fires_2 23 rfl rfl)
theorem dX0_fires_70 : decode cX0_fires 70 = .ok (.iaload, 1) := dk_46 (dk_at dksX0_fires_3 0 rfl rfl)
theorem dX0_fires_71 : decode cX0_fires 71 = .ok (.imul, 1) := dk_104 (dk_at dksX0_fires_3 1 rfl rfl)
theorem dX0_fires_72 : decode cX0_fires 72 = .ok (.iadd, 1) := dk_96 (dk_at dksX0_fires_3 2 rfl rfl)
theorem dX0_fires_73 : decode cX0_fires 73 = .ok (.aload_n 0, 1) := dk_42 (dk_at dksX0_fires_3 3 rfl rfl)
theorem dX0_fires_74 : decode cX0_fires 74 = .ok (.getfield 72, 3) := dk_180 0 72 (dk_at dksX0_fires_3 4 rfl rfl)
theorem dX0_fires_77 : decode cX0_fires 77 = .ok (.iconst 1, 1) := dk_4 (dk_at dksX0_fires_3 7 rfl rfl)
theorem dX0_fires_78 : decode cX0_fires 78 = .ok (.iaload, 1) := dk_46 (dk_at dksX0_fires_3 8 rfl rfl)
theorem dX0_fires_79 : decode cX0_fires 79 = .ok (.aload_n 2, 1) := dk_44 (dk_at dksX0_fires_3 9 rfl rfl)
theorem dX0_fires_80 : decode cX0_fires 80 = .ok (.getfield 404, 3) := dk_180 1 148 (dk_at dksX0_fires_3 10 rfl rfl)
theorem dX0_fires_83 : decode cX0_fires 83 = .ok (.imul, 1) := dk_104 (dk_at dksX0_fires_3 13 rfl rfl)
theorem dX0_fires_84 : decode cX0_fires 84 = .ok (.isub, 1) := dk_100 (dk_at dksX0_fires_3 14 rfl rfl)
theorem dX0_fires_85 : decode cX0_fires 85 = .ok (.invokestatic 407, 3) := dk_184 1 151 (dk_at dksX0_fires_3 15 rfl rfl)
theorem dX0_fires_88 : decode cX0_fires 88 = .ok (.putfield 401, 3) := dk_181 1 145 (dk_at dksX0_fires_3 18 rfl rfl)
theorem dX0_fires_91 : decode cX0_fires 91 = .ok (.iload_n 3, 1) := dk_29 (dk_at dksX0_fires_3 21 rfl rfl)
theorem dX0_fires_92 : decode cX0_fires 92 = .ok (.ireturn, 1) := dk_172 (dk_at dksX0_fires_3 22 rfl rfl)
abbrev cX0_book : ByteArray := prog_1_method_46_code
def yX0_book : MethodName := ⟨RX0, "book", "(I)I"⟩
def dkwX0_book_2 : List UInt8 := [180, 0, 82, 180, 1, 167, 27, 46, 167, 0, 4, 2, 172]
abbrev dktX0_book_2 : List UInt8 := dkwX0_book_2 ++ []
def dkwX0_book_1 : List UInt8 := [180, 1, 177, 167, 0, 33, 27, 3, 42, 180, 0, 82, 180, 1, 174, 5, 100, 184, 0, 160, 153, 0, 15, 42]
abbrev dktX0_book_1 : List UInt8 := dkwX0_book_1 ++ dktX0_book_2
def dkwX0_book_0 : List UInt8 := [42, 180, 0, 82, 180, 1, 174, 154, 0, 5, 2, 172, 27, 16, 100, 160, 0, 13, 42, 180, 0, 82]
abbrev dktX0_book_0 : List UInt8 := dkwX0_book_0 ++ dktX0_book_1
theorem dksX0_book_0 : cX0_book.data.toList.drop 0 = dktX0_book_0 := by decide +kernel
theorem dksX0_book_1 : cX0_book.data.toList.drop 22 = dktX0_book_1 := dk_seg dksX0_book_0 22 rfl rfl
theorem dksX0_book_2 : cX0_book.data.toList.drop 46 = dktX0_book_2 := dk_seg dksX0_book_1 24 rfl rfl
theorem dX0_book_0 : decode cX0_book 0 = .ok (.aload_n 0, 1) := dk_42 (dk_at dksX0_book_0 0 rfl rfl)
theorem dX0_book_1 : decode cX0_book 1 = .ok (.getfield 82, 3) := dk_180 0 82 (dk_at dksX0_book_0 1 rfl rfl)
theorem dX0_book_4 : decode cX0_book 4 = .ok (.getfield 430, 3) := dk_180 1 174 (dk_at dksX0_book_0 4 rfl rfl)
theorem dX0_book_7 : decode cX0_book 7 = .ok (.ifCond .ne 5, 3) := dk_154 0 5 (dk_at dksX0_book_0 7 rfl rfl)
theorem dX0_book_10 : decode cX0_book 10 = .ok (.iconst (-1), 1) := dk_2 (dk_at dksX0_book_0 10 rfl rfl)
theorem dX0_book_11 : decode cX0_book 11 = .ok (.ireturn, 1) := dk_172 (dk_at dksX0_book_0 11 rfl rfl)
theorem dX0_book_12 : decode cX0_book 12 = .ok (.iload_n 1, 1) := dk_27 (dk_at dksX0_book_0 12 rfl rfl)
theorem dX0_book_13 : decode cX0_book 13 = .ok (.bipush 100, 2) := dk_16 100 (dk_at dksX0_book_0 13 rfl rfl)
theorem dX0_book_15 : decode cX0_book 15 = .ok (.if_icmp .ne 13, 3) := dk_160 0 13 (dk_at dksX0_book_0 15 rfl rfl)
theorem dX0_book_18 : decode cX0_book 18 = .ok (.aload_n 0, 1) := dk_42 (dk_at dksX0_book_0 18 rfl rfl)
theorem dX0_book_19 : decode cX0_book 19 = .ok (.getfield 82, 3) := dk_180 0 82 (dk_at dksX0_book_0 19 rfl rfl)
theorem dX0_book_22 : decode cX0_book 22 = .ok (.getfield 433, 3) := dk_180 1 177 (dk_at dksX0_book_1 0 rfl rfl)
theorem dX0_book_25 : decode cX0_book 25 = .ok (.goto 33, 3) := dk_167 0 33 (dk_at dksX0_book_1 3 rfl rfl)
theorem dX0_book_28 : decode cX0_book 28 = .ok (.iload_n 1, 1) := dk_27 (dk_at dksX0_book_1 6 rfl rfl)
theorem dX0_book_29 : decode cX0_book 29 = .ok (.iconst 0, 1) := dk_3 (dk_at dksX0_book_1 7 rfl rfl)
theorem dX0_book_30 : decode cX0_book 30 = .ok (.aload_n 0, 1) := dk_42 (dk_at dksX0_book_1 8 rfl rfl)
theorem dX0_book_31 : decode cX0_book 31 = .ok (.getfield 82, 3) := dk_180 0 82 (dk_at dksX0_book_1 9 rfl rfl)
theorem dX0_book_34 : decode cX0_book 34 = .ok (.getfield 430, 3) := dk_180 1 174 (dk_at dksX0_book_1 12 rfl rfl)
theorem dX0_book_37 : decode cX0_book 37 = .ok (.iconst 2, 1) := dk_5 (dk_at dksX0_book_1 15 rfl rfl)
theorem dX0_book_38 : decode cX0_book 38 = .ok (.isub, 1) := dk_100 (dk_at dksX0_book_1 16 rfl rfl)
theorem dX0_book_39 : decode cX0_book 39 = .ok (.invokestatic 160, 3) := dk_184 0 160 (dk_at dksX0_book_1 17 rfl rfl)
theorem dX0_book_42 : decode cX0_book 42 = .ok (.ifCond .eq 15, 3) := dk_153 0 15 (dk_at dksX0_book_1 20 rfl rfl)
theorem dX0_book_45 : decode cX0_book 45 = .ok (.aload_n 0, 1) := dk_42 (dk_at dksX0_book_1 23 rfl rfl)
theorem dX0_book_46 : decode cX0_book 46 = .ok (.getfield 82, 3) := dk_180 0 82 (dk_at dksX0_book_2 0 rfl rfl)
theorem dX0_book_49 : decode cX0_book 49 = .ok (.getfield 423, 3) := dk_180 1 167 (dk_at dksX0_book_2 3 rfl rfl)
theorem dX0_book_52 : decode cX0_book 52 = .ok (.iload_n 1, 1) := dk_27 (dk_at dksX0_book_2 6 rfl rfl)
theorem dX0_book_53 : decode cX0_book 53 = .ok (.iaload, 1) := dk_46 (dk_at dksX0_book_2 7 rfl rfl)
theorem dX0_book_54 : decode cX0_book 54 = .ok (.goto 4, 3) := dk_167 0 4 (dk_at dksX0_book_2 8 rfl rfl)
theorem dX0_book_57 : decode cX0_book 57 = .ok (.iconst (-1), 1) := dk_2 (dk_at dksX0_book_2 11 rfl rfl)
theorem dX0_book_58 : decode cX0_book 58 = .ok (.ireturn, 1) := dk_172 (dk_at dksX0_book_2 12 rfl rfl)
abbrev cX0_of : ByteArray := prog_1_method_47_code
def yX0_of : MethodName := ⟨RX0, "of", "(II)I"⟩
def dkwX0_of_6 : List UInt8 := [184, 0, 160, 153, 0, 15, 45, 180, 1, 188, 28, 16, 10, 100, 51, 167, 0, 6, 19, 1, 187, 172]
abbrev dktX0_of_6 : List UInt8 := dkwX0_of_6 ++ []
def dkwX0_of_5 : List UInt8 := [180, 1, 114, 27, 46, 172, 42, 27, 182, 1, 118, 172, 28, 16, 10, 16, 9, 45, 180, 1, 188, 190, 96]
abbrev dktX0_of_5 : List UInt8 := dkwX0_of_5 ++ dktX0_of_6
def dkwX0_of_4 : List UInt8 := [180, 0, 82, 180, 1, 112, 27, 46, 172, 42, 180, 0, 82, 180, 1, 136, 27, 46, 172, 42, 180, 0, 82]
abbrev dktX0_of_4 : List UInt8 := dkwX0_of_4 ++ dktX0_of_5
def dkwX0_of_3 : List UInt8 := [172, 42, 180, 0, 82, 180, 1, 108, 27, 46, 172, 42, 180, 0, 82, 180, 1, 110, 27, 46, 172, 42]
abbrev dktX0_of_3 : List UInt8 := dkwX0_of_3 ++ dktX0_of_4
def dkwX0_of_2 : List UInt8 := [45, 180, 1, 104, 172, 45, 180, 1, 106, 172, 45, 180, 1, 148, 172, 42, 180, 0, 82, 180, 1, 101, 27, 46]
abbrev dktX0_of_2 : List UInt8 := dkwX0_of_2 ++ dktX0_of_3
def dkwX0_of_1 : List UInt8 := [170, 0, 0, 0, 0, 0, 0, 137, 0, 0, 0, 0, 0, 0, 0, 9, 0, 0, 0, 56, 0, 0, 0, 61, 0, 0, 0, 66, 0, 0, 0, 71, 0, 0, 0, 81, 0, 0, 0, 91, 0, 0, 0, 101, 0, 0, 0, 111, 0, 0, 0, 121, 0, 0, 0, 131]
abbrev dktX0_of_1 : List UInt8 := dkwX0_of_1 ++ dktX0_of_2
def dkwX0_of_0 : List UInt8 := [42, 27, 182, 1, 98, 154, 0, 7, 19, 1, 187, 172, 42, 180, 0, 68, 27, 50, 78, 28]
abbrev dktX0_of_0 : List UInt8 := dkwX0_of_0 ++ dktX0_of_1
theorem dksX0_of_0 : cX0_of.data.toList.drop 0 = dktX0_of_0 := by decide +kernel
theorem dksX0_of_1 : cX0_of.data.toList.drop 20 = dktX0_of_1 := dk_seg dksX0_of_0 20 rfl rfl
theorem dksX0_of_2 : cX0_of.data.toList.drop 76 = dktX0_of_2 := dk_seg dksX0_of_1 56 rfl rfl
theorem dksX0_of_3 : cX0_of.data.toList.drop 100 = dktX0_of_3 := dk_seg dksX0_of_2 24 rfl rfl
theorem dksX0_of_4 : cX0_of.data.toList.drop 122 = dktX0_of_4 := dk_seg dksX0_of_3 22 rfl rfl
theorem dksX0_of_5 : cX0_of.data.toList.drop 145 = dktX0_of_5 := dk_seg dksX0_of_4 23 rfl rfl
theorem dksX0_of_6 : cX0_of.data.toList.drop 168 = dktX0_of_6 := dk_seg dksX0_of_5 23 rfl rfl
theorem dX0_of_0 : decode cX0_of 0 = .ok (.aload_n 0, 1) := dk_42 (dk_at dksX0_of_0 0 rfl rfl)
theorem dX0_of_1 : decode cX0_of 1 = .ok (.iload_n 1, 1) := dk_27 (dk_at dksX0_of_0 1 rfl rfl)
theorem dX0_of_2 : decode cX0_of 2 = .ok (.invokevirtual 354, 3) := dk_182 1 98 (dk_at dksX0_of_0 2 rfl rfl)
theorem dX0_of_5 : decode cX0_of 5 = .ok (.ifCond .ne 7, 3) := dk_154 0 7 (dk_at dksX0_of_0 5 rfl rfl)
theorem dX0_of_8 : decode cX0_of 8 = .ok (.ldc_w 443, 3) := dk_19 1 187 (dk_at dksX0_of_0 8 rfl rfl)
theorem dX0_of_11 : decode cX0_of 11 = .ok (.ireturn, 1) := dk_172 (dk_at dksX0_of_0 11 rfl rfl)
theorem dX0_of_12 : decode cX0_of 12 = .ok (.aload_n 0, 1) := dk_42 (dk_at dksX0_of_0 12 rfl rfl)
theorem dX0_of_13 : decode cX0_of 13 = .ok (.getfield 68, 3) := dk_180 0 68 (dk_at dksX0_of_0 13 rfl rfl)
theorem dX0_of_16 : decode cX0_of 16 = .ok (.iload_n 1, 1) := dk_27 (dk_at dksX0_of_0 16 rfl rfl)
theorem dX0_of_17 : decode cX0_of 17 = .ok (.aaload, 1) := dk_50 (dk_at dksX0_of_0 17 rfl rfl)
theorem dX0_of_18 : decode cX0_of 18 = .ok (.astore_n 3, 1) := dk_78 (dk_at dksX0_of_0 18 rfl rfl)
theorem dX0_of_19 : decode cX0_of 19 = .ok (.iload_n 2, 1) := dk_28 (dk_at dksX0_of_0 19 rfl rfl)
theorem dX0_of_20 : decode cX0_of 20 = .ok (.tableswitch 137 0 9 #[56, 61, 66, 71, 81, 91, 101, 111, 121, 131], 56) := by decide +kernel
theorem dX0_of_76 : decode cX0_of 76 = .ok (.aload_n 3, 1) := dk_45 (dk_at dksX0_of_2 0 rfl rfl)
theorem dX0_of_77 : decode cX0_of 77 = .ok (.getfield 360, 3) := dk_180 1 104 (dk_at dksX0_of_2 1 rfl rfl)
theorem dX0_of_80 : decode cX0_of 80 = .ok (.ireturn, 1) := dk_172 (dk_at dksX0_of_2 4 rfl rfl)
theorem dX0_of_81 : decode cX0_of 81 = .ok (.aload_n 3, 1) := dk_45 (dk_at dksX0_of_2 5 rfl rfl)
theorem dX0_of_82 : decode cX0_of 82 = .ok (.getfield 362, 3) := dk_180 1 106 (dk_at dksX0_of_2 6 rfl rfl)
theorem dX0_of_85 : decode cX0_of 85 = .ok (.ireturn, 1) := dk_172 (dk_at dksX0_of_2 9 rfl rfl)
theorem dX0_of_86 : decode cX0_of 86 = .ok (.aload_n 3, 1) := dk_45 (dk_at dksX0_of_2 10 rfl rfl)
theorem dX0_of_87 : decode cX0_of 87 = .ok (.getfield 404, 3) := dk_180 1 148 (dk_at dksX0_of_2 11 rfl rfl)
theorem dX0_of_90 : decode cX0_of 90 = .ok (.ireturn, 1) := dk_172 (dk_at dksX0_of_2 14 rfl rfl)
theorem dX0_of_91 : decode cX0_of 91 = .ok (.aload_n 0, 1) := dk_42 (dk_at dksX0_of_2 15 rfl rfl)
theorem dX0_of_92 : decode cX0_of 92 = .ok (.getfield 82, 3) := dk_180 0 82 (dk_at dksX0_of_2 16 rfl rfl)
theorem dX0_of_95 : decode cX0_of 95 = .ok (.getfield 357, 3) := dk_180 1 101 (dk_at dksX0_of_2 19 rfl rfl)
theorem dX0_of_98 : decode cX0_of 98 = .ok (.iload_n 1, 1) := dk_27 (dk_at dksX0_of_2 22 rfl rfl)
theorem dX0_of_99 : decode cX0_of 99 = .ok (.iaload, 1) := dk_46 (dk_at dksX0_of_2 23 rfl rfl)
theorem dX0_of_100 : decode cX0_of 100 = .ok (.ireturn, 1) := dk_172 (dk_at dksX0_of_3 0 rfl rfl)
theorem dX0_of_101 : decode cX0_of 101 = .ok (.aload_n 0, 1) := dk_42 (dk_at dksX0_of_3 1 rfl rfl)
theorem dX0_of_102 : decode cX0_of 102 = .ok (.getfield 82, 3) := dk_180 0 82 (dk_at dksX0_of_3 2 rfl rfl)
theorem dX0_of_105 : decode cX0_of 105 = .ok (.getfield 364, 3) := dk_180 1 108 (dk_at dksX0_of_3 5 rfl rfl)
theorem dX0_of_108 : decode cX0_of 108 = .ok (.iload_n 1, 1) := dk_27 (dk_at dksX0_of_3 8 rfl rfl)
theorem dX0_of_109 : decode cX0_of 109 = .ok (.iaload, 1) := dk_46 (dk_at dksX0_of_3 9 rfl rfl)
theorem dX0_of_110 : decode cX0_of 110 = .ok (.ireturn, 1) := dk_172 (dk_at dksX0_of_3 10 rfl rfl)
theorem dX0_of_111 : decode cX0_of 111 = .ok (.aload_n 0, 1) := dk_42 (dk_at dksX0_of_3 11 rfl rfl)
theorem dX0_of_112 : decode cX0_of 112 = .ok (.getfield 82, 3) := dk_180 0 82 (dk_at dksX0_of_3 12 rfl rfl)
theorem dX0_of_115 : decode cX0_of 115 = .ok (.getfield 366, 3) := dk_180 1 110 (dk_at dksX0_of_3 15 rfl rfl)
theorem dX0_of_118 : decode cX0_of 118 = .ok (.iload_n 1, 1) := dk_27 (dk_at dksX0_of_3 18 rfl rfl)
theorem dX0_of_119 : decode cX0_of 119 = .ok (.iaload, 1) := dk_46 (dk_at dksX0_of_3 19 rfl rfl)
theorem dX0_of_120 : decode cX0_of 120 = .ok (.ireturn, 1) := dk_172 (dk_at dksX0_of_3 20 rfl rfl)
theorem dX0_of_121 : decode cX0_of 121 = .ok (.aload_n 0, 1) := dk_42 (dk_at dksX0_of_3 21 rfl rfl)
theorem dX0_of_122 : decode cX0_of 122 = .ok (.getfield 82, 3) := dk_180 0 82 (dk_at dksX0_of_4 0 rfl rfl)
theorem dX0_of_125 : decode cX0_of 125 = .ok (.getfield 368, 3) := dk_180 1 112 (dk_at dksX0_of_4 3 rfl rfl)
theorem dX0_of_128 : decode cX0_of 128 = .ok (.iload_n 1, 1) := dk_27 (dk_at dksX0_of_4 6 rfl rfl)
theorem dX0_of_129 : decode cX0_of 129 = .ok (.iaload, 1) := dk_46 (dk_at dksX0_of_4 7 rfl rfl)
theorem dX0_of_130 : decode cX0_of 130 = .ok (.ireturn, 1) := dk_172 (dk_at dksX0_of_4 8 rfl rfl)
theorem dX0_of_131 : decode cX0_of 131 = .ok (.aload_n 0, 1) := dk_42 (dk_at dksX0_of_4 9 rfl rfl)
theorem dX0_of_132 : decode cX0_of 132 = .ok (.getfield 82, 3) := dk_180 0 82 (dk_at dksX0_of_4 10 rfl rfl)
theorem dX0_of_135 : decode cX0_of 135 = .ok (.getfield 392, 3) := dk_180 1 136 (dk_at dksX0_of_4 13 rfl rfl)
theorem dX0_of_138 : decode cX0_of 138 = .ok (.iload_n 1, 1) := dk_27 (dk_at dksX0_of_4 16 rfl rfl)
theorem dX0_of_139 : decode cX0_of 139 = .ok (.iaload, 1) := dk_46 (dk_at dksX0_of_4 17 rfl rfl)
theorem dX0_of_140 : decode cX0_of 140 = .ok (.ireturn, 1) := dk_172 (dk_at dksX0_of_4 18 rfl rfl)
theorem dX0_of_141 : decode cX0_of 141 = .ok (.aload_n 0, 1) := dk_42 (dk_at dksX0_of_4 19 rfl rfl)
theorem dX0_of_142 : decode cX0_of 142 = .ok (.getfield 82, 3) := dk_180 0 82 (dk_at dksX0_of_4 20 rfl rfl)
theorem dX0_of_145 : decode cX0_of 145 = .ok (.getfield 370, 3) := dk_180 1 114 (dk_at dksX0_of_5 0 rfl rfl)
theorem dX0_of_148 : decode cX0_of 148 = .ok (.iload_n 1, 1) := dk_27 (dk_at dksX0_of_5 3 rfl rfl)
theorem dX0_of_149 : decode cX0_of 149 = .ok (.iaload, 1) := dk_46 (dk_at dksX0_of_5 4 rfl rfl)
theorem dX0_of_150 : decode cX0_of 150 = .ok (.ireturn, 1) := dk_172 (dk_at dksX0_of_5 5 rfl rfl)
theorem dX0_of_151 : decode cX0_of 151 = .ok (.aload_n 0, 1) := dk_42 (dk_at dksX0_of_5 6 rfl rfl)
theorem dX0_of_152 : decode cX0_of 152 = .ok (.iload_n 1, 1) := dk_27 (dk_at dksX0_of_5 7 rfl rfl)
theorem dX0_of_153 : decode cX0_of 153 = .ok (.invokevirtual 374, 3) := dk_182 1 118 (dk_at dksX0_of_5 8 rfl rfl)
theorem dX0_of_156 : decode cX0_of 156 = .ok (.ireturn, 1) := dk_172 (dk_at dksX0_of_5 11 rfl rfl)
theorem dX0_of_157 : decode cX0_of 157 = .ok (.iload_n 2, 1) := dk_28 (dk_at dksX0_of_5 12 rfl rfl)
theorem dX0_of_158 : decode cX0_of 158 = .ok (.bipush 10, 2) := dk_16 10 (dk_at dksX0_of_5 13 rfl rfl)
theorem dX0_of_160 : decode cX0_of 160 = .ok (.bipush 9, 2) := dk_16 9 (dk_at dksX0_of_5 15 rfl rfl)
theorem dX0_of_162 : decode cX0_of 162 = .ok (.aload_n 3, 1) := dk_45 (dk_at dksX0_of_5 17 rfl rfl)
theorem dX0_of_163 : decode cX0_of 163 = .ok (.getfield 444, 3) := dk_180 1 188 (dk_at dksX0_of_5 18 rfl rfl)
theorem dX0_of_166 : decode cX0_of 166 = .ok (.arraylength, 1) := dk_190 (dk_at dksX0_of_5 21 rfl rfl)
theorem dX0_of_167 : decode cX0_of 167 = .ok (.iadd, 1) := dk_96 (dk_at dksX0_of_5 22 rfl rfl)
theorem dX0_of_168 : decode cX0_of 168 = .ok (.invokestatic 160, 3) := dk_184 0 160 (dk_at dksX0_of_6 0 rfl rfl)
theorem dX0_of_171 : decode cX0_of 171 = .ok (.ifCond .eq 15, 3) := dk_153 0 15 (dk_at dksX0_of_6 3 rfl rfl)
theorem dX0_of_174 : decode cX0_of 174 = .ok (.aload_n 3, 1) := dk_45 (dk_at dksX0_of_6 6 rfl rfl)
theorem dX0_of_175 : decode cX0_of 175 = .ok (.getfield 444, 3) := dk_180 1 188 (dk_at dksX0_of_6 7 rfl rfl)
theorem dX0_of_178 : decode cX0_of 178 = .ok (.iload_n 2, 1) := dk_28 (dk_at dksX0_of_6 10 rfl rfl)
theorem dX0_of_179 : decode cX0_of 179 = .ok (.bipush 10, 2) := dk_16 10 (dk_at dksX0_of_6 11 rfl rfl)
theorem dX0_of_181 : decode cX0_of 181 = .ok (.isub, 1) := dk_100 (dk_at dksX0_of_6 13 rfl rfl)
theorem dX0_of_182 : decode cX0_of 182 = .ok (.baload, 1) := dk_51 (dk_at dksX0_of_6 14 rfl rfl)
theorem dX0_of_183 : decode cX0_of 183 = .ok (.goto 6, 3) := dk_167 0 6 (dk_at dksX0_of_6 15 rfl rfl)
theorem dX0_of_186 : decode cX0_of 186 = .ok (.ldc_w 443, 3) := dk_19 1 187 (dk_at dksX0_of_6 18 rfl rfl)
theorem dX0_of_189 : decode cX0_of 189 = .ok (.ireturn, 1) := dk_172 (dk_at dksX0_of_6 21 rfl rfl)
abbrev cX0_gain : ByteArray := prog_1_method_50_code
def yX0_gain : MethodName := ⟨RX0, "gain", "(I)I"⟩
def dkwX0_gain_5 : List UInt8 := [42, 42, 180, 0, 102, 21, 4, 182, 1, 194, 172]
abbrev dktX0_gain_5 : List UInt8 := dkwX0_gain_5 ++ []
def dkwX0_gain_4 : List UInt8 := [182, 1, 191, 87, 3, 54, 4, 42, 180, 0, 102, 21, 4, 46, 27, 159, 0, 9, 132, 4, 1, 167, 255, 242]
abbrev dktX0_gain_4 : List UInt8 := dkwX0_gain_4 ++ dktX0_gain_5
def dkwX0_gain_3 : List UInt8 := [167, 255, 224, 29, 4, 42, 180, 1, 69, 120, 4, 100, 159, 0, 7, 19, 1, 187, 172, 42, 42, 180, 0, 102]
abbrev dktX0_gain_3 : List UInt8 := dkwX0_gain_3 ++ dktX0_gain_4
def dkwX0_gain_2 : List UInt8 := [42, 180, 0, 102, 21, 4, 44, 21, 4, 51, 79, 29, 4, 44, 21, 4, 51, 120, 128, 62, 132, 4, 1]
abbrev dktX0_gain_2 : List UInt8 := dkwX0_gain_2 ++ dktX0_gain_3
def dkwX0_gain_1 : List UInt8 := [182, 1, 98, 154, 0, 7, 19, 1, 187, 172, 3, 62, 3, 54, 4, 21, 4, 42, 180, 1, 69, 162, 0, 29]
abbrev dktX0_gain_1 : List UInt8 := dkwX0_gain_1 ++ dktX0_gain_2
def dkwX0_gain_0 : List UInt8 := [42, 42, 180, 1, 69, 42, 180, 1, 69, 16, 48, 16, 56, 182, 1, 88, 77, 44, 198, 0, 11, 42, 27]
abbrev dktX0_gain_0 : List UInt8 := dkwX0_gain_0 ++ dktX0_gain_1
theorem dksX0_gain_0 : cX0_gain.data.toList.drop 0 = dktX0_gain_0 := by decide +kernel
theorem dksX0_gain_1 : cX0_gain.data.toList.drop 23 = dktX0_gain_1 := dk_seg dksX0_gain_0 23 rfl rfl
theorem dksX0_gain_2 : cX0_gain.data.toList.drop 47 = dktX0_gain_2 := dk_seg dksX0_gain_1 24 rfl rfl
theorem dksX0_gain_3 : cX0_gain.data.toList.drop 70 = dktX0_gain_3 := dk_seg dksX0_gain_2 23 rfl rfl
theorem dksX0_gain_4 : cX0_gain.data.toList.drop 94 = dktX0_gain_4 := dk_seg dksX0_gain_3 24 rfl rfl
theorem dksX0_gain_5 : cX0_gain.data.toList.drop 118 = dktX0_gain_5 := dk_seg dksX0_gain_4 24 rfl rfl
theorem dX0_gain_0 : decode cX0_gain 0 = .ok (.aload_n 0, 1) := dk_42 (dk_at dksX0_gain_0 0 rfl rfl)
theorem dX0_gain_1 : decode cX0_gain 1 = .ok (.aload_n 0, 1) := dk_42 (dk_at dksX0_gain_0 1 rfl rfl)
theorem dX0_gain_2 : decode cX0_gain 2 = .ok (.getfield 325, 3) := dk_180 1 69 (dk_at dksX0_gain_0 2 rfl rfl)
theorem dX0_gain_5 : decode cX0_gain 5 = .ok (.aload_n 0, 1) := dk_42 (dk_at dksX0_gain_0 5 rfl rfl)
theorem dX0_gain_6 : decode cX0_gain 6 = .ok (.getfield 325, 3) := dk_180 1 69 (dk_at dksX0_gain_0 6 rfl rfl)
theorem dX0_gain_9 : decode cX0_gain 9 = .ok (.bipush 48, 2) := dk_16 48 (dk_at dksX0_gain_0 9 rfl rfl)
theorem dX0_gain_11 : decode cX0_gain 11 = .ok (.bipush 56, 2) := dk_16 56 (dk_at dksX0_gain_0 11 rfl rfl)
theorem dX0_gain_13 : decode cX0_gain 13 = .ok (.invokevirtual 344, 3) := dk_182 1 88 (dk_at dksX0_gain_0 13 rfl rfl)
theorem dX0_gain_16 : decode cX0_gain 16 = .ok (.astore_n 2, 1) := dk_77 (dk_at dksX0_gain_0 16 rfl rfl)
theorem dX0_gain_17 : decode cX0_gain 17 = .ok (.aload_n 2, 1) := dk_44 (dk_at dksX0_gain_0 17 rfl rfl)
theorem dX0_gain_18 : decode cX0_gain 18 = .ok (.ifnull 11, 3) := dk_198 0 11 (dk_at dksX0_gain_0 18 rfl rfl)
theorem dX0_gain_21 : decode cX0_gain 21 = .ok (.aload_n 0, 1) := dk_42 (dk_at dksX0_gain_0 21 rfl rfl)
theorem dX0_gain_22 : decode cX0_gain 22 = .ok (.iload_n 1, 1) := dk_27 (dk_at dksX0_gain_0 22 rfl rfl)
theorem dX0_gain_23 : decode cX0_gain 23 = .ok (.invokevirtual 354, 3) := dk_182 1 98 (dk_at dksX0_gain_1 0 rfl rfl)
theorem dX0_gain_26 : decode cX0_gain 26 = .ok (.ifCond .ne 7, 3) := dk_154 0 7 (dk_at dksX0_gain_1 3 rfl rfl)
theorem dX0_gain_29 : decode cX0_gain 29 = .ok (.ldc_w 443, 3) := dk_19 1 187 (dk_at dksX0_gain_1 6 rfl rfl)
theorem dX0_gain_32 : decode cX0_gain 32 = .ok (.ireturn, 1) := dk_172 (dk_at dksX0_gain_1 9 rfl rfl)
theorem dX0_gain_33 : decode cX0_gain 33 = .ok (.iconst 0, 1) := dk_3 (dk_at dksX0_gain_1 10 rfl rfl)
theorem dX0_gain_34 : decode cX0_gain 34 = .ok (.istore_n 3, 1) := dk_62 (dk_at dksX0_gain_1 11 rfl rfl)
theorem dX0_gain_35 : decode cX0_gain 35 = .ok (.iconst 0, 1) := dk_3 (dk_at dksX0_gain_1 12 rfl rfl)
theorem dX0_gain_36 : decode cX0_gain 36 = .ok (.istore 4, 2) := dk_54 4 (dk_at dksX0_gain_1 13 rfl rfl)
theorem dX0_gain_38 : decode cX0_gain 38 = .ok (.iload 4, 2) := dk_21 4 (dk_at dksX0_gain_1 15 rfl rfl)
theorem dX0_gain_40 : decode cX0_gain 40 = .ok (.aload_n 0, 1) := dk_42 (dk_at dksX0_gain_1 17 rfl rfl)
theorem dX0_gain_41 : decode cX0_gain 41 = .ok (.getfield 325, 3) := dk_180 1 69 (dk_at dksX0_gain_1 18 rfl rfl)
theorem dX0_gain_44 : decode cX0_gain 44 = .ok (.if_icmp .ge 29, 3) := dk_162 0 29 (dk_at dksX0_gain_1 21 rfl rfl)
theorem dX0_gain_47 : decode cX0_gain 47 = .ok (.aload_n 0, 1) := dk_42 (dk_at dksX0_gain_2 0 rfl rfl)
theorem dX0_gain_48 : decode cX0_gain 48 = .ok (.getfield 102, 3) := dk_180 0 102 (dk_at dksX0_gain_2 1 rfl rfl)
theorem dX0_gain_51 : decode cX0_gain 51 = .ok (.iload 4, 2) := dk_21 4 (dk_at dksX0_gain_2 4 rfl rfl)
theorem dX0_gain_53 : decode cX0_gain 53 = .ok (.aload_n 2, 1) := dk_44 (dk_at dksX0_gain_2 6 rfl rfl)
theorem dX0_gain_54 : decode cX0_gain 54 = .ok (.iload 4, 2) := dk_21 4 (dk_at dksX0_gain_2 7 rfl rfl)
theorem dX0_gain_56 : decode cX0_gain 56 = .ok (.baload, 1) := dk_51 (dk_at dksX0_gain_2 9 rfl rfl)
theorem dX0_gain_57 : decode cX0_gain 57 = .ok (.iastore, 1) := dk_79 (dk_at dksX0_gain_2 10 rfl rfl)
theorem dX0_gain_58 : decode cX0_gain 58 = .ok (.iload_n 3, 1) := dk_29 (dk_at dksX0_gain_2 11 rfl rfl)
theorem dX0_gain_59 : decode cX0_gain 59 = .ok (.iconst 1, 1) := dk_4 (dk_at dksX0_gain_2 12 rfl rfl)
theorem dX0_gain_60 : decode cX0_gain 60 = .ok (.aload_n 2, 1) := dk_44 (dk_at dksX0_gain_2 13 rfl rfl)
theorem dX0_gain_61 : decode cX0_gain 61 = .ok (.iload 4, 2) := dk_21 4 (dk_at dksX0_gain_2 14 rfl rfl)
theorem dX0_gain_63 : decode cX0_gain 63 = .ok (.baload, 1) := dk_51 (dk_at dksX0_gain_2 16 rfl rfl)
theorem dX0_gain_64 : decode cX0_gain 64 = .ok (.ishl, 1) := dk_120 (dk_at dksX0_gain_2 17 rfl rfl)
theorem dX0_gain_65 : decode cX0_gain 65 = .ok (.ior, 1) := dk_128 (dk_at dksX0_gain_2 18 rfl rfl)
theorem dX0_gain_66 : decode cX0_gain 66 = .ok (.istore_n 3, 1) := dk_62 (dk_at dksX0_gain_2 19 rfl rfl)
theorem dX0_gain_67 : decode cX0_gain 67 = .ok (.iinc 4 1, 3) := dk_132 4 1 (dk_at dksX0_gain_2 20 rfl rfl)
theorem dX0_gain_70 : decode cX0_gain 70 = .ok (.goto (-32), 3) := dk_167 255 224 (dk_at dksX0_gain_3 0 rfl rfl)
theorem dX0_gain_73 : decode cX0_gain 73 = .ok (.iload_n 3, 1) := dk_29 (dk_at dksX0_gain_3 3 rfl rfl)
theorem dX0_gain_74 : decode cX0_gain 74 = .ok (.iconst 1, 1) := dk_4 (dk_at dksX0_gain_3 4 rfl rfl)
theorem dX0_gain_75 : decode cX0_gain 75 = .ok (.aload_n 0, 1) := dk_42 (dk_at dksX0_gain_3 5 rfl rfl)
theorem dX0_gain_76 : decode cX0_gain 76 = .ok (.getfield 325, 3) := dk_180 1 69 (dk_at dksX0_gain_3 6 rfl rfl)
theorem dX0_gain_79 : decode cX0_gain 79 = .ok (.ishl, 1) := dk_120 (dk_at dksX0_gain_3 9 rfl rfl)
theorem dX0_gain_80 : decode cX0_gain 80 = .ok (.iconst 1, 1) := dk_4 (dk_at dksX0_gain_3 10 rfl rfl)
theorem dX0_gain_81 : decode cX0_gain 81 = .ok (.isub, 1) := dk_100 (dk_at dksX0_gain_3 11 rfl rfl)
theorem dX0_gain_82 : decode cX0_gain 82 = .ok (.if_icmp .eq 7, 3) := dk_159 0 7 (dk_at dksX0_gain_3 12 rfl rfl)
theorem dX0_gain_85 : decode cX0_gain 85 = .ok (.ldc_w 443, 3) := dk_19 1 187 (dk_at dksX0_gain_3 15 rfl rfl)
theorem dX0_gain_88 : decode cX0_gain 88 = .ok (.ireturn, 1) := dk_172 (dk_at dksX0_gain_3 18 rfl rfl)
theorem dX0_gain_89 : decode cX0_gain 89 = .ok (.aload_n 0, 1) := dk_42 (dk_at dksX0_gain_3 19 rfl rfl)
theorem dX0_gain_90 : decode cX0_gain 90 = .ok (.aload_n 0, 1) := dk_42 (dk_at dksX0_gain_3 20 rfl rfl)
theorem dX0_gain_91 : decode cX0_gain 91 = .ok (.getfield 102, 3) := dk_180 0 102 (dk_at dksX0_gain_3 21 rfl rfl)
theorem dX0_gain_94 : decode cX0_gain 94 = .ok (.invokevirtual 447, 3) := dk_182 1 191 (dk_at dksX0_gain_4 0 rfl rfl)
theorem dX0_gain_97 : decode cX0_gain 97 = .ok (.pop, 1) := dk_87 (dk_at dksX0_gain_4 3 rfl rfl)
theorem dX0_gain_98 : decode cX0_gain 98 = .ok (.iconst 0, 1) := dk_3 (dk_at dksX0_gain_4 4 rfl rfl)
theorem dX0_gain_99 : decode cX0_gain 99 = .ok (.istore 4, 2) := dk_54 4 (dk_at dksX0_gain_4 5 rfl rfl)
theorem dX0_gain_101 : decode cX0_gain 101 = .ok (.aload_n 0, 1) := dk_42 (dk_at dksX0_gain_4 7 rfl rfl)
theorem dX0_gain_102 : decode cX0_gain 102 = .ok (.getfield 102, 3) := dk_180 0 102 (dk_at dksX0_gain_4 8 rfl rfl)
theorem dX0_gain_105 : decode cX0_gain 105 = .ok (.iload 4, 2) := dk_21 4 (dk_at dksX0_gain_4 11 rfl rfl)
theorem dX0_gain_107 : decode cX0_gain 107 = .ok (.iaload, 1) := dk_46 (dk_at dksX0_gain_4 13 rfl rfl)
theorem dX0_gain_108 : decode cX0_gain 108 = .ok (.iload_n 1, 1) := dk_27 (dk_at dksX0_gain_4 14 rfl rfl)
theorem dX0_gain_109 : decode cX0_gain 109 = .ok (.if_icmp .eq 9, 3) := dk_159 0 9 (dk_at dksX0_gain_4 15 rfl rfl)
theorem dX0_gain_112 : decode cX0_gain 112 = .ok (.iinc 4 1, 3) := dk_132 4 1 (dk_at dksX0_gain_4 18 rfl rfl)
theorem dX0_gain_115 : decode cX0_gain 115 = .ok (.goto (-14), 3) := dk_167 255 242 (dk_at dksX0_gain_4 21 rfl rfl)
theorem dX0_gain_118 : decode cX0_gain 118 = .ok (.aload_n 0, 1) := dk_42 (dk_at dksX0_gain_5 0 rfl rfl)
theorem dX0_gain_119 : decode cX0_gain 119 = .ok (.aload_n 0, 1) := dk_42 (dk_at dksX0_gain_5 1 rfl rfl)
theorem dX0_gain_120 : decode cX0_gain 120 = .ok (.getfield 102, 3) := dk_180 0 102 (dk_at dksX0_gain_5 2 rfl rfl)
theorem dX0_gain_123 : decode cX0_gain 123 = .ok (.iload 4, 2) := dk_21 4 (dk_at dksX0_gain_5 5 rfl rfl)
theorem dX0_gain_125 : decode cX0_gain 125 = .ok (.invokevirtual 450, 3) := dk_182 1 194 (dk_at dksX0_gain_5 7 rfl rfl)
theorem dX0_gain_128 : decode cX0_gain 128 = .ok (.ireturn, 1) := dk_172 (dk_at dksX0_gain_5 10 rfl rfl)
abbrev cX0_findsPieces : ByteArray := prog_1_method_48_code
def yX0_findsPieces : MethodName := ⟨RX0, "findsPieces", "([I)I"⟩
def dkwX0_findsPieces_1 : List UInt8 := [29, 46, 182, 1, 154, 79, 28, 42, 180, 0, 105, 29, 46, 96, 61, 132, 3, 1, 167, 255, 223, 28, 172]
abbrev dktX0_findsPieces_1 : List UInt8 := dkwX0_findsPieces_1 ++ []
def dkwX0_findsPieces_0 : List UInt8 := [42, 3, 181, 1, 145, 3, 61, 3, 62, 29, 42, 180, 1, 69, 162, 0, 31, 42, 180, 0, 105, 29, 42, 43]
abbrev dktX0_findsPieces_0 : List UInt8 := dkwX0_findsPieces_0 ++ dktX0_findsPieces_1
theorem dksX0_findsPieces_0 : cX0_findsPieces.data.toList.drop 0 = dktX0_findsPieces_0 := by decide +kernel
theorem dksX0_findsPieces_1 : cX0_findsPieces.data.toList.drop 24 = dktX0_findsPieces_1 := dk_seg dksX0_findsPieces_0 24 rfl rfl
theorem dX0_findsPieces_0 : decode cX0_findsPieces 0 = .ok (.aload_n 0, 1) := dk_42 (dk_at dksX0_findsPieces_0 0 rfl rfl)
theorem dX0_findsPieces_1 : decode cX0_findsPieces 1 = .ok (.iconst 0, 1) := dk_3 (dk_at dksX0_findsPieces_0 1 rfl rfl)
theorem dX0_findsPieces_2 : decode cX0_findsPieces 2 = .ok (.putfield 401, 3) := dk_181 1 145 (dk_at dksX0_findsPieces_0 2 rfl rfl)
theorem dX0_findsPieces_5 : decode cX0_findsPieces 5 = .ok (.iconst 0, 1) := dk_3 (dk_at dksX0_findsPieces_0 5 rfl rfl)
theorem dX0_findsPieces_6 : decode cX0_findsPieces 6 = .ok (.istore_n 2, 1) := dk_61 (dk_at dksX0_findsPieces_0 6 rfl rfl)
theorem dX0_findsPieces_7 : decode cX0_findsPieces 7 = .ok (.iconst 0, 1) := dk_3 (dk_at dksX0_findsPieces_0 7 rfl rfl)
theorem dX0_findsPieces_8 : decode cX0_findsPieces 8 = .ok (.istore_n 3, 1) := dk_62 (dk_at dksX0_findsPieces_0 8 rfl rfl)
theorem dX0_findsPieces_9 : decode cX0_findsPieces 9 = .ok (.iload_n 3, 1) := dk_29 (dk_at dksX0_findsPieces_0 9 rfl rfl)
theorem dX0_findsPieces_10 : decode cX0_findsPieces 10 = .ok (.aload_n 0, 1) := dk_42 (dk_at dksX0_findsPieces_0 10 rfl rfl)
theorem dX0_findsPieces_11 : decode cX0_findsPieces 11 = .ok (.getfield 325, 3) := dk_180 1 69 (dk_at dksX0_findsPieces_0 11 rfl rfl)
theorem dX0_findsPieces_14 : decode cX0_findsPieces 14 = .ok (.if_icmp .ge 31, 3) := dk_162 0 31 (dk_at dksX0_findsPieces_0 14 rfl rfl)
theorem dX0_findsPieces_17 : decode cX0_findsPieces 17 = .ok (.aload_n 0, 1) := dk_42 (dk_at dksX0_findsPieces_0 17 rfl rfl)
theorem dX0_findsPieces_18 : decode cX0_findsPieces 18 = .ok (.getfield 105, 3) := dk_180 0 105 (dk_at dksX0_findsPieces_0 18 rfl rfl)
theorem dX0_findsPieces_21 : decode cX0_findsPieces 21 = .ok (.iload_n 3, 1) := dk_29 (dk_at dksX0_findsPieces_0 21 rfl rfl)
theorem dX0_findsPieces_22 : decode cX0_findsPieces 22 = .ok (.aload_n 0, 1) := dk_42 (dk_at dksX0_findsPieces_0 22 rfl rfl)
theorem dX0_findsPieces_23 : decode cX0_findsPieces 23 = .ok (.aload_n 1, 1) := dk_43 (dk_at dksX0_findsPieces_0 23 rfl rfl)
theorem dX0_findsPieces_24 : decode cX0_findsPieces 24 = .ok (.iload_n 3, 1) := dk_29 (dk_at dksX0_findsPieces_1 0 rfl rfl)
theorem dX0_findsPieces_25 : decode cX0_findsPieces 25 = .ok (.iaload, 1) := dk_46 (dk_at dksX0_findsPieces_1 1 rfl rfl)
theorem dX0_findsPieces_26 : decode cX0_findsPieces 26 = .ok (.invokevirtual 410, 3) := dk_182 1 154 (dk_at dksX0_findsPieces_1 2 rfl rfl)
theorem dX0_findsPieces_29 : decode cX0_findsPieces 29 = .ok (.iastore, 1) := dk_79 (dk_at dksX0_findsPieces_1 5 rfl rfl)
theorem dX0_findsPieces_30 : decode cX0_findsPieces 30 = .ok (.iload_n 2, 1) := dk_28 (dk_at dksX0_findsPieces_1 6 rfl rfl)
theorem dX0_findsPieces_31 : decode cX0_findsPieces 31 = .ok (.aload_n 0, 1) := dk_42 (dk_at dksX0_findsPieces_1 7 rfl rfl)
theorem dX0_findsPieces_32 : decode cX0_findsPieces 32 = .ok (.getfield 105, 3) := dk_180 0 105 (dk_at dksX0_findsPieces_1 8 rfl rfl)
theorem dX0_findsPieces_35 : decode cX0_findsPieces 35 = .ok (.iload_n 3, 1) := dk_29 (dk_at dksX0_findsPieces_1 11 rfl rfl)
theorem dX0_findsPieces_36 : decode cX0_findsPieces 36 = .ok (.iaload, 1) := dk_46 (dk_at dksX0_findsPieces_1 12 rfl rfl)
theorem dX0_findsPieces_37 : decode cX0_findsPieces 37 = .ok (.iadd, 1) := dk_96 (dk_at dksX0_findsPieces_1 13 rfl rfl)
theorem dX0_findsPieces_38 : decode cX0_findsPieces 38 = .ok (.istore_n 2, 1) := dk_61 (dk_at dksX0_findsPieces_1 14 rfl rfl)
theorem dX0_findsPieces_39 : decode cX0_findsPieces 39 = .ok (.iinc 3 1, 3) := dk_132 3 1 (dk_at dksX0_findsPieces_1 15 rfl rfl)
theorem dX0_findsPieces_42 : decode cX0_findsPieces 42 = .ok (.goto (-33), 3) := dk_167 255 223 (dk_at dksX0_findsPieces_1 18 rfl rfl)
theorem dX0_findsPieces_45 : decode cX0_findsPieces 45 = .ok (.iload_n 2, 1) := dk_28 (dk_at dksX0_findsPieces_1 21 rfl rfl)
theorem dX0_findsPieces_46 : decode cX0_findsPieces 46 = .ok (.ireturn, 1) := dk_172 (dk_at dksX0_findsPieces_1 22 rfl rfl)
abbrev cX0_gainAt : ByteArray := prog_1_method_49_code
def yX0_gainAt : MethodName := ⟨RX0, "gainAt", "([II)I"⟩
def dkwX0_gainAt_2 : List UInt8 := [21, 4, 29, 100, 42, 180, 0, 72, 5, 46, 42, 180, 0, 105, 28, 46, 104, 100, 172]
abbrev dktX0_gainAt_2 : List UInt8 := dkwX0_gainAt_2 ++ []
def dkwX0_gainAt_1 : List UInt8 := [180, 1, 69, 162, 0, 18, 42, 43, 28, 4, 96, 46, 182, 1, 142, 16, 9, 108, 167, 0, 4, 3, 54, 4]
abbrev dktX0_gainAt_1 : List UInt8 := dkwX0_gainAt_1 ++ dktX0_gainAt_2
def dkwX0_gainAt_0 : List UInt8 := [28, 154, 0, 7, 3, 167, 0, 13, 42, 43, 28, 46, 182, 1, 142, 16, 9, 108, 62, 28, 4, 96, 42]
abbrev dktX0_gainAt_0 : List UInt8 := dkwX0_gainAt_0 ++ dktX0_gainAt_1
theorem dksX0_gainAt_0 : cX0_gainAt.data.toList.drop 0 = dktX0_gainAt_0 := by decide +kernel
theorem dksX0_gainAt_1 : cX0_gainAt.data.toList.drop 23 = dktX0_gainAt_1 := dk_seg dksX0_gainAt_0 23 rfl rfl
theorem dksX0_gainAt_2 : cX0_gainAt.data.toList.drop 47 = dktX0_gainAt_2 := dk_seg dksX0_gainAt_1 24 rfl rfl
theorem dX0_gainAt_0 : decode cX0_gainAt 0 = .ok (.iload_n 2, 1) := dk_28 (dk_at dksX0_gainAt_0 0 rfl rfl)
theorem dX0_gainAt_1 : decode cX0_gainAt 1 = .ok (.ifCond .ne 7, 3) := dk_154 0 7 (dk_at dksX0_gainAt_0 1 rfl rfl)
theorem dX0_gainAt_4 : decode cX0_gainAt 4 = .ok (.iconst 0, 1) := dk_3 (dk_at dksX0_gainAt_0 4 rfl rfl)
theorem dX0_gainAt_5 : decode cX0_gainAt 5 = .ok (.goto 13, 3) := dk_167 0 13 (dk_at dksX0_gainAt_0 5 rfl rfl)
theorem dX0_gainAt_8 : decode cX0_gainAt 8 = .ok (.aload_n 0, 1) := dk_42 (dk_at dksX0_gainAt_0 8 rfl rfl)
theorem dX0_gainAt_9 : decode cX0_gainAt 9 = .ok (.aload_n 1, 1) := dk_43 (dk_at dksX0_gainAt_0 9 rfl rfl)
theorem dX0_gainAt_10 : decode cX0_gainAt 10 = .ok (.iload_n 2, 1) := dk_28 (dk_at dksX0_gainAt_0 10 rfl rfl)
theorem dX0_gainAt_11 : decode cX0_gainAt 11 = .ok (.iaload, 1) := dk_46 (dk_at dksX0_gainAt_0 11 rfl rfl)
theorem dX0_gainAt_12 : decode cX0_gainAt 12 = .ok (.invokevirtual 398, 3) := dk_182 1 142 (dk_at dksX0_gainAt_0 12 rfl rfl)
theorem dX0_gainAt_15 : decode cX0_gainAt 15 = .ok (.bipush 9, 2) := dk_16 9 (dk_at dksX0_gainAt_0 15 rfl rfl)
theorem dX0_gainAt_17 : decode cX0_gainAt 17 = .ok (.idiv, 1) := dk_108 (dk_at dksX0_gainAt_0 17 rfl rfl)
theorem dX0_gainAt_18 : decode cX0_gainAt 18 = .ok (.istore_n 3, 1) := dk_62 (dk_at dksX0_gainAt_0 18 rfl rfl)
theorem dX0_gainAt_19 : decode cX0_gainAt 19 = .ok (.iload_n 2, 1) := dk_28 (dk_at dksX0_gainAt_0 19 rfl rfl)
theorem dX0_gainAt_20 : decode cX0_gainAt 20 = .ok (.iconst 1, 1) := dk_4 (dk_at dksX0_gainAt_0 20 rfl rfl)
theorem dX0_gainAt_21 : decode cX0_gainAt 21 = .ok (.iadd, 1) := dk_96 (dk_at dksX0_gainAt_0 21 rfl rfl)
theorem dX0_gainAt_22 : decode cX0_gainAt 22 = .ok (.aload_n 0, 1) := dk_42 (dk_at dksX0_gainAt_0 22 rfl rfl)
theorem dX0_gainAt_23 : decode cX0_gainAt 23 = .ok (.getfield 325, 3) := dk_180 1 69 (dk_at dksX0_gainAt_1 0 rfl rfl)
theorem dX0_gainAt_26 : decode cX0_gainAt 26 = .ok (.if_icmp .ge 18, 3) := dk_162 0 18 (dk_at dksX0_gainAt_1 3 rfl rfl)
theorem dX0_gainAt_29 : decode cX0_gainAt 29 = .ok (.aload_n 0, 1) := dk_42 (dk_at dksX0_gainAt_1 6 rfl rfl)
theorem dX0_gainAt_30 : decode cX0_gainAt 30 = .ok (.aload_n 1, 1) := dk_43 (dk_at dksX0_gainAt_1 7 rfl rfl)
theorem dX0_gainAt_31 : decode cX0_gainAt 31 = .ok (.iload_n 2, 1) := dk_28 (dk_at dksX0_gainAt_1 8 rfl rfl)
theorem dX0_gainAt_32 : decode cX0_gainAt 32 = .ok (.iconst 1, 1) := dk_4 (dk_at dksX0_gainAt_1 9 rfl rfl)
theorem dX0_gainAt_33 : decode cX0_gainAt 33 = .ok (.iadd, 1) := dk_96 (dk_at dksX0_gainAt_1 10 rfl rfl)
theorem dX0_gainAt_34 : decode cX0_gainAt 34 = .ok (.iaload, 1) := dk_46 (dk_at dksX0_gainAt_1 11 rfl rfl)
theorem dX0_gainAt_35 : decode cX0_gainAt 35 = .ok (.invokevirtual 398, 3) := dk_182 1 142 (dk_at dksX0_gainAt_1 12 rfl rfl)
theorem dX0_gainAt_38 : decode cX0_gainAt 38 = .ok (.bipush 9, 2) := dk_16 9 (dk_at dksX0_gainAt_1 15 rfl rfl)
theorem dX0_gainAt_40 : decode cX0_gainAt 40 = .ok (.idiv, 1) := dk_108 (dk_at dksX0_gainAt_1 17 rfl rfl)
theorem dX0_gainAt_41 : decode cX0_gainAt 41 = .ok (.goto 4, 3) := dk_167 0 4 (dk_at dksX0_gainAt_1 18 rfl rfl)
theorem dX0_gainAt_44 : decode cX0_gainAt 44 = .ok (.iconst 0, 1) := dk_3 (dk_at dksX0_gainAt_1 21 rfl rfl)
theorem dX0_gainAt_45 : decode cX0_gainAt 45 = .ok (.istore 4, 2) := dk_54 4 (dk_at dksX0_gainAt_1 22 rfl rfl)
theorem dX0_gainAt_47 : decode cX0_gainAt 47 = .ok (.iload 4, 2) := dk_21 4 (dk_at dksX0_gainAt_2 0 rfl rfl)
theorem dX0_gainAt_49 : decode cX0_gainAt 49 = .ok (.iload_n 3, 1) := dk_29 (dk_at dksX0_gainAt_2 2 rfl rfl)
theorem dX0_gainAt_50 : decode cX0_gainAt 50 = .ok (.isub, 1) := dk_100 (dk_at dksX0_gainAt_2 3 rfl rfl)
theorem dX0_gainAt_51 : decode cX0_gainAt 51 = .ok (.aload_n 0, 1) := dk_42 (dk_at dksX0_gainAt_2 4 rfl rfl)
theorem dX0_gainAt_52 : decode cX0_gainAt 52 = .ok (.getfield 72, 3) := dk_180 0 72 (dk_at dksX0_gainAt_2 5 rfl rfl)
theorem dX0_gainAt_55 : decode cX0_gainAt 55 = .ok (.iconst 2, 1) := dk_5 (dk_at dksX0_gainAt_2 8 rfl rfl)
theorem dX0_gainAt_56 : decode cX0_gainAt 56 = .ok (.iaload, 1) := dk_46 (dk_at dksX0_gainAt_2 9 rfl rfl)
theorem dX0_gainAt_57 : decode cX0_gainAt 57 = .ok (.aload_n 0, 1) := dk_42 (dk_at dksX0_gainAt_2 10 rfl rfl)
theorem dX0_gainAt_58 : decode cX0_gainAt 58 = .ok (.getfield 105, 3) := dk_180 0 105 (dk_at dksX0_gainAt_2 11 rfl rfl)
theorem dX0_gainAt_61 : decode cX0_gainAt 61 = .ok (.iload_n 2, 1) := dk_28 (dk_at dksX0_gainAt_2 14 rfl rfl)
theorem dX0_gainAt_62 : decode cX0_gainAt 62 = .ok (.iaload, 1) := dk_46 (dk_at dksX0_gainAt_2 15 rfl rfl)
theorem dX0_gainAt_63 : decode cX0_gainAt 63 = .ok (.imul, 1) := dk_104 (dk_at dksX0_gainAt_2 16 rfl rfl)
theorem dX0_gainAt_64 : decode cX0_gainAt 64 = .ok (.isub, 1) := dk_100 (dk_at dksX0_gainAt_2 17 rfl rfl)
theorem dX0_gainAt_65 : decode cX0_gainAt 65 = .ok (.ireturn, 1) := dk_172 (dk_at dksX0_gainAt_2 18 rfl rfl)
abbrev cX0_orders : ByteArray := prog_1_method_56_code
def yX0_orders : MethodName := ⟨RX0, "orders", "(I)I"⟩
def dkwX0_orders_2 : List UInt8 := [167, 0, 12, 42, 180, 0, 108, 27, 16, 10, 100, 46, 172]
abbrev dktX0_orders_2 : List UInt8 := dkwX0_orders_2 ++ []
def dkwX0_orders_1 : List UInt8 := [100, 3, 182, 1, 211, 27, 154, 0, 10, 42, 180, 1, 221, 167, 0, 23, 42, 180, 1, 221, 154, 0, 7, 2]
abbrev dktX0_orders_1 : List UInt8 := dkwX0_orders_1 ++ dktX0_orders_2
def dkwX0_orders_0 : List UInt8 := [42, 27, 182, 1, 224, 154, 0, 5, 2, 172, 42, 3, 181, 1, 221, 42, 3, 4, 42, 180, 1, 69, 120, 4]
abbrev dktX0_orders_0 : List UInt8 := dkwX0_orders_0 ++ dktX0_orders_1
theorem dksX0_orders_0 : cX0_orders.data.toList.drop 0 = dktX0_orders_0 := by decide +kernel
theorem dksX0_orders_1 : cX0_orders.data.toList.drop 24 = dktX0_orders_1 := dk_seg dksX0_orders_0 24 rfl rfl
theorem dksX0_orders_2 : cX0_orders.data.toList.drop 48 = dktX0_orders_2 := dk_seg dksX0_orders_1 24 rfl rfl
theorem dX0_orders_0 : decode cX0_orders 0 = .ok (.aload_n 0, 1) := dk_42 (dk_at dksX0_orders_0 0 rfl rfl)
theorem dX0_orders_1 : decode cX0_orders 1 = .ok (.iload_n 1, 1) := dk_27 (dk_at dksX0_orders_0 1 rfl rfl)
theorem dX0_orders_2 : decode cX0_orders 2 = .ok (.invokevirtual 480, 3) := dk_182 1 224 (dk_at dksX0_orders_0 2 rfl rfl)
theorem dX0_orders_5 : decode cX0_orders 5 = .ok (.ifCond .ne 5, 3) := dk_154 0 5 (dk_at dksX0_orders_0 5 rfl rfl)
theorem dX0_orders_8 : decode cX0_orders 8 = .ok (.iconst (-1), 1) := dk_2 (dk_at dksX0_orders_0 8 rfl rfl)
theorem dX0_orders_9 : decode cX0_orders 9 = .ok (.ireturn, 1) := dk_172 (dk_at dksX0_orders_0 9 rfl rfl)
theorem dX0_orders_10 : decode cX0_orders 10 = .ok (.aload_n 0, 1) := dk_42 (dk_at dksX0_orders_0 10 rfl rfl)
theorem dX0_orders_11 : decode cX0_orders 11 = .ok (.iconst 0, 1) := dk_3 (dk_at dksX0_orders_0 11 rfl rfl)
theorem dX0_orders_12 : decode cX0_orders 12 = .ok (.putfield 477, 3) := dk_181 1 221 (dk_at dksX0_orders_0 12 rfl rfl)
theorem dX0_orders_15 : decode cX0_orders 15 = .ok (.aload_n 0, 1) := dk_42 (dk_at dksX0_orders_0 15 rfl rfl)
theorem dX0_orders_16 : decode cX0_orders 16 = .ok (.iconst 0, 1) := dk_3 (dk_at dksX0_orders_0 16 rfl rfl)
theorem dX0_orders_17 : decode cX0_orders 17 = .ok (.iconst 1, 1) := dk_4 (dk_at dksX0_orders_0 17 rfl rfl)
theorem dX0_orders_18 : decode cX0_orders 18 = .ok (.aload_n 0, 1) := dk_42 (dk_at dksX0_orders_0 18 rfl rfl)
theorem dX0_orders_19 : decode cX0_orders 19 = .ok (.getfield 325, 3) := dk_180 1 69 (dk_at dksX0_orders_0 19 rfl rfl)
theorem dX0_orders_22 : decode cX0_orders 22 = .ok (.ishl, 1) := dk_120 (dk_at dksX0_orders_0 22 rfl rfl)
theorem dX0_orders_23 : decode cX0_orders 23 = .ok (.iconst 1, 1) := dk_4 (dk_at dksX0_orders_0 23 rfl rfl)
theorem dX0_orders_24 : decode cX0_orders 24 = .ok (.isub, 1) := dk_100 (dk_at dksX0_orders_1 0 rfl rfl)
theorem dX0_orders_25 : decode cX0_orders 25 = .ok (.iconst 0, 1) := dk_3 (dk_at dksX0_orders_1 1 rfl rfl)
theorem dX0_orders_26 : decode cX0_orders 26 = .ok (.invokevirtual 467, 3) := dk_182 1 211 (dk_at dksX0_orders_1 2 rfl rfl)
theorem dX0_orders_29 : decode cX0_orders 29 = .ok (.iload_n 1, 1) := dk_27 (dk_at dksX0_orders_1 5 rfl rfl)
theorem dX0_orders_30 : decode cX0_orders 30 = .ok (.ifCond .ne 10, 3) := dk_154 0 10 (dk_at dksX0_orders_1 6 rfl rfl)
theorem dX0_orders_33 : decode cX0_orders 33 = .ok (.aload_n 0, 1) := dk_42 (dk_at dksX0_orders_1 9 rfl rfl)
theorem dX0_orders_34 : decode cX0_orders 34 = .ok (.getfield 477, 3) := dk_180 1 221 (dk_at dksX0_orders_1 10 rfl rfl)
theorem dX0_orders_37 : decode cX0_orders 37 = .ok (.goto 23, 3) := dk_167 0 23 (dk_at dksX0_orders_1 13 rfl rfl)
theorem dX0_orders_40 : decode cX0_orders 40 = .ok (.aload_n 0, 1) := dk_42 (dk_at dksX0_orders_1 16 rfl rfl)
theorem dX0_orders_41 : decode cX0_orders 41 = .ok (.getfield 477, 3) := dk_180 1 221 (dk_at dksX0_orders_1 17 rfl rfl)
theorem dX0_orders_44 : decode cX0_orders 44 = .ok (.ifCond .ne 7, 3) := dk_154 0 7 (dk_at dksX0_orders_1 20 rfl rfl)
theorem dX0_orders_47 : decode cX0_orders 47 = .ok (.iconst (-1), 1) := dk_2 (dk_at dksX0_orders_1 23 rfl rfl)
theorem dX0_orders_48 : decode cX0_orders 48 = .ok (.goto 12, 3) := dk_167 0 12 (dk_at dksX0_orders_2 0 rfl rfl)
theorem dX0_orders_51 : decode cX0_orders 51 = .ok (.aload_n 0, 1) := dk_42 (dk_at dksX0_orders_2 3 rfl rfl)
theorem dX0_orders_52 : decode cX0_orders 52 = .ok (.getfield 108, 3) := dk_180 0 108 (dk_at dksX0_orders_2 4 rfl rfl)
theorem dX0_orders_55 : decode cX0_orders 55 = .ok (.iload_n 1, 1) := dk_27 (dk_at dksX0_orders_2 7 rfl rfl)
theorem dX0_orders_56 : decode cX0_orders 56 = .ok (.bipush 10, 2) := dk_16 10 (dk_at dksX0_orders_2 8 rfl rfl)
theorem dX0_orders_58 : decode cX0_orders 58 = .ok (.isub, 1) := dk_100 (dk_at dksX0_orders_2 10 rfl rfl)
theorem dX0_orders_59 : decode cX0_orders 59 = .ok (.iaload, 1) := dk_46 (dk_at dksX0_orders_2 11 rfl rfl)
theorem dX0_orders_60 : decode cX0_orders 60 = .ok (.ireturn, 1) := dk_172 (dk_at dksX0_orders_2 12 rfl rfl)
abbrev cX0_canTry : ByteArray := prog_1_method_55_code
def yX0_canTry : MethodName := ⟨RX0, "canTry", "(I)Z"⟩
def dkwX0_canTry_1 : List UInt8 := [184, 0, 160, 153, 0, 7, 4, 167, 0, 4, 3, 172]
abbrev dktX0_canTry_1 : List UInt8 := dkwX0_canTry_1 ++ []
def dkwX0_canTry_0 : List UInt8 := [42, 180, 1, 69, 16, 7, 163, 0, 27, 27, 153, 0, 19, 27, 16, 10, 16, 9, 42, 180, 1, 69, 96]
abbrev dktX0_canTry_0 : List UInt8 := dkwX0_canTry_0 ++ dktX0_canTry_1
theorem dksX0_canTry_0 : cX0_canTry.data.toList.drop 0 = dktX0_canTry_0 := by decide +kernel
theorem dksX0_canTry_1 : cX0_canTry.data.toList.drop 23 = dktX0_canTry_1 := dk_seg dksX0_canTry_0 23 rfl rfl
theorem dX0_canTry_0 : decode cX0_canTry 0 = .ok (.aload_n 0, 1) := dk_42 (dk_at dksX0_canTry_0 0 rfl rfl)
theorem dX0_canTry_1 : decode cX0_canTry 1 = .ok (.getfield 325, 3) := dk_180 1 69 (dk_at dksX0_canTry_0 1 rfl rfl)
theorem dX0_canTry_4 : decode cX0_canTry 4 = .ok (.bipush 7, 2) := dk_16 7 (dk_at dksX0_canTry_0 4 rfl rfl)
theorem dX0_canTry_6 : decode cX0_canTry 6 = .ok (.if_icmp .gt 27, 3) := dk_163 0 27 (dk_at dksX0_canTry_0 6 rfl rfl)
theorem dX0_canTry_9 : decode cX0_canTry 9 = .ok (.iload_n 1, 1) := dk_27 (dk_at dksX0_canTry_0 9 rfl rfl)
theorem dX0_canTry_10 : decode cX0_canTry 10 = .ok (.ifCond .eq 19, 3) := dk_153 0 19 (dk_at dksX0_canTry_0 10 rfl rfl)
theorem dX0_canTry_13 : decode cX0_canTry 13 = .ok (.iload_n 1, 1) := dk_27 (dk_at dksX0_canTry_0 13 rfl rfl)
theorem dX0_canTry_14 : decode cX0_canTry 14 = .ok (.bipush 10, 2) := dk_16 10 (dk_at dksX0_canTry_0 14 rfl rfl)
theorem dX0_canTry_16 : decode cX0_canTry 16 = .ok (.bipush 9, 2) := dk_16 9 (dk_at dksX0_canTry_0 16 rfl rfl)
theorem dX0_canTry_18 : decode cX0_canTry 18 = .ok (.aload_n 0, 1) := dk_42 (dk_at dksX0_canTry_0 18 rfl rfl)
theorem dX0_canTry_19 : decode cX0_canTry 19 = .ok (.getfield 325, 3) := dk_180 1 69 (dk_at dksX0_canTry_0 19 rfl rfl)
theorem dX0_canTry_22 : decode cX0_canTry 22 = .ok (.iadd, 1) := dk_96 (dk_at dksX0_canTry_0 22 rfl rfl)
theorem dX0_canTry_23 : decode cX0_canTry 23 = .ok (.invokestatic 160, 3) := dk_184 0 160 (dk_at dksX0_canTry_1 0 rfl rfl)
theorem dX0_canTry_26 : decode cX0_canTry 26 = .ok (.ifCond .eq 7, 3) := dk_153 0 7 (dk_at dksX0_canTry_1 3 rfl rfl)
theorem dX0_canTry_29 : decode cX0_canTry 29 = .ok (.iconst 1, 1) := dk_4 (dk_at dksX0_canTry_1 6 rfl rfl)
theorem dX0_canTry_30 : decode cX0_canTry 30 = .ok (.goto 4, 3) := dk_167 0 4 (dk_at dksX0_canTry_1 7 rfl rfl)
theorem dX0_canTry_33 : decode cX0_canTry 33 = .ok (.iconst 0, 1) := dk_3 (dk_at dksX0_canTry_1 10 rfl rfl)
theorem dX0_canTry_34 : decode cX0_canTry 34 = .ok (.ireturn, 1) := dk_172 (dk_at dksX0_canTry_1 11 rfl rfl)
abbrev cX0_tries : ByteArray := prog_1_method_54_code
def yX0_tries : MethodName := ⟨RX0, "tries", "(IIZ)V"⟩
def dkwX0_tries_6 : List UInt8 := [184, 1, 170, 42, 89, 180, 1, 221, 4, 96, 181, 1, 221, 177]
abbrev dktX0_tries_6 : List UInt8 := dkwX0_tries_6 ++ []
def dkwX0_tries_5 : List UInt8 := [182, 1, 218, 2, 160, 0, 31, 42, 180, 1, 221, 154, 0, 14, 42, 180, 0, 102, 42, 180, 0, 108]
abbrev dktX0_tries_5 : List UInt8 := dkwX0_tries_5 ++ dktX0_tries_6
def dkwX0_tries_4 : List UInt8 := [181, 1, 215, 42, 180, 0, 102, 42, 180, 0, 108, 184, 1, 170, 167, 0, 43, 42, 42, 180, 0, 102]
abbrev dktX0_tries_4 : List UInt8 := dkwX0_tries_4 ++ dktX0_tries_5
def dkwX0_tries_3 : List UInt8 := [54, 4, 42, 180, 1, 215, 2, 159, 0, 13, 21, 4, 42, 180, 1, 215, 161, 0, 4, 177, 42, 21, 4]
abbrev dktX0_tries_3 : List UInt8 := dkwX0_tries_3 ++ dktX0_tries_4
def dkwX0_tries_2 : List UInt8 := [21, 4, 4, 100, 126, 54, 4, 167, 255, 213, 177, 29, 153, 0, 51, 42, 42, 180, 0, 102, 182, 1, 191]
abbrev dktX0_tries_2 : List UInt8 := dkwX0_tries_2 ++ dktX0_tries_3
def dkwX0_tries_1 : List UInt8 := [184, 1, 206, 79, 42, 27, 4, 96, 28, 21, 4, 21, 4, 116, 126, 2, 130, 126, 29, 182, 1, 211, 21, 4]
abbrev dktX0_tries_1 : List UInt8 := dkwX0_tries_1 ++ dktX0_tries_2
def dkwX0_tries_0 : List UInt8 := [27, 42, 180, 1, 69, 162, 0, 53, 28, 54, 4, 21, 4, 153, 0, 44, 42, 180, 0, 102, 27, 21, 4]
abbrev dktX0_tries_0 : List UInt8 := dkwX0_tries_0 ++ dktX0_tries_1
theorem dksX0_tries_0 : cX0_tries.data.toList.drop 0 = dktX0_tries_0 := by decide +kernel
theorem dksX0_tries_1 : cX0_tries.data.toList.drop 23 = dktX0_tries_1 := dk_seg dksX0_tries_0 23 rfl rfl
theorem dksX0_tries_2 : cX0_tries.data.toList.drop 47 = dktX0_tries_2 := dk_seg dksX0_tries_1 24 rfl rfl
theorem dksX0_tries_3 : cX0_tries.data.toList.drop 70 = dktX0_tries_3 := dk_seg dksX0_tries_2 23 rfl rfl
theorem dksX0_tries_4 : cX0_tries.data.toList.drop 93 = dktX0_tries_4 := dk_seg dksX0_tries_3 23 rfl rfl
theorem dksX0_tries_5 : cX0_tries.data.toList.drop 115 = dktX0_tries_5 := dk_seg dksX0_tries_4 22 rfl rfl
theorem dksX0_tries_6 : cX0_tries.data.toList.drop 137 = dktX0_tries_6 := dk_seg dksX0_tries_5 22 rfl rfl
theorem dX0_tries_0 : decode cX0_tries 0 = .ok (.iload_n 1, 1) := dk_27 (dk_at dksX0_tries_0 0 rfl rfl)
theorem dX0_tries_1 : decode cX0_tries 1 = .ok (.aload_n 0, 1) := dk_42 (dk_at dksX0_tries_0 1 rfl rfl)
theorem dX0_tries_2 : decode cX0_tries 2 = .ok (.getfield 325, 3) := dk_180 1 69 (dk_at dksX0_tries_0 2 rfl rfl)
theorem dX0_tries_5 : decode cX0_tries 5 = .ok (.if_icmp .ge 53, 3) := dk_162 0 53 (dk_at dksX0_tries_0 5 rfl rfl)
theorem dX0_tries_8 : decode cX0_tries 8 = .ok (.iload_n 2, 1) := dk_28 (dk_at dksX0_tries_0 8 rfl rfl)
theorem dX0_tries_9 : decode cX0_tries 9 = .ok (.istore 4, 2) := dk_54 4 (dk_at dksX0_tries_0 9 rfl rfl)
theorem dX0_tries_11 : decode cX0_tries 11 = .ok (.iload 4, 2) := dk_21 4 (dk_at dksX0_tries_0 11 rfl rfl)
theorem dX0_tries_13 : decode cX0_tries 13 = .ok (.ifCond .eq 44, 3) := dk_153 0 44 (dk_at dksX0_tries_0 13 rfl rfl)
theorem dX0_tries_16 : decode cX0_tries 16 = .ok (.aload_n 0, 1) := dk_42 (dk_at dksX0_tries_0 16 rfl rfl)
theorem dX0_tries_17 : decode cX0_tries 17 = .ok (.getfield 102, 3) := dk_180 0 102 (dk_at dksX0_tries_0 17 rfl rfl)
theorem dX0_tries_20 : decode cX0_tries 20 = .ok (.iload_n 1, 1) := dk_27 (dk_at dksX0_tries_0 20 rfl rfl)
theorem dX0_tries_21 : decode cX0_tries 21 = .ok (.iload 4, 2) := dk_21 4 (dk_at dksX0_tries_0 21 rfl rfl)
theorem dX0_tries_23 : decode cX0_tries 23 = .ok (.invokestatic 462, 3) := dk_184 1 206 (dk_at dksX0_tries_1 0 rfl rfl)
theorem dX0_tries_26 : decode cX0_tries 26 = .ok (.iastore, 1) := dk_79 (dk_at dksX0_tries_1 3 rfl rfl)
theorem dX0_tries_27 : decode cX0_tries 27 = .ok (.aload_n 0, 1) := dk_42 (dk_at dksX0_tries_1 4 rfl rfl)
theorem dX0_tries_28 : decode cX0_tries 28 = .ok (.iload_n 1, 1) := dk_27 (dk_at dksX0_tries_1 5 rfl rfl)
theorem dX0_tries_29 : decode cX0_tries 29 = .ok (.iconst 1, 1) := dk_4 (dk_at dksX0_tries_1 6 rfl rfl)
theorem dX0_tries_30 : decode cX0_tries 30 = .ok (.iadd, 1) := dk_96 (dk_at dksX0_tries_1 7 rfl rfl)
theorem dX0_tries_31 : decode cX0_tries 31 = .ok (.iload_n 2, 1) := dk_28 (dk_at dksX0_tries_1 8 rfl rfl)
theorem dX0_tries_32 : decode cX0_tries 32 = .ok (.iload 4, 2) := dk_21 4 (dk_at dksX0_tries_1 9 rfl rfl)
theorem dX0_tries_34 : decode cX0_tries 34 = .ok (.iload 4, 2) := dk_21 4 (dk_at dksX0_tries_1 11 rfl rfl)
theorem dX0_tries_36 : decode cX0_tries 36 = .ok (.ineg, 1) := dk_116 (dk_at dksX0_tries_1 13 rfl rfl)
theorem dX0_tries_37 : decode cX0_tries 37 = .ok (.iand, 1) := dk_126 (dk_at dksX0_tries_1 14 rfl rfl)
theorem dX0_tries_38 : decode cX0_tries 38 = .ok (.iconst (-1), 1) := dk_2 (dk_at dksX0_tries_1 15 rfl rfl)
theorem dX0_tries_39 : decode cX0_tries 39 = .ok (.ixor, 1) := dk_130 (dk_at dksX0_tries_1 16 rfl rfl)
theorem dX0_tries_40 : decode cX0_tries 40 = .ok (.iand, 1) := dk_126 (dk_at dksX0_tries_1 17 rfl rfl)
theorem dX0_tries_41 : decode cX0_tries 41 = .ok (.iload_n 3, 1) := dk_29 (dk_at dksX0_tries_1 18 rfl rfl)
theorem dX0_tries_42 : decode cX0_tries 42 = .ok (.invokevirtual 467, 3) := dk_182 1 211 (dk_at dksX0_tries_1 19 rfl rfl)
theorem dX0_tries_45 : decode cX0_tries 45 = .ok (.iload 4, 2) := dk_21 4 (dk_at dksX0_tries_1 22 rfl rfl)
theorem dX0_tries_47 : decode cX0_tries 47 = .ok (.iload 4, 2) := dk_21 4 (dk_at dksX0_tries_2 0 rfl rfl)
theorem dX0_tries_49 : decode cX0_tries 49 = .ok (.iconst 1, 1) := dk_4 (dk_at dksX0_tries_2 2 rfl rfl)
theorem dX0_tries_50 : decode cX0_tries 50 = .ok (.isub, 1) := dk_100 (dk_at dksX0_tries_2 3 rfl rfl)
theorem dX0_tries_51 : decode cX0_tries 51 = .ok (.iand, 1) := dk_126 (dk_at dksX0_tries_2 4 rfl rfl)
theorem dX0_tries_52 : decode cX0_tries 52 = .ok (.istore 4, 2) := dk_54 4 (dk_at dksX0_tries_2 5 rfl rfl)
theorem dX0_tries_54 : decode cX0_tries 54 = .ok (.goto (-43), 3) := dk_167 255 213 (dk_at dksX0_tries_2 7 rfl rfl)
theorem dX0_tries_57 : decode cX0_tries 57 = .ok (.return_, 1) := dk_177 (dk_at dksX0_tries_2 10 rfl rfl)
theorem dX0_tries_58 : decode cX0_tries 58 = .ok (.iload_n 3, 1) := dk_29 (dk_at dksX0_tries_2 11 rfl rfl)
theorem dX0_tries_59 : decode cX0_tries 59 = .ok (.ifCond .eq 51, 3) := dk_153 0 51 (dk_at dksX0_tries_2 12 rfl rfl)
theorem dX0_tries_62 : decode cX0_tries 62 = .ok (.aload_n 0, 1) := dk_42 (dk_at dksX0_tries_2 15 rfl rfl)
theorem dX0_tries_63 : decode cX0_tries 63 = .ok (.aload_n 0, 1) := dk_42 (dk_at dksX0_tries_2 16 rfl rfl)
theorem dX0_tries_64 : decode cX0_tries 64 = .ok (.getfield 102, 3) := dk_180 0 102 (dk_at dksX0_tries_2 17 rfl rfl)
theorem dX0_tries_67 : decode cX0_tries 67 = .ok (.invokevirtual 447, 3) := dk_182 1 191 (dk_at dksX0_tries_2 20 rfl rfl)
theorem dX0_tries_70 : decode cX0_tries 70 = .ok (.istore 4, 2) := dk_54 4 (dk_at dksX0_tries_3 0 rfl rfl)
theorem dX0_tries_72 : decode cX0_tries 72 = .ok (.aload_n 0, 1) := dk_42 (dk_at dksX0_tries_3 2 rfl rfl)
theorem dX0_tries_73 : decode cX0_tries 73 = .ok (.getfield 471, 3) := dk_180 1 215 (dk_at dksX0_tries_3 3 rfl rfl)
theorem dX0_tries_76 : decode cX0_tries 76 = .ok (.iconst (-1), 1) := dk_2 (dk_at dksX0_tries_3 6 rfl rfl)
theorem dX0_tries_77 : decode cX0_tries 77 = .ok (.if_icmp .eq 13, 3) := dk_159 0 13 (dk_at dksX0_tries_3 7 rfl rfl)
theorem dX0_tries_80 : decode cX0_tries 80 = .ok (.iload 4, 2) := dk_21 4 (dk_at dksX0_tries_3 10 rfl rfl)
theorem dX0_tries_82 : decode cX0_tries 82 = .ok (.aload_n 0, 1) := dk_42 (dk_at dksX0_tries_3 12 rfl rfl)
theorem dX0_tries_83 : decode cX0_tries 83 = .ok (.getfield 471, 3) := dk_180 1 215 (dk_at dksX0_tries_3 13 rfl rfl)
theorem dX0_tries_86 : decode cX0_tries 86 = .ok (.if_icmp .lt 4, 3) := dk_161 0 4 (dk_at dksX0_tries_3 16 rfl rfl)
theorem dX0_tries_89 : decode cX0_tries 89 = .ok (.return_, 1) := dk_177 (dk_at dksX0_tries_3 19 rfl rfl)
theorem dX0_tries_90 : decode cX0_tries 90 = .ok (.aload_n 0, 1) := dk_42 (dk_at dksX0_tries_3 20 rfl rfl)
theorem dX0_tries_91 : decode cX0_tries 91 = .ok (.iload 4, 2) := dk_21 4 (dk_at dksX0_tries_3 21 rfl rfl)
theorem dX0_tries_93 : decode cX0_tries 93 = .ok (.putfield 471, 3) := dk_181 1 215 (dk_at dksX0_tries_4 0 rfl rfl)
theorem dX0_tries_96 : decode cX0_tries 96 = .ok (.aload_n 0, 1) := dk_42 (dk_at dksX0_tries_4 3 rfl rfl)
theorem dX0_tries_97 : decode cX0_tries 97 = .ok (.getfield 102, 3) := dk_180 0 102 (dk_at dksX0_tries_4 4 rfl rfl)
theorem dX0_tries_100 : decode cX0_tries 100 = .ok (.aload_n 0, 1) := dk_42 (dk_at dksX0_tries_4 7 rfl rfl)
theorem dX0_tries_101 : decode cX0_tries 101 = .ok (.getfield 108, 3) := dk_180 0 108 (dk_at dksX0_tries_4 8 rfl rfl)
theorem dX0_tries_104 : decode cX0_tries 104 = .ok (.invokestatic 426, 3) := dk_184 1 170 (dk_at dksX0_tries_4 11 rfl rfl)
theorem dX0_tries_107 : decode cX0_tries 107 = .ok (.goto 43, 3) := dk_167 0 43 (dk_at dksX0_tries_4 14 rfl rfl)
theorem dX0_tries_110 : decode cX0_tries 110 = .ok (.aload_n 0, 1) := dk_42 (dk_at dksX0_tries_4 17 rfl rfl)
theorem dX0_tries_111 : decode cX0_tries 111 = .ok (.aload_n 0, 1) := dk_42 (dk_at dksX0_tries_4 18 rfl rfl)
theorem dX0_tries_112 : decode cX0_tries 112 = .ok (.getfield 102, 3) := dk_180 0 102 (dk_at dksX0_tries_4 19 rfl rfl)
theorem dX0_tries_115 : decode cX0_tries 115 = .ok (.invokevirtual 474, 3) := dk_182 1 218 (dk_at dksX0_tries_5 0 rfl rfl)
theorem dX0_tries_118 : decode cX0_tries 118 = .ok (.iconst (-1), 1) := dk_2 (dk_at dksX0_tries_5 3 rfl rfl)
theorem dX0_tries_119 : decode cX0_tries 119 = .ok (.if_icmp .ne 31, 3) := dk_160 0 31 (dk_at dksX0_tries_5 4 rfl rfl)
theorem dX0_tries_122 : decode cX0_tries 122 = .ok (.aload_n 0, 1) := dk_42 (dk_at dksX0_tries_5 7 rfl rfl)
theorem dX0_tries_123 : decode cX0_tries 123 = .ok (.getfield 477, 3) := dk_180 1 221 (dk_at dksX0_tries_5 8 rfl rfl)
theorem dX0_tries_126 : decode cX0_tries 126 = .ok (.ifCond .ne 14, 3) := dk_154 0 14 (dk_at dksX0_tries_5 11 rfl rfl)
theorem dX0_tries_129 : decode cX0_tries 129 = .ok (.aload_n 0, 1) := dk_42 (dk_at dksX0_tries_5 14 rfl rfl)
theorem dX0_tries_130 : decode cX0_tries 130 = .ok (.getfield 102, 3) := dk_180 0 102 (dk_at dksX0_tries_5 15 rfl rfl)
theorem dX0_tries_133 : decode cX0_tries 133 = .ok (.aload_n 0, 1) := dk_42 (dk_at dksX0_tries_5 18 rfl rfl)
theorem dX0_tries_134 : decode cX0_tries 134 = .ok (.getfield 108, 3) := dk_180 0 108 (dk_at dksX0_tries_5 19 rfl rfl)
theorem dX0_tries_137 : decode cX0_tries 137 = .ok (.invokestatic 426, 3) := dk_184 1 170 (dk_at dksX0_tries_6 0 rfl rfl)
theorem dX0_tries_140 : decode cX0_tries 140 = .ok (.aload_n 0, 1) := dk_42 (dk_at dksX0_tries_6 3 rfl rfl)
theorem dX0_tries_141 : decode cX0_tries 141 = .ok (.dup, 1) := dk_89 (dk_at dksX0_tries_6 4 rfl rfl)
theorem dX0_tries_142 : decode cX0_tries 142 = .ok (.getfield 477, 3) := dk_180 1 221 (dk_at dksX0_tries_6 5 rfl rfl)
theorem dX0_tries_145 : decode cX0_tries 145 = .ok (.iconst 1, 1) := dk_4 (dk_at dksX0_tries_6 8 rfl rfl)
theorem dX0_tries_146 : decode cX0_tries 146 = .ok (.iadd, 1) := dk_96 (dk_at dksX0_tries_6 9 rfl rfl)
theorem dX0_tries_147 : decode cX0_tries 147 = .ok (.putfield 477, 3) := dk_181 1 221 (dk_at dksX0_tries_6 10 rfl rfl)
theorem dX0_tries_150 : decode cX0_tries 150 = .ok (.return_, 1) := dk_177 (dk_at dksX0_tries_6 13 rfl rfl)
abbrev cX0_firstChange : ByteArray := prog_1_method_53_code
def yX0_firstChange : MethodName := ⟨RX0, "firstChange", "([I)I"⟩
def dkwX0_firstChange_1 : List UInt8 := [132, 2, 1, 167, 255, 232, 2, 172]
abbrev dktX0_firstChange_1 : List UInt8 := dkwX0_firstChange_1 ++ []
def dkwX0_firstChange_0 : List UInt8 := [3, 61, 28, 4, 96, 42, 180, 1, 69, 162, 0, 20, 42, 43, 28, 182, 1, 202, 153, 0, 5, 28, 172]
abbrev dktX0_firstChange_0 : List UInt8 := dkwX0_firstChange_0 ++ dktX0_firstChange_1
theorem dksX0_firstChange_0 : cX0_firstChange.data.toList.drop 0 = dktX0_firstChange_0 := by decide +kernel
theorem dksX0_firstChange_1 : cX0_firstChange.data.toList.drop 23 = dktX0_firstChange_1 := dk_seg dksX0_firstChange_0 23 rfl rfl
theorem dX0_firstChange_0 : decode cX0_firstChange 0 = .ok (.iconst 0, 1) := dk_3 (dk_at dksX0_firstChange_0 0 rfl rfl)
theorem dX0_firstChange_1 : decode cX0_firstChange 1 = .ok (.istore_n 2, 1) := dk_61 (dk_at dksX0_firstChange_0 1 rfl rfl)
theorem dX0_firstChange_2 : decode cX0_firstChange 2 = .ok (.iload_n 2, 1) := dk_28 (dk_at dksX0_firstChange_0 2 rfl rfl)
theorem dX0_firstChange_3 : decode cX0_firstChange 3 = .ok (.iconst 1, 1) := dk_4 (dk_at dksX0_firstChange_0 3 rfl rfl)
theorem dX0_firstChange_4 : decode cX0_firstChange 4 = .ok (.iadd, 1) := dk_96 (dk_at dksX0_firstChange_0 4 rfl rfl)
theorem dX0_firstChange_5 : decode cX0_firstChange 5 = .ok (.aload_n 0, 1) := dk_42 (dk_at dksX0_firstChange_0 5 rfl rfl)
theorem dX0_firstChange_6 : decode cX0_firstChange 6 = .ok (.getfield 325, 3) := dk_180 1 69 (dk_at dksX0_firstChange_0 6 rfl rfl)
theorem dX0_firstChange_9 : decode cX0_firstChange 9 = .ok (.if_icmp .ge 20, 3) := dk_162 0 20 (dk_at dksX0_firstChange_0 9 rfl rfl)
theorem dX0_firstChange_12 : decode cX0_firstChange 12 = .ok (.aload_n 0, 1) := dk_42 (dk_at dksX0_firstChange_0 12 rfl rfl)
theorem dX0_firstChange_13 : decode cX0_firstChange 13 = .ok (.aload_n 1, 1) := dk_43 (dk_at dksX0_firstChange_0 13 rfl rfl)
theorem dX0_firstChange_14 : decode cX0_firstChange 14 = .ok (.iload_n 2, 1) := dk_28 (dk_at dksX0_firstChange_0 14 rfl rfl)
theorem dX0_firstChange_15 : decode cX0_firstChange 15 = .ok (.invokevirtual 458, 3) := dk_182 1 202 (dk_at dksX0_firstChange_0 15 rfl rfl)
theorem dX0_firstChange_18 : decode cX0_firstChange 18 = .ok (.ifCond .eq 5, 3) := dk_153 0 5 (dk_at dksX0_firstChange_0 18 rfl rfl)
theorem dX0_firstChange_21 : decode cX0_firstChange 21 = .ok (.iload_n 2, 1) := dk_28 (dk_at dksX0_firstChange_0 21 rfl rfl)
theorem dX0_firstChange_22 : decode cX0_firstChange 22 = .ok (.ireturn, 1) := dk_172 (dk_at dksX0_firstChange_0 22 rfl rfl)
theorem dX0_firstChange_23 : decode cX0_firstChange 23 = .ok (.iinc 2 1, 3) := dk_132 2 1 (dk_at dksX0_firstChange_1 0 rfl rfl)
theorem dX0_firstChange_26 : decode cX0_firstChange 26 = .ok (.goto (-24), 3) := dk_167 255 232 (dk_at dksX0_firstChange_1 3 rfl rfl)
theorem dX0_firstChange_29 : decode cX0_firstChange 29 = .ok (.iconst (-1), 1) := dk_2 (dk_at dksX0_firstChange_1 6 rfl rfl)
theorem dX0_firstChange_30 : decode cX0_firstChange 30 = .ok (.ireturn, 1) := dk_172 (dk_at dksX0_firstChange_1 7 rfl rfl)
abbrev cX0_wouldChange : ByteArray := prog_1_method_52_code
def yX0_wouldChange : MethodName := ⟨RX0, "wouldChange", "([II)Z"⟩
def dkwX0_wouldChange_2 : List UInt8 := [28, 182, 1, 194, 21, 4, 164, 0, 7, 4, 167, 0, 4, 3, 54, 5, 43, 28, 184, 1, 198, 21, 5, 172]
abbrev dktX0_wouldChange_2 : List UInt8 := dkwX0_wouldChange_2 ++ []
def dkwX0_wouldChange_1 : List UInt8 := [28, 184, 1, 198, 42, 43, 182, 1, 191, 87, 42, 43, 28, 4, 96, 182, 1, 194, 29, 164, 0, 18, 42, 43]
abbrev dktX0_wouldChange_1 : List UInt8 := dkwX0_wouldChange_1 ++ dktX0_wouldChange_2
def dkwX0_wouldChange_0 : List UInt8 := [42, 43, 182, 1, 191, 87, 42, 43, 28, 182, 1, 194, 62, 42, 43, 28, 4, 96, 182, 1, 194, 54, 4, 43]
abbrev dktX0_wouldChange_0 : List UInt8 := dkwX0_wouldChange_0 ++ dktX0_wouldChange_1
theorem dksX0_wouldChange_0 : cX0_wouldChange.data.toList.drop 0 = dktX0_wouldChange_0 := by decide +kernel
theorem dksX0_wouldChange_1 : cX0_wouldChange.data.toList.drop 24 = dktX0_wouldChange_1 := dk_seg dksX0_wouldChange_0 24 rfl rfl
theorem dksX0_wouldChange_2 : cX0_wouldChange.data.toList.drop 48 = dktX0_wouldChange_2 := dk_seg dksX0_wouldChange_1 24 rfl rfl
theorem dX0_wouldChange_0 : decode cX0_wouldChange 0 = .ok (.aload_n 0, 1) := dk_42 (dk_at dksX0_wouldChange_0 0 rfl rfl)
theorem dX0_wouldChange_1 : decode cX0_wouldChange 1 = .ok (.aload_n 1, 1) := dk_43 (dk_at dksX0_wouldChange_0 1 rfl rfl)
theorem dX0_wouldChange_2 : decode cX0_wouldChange 2 = .ok (.invokevirtual 447, 3) := dk_182 1 191 (dk_at dksX0_wouldChange_0 2 rfl rfl)
theorem dX0_wouldChange_5 : decode cX0_wouldChange 5 = .ok (.pop, 1) := dk_87 (dk_at dksX0_wouldChange_0 5 rfl rfl)
theorem dX0_wouldChange_6 : decode cX0_wouldChange 6 = .ok (.aload_n 0, 1) := dk_42 (dk_at dksX0_wouldChange_0 6 rfl rfl)
theorem dX0_wouldChange_7 : decode cX0_wouldChange 7 = .ok (.aload_n 1, 1) := dk_43 (dk_at dksX0_wouldChange_0 7 rfl rfl)
theorem dX0_wouldChange_8 : decode cX0_wouldChange 8 = .ok (.iload_n 2, 1) := dk_28 (dk_at dksX0_wouldChange_0 8 rfl rfl)
theorem dX0_wouldChange_9 : decode cX0_wouldChange 9 = .ok (.invokevirtual 450, 3) := dk_182 1 194 (dk_at dksX0_wouldChange_0 9 rfl rfl)
theorem dX0_wouldChange_12 : decode cX0_wouldChange 12 = .ok (.istore_n 3, 1) := dk_62 (dk_at dksX0_wouldChange_0 12 rfl rfl)
theorem dX0_wouldChange_13 : decode cX0_wouldChange 13 = .ok (.aload_n 0, 1) := dk_42 (dk_at dksX0_wouldChange_0 13 rfl rfl)
theorem dX0_wouldChange_14 : decode cX0_wouldChange 14 = .ok (.aload_n 1, 1) := dk_43 (dk_at dksX0_wouldChange_0 14 rfl rfl)
theorem dX0_wouldChange_15 : decode cX0_wouldChange 15 = .ok (.iload_n 2, 1) := dk_28 (dk_at dksX0_wouldChange_0 15 rfl rfl)
theorem dX0_wouldChange_16 : decode cX0_wouldChange 16 = .ok (.iconst 1, 1) := dk_4 (dk_at dksX0_wouldChange_0 16 rfl rfl)
theorem dX0_wouldChange_17 : decode cX0_wouldChange 17 = .ok (.iadd, 1) := dk_96 (dk_at dksX0_wouldChange_0 17 rfl rfl)
theorem dX0_wouldChange_18 : decode cX0_wouldChange 18 = .ok (.invokevirtual 450, 3) := dk_182 1 194 (dk_at dksX0_wouldChange_0 18 rfl rfl)
theorem dX0_wouldChange_21 : decode cX0_wouldChange 21 = .ok (.istore 4, 2) := dk_54 4 (dk_at dksX0_wouldChange_0 21 rfl rfl)
theorem dX0_wouldChange_23 : decode cX0_wouldChange 23 = .ok (.aload_n 1, 1) := dk_43 (dk_at dksX0_wouldChange_0 23 rfl rfl)
theorem dX0_wouldChange_24 : decode cX0_wouldChange 24 = .ok (.iload_n 2, 1) := dk_28 (dk_at dksX0_wouldChange_1 0 rfl rfl)
theorem dX0_wouldChange_25 : decode cX0_wouldChange 25 = .ok (.invokestatic 454, 3) := dk_184 1 198 (dk_at dksX0_wouldChange_1 1 rfl rfl)
theorem dX0_wouldChange_28 : decode cX0_wouldChange 28 = .ok (.aload_n 0, 1) := dk_42 (dk_at dksX0_wouldChange_1 4 rfl rfl)
theorem dX0_wouldChange_29 : decode cX0_wouldChange 29 = .ok (.aload_n 1, 1) := dk_43 (dk_at dksX0_wouldChange_1 5 rfl rfl)
theorem dX0_wouldChange_30 : decode cX0_wouldChange 30 = .ok (.invokevirtual 447, 3) := dk_182 1 191 (dk_at dksX0_wouldChange_1 6 rfl rfl)
theorem dX0_wouldChange_33 : decode cX0_wouldChange 33 = .ok (.pop, 1) := dk_87 (dk_at dksX0_wouldChange_1 9 rfl rfl)
theorem dX0_wouldChange_34 : decode cX0_wouldChange 34 = .ok (.aload_n 0, 1) := dk_42 (dk_at dksX0_wouldChange_1 10 rfl rfl)
theorem dX0_wouldChange_35 : decode cX0_wouldChange 35 = .ok (.aload_n 1, 1) := dk_43 (dk_at dksX0_wouldChange_1 11 rfl rfl)
theorem dX0_wouldChange_36 : decode cX0_wouldChange 36 = .ok (.iload_n 2, 1) := dk_28 (dk_at dksX0_wouldChange_1 12 rfl rfl)
theorem dX0_wouldChange_37 : decode cX0_wouldChange 37 = .ok (.iconst 1, 1) := dk_4 (dk_at dksX0_wouldChange_1 13 rfl rfl)
theorem dX0_wouldChange_38 : decode cX0_wouldChange 38 = .ok (.iadd, 1) := dk_96 (dk_at dksX0_wouldChange_1 14 rfl rfl)
theorem dX0_wouldChange_39 : decode cX0_wouldChange 39 = .ok (.invokevirtual 450, 3) := dk_182 1 194 (dk_at dksX0_wouldChange_1 15 rfl rfl)
theorem dX0_wouldChange_42 : decode cX0_wouldChange 42 = .ok (.iload_n 3, 1) := dk_29 (dk_at dksX0_wouldChange_1 18 rfl rfl)
theorem dX0_wouldChange_43 : decode cX0_wouldChange 43 = .ok (.if_icmp .le 18, 3) := dk_164 0 18 (dk_at dksX0_wouldChange_1 19 rfl rfl)
theorem dX0_wouldChange_46 : decode cX0_wouldChange 46 = .ok (.aload_n 0, 1) := dk_42 (dk_at dksX0_wouldChange_1 22 rfl rfl)
theorem dX0_wouldChange_47 : decode cX0_wouldChange 47 = .ok (.aload_n 1, 1) := dk_43 (dk_at dksX0_wouldChange_1 23 rfl rfl)
theorem dX0_wouldChange_48 : decode cX0_wouldChange 48 = .ok (.iload_n 2, 1) := dk_28 (dk_at dksX0_wouldChange_2 0 rfl rfl)
theorem dX0_wouldChange_49 : decode cX0_wouldChange 49 = .ok (.invokevirtual 450, 3) := dk_182 1 194 (dk_at dksX0_wouldChange_2 1 rfl rfl)
theorem dX0_wouldChange_52 : decode cX0_wouldChange 52 = .ok (.iload 4, 2) := dk_21 4 (dk_at dksX0_wouldChange_2 4 rfl rfl)
theorem dX0_wouldChange_54 : decode cX0_wouldChange 54 = .ok (.if_icmp .le 7, 3) := dk_164 0 7 (dk_at dksX0_wouldChange_2 6 rfl rfl)
theorem dX0_wouldChange_57 : decode cX0_wouldChange 57 = .ok (.iconst 1, 1) := dk_4 (dk_at dksX0_wouldChange_2 9 rfl rfl)
theorem dX0_wouldChange_58 : decode cX0_wouldChange 58 = .ok (.goto 4, 3) := dk_167 0 4 (dk_at dksX0_wouldChange_2 10 rfl rfl)
theorem dX0_wouldChange_61 : decode cX0_wouldChange 61 = .ok (.iconst 0, 1) := dk_3 (dk_at dksX0_wouldChange_2 13 rfl rfl)
theorem dX0_wouldChange_62 : decode cX0_wouldChange 62 = .ok (.istore 5, 2) := dk_54 5 (dk_at dksX0_wouldChange_2 14 rfl rfl)
theorem dX0_wouldChange_64 : decode cX0_wouldChange 64 = .ok (.aload_n 1, 1) := dk_43 (dk_at dksX0_wouldChange_2 16 rfl rfl)
theorem dX0_wouldChange_65 : decode cX0_wouldChange 65 = .ok (.iload_n 2, 1) := dk_28 (dk_at dksX0_wouldChange_2 17 rfl rfl)
theorem dX0_wouldChange_66 : decode cX0_wouldChange 66 = .ok (.invokestatic 454, 3) := dk_184 1 198 (dk_at dksX0_wouldChange_2 18 rfl rfl)
theorem dX0_wouldChange_69 : decode cX0_wouldChange 69 = .ok (.iload 5, 2) := dk_21 5 (dk_at dksX0_wouldChange_2 21 rfl rfl)
theorem dX0_wouldChange_71 : decode cX0_wouldChange 71 = .ok (.ireturn, 1) := dk_172 (dk_at dksX0_wouldChange_2 23 rfl rfl)
abbrev cX0_turns : ByteArray := prog_1_method_51_code
def yX0_turns : MethodName := ⟨RX0, "turns", "([II)V"⟩
def dkwX0_turns_0 : List UInt8 := [42, 27, 46, 61, 42, 27, 42, 27, 4, 96, 46, 79, 42, 27, 4, 96, 28, 79, 177]
abbrev dktX0_turns_0 : List UInt8 := dkwX0_turns_0 ++ []
theorem dksX0_turns_0 : cX0_turns.data.toList.drop 0 = dktX0_turns_0 := by decide +kernel
theorem dX0_turns_0 : decode cX0_turns 0 = .ok (.aload_n 0, 1) := dk_42 (dk_at dksX0_turns_0 0 rfl rfl)
theorem dX0_turns_1 : decode cX0_turns 1 = .ok (.iload_n 1, 1) := dk_27 (dk_at dksX0_turns_0 1 rfl rfl)
theorem dX0_turns_2 : decode cX0_turns 2 = .ok (.iaload, 1) := dk_46 (dk_at dksX0_turns_0 2 rfl rfl)
theorem dX0_turns_3 : decode cX0_turns 3 = .ok (.istore_n 2, 1) := dk_61 (dk_at dksX0_turns_0 3 rfl rfl)
theorem dX0_turns_4 : decode cX0_turns 4 = .ok (.aload_n 0, 1) := dk_42 (dk_at dksX0_turns_0 4 rfl rfl)
theorem dX0_turns_5 : decode cX0_turns 5 = .ok (.iload_n 1, 1) := dk_27 (dk_at dksX0_turns_0 5 rfl rfl)
theorem dX0_turns_6 : decode cX0_turns 6 = .ok (.aload_n 0, 1) := dk_42 (dk_at dksX0_turns_0 6 rfl rfl)
theorem dX0_turns_7 : decode cX0_turns 7 = .ok (.iload_n 1, 1) := dk_27 (dk_at dksX0_turns_0 7 rfl rfl)
theorem dX0_turns_8 : decode cX0_turns 8 = .ok (.iconst 1, 1) := dk_4 (dk_at dksX0_turns_0 8 rfl rfl)
theorem dX0_turns_9 : decode cX0_turns 9 = .ok (.iadd, 1) := dk_96 (dk_at dksX0_turns_0 9 rfl rfl)
theorem dX0_turns_10 : decode cX0_turns 10 = .ok (.iaload, 1) := dk_46 (dk_at dksX0_turns_0 10 rfl rfl)
theorem dX0_turns_11 : decode cX0_turns 11 = .ok (.iastore, 1) := dk_79 (dk_at dksX0_turns_0 11 rfl rfl)
theorem dX0_turns_12 : decode cX0_turns 12 = .ok (.aload_n 0, 1) := dk_42 (dk_at dksX0_turns_0 12 rfl rfl)
theorem dX0_turns_13 : decode cX0_turns 13 = .ok (.iload_n 1, 1) := dk_27 (dk_at dksX0_turns_0 13 rfl rfl)
theorem dX0_turns_14 : decode cX0_turns 14 = .ok (.iconst 1, 1) := dk_4 (dk_at dksX0_turns_0 14 rfl rfl)
theorem dX0_turns_15 : decode cX0_turns 15 = .ok (.iadd, 1) := dk_96 (dk_at dksX0_turns_0 15 rfl rfl)
theorem dX0_turns_16 : decode cX0_turns 16 = .ok (.iload_n 2, 1) := dk_28 (dk_at dksX0_turns_0 16 rfl rfl)
theorem dX0_turns_17 : decode cX0_turns 17 = .ok (.iastore, 1) := dk_79 (dk_at dksX0_turns_0 17 rfl rfl)
theorem dX0_turns_18 : decode cX0_turns 18 = .ok (.return_, 1) := dk_177 (dk_at dksX0_turns_0 18 rfl rfl)
abbrev cX0_least : ByteArray := prog_1_method_57_code
def yX0_least : MethodName := ⟨RX0, "least", "(I)I"⟩
def dkwX0_least_2 : List UInt8 := [46, 172]
abbrev dktX0_least_2 : List UInt8 := dkwX0_least_2 ++ []
def dkwX0_least_1 : List UInt8 := [100, 4, 182, 1, 211, 27, 154, 0, 10, 42, 180, 1, 215, 167, 0, 12, 42, 180, 0, 108, 27, 16, 10, 100]
abbrev dktX0_least_1 : List UInt8 := dkwX0_least_1 ++ dktX0_least_2
def dkwX0_least_0 : List UInt8 := [42, 27, 182, 1, 224, 154, 0, 5, 2, 172, 42, 2, 181, 1, 215, 42, 3, 4, 42, 180, 1, 69, 120, 4]
abbrev dktX0_least_0 : List UInt8 := dkwX0_least_0 ++ dktX0_least_1
theorem dksX0_least_0 : cX0_least.data.toList.drop 0 = dktX0_least_0 := by decide +kernel
theorem dksX0_least_1 : cX0_least.data.toList.drop 24 = dktX0_least_1 := dk_seg dksX0_least_0 24 rfl rfl
theorem dksX0_least_2 : cX0_least.data.toList.drop 48 = dktX0_least_2 := dk_seg dksX0_least_1 24 rfl rfl
theorem dX0_least_0 : decode cX0_least 0 = .ok (.aload_n 0, 1) := dk_42 (dk_at dksX0_least_0 0 rfl rfl)
theorem dX0_least_1 : decode cX0_least 1 = .ok (.iload_n 1, 1) := dk_27 (dk_at dksX0_least_0 1 rfl rfl)
theorem dX0_least_2 : decode cX0_least 2 = .ok (.invokevirtual 480, 3) := dk_182 1 224 (dk_at dksX0_least_0 2 rfl rfl)
theorem dX0_least_5 : decode cX0_least 5 = .ok (.ifCond .ne 5, 3) := dk_154 0 5 (dk_at dksX0_least_0 5 rfl rfl)
theorem dX0_least_8 : decode cX0_least 8 = .ok (.iconst (-1), 1) := dk_2 (dk_at dksX0_least_0 8 rfl rfl)
theorem dX0_least_9 : decode cX0_least 9 = .ok (.ireturn, 1) := dk_172 (dk_at dksX0_least_0 9 rfl rfl)
theorem dX0_least_10 : decode cX0_least 10 = .ok (.aload_n 0, 1) := dk_42 (dk_at dksX0_least_0 10 rfl rfl)
theorem dX0_least_11 : decode cX0_least 11 = .ok (.iconst (-1), 1) := dk_2 (dk_at dksX0_least_0 11 rfl rfl)
theorem dX0_least_12 : decode cX0_least 12 = .ok (.putfield 471, 3) := dk_181 1 215 (dk_at dksX0_least_0 12 rfl rfl)
theorem dX0_least_15 : decode cX0_least 15 = .ok (.aload_n 0, 1) := dk_42 (dk_at dksX0_least_0 15 rfl rfl)
theorem dX0_least_16 : decode cX0_least 16 = .ok (.iconst 0, 1) := dk_3 (dk_at dksX0_least_0 16 rfl rfl)
theorem dX0_least_17 : decode cX0_least 17 = .ok (.iconst 1, 1) := dk_4 (dk_at dksX0_least_0 17 rfl rfl)
theorem dX0_least_18 : decode cX0_least 18 = .ok (.aload_n 0, 1) := dk_42 (dk_at dksX0_least_0 18 rfl rfl)
theorem dX0_least_19 : decode cX0_least 19 = .ok (.getfield 325, 3) := dk_180 1 69 (dk_at dksX0_least_0 19 rfl rfl)
theorem dX0_least_22 : decode cX0_least 22 = .ok (.ishl, 1) := dk_120 (dk_at dksX0_least_0 22 rfl rfl)
theorem dX0_least_23 : decode cX0_least 23 = .ok (.iconst 1, 1) := dk_4 (dk_at dksX0_least_0 23 rfl rfl)
theorem dX0_least_24 : decode cX0_least 24 = .ok (.isub, 1) := dk_100 (dk_at dksX0_least_1 0 rfl rfl)
theorem dX0_least_25 : decode cX0_least 25 = .ok (.iconst 1, 1) := dk_4 (dk_at dksX0_least_1 1 rfl rfl)
theorem dX0_least_26 : decode cX0_least 26 = .ok (.invokevirtual 467, 3) := dk_182 1 211 (dk_at dksX0_least_1 2 rfl rfl)
theorem dX0_least_29 : decode cX0_least 29 = .ok (.iload_n 1, 1) := dk_27 (dk_at dksX0_least_1 5 rfl rfl)
theorem dX0_least_30 : decode cX0_least 30 = .ok (.ifCond .ne 10, 3) := dk_154 0 10 (dk_at dksX0_least_1 6 rfl rfl)
theorem dX0_least_33 : decode cX0_least 33 = .ok (.aload_n 0, 1) := dk_42 (dk_at dksX0_least_1 9 rfl rfl)
theorem dX0_least_34 : decode cX0_least 34 = .ok (.getfield 471, 3) := dk_180 1 215 (dk_at dksX0_least_1 10 rfl rfl)
theorem dX0_least_37 : decode cX0_least 37 = .ok (.goto 12, 3) := dk_167 0 12 (dk_at dksX0_least_1 13 rfl rfl)
theorem dX0_least_40 : decode cX0_least 40 = .ok (.aload_n 0, 1) := dk_42 (dk_at dksX0_least_1 16 rfl rfl)
theorem dX0_least_41 : decode cX0_least 41 = .ok (.getfield 108, 3) := dk_180 0 108 (dk_at dksX0_least_1 17 rfl rfl)
theorem dX0_least_44 : decode cX0_least 44 = .ok (.iload_n 1, 1) := dk_27 (dk_at dksX0_least_1 20 rfl rfl)
theorem dX0_least_45 : decode cX0_least 45 = .ok (.bipush 10, 2) := dk_16 10 (dk_at dksX0_least_1 21 rfl rfl)
theorem dX0_least_47 : decode cX0_least 47 = .ok (.isub, 1) := dk_100 (dk_at dksX0_least_1 23 rfl rfl)
theorem dX0_least_48 : decode cX0_least 48 = .ok (.iaload, 1) := dk_46 (dk_at dksX0_least_2 0 rfl rfl)
theorem dX0_least_49 : decode cX0_least 49 = .ok (.ireturn, 1) := dk_172 (dk_at dksX0_least_2 1 rfl rfl)
abbrev cX0_round : ByteArray := prog_1_method_58_code
def yX0_round : MethodName := ⟨RX0, "round", "(I)I"⟩
def dkwX0_round_6 : List UInt8 := [132, 4, 255, 167, 255, 215, 132, 2, 1, 167, 255, 142, 27, 154, 0, 7, 2, 167, 0, 4, 3, 172]
abbrev dktX0_round_6 : List UInt8 := dkwX0_round_6 ++ []
def dkwX0_round_5 : List UInt8 := [180, 0, 102, 182, 1, 227, 153, 0, 18, 27, 154, 0, 7, 2, 167, 0, 9, 28, 4, 96, 21, 4, 100, 172]
abbrev dktX0_round_5 : List UInt8 := dkwX0_round_5 ++ dktX0_round_6
def dkwX0_round_4 : List UInt8 := [96, 50, 184, 1, 170, 28, 54, 4, 21, 4, 155, 0, 42, 42, 42, 180, 0, 113, 21, 4, 50, 42]
abbrev dktX0_round_4 : List UInt8 := dkwX0_round_4 ++ dktX0_round_5
def dkwX0_round_3 : List UInt8 := [160, 0, 6, 167, 0, 79, 42, 180, 0, 102, 29, 184, 1, 198, 42, 180, 0, 102, 42, 180, 0, 113, 28, 4]
abbrev dktX0_round_3 : List UInt8 := dkwX0_round_3 ++ dktX0_round_4
def dkwX0_round_2 : List UInt8 := [182, 1, 218, 62, 29, 2, 160, 0, 13, 27, 154, 0, 7, 28, 167, 0, 4, 3, 172, 28, 17, 0, 200]
abbrev dktX0_round_2 : List UInt8 := dkwX0_round_2 ++ dktX0_round_3
def dkwX0_round_1 : List UInt8 := [180, 0, 113, 3, 50, 184, 1, 170, 3, 61, 28, 17, 0, 200, 163, 0, 113, 42, 42, 180, 0, 102]
abbrev dktX0_round_1 : List UInt8 := dkwX0_round_1 ++ dktX0_round_2
def dkwX0_round_0 : List UInt8 := [27, 3, 4, 184, 0, 160, 154, 0, 5, 2, 172, 42, 42, 180, 0, 102, 182, 1, 132, 42, 180, 0, 102, 42]
abbrev dktX0_round_0 : List UInt8 := dkwX0_round_0 ++ dktX0_round_1
theorem dksX0_round_0 : cX0_round.data.toList.drop 0 = dktX0_round_0 := by decide +kernel
theorem dksX0_round_1 : cX0_round.data.toList.drop 24 = dktX0_round_1 := dk_seg dksX0_round_0 24 rfl rfl
theorem dksX0_round_2 : cX0_round.data.toList.drop 46 = dktX0_round_2 := dk_seg dksX0_round_1 22 rfl rfl
theorem dksX0_round_3 : cX0_round.data.toList.drop 69 = dktX0_round_3 := dk_seg dksX0_round_2 23 rfl rfl
theorem dksX0_round_4 : cX0_round.data.toList.drop 93 = dktX0_round_4 := dk_seg dksX0_round_3 24 rfl rfl
theorem dksX0_round_5 : cX0_round.data.toList.drop 115 = dktX0_round_5 := dk_seg dksX0_round_4 22 rfl rfl
theorem dksX0_round_6 : cX0_round.data.toList.drop 139 = dktX0_round_6 := dk_seg dksX0_round_5 24 rfl rfl
theorem dX0_round_0 : decode cX0_round 0 = .ok (.iload_n 1, 1) := dk_27 (dk_at dksX0_round_0 0 rfl rfl)
theorem dX0_round_1 : decode cX0_round 1 = .ok (.iconst 0, 1) := dk_3 (dk_at dksX0_round_0 1 rfl rfl)
theorem dX0_round_2 : decode cX0_round 2 = .ok (.iconst 1, 1) := dk_4 (dk_at dksX0_round_0 2 rfl rfl)
theorem dX0_round_3 : decode cX0_round 3 = .ok (.invokestatic 160, 3) := dk_184 0 160 (dk_at dksX0_round_0 3 rfl rfl)
theorem dX0_round_6 : decode cX0_round 6 = .ok (.ifCond .ne 5, 3) := dk_154 0 5 (dk_at dksX0_round_0 6 rfl rfl)
theorem dX0_round_9 : decode cX0_round 9 = .ok (.iconst (-1), 1) := dk_2 (dk_at dksX0_round_0 9 rfl rfl)
theorem dX0_round_10 : decode cX0_round 10 = .ok (.ireturn, 1) := dk_172 (dk_at dksX0_round_0 10 rfl rfl)
theorem dX0_round_11 : decode cX0_round 11 = .ok (.aload_n 0, 1) := dk_42 (dk_at dksX0_round_0 11 rfl rfl)
theorem dX0_round_12 : decode cX0_round 12 = .ok (.aload_n 0, 1) := dk_42 (dk_at dksX0_round_0 12 rfl rfl)
theorem dX0_round_13 : decode cX0_round 13 = .ok (.getfield 102, 3) := dk_180 0 102 (dk_at dksX0_round_0 13 rfl rfl)
theorem dX0_round_16 : decode cX0_round 16 = .ok (.invokevirtual 388, 3) := dk_182 1 132 (dk_at dksX0_round_0 16 rfl rfl)
theorem dX0_round_19 : decode cX0_round 19 = .ok (.aload_n 0, 1) := dk_42 (dk_at dksX0_round_0 19 rfl rfl)
theorem dX0_round_20 : decode cX0_round 20 = .ok (.getfield 102, 3) := dk_180 0 102 (dk_at dksX0_round_0 20 rfl rfl)
theorem dX0_round_23 : decode cX0_round 23 = .ok (.aload_n 0, 1) := dk_42 (dk_at dksX0_round_0 23 rfl rfl)
theorem dX0_round_24 : decode cX0_round 24 = .ok (.getfield 113, 3) := dk_180 0 113 (dk_at dksX0_round_1 0 rfl rfl)
theorem dX0_round_27 : decode cX0_round 27 = .ok (.iconst 0, 1) := dk_3 (dk_at dksX0_round_1 3 rfl rfl)
theorem dX0_round_28 : decode cX0_round 28 = .ok (.aaload, 1) := dk_50 (dk_at dksX0_round_1 4 rfl rfl)
theorem dX0_round_29 : decode cX0_round 29 = .ok (.invokestatic 426, 3) := dk_184 1 170 (dk_at dksX0_round_1 5 rfl rfl)
theorem dX0_round_32 : decode cX0_round 32 = .ok (.iconst 0, 1) := dk_3 (dk_at dksX0_round_1 8 rfl rfl)
theorem dX0_round_33 : decode cX0_round 33 = .ok (.istore_n 2, 1) := dk_61 (dk_at dksX0_round_1 9 rfl rfl)
theorem dX0_round_34 : decode cX0_round 34 = .ok (.iload_n 2, 1) := dk_28 (dk_at dksX0_round_1 10 rfl rfl)
theorem dX0_round_35 : decode cX0_round 35 = .ok (.sipush 200, 3) := dk_17 0 200 (dk_at dksX0_round_1 11 rfl rfl)
theorem dX0_round_38 : decode cX0_round 38 = .ok (.if_icmp .gt 113, 3) := dk_163 0 113 (dk_at dksX0_round_1 14 rfl rfl)
theorem dX0_round_41 : decode cX0_round 41 = .ok (.aload_n 0, 1) := dk_42 (dk_at dksX0_round_1 17 rfl rfl)
theorem dX0_round_42 : decode cX0_round 42 = .ok (.aload_n 0, 1) := dk_42 (dk_at dksX0_round_1 18 rfl rfl)
theorem dX0_round_43 : decode cX0_round 43 = .ok (.getfield 102, 3) := dk_180 0 102 (dk_at dksX0_round_1 19 rfl rfl)
theorem dX0_round_46 : decode cX0_round 46 = .ok (.invokevirtual 474, 3) := dk_182 1 218 (dk_at dksX0_round_2 0 rfl rfl)
theorem dX0_round_49 : decode cX0_round 49 = .ok (.istore_n 3, 1) := dk_62 (dk_at dksX0_round_2 3 rfl rfl)
theorem dX0_round_50 : decode cX0_round 50 = .ok (.iload_n 3, 1) := dk_29 (dk_at dksX0_round_2 4 rfl rfl)
theorem dX0_round_51 : decode cX0_round 51 = .ok (.iconst (-1), 1) := dk_2 (dk_at dksX0_round_2 5 rfl rfl)
theorem dX0_round_52 : decode cX0_round 52 = .ok (.if_icmp .ne 13, 3) := dk_160 0 13 (dk_at dksX0_round_2 6 rfl rfl)
theorem dX0_round_55 : decode cX0_round 55 = .ok (.iload_n 1, 1) := dk_27 (dk_at dksX0_round_2 9 rfl rfl)
theorem dX0_round_56 : decode cX0_round 56 = .ok (.ifCond .ne 7, 3) := dk_154 0 7 (dk_at dksX0_round_2 10 rfl rfl)
theorem dX0_round_59 : decode cX0_round 59 = .ok (.iload_n 2, 1) := dk_28 (dk_at dksX0_round_2 13 rfl rfl)
theorem dX0_round_60 : decode cX0_round 60 = .ok (.goto 4, 3) := dk_167 0 4 (dk_at dksX0_round_2 14 rfl rfl)
theorem dX0_round_63 : decode cX0_round 63 = .ok (.iconst 0, 1) := dk_3 (dk_at dksX0_round_2 17 rfl rfl)
theorem dX0_round_64 : decode cX0_round 64 = .ok (.ireturn, 1) := dk_172 (dk_at dksX0_round_2 18 rfl rfl)
theorem dX0_round_65 : decode cX0_round 65 = .ok (.iload_n 2, 1) := dk_28 (dk_at dksX0_round_2 19 rfl rfl)
theorem dX0_round_66 : decode cX0_round 66 = .ok (.sipush 200, 3) := dk_17 0 200 (dk_at dksX0_round_2 20 rfl rfl)
theorem dX0_round_69 : decode cX0_round 69 = .ok (.if_icmp .ne 6, 3) := dk_160 0 6 (dk_at dksX0_round_3 0 rfl rfl)
theorem dX0_round_72 : decode cX0_round 72 = .ok (.goto 79, 3) := dk_167 0 79 (dk_at dksX0_round_3 3 rfl rfl)
theorem dX0_round_75 : decode cX0_round 75 = .ok (.aload_n 0, 1) := dk_42 (dk_at dksX0_round_3 6 rfl rfl)
theorem dX0_round_76 : decode cX0_round 76 = .ok (.getfield 102, 3) := dk_180 0 102 (dk_at dksX0_round_3 7 rfl rfl)
theorem dX0_round_79 : decode cX0_round 79 = .ok (.iload_n 3, 1) := dk_29 (dk_at dksX0_round_3 10 rfl rfl)
theorem dX0_round_80 : decode cX0_round 80 = .ok (.invokestatic 454, 3) := dk_184 1 198 (dk_at dksX0_round_3 11 rfl rfl)
theorem dX0_round_83 : decode cX0_round 83 = .ok (.aload_n 0, 1) := dk_42 (dk_at dksX0_round_3 14 rfl rfl)
theorem dX0_round_84 : decode cX0_round 84 = .ok (.getfield 102, 3) := dk_180 0 102 (dk_at dksX0_round_3 15 rfl rfl)
theorem dX0_round_87 : decode cX0_round 87 = .ok (.aload_n 0, 1) := dk_42 (dk_at dksX0_round_3 18 rfl rfl)
theorem dX0_round_88 : decode cX0_round 88 = .ok (.getfield 113, 3) := dk_180 0 113 (dk_at dksX0_round_3 19 rfl rfl)
theorem dX0_round_91 : decode cX0_round 91 = .ok (.iload_n 2, 1) := dk_28 (dk_at dksX0_round_3 22 rfl rfl)
theorem dX0_round_92 : decode cX0_round 92 = .ok (.iconst 1, 1) := dk_4 (dk_at dksX0_round_3 23 rfl rfl)
theorem dX0_round_93 : decode cX0_round 93 = .ok (.iadd, 1) := dk_96 (dk_at dksX0_round_4 0 rfl rfl)
theorem dX0_round_94 : decode cX0_round 94 = .ok (.aaload, 1) := dk_50 (dk_at dksX0_round_4 1 rfl rfl)
theorem dX0_round_95 : decode cX0_round 95 = .ok (.invokestatic 426, 3) := dk_184 1 170 (dk_at dksX0_round_4 2 rfl rfl)
theorem dX0_round_98 : decode cX0_round 98 = .ok (.iload_n 2, 1) := dk_28 (dk_at dksX0_round_4 5 rfl rfl)
theorem dX0_round_99 : decode cX0_round 99 = .ok (.istore 4, 2) := dk_54 4 (dk_at dksX0_round_4 6 rfl rfl)
theorem dX0_round_101 : decode cX0_round 101 = .ok (.iload 4, 2) := dk_21 4 (dk_at dksX0_round_4 8 rfl rfl)
theorem dX0_round_103 : decode cX0_round 103 = .ok (.ifCond .lt 42, 3) := dk_155 0 42 (dk_at dksX0_round_4 10 rfl rfl)
theorem dX0_round_106 : decode cX0_round 106 = .ok (.aload_n 0, 1) := dk_42 (dk_at dksX0_round_4 13 rfl rfl)
theorem dX0_round_107 : decode cX0_round 107 = .ok (.aload_n 0, 1) := dk_42 (dk_at dksX0_round_4 14 rfl rfl)
theorem dX0_round_108 : decode cX0_round 108 = .ok (.getfield 113, 3) := dk_180 0 113 (dk_at dksX0_round_4 15 rfl rfl)
theorem dX0_round_111 : decode cX0_round 111 = .ok (.iload 4, 2) := dk_21 4 (dk_at dksX0_round_4 18 rfl rfl)
theorem dX0_round_113 : decode cX0_round 113 = .ok (.aaload, 1) := dk_50 (dk_at dksX0_round_4 20 rfl rfl)
theorem dX0_round_114 : decode cX0_round 114 = .ok (.aload_n 0, 1) := dk_42 (dk_at dksX0_round_4 21 rfl rfl)
theorem dX0_round_115 : decode cX0_round 115 = .ok (.getfield 102, 3) := dk_180 0 102 (dk_at dksX0_round_5 0 rfl rfl)
theorem dX0_round_118 : decode cX0_round 118 = .ok (.invokevirtual 483, 3) := dk_182 1 227 (dk_at dksX0_round_5 3 rfl rfl)
theorem dX0_round_121 : decode cX0_round 121 = .ok (.ifCond .eq 18, 3) := dk_153 0 18 (dk_at dksX0_round_5 6 rfl rfl)
theorem dX0_round_124 : decode cX0_round 124 = .ok (.iload_n 1, 1) := dk_27 (dk_at dksX0_round_5 9 rfl rfl)
theorem dX0_round_125 : decode cX0_round 125 = .ok (.ifCond .ne 7, 3) := dk_154 0 7 (dk_at dksX0_round_5 10 rfl rfl)
theorem dX0_round_128 : decode cX0_round 128 = .ok (.iconst (-1), 1) := dk_2 (dk_at dksX0_round_5 13 rfl rfl)
theorem dX0_round_129 : decode cX0_round 129 = .ok (.goto 9, 3) := dk_167 0 9 (dk_at dksX0_round_5 14 rfl rfl)
theorem dX0_round_132 : decode cX0_round 132 = .ok (.iload_n 2, 1) := dk_28 (dk_at dksX0_round_5 17 rfl rfl)
theorem dX0_round_133 : decode cX0_round 133 = .ok (.iconst 1, 1) := dk_4 (dk_at dksX0_round_5 18 rfl rfl)
theorem dX0_round_134 : decode cX0_round 134 = .ok (.iadd, 1) := dk_96 (dk_at dksX0_round_5 19 rfl rfl)
theorem dX0_round_135 : decode cX0_round 135 = .ok (.iload 4, 2) := dk_21 4 (dk_at dksX0_round_5 20 rfl rfl)
theorem dX0_round_137 : decode cX0_round 137 = .ok (.isub, 1) := dk_100 (dk_at dksX0_round_5 22 rfl rfl)
theorem dX0_round_138 : decode cX0_round 138 = .ok (.ireturn, 1) := dk_172 (dk_at dksX0_round_5 23 rfl rfl)
theorem dX0_round_139 : decode cX0_round 139 = .ok (.iinc 4 (-1), 3) := dk_132 4 255 (dk_at dksX0_round_6 0 rfl rfl)
theorem dX0_round_142 : decode cX0_round 142 = .ok (.goto (-41), 3) := dk_167 255 215 (dk_at dksX0_round_6 3 rfl rfl)
theorem dX0_round_145 : decode cX0_round 145 = .ok (.iinc 2 1, 3) := dk_132 2 1 (dk_at dksX0_round_6 6 rfl rfl)
theorem dX0_round_148 : decode cX0_round 148 = .ok (.goto (-114), 3) := dk_167 255 142 (dk_at dksX0_round_6 9 rfl rfl)
theorem dX0_round_151 : decode cX0_round 151 = .ok (.iload_n 1, 1) := dk_27 (dk_at dksX0_round_6 12 rfl rfl)
theorem dX0_round_152 : decode cX0_round 152 = .ok (.ifCond .ne 7, 3) := dk_154 0 7 (dk_at dksX0_round_6 13 rfl rfl)
theorem dX0_round_155 : decode cX0_round 155 = .ok (.iconst (-1), 1) := dk_2 (dk_at dksX0_round_6 16 rfl rfl)
theorem dX0_round_156 : decode cX0_round 156 = .ok (.goto 4, 3) := dk_167 0 4 (dk_at dksX0_round_6 17 rfl rfl)
theorem dX0_round_159 : decode cX0_round 159 = .ok (.iconst 0, 1) := dk_3 (dk_at dksX0_round_6 20 rfl rfl)
theorem dX0_round_160 : decode cX0_round 160 = .ok (.ireturn, 1) := dk_172 (dk_at dksX0_round_6 21 rfl rfl)
abbrev cX0_areAlike : ByteArray := prog_1_method_59_code
def yX0_areAlike : MethodName := ⟨RX0, "areAlike", "([I[I)Z"⟩
def dkwX0_areAlike_1 : List UInt8 := [167, 255, 234, 4, 172]
abbrev dktX0_areAlike_1 : List UInt8 := dkwX0_areAlike_1 ++ []
def dkwX0_areAlike_0 : List UInt8 := [3, 62, 29, 42, 180, 1, 69, 162, 0, 20, 43, 29, 46, 44, 29, 46, 159, 0, 5, 3, 172, 132, 3, 1]
abbrev dktX0_areAlike_0 : List UInt8 := dkwX0_areAlike_0 ++ dktX0_areAlike_1
theorem dksX0_areAlike_0 : cX0_areAlike.data.toList.drop 0 = dktX0_areAlike_0 := by decide +kernel
theorem dksX0_areAlike_1 : cX0_areAlike.data.toList.drop 24 = dktX0_areAlike_1 := dk_seg dksX0_areAlike_0 24 rfl rfl
theorem dX0_areAlike_0 : decode cX0_areAlike 0 = .ok (.iconst 0, 1) := dk_3 (dk_at dksX0_areAlike_0 0 rfl rfl)
theorem dX0_areAlike_1 : decode cX0_areAlike 1 = .ok (.istore_n 3, 1) := dk_62 (dk_at dksX0_areAlike_0 1 rfl rfl)
theorem dX0_areAlike_2 : decode cX0_areAlike 2 = .ok (.iload_n 3, 1) := dk_29 (dk_at dksX0_areAlike_0 2 rfl rfl)
theorem dX0_areAlike_3 : decode cX0_areAlike 3 = .ok (.aload_n 0, 1) := dk_42 (dk_at dksX0_areAlike_0 3 rfl rfl)
theorem dX0_areAlike_4 : decode cX0_areAlike 4 = .ok (.getfield 325, 3) := dk_180 1 69 (dk_at dksX0_areAlike_0 4 rfl rfl)
theorem dX0_areAlike_7 : decode cX0_areAlike 7 = .ok (.if_icmp .ge 20, 3) := dk_162 0 20 (dk_at dksX0_areAlike_0 7 rfl rfl)
theorem dX0_areAlike_10 : decode cX0_areAlike 10 = .ok (.aload_n 1, 1) := dk_43 (dk_at dksX0_areAlike_0 10 rfl rfl)
theorem dX0_areAlike_11 : decode cX0_areAlike 11 = .ok (.iload_n 3, 1) := dk_29 (dk_at dksX0_areAlike_0 11 rfl rfl)
theorem dX0_areAlike_12 : decode cX0_areAlike 12 = .ok (.iaload, 1) := dk_46 (dk_at dksX0_areAlike_0 12 rfl rfl)
theorem dX0_areAlike_13 : decode cX0_areAlike 13 = .ok (.aload_n 2, 1) := dk_44 (dk_at dksX0_areAlike_0 13 rfl rfl)
theorem dX0_areAlike_14 : decode cX0_areAlike 14 = .ok (.iload_n 3, 1) := dk_29 (dk_at dksX0_areAlike_0 14 rfl rfl)
theorem dX0_areAlike_15 : decode cX0_areAlike 15 = .ok (.iaload, 1) := dk_46 (dk_at dksX0_areAlike_0 15 rfl rfl)
theorem dX0_areAlike_16 : decode cX0_areAlike 16 = .ok (.if_icmp .eq 5, 3) := dk_159 0 5 (dk_at dksX0_areAlike_0 16 rfl rfl)
theorem dX0_areAlike_19 : decode cX0_areAlike 19 = .ok (.iconst 0, 1) := dk_3 (dk_at dksX0_areAlike_0 19 rfl rfl)
theorem dX0_areAlike_20 : decode cX0_areAlike 20 = .ok (.ireturn, 1) := dk_172 (dk_at dksX0_areAlike_0 20 rfl rfl)
theorem dX0_areAlike_21 : decode cX0_areAlike 21 = .ok (.iinc 3 1, 3) := dk_132 3 1 (dk_at dksX0_areAlike_0 21 rfl rfl)
theorem dX0_areAlike_24 : decode cX0_areAlike 24 = .ok (.goto (-22), 3) := dk_167 255 234 (dk_at dksX0_areAlike_1 0 rfl rfl)
theorem dX0_areAlike_27 : decode cX0_areAlike 27 = .ok (.iconst 1, 1) := dk_4 (dk_at dksX0_areAlike_1 3 rfl rfl)
theorem dX0_areAlike_28 : decode cX0_areAlike 28 = .ok (.ireturn, 1) := dk_172 (dk_at dksX0_areAlike_1 4 rfl rfl)
abbrev cX0_leaven : ByteArray := prog_1_method_61_code
def yX0_leaven : MethodName := ⟨RX0, "leaven", "(II)I"⟩
def dkwX0_leaven_6 : List UInt8 := [181, 1, 231, 42, 180, 1, 231, 4, 100, 172]
abbrev dktX0_leaven_6 : List UInt8 := dkwX0_leaven_6 ++ []
def dkwX0_leaven_5 : List UInt8 := [167, 0, 15, 187, 0, 116, 89, 2, 27, 28, 21, 4, 183, 1, 240, 83, 42, 89, 180, 1, 231, 4, 96]
abbrev dktX0_leaven_5 : List UInt8 := dkwX0_leaven_5 ++ dktX0_leaven_6
def dkwX0_leaven_4 : List UInt8 := [180, 0, 118, 42, 180, 1, 231, 29, 153, 0, 17, 187, 0, 116, 89, 27, 2, 2, 3, 183, 1, 240]
abbrev dktX0_leaven_4 : List UInt8 := dkwX0_leaven_4 ++ dktX0_leaven_5
def dkwX0_leaven_3 : List UInt8 := [180, 0, 118, 28, 50, 180, 1, 237, 184, 1, 151, 96, 54, 4, 21, 4, 16, 30, 164, 0, 5, 2, 172, 42]
abbrev dktX0_leaven_3 : List UInt8 := dkwX0_leaven_3 ++ dktX0_leaven_4
def dkwX0_leaven_2 : List UInt8 := [154, 0, 5, 2, 172, 29, 153, 0, 7, 3, 167, 0, 26, 4, 42, 180, 0, 118, 27, 50, 180, 1, 237, 42]
abbrev dktX0_leaven_2 : List UInt8 := dkwX0_leaven_2 ++ dktX0_leaven_3
def dkwX0_leaven_1 : List UInt8 := [42, 27, 182, 1, 98, 154, 0, 24, 167, 0, 19, 42, 27, 182, 1, 234, 153, 0, 11, 42, 28, 182, 1, 234]
abbrev dktX0_leaven_1 : List UInt8 := dkwX0_leaven_1 ++ dktX0_leaven_2
def dkwX0_leaven_0 : List UInt8 := [28, 2, 160, 0, 7, 4, 167, 0, 4, 3, 62, 42, 180, 1, 231, 16, 60, 159, 0, 34, 29, 153, 0, 14]
abbrev dktX0_leaven_0 : List UInt8 := dkwX0_leaven_0 ++ dktX0_leaven_1
theorem dksX0_leaven_0 : cX0_leaven.data.toList.drop 0 = dktX0_leaven_0 := by decide +kernel
theorem dksX0_leaven_1 : cX0_leaven.data.toList.drop 24 = dktX0_leaven_1 := dk_seg dksX0_leaven_0 24 rfl rfl
theorem dksX0_leaven_2 : cX0_leaven.data.toList.drop 48 = dktX0_leaven_2 := dk_seg dksX0_leaven_1 24 rfl rfl
theorem dksX0_leaven_3 : cX0_leaven.data.toList.drop 72 = dktX0_leaven_3 := dk_seg dksX0_leaven_2 24 rfl rfl
theorem dksX0_leaven_4 : cX0_leaven.data.toList.drop 96 = dktX0_leaven_4 := dk_seg dksX0_leaven_3 24 rfl rfl
theorem dksX0_leaven_5 : cX0_leaven.data.toList.drop 118 = dktX0_leaven_5 := dk_seg dksX0_leaven_4 22 rfl rfl
theorem dksX0_leaven_6 : cX0_leaven.data.toList.drop 141 = dktX0_leaven_6 := dk_seg dksX0_leaven_5 23 rfl rfl
theorem dX0_leaven_0 : decode cX0_leaven 0 = .ok (.iload_n 2, 1) := dk_28 (dk_at dksX0_leaven_0 0 rfl rfl)
theorem dX0_leaven_1 : decode cX0_leaven 1 = .ok (.iconst (-1), 1) := dk_2 (dk_at dksX0_leaven_0 1 rfl rfl)
theorem dX0_leaven_2 : decode cX0_leaven 2 = .ok (.if_icmp .ne 7, 3) := dk_160 0 7 (dk_at dksX0_leaven_0 2 rfl rfl)
theorem dX0_leaven_5 : decode cX0_leaven 5 = .ok (.iconst 1, 1) := dk_4 (dk_at dksX0_leaven_0 5 rfl rfl)
theorem dX0_leaven_6 : decode cX0_leaven 6 = .ok (.goto 4, 3) := dk_167 0 4 (dk_at dksX0_leaven_0 6 rfl rfl)
theorem dX0_leaven_9 : decode cX0_leaven 9 = .ok (.iconst 0, 1) := dk_3 (dk_at dksX0_leaven_0 9 rfl rfl)
theorem dX0_leaven_10 : decode cX0_leaven 10 = .ok (.istore_n 3, 1) := dk_62 (dk_at dksX0_leaven_0 10 rfl rfl)
theorem dX0_leaven_11 : decode cX0_leaven 11 = .ok (.aload_n 0, 1) := dk_42 (dk_at dksX0_leaven_0 11 rfl rfl)
theorem dX0_leaven_12 : decode cX0_leaven 12 = .ok (.getfield 487, 3) := dk_180 1 231 (dk_at dksX0_leaven_0 12 rfl rfl)
theorem dX0_leaven_15 : decode cX0_leaven 15 = .ok (.bipush 60, 2) := dk_16 60 (dk_at dksX0_leaven_0 15 rfl rfl)
theorem dX0_leaven_17 : decode cX0_leaven 17 = .ok (.if_icmp .eq 34, 3) := dk_159 0 34 (dk_at dksX0_leaven_0 17 rfl rfl)
theorem dX0_leaven_20 : decode cX0_leaven 20 = .ok (.iload_n 3, 1) := dk_29 (dk_at dksX0_leaven_0 20 rfl rfl)
theorem dX0_leaven_21 : decode cX0_leaven 21 = .ok (.ifCond .eq 14, 3) := dk_153 0 14 (dk_at dksX0_leaven_0 21 rfl rfl)
theorem dX0_leaven_24 : decode cX0_leaven 24 = .ok (.aload_n 0, 1) := dk_42 (dk_at dksX0_leaven_1 0 rfl rfl)
theorem dX0_leaven_25 : decode cX0_leaven 25 = .ok (.iload_n 1, 1) := dk_27 (dk_at dksX0_leaven_1 1 rfl rfl)
theorem dX0_leaven_26 : decode cX0_leaven 26 = .ok (.invokevirtual 354, 3) := dk_182 1 98 (dk_at dksX0_leaven_1 2 rfl rfl)
theorem dX0_leaven_29 : decode cX0_leaven 29 = .ok (.ifCond .ne 24, 3) := dk_154 0 24 (dk_at dksX0_leaven_1 5 rfl rfl)
theorem dX0_leaven_32 : decode cX0_leaven 32 = .ok (.goto 19, 3) := dk_167 0 19 (dk_at dksX0_leaven_1 8 rfl rfl)
theorem dX0_leaven_35 : decode cX0_leaven 35 = .ok (.aload_n 0, 1) := dk_42 (dk_at dksX0_leaven_1 11 rfl rfl)
theorem dX0_leaven_36 : decode cX0_leaven 36 = .ok (.iload_n 1, 1) := dk_27 (dk_at dksX0_leaven_1 12 rfl rfl)
theorem dX0_leaven_37 : decode cX0_leaven 37 = .ok (.invokevirtual 490, 3) := dk_182 1 234 (dk_at dksX0_leaven_1 13 rfl rfl)
theorem dX0_leaven_40 : decode cX0_leaven 40 = .ok (.ifCond .eq 11, 3) := dk_153 0 11 (dk_at dksX0_leaven_1 16 rfl rfl)
theorem dX0_leaven_43 : decode cX0_leaven 43 = .ok (.aload_n 0, 1) := dk_42 (dk_at dksX0_leaven_1 19 rfl rfl)
theorem dX0_leaven_44 : decode cX0_leaven 44 = .ok (.iload_n 2, 1) := dk_28 (dk_at dksX0_leaven_1 20 rfl rfl)
theorem dX0_leaven_45 : decode cX0_leaven 45 = .ok (.invokevirtual 490, 3) := dk_182 1 234 (dk_at dksX0_leaven_1 21 rfl rfl)
theorem dX0_leaven_48 : decode cX0_leaven 48 = .ok (.ifCond .ne 5, 3) := dk_154 0 5 (dk_at dksX0_leaven_2 0 rfl rfl)
theorem dX0_leaven_51 : decode cX0_leaven 51 = .ok (.iconst (-1), 1) := dk_2 (dk_at dksX0_leaven_2 3 rfl rfl)
theorem dX0_leaven_52 : decode cX0_leaven 52 = .ok (.ireturn, 1) := dk_172 (dk_at dksX0_leaven_2 4 rfl rfl)
theorem dX0_leaven_53 : decode cX0_leaven 53 = .ok (.iload_n 3, 1) := dk_29 (dk_at dksX0_leaven_2 5 rfl rfl)
theorem dX0_leaven_54 : decode cX0_leaven 54 = .ok (.ifCond .eq 7, 3) := dk_153 0 7 (dk_at dksX0_leaven_2 6 rfl rfl)
theorem dX0_leaven_57 : decode cX0_leaven 57 = .ok (.iconst 0, 1) := dk_3 (dk_at dksX0_leaven_2 9 rfl rfl)
theorem dX0_leaven_58 : decode cX0_leaven 58 = .ok (.goto 26, 3) := dk_167 0 26 (dk_at dksX0_leaven_2 10 rfl rfl)
theorem dX0_leaven_61 : decode cX0_leaven 61 = .ok (.iconst 1, 1) := dk_4 (dk_at dksX0_leaven_2 13 rfl rfl)
theorem dX0_leaven_62 : decode cX0_leaven 62 = .ok (.aload_n 0, 1) := dk_42 (dk_at dksX0_leaven_2 14 rfl rfl)
theorem dX0_leaven_63 : decode cX0_leaven 63 = .ok (.getfield 118, 3) := dk_180 0 118 (dk_at dksX0_leaven_2 15 rfl rfl)
theorem dX0_leaven_66 : decode cX0_leaven 66 = .ok (.iload_n 1, 1) := dk_27 (dk_at dksX0_leaven_2 18 rfl rfl)
theorem dX0_leaven_67 : decode cX0_leaven 67 = .ok (.aaload, 1) := dk_50 (dk_at dksX0_leaven_2 19 rfl rfl)
theorem dX0_leaven_68 : decode cX0_leaven 68 = .ok (.getfield 493, 3) := dk_180 1 237 (dk_at dksX0_leaven_2 20 rfl rfl)
theorem dX0_leaven_71 : decode cX0_leaven 71 = .ok (.aload_n 0, 1) := dk_42 (dk_at dksX0_leaven_2 23 rfl rfl)
theorem dX0_leaven_72 : decode cX0_leaven 72 = .ok (.getfield 118, 3) := dk_180 0 118 (dk_at dksX0_leaven_3 0 rfl rfl)
theorem dX0_leaven_75 : decode cX0_leaven 75 = .ok (.iload_n 2, 1) := dk_28 (dk_at dksX0_leaven_3 3 rfl rfl)
theorem dX0_leaven_76 : decode cX0_leaven 76 = .ok (.aaload, 1) := dk_50 (dk_at dksX0_leaven_3 4 rfl rfl)
theorem dX0_leaven_77 : decode cX0_leaven 77 = .ok (.getfield 493, 3) := dk_180 1 237 (dk_at dksX0_leaven_3 5 rfl rfl)
theorem dX0_leaven_80 : decode cX0_leaven 80 = .ok (.invokestatic 407, 3) := dk_184 1 151 (dk_at dksX0_leaven_3 8 rfl rfl)
theorem dX0_leaven_83 : decode cX0_leaven 83 = .ok (.iadd, 1) := dk_96 (dk_at dksX0_leaven_3 11 rfl rfl)
theorem dX0_leaven_84 : decode cX0_leaven 84 = .ok (.istore 4, 2) := dk_54 4 (dk_at dksX0_leaven_3 12 rfl rfl)
theorem dX0_leaven_86 : decode cX0_leaven 86 = .ok (.iload 4, 2) := dk_21 4 (dk_at dksX0_leaven_3 14 rfl rfl)
theorem dX0_leaven_88 : decode cX0_leaven 88 = .ok (.bipush 30, 2) := dk_16 30 (dk_at dksX0_leaven_3 16 rfl rfl)
theorem dX0_leaven_90 : decode cX0_leaven 90 = .ok (.if_icmp .le 5, 3) := dk_164 0 5 (dk_at dksX0_leaven_3 18 rfl rfl)
theorem dX0_leaven_93 : decode cX0_leaven 93 = .ok (.iconst (-1), 1) := dk_2 (dk_at dksX0_leaven_3 21 rfl rfl)
theorem dX0_leaven_94 : decode cX0_leaven 94 = .ok (.ireturn, 1) := dk_172 (dk_at dksX0_leaven_3 22 rfl rfl)
theorem dX0_leaven_95 : decode cX0_leaven 95 = .ok (.aload_n 0, 1) := dk_42 (dk_at dksX0_leaven_3 23 rfl rfl)
theorem dX0_leaven_96 : decode cX0_leaven 96 = .ok (.getfield 118, 3) := dk_180 0 118 (dk_at dksX0_leaven_4 0 rfl rfl)
theorem dX0_leaven_99 : decode cX0_leaven 99 = .ok (.aload_n 0, 1) := dk_42 (dk_at dksX0_leaven_4 3 rfl rfl)
theorem dX0_leaven_100 : decode cX0_leaven 100 = .ok (.getfield 487, 3) := dk_180 1 231 (dk_at dksX0_leaven_4 4 rfl rfl)
theorem dX0_leaven_103 : decode cX0_leaven 103 = .ok (.iload_n 3, 1) := dk_29 (dk_at dksX0_leaven_4 7 rfl rfl)
theorem dX0_leaven_104 : decode cX0_leaven 104 = .ok (.ifCond .eq 17, 3) := dk_153 0 17 (dk_at dksX0_leaven_4 8 rfl rfl)
theorem dX0_leaven_107 : decode cX0_leaven 107 = .ok (.new 116, 3) := dk_187 0 116 (dk_at dksX0_leaven_4 11 rfl rfl)
theorem dX0_leaven_110 : decode cX0_leaven 110 = .ok (.dup, 1) := dk_89 (dk_at dksX0_leaven_4 14 rfl rfl)
theorem dX0_leaven_111 : decode cX0_leaven 111 = .ok (.iload_n 1, 1) := dk_27 (dk_at dksX0_leaven_4 15 rfl rfl)
theorem dX0_leaven_112 : decode cX0_leaven 112 = .ok (.iconst (-1), 1) := dk_2 (dk_at dksX0_leaven_4 16 rfl rfl)
theorem dX0_leaven_113 : decode cX0_leaven 113 = .ok (.iconst (-1), 1) := dk_2 (dk_at dksX0_leaven_4 17 rfl rfl)
theorem dX0_leaven_114 : decode cX0_leaven 114 = .ok (.iconst 0, 1) := dk_3 (dk_at dksX0_leaven_4 18 rfl rfl)
theorem dX0_leaven_115 : decode cX0_leaven 115 = .ok (.invokespecial 496, 3) := dk_183 1 240 (dk_at dksX0_leaven_4 19 rfl rfl)
theorem dX0_leaven_118 : decode cX0_leaven 118 = .ok (.goto 15, 3) := dk_167 0 15 (dk_at dksX0_leaven_5 0 rfl rfl)
theorem dX0_leaven_121 : decode cX0_leaven 121 = .ok (.new 116, 3) := dk_187 0 116 (dk_at dksX0_leaven_5 3 rfl rfl)
theorem dX0_leaven_124 : decode cX0_leaven 124 = .ok (.dup, 1) := dk_89 (dk_at dksX0_leaven_5 6 rfl rfl)
theorem dX0_leaven_125 : decode cX0_leaven 125 = .ok (.iconst (-1), 1) := dk_2 (dk_at dksX0_leaven_5 7 rfl rfl)
theorem dX0_leaven_126 : decode cX0_leaven 126 = .ok (.iload_n 1, 1) := dk_27 (dk_at dksX0_leaven_5 8 rfl rfl)
theorem dX0_leaven_127 : decode cX0_leaven 127 = .ok (.iload_n 2, 1) := dk_28 (dk_at dksX0_leaven_5 9 rfl rfl)
theorem dX0_leaven_128 : decode cX0_leaven 128 = .ok (.iload 4, 2) := dk_21 4 (dk_at dksX0_leaven_5 10 rfl rfl)
theorem dX0_leaven_130 : decode cX0_leaven 130 = .ok (.invokespecial 496, 3) := dk_183 1 240 (dk_at dksX0_leaven_5 12 rfl rfl)
theorem dX0_leaven_133 : decode cX0_leaven 133 = .ok (.aastore, 1) := dk_83 (dk_at dksX0_leaven_5 15 rfl rfl)
theorem dX0_leaven_134 : decode cX0_leaven 134 = .ok (.aload_n 0, 1) := dk_42 (dk_at dksX0_leaven_5 16 rfl rfl)
theorem dX0_leaven_135 : decode cX0_leaven 135 = .ok (.dup, 1) := dk_89 (dk_at dksX0_leaven_5 17 rfl rfl)
theorem dX0_leaven_136 : decode cX0_leaven 136 = .ok (.getfield 487, 3) := dk_180 1 231 (dk_at dksX0_leaven_5 18 rfl rfl)
theorem dX0_leaven_139 : decode cX0_leaven 139 = .ok (.iconst 1, 1) := dk_4 (dk_at dksX0_leaven_5 21 rfl rfl)
theorem dX0_leaven_140 : decode cX0_leaven 140 = .ok (.iadd, 1) := dk_96 (dk_at dksX0_leaven_5 22 rfl rfl)
theorem dX0_leaven_141 : decode cX0_leaven 141 = .ok (.putfield 487, 3) := dk_181 1 231 (dk_at dksX0_leaven_6 0 rfl rfl)
theorem dX0_leaven_144 : decode cX0_leaven 144 = .ok (.aload_n 0, 1) := dk_42 (dk_at dksX0_leaven_6 3 rfl rfl)
theorem dX0_leaven_145 : decode cX0_leaven 145 = .ok (.getfield 487, 3) := dk_180 1 231 (dk_at dksX0_leaven_6 4 rfl rfl)
theorem dX0_leaven_148 : decode cX0_leaven 148 = .ok (.iconst 1, 1) := dk_4 (dk_at dksX0_leaven_6 7 rfl rfl)
theorem dX0_leaven_149 : decode cX0_leaven 149 = .ok (.isub, 1) := dk_100 (dk_at dksX0_leaven_6 8 rfl rfl)
theorem dX0_leaven_150 : decode cX0_leaven 150 = .ok (.ireturn, 1) := dk_172 (dk_at dksX0_leaven_6 9 rfl rfl)
abbrev cX0_isLeaven : ByteArray := prog_1_method_60_code
def yX0_isLeaven : MethodName := ⟨RX0, "isLeaven", "(I)Z"⟩
def dkwX0_isLeaven_0 : List UInt8 := [27, 3, 42, 180, 1, 231, 4, 100, 184, 0, 160, 172]
abbrev dktX0_isLeaven_0 : List UInt8 := dkwX0_isLeaven_0 ++ []
theorem dksX0_isLeaven_0 : cX0_isLeaven.data.toList.drop 0 = dktX0_isLeaven_0 := by decide +kernel
theorem dX0_isLeaven_0 : decode cX0_isLeaven 0 = .ok (.iload_n 1, 1) := dk_27 (dk_at dksX0_isLeaven_0 0 rfl rfl)
theorem dX0_isLeaven_1 : decode cX0_isLeaven 1 = .ok (.iconst 0, 1) := dk_3 (dk_at dksX0_isLeaven_0 1 rfl rfl)
theorem dX0_isLeaven_2 : decode cX0_isLeaven 2 = .ok (.aload_n 0, 1) := dk_42 (dk_at dksX0_isLeaven_0 2 rfl rfl)
theorem dX0_isLeaven_3 : decode cX0_isLeaven 3 = .ok (.getfield 487, 3) := dk_180 1 231 (dk_at dksX0_isLeaven_0 3 rfl rfl)
theorem dX0_isLeaven_6 : decode cX0_isLeaven 6 = .ok (.iconst 1, 1) := dk_4 (dk_at dksX0_isLeaven_0 6 rfl rfl)
theorem dX0_isLeaven_7 : decode cX0_isLeaven 7 = .ok (.isub, 1) := dk_100 (dk_at dksX0_isLeaven_0 7 rfl rfl)
theorem dX0_isLeaven_8 : decode cX0_isLeaven 8 = .ok (.invokestatic 160, 3) := dk_184 0 160 (dk_at dksX0_isLeaven_0 8 rfl rfl)
theorem dX0_isLeaven_11 : decode cX0_isLeaven 11 = .ok (.ireturn, 1) := dk_172 (dk_at dksX0_isLeaven_0 11 rfl rfl)
abbrev cX0_part : ByteArray := prog_1_method_63_code
def yX0_part : MethodName := ⟨RX0, "part", "(III)I"⟩
def dkwX0_part_3 : List UInt8 := [167, 0, 6, 20, 1, 243, 22, 4, 109, 136, 172]
abbrev dktX0_part_3 : List UInt8 := dkwX0_part_3 ++ []
def dkwX0_part_2 : List UInt8 := [180, 0, 122, 27, 47, 20, 1, 243, 184, 2, 0, 55, 4, 29, 154, 0, 12, 42, 180, 0, 122, 27, 47]
abbrev dktX0_part_2 : List UInt8 := dkwX0_part_2 ++ dktX0_part_3
def dkwX0_part_1 : List UInt8 := [180, 1, 245, 2, 160, 0, 12, 29, 3, 4, 184, 0, 160, 154, 0, 5, 2, 172, 42, 28, 182, 1, 253, 42]
abbrev dktX0_part_1 : List UInt8 := dkwX0_part_1 ++ dktX0_part_2
def dkwX0_part_0 : List UInt8 := [42, 27, 182, 1, 234, 153, 0, 33, 42, 28, 182, 1, 234, 153, 0, 25, 42, 180, 0, 118, 28, 50]
abbrev dktX0_part_0 : List UInt8 := dkwX0_part_0 ++ dktX0_part_1
theorem dksX0_part_0 : cX0_part.data.toList.drop 0 = dktX0_part_0 := by decide +kernel
theorem dksX0_part_1 : cX0_part.data.toList.drop 22 = dktX0_part_1 := dk_seg dksX0_part_0 22 rfl rfl
theorem dksX0_part_2 : cX0_part.data.toList.drop 46 = dktX0_part_2 := dk_seg dksX0_part_1 24 rfl rfl
theorem dksX0_part_3 : cX0_part.data.toList.drop 69 = dktX0_part_3 := dk_seg dksX0_part_2 23 rfl rfl
theorem dX0_part_0 : decode cX0_part 0 = .ok (.aload_n 0, 1) := dk_42 (dk_at dksX0_part_0 0 rfl rfl)
theorem dX0_part_1 : decode cX0_part 1 = .ok (.iload_n 1, 1) := dk_27 (dk_at dksX0_part_0 1 rfl rfl)
theorem dX0_part_2 : decode cX0_part 2 = .ok (.invokevirtual 490, 3) := dk_182 1 234 (dk_at dksX0_part_0 2 rfl rfl)
theorem dX0_part_5 : decode cX0_part 5 = .ok (.ifCond .eq 33, 3) := dk_153 0 33 (dk_at dksX0_part_0 5 rfl rfl)
theorem dX0_part_8 : decode cX0_part 8 = .ok (.aload_n 0, 1) := dk_42 (dk_at dksX0_part_0 8 rfl rfl)
theorem dX0_part_9 : decode cX0_part 9 = .ok (.iload_n 2, 1) := dk_28 (dk_at dksX0_part_0 9 rfl rfl)
theorem dX0_part_10 : decode cX0_part 10 = .ok (.invokevirtual 490, 3) := dk_182 1 234 (dk_at dksX0_part_0 10 rfl rfl)
theorem dX0_part_13 : decode cX0_part 13 = .ok (.ifCond .eq 25, 3) := dk_153 0 25 (dk_at dksX0_part_0 13 rfl rfl)
theorem dX0_part_16 : decode cX0_part 16 = .ok (.aload_n 0, 1) := dk_42 (dk_at dksX0_part_0 16 rfl rfl)
theorem dX0_part_17 : decode cX0_part 17 = .ok (.getfield 118, 3) := dk_180 0 118 (dk_at dksX0_part_0 17 rfl rfl)
theorem dX0_part_20 : decode cX0_part 20 = .ok (.iload_n 2, 1) := dk_28 (dk_at dksX0_part_0 20 rfl rfl)
theorem dX0_part_21 : decode cX0_part 21 = .ok (.aaload, 1) := dk_50 (dk_at dksX0_part_0 21 rfl rfl)
theorem dX0_part_22 : decode cX0_part 22 = .ok (.getfield 501, 3) := dk_180 1 245 (dk_at dksX0_part_1 0 rfl rfl)
theorem dX0_part_25 : decode cX0_part 25 = .ok (.iconst (-1), 1) := dk_2 (dk_at dksX0_part_1 3 rfl rfl)
theorem dX0_part_26 : decode cX0_part 26 = .ok (.if_icmp .ne 12, 3) := dk_160 0 12 (dk_at dksX0_part_1 4 rfl rfl)
theorem dX0_part_29 : decode cX0_part 29 = .ok (.iload_n 3, 1) := dk_29 (dk_at dksX0_part_1 7 rfl rfl)
theorem dX0_part_30 : decode cX0_part 30 = .ok (.iconst 0, 1) := dk_3 (dk_at dksX0_part_1 8 rfl rfl)
theorem dX0_part_31 : decode cX0_part 31 = .ok (.iconst 1, 1) := dk_4 (dk_at dksX0_part_1 9 rfl rfl)
theorem dX0_part_32 : decode cX0_part 32 = .ok (.invokestatic 160, 3) := dk_184 0 160 (dk_at dksX0_part_1 10 rfl rfl)
theorem dX0_part_35 : decode cX0_part 35 = .ok (.ifCond .ne 5, 3) := dk_154 0 5 (dk_at dksX0_part_1 13 rfl rfl)
theorem dX0_part_38 : decode cX0_part 38 = .ok (.iconst (-1), 1) := dk_2 (dk_at dksX0_part_1 16 rfl rfl)
theorem dX0_part_39 : decode cX0_part 39 = .ok (.ireturn, 1) := dk_172 (dk_at dksX0_part_1 17 rfl rfl)
theorem dX0_part_40 : decode cX0_part 40 = .ok (.aload_n 0, 1) := dk_42 (dk_at dksX0_part_1 18 rfl rfl)
theorem dX0_part_41 : decode cX0_part 41 = .ok (.iload_n 2, 1) := dk_28 (dk_at dksX0_part_1 19 rfl rfl)
theorem dX0_part_42 : decode cX0_part 42 = .ok (.invokevirtual 509, 3) := dk_182 1 253 (dk_at dksX0_part_1 20 rfl rfl)
theorem dX0_part_45 : decode cX0_part 45 = .ok (.aload_n 0, 1) := dk_42 (dk_at dksX0_part_1 23 rfl rfl)
theorem dX0_part_46 : decode cX0_part 46 = .ok (.getfield 122, 3) := dk_180 0 122 (dk_at dksX0_part_2 0 rfl rfl)
theorem dX0_part_49 : decode cX0_part 49 = .ok (.iload_n 1, 1) := dk_27 (dk_at dksX0_part_2 3 rfl rfl)
theorem dX0_part_50 : decode cX0_part 50 = .ok (.laload, 1) := dk_47 (dk_at dksX0_part_2 4 rfl rfl)
theorem dX0_part_51 : decode cX0_part 51 = .ok (.ldc2_w 499, 3) := dk_20 1 243 (dk_at dksX0_part_2 5 rfl rfl)
theorem dX0_part_54 : decode cX0_part 54 = .ok (.invokestatic 512, 3) := dk_184 2 0 (dk_at dksX0_part_2 8 rfl rfl)
theorem dX0_part_57 : decode cX0_part 57 = .ok (.lstore 4, 2) := dk_55 4 (dk_at dksX0_part_2 11 rfl rfl)
theorem dX0_part_59 : decode cX0_part 59 = .ok (.iload_n 3, 1) := dk_29 (dk_at dksX0_part_2 13 rfl rfl)
theorem dX0_part_60 : decode cX0_part 60 = .ok (.ifCond .ne 12, 3) := dk_154 0 12 (dk_at dksX0_part_2 14 rfl rfl)
theorem dX0_part_63 : decode cX0_part 63 = .ok (.aload_n 0, 1) := dk_42 (dk_at dksX0_part_2 17 rfl rfl)
theorem dX0_part_64 : decode cX0_part 64 = .ok (.getfield 122, 3) := dk_180 0 122 (dk_at dksX0_part_2 18 rfl rfl)
theorem dX0_part_67 : decode cX0_part 67 = .ok (.iload_n 1, 1) := dk_27 (dk_at dksX0_part_2 21 rfl rfl)
theorem dX0_part_68 : decode cX0_part 68 = .ok (.laload, 1) := dk_47 (dk_at dksX0_part_2 22 rfl rfl)
theorem dX0_part_69 : decode cX0_part 69 = .ok (.goto 6, 3) := dk_167 0 6 (dk_at dksX0_part_3 0 rfl rfl)
theorem dX0_part_72 : decode cX0_part 72 = .ok (.ldc2_w 499, 3) := dk_20 1 243 (dk_at dksX0_part_3 3 rfl rfl)
theorem dX0_part_75 : decode cX0_part 75 = .ok (.lload 4, 2) := dk_22 4 (dk_at dksX0_part_3 6 rfl rfl)
theorem dX0_part_77 : decode cX0_part 77 = .ok (.ldiv, 1) := dk_109 (dk_at dksX0_part_3 8 rfl rfl)
theorem dX0_part_78 : decode cX0_part 78 = .ok (.l2i, 1) := dk_136 (dk_at dksX0_part_3 9 rfl rfl)
theorem dX0_part_79 : decode cX0_part 79 = .ok (.ireturn, 1) := dk_172 (dk_at dksX0_part_3 10 rfl rfl)
abbrev cX0_findsParts : ByteArray := prog_1_method_62_code
def yX0_findsParts : MethodName := ⟨RX0, "findsParts", "(I)V"⟩
def dkwX0_findsParts_3 : List UInt8 := [132, 2, 1, 167, 255, 186, 177]
abbrev dktX0_findsParts_3 : List UInt8 := dkwX0_findsParts_3 ++ []
def dkwX0_findsParts_2 : List UInt8 := [180, 0, 122, 45, 180, 1, 245, 47, 42, 180, 0, 122, 45, 180, 1, 248, 47, 97, 20, 1, 251, 109, 80]
abbrev dktX0_findsParts_2 : List UInt8 := dkwX0_findsParts_2 ++ dktX0_findsParts_3
def dkwX0_findsParts_1 : List UInt8 := [160, 0, 9, 20, 1, 243, 167, 0, 38, 45, 180, 1, 245, 2, 160, 0, 7, 9, 167, 0, 26, 42]
abbrev dktX0_findsParts_1 : List UInt8 := dkwX0_findsParts_1 ++ dktX0_findsParts_2
def dkwX0_findsParts_0 : List UInt8 := [3, 61, 28, 42, 180, 1, 231, 162, 0, 68, 42, 180, 0, 118, 28, 50, 78, 42, 180, 0, 122, 28, 28, 27]
abbrev dktX0_findsParts_0 : List UInt8 := dkwX0_findsParts_0 ++ dktX0_findsParts_1
theorem dksX0_findsParts_0 : cX0_findsParts.data.toList.drop 0 = dktX0_findsParts_0 := by decide +kernel
theorem dksX0_findsParts_1 : cX0_findsParts.data.toList.drop 24 = dktX0_findsParts_1 := dk_seg dksX0_findsParts_0 24 rfl rfl
theorem dksX0_findsParts_2 : cX0_findsParts.data.toList.drop 46 = dktX0_findsParts_2 := dk_seg dksX0_findsParts_1 22 rfl rfl
theorem dksX0_findsParts_3 : cX0_findsParts.data.toList.drop 69 = dktX0_findsParts_3 := dk_seg dksX0_findsParts_2 23 rfl rfl
theorem dX0_findsParts_0 : decode cX0_findsParts 0 = .ok (.iconst 0, 1) := dk_3 (dk_at dksX0_findsParts_0 0 rfl rfl)
theorem dX0_findsParts_1 : decode cX0_findsParts 1 = .ok (.istore_n 2, 1) := dk_61 (dk_at dksX0_findsParts_0 1 rfl rfl)
theorem dX0_findsParts_2 : decode cX0_findsParts 2 = .ok (.iload_n 2, 1) := dk_28 (dk_at dksX0_findsParts_0 2 rfl rfl)
theorem dX0_findsParts_3 : decode cX0_findsParts 3 = .ok (.aload_n 0, 1) := dk_42 (dk_at dksX0_findsParts_0 3 rfl rfl)
theorem dX0_findsParts_4 : decode cX0_findsParts 4 = .ok (.getfield 487, 3) := dk_180 1 231 (dk_at dksX0_findsParts_0 4 rfl rfl)
theorem dX0_findsParts_7 : decode cX0_findsParts 7 = .ok (.if_icmp .ge 68, 3) := dk_162 0 68 (dk_at dksX0_findsParts_0 7 rfl rfl)
theorem dX0_findsParts_10 : decode cX0_findsParts 10 = .ok (.aload_n 0, 1) := dk_42 (dk_at dksX0_findsParts_0 10 rfl rfl)
theorem dX0_findsParts_11 : decode cX0_findsParts 11 = .ok (.getfield 118, 3) := dk_180 0 118 (dk_at dksX0_findsParts_0 11 rfl rfl)
theorem dX0_findsParts_14 : decode cX0_findsParts 14 = .ok (.iload_n 2, 1) := dk_28 (dk_at dksX0_findsParts_0 14 rfl rfl)
theorem dX0_findsParts_15 : decode cX0_findsParts 15 = .ok (.aaload, 1) := dk_50 (dk_at dksX0_findsParts_0 15 rfl rfl)
theorem dX0_findsParts_16 : decode cX0_findsParts 16 = .ok (.astore_n 3, 1) := dk_78 (dk_at dksX0_findsParts_0 16 rfl rfl)
theorem dX0_findsParts_17 : decode cX0_findsParts 17 = .ok (.aload_n 0, 1) := dk_42 (dk_at dksX0_findsParts_0 17 rfl rfl)
theorem dX0_findsParts_18 : decode cX0_findsParts 18 = .ok (.getfield 122, 3) := dk_180 0 122 (dk_at dksX0_findsParts_0 18 rfl rfl)
theorem dX0_findsParts_21 : decode cX0_findsParts 21 = .ok (.iload_n 2, 1) := dk_28 (dk_at dksX0_findsParts_0 21 rfl rfl)
theorem dX0_findsParts_22 : decode cX0_findsParts 22 = .ok (.iload_n 2, 1) := dk_28 (dk_at dksX0_findsParts_0 22 rfl rfl)
theorem dX0_findsParts_23 : decode cX0_findsParts 23 = .ok (.iload_n 1, 1) := dk_27 (dk_at dksX0_findsParts_0 23 rfl rfl)
theorem dX0_findsParts_24 : decode cX0_findsParts 24 = .ok (.if_icmp .ne 9, 3) := dk_160 0 9 (dk_at dksX0_findsParts_1 0 rfl rfl)
theorem dX0_findsParts_27 : decode cX0_findsParts 27 = .ok (.ldc2_w 499, 3) := dk_20 1 243 (dk_at dksX0_findsParts_1 3 rfl rfl)
theorem dX0_findsParts_30 : decode cX0_findsParts 30 = .ok (.goto 38, 3) := dk_167 0 38 (dk_at dksX0_findsParts_1 6 rfl rfl)
theorem dX0_findsParts_33 : decode cX0_findsParts 33 = .ok (.aload_n 3, 1) := dk_45 (dk_at dksX0_findsParts_1 9 rfl rfl)
theorem dX0_findsParts_34 : decode cX0_findsParts 34 = .ok (.getfield 501, 3) := dk_180 1 245 (dk_at dksX0_findsParts_1 10 rfl rfl)
theorem dX0_findsParts_37 : decode cX0_findsParts 37 = .ok (.iconst (-1), 1) := dk_2 (dk_at dksX0_findsParts_1 13 rfl rfl)
theorem dX0_findsParts_38 : decode cX0_findsParts 38 = .ok (.if_icmp .ne 7, 3) := dk_160 0 7 (dk_at dksX0_findsParts_1 14 rfl rfl)
theorem dX0_findsParts_41 : decode cX0_findsParts 41 = .ok (.lconst 0, 1) := dk_9 (dk_at dksX0_findsParts_1 17 rfl rfl)
theorem dX0_findsParts_42 : decode cX0_findsParts 42 = .ok (.goto 26, 3) := dk_167 0 26 (dk_at dksX0_findsParts_1 18 rfl rfl)
theorem dX0_findsParts_45 : decode cX0_findsParts 45 = .ok (.aload_n 0, 1) := dk_42 (dk_at dksX0_findsParts_1 21 rfl rfl)
theorem dX0_findsParts_46 : decode cX0_findsParts 46 = .ok (.getfield 122, 3) := dk_180 0 122 (dk_at dksX0_findsParts_2 0 rfl rfl)
theorem dX0_findsParts_49 : decode cX0_findsParts 49 = .ok (.aload_n 3, 1) := dk_45 (dk_at dksX0_findsParts_2 3 rfl rfl)
theorem dX0_findsParts_50 : decode cX0_findsParts 50 = .ok (.getfield 501, 3) := dk_180 1 245 (dk_at dksX0_findsParts_2 4 rfl rfl)
theorem dX0_findsParts_53 : decode cX0_findsParts 53 = .ok (.laload, 1) := dk_47 (dk_at dksX0_findsParts_2 7 rfl rfl)
theorem dX0_findsParts_54 : decode cX0_findsParts 54 = .ok (.aload_n 0, 1) := dk_42 (dk_at dksX0_findsParts_2 8 rfl rfl)
theorem dX0_findsParts_55 : decode cX0_findsParts 55 = .ok (.getfield 122, 3) := dk_180 0 122 (dk_at dksX0_findsParts_2 9 rfl rfl)
theorem dX0_findsParts_58 : decode cX0_findsParts 58 = .ok (.aload_n 3, 1) := dk_45 (dk_at dksX0_findsParts_2 12 rfl rfl)
theorem dX0_findsParts_59 : decode cX0_findsParts 59 = .ok (.getfield 504, 3) := dk_180 1 248 (dk_at dksX0_findsParts_2 13 rfl rfl)
theorem dX0_findsParts_62 : decode cX0_findsParts 62 = .ok (.laload, 1) := dk_47 (dk_at dksX0_findsParts_2 16 rfl rfl)
theorem dX0_findsParts_63 : decode cX0_findsParts 63 = .ok (.ladd, 1) := dk_97 (dk_at dksX0_findsParts_2 17 rfl rfl)
theorem dX0_findsParts_64 : decode cX0_findsParts 64 = .ok (.ldc2_w 507, 3) := dk_20 1 251 (dk_at dksX0_findsParts_2 18 rfl rfl)
theorem dX0_findsParts_67 : decode cX0_findsParts 67 = .ok (.ldiv, 1) := dk_109 (dk_at dksX0_findsParts_2 21 rfl rfl)
theorem dX0_findsParts_68 : decode cX0_findsParts 68 = .ok (.lastore, 1) := dk_80 (dk_at dksX0_findsParts_2 22 rfl rfl)
theorem dX0_findsParts_69 : decode cX0_findsParts 69 = .ok (.iinc 2 1, 3) := dk_132 2 1 (dk_at dksX0_findsParts_3 0 rfl rfl)
theorem dX0_findsParts_72 : decode cX0_findsParts 72 = .ok (.goto (-70), 3) := dk_167 255 186 (dk_at dksX0_findsParts_3 3 rfl rfl)
theorem dX0_findsParts_75 : decode cX0_findsParts 75 = .ok (.return_, 1) := dk_177 (dk_at dksX0_findsParts_3 6 rfl rfl)
abbrev cX0_common : ByteArray := prog_1_method_2_code
def yX0_common : MethodName := ⟨RX0, "common", "(JJ)J"⟩
def dkwX0_common_1 : List UInt8 := [22, 8, 55, 6, 167, 255, 234, 22, 4, 173]
abbrev dktX0_common_1 : List UInt8 := dkwX0_common_1 ++ []
def dkwX0_common_0 : List UInt8 := [30, 55, 4, 32, 55, 6, 22, 6, 9, 148, 153, 0, 21, 22, 4, 22, 6, 113, 55, 8, 22, 6, 55, 4]
abbrev dktX0_common_0 : List UInt8 := dkwX0_common_0 ++ dktX0_common_1
theorem dksX0_common_0 : cX0_common.data.toList.drop 0 = dktX0_common_0 := by decide +kernel
theorem dksX0_common_1 : cX0_common.data.toList.drop 24 = dktX0_common_1 := dk_seg dksX0_common_0 24 rfl rfl
theorem dX0_common_0 : decode cX0_common 0 = .ok (.lload_n 0, 1) := dk_30 (dk_at dksX0_common_0 0 rfl rfl)
theorem dX0_common_1 : decode cX0_common 1 = .ok (.lstore 4, 2) := dk_55 4 (dk_at dksX0_common_0 1 rfl rfl)
theorem dX0_common_3 : decode cX0_common 3 = .ok (.lload_n 2, 1) := dk_32 (dk_at dksX0_common_0 3 rfl rfl)
theorem dX0_common_4 : decode cX0_common 4 = .ok (.lstore 6, 2) := dk_55 6 (dk_at dksX0_common_0 4 rfl rfl)
theorem dX0_common_6 : decode cX0_common 6 = .ok (.lload 6, 2) := dk_22 6 (dk_at dksX0_common_0 6 rfl rfl)
theorem dX0_common_8 : decode cX0_common 8 = .ok (.lconst 0, 1) := dk_9 (dk_at dksX0_common_0 8 rfl rfl)
theorem dX0_common_9 : decode cX0_common 9 = .ok (.lcmp, 1) := dk_148 (dk_at dksX0_common_0 9 rfl rfl)
theorem dX0_common_10 : decode cX0_common 10 = .ok (.ifCond .eq 21, 3) := dk_153 0 21 (dk_at dksX0_common_0 10 rfl rfl)
theorem dX0_common_13 : decode cX0_common 13 = .ok (.lload 4, 2) := dk_22 4 (dk_at dksX0_common_0 13 rfl rfl)
theorem dX0_common_15 : decode cX0_common 15 = .ok (.lload 6, 2) := dk_22 6 (dk_at dksX0_common_0 15 rfl rfl)
theorem dX0_common_17 : decode cX0_common 17 = .ok (.lrem, 1) := dk_113 (dk_at dksX0_common_0 17 rfl rfl)
theorem dX0_common_18 : decode cX0_common 18 = .ok (.lstore 8, 2) := dk_55 8 (dk_at dksX0_common_0 18 rfl rfl)
theorem dX0_common_20 : decode cX0_common 20 = .ok (.lload 6, 2) := dk_22 6 (dk_at dksX0_common_0 20 rfl rfl)
theorem dX0_common_22 : decode cX0_common 22 = .ok (.lstore 4, 2) := dk_55 4 (dk_at dksX0_common_0 22 rfl rfl)
theorem dX0_common_24 : decode cX0_common 24 = .ok (.lload 8, 2) := dk_22 8 (dk_at dksX0_common_1 0 rfl rfl)
theorem dX0_common_26 : decode cX0_common 26 = .ok (.lstore 6, 2) := dk_55 6 (dk_at dksX0_common_1 2 rfl rfl)
theorem dX0_common_28 : decode cX0_common 28 = .ok (.goto (-22), 3) := dk_167 255 234 (dk_at dksX0_common_1 4 rfl rfl)
theorem dX0_common_31 : decode cX0_common 31 = .ok (.lload 4, 2) := dk_22 4 (dk_at dksX0_common_1 7 rfl rfl)
theorem dX0_common_33 : decode cX0_common 33 = .ok (.lreturn, 1) := dk_173 (dk_at dksX0_common_1 9 rfl rfl)
abbrev cX0_lent : ByteArray := prog_1_method_65_code
def yX0_lent : MethodName := ⟨RX0, "lent", "(II)I"⟩
def dkwX0_lent_3 : List UInt8 := [182, 2, 13, 172, 16, 254, 172]
abbrev dktX0_lent_3 : List UInt8 := dkwX0_lent_3 ++ []
def dkwX0_lent_2 : List UInt8 := [45, 180, 1, 237, 172, 45, 180, 2, 8, 172, 45, 180, 1, 245, 172, 45, 180, 1, 248, 172, 42, 27]
abbrev dktX0_lent_2 : List UInt8 := dkwX0_lent_2 ++ dktX0_lent_3
def dkwX0_lent_1 : List UInt8 := [170, 0, 0, 0, 59, 0, 0, 0, 0, 0, 0, 0, 4, 0, 0, 0, 33, 0, 0, 0, 38, 0, 0, 0, 43, 0, 0, 0, 48, 0, 0, 0, 53]
abbrev dktX0_lent_1 : List UInt8 := dkwX0_lent_1 ++ dktX0_lent_2
def dkwX0_lent_0 : List UInt8 := [42, 27, 182, 1, 234, 154, 0, 6, 16, 254, 172, 42, 180, 0, 118, 27, 50, 78, 28]
abbrev dktX0_lent_0 : List UInt8 := dkwX0_lent_0 ++ dktX0_lent_1
theorem dksX0_lent_0 : cX0_lent.data.toList.drop 0 = dktX0_lent_0 := by decide +kernel
theorem dksX0_lent_1 : cX0_lent.data.toList.drop 19 = dktX0_lent_1 := dk_seg dksX0_lent_0 19 rfl rfl
theorem dksX0_lent_2 : cX0_lent.data.toList.drop 52 = dktX0_lent_2 := dk_seg dksX0_lent_1 33 rfl rfl
theorem dksX0_lent_3 : cX0_lent.data.toList.drop 74 = dktX0_lent_3 := dk_seg dksX0_lent_2 22 rfl rfl
theorem dX0_lent_0 : decode cX0_lent 0 = .ok (.aload_n 0, 1) := dk_42 (dk_at dksX0_lent_0 0 rfl rfl)
theorem dX0_lent_1 : decode cX0_lent 1 = .ok (.iload_n 1, 1) := dk_27 (dk_at dksX0_lent_0 1 rfl rfl)
theorem dX0_lent_2 : decode cX0_lent 2 = .ok (.invokevirtual 490, 3) := dk_182 1 234 (dk_at dksX0_lent_0 2 rfl rfl)
theorem dX0_lent_5 : decode cX0_lent 5 = .ok (.ifCond .ne 6, 3) := dk_154 0 6 (dk_at dksX0_lent_0 5 rfl rfl)
theorem dX0_lent_8 : decode cX0_lent 8 = .ok (.bipush (-2), 2) := dk_16 254 (dk_at dksX0_lent_0 8 rfl rfl)
theorem dX0_lent_10 : decode cX0_lent 10 = .ok (.ireturn, 1) := dk_172 (dk_at dksX0_lent_0 10 rfl rfl)
theorem dX0_lent_11 : decode cX0_lent 11 = .ok (.aload_n 0, 1) := dk_42 (dk_at dksX0_lent_0 11 rfl rfl)
theorem dX0_lent_12 : decode cX0_lent 12 = .ok (.getfield 118, 3) := dk_180 0 118 (dk_at dksX0_lent_0 12 rfl rfl)
theorem dX0_lent_15 : decode cX0_lent 15 = .ok (.iload_n 1, 1) := dk_27 (dk_at dksX0_lent_0 15 rfl rfl)
theorem dX0_lent_16 : decode cX0_lent 16 = .ok (.aaload, 1) := dk_50 (dk_at dksX0_lent_0 16 rfl rfl)
theorem dX0_lent_17 : decode cX0_lent 17 = .ok (.astore_n 3, 1) := dk_78 (dk_at dksX0_lent_0 17 rfl rfl)
theorem dX0_lent_18 : decode cX0_lent 18 = .ok (.iload_n 2, 1) := dk_28 (dk_at dksX0_lent_0 18 rfl rfl)
theorem dX0_lent_19 : decode cX0_lent 19 = .ok (.tableswitch 59 0 4 #[33, 38, 43, 48, 53], 33) := by decide +kernel
theorem dX0_lent_52 : decode cX0_lent 52 = .ok (.aload_n 3, 1) := dk_45 (dk_at dksX0_lent_2 0 rfl rfl)
theorem dX0_lent_53 : decode cX0_lent 53 = .ok (.getfield 493, 3) := dk_180 1 237 (dk_at dksX0_lent_2 1 rfl rfl)
theorem dX0_lent_56 : decode cX0_lent 56 = .ok (.ireturn, 1) := dk_172 (dk_at dksX0_lent_2 4 rfl rfl)
theorem dX0_lent_57 : decode cX0_lent 57 = .ok (.aload_n 3, 1) := dk_45 (dk_at dksX0_lent_2 5 rfl rfl)
theorem dX0_lent_58 : decode cX0_lent 58 = .ok (.getfield 520, 3) := dk_180 2 8 (dk_at dksX0_lent_2 6 rfl rfl)
theorem dX0_lent_61 : decode cX0_lent 61 = .ok (.ireturn, 1) := dk_172 (dk_at dksX0_lent_2 9 rfl rfl)
theorem dX0_lent_62 : decode cX0_lent 62 = .ok (.aload_n 3, 1) := dk_45 (dk_at dksX0_lent_2 10 rfl rfl)
theorem dX0_lent_63 : decode cX0_lent 63 = .ok (.getfield 501, 3) := dk_180 1 245 (dk_at dksX0_lent_2 11 rfl rfl)
theorem dX0_lent_66 : decode cX0_lent 66 = .ok (.ireturn, 1) := dk_172 (dk_at dksX0_lent_2 14 rfl rfl)
theorem dX0_lent_67 : decode cX0_lent 67 = .ok (.aload_n 3, 1) := dk_45 (dk_at dksX0_lent_2 15 rfl rfl)
theorem dX0_lent_68 : decode cX0_lent 68 = .ok (.getfield 504, 3) := dk_180 1 248 (dk_at dksX0_lent_2 16 rfl rfl)
theorem dX0_lent_71 : decode cX0_lent 71 = .ok (.ireturn, 1) := dk_172 (dk_at dksX0_lent_2 19 rfl rfl)
theorem dX0_lent_72 : decode cX0_lent 72 = .ok (.aload_n 0, 1) := dk_42 (dk_at dksX0_lent_2 20 rfl rfl)
theorem dX0_lent_73 : decode cX0_lent 73 = .ok (.iload_n 1, 1) := dk_27 (dk_at dksX0_lent_2 21 rfl rfl)
theorem dX0_lent_74 : decode cX0_lent 74 = .ok (.invokevirtual 525, 3) := dk_182 2 13 (dk_at dksX0_lent_3 0 rfl rfl)
theorem dX0_lent_77 : decode cX0_lent 77 = .ok (.ireturn, 1) := dk_172 (dk_at dksX0_lent_3 3 rfl rfl)
theorem dX0_lent_78 : decode cX0_lent 78 = .ok (.bipush (-2), 2) := dk_16 254 (dk_at dksX0_lent_3 4 rfl rfl)
theorem dX0_lent_80 : decode cX0_lent 80 = .ok (.ireturn, 1) := dk_172 (dk_at dksX0_lent_3 6 rfl rfl)
abbrev cX0_housesOf : ByteArray := prog_1_method_64_code
def yX0_housesOf : MethodName := ⟨RX0, "housesOf", "(I)I"⟩
def dkwX0_housesOf_2 : List UInt8 := [167, 255, 212, 28, 184, 2, 10, 172]
abbrev dktX0_housesOf_2 : List UInt8 := dkwX0_housesOf_2 ++ []
def dkwX0_housesOf_1 : List UInt8 := [29, 182, 2, 4, 153, 0, 17, 28, 4, 42, 180, 0, 118, 29, 50, 180, 2, 8, 120, 128, 61, 132, 3, 1]
abbrev dktX0_housesOf_1 : List UInt8 := dkwX0_housesOf_1 ++ dktX0_housesOf_2
def dkwX0_housesOf_0 : List UInt8 := [3, 61, 3, 62, 29, 27, 163, 0, 45, 42, 180, 0, 118, 29, 50, 180, 1, 245, 2, 160, 0, 26, 42, 27]
abbrev dktX0_housesOf_0 : List UInt8 := dkwX0_housesOf_0 ++ dktX0_housesOf_1
theorem dksX0_housesOf_0 : cX0_housesOf.data.toList.drop 0 = dktX0_housesOf_0 := by decide +kernel
theorem dksX0_housesOf_1 : cX0_housesOf.data.toList.drop 24 = dktX0_housesOf_1 := dk_seg dksX0_housesOf_0 24 rfl rfl
theorem dksX0_housesOf_2 : cX0_housesOf.data.toList.drop 48 = dktX0_housesOf_2 := dk_seg dksX0_housesOf_1 24 rfl rfl
theorem dX0_housesOf_0 : decode cX0_housesOf 0 = .ok (.iconst 0, 1) := dk_3 (dk_at dksX0_housesOf_0 0 rfl rfl)
theorem dX0_housesOf_1 : decode cX0_housesOf 1 = .ok (.istore_n 2, 1) := dk_61 (dk_at dksX0_housesOf_0 1 rfl rfl)
theorem dX0_housesOf_2 : decode cX0_housesOf 2 = .ok (.iconst 0, 1) := dk_3 (dk_at dksX0_housesOf_0 2 rfl rfl)
theorem dX0_housesOf_3 : decode cX0_housesOf 3 = .ok (.istore_n 3, 1) := dk_62 (dk_at dksX0_housesOf_0 3 rfl rfl)
theorem dX0_housesOf_4 : decode cX0_housesOf 4 = .ok (.iload_n 3, 1) := dk_29 (dk_at dksX0_housesOf_0 4 rfl rfl)
theorem dX0_housesOf_5 : decode cX0_housesOf 5 = .ok (.iload_n 1, 1) := dk_27 (dk_at dksX0_housesOf_0 5 rfl rfl)
theorem dX0_housesOf_6 : decode cX0_housesOf 6 = .ok (.if_icmp .gt 45, 3) := dk_163 0 45 (dk_at dksX0_housesOf_0 6 rfl rfl)
theorem dX0_housesOf_9 : decode cX0_housesOf 9 = .ok (.aload_n 0, 1) := dk_42 (dk_at dksX0_housesOf_0 9 rfl rfl)
theorem dX0_housesOf_10 : decode cX0_housesOf 10 = .ok (.getfield 118, 3) := dk_180 0 118 (dk_at dksX0_housesOf_0 10 rfl rfl)
theorem dX0_housesOf_13 : decode cX0_housesOf 13 = .ok (.iload_n 3, 1) := dk_29 (dk_at dksX0_housesOf_0 13 rfl rfl)
theorem dX0_housesOf_14 : decode cX0_housesOf 14 = .ok (.aaload, 1) := dk_50 (dk_at dksX0_housesOf_0 14 rfl rfl)
theorem dX0_housesOf_15 : decode cX0_housesOf 15 = .ok (.getfield 501, 3) := dk_180 1 245 (dk_at dksX0_housesOf_0 15 rfl rfl)
theorem dX0_housesOf_18 : decode cX0_housesOf 18 = .ok (.iconst (-1), 1) := dk_2 (dk_at dksX0_housesOf_0 18 rfl rfl)
theorem dX0_housesOf_19 : decode cX0_housesOf 19 = .ok (.if_icmp .ne 26, 3) := dk_160 0 26 (dk_at dksX0_housesOf_0 19 rfl rfl)
theorem dX0_housesOf_22 : decode cX0_housesOf 22 = .ok (.aload_n 0, 1) := dk_42 (dk_at dksX0_housesOf_0 22 rfl rfl)
theorem dX0_housesOf_23 : decode cX0_housesOf 23 = .ok (.iload_n 1, 1) := dk_27 (dk_at dksX0_housesOf_0 23 rfl rfl)
theorem dX0_housesOf_24 : decode cX0_housesOf 24 = .ok (.iload_n 3, 1) := dk_29 (dk_at dksX0_housesOf_1 0 rfl rfl)
theorem dX0_housesOf_25 : decode cX0_housesOf 25 = .ok (.invokevirtual 516, 3) := dk_182 2 4 (dk_at dksX0_housesOf_1 1 rfl rfl)
theorem dX0_housesOf_28 : decode cX0_housesOf 28 = .ok (.ifCond .eq 17, 3) := dk_153 0 17 (dk_at dksX0_housesOf_1 4 rfl rfl)
theorem dX0_housesOf_31 : decode cX0_housesOf 31 = .ok (.iload_n 2, 1) := dk_28 (dk_at dksX0_housesOf_1 7 rfl rfl)
theorem dX0_housesOf_32 : decode cX0_housesOf 32 = .ok (.iconst 1, 1) := dk_4 (dk_at dksX0_housesOf_1 8 rfl rfl)
theorem dX0_housesOf_33 : decode cX0_housesOf 33 = .ok (.aload_n 0, 1) := dk_42 (dk_at dksX0_housesOf_1 9 rfl rfl)
theorem dX0_housesOf_34 : decode cX0_housesOf 34 = .ok (.getfield 118, 3) := dk_180 0 118 (dk_at dksX0_housesOf_1 10 rfl rfl)
theorem dX0_housesOf_37 : decode cX0_housesOf 37 = .ok (.iload_n 3, 1) := dk_29 (dk_at dksX0_housesOf_1 13 rfl rfl)
theorem dX0_housesOf_38 : decode cX0_housesOf 38 = .ok (.aaload, 1) := dk_50 (dk_at dksX0_housesOf_1 14 rfl rfl)
theorem dX0_housesOf_39 : decode cX0_housesOf 39 = .ok (.getfield 520, 3) := dk_180 2 8 (dk_at dksX0_housesOf_1 15 rfl rfl)
theorem dX0_housesOf_42 : decode cX0_housesOf 42 = .ok (.ishl, 1) := dk_120 (dk_at dksX0_housesOf_1 18 rfl rfl)
theorem dX0_housesOf_43 : decode cX0_housesOf 43 = .ok (.ior, 1) := dk_128 (dk_at dksX0_housesOf_1 19 rfl rfl)
theorem dX0_housesOf_44 : decode cX0_housesOf 44 = .ok (.istore_n 2, 1) := dk_61 (dk_at dksX0_housesOf_1 20 rfl rfl)
theorem dX0_housesOf_45 : decode cX0_housesOf 45 = .ok (.iinc 3 1, 3) := dk_132 3 1 (dk_at dksX0_housesOf_1 21 rfl rfl)
theorem dX0_housesOf_48 : decode cX0_housesOf 48 = .ok (.goto (-44), 3) := dk_167 255 212 (dk_at dksX0_housesOf_2 0 rfl rfl)
theorem dX0_housesOf_51 : decode cX0_housesOf 51 = .ok (.iload_n 2, 1) := dk_28 (dk_at dksX0_housesOf_2 3 rfl rfl)
theorem dX0_housesOf_52 : decode cX0_housesOf 52 = .ok (.invokestatic 522, 3) := dk_184 2 10 (dk_at dksX0_housesOf_2 4 rfl rfl)
theorem dX0_housesOf_55 : decode cX0_housesOf 55 = .ok (.ireturn, 1) := dk_172 (dk_at dksX0_housesOf_2 7 rfl rfl)
abbrev cX0_isLed : ByteArray := prog_1_method_66_code
def yX0_isLed : MethodName := ⟨RX0, "isLed", "(II)Z"⟩
def dkwX0_isLed_3 : List UInt8 := [167, 255, 194, 33, 28, 123, 10, 127, 10, 148, 154, 0, 7, 4, 167, 0, 4, 3, 172]
abbrev dktX0_isLed_3 : List UInt8 := dkwX0_isLed_3 ++ []
def dkwX0_isLed_2 : List UInt8 := [180, 1, 245, 121, 10, 42, 180, 0, 118, 21, 5, 50, 180, 1, 248, 121, 129, 129, 66, 132, 5, 255]
abbrev dktX0_isLed_2 : List UInt8 := dkwX0_isLed_2 ++ dktX0_isLed_3
def dkwX0_isLed_1 : List UInt8 := [42, 180, 0, 118, 21, 5, 50, 180, 1, 245, 2, 159, 0, 31, 33, 10, 42, 180, 0, 118, 21, 5, 50]
abbrev dktX0_isLed_1 : List UInt8 := dkwX0_isLed_1 ++ dktX0_isLed_2
def dkwX0_isLed_0 : List UInt8 := [10, 27, 121, 66, 27, 54, 5, 21, 5, 28, 164, 0, 62, 33, 21, 5, 123, 10, 127, 10, 148, 154, 0, 45]
abbrev dktX0_isLed_0 : List UInt8 := dkwX0_isLed_0 ++ dktX0_isLed_1
theorem dksX0_isLed_0 : cX0_isLed.data.toList.drop 0 = dktX0_isLed_0 := by decide +kernel
theorem dksX0_isLed_1 : cX0_isLed.data.toList.drop 24 = dktX0_isLed_1 := dk_seg dksX0_isLed_0 24 rfl rfl
theorem dksX0_isLed_2 : cX0_isLed.data.toList.drop 47 = dktX0_isLed_2 := dk_seg dksX0_isLed_1 23 rfl rfl
theorem dksX0_isLed_3 : cX0_isLed.data.toList.drop 69 = dktX0_isLed_3 := dk_seg dksX0_isLed_2 22 rfl rfl
theorem dX0_isLed_0 : decode cX0_isLed 0 = .ok (.lconst 1, 1) := dk_10 (dk_at dksX0_isLed_0 0 rfl rfl)
theorem dX0_isLed_1 : decode cX0_isLed 1 = .ok (.iload_n 1, 1) := dk_27 (dk_at dksX0_isLed_0 1 rfl rfl)
theorem dX0_isLed_2 : decode cX0_isLed 2 = .ok (.lshl, 1) := dk_121 (dk_at dksX0_isLed_0 2 rfl rfl)
theorem dX0_isLed_3 : decode cX0_isLed 3 = .ok (.lstore_n 3, 1) := dk_66 (dk_at dksX0_isLed_0 3 rfl rfl)
theorem dX0_isLed_4 : decode cX0_isLed 4 = .ok (.iload_n 1, 1) := dk_27 (dk_at dksX0_isLed_0 4 rfl rfl)
theorem dX0_isLed_5 : decode cX0_isLed 5 = .ok (.istore 5, 2) := dk_54 5 (dk_at dksX0_isLed_0 5 rfl rfl)
theorem dX0_isLed_7 : decode cX0_isLed 7 = .ok (.iload 5, 2) := dk_21 5 (dk_at dksX0_isLed_0 7 rfl rfl)
theorem dX0_isLed_9 : decode cX0_isLed 9 = .ok (.iload_n 2, 1) := dk_28 (dk_at dksX0_isLed_0 9 rfl rfl)
theorem dX0_isLed_10 : decode cX0_isLed 10 = .ok (.if_icmp .le 62, 3) := dk_164 0 62 (dk_at dksX0_isLed_0 10 rfl rfl)
theorem dX0_isLed_13 : decode cX0_isLed 13 = .ok (.lload_n 3, 1) := dk_33 (dk_at dksX0_isLed_0 13 rfl rfl)
theorem dX0_isLed_14 : decode cX0_isLed 14 = .ok (.iload 5, 2) := dk_21 5 (dk_at dksX0_isLed_0 14 rfl rfl)
theorem dX0_isLed_16 : decode cX0_isLed 16 = .ok (.lshr, 1) := dk_123 (dk_at dksX0_isLed_0 16 rfl rfl)
theorem dX0_isLed_17 : decode cX0_isLed 17 = .ok (.lconst 1, 1) := dk_10 (dk_at dksX0_isLed_0 17 rfl rfl)
theorem dX0_isLed_18 : decode cX0_isLed 18 = .ok (.land, 1) := dk_127 (dk_at dksX0_isLed_0 18 rfl rfl)
theorem dX0_isLed_19 : decode cX0_isLed 19 = .ok (.lconst 1, 1) := dk_10 (dk_at dksX0_isLed_0 19 rfl rfl)
theorem dX0_isLed_20 : decode cX0_isLed 20 = .ok (.lcmp, 1) := dk_148 (dk_at dksX0_isLed_0 20 rfl rfl)
theorem dX0_isLed_21 : decode cX0_isLed 21 = .ok (.ifCond .ne 45, 3) := dk_154 0 45 (dk_at dksX0_isLed_0 21 rfl rfl)
theorem dX0_isLed_24 : decode cX0_isLed 24 = .ok (.aload_n 0, 1) := dk_42 (dk_at dksX0_isLed_1 0 rfl rfl)
theorem dX0_isLed_25 : decode cX0_isLed 25 = .ok (.getfield 118, 3) := dk_180 0 118 (dk_at dksX0_isLed_1 1 rfl rfl)
theorem dX0_isLed_28 : decode cX0_isLed 28 = .ok (.iload 5, 2) := dk_21 5 (dk_at dksX0_isLed_1 4 rfl rfl)
theorem dX0_isLed_30 : decode cX0_isLed 30 = .ok (.aaload, 1) := dk_50 (dk_at dksX0_isLed_1 6 rfl rfl)
theorem dX0_isLed_31 : decode cX0_isLed 31 = .ok (.getfield 501, 3) := dk_180 1 245 (dk_at dksX0_isLed_1 7 rfl rfl)
theorem dX0_isLed_34 : decode cX0_isLed 34 = .ok (.iconst (-1), 1) := dk_2 (dk_at dksX0_isLed_1 10 rfl rfl)
theorem dX0_isLed_35 : decode cX0_isLed 35 = .ok (.if_icmp .eq 31, 3) := dk_159 0 31 (dk_at dksX0_isLed_1 11 rfl rfl)
theorem dX0_isLed_38 : decode cX0_isLed 38 = .ok (.lload_n 3, 1) := dk_33 (dk_at dksX0_isLed_1 14 rfl rfl)
theorem dX0_isLed_39 : decode cX0_isLed 39 = .ok (.lconst 1, 1) := dk_10 (dk_at dksX0_isLed_1 15 rfl rfl)
theorem dX0_isLed_40 : decode cX0_isLed 40 = .ok (.aload_n 0, 1) := dk_42 (dk_at dksX0_isLed_1 16 rfl rfl)
theorem dX0_isLed_41 : decode cX0_isLed 41 = .ok (.getfield 118, 3) := dk_180 0 118 (dk_at dksX0_isLed_1 17 rfl rfl)
theorem dX0_isLed_44 : decode cX0_isLed 44 = .ok (.iload 5, 2) := dk_21 5 (dk_at dksX0_isLed_1 20 rfl rfl)
theorem dX0_isLed_46 : decode cX0_isLed 46 = .ok (.aaload, 1) := dk_50 (dk_at dksX0_isLed_1 22 rfl rfl)
theorem dX0_isLed_47 : decode cX0_isLed 47 = .ok (.getfield 501, 3) := dk_180 1 245 (dk_at dksX0_isLed_2 0 rfl rfl)
theorem dX0_isLed_50 : decode cX0_isLed 50 = .ok (.lshl, 1) := dk_121 (dk_at dksX0_isLed_2 3 rfl rfl)
theorem dX0_isLed_51 : decode cX0_isLed 51 = .ok (.lconst 1, 1) := dk_10 (dk_at dksX0_isLed_2 4 rfl rfl)
theorem dX0_isLed_52 : decode cX0_isLed 52 = .ok (.aload_n 0, 1) := dk_42 (dk_at dksX0_isLed_2 5 rfl rfl)
theorem dX0_isLed_53 : decode cX0_isLed 53 = .ok (.getfield 118, 3) := dk_180 0 118 (dk_at dksX0_isLed_2 6 rfl rfl)
theorem dX0_isLed_56 : decode cX0_isLed 56 = .ok (.iload 5, 2) := dk_21 5 (dk_at dksX0_isLed_2 9 rfl rfl)
theorem dX0_isLed_58 : decode cX0_isLed 58 = .ok (.aaload, 1) := dk_50 (dk_at dksX0_isLed_2 11 rfl rfl)
theorem dX0_isLed_59 : decode cX0_isLed 59 = .ok (.getfield 504, 3) := dk_180 1 248 (dk_at dksX0_isLed_2 12 rfl rfl)
theorem dX0_isLed_62 : decode cX0_isLed 62 = .ok (.lshl, 1) := dk_121 (dk_at dksX0_isLed_2 15 rfl rfl)
theorem dX0_isLed_63 : decode cX0_isLed 63 = .ok (.lor, 1) := dk_129 (dk_at dksX0_isLed_2 16 rfl rfl)
theorem dX0_isLed_64 : decode cX0_isLed 64 = .ok (.lor, 1) := dk_129 (dk_at dksX0_isLed_2 17 rfl rfl)
theorem dX0_isLed_65 : decode cX0_isLed 65 = .ok (.lstore_n 3, 1) := dk_66 (dk_at dksX0_isLed_2 18 rfl rfl)
theorem dX0_isLed_66 : decode cX0_isLed 66 = .ok (.iinc 5 (-1), 3) := dk_132 5 255 (dk_at dksX0_isLed_2 19 rfl rfl)
theorem dX0_isLed_69 : decode cX0_isLed 69 = .ok (.goto (-62), 3) := dk_167 255 194 (dk_at dksX0_isLed_3 0 rfl rfl)
theorem dX0_isLed_72 : decode cX0_isLed 72 = .ok (.lload_n 3, 1) := dk_33 (dk_at dksX0_isLed_3 3 rfl rfl)
theorem dX0_isLed_73 : decode cX0_isLed 73 = .ok (.iload_n 2, 1) := dk_28 (dk_at dksX0_isLed_3 4 rfl rfl)
theorem dX0_isLed_74 : decode cX0_isLed 74 = .ok (.lshr, 1) := dk_123 (dk_at dksX0_isLed_3 5 rfl rfl)
theorem dX0_isLed_75 : decode cX0_isLed 75 = .ok (.lconst 1, 1) := dk_10 (dk_at dksX0_isLed_3 6 rfl rfl)
theorem dX0_isLed_76 : decode cX0_isLed 76 = .ok (.land, 1) := dk_127 (dk_at dksX0_isLed_3 7 rfl rfl)
theorem dX0_isLed_77 : decode cX0_isLed 77 = .ok (.lconst 1, 1) := dk_10 (dk_at dksX0_isLed_3 8 rfl rfl)
theorem dX0_isLed_78 : decode cX0_isLed 78 = .ok (.lcmp, 1) := dk_148 (dk_at dksX0_isLed_3 9 rfl rfl)
theorem dX0_isLed_79 : decode cX0_isLed 79 = .ok (.ifCond .ne 7, 3) := dk_154 0 7 (dk_at dksX0_isLed_3 10 rfl rfl)
theorem dX0_isLed_82 : decode cX0_isLed 82 = .ok (.iconst 1, 1) := dk_4 (dk_at dksX0_isLed_3 13 rfl rfl)
theorem dX0_isLed_83 : decode cX0_isLed 83 = .ok (.goto 4, 3) := dk_167 0 4 (dk_at dksX0_isLed_3 14 rfl rfl)
theorem dX0_isLed_86 : decode cX0_isLed 86 = .ok (.iconst 0, 1) := dk_3 (dk_at dksX0_isLed_3 17 rfl rfl)
theorem dX0_isLed_87 : decode cX0_isLed 87 = .ok (.ireturn, 1) := dk_172 (dk_at dksX0_isLed_3 18 rfl rfl)
abbrev cX0_led : ByteArray := prog_1_method_67_code
def yX0_led : MethodName := ⟨RX0, "led", "(II)I"⟩
def dkwX0_led_1 : List UInt8 := [153, 0, 7, 4, 167, 0, 8, 3, 167, 0, 4, 2, 172]
abbrev dktX0_led_1 : List UInt8 := dkwX0_led_1 ++ []
def dkwX0_led_0 : List UInt8 := [42, 27, 182, 1, 234, 153, 0, 28, 42, 28, 182, 1, 234, 153, 0, 20, 42, 27, 28, 182, 2, 4]
abbrev dktX0_led_0 : List UInt8 := dkwX0_led_0 ++ dktX0_led_1
theorem dksX0_led_0 : cX0_led.data.toList.drop 0 = dktX0_led_0 := by decide +kernel
theorem dksX0_led_1 : cX0_led.data.toList.drop 22 = dktX0_led_1 := dk_seg dksX0_led_0 22 rfl rfl
theorem dX0_led_0 : decode cX0_led 0 = .ok (.aload_n 0, 1) := dk_42 (dk_at dksX0_led_0 0 rfl rfl)
theorem dX0_led_1 : decode cX0_led 1 = .ok (.iload_n 1, 1) := dk_27 (dk_at dksX0_led_0 1 rfl rfl)
theorem dX0_led_2 : decode cX0_led 2 = .ok (.invokevirtual 490, 3) := dk_182 1 234 (dk_at dksX0_led_0 2 rfl rfl)
theorem dX0_led_5 : decode cX0_led 5 = .ok (.ifCond .eq 28, 3) := dk_153 0 28 (dk_at dksX0_led_0 5 rfl rfl)
theorem dX0_led_8 : decode cX0_led 8 = .ok (.aload_n 0, 1) := dk_42 (dk_at dksX0_led_0 8 rfl rfl)
theorem dX0_led_9 : decode cX0_led 9 = .ok (.iload_n 2, 1) := dk_28 (dk_at dksX0_led_0 9 rfl rfl)
theorem dX0_led_10 : decode cX0_led 10 = .ok (.invokevirtual 490, 3) := dk_182 1 234 (dk_at dksX0_led_0 10 rfl rfl)
theorem dX0_led_13 : decode cX0_led 13 = .ok (.ifCond .eq 20, 3) := dk_153 0 20 (dk_at dksX0_led_0 13 rfl rfl)
theorem dX0_led_16 : decode cX0_led 16 = .ok (.aload_n 0, 1) := dk_42 (dk_at dksX0_led_0 16 rfl rfl)
theorem dX0_led_17 : decode cX0_led 17 = .ok (.iload_n 1, 1) := dk_27 (dk_at dksX0_led_0 17 rfl rfl)
theorem dX0_led_18 : decode cX0_led 18 = .ok (.iload_n 2, 1) := dk_28 (dk_at dksX0_led_0 18 rfl rfl)
theorem dX0_led_19 : decode cX0_led 19 = .ok (.invokevirtual 516, 3) := dk_182 2 4 (dk_at dksX0_led_0 19 rfl rfl)
theorem dX0_led_22 : decode cX0_led 22 = .ok (.ifCond .eq 7, 3) := dk_153 0 7 (dk_at dksX0_led_1 0 rfl rfl)
theorem dX0_led_25 : decode cX0_led 25 = .ok (.iconst 1, 1) := dk_4 (dk_at dksX0_led_1 3 rfl rfl)
theorem dX0_led_26 : decode cX0_led 26 = .ok (.goto 8, 3) := dk_167 0 8 (dk_at dksX0_led_1 4 rfl rfl)
theorem dX0_led_29 : decode cX0_led 29 = .ok (.iconst 0, 1) := dk_3 (dk_at dksX0_led_1 7 rfl rfl)
theorem dX0_led_30 : decode cX0_led 30 = .ok (.goto 4, 3) := dk_167 0 4 (dk_at dksX0_led_1 8 rfl rfl)
theorem dX0_led_33 : decode cX0_led 33 = .ok (.iconst (-1), 1) := dk_2 (dk_at dksX0_led_1 11 rfl rfl)
theorem dX0_led_34 : decode cX0_led 34 = .ok (.ireturn, 1) := dk_172 (dk_at dksX0_led_1 12 rfl rfl)
abbrev cX0_rise : ByteArray := prog_1_method_68_code
def yX0_rise : MethodName := ⟨RX0, "rise", "(III)Z"⟩
def dkwX0_rise_1 : List UInt8 := [184, 0, 160, 154, 0, 5, 3, 172, 42, 180, 0, 126, 27, 50, 28, 29, 79, 4, 172]
abbrev dktX0_rise_1 : List UInt8 := dkwX0_rise_1 ++ []
def dkwX0_rise_0 : List UInt8 := [27, 3, 16, 7, 184, 0, 160, 153, 0, 23, 28, 3, 16, 7, 184, 0, 160, 153, 0, 13, 29, 3, 16, 9]
abbrev dktX0_rise_0 : List UInt8 := dkwX0_rise_0 ++ dktX0_rise_1
theorem dksX0_rise_0 : cX0_rise.data.toList.drop 0 = dktX0_rise_0 := by decide +kernel
theorem dksX0_rise_1 : cX0_rise.data.toList.drop 24 = dktX0_rise_1 := dk_seg dksX0_rise_0 24 rfl rfl
theorem dX0_rise_0 : decode cX0_rise 0 = .ok (.iload_n 1, 1) := dk_27 (dk_at dksX0_rise_0 0 rfl rfl)
theorem dX0_rise_1 : decode cX0_rise 1 = .ok (.iconst 0, 1) := dk_3 (dk_at dksX0_rise_0 1 rfl rfl)
theorem dX0_rise_2 : decode cX0_rise 2 = .ok (.bipush 7, 2) := dk_16 7 (dk_at dksX0_rise_0 2 rfl rfl)
theorem dX0_rise_4 : decode cX0_rise 4 = .ok (.invokestatic 160, 3) := dk_184 0 160 (dk_at dksX0_rise_0 4 rfl rfl)
theorem dX0_rise_7 : decode cX0_rise 7 = .ok (.ifCond .eq 23, 3) := dk_153 0 23 (dk_at dksX0_rise_0 7 rfl rfl)
theorem dX0_rise_10 : decode cX0_rise 10 = .ok (.iload_n 2, 1) := dk_28 (dk_at dksX0_rise_0 10 rfl rfl)
theorem dX0_rise_11 : decode cX0_rise 11 = .ok (.iconst 0, 1) := dk_3 (dk_at dksX0_rise_0 11 rfl rfl)
theorem dX0_rise_12 : decode cX0_rise 12 = .ok (.bipush 7, 2) := dk_16 7 (dk_at dksX0_rise_0 12 rfl rfl)
theorem dX0_rise_14 : decode cX0_rise 14 = .ok (.invokestatic 160, 3) := dk_184 0 160 (dk_at dksX0_rise_0 14 rfl rfl)
theorem dX0_rise_17 : decode cX0_rise 17 = .ok (.ifCond .eq 13, 3) := dk_153 0 13 (dk_at dksX0_rise_0 17 rfl rfl)
theorem dX0_rise_20 : decode cX0_rise 20 = .ok (.iload_n 3, 1) := dk_29 (dk_at dksX0_rise_0 20 rfl rfl)
theorem dX0_rise_21 : decode cX0_rise 21 = .ok (.iconst 0, 1) := dk_3 (dk_at dksX0_rise_0 21 rfl rfl)
theorem dX0_rise_22 : decode cX0_rise 22 = .ok (.bipush 9, 2) := dk_16 9 (dk_at dksX0_rise_0 22 rfl rfl)
theorem dX0_rise_24 : decode cX0_rise 24 = .ok (.invokestatic 160, 3) := dk_184 0 160 (dk_at dksX0_rise_1 0 rfl rfl)
theorem dX0_rise_27 : decode cX0_rise 27 = .ok (.ifCond .ne 5, 3) := dk_154 0 5 (dk_at dksX0_rise_1 3 rfl rfl)
theorem dX0_rise_30 : decode cX0_rise 30 = .ok (.iconst 0, 1) := dk_3 (dk_at dksX0_rise_1 6 rfl rfl)
theorem dX0_rise_31 : decode cX0_rise 31 = .ok (.ireturn, 1) := dk_172 (dk_at dksX0_rise_1 7 rfl rfl)
theorem dX0_rise_32 : decode cX0_rise 32 = .ok (.aload_n 0, 1) := dk_42 (dk_at dksX0_rise_1 8 rfl rfl)
theorem dX0_rise_33 : decode cX0_rise 33 = .ok (.getfield 126, 3) := dk_180 0 126 (dk_at dksX0_rise_1 9 rfl rfl)
theorem dX0_rise_36 : decode cX0_rise 36 = .ok (.iload_n 1, 1) := dk_27 (dk_at dksX0_rise_1 12 rfl rfl)
theorem dX0_rise_37 : decode cX0_rise 37 = .ok (.aaload, 1) := dk_50 (dk_at dksX0_rise_1 13 rfl rfl)
theorem dX0_rise_38 : decode cX0_rise 38 = .ok (.iload_n 2, 1) := dk_28 (dk_at dksX0_rise_1 14 rfl rfl)
theorem dX0_rise_39 : decode cX0_rise 39 = .ok (.iload_n 3, 1) := dk_29 (dk_at dksX0_rise_1 15 rfl rfl)
theorem dX0_rise_40 : decode cX0_rise 40 = .ok (.iastore, 1) := dk_79 (dk_at dksX0_rise_1 16 rfl rfl)
theorem dX0_rise_41 : decode cX0_rise 41 = .ok (.iconst 1, 1) := dk_4 (dk_at dksX0_rise_1 17 rfl rfl)
theorem dX0_rise_42 : decode cX0_rise 42 = .ok (.ireturn, 1) := dk_172 (dk_at dksX0_rise_1 18 rfl rfl)
abbrev cX0_odds : ByteArray := prog_1_method_71_code
def yX0_odds : MethodName := ⟨RX0, "odds", "(II)J"⟩
def dkwX0_odds_2 : List UInt8 := [42, 180, 2, 20, 173]
abbrev dktX0_odds_2 : List UInt8 := dkwX0_odds_2 ++ []
def dkwX0_odds_1 : List UInt8 := [154, 0, 7, 20, 2, 27, 173, 42, 27, 45, 182, 2, 29, 28, 154, 0, 10, 42, 180, 2, 16, 167, 0, 7]
abbrev dktX0_odds_1 : List UInt8 := dkwX0_odds_1 ++ dktX0_odds_2
def dkwX0_odds_0 : List UInt8 := [42, 182, 2, 23, 78, 45, 198, 0, 20, 42, 27, 182, 1, 98, 153, 0, 12, 28, 3, 4, 184, 0, 160]
abbrev dktX0_odds_0 : List UInt8 := dkwX0_odds_0 ++ dktX0_odds_1
theorem dksX0_odds_0 : cX0_odds.data.toList.drop 0 = dktX0_odds_0 := by decide +kernel
theorem dksX0_odds_1 : cX0_odds.data.toList.drop 23 = dktX0_odds_1 := dk_seg dksX0_odds_0 23 rfl rfl
theorem dksX0_odds_2 : cX0_odds.data.toList.drop 47 = dktX0_odds_2 := dk_seg dksX0_odds_1 24 rfl rfl
theorem dX0_odds_0 : decode cX0_odds 0 = .ok (.aload_n 0, 1) := dk_42 (dk_at dksX0_odds_0 0 rfl rfl)
theorem dX0_odds_1 : decode cX0_odds 1 = .ok (.invokevirtual 535, 3) := dk_182 2 23 (dk_at dksX0_odds_0 1 rfl rfl)
theorem dX0_odds_4 : decode cX0_odds 4 = .ok (.astore_n 3, 1) := dk_78 (dk_at dksX0_odds_0 4 rfl rfl)
theorem dX0_odds_5 : decode cX0_odds 5 = .ok (.aload_n 3, 1) := dk_45 (dk_at dksX0_odds_0 5 rfl rfl)
theorem dX0_odds_6 : decode cX0_odds 6 = .ok (.ifnull 20, 3) := dk_198 0 20 (dk_at dksX0_odds_0 6 rfl rfl)
theorem dX0_odds_9 : decode cX0_odds 9 = .ok (.aload_n 0, 1) := dk_42 (dk_at dksX0_odds_0 9 rfl rfl)
theorem dX0_odds_10 : decode cX0_odds 10 = .ok (.iload_n 1, 1) := dk_27 (dk_at dksX0_odds_0 10 rfl rfl)
theorem dX0_odds_11 : decode cX0_odds 11 = .ok (.invokevirtual 354, 3) := dk_182 1 98 (dk_at dksX0_odds_0 11 rfl rfl)
theorem dX0_odds_14 : decode cX0_odds 14 = .ok (.ifCond .eq 12, 3) := dk_153 0 12 (dk_at dksX0_odds_0 14 rfl rfl)
theorem dX0_odds_17 : decode cX0_odds 17 = .ok (.iload_n 2, 1) := dk_28 (dk_at dksX0_odds_0 17 rfl rfl)
theorem dX0_odds_18 : decode cX0_odds 18 = .ok (.iconst 0, 1) := dk_3 (dk_at dksX0_odds_0 18 rfl rfl)
theorem dX0_odds_19 : decode cX0_odds 19 = .ok (.iconst 1, 1) := dk_4 (dk_at dksX0_odds_0 19 rfl rfl)
theorem dX0_odds_20 : decode cX0_odds 20 = .ok (.invokestatic 160, 3) := dk_184 0 160 (dk_at dksX0_odds_0 20 rfl rfl)
theorem dX0_odds_23 : decode cX0_odds 23 = .ok (.ifCond .ne 7, 3) := dk_154 0 7 (dk_at dksX0_odds_1 0 rfl rfl)
theorem dX0_odds_26 : decode cX0_odds 26 = .ok (.ldc2_w 539, 3) := dk_20 2 27 (dk_at dksX0_odds_1 3 rfl rfl)
theorem dX0_odds_29 : decode cX0_odds 29 = .ok (.lreturn, 1) := dk_173 (dk_at dksX0_odds_1 6 rfl rfl)
theorem dX0_odds_30 : decode cX0_odds 30 = .ok (.aload_n 0, 1) := dk_42 (dk_at dksX0_odds_1 7 rfl rfl)
theorem dX0_odds_31 : decode cX0_odds 31 = .ok (.iload_n 1, 1) := dk_27 (dk_at dksX0_odds_1 8 rfl rfl)
theorem dX0_odds_32 : decode cX0_odds 32 = .ok (.aload_n 3, 1) := dk_45 (dk_at dksX0_odds_1 9 rfl rfl)
theorem dX0_odds_33 : decode cX0_odds 33 = .ok (.invokevirtual 541, 3) := dk_182 2 29 (dk_at dksX0_odds_1 10 rfl rfl)
theorem dX0_odds_36 : decode cX0_odds 36 = .ok (.iload_n 2, 1) := dk_28 (dk_at dksX0_odds_1 13 rfl rfl)
theorem dX0_odds_37 : decode cX0_odds 37 = .ok (.ifCond .ne 10, 3) := dk_154 0 10 (dk_at dksX0_odds_1 14 rfl rfl)
theorem dX0_odds_40 : decode cX0_odds 40 = .ok (.aload_n 0, 1) := dk_42 (dk_at dksX0_odds_1 17 rfl rfl)
theorem dX0_odds_41 : decode cX0_odds 41 = .ok (.getfield 528, 3) := dk_180 2 16 (dk_at dksX0_odds_1 18 rfl rfl)
theorem dX0_odds_44 : decode cX0_odds 44 = .ok (.goto 7, 3) := dk_167 0 7 (dk_at dksX0_odds_1 21 rfl rfl)
theorem dX0_odds_47 : decode cX0_odds 47 = .ok (.aload_n 0, 1) := dk_42 (dk_at dksX0_odds_2 0 rfl rfl)
theorem dX0_odds_48 : decode cX0_odds 48 = .ok (.getfield 532, 3) := dk_180 2 20 (dk_at dksX0_odds_2 1 rfl rfl)
theorem dX0_odds_51 : decode cX0_odds 51 = .ok (.lreturn, 1) := dk_173 (dk_at dksX0_odds_2 4 rfl rfl)
abbrev cX0_takesSeen : ByteArray := prog_1_method_70_code
def yX0_takesSeen : MethodName := ⟨RX0, "takesSeen", "()[B"⟩
def dkwX0_takesSeen_0 : List UInt8 := [42, 4, 8, 16, 97, 16, 104, 182, 1, 88, 176]
abbrev dktX0_takesSeen_0 : List UInt8 := dkwX0_takesSeen_0 ++ []
theorem dksX0_takesSeen_0 : cX0_takesSeen.data.toList.drop 0 = dktX0_takesSeen_0 := by decide +kernel
theorem dX0_takesSeen_0 : decode cX0_takesSeen 0 = .ok (.aload_n 0, 1) := dk_42 (dk_at dksX0_takesSeen_0 0 rfl rfl)
theorem dX0_takesSeen_1 : decode cX0_takesSeen 1 = .ok (.iconst 1, 1) := dk_4 (dk_at dksX0_takesSeen_0 1 rfl rfl)
theorem dX0_takesSeen_2 : decode cX0_takesSeen 2 = .ok (.iconst 5, 1) := dk_8 (dk_at dksX0_takesSeen_0 2 rfl rfl)
theorem dX0_takesSeen_3 : decode cX0_takesSeen 3 = .ok (.bipush 97, 2) := dk_16 97 (dk_at dksX0_takesSeen_0 3 rfl rfl)
theorem dX0_takesSeen_5 : decode cX0_takesSeen 5 = .ok (.bipush 104, 2) := dk_16 104 (dk_at dksX0_takesSeen_0 5 rfl rfl)
theorem dX0_takesSeen_7 : decode cX0_takesSeen 7 = .ok (.invokevirtual 344, 3) := dk_182 1 88 (dk_at dksX0_takesSeen_0 7 rfl rfl)
theorem dX0_takesSeen_10 : decode cX0_takesSeen 10 = .ok (.areturn, 1) := dk_176 (dk_at dksX0_takesSeen_0 10 rfl rfl)
abbrev cX0_findsOdds : ByteArray := prog_1_method_69_code
def yX0_findsOdds : MethodName := ⟨RX0, "findsOdds", "(I[B)V"⟩
def dkwX0_findsOdds_8 : List UInt8 := [177]
abbrev dktX0_findsOdds_8 : List UInt8 := dkwX0_findsOdds_8 ++ []
def dkwX0_findsOdds_7 : List UInt8 := [55, 4, 42, 89, 180, 2, 16, 22, 4, 109, 181, 2, 16, 42, 89, 180, 2, 20, 22, 4, 109, 181, 2, 20]
abbrev dktX0_findsOdds_7 : List UInt8 := dkwX0_findsOdds_7 ++ dktX0_findsOdds_8
def dkwX0_findsOdds_6 : List UInt8 := [180, 2, 16, 9, 148, 154, 0, 8, 42, 10, 181, 2, 20, 42, 180, 2, 16, 42, 180, 2, 20, 184, 2, 0]
abbrev dktX0_findsOdds_6 : List UInt8 := dkwX0_findsOdds_6 ++ dktX0_findsOdds_7
def dkwX0_findsOdds_5 : List UInt8 := [46, 133, 105, 181, 2, 16, 42, 89, 180, 2, 20, 22, 5, 105, 181, 2, 20, 132, 4, 1, 167, 255, 152, 42]
abbrev dktX0_findsOdds_5 : List UInt8 := dkwX0_findsOdds_5 ++ dktX0_findsOdds_6
def dkwX0_findsOdds_4 : List UInt8 := [132, 9, 1, 167, 255, 231, 42, 89, 180, 2, 16, 42, 180, 0, 126, 45, 21, 4, 51, 50, 44, 21, 4, 51]
abbrev dktX0_findsOdds_4 : List UInt8 := dkwX0_findsOdds_4 ++ dktX0_findsOdds_5
def dkwX0_findsOdds_3 : List UInt8 := [54, 9, 21, 9, 21, 8, 162, 0, 24, 25, 7, 21, 9, 46, 54, 10, 22, 5, 21, 10, 133, 97, 55, 5]
abbrev dktX0_findsOdds_3 : List UInt8 := dkwX0_findsOdds_3 ++ dktX0_findsOdds_4
def dkwX0_findsOdds_2 : List UInt8 := [158, 0, 94, 9, 55, 5, 42, 180, 0, 126, 45, 21, 4, 51, 50, 58, 7, 25, 7, 190, 54, 8, 3]
abbrev dktX0_findsOdds_2 : List UInt8 := dkwX0_findsOdds_2 ++ dktX0_findsOdds_3
def dkwX0_findsOdds_1 : List UInt8 := [181, 2, 16, 42, 10, 181, 2, 20, 3, 54, 4, 21, 4, 45, 190, 162, 0, 103, 42, 180, 2, 16, 9, 148]
abbrev dktX0_findsOdds_1 : List UInt8 := dkwX0_findsOdds_1 ++ dktX0_findsOdds_2
def dkwX0_findsOdds_0 : List UInt8 := [42, 180, 0, 68, 27, 50, 180, 1, 188, 78, 42, 45, 190, 44, 190, 160, 0, 7, 10, 167, 0, 4, 9]
abbrev dktX0_findsOdds_0 : List UInt8 := dkwX0_findsOdds_0 ++ dktX0_findsOdds_1
theorem dksX0_findsOdds_0 : cX0_findsOdds.data.toList.drop 0 = dktX0_findsOdds_0 := by decide +kernel
theorem dksX0_findsOdds_1 : cX0_findsOdds.data.toList.drop 23 = dktX0_findsOdds_1 := dk_seg dksX0_findsOdds_0 23 rfl rfl
theorem dksX0_findsOdds_2 : cX0_findsOdds.data.toList.drop 47 = dktX0_findsOdds_2 := dk_seg dksX0_findsOdds_1 24 rfl rfl
theorem dksX0_findsOdds_3 : cX0_findsOdds.data.toList.drop 70 = dktX0_findsOdds_3 := dk_seg dksX0_findsOdds_2 23 rfl rfl
theorem dksX0_findsOdds_4 : cX0_findsOdds.data.toList.drop 94 = dktX0_findsOdds_4 := dk_seg dksX0_findsOdds_3 24 rfl rfl
theorem dksX0_findsOdds_5 : cX0_findsOdds.data.toList.drop 118 = dktX0_findsOdds_5 := dk_seg dksX0_findsOdds_4 24 rfl rfl
theorem dksX0_findsOdds_6 : cX0_findsOdds.data.toList.drop 142 = dktX0_findsOdds_6 := dk_seg dksX0_findsOdds_5 24 rfl rfl
theorem dksX0_findsOdds_7 : cX0_findsOdds.data.toList.drop 166 = dktX0_findsOdds_7 := dk_seg dksX0_findsOdds_6 24 rfl rfl
theorem dksX0_findsOdds_8 : cX0_findsOdds.data.toList.drop 190 = dktX0_findsOdds_8 := dk_seg dksX0_findsOdds_7 24 rfl rfl
theorem dX0_findsOdds_0 : decode cX0_findsOdds 0 = .ok (.aload_n 0, 1) := dk_42 (dk_at dksX0_findsOdds_0 0 rfl rfl)
theorem dX0_findsOdds_1 : decode cX0_findsOdds 1 = .ok (.getfield 68, 3) := dk_180 0 68 (dk_at dksX0_findsOdds_0 1 rfl rfl)
theorem dX0_findsOdds_4 : decode cX0_findsOdds 4 = .ok (.iload_n 1, 1) := dk_27 (dk_at dksX0_findsOdds_0 4 rfl rfl)
theorem dX0_findsOdds_5 : decode cX0_findsOdds 5 = .ok (.aaload, 1) := dk_50 (dk_at dksX0_findsOdds_0 5 rfl rfl)
theorem dX0_findsOdds_6 : decode cX0_findsOdds 6 = .ok (.getfield 444, 3) := dk_180 1 188 (dk_at dksX0_findsOdds_0 6 rfl rfl)
theorem dX0_findsOdds_9 : decode cX0_findsOdds 9 = .ok (.astore_n 3, 1) := dk_78 (dk_at dksX0_findsOdds_0 9 rfl rfl)
theorem dX0_findsOdds_10 : decode cX0_findsOdds 10 = .ok (.aload_n 0, 1) := dk_42 (dk_at dksX0_findsOdds_0 10 rfl rfl)
theorem dX0_findsOdds_11 : decode cX0_findsOdds 11 = .ok (.aload_n 3, 1) := dk_45 (dk_at dksX0_findsOdds_0 11 rfl rfl)
theorem dX0_findsOdds_12 : decode cX0_findsOdds 12 = .ok (.arraylength, 1) := dk_190 (dk_at dksX0_findsOdds_0 12 rfl rfl)
theorem dX0_findsOdds_13 : decode cX0_findsOdds 13 = .ok (.aload_n 2, 1) := dk_44 (dk_at dksX0_findsOdds_0 13 rfl rfl)
theorem dX0_findsOdds_14 : decode cX0_findsOdds 14 = .ok (.arraylength, 1) := dk_190 (dk_at dksX0_findsOdds_0 14 rfl rfl)
theorem dX0_findsOdds_15 : decode cX0_findsOdds 15 = .ok (.if_icmp .ne 7, 3) := dk_160 0 7 (dk_at dksX0_findsOdds_0 15 rfl rfl)
theorem dX0_findsOdds_18 : decode cX0_findsOdds 18 = .ok (.lconst 1, 1) := dk_10 (dk_at dksX0_findsOdds_0 18 rfl rfl)
theorem dX0_findsOdds_19 : decode cX0_findsOdds 19 = .ok (.goto 4, 3) := dk_167 0 4 (dk_at dksX0_findsOdds_0 19 rfl rfl)
theorem dX0_findsOdds_22 : decode cX0_findsOdds 22 = .ok (.lconst 0, 1) := dk_9 (dk_at dksX0_findsOdds_0 22 rfl rfl)
theorem dX0_findsOdds_23 : decode cX0_findsOdds 23 = .ok (.putfield 528, 3) := dk_181 2 16 (dk_at dksX0_findsOdds_1 0 rfl rfl)
theorem dX0_findsOdds_26 : decode cX0_findsOdds 26 = .ok (.aload_n 0, 1) := dk_42 (dk_at dksX0_findsOdds_1 3 rfl rfl)
theorem dX0_findsOdds_27 : decode cX0_findsOdds 27 = .ok (.lconst 1, 1) := dk_10 (dk_at dksX0_findsOdds_1 4 rfl rfl)
theorem dX0_findsOdds_28 : decode cX0_findsOdds 28 = .ok (.putfield 532, 3) := dk_181 2 20 (dk_at dksX0_findsOdds_1 5 rfl rfl)
theorem dX0_findsOdds_31 : decode cX0_findsOdds 31 = .ok (.iconst 0, 1) := dk_3 (dk_at dksX0_findsOdds_1 8 rfl rfl)
theorem dX0_findsOdds_32 : decode cX0_findsOdds 32 = .ok (.istore 4, 2) := dk_54 4 (dk_at dksX0_findsOdds_1 9 rfl rfl)
theorem dX0_findsOdds_34 : decode cX0_findsOdds 34 = .ok (.iload 4, 2) := dk_21 4 (dk_at dksX0_findsOdds_1 11 rfl rfl)
theorem dX0_findsOdds_36 : decode cX0_findsOdds 36 = .ok (.aload_n 3, 1) := dk_45 (dk_at dksX0_findsOdds_1 13 rfl rfl)
theorem dX0_findsOdds_37 : decode cX0_findsOdds 37 = .ok (.arraylength, 1) := dk_190 (dk_at dksX0_findsOdds_1 14 rfl rfl)
theorem dX0_findsOdds_38 : decode cX0_findsOdds 38 = .ok (.if_icmp .ge 103, 3) := dk_162 0 103 (dk_at dksX0_findsOdds_1 15 rfl rfl)
theorem dX0_findsOdds_41 : decode cX0_findsOdds 41 = .ok (.aload_n 0, 1) := dk_42 (dk_at dksX0_findsOdds_1 18 rfl rfl)
theorem dX0_findsOdds_42 : decode cX0_findsOdds 42 = .ok (.getfield 528, 3) := dk_180 2 16 (dk_at dksX0_findsOdds_1 19 rfl rfl)
theorem dX0_findsOdds_45 : decode cX0_findsOdds 45 = .ok (.lconst 0, 1) := dk_9 (dk_at dksX0_findsOdds_1 22 rfl rfl)
theorem dX0_findsOdds_46 : decode cX0_findsOdds 46 = .ok (.lcmp, 1) := dk_148 (dk_at dksX0_findsOdds_1 23 rfl rfl)
theorem dX0_findsOdds_47 : decode cX0_findsOdds 47 = .ok (.ifCond .le 94, 3) := dk_158 0 94 (dk_at dksX0_findsOdds_2 0 rfl rfl)
theorem dX0_findsOdds_50 : decode cX0_findsOdds 50 = .ok (.lconst 0, 1) := dk_9 (dk_at dksX0_findsOdds_2 3 rfl rfl)
theorem dX0_findsOdds_51 : decode cX0_findsOdds 51 = .ok (.lstore 5, 2) := dk_55 5 (dk_at dksX0_findsOdds_2 4 rfl rfl)
theorem dX0_findsOdds_53 : decode cX0_findsOdds 53 = .ok (.aload_n 0, 1) := dk_42 (dk_at dksX0_findsOdds_2 6 rfl rfl)
theorem dX0_findsOdds_54 : decode cX0_findsOdds 54 = .ok (.getfield 126, 3) := dk_180 0 126 (dk_at dksX0_findsOdds_2 7 rfl rfl)
theorem dX0_findsOdds_57 : decode cX0_findsOdds 57 = .ok (.aload_n 3, 1) := dk_45 (dk_at dksX0_findsOdds_2 10 rfl rfl)
theorem dX0_findsOdds_58 : decode cX0_findsOdds 58 = .ok (.iload 4, 2) := dk_21 4 (dk_at dksX0_findsOdds_2 11 rfl rfl)
theorem dX0_findsOdds_60 : decode cX0_findsOdds 60 = .ok (.baload, 1) := dk_51 (dk_at dksX0_findsOdds_2 13 rfl rfl)
theorem dX0_findsOdds_61 : decode cX0_findsOdds 61 = .ok (.aaload, 1) := dk_50 (dk_at dksX0_findsOdds_2 14 rfl rfl)
theorem dX0_findsOdds_62 : decode cX0_findsOdds 62 = .ok (.astore 7, 2) := dk_58 7 (dk_at dksX0_findsOdds_2 15 rfl rfl)
theorem dX0_findsOdds_64 : decode cX0_findsOdds 64 = .ok (.aload 7, 2) := dk_25 7 (dk_at dksX0_findsOdds_2 17 rfl rfl)
theorem dX0_findsOdds_66 : decode cX0_findsOdds 66 = .ok (.arraylength, 1) := dk_190 (dk_at dksX0_findsOdds_2 19 rfl rfl)
theorem dX0_findsOdds_67 : decode cX0_findsOdds 67 = .ok (.istore 8, 2) := dk_54 8 (dk_at dksX0_findsOdds_2 20 rfl rfl)
theorem dX0_findsOdds_69 : decode cX0_findsOdds 69 = .ok (.iconst 0, 1) := dk_3 (dk_at dksX0_findsOdds_2 22 rfl rfl)
theorem dX0_findsOdds_70 : decode cX0_findsOdds 70 = .ok (.istore 9, 2) := dk_54 9 (dk_at dksX0_findsOdds_3 0 rfl rfl)
theorem dX0_findsOdds_72 : decode cX0_findsOdds 72 = .ok (.iload 9, 2) := dk_21 9 (dk_at dksX0_findsOdds_3 2 rfl rfl)
theorem dX0_findsOdds_74 : decode cX0_findsOdds 74 = .ok (.iload 8, 2) := dk_21 8 (dk_at dksX0_findsOdds_3 4 rfl rfl)
theorem dX0_findsOdds_76 : decode cX0_findsOdds 76 = .ok (.if_icmp .ge 24, 3) := dk_162 0 24 (dk_at dksX0_findsOdds_3 6 rfl rfl)
theorem dX0_findsOdds_79 : decode cX0_findsOdds 79 = .ok (.aload 7, 2) := dk_25 7 (dk_at dksX0_findsOdds_3 9 rfl rfl)
theorem dX0_findsOdds_81 : decode cX0_findsOdds 81 = .ok (.iload 9, 2) := dk_21 9 (dk_at dksX0_findsOdds_3 11 rfl rfl)
theorem dX0_findsOdds_83 : decode cX0_findsOdds 83 = .ok (.iaload, 1) := dk_46 (dk_at dksX0_findsOdds_3 13 rfl rfl)
theorem dX0_findsOdds_84 : decode cX0_findsOdds 84 = .ok (.istore 10, 2) := dk_54 10 (dk_at dksX0_findsOdds_3 14 rfl rfl)
theorem dX0_findsOdds_86 : decode cX0_findsOdds 86 = .ok (.lload 5, 2) := dk_22 5 (dk_at dksX0_findsOdds_3 16 rfl rfl)
theorem dX0_findsOdds_88 : decode cX0_findsOdds 88 = .ok (.iload 10, 2) := dk_21 10 (dk_at dksX0_findsOdds_3 18 rfl rfl)
theorem dX0_findsOdds_90 : decode cX0_findsOdds 90 = .ok (.i2l, 1) := dk_133 (dk_at dksX0_findsOdds_3 20 rfl rfl)
theorem dX0_findsOdds_91 : decode cX0_findsOdds 91 = .ok (.ladd, 1) := dk_97 (dk_at dksX0_findsOdds_3 21 rfl rfl)
theorem dX0_findsOdds_92 : decode cX0_findsOdds 92 = .ok (.lstore 5, 2) := dk_55 5 (dk_at dksX0_findsOdds_3 22 rfl rfl)
theorem dX0_findsOdds_94 : decode cX0_findsOdds 94 = .ok (.iinc 9 1, 3) := dk_132 9 1 (dk_at dksX0_findsOdds_4 0 rfl rfl)
theorem dX0_findsOdds_97 : decode cX0_findsOdds 97 = .ok (.goto (-25), 3) := dk_167 255 231 (dk_at dksX0_findsOdds_4 3 rfl rfl)
theorem dX0_findsOdds_100 : decode cX0_findsOdds 100 = .ok (.aload_n 0, 1) := dk_42 (dk_at dksX0_findsOdds_4 6 rfl rfl)
theorem dX0_findsOdds_101 : decode cX0_findsOdds 101 = .ok (.dup, 1) := dk_89 (dk_at dksX0_findsOdds_4 7 rfl rfl)
theorem dX0_findsOdds_102 : decode cX0_findsOdds 102 = .ok (.getfield 528, 3) := dk_180 2 16 (dk_at dksX0_findsOdds_4 8 rfl rfl)
theorem dX0_findsOdds_105 : decode cX0_findsOdds 105 = .ok (.aload_n 0, 1) := dk_42 (dk_at dksX0_findsOdds_4 11 rfl rfl)
theorem dX0_findsOdds_106 : decode cX0_findsOdds 106 = .ok (.getfield 126, 3) := dk_180 0 126 (dk_at dksX0_findsOdds_4 12 rfl rfl)
theorem dX0_findsOdds_109 : decode cX0_findsOdds 109 = .ok (.aload_n 3, 1) := dk_45 (dk_at dksX0_findsOdds_4 15 rfl rfl)
theorem dX0_findsOdds_110 : decode cX0_findsOdds 110 = .ok (.iload 4, 2) := dk_21 4 (dk_at dksX0_findsOdds_4 16 rfl rfl)
theorem dX0_findsOdds_112 : decode cX0_findsOdds 112 = .ok (.baload, 1) := dk_51 (dk_at dksX0_findsOdds_4 18 rfl rfl)
theorem dX0_findsOdds_113 : decode cX0_findsOdds 113 = .ok (.aaload, 1) := dk_50 (dk_at dksX0_findsOdds_4 19 rfl rfl)
theorem dX0_findsOdds_114 : decode cX0_findsOdds 114 = .ok (.aload_n 2, 1) := dk_44 (dk_at dksX0_findsOdds_4 20 rfl rfl)
theorem dX0_findsOdds_115 : decode cX0_findsOdds 115 = .ok (.iload 4, 2) := dk_21 4 (dk_at dksX0_findsOdds_4 21 rfl rfl)
theorem dX0_findsOdds_117 : decode cX0_findsOdds 117 = .ok (.baload, 1) := dk_51 (dk_at dksX0_findsOdds_4 23 rfl rfl)
theorem dX0_findsOdds_118 : decode cX0_findsOdds 118 = .ok (.iaload, 1) := dk_46 (dk_at dksX0_findsOdds_5 0 rfl rfl)
theorem dX0_findsOdds_119 : decode cX0_findsOdds 119 = .ok (.i2l, 1) := dk_133 (dk_at dksX0_findsOdds_5 1 rfl rfl)
theorem dX0_findsOdds_120 : decode cX0_findsOdds 120 = .ok (.lmul, 1) := dk_105 (dk_at dksX0_findsOdds_5 2 rfl rfl)
theorem dX0_findsOdds_121 : decode cX0_findsOdds 121 = .ok (.putfield 528, 3) := dk_181 2 16 (dk_at dksX0_findsOdds_5 3 rfl rfl)
theorem dX0_findsOdds_124 : decode cX0_findsOdds 124 = .ok (.aload_n 0, 1) := dk_42 (dk_at dksX0_findsOdds_5 6 rfl rfl)
theorem dX0_findsOdds_125 : decode cX0_findsOdds 125 = .ok (.dup, 1) := dk_89 (dk_at dksX0_findsOdds_5 7 rfl rfl)
theorem dX0_findsOdds_126 : decode cX0_findsOdds 126 = .ok (.getfield 532, 3) := dk_180 2 20 (dk_at dksX0_findsOdds_5 8 rfl rfl)
theorem dX0_findsOdds_129 : decode cX0_findsOdds 129 = .ok (.lload 5, 2) := dk_22 5 (dk_at dksX0_findsOdds_5 11 rfl rfl)
theorem dX0_findsOdds_131 : decode cX0_findsOdds 131 = .ok (.lmul, 1) := dk_105 (dk_at dksX0_findsOdds_5 13 rfl rfl)
theorem dX0_findsOdds_132 : decode cX0_findsOdds 132 = .ok (.putfield 532, 3) := dk_181 2 20 (dk_at dksX0_findsOdds_5 14 rfl rfl)
theorem dX0_findsOdds_135 : decode cX0_findsOdds 135 = .ok (.iinc 4 1, 3) := dk_132 4 1 (dk_at dksX0_findsOdds_5 17 rfl rfl)
theorem dX0_findsOdds_138 : decode cX0_findsOdds 138 = .ok (.goto (-104), 3) := dk_167 255 152 (dk_at dksX0_findsOdds_5 20 rfl rfl)
theorem dX0_findsOdds_141 : decode cX0_findsOdds 141 = .ok (.aload_n 0, 1) := dk_42 (dk_at dksX0_findsOdds_5 23 rfl rfl)
theorem dX0_findsOdds_142 : decode cX0_findsOdds 142 = .ok (.getfield 528, 3) := dk_180 2 16 (dk_at dksX0_findsOdds_6 0 rfl rfl)
theorem dX0_findsOdds_145 : decode cX0_findsOdds 145 = .ok (.lconst 0, 1) := dk_9 (dk_at dksX0_findsOdds_6 3 rfl rfl)
theorem dX0_findsOdds_146 : decode cX0_findsOdds 146 = .ok (.lcmp, 1) := dk_148 (dk_at dksX0_findsOdds_6 4 rfl rfl)
theorem dX0_findsOdds_147 : decode cX0_findsOdds 147 = .ok (.ifCond .ne 8, 3) := dk_154 0 8 (dk_at dksX0_findsOdds_6 5 rfl rfl)
theorem dX0_findsOdds_150 : decode cX0_findsOdds 150 = .ok (.aload_n 0, 1) := dk_42 (dk_at dksX0_findsOdds_6 8 rfl rfl)
theorem dX0_findsOdds_151 : decode cX0_findsOdds 151 = .ok (.lconst 1, 1) := dk_10 (dk_at dksX0_findsOdds_6 9 rfl rfl)
theorem dX0_findsOdds_152 : decode cX0_findsOdds 152 = .ok (.putfield 532, 3) := dk_181 2 20 (dk_at dksX0_findsOdds_6 10 rfl rfl)
theorem dX0_findsOdds_155 : decode cX0_findsOdds 155 = .ok (.aload_n 0, 1) := dk_42 (dk_at dksX0_findsOdds_6 13 rfl rfl)
theorem dX0_findsOdds_156 : decode cX0_findsOdds 156 = .ok (.getfield 528, 3) := dk_180 2 16 (dk_at dksX0_findsOdds_6 14 rfl rfl)
theorem dX0_findsOdds_159 : decode cX0_findsOdds 159 = .ok (.aload_n 0, 1) := dk_42 (dk_at dksX0_findsOdds_6 17 rfl rfl)
theorem dX0_findsOdds_160 : decode cX0_findsOdds 160 = .ok (.getfield 532, 3) := dk_180 2 20 (dk_at dksX0_findsOdds_6 18 rfl rfl)
theorem dX0_findsOdds_163 : decode cX0_findsOdds 163 = .ok (.invokestatic 512, 3) := dk_184 2 0 (dk_at dksX0_findsOdds_6 21 rfl rfl)
theorem dX0_findsOdds_166 : decode cX0_findsOdds 166 = .ok (.lstore 4, 2) := dk_55 4 (dk_at dksX0_findsOdds_7 0 rfl rfl)
theorem dX0_findsOdds_168 : decode cX0_findsOdds 168 = .ok (.aload_n 0, 1) := dk_42 (dk_at dksX0_findsOdds_7 2 rfl rfl)
theorem dX0_findsOdds_169 : decode cX0_findsOdds 169 = .ok (.dup, 1) := dk_89 (dk_at dksX0_findsOdds_7 3 rfl rfl)
theorem dX0_findsOdds_170 : decode cX0_findsOdds 170 = .ok (.getfield 528, 3) := dk_180 2 16 (dk_at dksX0_findsOdds_7 4 rfl rfl)
theorem dX0_findsOdds_173 : decode cX0_findsOdds 173 = .ok (.lload 4, 2) := dk_22 4 (dk_at dksX0_findsOdds_7 7 rfl rfl)
theorem dX0_findsOdds_175 : decode cX0_findsOdds 175 = .ok (.ldiv, 1) := dk_109 (dk_at dksX0_findsOdds_7 9 rfl rfl)
theorem dX0_findsOdds_176 : decode cX0_findsOdds 176 = .ok (.putfield 528, 3) := dk_181 2 16 (dk_at dksX0_findsOdds_7 10 rfl rfl)
theorem dX0_findsOdds_179 : decode cX0_findsOdds 179 = .ok (.aload_n 0, 1) := dk_42 (dk_at dksX0_findsOdds_7 13 rfl rfl)
theorem dX0_findsOdds_180 : decode cX0_findsOdds 180 = .ok (.dup, 1) := dk_89 (dk_at dksX0_findsOdds_7 14 rfl rfl)
theorem dX0_findsOdds_181 : decode cX0_findsOdds 181 = .ok (.getfield 532, 3) := dk_180 2 20 (dk_at dksX0_findsOdds_7 15 rfl rfl)
theorem dX0_findsOdds_184 : decode cX0_findsOdds 184 = .ok (.lload 4, 2) := dk_22 4 (dk_at dksX0_findsOdds_7 18 rfl rfl)
theorem dX0_findsOdds_186 : decode cX0_findsOdds 186 = .ok (.ldiv, 1) := dk_109 (dk_at dksX0_findsOdds_7 20 rfl rfl)
theorem dX0_findsOdds_187 : decode cX0_findsOdds 187 = .ok (.putfield 532, 3) := dk_181 2 20 (dk_at dksX0_findsOdds_7 21 rfl rfl)
theorem dX0_findsOdds_190 : decode cX0_findsOdds 190 = .ok (.return_, 1) := dk_177 (dk_at dksX0_findsOdds_8 0 rfl rfl)
abbrev cX0_whose : ByteArray := prog_1_method_72_code
def yX0_whose : MethodName := ⟨RX0, "whose", "(I)I"⟩
def dkwX0_whose_5 : List UInt8 := [167, 0, 13, 21, 8, 153, 0, 7, 4, 167, 0, 4, 3, 172]
abbrev dktX0_whose_5 : List UInt8 := dkwX0_whose_5 ++ []
def dkwX0_whose_4 : List UInt8 := [55, 4, 42, 180, 2, 20, 55, 6, 4, 54, 8, 132, 9, 1, 167, 255, 182, 27, 154, 0, 7, 29]
abbrev dktX0_whose_4 : List UInt8 := dkwX0_whose_4 ++ dktX0_whose_5
def dkwX0_whose_3 : List UInt8 := [154, 0, 6, 3, 54, 8, 22, 10, 9, 148, 157, 0, 6, 167, 0, 21, 21, 9, 62, 42, 180, 2, 16]
abbrev dktX0_whose_3 : List UInt8 := dkwX0_whose_3 ++ dktX0_whose_4
def dkwX0_whose_2 : List UInt8 := [182, 2, 29, 42, 180, 2, 16, 22, 6, 105, 22, 4, 42, 180, 2, 20, 105, 101, 55, 10, 22, 10, 9, 148]
abbrev dktX0_whose_2 : List UInt8 := dkwX0_whose_2 ++ dktX0_whose_3
def dkwX0_whose_1 : List UInt8 := [55, 4, 10, 55, 6, 3, 54, 8, 3, 54, 9, 21, 9, 42, 180, 1, 69, 162, 0, 71, 42, 21, 9, 44]
abbrev dktX0_whose_1 : List UInt8 := dkwX0_whose_1 ++ dktX0_whose_2
def dkwX0_whose_0 : List UInt8 := [42, 182, 2, 23, 77, 44, 198, 0, 12, 27, 3, 4, 184, 0, 160, 154, 0, 6, 16, 254, 172, 2, 62, 9]
abbrev dktX0_whose_0 : List UInt8 := dkwX0_whose_0 ++ dktX0_whose_1
theorem dksX0_whose_0 : cX0_whose.data.toList.drop 0 = dktX0_whose_0 := by decide +kernel
theorem dksX0_whose_1 : cX0_whose.data.toList.drop 24 = dktX0_whose_1 := dk_seg dksX0_whose_0 24 rfl rfl
theorem dksX0_whose_2 : cX0_whose.data.toList.drop 48 = dktX0_whose_2 := dk_seg dksX0_whose_1 24 rfl rfl
theorem dksX0_whose_3 : cX0_whose.data.toList.drop 72 = dktX0_whose_3 := dk_seg dksX0_whose_2 24 rfl rfl
theorem dksX0_whose_4 : cX0_whose.data.toList.drop 95 = dktX0_whose_4 := dk_seg dksX0_whose_3 23 rfl rfl
theorem dksX0_whose_5 : cX0_whose.data.toList.drop 117 = dktX0_whose_5 := dk_seg dksX0_whose_4 22 rfl rfl
theorem dX0_whose_0 : decode cX0_whose 0 = .ok (.aload_n 0, 1) := dk_42 (dk_at dksX0_whose_0 0 rfl rfl)
theorem dX0_whose_1 : decode cX0_whose 1 = .ok (.invokevirtual 535, 3) := dk_182 2 23 (dk_at dksX0_whose_0 1 rfl rfl)
theorem dX0_whose_4 : decode cX0_whose 4 = .ok (.astore_n 2, 1) := dk_77 (dk_at dksX0_whose_0 4 rfl rfl)
theorem dX0_whose_5 : decode cX0_whose 5 = .ok (.aload_n 2, 1) := dk_44 (dk_at dksX0_whose_0 5 rfl rfl)
theorem dX0_whose_6 : decode cX0_whose 6 = .ok (.ifnull 12, 3) := dk_198 0 12 (dk_at dksX0_whose_0 6 rfl rfl)
theorem dX0_whose_9 : decode cX0_whose 9 = .ok (.iload_n 1, 1) := dk_27 (dk_at dksX0_whose_0 9 rfl rfl)
theorem dX0_whose_10 : decode cX0_whose 10 = .ok (.iconst 0, 1) := dk_3 (dk_at dksX0_whose_0 10 rfl rfl)
theorem dX0_whose_11 : decode cX0_whose 11 = .ok (.iconst 1, 1) := dk_4 (dk_at dksX0_whose_0 11 rfl rfl)
theorem dX0_whose_12 : decode cX0_whose 12 = .ok (.invokestatic 160, 3) := dk_184 0 160 (dk_at dksX0_whose_0 12 rfl rfl)
theorem dX0_whose_15 : decode cX0_whose 15 = .ok (.ifCond .ne 6, 3) := dk_154 0 6 (dk_at dksX0_whose_0 15 rfl rfl)
theorem dX0_whose_18 : decode cX0_whose 18 = .ok (.bipush (-2), 2) := dk_16 254 (dk_at dksX0_whose_0 18 rfl rfl)
theorem dX0_whose_20 : decode cX0_whose 20 = .ok (.ireturn, 1) := dk_172 (dk_at dksX0_whose_0 20 rfl rfl)
theorem dX0_whose_21 : decode cX0_whose 21 = .ok (.iconst (-1), 1) := dk_2 (dk_at dksX0_whose_0 21 rfl rfl)
theorem dX0_whose_22 : decode cX0_whose 22 = .ok (.istore_n 3, 1) := dk_62 (dk_at dksX0_whose_0 22 rfl rfl)
theorem dX0_whose_23 : decode cX0_whose 23 = .ok (.lconst 0, 1) := dk_9 (dk_at dksX0_whose_0 23 rfl rfl)
theorem dX0_whose_24 : decode cX0_whose 24 = .ok (.lstore 4, 2) := dk_55 4 (dk_at dksX0_whose_1 0 rfl rfl)
theorem dX0_whose_26 : decode cX0_whose 26 = .ok (.lconst 1, 1) := dk_10 (dk_at dksX0_whose_1 2 rfl rfl)
theorem dX0_whose_27 : decode cX0_whose 27 = .ok (.lstore 6, 2) := dk_55 6 (dk_at dksX0_whose_1 3 rfl rfl)
theorem dX0_whose_29 : decode cX0_whose 29 = .ok (.iconst 0, 1) := dk_3 (dk_at dksX0_whose_1 5 rfl rfl)
theorem dX0_whose_30 : decode cX0_whose 30 = .ok (.istore 8, 2) := dk_54 8 (dk_at dksX0_whose_1 6 rfl rfl)
theorem dX0_whose_32 : decode cX0_whose 32 = .ok (.iconst 0, 1) := dk_3 (dk_at dksX0_whose_1 8 rfl rfl)
theorem dX0_whose_33 : decode cX0_whose 33 = .ok (.istore 9, 2) := dk_54 9 (dk_at dksX0_whose_1 9 rfl rfl)
theorem dX0_whose_35 : decode cX0_whose 35 = .ok (.iload 9, 2) := dk_21 9 (dk_at dksX0_whose_1 11 rfl rfl)
theorem dX0_whose_37 : decode cX0_whose 37 = .ok (.aload_n 0, 1) := dk_42 (dk_at dksX0_whose_1 13 rfl rfl)
theorem dX0_whose_38 : decode cX0_whose 38 = .ok (.getfield 325, 3) := dk_180 1 69 (dk_at dksX0_whose_1 14 rfl rfl)
theorem dX0_whose_41 : decode cX0_whose 41 = .ok (.if_icmp .ge 71, 3) := dk_162 0 71 (dk_at dksX0_whose_1 17 rfl rfl)
theorem dX0_whose_44 : decode cX0_whose 44 = .ok (.aload_n 0, 1) := dk_42 (dk_at dksX0_whose_1 20 rfl rfl)
theorem dX0_whose_45 : decode cX0_whose 45 = .ok (.iload 9, 2) := dk_21 9 (dk_at dksX0_whose_1 21 rfl rfl)
theorem dX0_whose_47 : decode cX0_whose 47 = .ok (.aload_n 2, 1) := dk_44 (dk_at dksX0_whose_1 23 rfl rfl)
theorem dX0_whose_48 : decode cX0_whose 48 = .ok (.invokevirtual 541, 3) := dk_182 2 29 (dk_at dksX0_whose_2 0 rfl rfl)
theorem dX0_whose_51 : decode cX0_whose 51 = .ok (.aload_n 0, 1) := dk_42 (dk_at dksX0_whose_2 3 rfl rfl)
theorem dX0_whose_52 : decode cX0_whose 52 = .ok (.getfield 528, 3) := dk_180 2 16 (dk_at dksX0_whose_2 4 rfl rfl)
theorem dX0_whose_55 : decode cX0_whose 55 = .ok (.lload 6, 2) := dk_22 6 (dk_at dksX0_whose_2 7 rfl rfl)
theorem dX0_whose_57 : decode cX0_whose 57 = .ok (.lmul, 1) := dk_105 (dk_at dksX0_whose_2 9 rfl rfl)
theorem dX0_whose_58 : decode cX0_whose 58 = .ok (.lload 4, 2) := dk_22 4 (dk_at dksX0_whose_2 10 rfl rfl)
theorem dX0_whose_60 : decode cX0_whose 60 = .ok (.aload_n 0, 1) := dk_42 (dk_at dksX0_whose_2 12 rfl rfl)
theorem dX0_whose_61 : decode cX0_whose 61 = .ok (.getfield 532, 3) := dk_180 2 20 (dk_at dksX0_whose_2 13 rfl rfl)
theorem dX0_whose_64 : decode cX0_whose 64 = .ok (.lmul, 1) := dk_105 (dk_at dksX0_whose_2 16 rfl rfl)
theorem dX0_whose_65 : decode cX0_whose 65 = .ok (.lsub, 1) := dk_101 (dk_at dksX0_whose_2 17 rfl rfl)
theorem dX0_whose_66 : decode cX0_whose 66 = .ok (.lstore 10, 2) := dk_55 10 (dk_at dksX0_whose_2 18 rfl rfl)
theorem dX0_whose_68 : decode cX0_whose 68 = .ok (.lload 10, 2) := dk_22 10 (dk_at dksX0_whose_2 20 rfl rfl)
theorem dX0_whose_70 : decode cX0_whose 70 = .ok (.lconst 0, 1) := dk_9 (dk_at dksX0_whose_2 22 rfl rfl)
theorem dX0_whose_71 : decode cX0_whose 71 = .ok (.lcmp, 1) := dk_148 (dk_at dksX0_whose_2 23 rfl rfl)
theorem dX0_whose_72 : decode cX0_whose 72 = .ok (.ifCond .ne 6, 3) := dk_154 0 6 (dk_at dksX0_whose_3 0 rfl rfl)
theorem dX0_whose_75 : decode cX0_whose 75 = .ok (.iconst 0, 1) := dk_3 (dk_at dksX0_whose_3 3 rfl rfl)
theorem dX0_whose_76 : decode cX0_whose 76 = .ok (.istore 8, 2) := dk_54 8 (dk_at dksX0_whose_3 4 rfl rfl)
theorem dX0_whose_78 : decode cX0_whose 78 = .ok (.lload 10, 2) := dk_22 10 (dk_at dksX0_whose_3 6 rfl rfl)
theorem dX0_whose_80 : decode cX0_whose 80 = .ok (.lconst 0, 1) := dk_9 (dk_at dksX0_whose_3 8 rfl rfl)
theorem dX0_whose_81 : decode cX0_whose 81 = .ok (.lcmp, 1) := dk_148 (dk_at dksX0_whose_3 9 rfl rfl)
theorem dX0_whose_82 : decode cX0_whose 82 = .ok (.ifCond .gt 6, 3) := dk_157 0 6 (dk_at dksX0_whose_3 10 rfl rfl)
theorem dX0_whose_85 : decode cX0_whose 85 = .ok (.goto 21, 3) := dk_167 0 21 (dk_at dksX0_whose_3 13 rfl rfl)
theorem dX0_whose_88 : decode cX0_whose 88 = .ok (.iload 9, 2) := dk_21 9 (dk_at dksX0_whose_3 16 rfl rfl)
theorem dX0_whose_90 : decode cX0_whose 90 = .ok (.istore_n 3, 1) := dk_62 (dk_at dksX0_whose_3 18 rfl rfl)
theorem dX0_whose_91 : decode cX0_whose 91 = .ok (.aload_n 0, 1) := dk_42 (dk_at dksX0_whose_3 19 rfl rfl)
theorem dX0_whose_92 : decode cX0_whose 92 = .ok (.getfield 528, 3) := dk_180 2 16 (dk_at dksX0_whose_3 20 rfl rfl)
theorem dX0_whose_95 : decode cX0_whose 95 = .ok (.lstore 4, 2) := dk_55 4 (dk_at dksX0_whose_4 0 rfl rfl)
theorem dX0_whose_97 : decode cX0_whose 97 = .ok (.aload_n 0, 1) := dk_42 (dk_at dksX0_whose_4 2 rfl rfl)
theorem dX0_whose_98 : decode cX0_whose 98 = .ok (.getfield 532, 3) := dk_180 2 20 (dk_at dksX0_whose_4 3 rfl rfl)
theorem dX0_whose_101 : decode cX0_whose 101 = .ok (.lstore 6, 2) := dk_55 6 (dk_at dksX0_whose_4 6 rfl rfl)
theorem dX0_whose_103 : decode cX0_whose 103 = .ok (.iconst 1, 1) := dk_4 (dk_at dksX0_whose_4 8 rfl rfl)
theorem dX0_whose_104 : decode cX0_whose 104 = .ok (.istore 8, 2) := dk_54 8 (dk_at dksX0_whose_4 9 rfl rfl)
theorem dX0_whose_106 : decode cX0_whose 106 = .ok (.iinc 9 1, 3) := dk_132 9 1 (dk_at dksX0_whose_4 11 rfl rfl)
theorem dX0_whose_109 : decode cX0_whose 109 = .ok (.goto (-74), 3) := dk_167 255 182 (dk_at dksX0_whose_4 14 rfl rfl)
theorem dX0_whose_112 : decode cX0_whose 112 = .ok (.iload_n 1, 1) := dk_27 (dk_at dksX0_whose_4 17 rfl rfl)
theorem dX0_whose_113 : decode cX0_whose 113 = .ok (.ifCond .ne 7, 3) := dk_154 0 7 (dk_at dksX0_whose_4 18 rfl rfl)
theorem dX0_whose_116 : decode cX0_whose 116 = .ok (.iload_n 3, 1) := dk_29 (dk_at dksX0_whose_4 21 rfl rfl)
theorem dX0_whose_117 : decode cX0_whose 117 = .ok (.goto 13, 3) := dk_167 0 13 (dk_at dksX0_whose_5 0 rfl rfl)
theorem dX0_whose_120 : decode cX0_whose 120 = .ok (.iload 8, 2) := dk_21 8 (dk_at dksX0_whose_5 3 rfl rfl)
theorem dX0_whose_122 : decode cX0_whose 122 = .ok (.ifCond .eq 7, 3) := dk_153 0 7 (dk_at dksX0_whose_5 5 rfl rfl)
theorem dX0_whose_125 : decode cX0_whose 125 = .ok (.iconst 1, 1) := dk_4 (dk_at dksX0_whose_5 8 rfl rfl)
theorem dX0_whose_126 : decode cX0_whose 126 = .ok (.goto 4, 3) := dk_167 0 4 (dk_at dksX0_whose_5 9 rfl rfl)
theorem dX0_whose_129 : decode cX0_whose 129 = .ok (.iconst 0, 1) := dk_3 (dk_at dksX0_whose_5 12 rfl rfl)
theorem dX0_whose_130 : decode cX0_whose 130 = .ok (.ireturn, 1) := dk_172 (dk_at dksX0_whose_5 13 rfl rfl)
abbrev cX0_owe : ByteArray := prog_1_method_73_code
def yX0_owe : MethodName := ⟨RX0, "owe", "(III)Z"⟩
def dkwX0_owe_2 : List UInt8 := [79, 4, 172]
abbrev dktX0_owe_2 : List UInt8 := dkwX0_owe_2 ++ []
def dkwX0_owe_1 : List UInt8 := [19, 2, 33, 18, 218, 184, 0, 160, 154, 0, 5, 3, 172, 42, 180, 0, 129, 27, 50, 28, 92, 46, 29, 96]
abbrev dktX0_owe_1 : List UInt8 := dkwX0_owe_1 ++ dktX0_owe_2
def dkwX0_owe_0 : List UInt8 := [42, 27, 182, 1, 98, 153, 0, 28, 42, 28, 182, 1, 98, 153, 0, 20, 27, 28, 159, 0, 15, 29]
abbrev dktX0_owe_0 : List UInt8 := dkwX0_owe_0 ++ dktX0_owe_1
theorem dksX0_owe_0 : cX0_owe.data.toList.drop 0 = dktX0_owe_0 := by decide +kernel
theorem dksX0_owe_1 : cX0_owe.data.toList.drop 22 = dktX0_owe_1 := dk_seg dksX0_owe_0 22 rfl rfl
theorem dksX0_owe_2 : cX0_owe.data.toList.drop 46 = dktX0_owe_2 := dk_seg dksX0_owe_1 24 rfl rfl
theorem dX0_owe_0 : decode cX0_owe 0 = .ok (.aload_n 0, 1) := dk_42 (dk_at dksX0_owe_0 0 rfl rfl)
theorem dX0_owe_1 : decode cX0_owe 1 = .ok (.iload_n 1, 1) := dk_27 (dk_at dksX0_owe_0 1 rfl rfl)
theorem dX0_owe_2 : decode cX0_owe 2 = .ok (.invokevirtual 354, 3) := dk_182 1 98 (dk_at dksX0_owe_0 2 rfl rfl)
theorem dX0_owe_5 : decode cX0_owe 5 = .ok (.ifCond .eq 28, 3) := dk_153 0 28 (dk_at dksX0_owe_0 5 rfl rfl)
theorem dX0_owe_8 : decode cX0_owe 8 = .ok (.aload_n 0, 1) := dk_42 (dk_at dksX0_owe_0 8 rfl rfl)
theorem dX0_owe_9 : decode cX0_owe 9 = .ok (.iload_n 2, 1) := dk_28 (dk_at dksX0_owe_0 9 rfl rfl)
theorem dX0_owe_10 : decode cX0_owe 10 = .ok (.invokevirtual 354, 3) := dk_182 1 98 (dk_at dksX0_owe_0 10 rfl rfl)
theorem dX0_owe_13 : decode cX0_owe 13 = .ok (.ifCond .eq 20, 3) := dk_153 0 20 (dk_at dksX0_owe_0 13 rfl rfl)
theorem dX0_owe_16 : decode cX0_owe 16 = .ok (.iload_n 1, 1) := dk_27 (dk_at dksX0_owe_0 16 rfl rfl)
theorem dX0_owe_17 : decode cX0_owe 17 = .ok (.iload_n 2, 1) := dk_28 (dk_at dksX0_owe_0 17 rfl rfl)
theorem dX0_owe_18 : decode cX0_owe 18 = .ok (.if_icmp .eq 15, 3) := dk_159 0 15 (dk_at dksX0_owe_0 18 rfl rfl)
theorem dX0_owe_21 : decode cX0_owe 21 = .ok (.iload_n 3, 1) := dk_29 (dk_at dksX0_owe_0 21 rfl rfl)
theorem dX0_owe_22 : decode cX0_owe 22 = .ok (.ldc_w 545, 3) := dk_19 2 33 (dk_at dksX0_owe_1 0 rfl rfl)
theorem dX0_owe_25 : decode cX0_owe 25 = .ok (.ldc 218, 2) := dk_18 218 (dk_at dksX0_owe_1 3 rfl rfl)
theorem dX0_owe_27 : decode cX0_owe 27 = .ok (.invokestatic 160, 3) := dk_184 0 160 (dk_at dksX0_owe_1 5 rfl rfl)
theorem dX0_owe_30 : decode cX0_owe 30 = .ok (.ifCond .ne 5, 3) := dk_154 0 5 (dk_at dksX0_owe_1 8 rfl rfl)
theorem dX0_owe_33 : decode cX0_owe 33 = .ok (.iconst 0, 1) := dk_3 (dk_at dksX0_owe_1 11 rfl rfl)
theorem dX0_owe_34 : decode cX0_owe 34 = .ok (.ireturn, 1) := dk_172 (dk_at dksX0_owe_1 12 rfl rfl)
theorem dX0_owe_35 : decode cX0_owe 35 = .ok (.aload_n 0, 1) := dk_42 (dk_at dksX0_owe_1 13 rfl rfl)
theorem dX0_owe_36 : decode cX0_owe 36 = .ok (.getfield 129, 3) := dk_180 0 129 (dk_at dksX0_owe_1 14 rfl rfl)
theorem dX0_owe_39 : decode cX0_owe 39 = .ok (.iload_n 1, 1) := dk_27 (dk_at dksX0_owe_1 17 rfl rfl)
theorem dX0_owe_40 : decode cX0_owe 40 = .ok (.aaload, 1) := dk_50 (dk_at dksX0_owe_1 18 rfl rfl)
theorem dX0_owe_41 : decode cX0_owe 41 = .ok (.iload_n 2, 1) := dk_28 (dk_at dksX0_owe_1 19 rfl rfl)
theorem dX0_owe_42 : decode cX0_owe 42 = .ok (.dup2, 1) := dk_92 (dk_at dksX0_owe_1 20 rfl rfl)
theorem dX0_owe_43 : decode cX0_owe 43 = .ok (.iaload, 1) := dk_46 (dk_at dksX0_owe_1 21 rfl rfl)
theorem dX0_owe_44 : decode cX0_owe 44 = .ok (.iload_n 3, 1) := dk_29 (dk_at dksX0_owe_1 22 rfl rfl)
theorem dX0_owe_45 : decode cX0_owe 45 = .ok (.iadd, 1) := dk_96 (dk_at dksX0_owe_1 23 rfl rfl)
theorem dX0_owe_46 : decode cX0_owe 46 = .ok (.iastore, 1) := dk_79 (dk_at dksX0_owe_2 0 rfl rfl)
theorem dX0_owe_47 : decode cX0_owe 47 = .ok (.iconst 1, 1) := dk_4 (dk_at dksX0_owe_2 1 rfl rfl)
theorem dX0_owe_48 : decode cX0_owe 48 = .ok (.ireturn, 1) := dk_172 (dk_at dksX0_owe_2 2 rfl rfl)
abbrev cX0_payments : ByteArray := prog_1_method_76_code
def yX0_payments : MethodName := ⟨RX0, "payments", "()I"⟩
def dkwX0_payments_5 : List UInt8 := [100, 172]
abbrev dktX0_payments_5 : List UInt8 := dkwX0_payments_5 ++ []
def dkwX0_payments_4 : List UInt8 := [132, 2, 1, 167, 255, 197, 27, 184, 2, 10, 27, 154, 0, 7, 3, 167, 0, 9, 42, 180, 0, 132, 27, 46]
abbrev dktX0_payments_4 : List UInt8 := dkwX0_payments_4 ++ dktX0_payments_5
def dkwX0_payments_3 : List UInt8 := [182, 1, 118, 96, 79, 28, 27, 2, 130, 126, 154, 0, 14, 42, 180, 0, 132, 28, 42, 28, 182, 2, 34, 79]
abbrev dktX0_payments_3 : List UInt8 := dkwX0_payments_3 ++ dktX0_payments_4
def dkwX0_payments_2 : List UInt8 := [28, 184, 1, 206, 62, 42, 180, 0, 135, 28, 42, 180, 0, 135, 28, 28, 4, 100, 126, 46, 42, 29]
abbrev dktX0_payments_2 : List UInt8 := dkwX0_payments_2 ++ dktX0_payments_3
def dkwX0_payments_1 : List UInt8 := [167, 0, 4, 3, 128, 60, 132, 2, 1, 167, 255, 227, 4, 61, 28, 4, 42, 180, 1, 69, 120, 162, 0, 55]
abbrev dktX0_payments_1 : List UInt8 := dkwX0_payments_1 ++ dktX0_payments_2
def dkwX0_payments_0 : List UInt8 := [3, 60, 3, 61, 28, 42, 180, 1, 69, 162, 0, 27, 27, 42, 28, 182, 1, 118, 153, 0, 9, 4, 28, 120]
abbrev dktX0_payments_0 : List UInt8 := dkwX0_payments_0 ++ dktX0_payments_1
theorem dksX0_payments_0 : cX0_payments.data.toList.drop 0 = dktX0_payments_0 := by decide +kernel
theorem dksX0_payments_1 : cX0_payments.data.toList.drop 24 = dktX0_payments_1 := dk_seg dksX0_payments_0 24 rfl rfl
theorem dksX0_payments_2 : cX0_payments.data.toList.drop 48 = dktX0_payments_2 := dk_seg dksX0_payments_1 24 rfl rfl
theorem dksX0_payments_3 : cX0_payments.data.toList.drop 70 = dktX0_payments_3 := dk_seg dksX0_payments_2 22 rfl rfl
theorem dksX0_payments_4 : cX0_payments.data.toList.drop 94 = dktX0_payments_4 := dk_seg dksX0_payments_3 24 rfl rfl
theorem dksX0_payments_5 : cX0_payments.data.toList.drop 118 = dktX0_payments_5 := dk_seg dksX0_payments_4 24 rfl rfl
theorem dX0_payments_0 : decode cX0_payments 0 = .ok (.iconst 0, 1) := dk_3 (dk_at dksX0_payments_0 0 rfl rfl)
theorem dX0_payments_1 : decode cX0_payments 1 = .ok (.istore_n 1, 1) := dk_60 (dk_at dksX0_payments_0 1 rfl rfl)
theorem dX0_payments_2 : decode cX0_payments 2 = .ok (.iconst 0, 1) := dk_3 (dk_at dksX0_payments_0 2 rfl rfl)
theorem dX0_payments_3 : decode cX0_payments 3 = .ok (.istore_n 2, 1) := dk_61 (dk_at dksX0_payments_0 3 rfl rfl)
theorem dX0_payments_4 : decode cX0_payments 4 = .ok (.iload_n 2, 1) := dk_28 (dk_at dksX0_payments_0 4 rfl rfl)
theorem dX0_payments_5 : decode cX0_payments 5 = .ok (.aload_n 0, 1) := dk_42 (dk_at dksX0_payments_0 5 rfl rfl)
theorem dX0_payments_6 : decode cX0_payments 6 = .ok (.getfield 325, 3) := dk_180 1 69 (dk_at dksX0_payments_0 6 rfl rfl)
theorem dX0_payments_9 : decode cX0_payments 9 = .ok (.if_icmp .ge 27, 3) := dk_162 0 27 (dk_at dksX0_payments_0 9 rfl rfl)
theorem dX0_payments_12 : decode cX0_payments 12 = .ok (.iload_n 1, 1) := dk_27 (dk_at dksX0_payments_0 12 rfl rfl)
theorem dX0_payments_13 : decode cX0_payments 13 = .ok (.aload_n 0, 1) := dk_42 (dk_at dksX0_payments_0 13 rfl rfl)
theorem dX0_payments_14 : decode cX0_payments 14 = .ok (.iload_n 2, 1) := dk_28 (dk_at dksX0_payments_0 14 rfl rfl)
theorem dX0_payments_15 : decode cX0_payments 15 = .ok (.invokevirtual 374, 3) := dk_182 1 118 (dk_at dksX0_payments_0 15 rfl rfl)
theorem dX0_payments_18 : decode cX0_payments 18 = .ok (.ifCond .eq 9, 3) := dk_153 0 9 (dk_at dksX0_payments_0 18 rfl rfl)
theorem dX0_payments_21 : decode cX0_payments 21 = .ok (.iconst 1, 1) := dk_4 (dk_at dksX0_payments_0 21 rfl rfl)
theorem dX0_payments_22 : decode cX0_payments 22 = .ok (.iload_n 2, 1) := dk_28 (dk_at dksX0_payments_0 22 rfl rfl)
theorem dX0_payments_23 : decode cX0_payments 23 = .ok (.ishl, 1) := dk_120 (dk_at dksX0_payments_0 23 rfl rfl)
theorem dX0_payments_24 : decode cX0_payments 24 = .ok (.goto 4, 3) := dk_167 0 4 (dk_at dksX0_payments_1 0 rfl rfl)
theorem dX0_payments_27 : decode cX0_payments 27 = .ok (.iconst 0, 1) := dk_3 (dk_at dksX0_payments_1 3 rfl rfl)
theorem dX0_payments_28 : decode cX0_payments 28 = .ok (.ior, 1) := dk_128 (dk_at dksX0_payments_1 4 rfl rfl)
theorem dX0_payments_29 : decode cX0_payments 29 = .ok (.istore_n 1, 1) := dk_60 (dk_at dksX0_payments_1 5 rfl rfl)
theorem dX0_payments_30 : decode cX0_payments 30 = .ok (.iinc 2 1, 3) := dk_132 2 1 (dk_at dksX0_payments_1 6 rfl rfl)
theorem dX0_payments_33 : decode cX0_payments 33 = .ok (.goto (-29), 3) := dk_167 255 227 (dk_at dksX0_payments_1 9 rfl rfl)
theorem dX0_payments_36 : decode cX0_payments 36 = .ok (.iconst 1, 1) := dk_4 (dk_at dksX0_payments_1 12 rfl rfl)
theorem dX0_payments_37 : decode cX0_payments 37 = .ok (.istore_n 2, 1) := dk_61 (dk_at dksX0_payments_1 13 rfl rfl)
theorem dX0_payments_38 : decode cX0_payments 38 = .ok (.iload_n 2, 1) := dk_28 (dk_at dksX0_payments_1 14 rfl rfl)
theorem dX0_payments_39 : decode cX0_payments 39 = .ok (.iconst 1, 1) := dk_4 (dk_at dksX0_payments_1 15 rfl rfl)
theorem dX0_payments_40 : decode cX0_payments 40 = .ok (.aload_n 0, 1) := dk_42 (dk_at dksX0_payments_1 16 rfl rfl)
theorem dX0_payments_41 : decode cX0_payments 41 = .ok (.getfield 325, 3) := dk_180 1 69 (dk_at dksX0_payments_1 17 rfl rfl)
theorem dX0_payments_44 : decode cX0_payments 44 = .ok (.ishl, 1) := dk_120 (dk_at dksX0_payments_1 20 rfl rfl)
theorem dX0_payments_45 : decode cX0_payments 45 = .ok (.if_icmp .ge 55, 3) := dk_162 0 55 (dk_at dksX0_payments_1 21 rfl rfl)
theorem dX0_payments_48 : decode cX0_payments 48 = .ok (.iload_n 2, 1) := dk_28 (dk_at dksX0_payments_2 0 rfl rfl)
theorem dX0_payments_49 : decode cX0_payments 49 = .ok (.invokestatic 462, 3) := dk_184 1 206 (dk_at dksX0_payments_2 1 rfl rfl)
theorem dX0_payments_52 : decode cX0_payments 52 = .ok (.istore_n 3, 1) := dk_62 (dk_at dksX0_payments_2 4 rfl rfl)
theorem dX0_payments_53 : decode cX0_payments 53 = .ok (.aload_n 0, 1) := dk_42 (dk_at dksX0_payments_2 5 rfl rfl)
theorem dX0_payments_54 : decode cX0_payments 54 = .ok (.getfield 135, 3) := dk_180 0 135 (dk_at dksX0_payments_2 6 rfl rfl)
theorem dX0_payments_57 : decode cX0_payments 57 = .ok (.iload_n 2, 1) := dk_28 (dk_at dksX0_payments_2 9 rfl rfl)
theorem dX0_payments_58 : decode cX0_payments 58 = .ok (.aload_n 0, 1) := dk_42 (dk_at dksX0_payments_2 10 rfl rfl)
theorem dX0_payments_59 : decode cX0_payments 59 = .ok (.getfield 135, 3) := dk_180 0 135 (dk_at dksX0_payments_2 11 rfl rfl)
theorem dX0_payments_62 : decode cX0_payments 62 = .ok (.iload_n 2, 1) := dk_28 (dk_at dksX0_payments_2 14 rfl rfl)
theorem dX0_payments_63 : decode cX0_payments 63 = .ok (.iload_n 2, 1) := dk_28 (dk_at dksX0_payments_2 15 rfl rfl)
theorem dX0_payments_64 : decode cX0_payments 64 = .ok (.iconst 1, 1) := dk_4 (dk_at dksX0_payments_2 16 rfl rfl)
theorem dX0_payments_65 : decode cX0_payments 65 = .ok (.isub, 1) := dk_100 (dk_at dksX0_payments_2 17 rfl rfl)
theorem dX0_payments_66 : decode cX0_payments 66 = .ok (.iand, 1) := dk_126 (dk_at dksX0_payments_2 18 rfl rfl)
theorem dX0_payments_67 : decode cX0_payments 67 = .ok (.iaload, 1) := dk_46 (dk_at dksX0_payments_2 19 rfl rfl)
theorem dX0_payments_68 : decode cX0_payments 68 = .ok (.aload_n 0, 1) := dk_42 (dk_at dksX0_payments_2 20 rfl rfl)
theorem dX0_payments_69 : decode cX0_payments 69 = .ok (.iload_n 3, 1) := dk_29 (dk_at dksX0_payments_2 21 rfl rfl)
theorem dX0_payments_70 : decode cX0_payments 70 = .ok (.invokevirtual 374, 3) := dk_182 1 118 (dk_at dksX0_payments_3 0 rfl rfl)
theorem dX0_payments_73 : decode cX0_payments 73 = .ok (.iadd, 1) := dk_96 (dk_at dksX0_payments_3 3 rfl rfl)
theorem dX0_payments_74 : decode cX0_payments 74 = .ok (.iastore, 1) := dk_79 (dk_at dksX0_payments_3 4 rfl rfl)
theorem dX0_payments_75 : decode cX0_payments 75 = .ok (.iload_n 2, 1) := dk_28 (dk_at dksX0_payments_3 5 rfl rfl)
theorem dX0_payments_76 : decode cX0_payments 76 = .ok (.iload_n 1, 1) := dk_27 (dk_at dksX0_payments_3 6 rfl rfl)
theorem dX0_payments_77 : decode cX0_payments 77 = .ok (.iconst (-1), 1) := dk_2 (dk_at dksX0_payments_3 7 rfl rfl)
theorem dX0_payments_78 : decode cX0_payments 78 = .ok (.ixor, 1) := dk_130 (dk_at dksX0_payments_3 8 rfl rfl)
theorem dX0_payments_79 : decode cX0_payments 79 = .ok (.iand, 1) := dk_126 (dk_at dksX0_payments_3 9 rfl rfl)
theorem dX0_payments_80 : decode cX0_payments 80 = .ok (.ifCond .ne 14, 3) := dk_154 0 14 (dk_at dksX0_payments_3 10 rfl rfl)
theorem dX0_payments_83 : decode cX0_payments 83 = .ok (.aload_n 0, 1) := dk_42 (dk_at dksX0_payments_3 13 rfl rfl)
theorem dX0_payments_84 : decode cX0_payments 84 = .ok (.getfield 132, 3) := dk_180 0 132 (dk_at dksX0_payments_3 14 rfl rfl)
theorem dX0_payments_87 : decode cX0_payments 87 = .ok (.iload_n 2, 1) := dk_28 (dk_at dksX0_payments_3 17 rfl rfl)
theorem dX0_payments_88 : decode cX0_payments 88 = .ok (.aload_n 0, 1) := dk_42 (dk_at dksX0_payments_3 18 rfl rfl)
theorem dX0_payments_89 : decode cX0_payments 89 = .ok (.iload_n 2, 1) := dk_28 (dk_at dksX0_payments_3 19 rfl rfl)
theorem dX0_payments_90 : decode cX0_payments 90 = .ok (.invokevirtual 546, 3) := dk_182 2 34 (dk_at dksX0_payments_3 20 rfl rfl)
theorem dX0_payments_93 : decode cX0_payments 93 = .ok (.iastore, 1) := dk_79 (dk_at dksX0_payments_3 23 rfl rfl)
theorem dX0_payments_94 : decode cX0_payments 94 = .ok (.iinc 2 1, 3) := dk_132 2 1 (dk_at dksX0_payments_4 0 rfl rfl)
theorem dX0_payments_97 : decode cX0_payments 97 = .ok (.goto (-59), 3) := dk_167 255 197 (dk_at dksX0_payments_4 3 rfl rfl)
theorem dX0_payments_100 : decode cX0_payments 100 = .ok (.iload_n 1, 1) := dk_27 (dk_at dksX0_payments_4 6 rfl rfl)
theorem dX0_payments_101 : decode cX0_payments 101 = .ok (.invokestatic 522, 3) := dk_184 2 10 (dk_at dksX0_payments_4 7 rfl rfl)
theorem dX0_payments_104 : decode cX0_payments 104 = .ok (.iload_n 1, 1) := dk_27 (dk_at dksX0_payments_4 10 rfl rfl)
theorem dX0_payments_105 : decode cX0_payments 105 = .ok (.ifCond .ne 7, 3) := dk_154 0 7 (dk_at dksX0_payments_4 11 rfl rfl)
theorem dX0_payments_108 : decode cX0_payments 108 = .ok (.iconst 0, 1) := dk_3 (dk_at dksX0_payments_4 14 rfl rfl)
theorem dX0_payments_109 : decode cX0_payments 109 = .ok (.goto 9, 3) := dk_167 0 9 (dk_at dksX0_payments_4 15 rfl rfl)
theorem dX0_payments_112 : decode cX0_payments 112 = .ok (.aload_n 0, 1) := dk_42 (dk_at dksX0_payments_4 18 rfl rfl)
theorem dX0_payments_113 : decode cX0_payments 113 = .ok (.getfield 132, 3) := dk_180 0 132 (dk_at dksX0_payments_4 19 rfl rfl)
theorem dX0_payments_116 : decode cX0_payments 116 = .ok (.iload_n 1, 1) := dk_27 (dk_at dksX0_payments_4 22 rfl rfl)
theorem dX0_payments_117 : decode cX0_payments 117 = .ok (.iaload, 1) := dk_46 (dk_at dksX0_payments_4 23 rfl rfl)
theorem dX0_payments_118 : decode cX0_payments 118 = .ok (.isub, 1) := dk_100 (dk_at dksX0_payments_5 0 rfl rfl)
theorem dX0_payments_119 : decode cX0_payments 119 = .ok (.ireturn, 1) := dk_172 (dk_at dksX0_payments_5 1 rfl rfl)
abbrev cX0_mostGroups : ByteArray := prog_1_method_75_code
def yX0_mostGroups : MethodName := ⟨RX0, "mostGroups", "(I)I"⟩
def dkwX0_mostGroups_2 : List UInt8 := [184, 1, 151, 62, 21, 4, 4, 100, 27, 126, 54, 4, 167, 255, 208, 29, 172]
abbrev dktX0_mostGroups_2 : List UInt8 := dkwX0_mostGroups_2 ++ []
def dkwX0_mostGroups_1 : List UInt8 := [180, 0, 135, 21, 4, 46, 154, 0, 21, 29, 4, 42, 180, 0, 132, 27, 21, 4, 2, 130, 126, 46, 96]
abbrev dktX0_mostGroups_1 : List UInt8 := dkwX0_mostGroups_1 ++ dktX0_mostGroups_2
def dkwX0_mostGroups_0 : List UInt8 := [27, 27, 116, 126, 61, 3, 62, 27, 54, 4, 21, 4, 158, 0, 49, 21, 4, 28, 126, 153, 0, 31, 42]
abbrev dktX0_mostGroups_0 : List UInt8 := dkwX0_mostGroups_0 ++ dktX0_mostGroups_1
theorem dksX0_mostGroups_0 : cX0_mostGroups.data.toList.drop 0 = dktX0_mostGroups_0 := by decide +kernel
theorem dksX0_mostGroups_1 : cX0_mostGroups.data.toList.drop 23 = dktX0_mostGroups_1 := dk_seg dksX0_mostGroups_0 23 rfl rfl
theorem dksX0_mostGroups_2 : cX0_mostGroups.data.toList.drop 46 = dktX0_mostGroups_2 := dk_seg dksX0_mostGroups_1 23 rfl rfl
theorem dX0_mostGroups_0 : decode cX0_mostGroups 0 = .ok (.iload_n 1, 1) := dk_27 (dk_at dksX0_mostGroups_0 0 rfl rfl)
theorem dX0_mostGroups_1 : decode cX0_mostGroups 1 = .ok (.iload_n 1, 1) := dk_27 (dk_at dksX0_mostGroups_0 1 rfl rfl)
theorem dX0_mostGroups_2 : decode cX0_mostGroups 2 = .ok (.ineg, 1) := dk_116 (dk_at dksX0_mostGroups_0 2 rfl rfl)
theorem dX0_mostGroups_3 : decode cX0_mostGroups 3 = .ok (.iand, 1) := dk_126 (dk_at dksX0_mostGroups_0 3 rfl rfl)
theorem dX0_mostGroups_4 : decode cX0_mostGroups 4 = .ok (.istore_n 2, 1) := dk_61 (dk_at dksX0_mostGroups_0 4 rfl rfl)
theorem dX0_mostGroups_5 : decode cX0_mostGroups 5 = .ok (.iconst 0, 1) := dk_3 (dk_at dksX0_mostGroups_0 5 rfl rfl)
theorem dX0_mostGroups_6 : decode cX0_mostGroups 6 = .ok (.istore_n 3, 1) := dk_62 (dk_at dksX0_mostGroups_0 6 rfl rfl)
theorem dX0_mostGroups_7 : decode cX0_mostGroups 7 = .ok (.iload_n 1, 1) := dk_27 (dk_at dksX0_mostGroups_0 7 rfl rfl)
theorem dX0_mostGroups_8 : decode cX0_mostGroups 8 = .ok (.istore 4, 2) := dk_54 4 (dk_at dksX0_mostGroups_0 8 rfl rfl)
theorem dX0_mostGroups_10 : decode cX0_mostGroups 10 = .ok (.iload 4, 2) := dk_21 4 (dk_at dksX0_mostGroups_0 10 rfl rfl)
theorem dX0_mostGroups_12 : decode cX0_mostGroups 12 = .ok (.ifCond .le 49, 3) := dk_158 0 49 (dk_at dksX0_mostGroups_0 12 rfl rfl)
theorem dX0_mostGroups_15 : decode cX0_mostGroups 15 = .ok (.iload 4, 2) := dk_21 4 (dk_at dksX0_mostGroups_0 15 rfl rfl)
theorem dX0_mostGroups_17 : decode cX0_mostGroups 17 = .ok (.iload_n 2, 1) := dk_28 (dk_at dksX0_mostGroups_0 17 rfl rfl)
theorem dX0_mostGroups_18 : decode cX0_mostGroups 18 = .ok (.iand, 1) := dk_126 (dk_at dksX0_mostGroups_0 18 rfl rfl)
theorem dX0_mostGroups_19 : decode cX0_mostGroups 19 = .ok (.ifCond .eq 31, 3) := dk_153 0 31 (dk_at dksX0_mostGroups_0 19 rfl rfl)
theorem dX0_mostGroups_22 : decode cX0_mostGroups 22 = .ok (.aload_n 0, 1) := dk_42 (dk_at dksX0_mostGroups_0 22 rfl rfl)
theorem dX0_mostGroups_23 : decode cX0_mostGroups 23 = .ok (.getfield 135, 3) := dk_180 0 135 (dk_at dksX0_mostGroups_1 0 rfl rfl)
theorem dX0_mostGroups_26 : decode cX0_mostGroups 26 = .ok (.iload 4, 2) := dk_21 4 (dk_at dksX0_mostGroups_1 3 rfl rfl)
theorem dX0_mostGroups_28 : decode cX0_mostGroups 28 = .ok (.iaload, 1) := dk_46 (dk_at dksX0_mostGroups_1 5 rfl rfl)
theorem dX0_mostGroups_29 : decode cX0_mostGroups 29 = .ok (.ifCond .ne 21, 3) := dk_154 0 21 (dk_at dksX0_mostGroups_1 6 rfl rfl)
theorem dX0_mostGroups_32 : decode cX0_mostGroups 32 = .ok (.iload_n 3, 1) := dk_29 (dk_at dksX0_mostGroups_1 9 rfl rfl)
theorem dX0_mostGroups_33 : decode cX0_mostGroups 33 = .ok (.iconst 1, 1) := dk_4 (dk_at dksX0_mostGroups_1 10 rfl rfl)
theorem dX0_mostGroups_34 : decode cX0_mostGroups 34 = .ok (.aload_n 0, 1) := dk_42 (dk_at dksX0_mostGroups_1 11 rfl rfl)
theorem dX0_mostGroups_35 : decode cX0_mostGroups 35 = .ok (.getfield 132, 3) := dk_180 0 132 (dk_at dksX0_mostGroups_1 12 rfl rfl)
theorem dX0_mostGroups_38 : decode cX0_mostGroups 38 = .ok (.iload_n 1, 1) := dk_27 (dk_at dksX0_mostGroups_1 15 rfl rfl)
theorem dX0_mostGroups_39 : decode cX0_mostGroups 39 = .ok (.iload 4, 2) := dk_21 4 (dk_at dksX0_mostGroups_1 16 rfl rfl)
theorem dX0_mostGroups_41 : decode cX0_mostGroups 41 = .ok (.iconst (-1), 1) := dk_2 (dk_at dksX0_mostGroups_1 18 rfl rfl)
theorem dX0_mostGroups_42 : decode cX0_mostGroups 42 = .ok (.ixor, 1) := dk_130 (dk_at dksX0_mostGroups_1 19 rfl rfl)
theorem dX0_mostGroups_43 : decode cX0_mostGroups 43 = .ok (.iand, 1) := dk_126 (dk_at dksX0_mostGroups_1 20 rfl rfl)
theorem dX0_mostGroups_44 : decode cX0_mostGroups 44 = .ok (.iaload, 1) := dk_46 (dk_at dksX0_mostGroups_1 21 rfl rfl)
theorem dX0_mostGroups_45 : decode cX0_mostGroups 45 = .ok (.iadd, 1) := dk_96 (dk_at dksX0_mostGroups_1 22 rfl rfl)
theorem dX0_mostGroups_46 : decode cX0_mostGroups 46 = .ok (.invokestatic 407, 3) := dk_184 1 151 (dk_at dksX0_mostGroups_2 0 rfl rfl)
theorem dX0_mostGroups_49 : decode cX0_mostGroups 49 = .ok (.istore_n 3, 1) := dk_62 (dk_at dksX0_mostGroups_2 3 rfl rfl)
theorem dX0_mostGroups_50 : decode cX0_mostGroups 50 = .ok (.iload 4, 2) := dk_21 4 (dk_at dksX0_mostGroups_2 4 rfl rfl)
theorem dX0_mostGroups_52 : decode cX0_mostGroups 52 = .ok (.iconst 1, 1) := dk_4 (dk_at dksX0_mostGroups_2 6 rfl rfl)
theorem dX0_mostGroups_53 : decode cX0_mostGroups 53 = .ok (.isub, 1) := dk_100 (dk_at dksX0_mostGroups_2 7 rfl rfl)
theorem dX0_mostGroups_54 : decode cX0_mostGroups 54 = .ok (.iload_n 1, 1) := dk_27 (dk_at dksX0_mostGroups_2 8 rfl rfl)
theorem dX0_mostGroups_55 : decode cX0_mostGroups 55 = .ok (.iand, 1) := dk_126 (dk_at dksX0_mostGroups_2 9 rfl rfl)
theorem dX0_mostGroups_56 : decode cX0_mostGroups 56 = .ok (.istore 4, 2) := dk_54 4 (dk_at dksX0_mostGroups_2 10 rfl rfl)
theorem dX0_mostGroups_58 : decode cX0_mostGroups 58 = .ok (.goto (-48), 3) := dk_167 255 208 (dk_at dksX0_mostGroups_2 12 rfl rfl)
theorem dX0_mostGroups_61 : decode cX0_mostGroups 61 = .ok (.iload_n 3, 1) := dk_29 (dk_at dksX0_mostGroups_2 15 rfl rfl)
theorem dX0_mostGroups_62 : decode cX0_mostGroups 62 = .ok (.ireturn, 1) := dk_172 (dk_at dksX0_mostGroups_2 16 rfl rfl)
abbrev cX0_image : ByteArray := prog_1_method_78_code
def yX0_image : MethodName := ⟨RX0, "image", "(Z)Z"⟩
def dkwX0_image_11 : List UInt8 := [180, 2, 47, 181, 1, 231, 42, 182, 1, 95, 4, 172]
abbrev dktX0_image_11 : List UInt8 := dkwX0_image_11 ++ []
def dkwX0_image_10 : List UInt8 := [180, 0, 86, 182, 1, 78, 42, 42, 180, 2, 37, 181, 0, 62, 42, 42, 180, 2, 44, 181, 1, 69, 42, 42]
abbrev dktX0_image_10 : List UInt8 := dkwX0_image_10 ++ dktX0_image_11
def dkwX0_image_9 : List UInt8 := [180, 1, 69, 181, 2, 44, 42, 42, 180, 1, 231, 181, 2, 47, 167, 0, 42, 42, 180, 0, 82, 42]
abbrev dktX0_image_9 : List UInt8 := dkwX0_image_9 ++ dktX0_image_10
def dkwX0_image_8 : List UInt8 := [153, 0, 41, 42, 180, 0, 86, 42, 180, 0, 82, 182, 1, 78, 42, 42, 180, 0, 62, 181, 2, 37, 42, 42]
abbrev dktX0_image_8 : List UInt8 := dkwX0_image_8 ++ dktX0_image_9
def dkwX0_image_7 : List UInt8 := [42, 180, 0, 150, 27, 153, 0, 10, 42, 180, 0, 150, 167, 0, 7, 42, 180, 0, 72, 184, 1, 170, 27]
abbrev dktX0_image_7 : List UInt8 := dkwX0_image_7 ++ dktX0_image_8
def dkwX0_image_6 : List UInt8 := [180, 0, 147, 167, 0, 7, 42, 180, 0, 129, 184, 2, 40, 27, 153, 0, 10, 42, 180, 0, 72, 167, 0, 7]
abbrev dktX0_image_6 : List UInt8 := dkwX0_image_6 ++ dktX0_image_7
def dkwX0_image_5 : List UInt8 := [184, 2, 40, 27, 153, 0, 10, 42, 180, 0, 129, 167, 0, 7, 42, 180, 0, 147, 27, 153, 0, 10, 42]
abbrev dktX0_image_5 : List UInt8 := dkwX0_image_5 ++ dktX0_image_6
def dkwX0_image_4 : List UInt8 := [167, 0, 7, 42, 180, 0, 144, 27, 153, 0, 10, 42, 180, 0, 144, 167, 0, 7, 42, 180, 0, 126]
abbrev dktX0_image_4 : List UInt8 := dkwX0_image_4 ++ dktX0_image_5
def dkwX0_image_3 : List UInt8 := [180, 0, 141, 167, 0, 7, 42, 180, 0, 118, 3, 16, 60, 184, 1, 63, 27, 153, 0, 10, 42, 180, 0, 126]
abbrev dktX0_image_3 : List UInt8 := dkwX0_image_3 ++ dktX0_image_4
def dkwX0_image_2 : List UInt8 := [184, 1, 63, 27, 153, 0, 10, 42, 180, 0, 118, 167, 0, 7, 42, 180, 0, 141, 3, 27, 153, 0, 10, 42]
abbrev dktX0_image_2 : List UInt8 := dkwX0_image_2 ++ dktX0_image_3
def dkwX0_image_1 : List UInt8 := [42, 180, 0, 138, 3, 27, 153, 0, 10, 42, 180, 0, 138, 167, 0, 7, 42, 180, 0, 68, 3, 16, 9]
abbrev dktX0_image_1 : List UInt8 := dkwX0_image_1 ++ dktX0_image_2
def dkwX0_image_0 : List UInt8 := [27, 154, 0, 12, 42, 180, 2, 37, 199, 0, 5, 3, 172, 27, 153, 0, 10, 42, 180, 0, 68, 167, 0, 7]
abbrev dktX0_image_0 : List UInt8 := dkwX0_image_0 ++ dktX0_image_1
theorem dksX0_image_0 : cX0_image.data.toList.drop 0 = dktX0_image_0 := by decide +kernel
theorem dksX0_image_1 : cX0_image.data.toList.drop 24 = dktX0_image_1 := dk_seg dksX0_image_0 24 rfl rfl
theorem dksX0_image_2 : cX0_image.data.toList.drop 47 = dktX0_image_2 := dk_seg dksX0_image_1 23 rfl rfl
theorem dksX0_image_3 : cX0_image.data.toList.drop 71 = dktX0_image_3 := dk_seg dksX0_image_2 24 rfl rfl
theorem dksX0_image_4 : cX0_image.data.toList.drop 95 = dktX0_image_4 := dk_seg dksX0_image_3 24 rfl rfl
theorem dksX0_image_5 : cX0_image.data.toList.drop 117 = dktX0_image_5 := dk_seg dksX0_image_4 22 rfl rfl
theorem dksX0_image_6 : cX0_image.data.toList.drop 140 = dktX0_image_6 := dk_seg dksX0_image_5 23 rfl rfl
theorem dksX0_image_7 : cX0_image.data.toList.drop 164 = dktX0_image_7 := dk_seg dksX0_image_6 24 rfl rfl
theorem dksX0_image_8 : cX0_image.data.toList.drop 187 = dktX0_image_8 := dk_seg dksX0_image_7 23 rfl rfl
theorem dksX0_image_9 : cX0_image.data.toList.drop 211 = dktX0_image_9 := dk_seg dksX0_image_8 24 rfl rfl
theorem dksX0_image_10 : cX0_image.data.toList.drop 233 = dktX0_image_10 := dk_seg dksX0_image_9 22 rfl rfl
theorem dksX0_image_11 : cX0_image.data.toList.drop 257 = dktX0_image_11 := dk_seg dksX0_image_10 24 rfl rfl
theorem dX0_image_0 : decode cX0_image 0 = .ok (.iload_n 1, 1) := dk_27 (dk_at dksX0_image_0 0 rfl rfl)
theorem dX0_image_1 : decode cX0_image 1 = .ok (.ifCond .ne 12, 3) := dk_154 0 12 (dk_at dksX0_image_0 1 rfl rfl)
theorem dX0_image_4 : decode cX0_image 4 = .ok (.aload_n 0, 1) := dk_42 (dk_at dksX0_image_0 4 rfl rfl)
theorem dX0_image_5 : decode cX0_image 5 = .ok (.getfield 549, 3) := dk_180 2 37 (dk_at dksX0_image_0 5 rfl rfl)
theorem dX0_image_8 : decode cX0_image 8 = .ok (.ifnonnull 5, 3) := dk_199 0 5 (dk_at dksX0_image_0 8 rfl rfl)
theorem dX0_image_11 : decode cX0_image 11 = .ok (.iconst 0, 1) := dk_3 (dk_at dksX0_image_0 11 rfl rfl)
theorem dX0_image_12 : decode cX0_image 12 = .ok (.ireturn, 1) := dk_172 (dk_at dksX0_image_0 12 rfl rfl)
theorem dX0_image_13 : decode cX0_image 13 = .ok (.iload_n 1, 1) := dk_27 (dk_at dksX0_image_0 13 rfl rfl)
theorem dX0_image_14 : decode cX0_image 14 = .ok (.ifCond .eq 10, 3) := dk_153 0 10 (dk_at dksX0_image_0 14 rfl rfl)
theorem dX0_image_17 : decode cX0_image 17 = .ok (.aload_n 0, 1) := dk_42 (dk_at dksX0_image_0 17 rfl rfl)
theorem dX0_image_18 : decode cX0_image 18 = .ok (.getfield 68, 3) := dk_180 0 68 (dk_at dksX0_image_0 18 rfl rfl)
theorem dX0_image_21 : decode cX0_image 21 = .ok (.goto 7, 3) := dk_167 0 7 (dk_at dksX0_image_0 21 rfl rfl)
theorem dX0_image_24 : decode cX0_image 24 = .ok (.aload_n 0, 1) := dk_42 (dk_at dksX0_image_1 0 rfl rfl)
theorem dX0_image_25 : decode cX0_image 25 = .ok (.getfield 138, 3) := dk_180 0 138 (dk_at dksX0_image_1 1 rfl rfl)
theorem dX0_image_28 : decode cX0_image 28 = .ok (.iconst 0, 1) := dk_3 (dk_at dksX0_image_1 4 rfl rfl)
theorem dX0_image_29 : decode cX0_image 29 = .ok (.iload_n 1, 1) := dk_27 (dk_at dksX0_image_1 5 rfl rfl)
theorem dX0_image_30 : decode cX0_image 30 = .ok (.ifCond .eq 10, 3) := dk_153 0 10 (dk_at dksX0_image_1 6 rfl rfl)
theorem dX0_image_33 : decode cX0_image 33 = .ok (.aload_n 0, 1) := dk_42 (dk_at dksX0_image_1 9 rfl rfl)
theorem dX0_image_34 : decode cX0_image 34 = .ok (.getfield 138, 3) := dk_180 0 138 (dk_at dksX0_image_1 10 rfl rfl)
theorem dX0_image_37 : decode cX0_image 37 = .ok (.goto 7, 3) := dk_167 0 7 (dk_at dksX0_image_1 13 rfl rfl)
theorem dX0_image_40 : decode cX0_image 40 = .ok (.aload_n 0, 1) := dk_42 (dk_at dksX0_image_1 16 rfl rfl)
theorem dX0_image_41 : decode cX0_image 41 = .ok (.getfield 68, 3) := dk_180 0 68 (dk_at dksX0_image_1 17 rfl rfl)
theorem dX0_image_44 : decode cX0_image 44 = .ok (.iconst 0, 1) := dk_3 (dk_at dksX0_image_1 20 rfl rfl)
theorem dX0_image_45 : decode cX0_image 45 = .ok (.bipush 9, 2) := dk_16 9 (dk_at dksX0_image_1 21 rfl rfl)
theorem dX0_image_47 : decode cX0_image 47 = .ok (.invokestatic 319, 3) := dk_184 1 63 (dk_at dksX0_image_2 0 rfl rfl)
theorem dX0_image_50 : decode cX0_image 50 = .ok (.iload_n 1, 1) := dk_27 (dk_at dksX0_image_2 3 rfl rfl)
theorem dX0_image_51 : decode cX0_image 51 = .ok (.ifCond .eq 10, 3) := dk_153 0 10 (dk_at dksX0_image_2 4 rfl rfl)
theorem dX0_image_54 : decode cX0_image 54 = .ok (.aload_n 0, 1) := dk_42 (dk_at dksX0_image_2 7 rfl rfl)
theorem dX0_image_55 : decode cX0_image 55 = .ok (.getfield 118, 3) := dk_180 0 118 (dk_at dksX0_image_2 8 rfl rfl)
theorem dX0_image_58 : decode cX0_image 58 = .ok (.goto 7, 3) := dk_167 0 7 (dk_at dksX0_image_2 11 rfl rfl)
theorem dX0_image_61 : decode cX0_image 61 = .ok (.aload_n 0, 1) := dk_42 (dk_at dksX0_image_2 14 rfl rfl)
theorem dX0_image_62 : decode cX0_image 62 = .ok (.getfield 141, 3) := dk_180 0 141 (dk_at dksX0_image_2 15 rfl rfl)
theorem dX0_image_65 : decode cX0_image 65 = .ok (.iconst 0, 1) := dk_3 (dk_at dksX0_image_2 18 rfl rfl)
theorem dX0_image_66 : decode cX0_image 66 = .ok (.iload_n 1, 1) := dk_27 (dk_at dksX0_image_2 19 rfl rfl)
theorem dX0_image_67 : decode cX0_image 67 = .ok (.ifCond .eq 10, 3) := dk_153 0 10 (dk_at dksX0_image_2 20 rfl rfl)
theorem dX0_image_70 : decode cX0_image 70 = .ok (.aload_n 0, 1) := dk_42 (dk_at dksX0_image_2 23 rfl rfl)
theorem dX0_image_71 : decode cX0_image 71 = .ok (.getfield 141, 3) := dk_180 0 141 (dk_at dksX0_image_3 0 rfl rfl)
theorem dX0_image_74 : decode cX0_image 74 = .ok (.goto 7, 3) := dk_167 0 7 (dk_at dksX0_image_3 3 rfl rfl)
theorem dX0_image_77 : decode cX0_image 77 = .ok (.aload_n 0, 1) := dk_42 (dk_at dksX0_image_3 6 rfl rfl)
theorem dX0_image_78 : decode cX0_image 78 = .ok (.getfield 118, 3) := dk_180 0 118 (dk_at dksX0_image_3 7 rfl rfl)
theorem dX0_image_81 : decode cX0_image 81 = .ok (.iconst 0, 1) := dk_3 (dk_at dksX0_image_3 10 rfl rfl)
theorem dX0_image_82 : decode cX0_image 82 = .ok (.bipush 60, 2) := dk_16 60 (dk_at dksX0_image_3 11 rfl rfl)
theorem dX0_image_84 : decode cX0_image 84 = .ok (.invokestatic 319, 3) := dk_184 1 63 (dk_at dksX0_image_3 13 rfl rfl)
theorem dX0_image_87 : decode cX0_image 87 = .ok (.iload_n 1, 1) := dk_27 (dk_at dksX0_image_3 16 rfl rfl)
theorem dX0_image_88 : decode cX0_image 88 = .ok (.ifCond .eq 10, 3) := dk_153 0 10 (dk_at dksX0_image_3 17 rfl rfl)
theorem dX0_image_91 : decode cX0_image 91 = .ok (.aload_n 0, 1) := dk_42 (dk_at dksX0_image_3 20 rfl rfl)
theorem dX0_image_92 : decode cX0_image 92 = .ok (.getfield 126, 3) := dk_180 0 126 (dk_at dksX0_image_3 21 rfl rfl)
theorem dX0_image_95 : decode cX0_image 95 = .ok (.goto 7, 3) := dk_167 0 7 (dk_at dksX0_image_4 0 rfl rfl)
theorem dX0_image_98 : decode cX0_image 98 = .ok (.aload_n 0, 1) := dk_42 (dk_at dksX0_image_4 3 rfl rfl)
theorem dX0_image_99 : decode cX0_image 99 = .ok (.getfield 144, 3) := dk_180 0 144 (dk_at dksX0_image_4 4 rfl rfl)
theorem dX0_image_102 : decode cX0_image 102 = .ok (.iload_n 1, 1) := dk_27 (dk_at dksX0_image_4 7 rfl rfl)
theorem dX0_image_103 : decode cX0_image 103 = .ok (.ifCond .eq 10, 3) := dk_153 0 10 (dk_at dksX0_image_4 8 rfl rfl)
theorem dX0_image_106 : decode cX0_image 106 = .ok (.aload_n 0, 1) := dk_42 (dk_at dksX0_image_4 11 rfl rfl)
theorem dX0_image_107 : decode cX0_image 107 = .ok (.getfield 144, 3) := dk_180 0 144 (dk_at dksX0_image_4 12 rfl rfl)
theorem dX0_image_110 : decode cX0_image 110 = .ok (.goto 7, 3) := dk_167 0 7 (dk_at dksX0_image_4 15 rfl rfl)
theorem dX0_image_113 : decode cX0_image 113 = .ok (.aload_n 0, 1) := dk_42 (dk_at dksX0_image_4 18 rfl rfl)
theorem dX0_image_114 : decode cX0_image 114 = .ok (.getfield 126, 3) := dk_180 0 126 (dk_at dksX0_image_4 19 rfl rfl)
theorem dX0_image_117 : decode cX0_image 117 = .ok (.invokestatic 552, 3) := dk_184 2 40 (dk_at dksX0_image_5 0 rfl rfl)
theorem dX0_image_120 : decode cX0_image 120 = .ok (.iload_n 1, 1) := dk_27 (dk_at dksX0_image_5 3 rfl rfl)
theorem dX0_image_121 : decode cX0_image 121 = .ok (.ifCond .eq 10, 3) := dk_153 0 10 (dk_at dksX0_image_5 4 rfl rfl)
theorem dX0_image_124 : decode cX0_image 124 = .ok (.aload_n 0, 1) := dk_42 (dk_at dksX0_image_5 7 rfl rfl)
theorem dX0_image_125 : decode cX0_image 125 = .ok (.getfield 129, 3) := dk_180 0 129 (dk_at dksX0_image_5 8 rfl rfl)
theorem dX0_image_128 : decode cX0_image 128 = .ok (.goto 7, 3) := dk_167 0 7 (dk_at dksX0_image_5 11 rfl rfl)
theorem dX0_image_131 : decode cX0_image 131 = .ok (.aload_n 0, 1) := dk_42 (dk_at dksX0_image_5 14 rfl rfl)
theorem dX0_image_132 : decode cX0_image 132 = .ok (.getfield 147, 3) := dk_180 0 147 (dk_at dksX0_image_5 15 rfl rfl)
theorem dX0_image_135 : decode cX0_image 135 = .ok (.iload_n 1, 1) := dk_27 (dk_at dksX0_image_5 18 rfl rfl)
theorem dX0_image_136 : decode cX0_image 136 = .ok (.ifCond .eq 10, 3) := dk_153 0 10 (dk_at dksX0_image_5 19 rfl rfl)
theorem dX0_image_139 : decode cX0_image 139 = .ok (.aload_n 0, 1) := dk_42 (dk_at dksX0_image_5 22 rfl rfl)
theorem dX0_image_140 : decode cX0_image 140 = .ok (.getfield 147, 3) := dk_180 0 147 (dk_at dksX0_image_6 0 rfl rfl)
theorem dX0_image_143 : decode cX0_image 143 = .ok (.goto 7, 3) := dk_167 0 7 (dk_at dksX0_image_6 3 rfl rfl)
theorem dX0_image_146 : decode cX0_image 146 = .ok (.aload_n 0, 1) := dk_42 (dk_at dksX0_image_6 6 rfl rfl)
theorem dX0_image_147 : decode cX0_image 147 = .ok (.getfield 129, 3) := dk_180 0 129 (dk_at dksX0_image_6 7 rfl rfl)
theorem dX0_image_150 : decode cX0_image 150 = .ok (.invokestatic 552, 3) := dk_184 2 40 (dk_at dksX0_image_6 10 rfl rfl)
theorem dX0_image_153 : decode cX0_image 153 = .ok (.iload_n 1, 1) := dk_27 (dk_at dksX0_image_6 13 rfl rfl)
theorem dX0_image_154 : decode cX0_image 154 = .ok (.ifCond .eq 10, 3) := dk_153 0 10 (dk_at dksX0_image_6 14 rfl rfl)
theorem dX0_image_157 : decode cX0_image 157 = .ok (.aload_n 0, 1) := dk_42 (dk_at dksX0_image_6 17 rfl rfl)
theorem dX0_image_158 : decode cX0_image 158 = .ok (.getfield 72, 3) := dk_180 0 72 (dk_at dksX0_image_6 18 rfl rfl)
theorem dX0_image_161 : decode cX0_image 161 = .ok (.goto 7, 3) := dk_167 0 7 (dk_at dksX0_image_6 21 rfl rfl)
theorem dX0_image_164 : decode cX0_image 164 = .ok (.aload_n 0, 1) := dk_42 (dk_at dksX0_image_7 0 rfl rfl)
theorem dX0_image_165 : decode cX0_image 165 = .ok (.getfield 150, 3) := dk_180 0 150 (dk_at dksX0_image_7 1 rfl rfl)
theorem dX0_image_168 : decode cX0_image 168 = .ok (.iload_n 1, 1) := dk_27 (dk_at dksX0_image_7 4 rfl rfl)
theorem dX0_image_169 : decode cX0_image 169 = .ok (.ifCond .eq 10, 3) := dk_153 0 10 (dk_at dksX0_image_7 5 rfl rfl)
theorem dX0_image_172 : decode cX0_image 172 = .ok (.aload_n 0, 1) := dk_42 (dk_at dksX0_image_7 8 rfl rfl)
theorem dX0_image_173 : decode cX0_image 173 = .ok (.getfield 150, 3) := dk_180 0 150 (dk_at dksX0_image_7 9 rfl rfl)
theorem dX0_image_176 : decode cX0_image 176 = .ok (.goto 7, 3) := dk_167 0 7 (dk_at dksX0_image_7 12 rfl rfl)
theorem dX0_image_179 : decode cX0_image 179 = .ok (.aload_n 0, 1) := dk_42 (dk_at dksX0_image_7 15 rfl rfl)
theorem dX0_image_180 : decode cX0_image 180 = .ok (.getfield 72, 3) := dk_180 0 72 (dk_at dksX0_image_7 16 rfl rfl)
theorem dX0_image_183 : decode cX0_image 183 = .ok (.invokestatic 426, 3) := dk_184 1 170 (dk_at dksX0_image_7 19 rfl rfl)
theorem dX0_image_186 : decode cX0_image 186 = .ok (.iload_n 1, 1) := dk_27 (dk_at dksX0_image_7 22 rfl rfl)
theorem dX0_image_187 : decode cX0_image 187 = .ok (.ifCond .eq 41, 3) := dk_153 0 41 (dk_at dksX0_image_8 0 rfl rfl)
theorem dX0_image_190 : decode cX0_image 190 = .ok (.aload_n 0, 1) := dk_42 (dk_at dksX0_image_8 3 rfl rfl)
theorem dX0_image_191 : decode cX0_image 191 = .ok (.getfield 86, 3) := dk_180 0 86 (dk_at dksX0_image_8 4 rfl rfl)
theorem dX0_image_194 : decode cX0_image 194 = .ok (.aload_n 0, 1) := dk_42 (dk_at dksX0_image_8 7 rfl rfl)
theorem dX0_image_195 : decode cX0_image 195 = .ok (.getfield 82, 3) := dk_180 0 82 (dk_at dksX0_image_8 8 rfl rfl)
theorem dX0_image_198 : decode cX0_image 198 = .ok (.invokevirtual 334, 3) := dk_182 1 78 (dk_at dksX0_image_8 11 rfl rfl)
theorem dX0_image_201 : decode cX0_image 201 = .ok (.aload_n 0, 1) := dk_42 (dk_at dksX0_image_8 14 rfl rfl)
theorem dX0_image_202 : decode cX0_image 202 = .ok (.aload_n 0, 1) := dk_42 (dk_at dksX0_image_8 15 rfl rfl)
theorem dX0_image_203 : decode cX0_image 203 = .ok (.getfield 62, 3) := dk_180 0 62 (dk_at dksX0_image_8 16 rfl rfl)
theorem dX0_image_206 : decode cX0_image 206 = .ok (.putfield 549, 3) := dk_181 2 37 (dk_at dksX0_image_8 19 rfl rfl)
theorem dX0_image_209 : decode cX0_image 209 = .ok (.aload_n 0, 1) := dk_42 (dk_at dksX0_image_8 22 rfl rfl)
theorem dX0_image_210 : decode cX0_image 210 = .ok (.aload_n 0, 1) := dk_42 (dk_at dksX0_image_8 23 rfl rfl)
theorem dX0_image_211 : decode cX0_image 211 = .ok (.getfield 325, 3) := dk_180 1 69 (dk_at dksX0_image_9 0 rfl rfl)
theorem dX0_image_214 : decode cX0_image 214 = .ok (.putfield 556, 3) := dk_181 2 44 (dk_at dksX0_image_9 3 rfl rfl)
theorem dX0_image_217 : decode cX0_image 217 = .ok (.aload_n 0, 1) := dk_42 (dk_at dksX0_image_9 6 rfl rfl)
theorem dX0_image_218 : decode cX0_image 218 = .ok (.aload_n 0, 1) := dk_42 (dk_at dksX0_image_9 7 rfl rfl)
theorem dX0_image_219 : decode cX0_image 219 = .ok (.getfield 487, 3) := dk_180 1 231 (dk_at dksX0_image_9 8 rfl rfl)
theorem dX0_image_222 : decode cX0_image 222 = .ok (.putfield 559, 3) := dk_181 2 47 (dk_at dksX0_image_9 11 rfl rfl)
theorem dX0_image_225 : decode cX0_image 225 = .ok (.goto 42, 3) := dk_167 0 42 (dk_at dksX0_image_9 14 rfl rfl)
theorem dX0_image_228 : decode cX0_image 228 = .ok (.aload_n 0, 1) := dk_42 (dk_at dksX0_image_9 17 rfl rfl)
theorem dX0_image_229 : decode cX0_image 229 = .ok (.getfield 82, 3) := dk_180 0 82 (dk_at dksX0_image_9 18 rfl rfl)
theorem dX0_image_232 : decode cX0_image 232 = .ok (.aload_n 0, 1) := dk_42 (dk_at dksX0_image_9 21 rfl rfl)
theorem dX0_image_233 : decode cX0_image 233 = .ok (.getfield 86, 3) := dk_180 0 86 (dk_at dksX0_image_10 0 rfl rfl)
theorem dX0_image_236 : decode cX0_image 236 = .ok (.invokevirtual 334, 3) := dk_182 1 78 (dk_at dksX0_image_10 3 rfl rfl)
theorem dX0_image_239 : decode cX0_image 239 = .ok (.aload_n 0, 1) := dk_42 (dk_at dksX0_image_10 6 rfl rfl)
theorem dX0_image_240 : decode cX0_image 240 = .ok (.aload_n 0, 1) := dk_42 (dk_at dksX0_image_10 7 rfl rfl)
theorem dX0_image_241 : decode cX0_image 241 = .ok (.getfield 549, 3) := dk_180 2 37 (dk_at dksX0_image_10 8 rfl rfl)
theorem dX0_image_244 : decode cX0_image 244 = .ok (.putfield 62, 3) := dk_181 0 62 (dk_at dksX0_image_10 11 rfl rfl)
theorem dX0_image_247 : decode cX0_image 247 = .ok (.aload_n 0, 1) := dk_42 (dk_at dksX0_image_10 14 rfl rfl)
theorem dX0_image_248 : decode cX0_image 248 = .ok (.aload_n 0, 1) := dk_42 (dk_at dksX0_image_10 15 rfl rfl)
theorem dX0_image_249 : decode cX0_image 249 = .ok (.getfield 556, 3) := dk_180 2 44 (dk_at dksX0_image_10 16 rfl rfl)
theorem dX0_image_252 : decode cX0_image 252 = .ok (.putfield 325, 3) := dk_181 1 69 (dk_at dksX0_image_10 19 rfl rfl)
theorem dX0_image_255 : decode cX0_image 255 = .ok (.aload_n 0, 1) := dk_42 (dk_at dksX0_image_10 22 rfl rfl)
theorem dX0_image_256 : decode cX0_image 256 = .ok (.aload_n 0, 1) := dk_42 (dk_at dksX0_image_10 23 rfl rfl)
theorem dX0_image_257 : decode cX0_image 257 = .ok (.getfield 559, 3) := dk_180 2 47 (dk_at dksX0_image_11 0 rfl rfl)
theorem dX0_image_260 : decode cX0_image 260 = .ok (.putfield 487, 3) := dk_181 1 231 (dk_at dksX0_image_11 3 rfl rfl)
theorem dX0_image_263 : decode cX0_image 263 = .ok (.aload_n 0, 1) := dk_42 (dk_at dksX0_image_11 6 rfl rfl)
theorem dX0_image_264 : decode cX0_image 264 = .ok (.invokevirtual 351, 3) := dk_182 1 95 (dk_at dksX0_image_11 7 rfl rfl)
theorem dX0_image_267 : decode cX0_image 267 = .ok (.iconst 1, 1) := dk_4 (dk_at dksX0_image_11 10 rfl rfl)
theorem dX0_image_268 : decode cX0_image 268 = .ok (.ireturn, 1) := dk_172 (dk_at dksX0_image_11 11 rfl rfl)
abbrev cX0_copiesAll : ByteArray := prog_1_method_77_code
def yX0_copiesAll : MethodName := ⟨RX0, "copiesAll", "([[I[[I)V"⟩
def dkwX0_copiesAll_0 : List UInt8 := [3, 61, 28, 42, 190, 162, 0, 18, 42, 28, 50, 43, 28, 50, 184, 1, 170, 132, 2, 1, 167, 255, 238, 177]
abbrev dktX0_copiesAll_0 : List UInt8 := dkwX0_copiesAll_0 ++ []
theorem dksX0_copiesAll_0 : cX0_copiesAll.data.toList.drop 0 = dktX0_copiesAll_0 := by decide +kernel
theorem dX0_copiesAll_0 : decode cX0_copiesAll 0 = .ok (.iconst 0, 1) := dk_3 (dk_at dksX0_copiesAll_0 0 rfl rfl)
theorem dX0_copiesAll_1 : decode cX0_copiesAll 1 = .ok (.istore_n 2, 1) := dk_61 (dk_at dksX0_copiesAll_0 1 rfl rfl)
theorem dX0_copiesAll_2 : decode cX0_copiesAll 2 = .ok (.iload_n 2, 1) := dk_28 (dk_at dksX0_copiesAll_0 2 rfl rfl)
theorem dX0_copiesAll_3 : decode cX0_copiesAll 3 = .ok (.aload_n 0, 1) := dk_42 (dk_at dksX0_copiesAll_0 3 rfl rfl)
theorem dX0_copiesAll_4 : decode cX0_copiesAll 4 = .ok (.arraylength, 1) := dk_190 (dk_at dksX0_copiesAll_0 4 rfl rfl)
theorem dX0_copiesAll_5 : decode cX0_copiesAll 5 = .ok (.if_icmp .ge 18, 3) := dk_162 0 18 (dk_at dksX0_copiesAll_0 5 rfl rfl)
theorem dX0_copiesAll_8 : decode cX0_copiesAll 8 = .ok (.aload_n 0, 1) := dk_42 (dk_at dksX0_copiesAll_0 8 rfl rfl)
theorem dX0_copiesAll_9 : decode cX0_copiesAll 9 = .ok (.iload_n 2, 1) := dk_28 (dk_at dksX0_copiesAll_0 9 rfl rfl)
theorem dX0_copiesAll_10 : decode cX0_copiesAll 10 = .ok (.aaload, 1) := dk_50 (dk_at dksX0_copiesAll_0 10 rfl rfl)
theorem dX0_copiesAll_11 : decode cX0_copiesAll 11 = .ok (.aload_n 1, 1) := dk_43 (dk_at dksX0_copiesAll_0 11 rfl rfl)
theorem dX0_copiesAll_12 : decode cX0_copiesAll 12 = .ok (.iload_n 2, 1) := dk_28 (dk_at dksX0_copiesAll_0 12 rfl rfl)
theorem dX0_copiesAll_13 : decode cX0_copiesAll 13 = .ok (.aaload, 1) := dk_50 (dk_at dksX0_copiesAll_0 13 rfl rfl)
theorem dX0_copiesAll_14 : decode cX0_copiesAll 14 = .ok (.invokestatic 426, 3) := dk_184 1 170 (dk_at dksX0_copiesAll_0 14 rfl rfl)
theorem dX0_copiesAll_17 : decode cX0_copiesAll 17 = .ok (.iinc 2 1, 3) := dk_132 2 1 (dk_at dksX0_copiesAll_0 17 rfl rfl)
theorem dX0_copiesAll_20 : decode cX0_copiesAll 20 = .ok (.goto (-18), 3) := dk_167 255 238 (dk_at dksX0_copiesAll_0 20 rfl rfl)
theorem dX0_copiesAll_23 : decode cX0_copiesAll 23 = .ok (.return_, 1) := dk_177 (dk_at dksX0_copiesAll_0 23 rfl rfl)
abbrev cX0_look : ByteArray := prog_1_method_79_code
def yX0_look : MethodName := ⟨RX0, "look", "(I)I"⟩
def dkwX0_look_4 : List UInt8 := [172, 2, 172]
abbrev dktX0_look_4 : List UInt8 := dkwX0_look_4 ++ []
def dkwX0_look_3 : List UInt8 := [180, 1, 231, 172, 42, 180, 0, 62, 180, 1, 42, 172, 42, 180, 1, 75, 172, 42, 180, 0, 82, 180, 1, 157]
abbrev dktX0_look_3 : List UInt8 := dkwX0_look_3 ++ dktX0_look_4
def dkwX0_look_2 : List UInt8 := [42, 180, 1, 69, 172, 42, 180, 0, 82, 180, 1, 116, 172, 42, 180, 0, 82, 180, 1, 72, 172, 42]
abbrev dktX0_look_2 : List UInt8 := dkwX0_look_2 ++ dktX0_look_3
def dkwX0_look_1 : List UInt8 := [170, 0, 0, 0, 0, 89, 0, 0, 0, 0, 0, 0, 0, 6, 0, 0, 0, 42, 0, 0, 0, 47, 0, 0, 0, 55, 0, 0, 0, 63, 0, 0, 0, 68, 0, 0, 0, 76, 0, 0, 0, 81]
abbrev dktX0_look_1 : List UInt8 := dkwX0_look_1 ++ dktX0_look_2
def dkwX0_look_0 : List UInt8 := [27, 16, 10, 16, 13, 184, 0, 160, 153, 0, 13, 42, 180, 0, 72, 27, 16, 10, 100, 46, 172, 27]
abbrev dktX0_look_0 : List UInt8 := dkwX0_look_0 ++ dktX0_look_1
theorem dksX0_look_0 : cX0_look.data.toList.drop 0 = dktX0_look_0 := by decide +kernel
theorem dksX0_look_1 : cX0_look.data.toList.drop 22 = dktX0_look_1 := dk_seg dksX0_look_0 22 rfl rfl
theorem dksX0_look_2 : cX0_look.data.toList.drop 64 = dktX0_look_2 := dk_seg dksX0_look_1 42 rfl rfl
theorem dksX0_look_3 : cX0_look.data.toList.drop 86 = dktX0_look_3 := dk_seg dksX0_look_2 22 rfl rfl
theorem dksX0_look_4 : cX0_look.data.toList.drop 110 = dktX0_look_4 := dk_seg dksX0_look_3 24 rfl rfl
theorem dX0_look_0 : decode cX0_look 0 = .ok (.iload_n 1, 1) := dk_27 (dk_at dksX0_look_0 0 rfl rfl)
theorem dX0_look_1 : decode cX0_look 1 = .ok (.bipush 10, 2) := dk_16 10 (dk_at dksX0_look_0 1 rfl rfl)
theorem dX0_look_3 : decode cX0_look 3 = .ok (.bipush 13, 2) := dk_16 13 (dk_at dksX0_look_0 3 rfl rfl)
theorem dX0_look_5 : decode cX0_look 5 = .ok (.invokestatic 160, 3) := dk_184 0 160 (dk_at dksX0_look_0 5 rfl rfl)
theorem dX0_look_8 : decode cX0_look 8 = .ok (.ifCond .eq 13, 3) := dk_153 0 13 (dk_at dksX0_look_0 8 rfl rfl)
theorem dX0_look_11 : decode cX0_look 11 = .ok (.aload_n 0, 1) := dk_42 (dk_at dksX0_look_0 11 rfl rfl)
theorem dX0_look_12 : decode cX0_look 12 = .ok (.getfield 72, 3) := dk_180 0 72 (dk_at dksX0_look_0 12 rfl rfl)
theorem dX0_look_15 : decode cX0_look 15 = .ok (.iload_n 1, 1) := dk_27 (dk_at dksX0_look_0 15 rfl rfl)
theorem dX0_look_16 : decode cX0_look 16 = .ok (.bipush 10, 2) := dk_16 10 (dk_at dksX0_look_0 16 rfl rfl)
theorem dX0_look_18 : decode cX0_look 18 = .ok (.isub, 1) := dk_100 (dk_at dksX0_look_0 18 rfl rfl)
theorem dX0_look_19 : decode cX0_look 19 = .ok (.iaload, 1) := dk_46 (dk_at dksX0_look_0 19 rfl rfl)
theorem dX0_look_20 : decode cX0_look 20 = .ok (.ireturn, 1) := dk_172 (dk_at dksX0_look_0 20 rfl rfl)
theorem dX0_look_21 : decode cX0_look 21 = .ok (.iload_n 1, 1) := dk_27 (dk_at dksX0_look_0 21 rfl rfl)
theorem dX0_look_22 : decode cX0_look 22 = .ok (.tableswitch 89 0 6 #[42, 47, 55, 63, 68, 76, 81], 42) := by decide +kernel
theorem dX0_look_64 : decode cX0_look 64 = .ok (.aload_n 0, 1) := dk_42 (dk_at dksX0_look_2 0 rfl rfl)
theorem dX0_look_65 : decode cX0_look 65 = .ok (.getfield 325, 3) := dk_180 1 69 (dk_at dksX0_look_2 1 rfl rfl)
theorem dX0_look_68 : decode cX0_look 68 = .ok (.ireturn, 1) := dk_172 (dk_at dksX0_look_2 4 rfl rfl)
theorem dX0_look_69 : decode cX0_look 69 = .ok (.aload_n 0, 1) := dk_42 (dk_at dksX0_look_2 5 rfl rfl)
theorem dX0_look_70 : decode cX0_look 70 = .ok (.getfield 82, 3) := dk_180 0 82 (dk_at dksX0_look_2 6 rfl rfl)
theorem dX0_look_73 : decode cX0_look 73 = .ok (.getfield 372, 3) := dk_180 1 116 (dk_at dksX0_look_2 9 rfl rfl)
theorem dX0_look_76 : decode cX0_look 76 = .ok (.ireturn, 1) := dk_172 (dk_at dksX0_look_2 12 rfl rfl)
theorem dX0_look_77 : decode cX0_look 77 = .ok (.aload_n 0, 1) := dk_42 (dk_at dksX0_look_2 13 rfl rfl)
theorem dX0_look_78 : decode cX0_look 78 = .ok (.getfield 82, 3) := dk_180 0 82 (dk_at dksX0_look_2 14 rfl rfl)
theorem dX0_look_81 : decode cX0_look 81 = .ok (.getfield 328, 3) := dk_180 1 72 (dk_at dksX0_look_2 17 rfl rfl)
theorem dX0_look_84 : decode cX0_look 84 = .ok (.ireturn, 1) := dk_172 (dk_at dksX0_look_2 20 rfl rfl)
theorem dX0_look_85 : decode cX0_look 85 = .ok (.aload_n 0, 1) := dk_42 (dk_at dksX0_look_2 21 rfl rfl)
theorem dX0_look_86 : decode cX0_look 86 = .ok (.getfield 487, 3) := dk_180 1 231 (dk_at dksX0_look_3 0 rfl rfl)
theorem dX0_look_89 : decode cX0_look 89 = .ok (.ireturn, 1) := dk_172 (dk_at dksX0_look_3 3 rfl rfl)
theorem dX0_look_90 : decode cX0_look 90 = .ok (.aload_n 0, 1) := dk_42 (dk_at dksX0_look_3 4 rfl rfl)
theorem dX0_look_91 : decode cX0_look 91 = .ok (.getfield 62, 3) := dk_180 0 62 (dk_at dksX0_look_3 5 rfl rfl)
theorem dX0_look_94 : decode cX0_look 94 = .ok (.getfield 298, 3) := dk_180 1 42 (dk_at dksX0_look_3 8 rfl rfl)
theorem dX0_look_97 : decode cX0_look 97 = .ok (.ireturn, 1) := dk_172 (dk_at dksX0_look_3 11 rfl rfl)
theorem dX0_look_98 : decode cX0_look 98 = .ok (.aload_n 0, 1) := dk_42 (dk_at dksX0_look_3 12 rfl rfl)
theorem dX0_look_99 : decode cX0_look 99 = .ok (.getfield 331, 3) := dk_180 1 75 (dk_at dksX0_look_3 13 rfl rfl)
theorem dX0_look_102 : decode cX0_look 102 = .ok (.ireturn, 1) := dk_172 (dk_at dksX0_look_3 16 rfl rfl)
theorem dX0_look_103 : decode cX0_look 103 = .ok (.aload_n 0, 1) := dk_42 (dk_at dksX0_look_3 17 rfl rfl)
theorem dX0_look_104 : decode cX0_look 104 = .ok (.getfield 82, 3) := dk_180 0 82 (dk_at dksX0_look_3 18 rfl rfl)
theorem dX0_look_107 : decode cX0_look 107 = .ok (.getfield 413, 3) := dk_180 1 157 (dk_at dksX0_look_3 21 rfl rfl)
theorem dX0_look_110 : decode cX0_look 110 = .ok (.ireturn, 1) := dk_172 (dk_at dksX0_look_4 0 rfl rfl)
theorem dX0_look_111 : decode cX0_look 111 = .ok (.iconst (-1), 1) := dk_2 (dk_at dksX0_look_4 1 rfl rfl)
theorem dX0_look_112 : decode cX0_look 112 = .ok (.ireturn, 1) := dk_172 (dk_at dksX0_look_4 2 rfl rfl)
theorem q88 : (Jvm.Cond.initialized "DoughDebts") ∈ lw_all := lw_g (lw_at lw_m1 1 rfl) rfl
theorem q114 : (Jvm.Cond.instantiable "DoughDebts" (48 : Nat)) ∈ lw_all := lw_g (lw_at lw_m1 27 rfl) rfl
theorem q116 : (Jvm.Cond.instanceMethod ({ cls := "DoughDebts", name := "<init>", desc := "()V" } : Jvm.MethodName)) ∈ lw_all := lw_g (lw_at lw_m1 29 rfl) rfl
theorem q117 : (Jvm.Cond.code ({ cls := "DoughDebts", name := "<init>", desc := "()V" } : Jvm.MethodName) prog_1_method_3_code (2 : Nat) (Option.none : Option Jvm.ClassFile.FieldType)) ∈ lw_all := lw_g (lw_at lw_m1 30 rfl) rfl
theorem q118 : (Jvm.Cond.methodLink "DoughDebts" (1 : Nat) ({ cls := "java/lang/Object", name := "<init>", desc := "()V" } : Jvm.MethodName)) ∈ lw_all := lw_g (lw_at lw_m1 31 rfl) rfl
theorem q121 : (Jvm.Cond.classLink "DoughDebts" (13 : Nat) "java/lang/String") ∈ lw_all := lw_g (lw_at lw_m1 34 rfl) rfl
theorem q123 : (Jvm.Cond.stringRef "DoughDebts" (15 : Nat) "worth") ∈ lw_tbl := lw_at lw_m1 36 rfl
theorem q124 : (Jvm.Cond.stringRef "DoughDebts" (21 : Nat) "size") ∈ lw_tbl := lw_at lw_m1 37 rfl
theorem q125 : (Jvm.Cond.stringRef "DoughDebts" (23 : Nat) "need") ∈ lw_tbl := lw_at lw_m1 38 rfl
theorem q126 : (Jvm.Cond.stringRef "DoughDebts" (25 : Nat) "dough") ∈ lw_tbl := lw_at lw_m1 39 rfl
theorem q127 : (Jvm.Cond.stringRef "DoughDebts" (27 : Nat) "bread") ∈ lw_tbl := lw_at lw_m1 40 rfl
theorem q128 : (Jvm.Cond.stringRef "DoughDebts" (29 : Nat) "wood") ∈ lw_tbl := lw_at lw_m1 41 rfl
theorem q129 : (Jvm.Cond.stringRef "DoughDebts" (31 : Nat) "first") ∈ lw_tbl := lw_at lw_m1 42 rfl
theorem q130 : (Jvm.Cond.stringRef "DoughDebts" (33 : Nat) "sour") ∈ lw_tbl := lw_at lw_m1 43 rfl
theorem q131 : (Jvm.Cond.stringRef "DoughDebts" (35 : Nat) "house") ∈ lw_tbl := lw_at lw_m1 44 rfl
theorem q132 : (Jvm.Cond.stringRef "DoughDebts" (37 : Nat) "day") ∈ lw_tbl := lw_at lw_m1 45 rfl
theorem q133 : (Jvm.Cond.stringRef "DoughDebts" (39 : Nat) "owes") ∈ lw_tbl := lw_at lw_m1 46 rfl
theorem q134 : (Jvm.Cond.stringRef "DoughDebts" (44 : Nat) "when") ∈ lw_tbl := lw_at lw_m1 47 rfl
theorem q135 : (Jvm.Cond.stringRef "DoughDebts" (46 : Nat) "or") ∈ lw_tbl := lw_at lw_m1 48 rfl
theorem q136 : (Jvm.Cond.stringRef "DoughDebts" (48 : Nat) "and") ∈ lw_tbl := lw_at lw_m1 49 rfl
theorem q137 : (Jvm.Cond.stringRef "DoughDebts" (50 : Nat) "not") ∈ lw_tbl := lw_at lw_m1 50 rfl
theorem q138 : (Jvm.Cond.classLink "DoughDebts" (59 : Nat) "DoughDebts$Text") ∈ lw_all := lw_g (lw_at lw_m1 51 rfl) rfl
theorem q140 : (Jvm.Cond.methodLinkNest "DoughDebts" (61 : Nat) ({ cls := "DoughDebts$Text", name := "<init>", desc := "()V" } : Jvm.MethodName) "DoughDebts") ∈ lw_tbl := lw_at lw_m1 53 rfl
theorem q147 : (Jvm.Cond.fieldLink "DoughDebts" (301 : Nat) "DoughDebts$Text" "worth" "[LDoughDebts$Term;") ∈ lw_all := lw_g (lw_at lw_m1 60 rfl) rfl
theorem q149 : (Jvm.Cond.fieldLink "DoughDebts" (304 : Nat) "DoughDebts$Text" "when" "[LDoughDebts$Term;") ∈ lw_all := lw_g (lw_at lw_m1 62 rfl) rfl
theorem q151 : (Jvm.Cond.fieldLink "DoughDebts" (298 : Nat) "DoughDebts$Text" "many" "I") ∈ lw_all := lw_g (lw_at lw_m1 64 rfl) rfl
theorem q160 : (Jvm.Cond.classLink "DoughDebts" (66 : Nat) "DoughDebts$House") ∈ lw_all := lw_g (lw_at lw_m1 73 rfl) rfl
theorem q162 : (Jvm.Cond.classLink "DoughDebts" (79 : Nat) "DoughDebts$Days") ∈ lw_all := lw_g (lw_at lw_m1 75 rfl) rfl
theorem q164 : (Jvm.Cond.methodLinkNest "DoughDebts" (81 : Nat) ({ cls := "DoughDebts$Days", name := "<init>", desc := "()V" } : Jvm.MethodName) "DoughDebts") ∈ lw_tbl := lw_at lw_m1 77 rfl
theorem q169 : (Jvm.Cond.fieldLink "DoughDebts" (372 : Nat) "DoughDebts$Days" "day" "I") ∈ lw_all := lw_g (lw_at lw_m1 82 rfl) rfl
theorem q171 : (Jvm.Cond.fieldLink "DoughDebts" (328 : Nat) "DoughDebts$Days" "state" "I") ∈ lw_all := lw_g (lw_at lw_m1 84 rfl) rfl
theorem q173 : (Jvm.Cond.fieldLink "DoughDebts" (413 : Nat) "DoughDebts$Days" "lost" "I") ∈ lw_all := lw_g (lw_at lw_m1 86 rfl) rfl
theorem q175 : (Jvm.Cond.fieldLink "DoughDebts" (433 : Nat) "DoughDebts$Days" "burnt" "I") ∈ lw_all := lw_g (lw_at lw_m1 88 rfl) rfl
theorem q177 : (Jvm.Cond.fieldLink "DoughDebts" (430 : Nat) "DoughDebts$Days" "booked" "I") ∈ lw_all := lw_g (lw_at lw_m1 90 rfl) rfl
theorem q179 : (Jvm.Cond.fieldLink "DoughDebts" (357 : Nat) "DoughDebts$Days" "dough" "[I") ∈ lw_all := lw_g (lw_at lw_m1 92 rfl) rfl
theorem q181 : (Jvm.Cond.fieldLink "DoughDebts" (364 : Nat) "DoughDebts$Days" "bread" "[I") ∈ lw_all := lw_g (lw_at lw_m1 94 rfl) rfl
theorem q183 : (Jvm.Cond.fieldLink "DoughDebts" (366 : Nat) "DoughDebts$Days" "wood" "[I") ∈ lw_all := lw_g (lw_at lw_m1 96 rfl) rfl
theorem q185 : (Jvm.Cond.fieldLink "DoughDebts" (368 : Nat) "DoughDebts$Days" "first" "[I") ∈ lw_all := lw_g (lw_at lw_m1 98 rfl) rfl
theorem q187 : (Jvm.Cond.fieldLink "DoughDebts" (392 : Nat) "DoughDebts$Days" "mondays" "[I") ∈ lw_all := lw_g (lw_at lw_m1 100 rfl) rfl
theorem q189 : (Jvm.Cond.fieldLink "DoughDebts" (370 : Nat) "DoughDebts$Days" "sour" "[I") ∈ lw_all := lw_g (lw_at lw_m1 102 rfl) rfl
theorem q191 : (Jvm.Cond.fieldLink "DoughDebts" (423 : Nat) "DoughDebts$Days" "book" "[I") ∈ lw_all := lw_g (lw_at lw_m1 104 rfl) rfl
theorem q219 : (Jvm.Cond.classLink "DoughDebts" (111 : Nat) "[[I") ∈ lw_all := lw_g (lw_at lw_m1 132 rfl) rfl
theorem q221 : (Jvm.Cond.classLink "DoughDebts" (116 : Nat) "DoughDebts$Leaven") ∈ lw_all := lw_g (lw_at lw_m1 134 rfl) rfl
theorem q223 : (Jvm.Cond.fieldLink "DoughDebts" (9 : Nat) "DoughDebts" "tape" "[B") ∈ lw_all := lw_g (lw_at lw_m1 136 rfl) rfl
theorem q224 : (Jvm.Cond.fieldLink "DoughDebts" (153 : Nat) "DoughDebts" "taped" "I") ∈ lw_all := lw_g (lw_at lw_m1 137 rfl) rfl
theorem q225 : (Jvm.Cond.fieldLink "DoughDebts" (17 : Nat) "DoughDebts" "ruleWords" "[Ljava/lang/String;") ∈ lw_all := lw_g (lw_at lw_m1 138 rfl) rfl
theorem q226 : (Jvm.Cond.fieldLink "DoughDebts" (41 : Nat) "DoughDebts" "asked" "[Ljava/lang/String;") ∈ lw_all := lw_g (lw_at lw_m1 139 rfl) rfl
theorem q227 : (Jvm.Cond.fieldLink "DoughDebts" (52 : Nat) "DoughDebts" "others" "[Ljava/lang/String;") ∈ lw_all := lw_g (lw_at lw_m1 140 rfl) rfl
theorem q228 : (Jvm.Cond.fieldLink "DoughDebts" (182 : Nat) "DoughDebts" "token" "LDoughDebts$Token;") ∈ lw_all := lw_g (lw_at lw_m1 141 rfl) rfl
theorem q229 : (Jvm.Cond.fieldLink "DoughDebts" (168 : Nat) "DoughDebts" "spot" "I") ∈ lw_all := lw_g (lw_at lw_m1 142 rfl) rfl
theorem q230 : (Jvm.Cond.fieldLink "DoughDebts" (171 : Nat) "DoughDebts" "from" "I") ∈ lw_all := lw_g (lw_at lw_m1 143 rfl) rfl
theorem q231 : (Jvm.Cond.fieldLink "DoughDebts" (198 : Nat) "DoughDebts" "value" "I") ∈ lw_all := lw_g (lw_at lw_m1 144 rfl) rfl
theorem q232 : (Jvm.Cond.fieldLink "DoughDebts" (268 : Nat) "DoughDebts" "open" "I") ∈ lw_all := lw_g (lw_at lw_m1 145 rfl) rfl
theorem q233 : (Jvm.Cond.fieldLink "DoughDebts" (306 : Nat) "DoughDebts" "faultKind" "I") ∈ lw_all := lw_g (lw_at lw_m1 146 rfl) rfl
theorem q234 : (Jvm.Cond.fieldLink "DoughDebts" (55 : Nat) "DoughDebts" "faultPlace" "I") ∈ lw_all := lw_g (lw_at lw_m1 147 rfl) rfl
theorem q235 : (Jvm.Cond.fieldLink "DoughDebts" (62 : Nat) "DoughDebts" "rule" "LDoughDebts$Text;") ∈ lw_all := lw_g (lw_at lw_m1 148 rfl) rfl
theorem q236 : (Jvm.Cond.fieldLink "DoughDebts" (68 : Nat) "DoughDebts" "houses" "[LDoughDebts$House;") ∈ lw_all := lw_g (lw_at lw_m1 149 rfl) rfl
theorem q237 : (Jvm.Cond.fieldLink "DoughDebts" (325 : Nat) "DoughDebts" "houseMany" "I") ∈ lw_all := lw_g (lw_at lw_m1 150 rfl) rfl
theorem q238 : (Jvm.Cond.fieldLink "DoughDebts" (72 : Nat) "DoughDebts" "settings" "[I") ∈ lw_all := lw_g (lw_at lw_m1 151 rfl) rfl
theorem q239 : (Jvm.Cond.fieldLink "DoughDebts" (76 : Nat) "DoughDebts" "most" "[I") ∈ lw_all := lw_g (lw_at lw_m1 152 rfl) rfl
theorem q240 : (Jvm.Cond.fieldLink "DoughDebts" (82 : Nat) "DoughDebts" "now" "LDoughDebts$Days;") ∈ lw_all := lw_g (lw_at lw_m1 153 rfl) rfl
theorem q241 : (Jvm.Cond.fieldLink "DoughDebts" (86 : Nat) "DoughDebts" "kept" "LDoughDebts$Days;") ∈ lw_all := lw_g (lw_at lw_m1 154 rfl) rfl
theorem q242 : (Jvm.Cond.fieldLink "DoughDebts" (89 : Nat) "DoughDebts" "ahead" "[LDoughDebts$Days;") ∈ lw_all := lw_g (lw_at lw_m1 155 rfl) rfl
theorem q243 : (Jvm.Cond.fieldLink "DoughDebts" (331 : Nat) "DoughDebts" "undoable" "I") ∈ lw_all := lw_g (lw_at lw_m1 156 rfl) rfl
theorem q244 : (Jvm.Cond.fieldLink "DoughDebts" (93 : Nat) "DoughDebts" "has" "[I") ∈ lw_all := lw_g (lw_at lw_m1 157 rfl) rfl
theorem q245 : (Jvm.Cond.fieldLink "DoughDebts" (96 : Nat) "DoughDebts" "worths" "[I") ∈ lw_all := lw_g (lw_at lw_m1 158 rfl) rfl
theorem q246 : (Jvm.Cond.fieldLink "DoughDebts" (99 : Nat) "DoughDebts" "today" "[I") ∈ lw_all := lw_g (lw_at lw_m1 159 rfl) rfl
theorem q247 : (Jvm.Cond.fieldLink "DoughDebts" (401 : Nat) "DoughDebts" "heat" "I") ∈ lw_all := lw_g (lw_at lw_m1 160 rfl) rfl
theorem q248 : (Jvm.Cond.fieldLink "DoughDebts" (102 : Nat) "DoughDebts" "tried" "[I") ∈ lw_all := lw_g (lw_at lw_m1 161 rfl) rfl
theorem q249 : (Jvm.Cond.fieldLink "DoughDebts" (105 : Nat) "DoughDebts" "pieces" "[I") ∈ lw_all := lw_g (lw_at lw_m1 162 rfl) rfl
theorem q250 : (Jvm.Cond.fieldLink "DoughDebts" (108 : Nat) "DoughDebts" "bestOrder" "[I") ∈ lw_all := lw_g (lw_at lw_m1 163 rfl) rfl
theorem q251 : (Jvm.Cond.fieldLink "DoughDebts" (477 : Nat) "DoughDebts" "found" "I") ∈ lw_all := lw_g (lw_at lw_m1 164 rfl) rfl
theorem q252 : (Jvm.Cond.fieldLink "DoughDebts" (471 : Nat) "DoughDebts" "leastWood" "I") ∈ lw_all := lw_g (lw_at lw_m1 165 rfl) rfl
theorem q253 : (Jvm.Cond.fieldLink "DoughDebts" (113 : Nat) "DoughDebts" "went" "[[I") ∈ lw_all := lw_g (lw_at lw_m1 166 rfl) rfl
theorem q254 : (Jvm.Cond.fieldLink "DoughDebts" (118 : Nat) "DoughDebts" "leavens" "[LDoughDebts$Leaven;") ∈ lw_all := lw_g (lw_at lw_m1 167 rfl) rfl
theorem q255 : (Jvm.Cond.fieldLink "DoughDebts" (487 : Nat) "DoughDebts" "leavenMany" "I") ∈ lw_all := lw_g (lw_at lw_m1 168 rfl) rfl
theorem q256 : (Jvm.Cond.fieldLink "DoughDebts" (122 : Nat) "DoughDebts" "parts" "[J") ∈ lw_all := lw_g (lw_at lw_m1 169 rfl) rfl
theorem q257 : (Jvm.Cond.fieldLink "DoughDebts" (126 : Nat) "DoughDebts" "rises" "[[I") ∈ lw_all := lw_g (lw_at lw_m1 170 rfl) rfl
theorem q258 : (Jvm.Cond.fieldLink "DoughDebts" (528 : Nat) "DoughDebts" "above" "J") ∈ lw_all := lw_g (lw_at lw_m1 171 rfl) rfl
theorem q259 : (Jvm.Cond.fieldLink "DoughDebts" (532 : Nat) "DoughDebts" "below" "J") ∈ lw_all := lw_g (lw_at lw_m1 172 rfl) rfl
theorem q260 : (Jvm.Cond.fieldLink "DoughDebts" (129 : Nat) "DoughDebts" "debts" "[[I") ∈ lw_all := lw_g (lw_at lw_m1 173 rfl) rfl
theorem q261 : (Jvm.Cond.fieldLink "DoughDebts" (132 : Nat) "DoughDebts" "groups" "[I") ∈ lw_all := lw_g (lw_at lw_m1 174 rfl) rfl
theorem q262 : (Jvm.Cond.fieldLink "DoughDebts" (135 : Nat) "DoughDebts" "sums" "[I") ∈ lw_all := lw_g (lw_at lw_m1 175 rfl) rfl
theorem q263 : (Jvm.Cond.fieldLink "DoughDebts" (138 : Nat) "DoughDebts" "keptHouses" "[LDoughDebts$House;") ∈ lw_all := lw_g (lw_at lw_m1 176 rfl) rfl
theorem q264 : (Jvm.Cond.fieldLink "DoughDebts" (141 : Nat) "DoughDebts" "keptLeavens" "[LDoughDebts$Leaven;") ∈ lw_all := lw_g (lw_at lw_m1 177 rfl) rfl
theorem q265 : (Jvm.Cond.fieldLink "DoughDebts" (144 : Nat) "DoughDebts" "keptRises" "[[I") ∈ lw_all := lw_g (lw_at lw_m1 178 rfl) rfl
theorem q266 : (Jvm.Cond.fieldLink "DoughDebts" (147 : Nat) "DoughDebts" "keptDebts" "[[I") ∈ lw_all := lw_g (lw_at lw_m1 179 rfl) rfl
theorem q267 : (Jvm.Cond.fieldLink "DoughDebts" (150 : Nat) "DoughDebts" "keptSettings" "[I") ∈ lw_all := lw_g (lw_at lw_m1 180 rfl) rfl
theorem q268 : (Jvm.Cond.fieldLink "DoughDebts" (549 : Nat) "DoughDebts" "keptRule" "LDoughDebts$Text;") ∈ lw_all := lw_g (lw_at lw_m1 181 rfl) rfl
theorem q269 : (Jvm.Cond.fieldLink "DoughDebts" (556 : Nat) "DoughDebts" "keptHouseMany" "I") ∈ lw_all := lw_g (lw_at lw_m1 182 rfl) rfl
theorem q270 : (Jvm.Cond.fieldLink "DoughDebts" (559 : Nat) "DoughDebts" "keptLeavenMany" "I") ∈ lw_all := lw_g (lw_at lw_m1 183 rfl) rfl
theorem q271 : (Jvm.Cond.laysFinal "DoughDebts" "DoughDebts" "tape" "[B") ∈ lw_all := lw_g (lw_at lw_m1 184 rfl) rfl
theorem q272 : (Jvm.Cond.soleField "DoughDebts" "tape") ∈ lw_all := lw_g (lw_at lw_m1 185 rfl) rfl
theorem q273 : (Jvm.Cond.lays "DoughDebts" "DoughDebts" "taped" "I") ∈ lw_all := lw_g (lw_at lw_m1 186 rfl) rfl
theorem q274 : (Jvm.Cond.soleField "DoughDebts" "taped") ∈ lw_all := lw_g (lw_at lw_m1 187 rfl) rfl
theorem q275 : (Jvm.Cond.laysFinal "DoughDebts" "DoughDebts" "ruleWords" "[Ljava/lang/String;") ∈ lw_all := lw_g (lw_at lw_m1 188 rfl) rfl
theorem q276 : (Jvm.Cond.soleField "DoughDebts" "ruleWords") ∈ lw_all := lw_g (lw_at lw_m1 189 rfl) rfl
theorem q277 : (Jvm.Cond.laysFinal "DoughDebts" "DoughDebts" "asked" "[Ljava/lang/String;") ∈ lw_all := lw_g (lw_at lw_m1 190 rfl) rfl
theorem q278 : (Jvm.Cond.soleField "DoughDebts" "asked") ∈ lw_all := lw_g (lw_at lw_m1 191 rfl) rfl
theorem q279 : (Jvm.Cond.laysFinal "DoughDebts" "DoughDebts" "others" "[Ljava/lang/String;") ∈ lw_all := lw_g (lw_at lw_m1 192 rfl) rfl
theorem q280 : (Jvm.Cond.soleField "DoughDebts" "others") ∈ lw_all := lw_g (lw_at lw_m1 193 rfl) rfl
theorem q281 : (Jvm.Cond.lays "DoughDebts" "DoughDebts" "token" "LDoughDebts$Token;") ∈ lw_all := lw_g (lw_at lw_m1 194 rfl) rfl
theorem q282 : (Jvm.Cond.soleField "DoughDebts" "token") ∈ lw_all := lw_g (lw_at lw_m1 195 rfl) rfl
theorem q283 : (Jvm.Cond.lays "DoughDebts" "DoughDebts" "spot" "I") ∈ lw_all := lw_g (lw_at lw_m1 196 rfl) rfl
theorem q284 : (Jvm.Cond.soleField "DoughDebts" "spot") ∈ lw_all := lw_g (lw_at lw_m1 197 rfl) rfl
theorem q285 : (Jvm.Cond.lays "DoughDebts" "DoughDebts" "from" "I") ∈ lw_all := lw_g (lw_at lw_m1 198 rfl) rfl
theorem q286 : (Jvm.Cond.soleField "DoughDebts" "from") ∈ lw_all := lw_g (lw_at lw_m1 199 rfl) rfl
theorem q287 : (Jvm.Cond.lays "DoughDebts" "DoughDebts" "value" "I") ∈ lw_all := lw_g (lw_at lw_m1 200 rfl) rfl
theorem q288 : (Jvm.Cond.soleField "DoughDebts" "value") ∈ lw_all := lw_g (lw_at lw_m1 201 rfl) rfl
theorem q289 : (Jvm.Cond.lays "DoughDebts" "DoughDebts" "open" "I") ∈ lw_all := lw_g (lw_at lw_m1 202 rfl) rfl
theorem q290 : (Jvm.Cond.soleField "DoughDebts" "open") ∈ lw_all := lw_g (lw_at lw_m1 203 rfl) rfl
theorem q291 : (Jvm.Cond.lays "DoughDebts" "DoughDebts" "faultKind" "I") ∈ lw_all := lw_g (lw_at lw_m1 204 rfl) rfl
theorem q292 : (Jvm.Cond.soleField "DoughDebts" "faultKind") ∈ lw_all := lw_g (lw_at lw_m1 205 rfl) rfl
theorem q293 : (Jvm.Cond.lays "DoughDebts" "DoughDebts" "faultPlace" "I") ∈ lw_all := lw_g (lw_at lw_m1 206 rfl) rfl
theorem q294 : (Jvm.Cond.soleField "DoughDebts" "faultPlace") ∈ lw_all := lw_g (lw_at lw_m1 207 rfl) rfl
theorem q295 : (Jvm.Cond.lays "DoughDebts" "DoughDebts" "rule" "LDoughDebts$Text;") ∈ lw_all := lw_g (lw_at lw_m1 208 rfl) rfl
theorem q296 : (Jvm.Cond.soleField "DoughDebts" "rule") ∈ lw_all := lw_g (lw_at lw_m1 209 rfl) rfl
theorem q297 : (Jvm.Cond.laysFinal "DoughDebts" "DoughDebts" "houses" "[LDoughDebts$House;") ∈ lw_all := lw_g (lw_at lw_m1 210 rfl) rfl
theorem q298 : (Jvm.Cond.soleField "DoughDebts" "houses") ∈ lw_all := lw_g (lw_at lw_m1 211 rfl) rfl
theorem q299 : (Jvm.Cond.lays "DoughDebts" "DoughDebts" "houseMany" "I") ∈ lw_all := lw_g (lw_at lw_m1 212 rfl) rfl
theorem q300 : (Jvm.Cond.soleField "DoughDebts" "houseMany") ∈ lw_all := lw_g (lw_at lw_m1 213 rfl) rfl
theorem q301 : (Jvm.Cond.laysFinal "DoughDebts" "DoughDebts" "settings" "[I") ∈ lw_all := lw_g (lw_at lw_m1 214 rfl) rfl
theorem q302 : (Jvm.Cond.soleField "DoughDebts" "settings") ∈ lw_all := lw_g (lw_at lw_m1 215 rfl) rfl
theorem q303 : (Jvm.Cond.laysFinal "DoughDebts" "DoughDebts" "most" "[I") ∈ lw_all := lw_g (lw_at lw_m1 216 rfl) rfl
theorem q304 : (Jvm.Cond.soleField "DoughDebts" "most") ∈ lw_all := lw_g (lw_at lw_m1 217 rfl) rfl
theorem q305 : (Jvm.Cond.laysFinal "DoughDebts" "DoughDebts" "now" "LDoughDebts$Days;") ∈ lw_all := lw_g (lw_at lw_m1 218 rfl) rfl
theorem q306 : (Jvm.Cond.soleField "DoughDebts" "now") ∈ lw_all := lw_g (lw_at lw_m1 219 rfl) rfl
theorem q307 : (Jvm.Cond.laysFinal "DoughDebts" "DoughDebts" "kept" "LDoughDebts$Days;") ∈ lw_all := lw_g (lw_at lw_m1 220 rfl) rfl
theorem q308 : (Jvm.Cond.soleField "DoughDebts" "kept") ∈ lw_all := lw_g (lw_at lw_m1 221 rfl) rfl
theorem q309 : (Jvm.Cond.laysFinal "DoughDebts" "DoughDebts" "ahead" "[LDoughDebts$Days;") ∈ lw_all := lw_g (lw_at lw_m1 222 rfl) rfl
theorem q310 : (Jvm.Cond.soleField "DoughDebts" "ahead") ∈ lw_all := lw_g (lw_at lw_m1 223 rfl) rfl
theorem q311 : (Jvm.Cond.lays "DoughDebts" "DoughDebts" "undoable" "I") ∈ lw_all := lw_g (lw_at lw_m1 224 rfl) rfl
theorem q312 : (Jvm.Cond.soleField "DoughDebts" "undoable") ∈ lw_all := lw_g (lw_at lw_m1 225 rfl) rfl
theorem q313 : (Jvm.Cond.laysFinal "DoughDebts" "DoughDebts" "has" "[I") ∈ lw_all := lw_g (lw_at lw_m1 226 rfl) rfl
theorem q314 : (Jvm.Cond.soleField "DoughDebts" "has") ∈ lw_all := lw_g (lw_at lw_m1 227 rfl) rfl
theorem q315 : (Jvm.Cond.laysFinal "DoughDebts" "DoughDebts" "worths" "[I") ∈ lw_all := lw_g (lw_at lw_m1 228 rfl) rfl
theorem q316 : (Jvm.Cond.soleField "DoughDebts" "worths") ∈ lw_all := lw_g (lw_at lw_m1 229 rfl) rfl
theorem q317 : (Jvm.Cond.laysFinal "DoughDebts" "DoughDebts" "today" "[I") ∈ lw_all := lw_g (lw_at lw_m1 230 rfl) rfl
theorem q318 : (Jvm.Cond.soleField "DoughDebts" "today") ∈ lw_all := lw_g (lw_at lw_m1 231 rfl) rfl
theorem q319 : (Jvm.Cond.lays "DoughDebts" "DoughDebts" "heat" "I") ∈ lw_all := lw_g (lw_at lw_m1 232 rfl) rfl
theorem q320 : (Jvm.Cond.soleField "DoughDebts" "heat") ∈ lw_all := lw_g (lw_at lw_m1 233 rfl) rfl
theorem q321 : (Jvm.Cond.laysFinal "DoughDebts" "DoughDebts" "tried" "[I") ∈ lw_all := lw_g (lw_at lw_m1 234 rfl) rfl
theorem q322 : (Jvm.Cond.soleField "DoughDebts" "tried") ∈ lw_all := lw_g (lw_at lw_m1 235 rfl) rfl
theorem q323 : (Jvm.Cond.laysFinal "DoughDebts" "DoughDebts" "pieces" "[I") ∈ lw_all := lw_g (lw_at lw_m1 236 rfl) rfl
theorem q324 : (Jvm.Cond.soleField "DoughDebts" "pieces") ∈ lw_all := lw_g (lw_at lw_m1 237 rfl) rfl
theorem q325 : (Jvm.Cond.laysFinal "DoughDebts" "DoughDebts" "bestOrder" "[I") ∈ lw_all := lw_g (lw_at lw_m1 238 rfl) rfl
theorem q326 : (Jvm.Cond.soleField "DoughDebts" "bestOrder") ∈ lw_all := lw_g (lw_at lw_m1 239 rfl) rfl
theorem q327 : (Jvm.Cond.lays "DoughDebts" "DoughDebts" "found" "I") ∈ lw_all := lw_g (lw_at lw_m2 0 rfl) rfl
theorem q328 : (Jvm.Cond.soleField "DoughDebts" "found") ∈ lw_all := lw_g (lw_at lw_m2 1 rfl) rfl
theorem q329 : (Jvm.Cond.lays "DoughDebts" "DoughDebts" "leastWood" "I") ∈ lw_all := lw_g (lw_at lw_m2 2 rfl) rfl
theorem q330 : (Jvm.Cond.soleField "DoughDebts" "leastWood") ∈ lw_all := lw_g (lw_at lw_m2 3 rfl) rfl
theorem q331 : (Jvm.Cond.laysFinal "DoughDebts" "DoughDebts" "went" "[[I") ∈ lw_all := lw_g (lw_at lw_m2 4 rfl) rfl
theorem q332 : (Jvm.Cond.soleField "DoughDebts" "went") ∈ lw_all := lw_g (lw_at lw_m2 5 rfl) rfl
theorem q333 : (Jvm.Cond.laysFinal "DoughDebts" "DoughDebts" "leavens" "[LDoughDebts$Leaven;") ∈ lw_all := lw_g (lw_at lw_m2 6 rfl) rfl
theorem q334 : (Jvm.Cond.soleField "DoughDebts" "leavens") ∈ lw_all := lw_g (lw_at lw_m2 7 rfl) rfl
theorem q335 : (Jvm.Cond.lays "DoughDebts" "DoughDebts" "leavenMany" "I") ∈ lw_all := lw_g (lw_at lw_m2 8 rfl) rfl
theorem q336 : (Jvm.Cond.soleField "DoughDebts" "leavenMany") ∈ lw_all := lw_g (lw_at lw_m2 9 rfl) rfl
theorem q337 : (Jvm.Cond.laysFinal "DoughDebts" "DoughDebts" "parts" "[J") ∈ lw_all := lw_g (lw_at lw_m2 10 rfl) rfl
theorem q338 : (Jvm.Cond.soleField "DoughDebts" "parts") ∈ lw_all := lw_g (lw_at lw_m2 11 rfl) rfl
theorem q339 : (Jvm.Cond.laysFinal "DoughDebts" "DoughDebts" "rises" "[[I") ∈ lw_all := lw_g (lw_at lw_m2 12 rfl) rfl
theorem q340 : (Jvm.Cond.soleField "DoughDebts" "rises") ∈ lw_all := lw_g (lw_at lw_m2 13 rfl) rfl
theorem q341 : (Jvm.Cond.lays "DoughDebts" "DoughDebts" "above" "J") ∈ lw_all := lw_g (lw_at lw_m2 14 rfl) rfl
theorem q342 : (Jvm.Cond.soleField "DoughDebts" "above") ∈ lw_all := lw_g (lw_at lw_m2 15 rfl) rfl
theorem q343 : (Jvm.Cond.lays "DoughDebts" "DoughDebts" "below" "J") ∈ lw_all := lw_g (lw_at lw_m2 16 rfl) rfl
theorem q344 : (Jvm.Cond.soleField "DoughDebts" "below") ∈ lw_all := lw_g (lw_at lw_m2 17 rfl) rfl
theorem q345 : (Jvm.Cond.laysFinal "DoughDebts" "DoughDebts" "debts" "[[I") ∈ lw_all := lw_g (lw_at lw_m2 18 rfl) rfl
theorem q346 : (Jvm.Cond.soleField "DoughDebts" "debts") ∈ lw_all := lw_g (lw_at lw_m2 19 rfl) rfl
theorem q347 : (Jvm.Cond.laysFinal "DoughDebts" "DoughDebts" "groups" "[I") ∈ lw_all := lw_g (lw_at lw_m2 20 rfl) rfl
theorem q348 : (Jvm.Cond.soleField "DoughDebts" "groups") ∈ lw_all := lw_g (lw_at lw_m2 21 rfl) rfl
theorem q349 : (Jvm.Cond.laysFinal "DoughDebts" "DoughDebts" "sums" "[I") ∈ lw_all := lw_g (lw_at lw_m2 22 rfl) rfl
theorem q350 : (Jvm.Cond.soleField "DoughDebts" "sums") ∈ lw_all := lw_g (lw_at lw_m2 23 rfl) rfl
theorem q351 : (Jvm.Cond.laysFinal "DoughDebts" "DoughDebts" "keptHouses" "[LDoughDebts$House;") ∈ lw_all := lw_g (lw_at lw_m2 24 rfl) rfl
theorem q352 : (Jvm.Cond.soleField "DoughDebts" "keptHouses") ∈ lw_all := lw_g (lw_at lw_m2 25 rfl) rfl
theorem q353 : (Jvm.Cond.laysFinal "DoughDebts" "DoughDebts" "keptLeavens" "[LDoughDebts$Leaven;") ∈ lw_all := lw_g (lw_at lw_m2 26 rfl) rfl
theorem q354 : (Jvm.Cond.soleField "DoughDebts" "keptLeavens") ∈ lw_all := lw_g (lw_at lw_m2 27 rfl) rfl
theorem q355 : (Jvm.Cond.laysFinal "DoughDebts" "DoughDebts" "keptRises" "[[I") ∈ lw_all := lw_g (lw_at lw_m2 28 rfl) rfl
theorem q356 : (Jvm.Cond.soleField "DoughDebts" "keptRises") ∈ lw_all := lw_g (lw_at lw_m2 29 rfl) rfl
theorem q357 : (Jvm.Cond.laysFinal "DoughDebts" "DoughDebts" "keptDebts" "[[I") ∈ lw_all := lw_g (lw_at lw_m2 30 rfl) rfl
theorem q358 : (Jvm.Cond.soleField "DoughDebts" "keptDebts") ∈ lw_all := lw_g (lw_at lw_m2 31 rfl) rfl
theorem q359 : (Jvm.Cond.laysFinal "DoughDebts" "DoughDebts" "keptSettings" "[I") ∈ lw_all := lw_g (lw_at lw_m2 32 rfl) rfl
theorem q360 : (Jvm.Cond.soleField "DoughDebts" "keptSettings") ∈ lw_all := lw_g (lw_at lw_m2 33 rfl) rfl
theorem q361 : (Jvm.Cond.lays "DoughDebts" "DoughDebts" "keptRule" "LDoughDebts$Text;") ∈ lw_all := lw_g (lw_at lw_m2 34 rfl) rfl
theorem q362 : (Jvm.Cond.soleField "DoughDebts" "keptRule") ∈ lw_all := lw_g (lw_at lw_m2 35 rfl) rfl
theorem q363 : (Jvm.Cond.lays "DoughDebts" "DoughDebts" "keptHouseMany" "I") ∈ lw_all := lw_g (lw_at lw_m2 36 rfl) rfl
theorem q364 : (Jvm.Cond.soleField "DoughDebts" "keptHouseMany") ∈ lw_all := lw_g (lw_at lw_m2 37 rfl) rfl
theorem q365 : (Jvm.Cond.lays "DoughDebts" "DoughDebts" "keptLeavenMany" "I") ∈ lw_all := lw_g (lw_at lw_m2 38 rfl) rfl
theorem q366 : (Jvm.Cond.soleField "DoughDebts" "keptLeavenMany") ∈ lw_all := lw_g (lw_at lw_m2 39 rfl) rfl
theorem q367 : (Jvm.Cond.superclass "DoughDebts" "java/lang/Object") ∈ lw_all := lw_g (lw_at lw_m2 40 rfl) rfl
theorem q370 : (Jvm.Cond.instanceMethod ({ cls := "DoughDebts", name := "feed", desc := "(IIIII)I" } : Jvm.MethodName)) ∈ lw_all := lw_g (lw_at lw_m2 43 rfl) rfl
theorem q371 : (Jvm.Cond.selects "DoughDebts" ({ cls := "DoughDebts", name := "feed", desc := "(IIIII)I" } : Jvm.MethodName) ({ cls := "DoughDebts", name := "feed", desc := "(IIIII)I" } : Jvm.MethodName)) ∈ lw_all := lw_g (lw_at lw_m2 44 rfl) rfl
theorem q372 : (Jvm.Cond.code ({ cls := "DoughDebts", name := "feed", desc := "(IIIII)I" } : Jvm.MethodName) prog_1_method_5_code (6 : Nat) (Option.some Jvm.ClassFile.FieldType.int)) ∈ lw_all := lw_g (lw_at lw_m2 45 rfl) rfl
theorem q373 : (Jvm.Cond.methodLink "DoughDebts" (156 : Nat) ({ cls := "DoughDebts", name := "puts", desc := "(I)V" } : Jvm.MethodName)) ∈ lw_all := lw_g (lw_at lw_m2 46 rfl) rfl
theorem q374 : (Jvm.Cond.privateMethod ({ cls := "DoughDebts", name := "puts", desc := "(I)V" } : Jvm.MethodName)) ∈ lw_tbl := lw_at lw_m2 47 rfl
theorem q375 : (Jvm.Cond.instanceMethod ({ cls := "DoughDebts", name := "puts", desc := "(I)V" } : Jvm.MethodName)) ∈ lw_all := lw_g (lw_at lw_m2 48 rfl) rfl
theorem q376 : (Jvm.Cond.code ({ cls := "DoughDebts", name := "puts", desc := "(I)V" } : Jvm.MethodName) prog_1_method_4_code (3 : Nat) (Option.none : Option Jvm.ClassFile.FieldType)) ∈ lw_all := lw_g (lw_at lw_m2 49 rfl) rfl
theorem q378 : (Jvm.Cond.instanceMethod ({ cls := "DoughDebts", name := "end", desc := "(I)Z" } : Jvm.MethodName)) ∈ lw_all := lw_g (lw_at lw_m2 51 rfl) rfl
theorem q379 : (Jvm.Cond.selects "DoughDebts" ({ cls := "DoughDebts", name := "end", desc := "(I)Z" } : Jvm.MethodName) ({ cls := "DoughDebts", name := "end", desc := "(I)Z" } : Jvm.MethodName)) ∈ lw_all := lw_g (lw_at lw_m2 52 rfl) rfl
theorem q380 : (Jvm.Cond.code ({ cls := "DoughDebts", name := "end", desc := "(I)Z" } : Jvm.MethodName) prog_1_method_6_code (2 : Nat) (Option.some Jvm.ClassFile.FieldType.boolean)) ∈ lw_all := lw_g (lw_at lw_m2 53 rfl) rfl
theorem q381 : (Jvm.Cond.methodLink "DoughDebts" (160 : Nat) ({ cls := "DoughDebts", name := "isIn", desc := "(III)Z" } : Jvm.MethodName)) ∈ lw_all := lw_g (lw_at lw_m2 54 rfl) rfl
theorem q382 : (Jvm.Cond.static ({ cls := "DoughDebts", name := "isIn", desc := "(III)Z" } : Jvm.MethodName)) ∈ lw_all := lw_g (lw_at lw_m2 55 rfl) rfl
theorem q383 : (Jvm.Cond.code ({ cls := "DoughDebts", name := "isIn", desc := "(III)Z" } : Jvm.MethodName) prog_1_method_1_code (3 : Nat) (Option.some Jvm.ClassFile.FieldType.boolean)) ∈ lw_all := lw_g (lw_at lw_m2 56 rfl) rfl
theorem q385 : (Jvm.Cond.instanceMethod ({ cls := "DoughDebts", name := "text", desc := "()I" } : Jvm.MethodName)) ∈ lw_all := lw_g (lw_at lw_m2 58 rfl) rfl
theorem q386 : (Jvm.Cond.selects "DoughDebts" ({ cls := "DoughDebts", name := "text", desc := "()I" } : Jvm.MethodName) ({ cls := "DoughDebts", name := "text", desc := "()I" } : Jvm.MethodName)) ∈ lw_all := lw_g (lw_at lw_m2 59 rfl) rfl
theorem q387 : (Jvm.Cond.codeWith ({ cls := "DoughDebts", name := "text", desc := "()I" } : Jvm.MethodName) prog_1_method_25_code (4 : Nat) (Option.some Jvm.ClassFile.FieldType.int) [((10 : Nat), (26 : Nat), (33 : Nat), (233 : Nat)), ((10 : Nat), (26 : Nat), (59 : Nat), (0 : Nat)), ((33 : Nat), (52 : Nat), (59 : Nat), (0 : Nat))]) ∈ lw_all := lw_g (lw_at lw_m2 60 rfl) rfl
theorem q388 : (Jvm.Cond.classLink "DoughDebts" (233 : Nat) "DoughDebts$Fault") ∈ lw_all := lw_g (lw_at lw_m2 61 rfl) rfl
theorem q389 : (Jvm.Cond.methodLink "DoughDebts" (309 : Nat) ({ cls := "DoughDebts", name := "readsRule", desc := "()LDoughDebts$Text;" } : Jvm.MethodName)) ∈ lw_all := lw_g (lw_at lw_m2 62 rfl) rfl
theorem q390 : (Jvm.Cond.privateMethod ({ cls := "DoughDebts", name := "readsRule", desc := "()LDoughDebts$Text;" } : Jvm.MethodName)) ∈ lw_tbl := lw_at lw_m2 63 rfl
theorem q391 : (Jvm.Cond.instanceMethod ({ cls := "DoughDebts", name := "readsRule", desc := "()LDoughDebts$Text;" } : Jvm.MethodName)) ∈ lw_all := lw_g (lw_at lw_m2 64 rfl) rfl
theorem q392 : (Jvm.Cond.code ({ cls := "DoughDebts", name := "readsRule", desc := "()LDoughDebts$Text;" } : Jvm.MethodName) prog_1_method_24_code (2 : Nat) (Option.some (Jvm.ClassFile.FieldType.object "DoughDebts$Text"))) ∈ lw_all := lw_g (lw_at lw_m2 65 rfl) rfl
theorem q393 : (Jvm.Cond.methodLink "DoughDebts" (246 : Nat) ({ cls := "DoughDebts", name := "readNext", desc := "()V" } : Jvm.MethodName)) ∈ lw_all := lw_g (lw_at lw_m2 66 rfl) rfl
theorem q394 : (Jvm.Cond.privateMethod ({ cls := "DoughDebts", name := "readNext", desc := "()V" } : Jvm.MethodName)) ∈ lw_tbl := lw_at lw_m2 67 rfl
theorem q395 : (Jvm.Cond.instanceMethod ({ cls := "DoughDebts", name := "readNext", desc := "()V" } : Jvm.MethodName)) ∈ lw_all := lw_g (lw_at lw_m2 68 rfl) rfl
theorem q396 : (Jvm.Cond.code ({ cls := "DoughDebts", name := "readNext", desc := "()V" } : Jvm.MethodName) prog_1_method_14_code (2 : Nat) (Option.none : Option Jvm.ClassFile.FieldType)) ∈ lw_all := lw_g (lw_at lw_m2 69 rfl) rfl
theorem q397 : (Jvm.Cond.methodLink "DoughDebts" (174 : Nat) ({ cls := "DoughDebts", name := "raw", desc := "(I)I" } : Jvm.MethodName)) ∈ lw_all := lw_g (lw_at lw_m2 70 rfl) rfl
theorem q398 : (Jvm.Cond.privateMethod ({ cls := "DoughDebts", name := "raw", desc := "(I)I" } : Jvm.MethodName)) ∈ lw_tbl := lw_at lw_m2 71 rfl
theorem q399 : (Jvm.Cond.instanceMethod ({ cls := "DoughDebts", name := "raw", desc := "(I)I" } : Jvm.MethodName)) ∈ lw_all := lw_g (lw_at lw_m2 72 rfl) rfl
theorem q400 : (Jvm.Cond.code ({ cls := "DoughDebts", name := "raw", desc := "(I)I" } : Jvm.MethodName) prog_1_method_7_code (2 : Nat) (Option.some Jvm.ClassFile.FieldType.int)) ∈ lw_all := lw_g (lw_at lw_m2 73 rfl) rfl
theorem q401 : (Jvm.Cond.fieldLink "DoughDebts" (201 : Nat) "DoughDebts$Token" "END" "LDoughDebts$Token;") ∈ lw_all := lw_g (lw_at lw_m2 74 rfl) rfl
theorem q403 : (Jvm.Cond.fieldLink "DoughDebts" (204 : Nat) "DoughDebts$Token" "NONE" "LDoughDebts$Token;") ∈ lw_all := lw_g (lw_at lw_m2 76 rfl) rfl
theorem q405 : (Jvm.Cond.methodLink "DoughDebts" (207 : Nat) ({ cls := "DoughDebts", name := "isLetter", desc := "(I)Z" } : Jvm.MethodName)) ∈ lw_all := lw_g (lw_at lw_m2 78 rfl) rfl
theorem q406 : (Jvm.Cond.static ({ cls := "DoughDebts", name := "isLetter", desc := "(I)Z" } : Jvm.MethodName)) ∈ lw_all := lw_g (lw_at lw_m2 79 rfl) rfl
theorem q407 : (Jvm.Cond.code ({ cls := "DoughDebts", name := "isLetter", desc := "(I)Z" } : Jvm.MethodName) prog_1_method_8_code (1 : Nat) (Option.some Jvm.ClassFile.FieldType.boolean)) ∈ lw_all := lw_g (lw_at lw_m2 80 rfl) rfl
theorem q408 : (Jvm.Cond.fieldLink "DoughDebts" (186 : Nat) "DoughDebts$Token" "WORD" "LDoughDebts$Token;") ∈ lw_all := lw_g (lw_at lw_m2 81 rfl) rfl
theorem q410 : (Jvm.Cond.methodLink "DoughDebts" (211 : Nat) ({ cls := "DoughDebts", name := "wordOf", desc := "([Ljava/lang/String;)I" } : Jvm.MethodName)) ∈ lw_all := lw_g (lw_at lw_m2 83 rfl) rfl
theorem q411 : (Jvm.Cond.privateMethod ({ cls := "DoughDebts", name := "wordOf", desc := "([Ljava/lang/String;)I" } : Jvm.MethodName)) ∈ lw_tbl := lw_at lw_m2 84 rfl
theorem q412 : (Jvm.Cond.instanceMethod ({ cls := "DoughDebts", name := "wordOf", desc := "([Ljava/lang/String;)I" } : Jvm.MethodName)) ∈ lw_all := lw_g (lw_at lw_m2 85 rfl) rfl
theorem q413 : (Jvm.Cond.code ({ cls := "DoughDebts", name := "wordOf", desc := "([Ljava/lang/String;)I" } : Jvm.MethodName) prog_1_method_11_code (3 : Nat) (Option.some Jvm.ClassFile.FieldType.int)) ∈ lw_all := lw_g (lw_at lw_m2 86 rfl) rfl
theorem q414 : (Jvm.Cond.methodLink "DoughDebts" (191 : Nat) ({ cls := "DoughDebts", name := "spells", desc := "(Ljava/lang/String;)Z" } : Jvm.MethodName)) ∈ lw_all := lw_g (lw_at lw_m2 87 rfl) rfl
theorem q415 : (Jvm.Cond.privateMethod ({ cls := "DoughDebts", name := "spells", desc := "(Ljava/lang/String;)Z" } : Jvm.MethodName)) ∈ lw_tbl := lw_at lw_m2 88 rfl
theorem q416 : (Jvm.Cond.instanceMethod ({ cls := "DoughDebts", name := "spells", desc := "(Ljava/lang/String;)Z" } : Jvm.MethodName)) ∈ lw_all := lw_g (lw_at lw_m2 89 rfl) rfl
theorem q417 : (Jvm.Cond.code ({ cls := "DoughDebts", name := "spells", desc := "(Ljava/lang/String;)Z" } : Jvm.MethodName) prog_1_method_10_code (3 : Nat) (Option.some Jvm.ClassFile.FieldType.boolean)) ∈ lw_all := lw_g (lw_at lw_m2 90 rfl) rfl
theorem q418 : (Jvm.Cond.methodLink "DoughDebts" (164 : Nat) ({ cls := "java/lang/String", name := "length", desc := "()I" } : Jvm.MethodName)) ∈ lw_all := lw_g (lw_at lw_m2 91 rfl) rfl
theorem q428 : (Jvm.Cond.methodLink "DoughDebts" (178 : Nat) ({ cls := "java/lang/String", name := "charAt", desc := "(I)C" } : Jvm.MethodName)) ∈ lw_all := lw_g (lw_at lw_m2 101 rfl) rfl
theorem q466 : (Jvm.Cond.methodLink "DoughDebts" (215 : Nat) ({ cls := "DoughDebts", name := "isDigit", desc := "(I)Z" } : Jvm.MethodName)) ∈ lw_all := lw_g (lw_at lw_m2 139 rfl) rfl
theorem q467 : (Jvm.Cond.static ({ cls := "DoughDebts", name := "isDigit", desc := "(I)Z" } : Jvm.MethodName)) ∈ lw_all := lw_g (lw_at lw_m2 140 rfl) rfl
theorem q468 : (Jvm.Cond.code ({ cls := "DoughDebts", name := "isDigit", desc := "(I)Z" } : Jvm.MethodName) prog_1_method_9_code (1 : Nat) (Option.some Jvm.ClassFile.FieldType.boolean)) ∈ lw_all := lw_g (lw_at lw_m2 141 rfl) rfl
theorem q469 : (Jvm.Cond.constant "DoughDebts" (218 : Nat) (99999 : Int32)) ∈ lw_all := lw_g (lw_at lw_m2 142 rfl) rfl
theorem q470 : (Jvm.Cond.methodLink "DoughDebts" (219 : Nat) ({ cls := "java/lang/Math", name := "min", desc := "(II)I" } : Jvm.MethodName)) ∈ lw_all := lw_g (lw_at lw_m2 143 rfl) rfl
theorem q473 : (Jvm.Cond.fieldLink "DoughDebts" (225 : Nat) "DoughDebts$Token" "NUMBER" "LDoughDebts$Token;") ∈ lw_all := lw_g (lw_at lw_m2 146 rfl) rfl
theorem q475 : (Jvm.Cond.stringRef "DoughDebts" (228 : Nat) ";+-*/()<=>") ∈ lw_tbl := lw_at lw_m2 148 rfl
theorem q476 : (Jvm.Cond.methodLink "DoughDebts" (230 : Nat) ({ cls := "java/lang/String", name := "indexOf", desc := "(I)I" } : Jvm.MethodName)) ∈ lw_all := lw_g (lw_at lw_m2 149 rfl) rfl
theorem q533 : (Jvm.Cond.fieldLink "DoughDebts" (195 : Nat) "DoughDebts$Token" "SIGN" "LDoughDebts$Token;") ∈ lw_all := lw_g (lw_at lw_m2 206 rfl) rfl
theorem q535 : (Jvm.Cond.methodLink "DoughDebts" (242 : Nat) ({ cls := "DoughDebts", name := "must", desc := "(Z)V" } : Jvm.MethodName)) ∈ lw_all := lw_g (lw_at lw_m2 208 rfl) rfl
theorem q536 : (Jvm.Cond.privateMethod ({ cls := "DoughDebts", name := "must", desc := "(Z)V" } : Jvm.MethodName)) ∈ lw_tbl := lw_at lw_m2 209 rfl
theorem q537 : (Jvm.Cond.instanceMethod ({ cls := "DoughDebts", name := "must", desc := "(Z)V" } : Jvm.MethodName)) ∈ lw_all := lw_g (lw_at lw_m2 210 rfl) rfl
theorem q538 : (Jvm.Cond.code ({ cls := "DoughDebts", name := "must", desc := "(Z)V" } : Jvm.MethodName) prog_1_method_15_code (2 : Nat) (Option.none : Option Jvm.ClassFile.FieldType)) ∈ lw_all := lw_g (lw_at lw_m2 211 rfl) rfl
theorem q575 : (Jvm.Cond.methodLink "DoughDebts" (235 : Nat) ({ cls := "DoughDebts$Fault", name := "<init>", desc := "(II)V" } : Jvm.MethodName)) ∈ lw_all := lw_g (lw_at lw_m3 8 rfl) rfl
theorem q585 : (Jvm.Cond.fieldLink "DoughDebts" (313 : Nat) "DoughDebts$Fault" "kind" "I") ∈ lw_all := lw_g (lw_at lw_m3 18 rfl) rfl
theorem q587 : (Jvm.Cond.fieldLink "DoughDebts" (316 : Nat) "DoughDebts$Fault" "place" "I") ∈ lw_all := lw_g (lw_at lw_m3 20 rfl) rfl
theorem q605 : (Jvm.Cond.methodLink "DoughDebts" (292 : Nat) ({ cls := "DoughDebts", name := "sum", desc := "()LDoughDebts$Term;" } : Jvm.MethodName)) ∈ lw_all := lw_g (lw_at lw_m3 38 rfl) rfl
theorem q606 : (Jvm.Cond.privateMethod ({ cls := "DoughDebts", name := "sum", desc := "()LDoughDebts$Term;" } : Jvm.MethodName)) ∈ lw_tbl := lw_at lw_m3 39 rfl
theorem q607 : (Jvm.Cond.instanceMethod ({ cls := "DoughDebts", name := "sum", desc := "()LDoughDebts$Term;" } : Jvm.MethodName)) ∈ lw_all := lw_g (lw_at lw_m3 40 rfl) rfl
theorem q608 : (Jvm.Cond.code ({ cls := "DoughDebts", name := "sum", desc := "()LDoughDebts$Term;" } : Jvm.MethodName) prog_1_method_19_code (3 : Nat) (Option.some (Jvm.ClassFile.FieldType.object "DoughDebts$Term"))) ∈ lw_all := lw_g (lw_at lw_m3 41 rfl) rfl
theorem q609 : (Jvm.Cond.methodLink "DoughDebts" (265 : Nat) ({ cls := "DoughDebts", name := "product", desc := "()LDoughDebts$Term;" } : Jvm.MethodName)) ∈ lw_all := lw_g (lw_at lw_m3 42 rfl) rfl
theorem q610 : (Jvm.Cond.privateMethod ({ cls := "DoughDebts", name := "product", desc := "()LDoughDebts$Term;" } : Jvm.MethodName)) ∈ lw_tbl := lw_at lw_m3 43 rfl
theorem q611 : (Jvm.Cond.instanceMethod ({ cls := "DoughDebts", name := "product", desc := "()LDoughDebts$Term;" } : Jvm.MethodName)) ∈ lw_all := lw_g (lw_at lw_m3 44 rfl) rfl
theorem q612 : (Jvm.Cond.code ({ cls := "DoughDebts", name := "product", desc := "()LDoughDebts$Term;" } : Jvm.MethodName) prog_1_method_18_code (3 : Nat) (Option.some (Jvm.ClassFile.FieldType.object "DoughDebts$Term"))) ∈ lw_all := lw_g (lw_at lw_m3 45 rfl) rfl
theorem q613 : (Jvm.Cond.methodLink "DoughDebts" (256 : Nat) ({ cls := "DoughDebts", name := "unit", desc := "()LDoughDebts$Term;" } : Jvm.MethodName)) ∈ lw_all := lw_g (lw_at lw_m3 46 rfl) rfl
theorem q614 : (Jvm.Cond.privateMethod ({ cls := "DoughDebts", name := "unit", desc := "()LDoughDebts$Term;" } : Jvm.MethodName)) ∈ lw_tbl := lw_at lw_m3 47 rfl
theorem q615 : (Jvm.Cond.instanceMethod ({ cls := "DoughDebts", name := "unit", desc := "()LDoughDebts$Term;" } : Jvm.MethodName)) ∈ lw_all := lw_g (lw_at lw_m3 48 rfl) rfl
theorem q616 : (Jvm.Cond.code ({ cls := "DoughDebts", name := "unit", desc := "()LDoughDebts$Term;" } : Jvm.MethodName) prog_1_method_17_code (2 : Nat) (Option.some (Jvm.ClassFile.FieldType.object "DoughDebts$Term"))) ∈ lw_all := lw_g (lw_at lw_m3 49 rfl) rfl
theorem q617 : (Jvm.Cond.classLink "DoughDebts" (249 : Nat) "DoughDebts$Number") ∈ lw_all := lw_g (lw_at lw_m3 50 rfl) rfl
theorem q619 : (Jvm.Cond.methodLink "DoughDebts" (251 : Nat) ({ cls := "DoughDebts$Number", name := "<init>", desc := "(I)V" } : Jvm.MethodName)) ∈ lw_all := lw_g (lw_at lw_m3 52 rfl) rfl
theorem q630 : (Jvm.Cond.classLink "DoughDebts" (253 : Nat) "DoughDebts$Word") ∈ lw_all := lw_g (lw_at lw_m3 63 rfl) rfl
theorem q632 : (Jvm.Cond.methodLink "DoughDebts" (255 : Nat) ({ cls := "DoughDebts$Word", name := "<init>", desc := "(I)V" } : Jvm.MethodName)) ∈ lw_all := lw_g (lw_at lw_m3 65 rfl) rfl
theorem q640 : (Jvm.Cond.methodLink "DoughDebts" (238 : Nat) ({ cls := "DoughDebts", name := "isSign", desc := "(C)Z" } : Jvm.MethodName)) ∈ lw_all := lw_g (lw_at lw_m3 73 rfl) rfl
theorem q641 : (Jvm.Cond.privateMethod ({ cls := "DoughDebts", name := "isSign", desc := "(C)Z" } : Jvm.MethodName)) ∈ lw_tbl := lw_at lw_m3 74 rfl
theorem q642 : (Jvm.Cond.instanceMethod ({ cls := "DoughDebts", name := "isSign", desc := "(C)Z" } : Jvm.MethodName)) ∈ lw_all := lw_g (lw_at lw_m3 75 rfl) rfl
theorem q643 : (Jvm.Cond.code ({ cls := "DoughDebts", name := "isSign", desc := "(C)Z" } : Jvm.MethodName) prog_1_method_13_code (2 : Nat) (Option.some Jvm.ClassFile.FieldType.boolean)) ∈ lw_all := lw_g (lw_at lw_m3 76 rfl) rfl
theorem q644 : (Jvm.Cond.classLink "DoughDebts" (260 : Nat) "DoughDebts$Two") ∈ lw_all := lw_g (lw_at lw_m3 77 rfl) rfl
theorem q646 : (Jvm.Cond.methodLink "DoughDebts" (262 : Nat) ({ cls := "DoughDebts$Two", name := "<init>", desc := "(CLDoughDebts$Term;LDoughDebts$Term;)V" } : Jvm.MethodName)) ∈ lw_all := lw_g (lw_at lw_m3 79 rfl) rfl
theorem q660 : (Jvm.Cond.methodLink "DoughDebts" (271 : Nat) ({ cls := "DoughDebts", name := "isWord", desc := "(Ljava/lang/String;)Z" } : Jvm.MethodName)) ∈ lw_all := lw_g (lw_at lw_m3 93 rfl) rfl
theorem q661 : (Jvm.Cond.privateMethod ({ cls := "DoughDebts", name := "isWord", desc := "(Ljava/lang/String;)Z" } : Jvm.MethodName)) ∈ lw_tbl := lw_at lw_m3 94 rfl
theorem q662 : (Jvm.Cond.instanceMethod ({ cls := "DoughDebts", name := "isWord", desc := "(Ljava/lang/String;)Z" } : Jvm.MethodName)) ∈ lw_all := lw_g (lw_at lw_m3 95 rfl) rfl
theorem q663 : (Jvm.Cond.code ({ cls := "DoughDebts", name := "isWord", desc := "(Ljava/lang/String;)Z" } : Jvm.MethodName) prog_1_method_12_code (2 : Nat) (Option.some Jvm.ClassFile.FieldType.boolean)) ∈ lw_all := lw_g (lw_at lw_m3 96 rfl) rfl
theorem q664 : (Jvm.Cond.methodLink "DoughDebts" (285 : Nat) ({ cls := "DoughDebts", name := "any", desc := "()LDoughDebts$Term;" } : Jvm.MethodName)) ∈ lw_all := lw_g (lw_at lw_m3 97 rfl) rfl
theorem q665 : (Jvm.Cond.privateMethod ({ cls := "DoughDebts", name := "any", desc := "()LDoughDebts$Term;" } : Jvm.MethodName)) ∈ lw_tbl := lw_at lw_m3 98 rfl
theorem q666 : (Jvm.Cond.instanceMethod ({ cls := "DoughDebts", name := "any", desc := "()LDoughDebts$Term;" } : Jvm.MethodName)) ∈ lw_all := lw_g (lw_at lw_m3 99 rfl) rfl
theorem q667 : (Jvm.Cond.code ({ cls := "DoughDebts", name := "any", desc := "()LDoughDebts$Term;" } : Jvm.MethodName) prog_1_method_23_code (2 : Nat) (Option.some (Jvm.ClassFile.FieldType.object "DoughDebts$Term"))) ∈ lw_all := lw_g (lw_at lw_m3 100 rfl) rfl
theorem q668 : (Jvm.Cond.methodLink "DoughDebts" (295 : Nat) ({ cls := "DoughDebts", name := "both", desc := "()LDoughDebts$Term;" } : Jvm.MethodName)) ∈ lw_all := lw_g (lw_at lw_m3 101 rfl) rfl
theorem q669 : (Jvm.Cond.privateMethod ({ cls := "DoughDebts", name := "both", desc := "()LDoughDebts$Term;" } : Jvm.MethodName)) ∈ lw_tbl := lw_at lw_m3 102 rfl
theorem q670 : (Jvm.Cond.instanceMethod ({ cls := "DoughDebts", name := "both", desc := "()LDoughDebts$Term;" } : Jvm.MethodName)) ∈ lw_all := lw_g (lw_at lw_m3 103 rfl) rfl
theorem q671 : (Jvm.Cond.code ({ cls := "DoughDebts", name := "both", desc := "()LDoughDebts$Term;" } : Jvm.MethodName) prog_1_method_22_code (2 : Nat) (Option.some (Jvm.ClassFile.FieldType.object "DoughDebts$Term"))) ∈ lw_all := lw_g (lw_at lw_m3 104 rfl) rfl
theorem q672 : (Jvm.Cond.methodLink "DoughDebts" (277 : Nat) ({ cls := "DoughDebts", name := "oneOf", desc := "()LDoughDebts$Term;" } : Jvm.MethodName)) ∈ lw_all := lw_g (lw_at lw_m3 105 rfl) rfl
theorem q673 : (Jvm.Cond.privateMethod ({ cls := "DoughDebts", name := "oneOf", desc := "()LDoughDebts$Term;" } : Jvm.MethodName)) ∈ lw_tbl := lw_at lw_m3 106 rfl
theorem q674 : (Jvm.Cond.instanceMethod ({ cls := "DoughDebts", name := "oneOf", desc := "()LDoughDebts$Term;" } : Jvm.MethodName)) ∈ lw_all := lw_g (lw_at lw_m3 107 rfl) rfl
theorem q675 : (Jvm.Cond.code ({ cls := "DoughDebts", name := "oneOf", desc := "()LDoughDebts$Term;" } : Jvm.MethodName) prog_1_method_21_code (3 : Nat) (Option.some (Jvm.ClassFile.FieldType.object "DoughDebts$Term"))) ∈ lw_all := lw_g (lw_at lw_m3 108 rfl) rfl
theorem q676 : (Jvm.Cond.methodLink "DoughDebts" (274 : Nat) ({ cls := "DoughDebts", name := "opens", desc := "()V" } : Jvm.MethodName)) ∈ lw_all := lw_g (lw_at lw_m3 109 rfl) rfl
theorem q677 : (Jvm.Cond.privateMethod ({ cls := "DoughDebts", name := "opens", desc := "()V" } : Jvm.MethodName)) ∈ lw_tbl := lw_at lw_m3 110 rfl
theorem q678 : (Jvm.Cond.instanceMethod ({ cls := "DoughDebts", name := "opens", desc := "()V" } : Jvm.MethodName)) ∈ lw_all := lw_g (lw_at lw_m3 111 rfl) rfl
theorem q679 : (Jvm.Cond.code ({ cls := "DoughDebts", name := "opens", desc := "()V" } : Jvm.MethodName) prog_1_method_20_code (1 : Nat) (Option.none : Option Jvm.ClassFile.FieldType)) ∈ lw_all := lw_g (lw_at lw_m3 112 rfl) rfl
theorem q680 : (Jvm.Cond.classLink "DoughDebts" (280 : Nat) "DoughDebts$Not") ∈ lw_all := lw_g (lw_at lw_m3 113 rfl) rfl
theorem q682 : (Jvm.Cond.methodLink "DoughDebts" (282 : Nat) ({ cls := "DoughDebts$Not", name := "<init>", desc := "(LDoughDebts$Term;)V" } : Jvm.MethodName)) ∈ lw_all := lw_g (lw_at lw_m3 115 rfl) rfl
theorem q690 : (Jvm.Cond.methodLink "DoughDebts" (288 : Nat) ({ cls := "DoughDebts", name := "takesSign", desc := "(C)V" } : Jvm.MethodName)) ∈ lw_all := lw_g (lw_at lw_m3 123 rfl) rfl
theorem q691 : (Jvm.Cond.privateMethod ({ cls := "DoughDebts", name := "takesSign", desc := "(C)V" } : Jvm.MethodName)) ∈ lw_tbl := lw_at lw_m3 124 rfl
theorem q692 : (Jvm.Cond.instanceMethod ({ cls := "DoughDebts", name := "takesSign", desc := "(C)V" } : Jvm.MethodName)) ∈ lw_all := lw_g (lw_at lw_m3 125 rfl) rfl
theorem q693 : (Jvm.Cond.code ({ cls := "DoughDebts", name := "takesSign", desc := "(C)V" } : Jvm.MethodName) prog_1_method_16_code (2 : Nat) (Option.none : Option Jvm.ClassFile.FieldType)) ∈ lw_all := lw_g (lw_at lw_m3 126 rfl) rfl
theorem q695 : (Jvm.Cond.instanceMethod ({ cls := "DoughDebts", name := "fault", desc := "(I)I" } : Jvm.MethodName)) ∈ lw_all := lw_g (lw_at lw_m3 128 rfl) rfl
theorem q696 : (Jvm.Cond.selects "DoughDebts" ({ cls := "DoughDebts", name := "fault", desc := "(I)I" } : Jvm.MethodName) ({ cls := "DoughDebts", name := "fault", desc := "(I)I" } : Jvm.MethodName)) ∈ lw_all := lw_g (lw_at lw_m3 129 rfl) rfl
theorem q697 : (Jvm.Cond.code ({ cls := "DoughDebts", name := "fault", desc := "(I)I" } : Jvm.MethodName) prog_1_method_26_code (2 : Nat) (Option.some Jvm.ClassFile.FieldType.int)) ∈ lw_all := lw_g (lw_at lw_m3 130 rfl) rfl
theorem q699 : (Jvm.Cond.instanceMethod ({ cls := "DoughDebts", name := "state", desc := "(I)I" } : Jvm.MethodName)) ∈ lw_all := lw_g (lw_at lw_m3 132 rfl) rfl
theorem q700 : (Jvm.Cond.selects "DoughDebts" ({ cls := "DoughDebts", name := "state", desc := "(I)I" } : Jvm.MethodName) ({ cls := "DoughDebts", name := "state", desc := "(I)I" } : Jvm.MethodName)) ∈ lw_all := lw_g (lw_at lw_m3 133 rfl) rfl
theorem q701 : (Jvm.Cond.code ({ cls := "DoughDebts", name := "state", desc := "(I)I" } : Jvm.MethodName) prog_1_method_29_code (3 : Nat) (Option.some Jvm.ClassFile.FieldType.int)) ∈ lw_all := lw_g (lw_at lw_m3 134 rfl) rfl
theorem q703 : (Jvm.Cond.instanceMethod ({ cls := "DoughDebts", name := "undo", desc := "()Z" } : Jvm.MethodName)) ∈ lw_all := lw_g (lw_at lw_m3 136 rfl) rfl
theorem q704 : (Jvm.Cond.selects "DoughDebts" ({ cls := "DoughDebts", name := "undo", desc := "()Z" } : Jvm.MethodName) ({ cls := "DoughDebts", name := "undo", desc := "()Z" } : Jvm.MethodName)) ∈ lw_all := lw_g (lw_at lw_m3 137 rfl) rfl
theorem q705 : (Jvm.Cond.code ({ cls := "DoughDebts", name := "undo", desc := "()Z" } : Jvm.MethodName) prog_1_method_32_code (1 : Nat) (Option.some Jvm.ClassFile.FieldType.boolean)) ∈ lw_all := lw_g (lw_at lw_m3 138 rfl) rfl
theorem q706 : (Jvm.Cond.methodLink "DoughDebts" (334 : Nat) ({ cls := "DoughDebts$Days", name := "become", desc := "(LDoughDebts$Days;)V" } : Jvm.MethodName)) ∈ lw_all := lw_g (lw_at lw_m3 139 rfl) rfl
theorem q711 : (Jvm.Cond.static ({ cls := "DoughDebts", name := "copies", desc := "([I[I)V" } : Jvm.MethodName)) ∈ lw_all := lw_g (lw_at lw_m3 144 rfl) rfl
theorem q712 : (Jvm.Cond.code ({ cls := "DoughDebts", name := "copies", desc := "([I[I)V" } : Jvm.MethodName) prog_1_method_27_code (2 : Nat) (Option.none : Option Jvm.ClassFile.FieldType)) ∈ lw_all := lw_g (lw_at lw_m3 145 rfl) rfl
theorem q713 : (Jvm.Cond.methodLink "DoughDebts" (319 : Nat) ({ cls := "java/lang/System", name := "arraycopy", desc := "(Ljava/lang/Object;ILjava/lang/Object;II)V" } : Jvm.MethodName)) ∈ lw_all := lw_g (lw_at lw_m3 146 rfl) rfl
theorem q717 : (Jvm.Cond.instanceMethod ({ cls := "DoughDebts", name := "house", desc := "(III)I" } : Jvm.MethodName)) ∈ lw_all := lw_g (lw_at lw_m3 150 rfl) rfl
theorem q718 : (Jvm.Cond.selects "DoughDebts" ({ cls := "DoughDebts", name := "house", desc := "(III)I" } : Jvm.MethodName) ({ cls := "DoughDebts", name := "house", desc := "(III)I" } : Jvm.MethodName)) ∈ lw_all := lw_g (lw_at lw_m3 151 rfl) rfl
theorem q719 : (Jvm.Cond.code ({ cls := "DoughDebts", name := "house", desc := "(III)I" } : Jvm.MethodName) prog_1_method_34_code (5 : Nat) (Option.some Jvm.ClassFile.FieldType.int)) ∈ lw_all := lw_g (lw_at lw_m3 152 rfl) rfl
theorem q720 : (Jvm.Cond.methodLink "DoughDebts" (344 : Nat) ({ cls := "DoughDebts", name := "takesRow", desc := "(IIII)[B" } : Jvm.MethodName)) ∈ lw_all := lw_g (lw_at lw_m3 153 rfl) rfl
theorem q721 : (Jvm.Cond.privateMethod ({ cls := "DoughDebts", name := "takesRow", desc := "(IIII)[B" } : Jvm.MethodName)) ∈ lw_tbl := lw_at lw_m3 154 rfl
theorem q722 : (Jvm.Cond.instanceMethod ({ cls := "DoughDebts", name := "takesRow", desc := "(IIII)[B" } : Jvm.MethodName)) ∈ lw_all := lw_g (lw_at lw_m3 155 rfl) rfl
theorem q723 : (Jvm.Cond.code ({ cls := "DoughDebts", name := "takesRow", desc := "(IIII)[B" } : Jvm.MethodName) prog_1_method_33_code (8 : Nat) (Option.some (Jvm.ClassFile.FieldType.array Jvm.ClassFile.FieldType.byte))) ∈ lw_all := lw_g (lw_at lw_m3 156 rfl) rfl
theorem q724 : (Jvm.Cond.methodLink "DoughDebts" (338 : Nat) ({ cls := "java/util/Arrays", name := "copyOf", desc := "([BI)[B" } : Jvm.MethodName)) ∈ lw_all := lw_g (lw_at lw_m3 157 rfl) rfl
theorem q737 : (Jvm.Cond.methodLink "DoughDebts" (348 : Nat) ({ cls := "DoughDebts$House", name := "<init>", desc := "(III[B)V" } : Jvm.MethodName)) ∈ lw_all := lw_g (lw_at lw_m3 170 rfl) rfl
theorem q742 : (Jvm.Cond.fieldLink "DoughDebts" (360 : Nat) "DoughDebts$House" "size" "I") ∈ lw_all := lw_g (lw_at lw_m3 175 rfl) rfl
theorem q744 : (Jvm.Cond.fieldLink "DoughDebts" (362 : Nat) "DoughDebts$House" "need" "I") ∈ lw_all := lw_g (lw_at lw_m3 177 rfl) rfl
theorem q746 : (Jvm.Cond.fieldLink "DoughDebts" (404 : Nat) "DoughDebts$House" "minutes" "I") ∈ lw_all := lw_g (lw_at lw_m3 179 rfl) rfl
theorem q748 : (Jvm.Cond.fieldLink "DoughDebts" (444 : Nat) "DoughDebts$House" "mark" "[B") ∈ lw_all := lw_g (lw_at lw_m3 181 rfl) rfl
theorem q758 : (Jvm.Cond.methodLink "DoughDebts" (351 : Nat) ({ cls := "DoughDebts", name := "forgets", desc := "()V" } : Jvm.MethodName)) ∈ lw_all := lw_g (lw_at lw_m3 191 rfl) rfl
theorem q759 : (Jvm.Cond.privateMethod ({ cls := "DoughDebts", name := "forgets", desc := "()V" } : Jvm.MethodName)) ∈ lw_tbl := lw_at lw_m3 192 rfl
theorem q760 : (Jvm.Cond.instanceMethod ({ cls := "DoughDebts", name := "forgets", desc := "()V" } : Jvm.MethodName)) ∈ lw_all := lw_g (lw_at lw_m3 193 rfl) rfl
theorem q761 : (Jvm.Cond.code ({ cls := "DoughDebts", name := "forgets", desc := "()V" } : Jvm.MethodName) prog_1_method_30_code (1 : Nat) (Option.none : Option Jvm.ClassFile.FieldType)) ∈ lw_all := lw_g (lw_at lw_m3 194 rfl) rfl
theorem q763 : (Jvm.Cond.instanceMethod ({ cls := "DoughDebts", name := "give", desc := "(II)Z" } : Jvm.MethodName)) ∈ lw_all := lw_g (lw_at lw_m3 196 rfl) rfl
theorem q764 : (Jvm.Cond.selects "DoughDebts" ({ cls := "DoughDebts", name := "give", desc := "(II)Z" } : Jvm.MethodName) ({ cls := "DoughDebts", name := "give", desc := "(II)Z" } : Jvm.MethodName)) ∈ lw_all := lw_g (lw_at lw_m3 197 rfl) rfl
theorem q765 : (Jvm.Cond.code ({ cls := "DoughDebts", name := "give", desc := "(II)Z" } : Jvm.MethodName) prog_1_method_35_code (3 : Nat) (Option.some Jvm.ClassFile.FieldType.boolean)) ∈ lw_all := lw_g (lw_at lw_m3 198 rfl) rfl
theorem q766 : (Jvm.Cond.methodLink "DoughDebts" (354 : Nat) ({ cls := "DoughDebts", name := "isHouse", desc := "(I)Z" } : Jvm.MethodName)) ∈ lw_all := lw_g (lw_at lw_m3 199 rfl) rfl
theorem q767 : (Jvm.Cond.privateMethod ({ cls := "DoughDebts", name := "isHouse", desc := "(I)Z" } : Jvm.MethodName)) ∈ lw_tbl := lw_at lw_m3 200 rfl
theorem q768 : (Jvm.Cond.instanceMethod ({ cls := "DoughDebts", name := "isHouse", desc := "(I)Z" } : Jvm.MethodName)) ∈ lw_all := lw_g (lw_at lw_m3 201 rfl) rfl
theorem q769 : (Jvm.Cond.code ({ cls := "DoughDebts", name := "isHouse", desc := "(I)Z" } : Jvm.MethodName) prog_1_method_28_code (2 : Nat) (Option.some Jvm.ClassFile.FieldType.boolean)) ∈ lw_all := lw_g (lw_at lw_m3 202 rfl) rfl
theorem q770 : (Jvm.Cond.constant "DoughDebts" (359 : Nat) (999999 : Int32)) ∈ lw_all := lw_g (lw_at lw_m3 203 rfl) rfl
theorem q772 : (Jvm.Cond.instanceMethod ({ cls := "DoughDebts", name := "set", desc := "(II)Z" } : Jvm.MethodName)) ∈ lw_all := lw_g (lw_at lw_m3 205 rfl) rfl
theorem q773 : (Jvm.Cond.selects "DoughDebts" ({ cls := "DoughDebts", name := "set", desc := "(II)Z" } : Jvm.MethodName) ({ cls := "DoughDebts", name := "set", desc := "(II)Z" } : Jvm.MethodName)) ∈ lw_all := lw_g (lw_at lw_m3 206 rfl) rfl
theorem q774 : (Jvm.Cond.code ({ cls := "DoughDebts", name := "set", desc := "(II)Z" } : Jvm.MethodName) prog_1_method_36_code (3 : Nat) (Option.some Jvm.ClassFile.FieldType.boolean)) ∈ lw_all := lw_g (lw_at lw_m3 207 rfl) rfl
theorem q776 : (Jvm.Cond.instanceMethod ({ cls := "DoughDebts", name := "order", desc := "(I)I" } : Jvm.MethodName)) ∈ lw_all := lw_g (lw_at lw_m3 209 rfl) rfl
theorem q777 : (Jvm.Cond.selects "DoughDebts" ({ cls := "DoughDebts", name := "order", desc := "(I)I" } : Jvm.MethodName) ({ cls := "DoughDebts", name := "order", desc := "(I)I" } : Jvm.MethodName)) ∈ lw_all := lw_g (lw_at lw_m3 210 rfl) rfl
theorem q778 : (Jvm.Cond.code ({ cls := "DoughDebts", name := "order", desc := "(I)I" } : Jvm.MethodName) prog_1_method_40_code (2 : Nat) (Option.some Jvm.ClassFile.FieldType.int)) ∈ lw_all := lw_g (lw_at lw_m3 211 rfl) rfl
theorem q779 : (Jvm.Cond.methodLink "DoughDebts" (395 : Nat) ({ cls := "DoughDebts", name := "findsToday", desc := "()V" } : Jvm.MethodName)) ∈ lw_all := lw_g (lw_at lw_m3 212 rfl) rfl
theorem q780 : (Jvm.Cond.privateMethod ({ cls := "DoughDebts", name := "findsToday", desc := "()V" } : Jvm.MethodName)) ∈ lw_tbl := lw_at lw_m3 213 rfl
theorem q781 : (Jvm.Cond.instanceMethod ({ cls := "DoughDebts", name := "findsToday", desc := "()V" } : Jvm.MethodName)) ∈ lw_all := lw_g (lw_at lw_m3 214 rfl) rfl
theorem q782 : (Jvm.Cond.code ({ cls := "DoughDebts", name := "findsToday", desc := "()V" } : Jvm.MethodName) prog_1_method_39_code (3 : Nat) (Option.none : Option Jvm.ClassFile.FieldType)) ∈ lw_all := lw_g (lw_at lw_m3 215 rfl) rfl
theorem q783 : (Jvm.Cond.methodLink "DoughDebts" (388 : Nat) ({ cls := "DoughDebts", name := "lines", desc := "([I)V" } : Jvm.MethodName)) ∈ lw_all := lw_g (lw_at lw_m3 216 rfl) rfl
theorem q784 : (Jvm.Cond.privateMethod ({ cls := "DoughDebts", name := "lines", desc := "([I)V" } : Jvm.MethodName)) ∈ lw_tbl := lw_at lw_m3 217 rfl
theorem q785 : (Jvm.Cond.instanceMethod ({ cls := "DoughDebts", name := "lines", desc := "([I)V" } : Jvm.MethodName)) ∈ lw_all := lw_g (lw_at lw_m3 218 rfl) rfl
theorem q786 : (Jvm.Cond.code ({ cls := "DoughDebts", name := "lines", desc := "([I)V" } : Jvm.MethodName) prog_1_method_38_code (4 : Nat) (Option.none : Option Jvm.ClassFile.FieldType)) ∈ lw_all := lw_g (lw_at lw_m3 219 rfl) rfl
theorem q787 : (Jvm.Cond.methodLink "DoughDebts" (385 : Nat) ({ cls := "DoughDebts", name := "worthOf", desc := "(I)I" } : Jvm.MethodName)) ∈ lw_all := lw_g (lw_at lw_m3 220 rfl) rfl
theorem q788 : (Jvm.Cond.privateMethod ({ cls := "DoughDebts", name := "worthOf", desc := "(I)I" } : Jvm.MethodName)) ∈ lw_tbl := lw_at lw_m3 221 rfl
theorem q789 : (Jvm.Cond.instanceMethod ({ cls := "DoughDebts", name := "worthOf", desc := "(I)I" } : Jvm.MethodName)) ∈ lw_all := lw_g (lw_at lw_m3 222 rfl) rfl
theorem q790 : (Jvm.Cond.code ({ cls := "DoughDebts", name := "worthOf", desc := "(I)I" } : Jvm.MethodName) prog_1_method_37_code (4 : Nat) (Option.some Jvm.ClassFile.FieldType.int)) ∈ lw_all := lw_g (lw_at lw_m3 223 rfl) rfl
theorem q791 : (Jvm.Cond.methodLink "DoughDebts" (374 : Nat) ({ cls := "DoughDebts", name := "netOf", desc := "(I)I" } : Jvm.MethodName)) ∈ lw_all := lw_g (lw_at lw_m3 224 rfl) rfl
theorem q792 : (Jvm.Cond.privateMethod ({ cls := "DoughDebts", name := "netOf", desc := "(I)I" } : Jvm.MethodName)) ∈ lw_tbl := lw_at lw_m3 225 rfl
theorem q793 : (Jvm.Cond.instanceMethod ({ cls := "DoughDebts", name := "netOf", desc := "(I)I" } : Jvm.MethodName)) ∈ lw_all := lw_g (lw_at lw_m3 226 rfl) rfl
theorem q794 : (Jvm.Cond.code ({ cls := "DoughDebts", name := "netOf", desc := "(I)I" } : Jvm.MethodName) prog_1_method_74_code (4 : Nat) (Option.some Jvm.ClassFile.FieldType.int)) ∈ lw_all := lw_g (lw_at lw_m3 227 rfl) rfl
theorem q795 : (Jvm.Cond.methodLink "DoughDebts" (377 : Nat) ({ cls := "DoughDebts$Text", name := "first", desc := "([I)I" } : Jvm.MethodName)) ∈ lw_all := lw_g (lw_at lw_m3 228 rfl) rfl
theorem q816 : (Jvm.Cond.methodLink "DoughDebts" (380 : Nat) ({ cls := "DoughDebts$Term", name := "of", desc := "([I)I" } : Jvm.MethodName)) ∈ lw_all := lw_g (lw_at lw_m4 9 rfl) rfl
theorem q818 : (Jvm.Cond.instanceMethod ({ cls := "DoughDebts", name := "days", desc := "(I)I" } : Jvm.MethodName)) ∈ lw_all := lw_g (lw_at lw_m4 11 rfl) rfl
theorem q819 : (Jvm.Cond.selects "DoughDebts" ({ cls := "DoughDebts", name := "days", desc := "(I)I" } : Jvm.MethodName) ({ cls := "DoughDebts", name := "days", desc := "(I)I" } : Jvm.MethodName)) ∈ lw_all := lw_g (lw_at lw_m4 12 rfl) rfl
theorem q820 : (Jvm.Cond.code ({ cls := "DoughDebts", name := "days", desc := "(I)I" } : Jvm.MethodName) prog_1_method_45_code (4 : Nat) (Option.some Jvm.ClassFile.FieldType.int)) ∈ lw_all := lw_g (lw_at lw_m4 13 rfl) rfl
theorem q821 : (Jvm.Cond.methodLink "DoughDebts" (436 : Nat) ({ cls := "DoughDebts", name := "keepsAhead", desc := "()V" } : Jvm.MethodName)) ∈ lw_all := lw_g (lw_at lw_m4 14 rfl) rfl
theorem q822 : (Jvm.Cond.privateMethod ({ cls := "DoughDebts", name := "keepsAhead", desc := "()V" } : Jvm.MethodName)) ∈ lw_tbl := lw_at lw_m4 15 rfl
theorem q823 : (Jvm.Cond.instanceMethod ({ cls := "DoughDebts", name := "keepsAhead", desc := "()V" } : Jvm.MethodName)) ∈ lw_all := lw_g (lw_at lw_m4 16 rfl) rfl
theorem q824 : (Jvm.Cond.code ({ cls := "DoughDebts", name := "keepsAhead", desc := "()V" } : Jvm.MethodName) prog_1_method_31_code (2 : Nat) (Option.none : Option Jvm.ClassFile.FieldType)) ∈ lw_all := lw_g (lw_at lw_m4 17 rfl) rfl
theorem q825 : (Jvm.Cond.methodLink "DoughDebts" (439 : Nat) ({ cls := "DoughDebts", name := "goesBy", desc := "()Z" } : Jvm.MethodName)) ∈ lw_all := lw_g (lw_at lw_m4 18 rfl) rfl
theorem q826 : (Jvm.Cond.privateMethod ({ cls := "DoughDebts", name := "goesBy", desc := "()Z" } : Jvm.MethodName)) ∈ lw_tbl := lw_at lw_m4 19 rfl
theorem q827 : (Jvm.Cond.instanceMethod ({ cls := "DoughDebts", name := "goesBy", desc := "()Z" } : Jvm.MethodName)) ∈ lw_all := lw_g (lw_at lw_m4 20 rfl) rfl
theorem q828 : (Jvm.Cond.code ({ cls := "DoughDebts", name := "goesBy", desc := "()Z" } : Jvm.MethodName) prog_1_method_44_code (3 : Nat) (Option.some Jvm.ClassFile.FieldType.boolean)) ∈ lw_all := lw_g (lw_at lw_m4 21 rfl) rfl
theorem q829 : (Jvm.Cond.methodLink "DoughDebts" (416 : Nat) ({ cls := "DoughDebts$Days", name := "draw", desc := "(I)I" } : Jvm.MethodName)) ∈ lw_all := lw_g (lw_at lw_m4 22 rfl) rfl
theorem q835 : (Jvm.Cond.methodLink "DoughDebts" (419 : Nat) ({ cls := "DoughDebts", name := "bakes", desc := "(IZ)V" } : Jvm.MethodName)) ∈ lw_all := lw_g (lw_at lw_m4 28 rfl) rfl
theorem q836 : (Jvm.Cond.privateMethod ({ cls := "DoughDebts", name := "bakes", desc := "(IZ)V" } : Jvm.MethodName)) ∈ lw_tbl := lw_at lw_m4 29 rfl
theorem q837 : (Jvm.Cond.instanceMethod ({ cls := "DoughDebts", name := "bakes", desc := "(IZ)V" } : Jvm.MethodName)) ∈ lw_all := lw_g (lw_at lw_m4 30 rfl) rfl
theorem q838 : (Jvm.Cond.code ({ cls := "DoughDebts", name := "bakes", desc := "(IZ)V" } : Jvm.MethodName) prog_1_method_43_code (6 : Nat) (Option.none : Option Jvm.ClassFile.FieldType)) ∈ lw_all := lw_g (lw_at lw_m4 31 rfl) rfl
theorem q839 : (Jvm.Cond.methodLink "DoughDebts" (398 : Nat) ({ cls := "DoughDebts", name := "loafOf", desc := "(I)I" } : Jvm.MethodName)) ∈ lw_all := lw_g (lw_at lw_m4 32 rfl) rfl
theorem q840 : (Jvm.Cond.privateMethod ({ cls := "DoughDebts", name := "loafOf", desc := "(I)I" } : Jvm.MethodName)) ∈ lw_tbl := lw_at lw_m4 33 rfl
theorem q841 : (Jvm.Cond.instanceMethod ({ cls := "DoughDebts", name := "loafOf", desc := "(I)I" } : Jvm.MethodName)) ∈ lw_all := lw_g (lw_at lw_m4 34 rfl) rfl
theorem q842 : (Jvm.Cond.code ({ cls := "DoughDebts", name := "loafOf", desc := "(I)I" } : Jvm.MethodName) prog_1_method_41_code (2 : Nat) (Option.some Jvm.ClassFile.FieldType.int)) ∈ lw_all := lw_g (lw_at lw_m4 35 rfl) rfl
theorem q843 : (Jvm.Cond.methodLink "DoughDebts" (410 : Nat) ({ cls := "DoughDebts", name := "fires", desc := "(I)I" } : Jvm.MethodName)) ∈ lw_all := lw_g (lw_at lw_m4 36 rfl) rfl
theorem q844 : (Jvm.Cond.privateMethod ({ cls := "DoughDebts", name := "fires", desc := "(I)I" } : Jvm.MethodName)) ∈ lw_tbl := lw_at lw_m4 37 rfl
theorem q845 : (Jvm.Cond.instanceMethod ({ cls := "DoughDebts", name := "fires", desc := "(I)I" } : Jvm.MethodName)) ∈ lw_all := lw_g (lw_at lw_m4 38 rfl) rfl
theorem q846 : (Jvm.Cond.code ({ cls := "DoughDebts", name := "fires", desc := "(I)I" } : Jvm.MethodName) prog_1_method_42_code (4 : Nat) (Option.some Jvm.ClassFile.FieldType.int)) ∈ lw_all := lw_g (lw_at lw_m4 39 rfl) rfl
theorem q847 : (Jvm.Cond.methodLink "DoughDebts" (407 : Nat) ({ cls := "java/lang/Math", name := "max", desc := "(II)I" } : Jvm.MethodName)) ∈ lw_all := lw_g (lw_at lw_m4 40 rfl) rfl
theorem q848 : (Jvm.Cond.methodLink "DoughDebts" (426 : Nat) ({ cls := "DoughDebts", name := "copies", desc := "([I[I)V" } : Jvm.MethodName)) ∈ lw_all := lw_g (lw_at lw_m4 41 rfl) rfl
theorem q850 : (Jvm.Cond.instanceMethod ({ cls := "DoughDebts", name := "book", desc := "(I)I" } : Jvm.MethodName)) ∈ lw_all := lw_g (lw_at lw_m4 43 rfl) rfl
theorem q851 : (Jvm.Cond.selects "DoughDebts" ({ cls := "DoughDebts", name := "book", desc := "(I)I" } : Jvm.MethodName) ({ cls := "DoughDebts", name := "book", desc := "(I)I" } : Jvm.MethodName)) ∈ lw_all := lw_g (lw_at lw_m4 44 rfl) rfl
theorem q852 : (Jvm.Cond.code ({ cls := "DoughDebts", name := "book", desc := "(I)I" } : Jvm.MethodName) prog_1_method_46_code (2 : Nat) (Option.some Jvm.ClassFile.FieldType.int)) ∈ lw_all := lw_g (lw_at lw_m4 45 rfl) rfl
theorem q854 : (Jvm.Cond.instanceMethod ({ cls := "DoughDebts", name := "of", desc := "(II)I" } : Jvm.MethodName)) ∈ lw_all := lw_g (lw_at lw_m4 47 rfl) rfl
theorem q855 : (Jvm.Cond.selects "DoughDebts" ({ cls := "DoughDebts", name := "of", desc := "(II)I" } : Jvm.MethodName) ({ cls := "DoughDebts", name := "of", desc := "(II)I" } : Jvm.MethodName)) ∈ lw_all := lw_g (lw_at lw_m4 48 rfl) rfl
theorem q856 : (Jvm.Cond.code ({ cls := "DoughDebts", name := "of", desc := "(II)I" } : Jvm.MethodName) prog_1_method_47_code (4 : Nat) (Option.some Jvm.ClassFile.FieldType.int)) ∈ lw_all := lw_g (lw_at lw_m4 49 rfl) rfl
theorem q857 : (Jvm.Cond.constant "DoughDebts" (443 : Nat) (-1000000000 : Int32)) ∈ lw_all := lw_g (lw_at lw_m4 50 rfl) rfl
theorem q859 : (Jvm.Cond.instanceMethod ({ cls := "DoughDebts", name := "gain", desc := "(I)I" } : Jvm.MethodName)) ∈ lw_all := lw_g (lw_at lw_m4 52 rfl) rfl
theorem q860 : (Jvm.Cond.selects "DoughDebts" ({ cls := "DoughDebts", name := "gain", desc := "(I)I" } : Jvm.MethodName) ({ cls := "DoughDebts", name := "gain", desc := "(I)I" } : Jvm.MethodName)) ∈ lw_all := lw_g (lw_at lw_m4 53 rfl) rfl
theorem q861 : (Jvm.Cond.code ({ cls := "DoughDebts", name := "gain", desc := "(I)I" } : Jvm.MethodName) prog_1_method_50_code (5 : Nat) (Option.some Jvm.ClassFile.FieldType.int)) ∈ lw_all := lw_g (lw_at lw_m4 54 rfl) rfl
theorem q862 : (Jvm.Cond.methodLink "DoughDebts" (447 : Nat) ({ cls := "DoughDebts", name := "findsPieces", desc := "([I)I" } : Jvm.MethodName)) ∈ lw_all := lw_g (lw_at lw_m4 55 rfl) rfl
theorem q863 : (Jvm.Cond.privateMethod ({ cls := "DoughDebts", name := "findsPieces", desc := "([I)I" } : Jvm.MethodName)) ∈ lw_tbl := lw_at lw_m4 56 rfl
theorem q864 : (Jvm.Cond.instanceMethod ({ cls := "DoughDebts", name := "findsPieces", desc := "([I)I" } : Jvm.MethodName)) ∈ lw_all := lw_g (lw_at lw_m4 57 rfl) rfl
theorem q865 : (Jvm.Cond.code ({ cls := "DoughDebts", name := "findsPieces", desc := "([I)I" } : Jvm.MethodName) prog_1_method_48_code (4 : Nat) (Option.some Jvm.ClassFile.FieldType.int)) ∈ lw_all := lw_g (lw_at lw_m4 58 rfl) rfl
theorem q866 : (Jvm.Cond.methodLink "DoughDebts" (450 : Nat) ({ cls := "DoughDebts", name := "gainAt", desc := "([II)I" } : Jvm.MethodName)) ∈ lw_all := lw_g (lw_at lw_m4 59 rfl) rfl
theorem q867 : (Jvm.Cond.privateMethod ({ cls := "DoughDebts", name := "gainAt", desc := "([II)I" } : Jvm.MethodName)) ∈ lw_tbl := lw_at lw_m4 60 rfl
theorem q868 : (Jvm.Cond.instanceMethod ({ cls := "DoughDebts", name := "gainAt", desc := "([II)I" } : Jvm.MethodName)) ∈ lw_all := lw_g (lw_at lw_m4 61 rfl) rfl
theorem q869 : (Jvm.Cond.code ({ cls := "DoughDebts", name := "gainAt", desc := "([II)I" } : Jvm.MethodName) prog_1_method_49_code (5 : Nat) (Option.some Jvm.ClassFile.FieldType.int)) ∈ lw_all := lw_g (lw_at lw_m4 62 rfl) rfl
theorem q871 : (Jvm.Cond.instanceMethod ({ cls := "DoughDebts", name := "orders", desc := "(I)I" } : Jvm.MethodName)) ∈ lw_all := lw_g (lw_at lw_m4 64 rfl) rfl
theorem q872 : (Jvm.Cond.selects "DoughDebts" ({ cls := "DoughDebts", name := "orders", desc := "(I)I" } : Jvm.MethodName) ({ cls := "DoughDebts", name := "orders", desc := "(I)I" } : Jvm.MethodName)) ∈ lw_all := lw_g (lw_at lw_m4 65 rfl) rfl
theorem q873 : (Jvm.Cond.code ({ cls := "DoughDebts", name := "orders", desc := "(I)I" } : Jvm.MethodName) prog_1_method_56_code (2 : Nat) (Option.some Jvm.ClassFile.FieldType.int)) ∈ lw_all := lw_g (lw_at lw_m4 66 rfl) rfl
theorem q874 : (Jvm.Cond.methodLink "DoughDebts" (480 : Nat) ({ cls := "DoughDebts", name := "canTry", desc := "(I)Z" } : Jvm.MethodName)) ∈ lw_all := lw_g (lw_at lw_m4 67 rfl) rfl
theorem q875 : (Jvm.Cond.privateMethod ({ cls := "DoughDebts", name := "canTry", desc := "(I)Z" } : Jvm.MethodName)) ∈ lw_tbl := lw_at lw_m4 68 rfl
theorem q876 : (Jvm.Cond.instanceMethod ({ cls := "DoughDebts", name := "canTry", desc := "(I)Z" } : Jvm.MethodName)) ∈ lw_all := lw_g (lw_at lw_m4 69 rfl) rfl
theorem q877 : (Jvm.Cond.code ({ cls := "DoughDebts", name := "canTry", desc := "(I)Z" } : Jvm.MethodName) prog_1_method_55_code (2 : Nat) (Option.some Jvm.ClassFile.FieldType.boolean)) ∈ lw_all := lw_g (lw_at lw_m4 70 rfl) rfl
theorem q878 : (Jvm.Cond.methodLink "DoughDebts" (467 : Nat) ({ cls := "DoughDebts", name := "tries", desc := "(IIZ)V" } : Jvm.MethodName)) ∈ lw_all := lw_g (lw_at lw_m4 71 rfl) rfl
theorem q879 : (Jvm.Cond.privateMethod ({ cls := "DoughDebts", name := "tries", desc := "(IIZ)V" } : Jvm.MethodName)) ∈ lw_tbl := lw_at lw_m4 72 rfl
theorem q880 : (Jvm.Cond.instanceMethod ({ cls := "DoughDebts", name := "tries", desc := "(IIZ)V" } : Jvm.MethodName)) ∈ lw_all := lw_g (lw_at lw_m4 73 rfl) rfl
theorem q881 : (Jvm.Cond.code ({ cls := "DoughDebts", name := "tries", desc := "(IIZ)V" } : Jvm.MethodName) prog_1_method_54_code (5 : Nat) (Option.none : Option Jvm.ClassFile.FieldType)) ∈ lw_all := lw_g (lw_at lw_m4 74 rfl) rfl
theorem q882 : (Jvm.Cond.methodLink "DoughDebts" (462 : Nat) ({ cls := "java/lang/Integer", name := "numberOfTrailingZeros", desc := "(I)I" } : Jvm.MethodName)) ∈ lw_all := lw_g (lw_at lw_m4 75 rfl) rfl
theorem q886 : (Jvm.Cond.methodLink "DoughDebts" (474 : Nat) ({ cls := "DoughDebts", name := "firstChange", desc := "([I)I" } : Jvm.MethodName)) ∈ lw_all := lw_g (lw_at lw_m4 79 rfl) rfl
theorem q887 : (Jvm.Cond.privateMethod ({ cls := "DoughDebts", name := "firstChange", desc := "([I)I" } : Jvm.MethodName)) ∈ lw_tbl := lw_at lw_m4 80 rfl
theorem q888 : (Jvm.Cond.instanceMethod ({ cls := "DoughDebts", name := "firstChange", desc := "([I)I" } : Jvm.MethodName)) ∈ lw_all := lw_g (lw_at lw_m4 81 rfl) rfl
theorem q889 : (Jvm.Cond.code ({ cls := "DoughDebts", name := "firstChange", desc := "([I)I" } : Jvm.MethodName) prog_1_method_53_code (3 : Nat) (Option.some Jvm.ClassFile.FieldType.int)) ∈ lw_all := lw_g (lw_at lw_m4 82 rfl) rfl
theorem q890 : (Jvm.Cond.methodLink "DoughDebts" (458 : Nat) ({ cls := "DoughDebts", name := "wouldChange", desc := "([II)Z" } : Jvm.MethodName)) ∈ lw_all := lw_g (lw_at lw_m4 83 rfl) rfl
theorem q891 : (Jvm.Cond.privateMethod ({ cls := "DoughDebts", name := "wouldChange", desc := "([II)Z" } : Jvm.MethodName)) ∈ lw_tbl := lw_at lw_m4 84 rfl
theorem q892 : (Jvm.Cond.instanceMethod ({ cls := "DoughDebts", name := "wouldChange", desc := "([II)Z" } : Jvm.MethodName)) ∈ lw_all := lw_g (lw_at lw_m4 85 rfl) rfl
theorem q893 : (Jvm.Cond.code ({ cls := "DoughDebts", name := "wouldChange", desc := "([II)Z" } : Jvm.MethodName) prog_1_method_52_code (6 : Nat) (Option.some Jvm.ClassFile.FieldType.boolean)) ∈ lw_all := lw_g (lw_at lw_m4 86 rfl) rfl
theorem q894 : (Jvm.Cond.methodLink "DoughDebts" (454 : Nat) ({ cls := "DoughDebts", name := "turns", desc := "([II)V" } : Jvm.MethodName)) ∈ lw_all := lw_g (lw_at lw_m4 87 rfl) rfl
theorem q895 : (Jvm.Cond.static ({ cls := "DoughDebts", name := "turns", desc := "([II)V" } : Jvm.MethodName)) ∈ lw_all := lw_g (lw_at lw_m4 88 rfl) rfl
theorem q896 : (Jvm.Cond.code ({ cls := "DoughDebts", name := "turns", desc := "([II)V" } : Jvm.MethodName) prog_1_method_51_code (3 : Nat) (Option.none : Option Jvm.ClassFile.FieldType)) ∈ lw_all := lw_g (lw_at lw_m4 89 rfl) rfl
theorem q898 : (Jvm.Cond.instanceMethod ({ cls := "DoughDebts", name := "least", desc := "(I)I" } : Jvm.MethodName)) ∈ lw_all := lw_g (lw_at lw_m4 91 rfl) rfl
theorem q899 : (Jvm.Cond.selects "DoughDebts" ({ cls := "DoughDebts", name := "least", desc := "(I)I" } : Jvm.MethodName) ({ cls := "DoughDebts", name := "least", desc := "(I)I" } : Jvm.MethodName)) ∈ lw_all := lw_g (lw_at lw_m4 92 rfl) rfl
theorem q900 : (Jvm.Cond.code ({ cls := "DoughDebts", name := "least", desc := "(I)I" } : Jvm.MethodName) prog_1_method_57_code (2 : Nat) (Option.some Jvm.ClassFile.FieldType.int)) ∈ lw_all := lw_g (lw_at lw_m4 93 rfl) rfl
theorem q902 : (Jvm.Cond.instanceMethod ({ cls := "DoughDebts", name := "round", desc := "(I)I" } : Jvm.MethodName)) ∈ lw_all := lw_g (lw_at lw_m4 95 rfl) rfl
theorem q903 : (Jvm.Cond.selects "DoughDebts" ({ cls := "DoughDebts", name := "round", desc := "(I)I" } : Jvm.MethodName) ({ cls := "DoughDebts", name := "round", desc := "(I)I" } : Jvm.MethodName)) ∈ lw_all := lw_g (lw_at lw_m4 96 rfl) rfl
theorem q904 : (Jvm.Cond.code ({ cls := "DoughDebts", name := "round", desc := "(I)I" } : Jvm.MethodName) prog_1_method_58_code (5 : Nat) (Option.some Jvm.ClassFile.FieldType.int)) ∈ lw_all := lw_g (lw_at lw_m4 97 rfl) rfl
theorem q905 : (Jvm.Cond.methodLink "DoughDebts" (483 : Nat) ({ cls := "DoughDebts", name := "areAlike", desc := "([I[I)Z" } : Jvm.MethodName)) ∈ lw_all := lw_g (lw_at lw_m4 98 rfl) rfl
theorem q906 : (Jvm.Cond.privateMethod ({ cls := "DoughDebts", name := "areAlike", desc := "([I[I)Z" } : Jvm.MethodName)) ∈ lw_tbl := lw_at lw_m4 99 rfl
theorem q907 : (Jvm.Cond.instanceMethod ({ cls := "DoughDebts", name := "areAlike", desc := "([I[I)Z" } : Jvm.MethodName)) ∈ lw_all := lw_g (lw_at lw_m4 100 rfl) rfl
theorem q908 : (Jvm.Cond.code ({ cls := "DoughDebts", name := "areAlike", desc := "([I[I)Z" } : Jvm.MethodName) prog_1_method_59_code (4 : Nat) (Option.some Jvm.ClassFile.FieldType.boolean)) ∈ lw_all := lw_g (lw_at lw_m4 101 rfl) rfl
theorem q910 : (Jvm.Cond.instanceMethod ({ cls := "DoughDebts", name := "leaven", desc := "(II)I" } : Jvm.MethodName)) ∈ lw_all := lw_g (lw_at lw_m4 103 rfl) rfl
theorem q911 : (Jvm.Cond.selects "DoughDebts" ({ cls := "DoughDebts", name := "leaven", desc := "(II)I" } : Jvm.MethodName) ({ cls := "DoughDebts", name := "leaven", desc := "(II)I" } : Jvm.MethodName)) ∈ lw_all := lw_g (lw_at lw_m4 104 rfl) rfl
theorem q912 : (Jvm.Cond.code ({ cls := "DoughDebts", name := "leaven", desc := "(II)I" } : Jvm.MethodName) prog_1_method_61_code (5 : Nat) (Option.some Jvm.ClassFile.FieldType.int)) ∈ lw_all := lw_g (lw_at lw_m4 105 rfl) rfl
theorem q913 : (Jvm.Cond.methodLink "DoughDebts" (490 : Nat) ({ cls := "DoughDebts", name := "isLeaven", desc := "(I)Z" } : Jvm.MethodName)) ∈ lw_all := lw_g (lw_at lw_m4 106 rfl) rfl
theorem q914 : (Jvm.Cond.privateMethod ({ cls := "DoughDebts", name := "isLeaven", desc := "(I)Z" } : Jvm.MethodName)) ∈ lw_tbl := lw_at lw_m4 107 rfl
theorem q915 : (Jvm.Cond.instanceMethod ({ cls := "DoughDebts", name := "isLeaven", desc := "(I)Z" } : Jvm.MethodName)) ∈ lw_all := lw_g (lw_at lw_m4 108 rfl) rfl
theorem q916 : (Jvm.Cond.code ({ cls := "DoughDebts", name := "isLeaven", desc := "(I)Z" } : Jvm.MethodName) prog_1_method_60_code (2 : Nat) (Option.some Jvm.ClassFile.FieldType.boolean)) ∈ lw_all := lw_g (lw_at lw_m4 109 rfl) rfl
theorem q918 : (Jvm.Cond.methodLink "DoughDebts" (496 : Nat) ({ cls := "DoughDebts$Leaven", name := "<init>", desc := "(IIII)V" } : Jvm.MethodName)) ∈ lw_all := lw_g (lw_at lw_m4 111 rfl) rfl
theorem q923 : (Jvm.Cond.fieldLink "DoughDebts" (520 : Nat) "DoughDebts$Leaven" "house" "I") ∈ lw_all := lw_g (lw_at lw_m4 116 rfl) rfl
theorem q925 : (Jvm.Cond.fieldLink "DoughDebts" (501 : Nat) "DoughDebts$Leaven" "a" "I") ∈ lw_all := lw_g (lw_at lw_m4 118 rfl) rfl
theorem q927 : (Jvm.Cond.fieldLink "DoughDebts" (504 : Nat) "DoughDebts$Leaven" "b" "I") ∈ lw_all := lw_g (lw_at lw_m4 120 rfl) rfl
theorem q929 : (Jvm.Cond.fieldLink "DoughDebts" (493 : Nat) "DoughDebts$Leaven" "age" "I") ∈ lw_all := lw_g (lw_at lw_m4 122 rfl) rfl
theorem q940 : (Jvm.Cond.instanceMethod ({ cls := "DoughDebts", name := "part", desc := "(III)I" } : Jvm.MethodName)) ∈ lw_all := lw_g (lw_at lw_m4 133 rfl) rfl
theorem q941 : (Jvm.Cond.selects "DoughDebts" ({ cls := "DoughDebts", name := "part", desc := "(III)I" } : Jvm.MethodName) ({ cls := "DoughDebts", name := "part", desc := "(III)I" } : Jvm.MethodName)) ∈ lw_all := lw_g (lw_at lw_m4 134 rfl) rfl
theorem q942 : (Jvm.Cond.code ({ cls := "DoughDebts", name := "part", desc := "(III)I" } : Jvm.MethodName) prog_1_method_63_code (6 : Nat) (Option.some Jvm.ClassFile.FieldType.int)) ∈ lw_all := lw_g (lw_at lw_m4 135 rfl) rfl
theorem q943 : (Jvm.Cond.methodLink "DoughDebts" (509 : Nat) ({ cls := "DoughDebts", name := "findsParts", desc := "(I)V" } : Jvm.MethodName)) ∈ lw_all := lw_g (lw_at lw_m4 136 rfl) rfl
theorem q944 : (Jvm.Cond.privateMethod ({ cls := "DoughDebts", name := "findsParts", desc := "(I)V" } : Jvm.MethodName)) ∈ lw_tbl := lw_at lw_m4 137 rfl
theorem q945 : (Jvm.Cond.instanceMethod ({ cls := "DoughDebts", name := "findsParts", desc := "(I)V" } : Jvm.MethodName)) ∈ lw_all := lw_g (lw_at lw_m4 138 rfl) rfl
theorem q946 : (Jvm.Cond.code ({ cls := "DoughDebts", name := "findsParts", desc := "(I)V" } : Jvm.MethodName) prog_1_method_62_code (4 : Nat) (Option.none : Option Jvm.ClassFile.FieldType)) ∈ lw_all := lw_g (lw_at lw_m4 139 rfl) rfl
theorem q947 : (Jvm.Cond.constantLong "DoughDebts" (499 : Nat) (1073741824 : Int64)) ∈ lw_all := lw_g (lw_at lw_m4 140 rfl) rfl
theorem q948 : (Jvm.Cond.constantLong "DoughDebts" (507 : Nat) (2 : Int64)) ∈ lw_all := lw_g (lw_at lw_m4 141 rfl) rfl
theorem q949 : (Jvm.Cond.methodLink "DoughDebts" (512 : Nat) ({ cls := "DoughDebts", name := "common", desc := "(JJ)J" } : Jvm.MethodName)) ∈ lw_all := lw_g (lw_at lw_m4 142 rfl) rfl
theorem q950 : (Jvm.Cond.static ({ cls := "DoughDebts", name := "common", desc := "(JJ)J" } : Jvm.MethodName)) ∈ lw_all := lw_g (lw_at lw_m4 143 rfl) rfl
theorem q951 : (Jvm.Cond.code ({ cls := "DoughDebts", name := "common", desc := "(JJ)J" } : Jvm.MethodName) prog_1_method_2_code (10 : Nat) (Option.some Jvm.ClassFile.FieldType.long)) ∈ lw_all := lw_g (lw_at lw_m4 144 rfl) rfl
theorem q953 : (Jvm.Cond.instanceMethod ({ cls := "DoughDebts", name := "lent", desc := "(II)I" } : Jvm.MethodName)) ∈ lw_all := lw_g (lw_at lw_m4 146 rfl) rfl
theorem q954 : (Jvm.Cond.selects "DoughDebts" ({ cls := "DoughDebts", name := "lent", desc := "(II)I" } : Jvm.MethodName) ({ cls := "DoughDebts", name := "lent", desc := "(II)I" } : Jvm.MethodName)) ∈ lw_all := lw_g (lw_at lw_m4 147 rfl) rfl
theorem q955 : (Jvm.Cond.code ({ cls := "DoughDebts", name := "lent", desc := "(II)I" } : Jvm.MethodName) prog_1_method_65_code (4 : Nat) (Option.some Jvm.ClassFile.FieldType.int)) ∈ lw_all := lw_g (lw_at lw_m4 148 rfl) rfl
theorem q956 : (Jvm.Cond.methodLink "DoughDebts" (525 : Nat) ({ cls := "DoughDebts", name := "housesOf", desc := "(I)I" } : Jvm.MethodName)) ∈ lw_all := lw_g (lw_at lw_m4 149 rfl) rfl
theorem q957 : (Jvm.Cond.privateMethod ({ cls := "DoughDebts", name := "housesOf", desc := "(I)I" } : Jvm.MethodName)) ∈ lw_tbl := lw_at lw_m4 150 rfl
theorem q958 : (Jvm.Cond.instanceMethod ({ cls := "DoughDebts", name := "housesOf", desc := "(I)I" } : Jvm.MethodName)) ∈ lw_all := lw_g (lw_at lw_m4 151 rfl) rfl
theorem q959 : (Jvm.Cond.code ({ cls := "DoughDebts", name := "housesOf", desc := "(I)I" } : Jvm.MethodName) prog_1_method_64_code (4 : Nat) (Option.some Jvm.ClassFile.FieldType.int)) ∈ lw_all := lw_g (lw_at lw_m4 152 rfl) rfl
theorem q960 : (Jvm.Cond.methodLink "DoughDebts" (516 : Nat) ({ cls := "DoughDebts", name := "isLed", desc := "(II)Z" } : Jvm.MethodName)) ∈ lw_all := lw_g (lw_at lw_m4 153 rfl) rfl
theorem q961 : (Jvm.Cond.privateMethod ({ cls := "DoughDebts", name := "isLed", desc := "(II)Z" } : Jvm.MethodName)) ∈ lw_tbl := lw_at lw_m4 154 rfl
theorem q962 : (Jvm.Cond.instanceMethod ({ cls := "DoughDebts", name := "isLed", desc := "(II)Z" } : Jvm.MethodName)) ∈ lw_all := lw_g (lw_at lw_m4 155 rfl) rfl
theorem q963 : (Jvm.Cond.code ({ cls := "DoughDebts", name := "isLed", desc := "(II)Z" } : Jvm.MethodName) prog_1_method_66_code (6 : Nat) (Option.some Jvm.ClassFile.FieldType.boolean)) ∈ lw_all := lw_g (lw_at lw_m4 156 rfl) rfl
theorem q964 : (Jvm.Cond.methodLink "DoughDebts" (522 : Nat) ({ cls := "java/lang/Integer", name := "bitCount", desc := "(I)I" } : Jvm.MethodName)) ∈ lw_all := lw_g (lw_at lw_m4 157 rfl) rfl
theorem q971 : (Jvm.Cond.instanceMethod ({ cls := "DoughDebts", name := "led", desc := "(II)I" } : Jvm.MethodName)) ∈ lw_all := lw_g (lw_at lw_m4 164 rfl) rfl
theorem q972 : (Jvm.Cond.selects "DoughDebts" ({ cls := "DoughDebts", name := "led", desc := "(II)I" } : Jvm.MethodName) ({ cls := "DoughDebts", name := "led", desc := "(II)I" } : Jvm.MethodName)) ∈ lw_all := lw_g (lw_at lw_m4 165 rfl) rfl
theorem q973 : (Jvm.Cond.code ({ cls := "DoughDebts", name := "led", desc := "(II)I" } : Jvm.MethodName) prog_1_method_67_code (3 : Nat) (Option.some Jvm.ClassFile.FieldType.int)) ∈ lw_all := lw_g (lw_at lw_m4 166 rfl) rfl
theorem q975 : (Jvm.Cond.instanceMethod ({ cls := "DoughDebts", name := "rise", desc := "(III)Z" } : Jvm.MethodName)) ∈ lw_all := lw_g (lw_at lw_m4 168 rfl) rfl
theorem q976 : (Jvm.Cond.selects "DoughDebts" ({ cls := "DoughDebts", name := "rise", desc := "(III)Z" } : Jvm.MethodName) ({ cls := "DoughDebts", name := "rise", desc := "(III)Z" } : Jvm.MethodName)) ∈ lw_all := lw_g (lw_at lw_m4 169 rfl) rfl
theorem q977 : (Jvm.Cond.code ({ cls := "DoughDebts", name := "rise", desc := "(III)Z" } : Jvm.MethodName) prog_1_method_68_code (4 : Nat) (Option.some Jvm.ClassFile.FieldType.boolean)) ∈ lw_all := lw_g (lw_at lw_m4 170 rfl) rfl
theorem q979 : (Jvm.Cond.instanceMethod ({ cls := "DoughDebts", name := "odds", desc := "(II)J" } : Jvm.MethodName)) ∈ lw_all := lw_g (lw_at lw_m4 172 rfl) rfl
theorem q980 : (Jvm.Cond.selects "DoughDebts" ({ cls := "DoughDebts", name := "odds", desc := "(II)J" } : Jvm.MethodName) ({ cls := "DoughDebts", name := "odds", desc := "(II)J" } : Jvm.MethodName)) ∈ lw_all := lw_g (lw_at lw_m4 173 rfl) rfl
theorem q981 : (Jvm.Cond.code ({ cls := "DoughDebts", name := "odds", desc := "(II)J" } : Jvm.MethodName) prog_1_method_71_code (4 : Nat) (Option.some Jvm.ClassFile.FieldType.long)) ∈ lw_all := lw_g (lw_at lw_m4 174 rfl) rfl
theorem q982 : (Jvm.Cond.methodLink "DoughDebts" (535 : Nat) ({ cls := "DoughDebts", name := "takesSeen", desc := "()[B" } : Jvm.MethodName)) ∈ lw_all := lw_g (lw_at lw_m4 175 rfl) rfl
theorem q983 : (Jvm.Cond.privateMethod ({ cls := "DoughDebts", name := "takesSeen", desc := "()[B" } : Jvm.MethodName)) ∈ lw_tbl := lw_at lw_m4 176 rfl
theorem q984 : (Jvm.Cond.instanceMethod ({ cls := "DoughDebts", name := "takesSeen", desc := "()[B" } : Jvm.MethodName)) ∈ lw_all := lw_g (lw_at lw_m4 177 rfl) rfl
theorem q985 : (Jvm.Cond.code ({ cls := "DoughDebts", name := "takesSeen", desc := "()[B" } : Jvm.MethodName) prog_1_method_70_code (1 : Nat) (Option.some (Jvm.ClassFile.FieldType.array Jvm.ClassFile.FieldType.byte))) ∈ lw_all := lw_g (lw_at lw_m4 178 rfl) rfl
theorem q986 : (Jvm.Cond.constantLong "DoughDebts" (539 : Nat) (-1 : Int64)) ∈ lw_all := lw_g (lw_at lw_m4 179 rfl) rfl
theorem q987 : (Jvm.Cond.methodLink "DoughDebts" (541 : Nat) ({ cls := "DoughDebts", name := "findsOdds", desc := "(I[B)V" } : Jvm.MethodName)) ∈ lw_all := lw_g (lw_at lw_m4 180 rfl) rfl
theorem q988 : (Jvm.Cond.privateMethod ({ cls := "DoughDebts", name := "findsOdds", desc := "(I[B)V" } : Jvm.MethodName)) ∈ lw_tbl := lw_at lw_m4 181 rfl
theorem q989 : (Jvm.Cond.instanceMethod ({ cls := "DoughDebts", name := "findsOdds", desc := "(I[B)V" } : Jvm.MethodName)) ∈ lw_all := lw_g (lw_at lw_m4 182 rfl) rfl
theorem q990 : (Jvm.Cond.code ({ cls := "DoughDebts", name := "findsOdds", desc := "(I[B)V" } : Jvm.MethodName) prog_1_method_69_code (11 : Nat) (Option.none : Option Jvm.ClassFile.FieldType)) ∈ lw_all := lw_g (lw_at lw_m4 183 rfl) rfl
theorem q992 : (Jvm.Cond.instanceMethod ({ cls := "DoughDebts", name := "whose", desc := "(I)I" } : Jvm.MethodName)) ∈ lw_all := lw_g (lw_at lw_m4 185 rfl) rfl
theorem q993 : (Jvm.Cond.selects "DoughDebts" ({ cls := "DoughDebts", name := "whose", desc := "(I)I" } : Jvm.MethodName) ({ cls := "DoughDebts", name := "whose", desc := "(I)I" } : Jvm.MethodName)) ∈ lw_all := lw_g (lw_at lw_m4 186 rfl) rfl
theorem q994 : (Jvm.Cond.code ({ cls := "DoughDebts", name := "whose", desc := "(I)I" } : Jvm.MethodName) prog_1_method_72_code (12 : Nat) (Option.some Jvm.ClassFile.FieldType.int)) ∈ lw_all := lw_g (lw_at lw_m4 187 rfl) rfl
theorem q996 : (Jvm.Cond.instanceMethod ({ cls := "DoughDebts", name := "owe", desc := "(III)Z" } : Jvm.MethodName)) ∈ lw_all := lw_g (lw_at lw_m4 189 rfl) rfl
theorem q997 : (Jvm.Cond.selects "DoughDebts" ({ cls := "DoughDebts", name := "owe", desc := "(III)Z" } : Jvm.MethodName) ({ cls := "DoughDebts", name := "owe", desc := "(III)Z" } : Jvm.MethodName)) ∈ lw_all := lw_g (lw_at lw_m4 190 rfl) rfl
theorem q998 : (Jvm.Cond.code ({ cls := "DoughDebts", name := "owe", desc := "(III)Z" } : Jvm.MethodName) prog_1_method_73_code (4 : Nat) (Option.some Jvm.ClassFile.FieldType.boolean)) ∈ lw_all := lw_g (lw_at lw_m4 191 rfl) rfl
theorem q999 : (Jvm.Cond.constant "DoughDebts" (545 : Nat) (-99999 : Int32)) ∈ lw_all := lw_g (lw_at lw_m4 192 rfl) rfl
theorem q1001 : (Jvm.Cond.instanceMethod ({ cls := "DoughDebts", name := "payments", desc := "()I" } : Jvm.MethodName)) ∈ lw_all := lw_g (lw_at lw_m4 194 rfl) rfl
theorem q1002 : (Jvm.Cond.selects "DoughDebts" ({ cls := "DoughDebts", name := "payments", desc := "()I" } : Jvm.MethodName) ({ cls := "DoughDebts", name := "payments", desc := "()I" } : Jvm.MethodName)) ∈ lw_all := lw_g (lw_at lw_m4 195 rfl) rfl
theorem q1003 : (Jvm.Cond.code ({ cls := "DoughDebts", name := "payments", desc := "()I" } : Jvm.MethodName) prog_1_method_76_code (4 : Nat) (Option.some Jvm.ClassFile.FieldType.int)) ∈ lw_all := lw_g (lw_at lw_m4 196 rfl) rfl
theorem q1004 : (Jvm.Cond.methodLink "DoughDebts" (546 : Nat) ({ cls := "DoughDebts", name := "mostGroups", desc := "(I)I" } : Jvm.MethodName)) ∈ lw_all := lw_g (lw_at lw_m4 197 rfl) rfl
theorem q1005 : (Jvm.Cond.privateMethod ({ cls := "DoughDebts", name := "mostGroups", desc := "(I)I" } : Jvm.MethodName)) ∈ lw_tbl := lw_at lw_m4 198 rfl
theorem q1006 : (Jvm.Cond.instanceMethod ({ cls := "DoughDebts", name := "mostGroups", desc := "(I)I" } : Jvm.MethodName)) ∈ lw_all := lw_g (lw_at lw_m4 199 rfl) rfl
theorem q1007 : (Jvm.Cond.code ({ cls := "DoughDebts", name := "mostGroups", desc := "(I)I" } : Jvm.MethodName) prog_1_method_75_code (5 : Nat) (Option.some Jvm.ClassFile.FieldType.int)) ∈ lw_all := lw_g (lw_at lw_m4 200 rfl) rfl
theorem q1009 : (Jvm.Cond.instanceMethod ({ cls := "DoughDebts", name := "image", desc := "(Z)Z" } : Jvm.MethodName)) ∈ lw_all := lw_g (lw_at lw_m4 202 rfl) rfl
theorem q1010 : (Jvm.Cond.selects "DoughDebts" ({ cls := "DoughDebts", name := "image", desc := "(Z)Z" } : Jvm.MethodName) ({ cls := "DoughDebts", name := "image", desc := "(Z)Z" } : Jvm.MethodName)) ∈ lw_all := lw_g (lw_at lw_m4 203 rfl) rfl
theorem q1011 : (Jvm.Cond.code ({ cls := "DoughDebts", name := "image", desc := "(Z)Z" } : Jvm.MethodName) prog_1_method_78_code (2 : Nat) (Option.some Jvm.ClassFile.FieldType.boolean)) ∈ lw_all := lw_g (lw_at lw_m4 204 rfl) rfl
theorem q1012 : (Jvm.Cond.methodLink "DoughDebts" (552 : Nat) ({ cls := "DoughDebts", name := "copiesAll", desc := "([[I[[I)V" } : Jvm.MethodName)) ∈ lw_all := lw_g (lw_at lw_m4 205 rfl) rfl
theorem q1013 : (Jvm.Cond.static ({ cls := "DoughDebts", name := "copiesAll", desc := "([[I[[I)V" } : Jvm.MethodName)) ∈ lw_all := lw_g (lw_at lw_m4 206 rfl) rfl
theorem q1014 : (Jvm.Cond.code ({ cls := "DoughDebts", name := "copiesAll", desc := "([[I[[I)V" } : Jvm.MethodName) prog_1_method_77_code (3 : Nat) (Option.none : Option Jvm.ClassFile.FieldType)) ∈ lw_all := lw_g (lw_at lw_m4 207 rfl) rfl
theorem q1016 : (Jvm.Cond.instanceMethod ({ cls := "DoughDebts", name := "look", desc := "(I)I" } : Jvm.MethodName)) ∈ lw_all := lw_g (lw_at lw_m4 209 rfl) rfl
theorem q1017 : (Jvm.Cond.selects "DoughDebts" ({ cls := "DoughDebts", name := "look", desc := "(I)I" } : Jvm.MethodName) ({ cls := "DoughDebts", name := "look", desc := "(I)I" } : Jvm.MethodName)) ∈ lw_all := lw_g (lw_at lw_m4 210 rfl) rfl
theorem q1018 : (Jvm.Cond.code ({ cls := "DoughDebts", name := "look", desc := "(I)I" } : Jvm.MethodName) prog_1_method_79_code (2 : Nat) (Option.some Jvm.ClassFile.FieldType.int)) ∈ lw_all := lw_g (lw_at lw_m4 211 rfl) rfl
theorem in_X0 : ∀ w ∈ wsX00, w ∈ lw_all := lw_in wsX00 [271, 273, 275, 277, 279, 281, 283, 285, 287, 289, 291, 293, 295, 297, 299, 301, 303, 305, 307, 309, 311, 313, 315, 317, 319, 321, 323, 325, 327, 329, 331, 333, 335, 337, 339, 341, 343, 345, 347, 349, 351, 353, 355, 357, 359, 361, 363, 365] (by decide +kernel) (by decide +kernel)
