/-! DoughDebtsModel -/
set_option maxRecDepth 100000
def RX3 : String := "DoughDebtsModel"
def TX3 : u_T := fun k => match k with
  | 0 => ("DoughDebtsModel", "w", "[I", true)
  | 1 => ("DoughDebtsModel", "kept", "[I", true)
  | 2 => ("DoughDebtsModel", "back", "[I", true)
  | 3 => ("DoughDebtsModel", "backMany", "I", false)
  | 4 => ("DoughDebtsModel", "hasImage", "Z", false)
  | 5 => ("DoughDebtsModel", "freshLine", "[I", true)
  | 6 => ("DoughDebtsModel", "freshStep", "[I", true)
  | 7 => ("DoughDebtsModel", "tape", "[I", true)
  | 8 => ("DoughDebtsModel", "pile", "[I", true)
  | 9 => ("DoughDebtsModel", "facts", "[I", true)
  | 10 => ("DoughDebtsModel", "lines", "I", false)
  | 11 => ("DoughDebtsModel", "steps", "I", false)
  | 12 => ("DoughDebtsModel", "taped", "I", false)
  | 13 => ("DoughDebtsModel", "at", "I", false)
  | 14 => ("DoughDebtsModel", "token", "I", false)
  | 15 => ("DoughDebtsModel", "tokenAt", "I", false)
  | 16 => ("DoughDebtsModel", "value", "I", false)
  | 17 => ("DoughDebtsModel", "wrong", "I", false)
  | 18 => ("DoughDebtsModel", "wrongAt", "I", false)
  | 19 => ("DoughDebtsModel", "faultKind", "I", false)
  | 20 => ("DoughDebtsModel", "depth", "I", false)
  | 21 => ("DoughDebtsModel", "faultPlace", "I", false)
  | 22 => ("DoughDebtsModel", "line", "[I", true)
  | 23 => ("DoughDebtsModel", "worths", "[I", true)
  | 24 => ("DoughDebtsModel", "heat", "I", false)
  | 25 => ("DoughDebtsModel", "tried", "[I", true)
  | 26 => ("DoughDebtsModel", "woods", "[I", true)
  | 27 => ("DoughDebtsModel", "firstRest", "[I", true)
  | 28 => ("DoughDebtsModel", "leastRow", "[I", true)
  | 29 => ("DoughDebtsModel", "rests", "I", false)
  | 30 => ("DoughDebtsModel", "leastWood", "I", false)
  | 31 => ("DoughDebtsModel", "rows", "[I", true)
  | 32 => ("DoughDebtsModel", "partOf", "[J", true)
  | 33 => ("DoughDebtsModel", "above", "J", false)
  | 34 => ("DoughDebtsModel", "below", "J", false)
  | _ => ("DoughDebtsModel", "heaps", "[I", true)
def tyX3 : Nat → FieldType := fun k => match k with
  | 0 => .array .int
  | 1 => .array .int
  | 2 => .array .int
  | 3 => .int
  | 4 => .boolean
  | 5 => .array .int
  | 6 => .array .int
  | 7 => .array .int
  | 8 => .array .int
  | 9 => .array .int
  | 10 => .int
  | 11 => .int
  | 12 => .int
  | 13 => .int
  | 14 => .int
  | 15 => .int
  | 16 => .int
  | 17 => .int
  | 18 => .int
  | 19 => .int
  | 20 => .int
  | 21 => .int
  | 22 => .array .int
  | 23 => .array .int
  | 24 => .int
  | 25 => .array .int
  | 26 => .array .int
  | 27 => .array .int
  | 28 => .array .int
  | 29 => .int
  | 30 => .int
  | 31 => .array .int
  | 32 => .array .long
  | 33 => .long
  | 34 => .long
  | _ => .array .int
abbrev wsX30 : List Cond := u_ws RX3 TX3 36
set_option maxRecDepth 100000 in
theorem nmX3 : ∀ a, a < 36 → ∀ b, b < 36 → a ≠ b → (TX3 a).2.1 ≠ (TX3 b).2.1 := by decide +kernel
set_option maxRecDepth 100000 in
theorem tyX3_ok : ∀ k, k < 36 → parseFieldDescriptor (TX3 k).2.2.1 = some (tyX3 k) := by decide +kernel
abbrev cX3_init : ByteArray := prog_14_method_1_code
def yX3_init : MethodName := ⟨RX3, "<init>", "()V"⟩
def dkwX3_init_9 : List UInt8 := [167, 255, 232, 177]
abbrev dktX3_init_9 : List UInt8 := dkwX3_init_9 ++ []
def dkwX3_init_8 : List UInt8 := [16, 8, 162, 0, 24, 42, 180, 0, 7, 17, 1, 14, 16, 9, 27, 104, 96, 16, 9, 79, 132, 1, 1]
abbrev dktX3_init_8 : List UInt8 := dkwX3_init_8 ++ dktX3_init_9
def dkwX3_init_7 : List UInt8 := [180, 0, 7, 4, 4, 79, 42, 180, 0, 7, 5, 4, 79, 42, 180, 0, 7, 16, 9, 2, 79, 3, 60, 27]
abbrev dktX3_init_7 : List UInt8 := dkwX3_init_7 ++ dktX3_init_8
def dkwX3_init_6 : List UInt8 := [188, 11, 181, 0, 59, 42, 17, 2, 0, 188, 10, 181, 0, 63, 42, 180, 0, 7, 3, 16, 10, 79, 42]
abbrev dktX3_init_6 : List UInt8 := dkwX3_init_6 ++ dktX3_init_7
def dkwX3_init_5 : List UInt8 := [181, 0, 50, 42, 16, 9, 188, 10, 181, 0, 53, 42, 17, 7, 17, 188, 10, 181, 0, 56, 42, 16, 60]
abbrev dktX3_init_5 : List UInt8 := dkwX3_init_5 ++ dktX3_init_6
def dkwX3_init_4 : List UInt8 := [181, 0, 41, 42, 16, 9, 188, 10, 181, 0, 44, 42, 16, 9, 188, 10, 181, 0, 47, 42, 16, 9, 188, 10]
abbrev dktX3_init_4 : List UInt8 := dkwX3_init_4 ++ dktX3_init_5
def dkwX3_init_3 : List UInt8 := [188, 10, 181, 0, 31, 42, 2, 181, 0, 34, 42, 16, 9, 188, 10, 181, 0, 38, 42, 16, 9, 188, 10]
abbrev dktX3_init_3 : List UInt8 := dkwX3_init_3 ++ dktX3_init_4
def dkwX3_init_2 : List UInt8 := [181, 0, 22, 42, 17, 1, 144, 188, 10, 181, 0, 25, 42, 17, 1, 164, 188, 10, 181, 0, 28, 42, 16, 11]
abbrev dktX3_init_2 : List UInt8 := dkwX3_init_2 ++ dktX3_init_3
def dkwX3_init_1 : List UInt8 := [17, 5, 160, 188, 10, 181, 0, 16, 42, 16, 48, 188, 10, 181, 0, 19, 42, 17, 3, 52, 188, 10]
abbrev dktX3_init_1 : List UInt8 := dkwX3_init_1 ++ dktX3_init_2
def dkwX3_init_0 : List UInt8 := [42, 183, 0, 1, 42, 17, 5, 200, 188, 10, 181, 0, 7, 42, 17, 5, 200, 188, 10, 181, 0, 13, 42]
abbrev dktX3_init_0 : List UInt8 := dkwX3_init_0 ++ dktX3_init_1
theorem dksX3_init_0 : cX3_init.data.toList.drop 0 = dktX3_init_0 := by decide +kernel
theorem dksX3_init_1 : cX3_init.data.toList.drop 23 = dktX3_init_1 := dk_seg dksX3_init_0 23 rfl rfl
theorem dksX3_init_2 : cX3_init.data.toList.drop 45 = dktX3_init_2 := dk_seg dksX3_init_1 22 rfl rfl
theorem dksX3_init_3 : cX3_init.data.toList.drop 69 = dktX3_init_3 := dk_seg dksX3_init_2 24 rfl rfl
theorem dksX3_init_4 : cX3_init.data.toList.drop 92 = dktX3_init_4 := dk_seg dksX3_init_3 23 rfl rfl
theorem dksX3_init_5 : cX3_init.data.toList.drop 116 = dktX3_init_5 := dk_seg dksX3_init_4 24 rfl rfl
theorem dksX3_init_6 : cX3_init.data.toList.drop 139 = dktX3_init_6 := dk_seg dksX3_init_5 23 rfl rfl
theorem dksX3_init_7 : cX3_init.data.toList.drop 162 = dktX3_init_7 := dk_seg dksX3_init_6 23 rfl rfl
theorem dksX3_init_8 : cX3_init.data.toList.drop 186 = dktX3_init_8 := dk_seg dksX3_init_7 24 rfl rfl
theorem dksX3_init_9 : cX3_init.data.toList.drop 209 = dktX3_init_9 := dk_seg dksX3_init_8 23 rfl rfl
theorem dX3_init_0 : decode cX3_init 0 = .ok (.aload_n 0, 1) := dk_42 (dk_at dksX3_init_0 0 rfl rfl)
theorem dX3_init_1 : decode cX3_init 1 = .ok (.invokespecial 1, 3) := dk_183 0 1 (dk_at dksX3_init_0 1 rfl rfl)
theorem dX3_init_4 : decode cX3_init 4 = .ok (.aload_n 0, 1) := dk_42 (dk_at dksX3_init_0 4 rfl rfl)
theorem dX3_init_5 : decode cX3_init 5 = .ok (.sipush 1480, 3) := dk_17 5 200 (dk_at dksX3_init_0 5 rfl rfl)
theorem dX3_init_8 : decode cX3_init 8 = .ok (.newarray .int, 2) := dk_188_10 (dk_at dksX3_init_0 8 rfl rfl)
theorem dX3_init_10 : decode cX3_init 10 = .ok (.putfield 7, 3) := dk_181 0 7 (dk_at dksX3_init_0 10 rfl rfl)
theorem dX3_init_13 : decode cX3_init 13 = .ok (.aload_n 0, 1) := dk_42 (dk_at dksX3_init_0 13 rfl rfl)
theorem dX3_init_14 : decode cX3_init 14 = .ok (.sipush 1480, 3) := dk_17 5 200 (dk_at dksX3_init_0 14 rfl rfl)
theorem dX3_init_17 : decode cX3_init 17 = .ok (.newarray .int, 2) := dk_188_10 (dk_at dksX3_init_0 17 rfl rfl)
theorem dX3_init_19 : decode cX3_init 19 = .ok (.putfield 13, 3) := dk_181 0 13 (dk_at dksX3_init_0 19 rfl rfl)
theorem dX3_init_22 : decode cX3_init 22 = .ok (.aload_n 0, 1) := dk_42 (dk_at dksX3_init_0 22 rfl rfl)
theorem dX3_init_23 : decode cX3_init 23 = .ok (.sipush 1440, 3) := dk_17 5 160 (dk_at dksX3_init_1 0 rfl rfl)
theorem dX3_init_26 : decode cX3_init 26 = .ok (.newarray .int, 2) := dk_188_10 (dk_at dksX3_init_1 3 rfl rfl)
theorem dX3_init_28 : decode cX3_init 28 = .ok (.putfield 16, 3) := dk_181 0 16 (dk_at dksX3_init_1 5 rfl rfl)
theorem dX3_init_31 : decode cX3_init 31 = .ok (.aload_n 0, 1) := dk_42 (dk_at dksX3_init_1 8 rfl rfl)
theorem dX3_init_32 : decode cX3_init 32 = .ok (.bipush 48, 2) := dk_16 48 (dk_at dksX3_init_1 9 rfl rfl)
theorem dX3_init_34 : decode cX3_init 34 = .ok (.newarray .int, 2) := dk_188_10 (dk_at dksX3_init_1 11 rfl rfl)
theorem dX3_init_36 : decode cX3_init 36 = .ok (.putfield 19, 3) := dk_181 0 19 (dk_at dksX3_init_1 13 rfl rfl)
theorem dX3_init_39 : decode cX3_init 39 = .ok (.aload_n 0, 1) := dk_42 (dk_at dksX3_init_1 16 rfl rfl)
theorem dX3_init_40 : decode cX3_init 40 = .ok (.sipush 820, 3) := dk_17 3 52 (dk_at dksX3_init_1 17 rfl rfl)
theorem dX3_init_43 : decode cX3_init 43 = .ok (.newarray .int, 2) := dk_188_10 (dk_at dksX3_init_1 20 rfl rfl)
theorem dX3_init_45 : decode cX3_init 45 = .ok (.putfield 22, 3) := dk_181 0 22 (dk_at dksX3_init_2 0 rfl rfl)
theorem dX3_init_48 : decode cX3_init 48 = .ok (.aload_n 0, 1) := dk_42 (dk_at dksX3_init_2 3 rfl rfl)
theorem dX3_init_49 : decode cX3_init 49 = .ok (.sipush 400, 3) := dk_17 1 144 (dk_at dksX3_init_2 4 rfl rfl)
theorem dX3_init_52 : decode cX3_init 52 = .ok (.newarray .int, 2) := dk_188_10 (dk_at dksX3_init_2 7 rfl rfl)
theorem dX3_init_54 : decode cX3_init 54 = .ok (.putfield 25, 3) := dk_181 0 25 (dk_at dksX3_init_2 9 rfl rfl)
theorem dX3_init_57 : decode cX3_init 57 = .ok (.aload_n 0, 1) := dk_42 (dk_at dksX3_init_2 12 rfl rfl)
theorem dX3_init_58 : decode cX3_init 58 = .ok (.sipush 420, 3) := dk_17 1 164 (dk_at dksX3_init_2 13 rfl rfl)
theorem dX3_init_61 : decode cX3_init 61 = .ok (.newarray .int, 2) := dk_188_10 (dk_at dksX3_init_2 16 rfl rfl)
theorem dX3_init_63 : decode cX3_init 63 = .ok (.putfield 28, 3) := dk_181 0 28 (dk_at dksX3_init_2 18 rfl rfl)
theorem dX3_init_66 : decode cX3_init 66 = .ok (.aload_n 0, 1) := dk_42 (dk_at dksX3_init_2 21 rfl rfl)
theorem dX3_init_67 : decode cX3_init 67 = .ok (.bipush 11, 2) := dk_16 11 (dk_at dksX3_init_2 22 rfl rfl)
theorem dX3_init_69 : decode cX3_init 69 = .ok (.newarray .int, 2) := dk_188_10 (dk_at dksX3_init_3 0 rfl rfl)
theorem dX3_init_71 : decode cX3_init 71 = .ok (.putfield 31, 3) := dk_181 0 31 (dk_at dksX3_init_3 2 rfl rfl)
theorem dX3_init_74 : decode cX3_init 74 = .ok (.aload_n 0, 1) := dk_42 (dk_at dksX3_init_3 5 rfl rfl)
theorem dX3_init_75 : decode cX3_init 75 = .ok (.iconst (-1), 1) := dk_2 (dk_at dksX3_init_3 6 rfl rfl)
theorem dX3_init_76 : decode cX3_init 76 = .ok (.putfield 34, 3) := dk_181 0 34 (dk_at dksX3_init_3 7 rfl rfl)
theorem dX3_init_79 : decode cX3_init 79 = .ok (.aload_n 0, 1) := dk_42 (dk_at dksX3_init_3 10 rfl rfl)
theorem dX3_init_80 : decode cX3_init 80 = .ok (.bipush 9, 2) := dk_16 9 (dk_at dksX3_init_3 11 rfl rfl)
theorem dX3_init_82 : decode cX3_init 82 = .ok (.newarray .int, 2) := dk_188_10 (dk_at dksX3_init_3 13 rfl rfl)
theorem dX3_init_84 : decode cX3_init 84 = .ok (.putfield 38, 3) := dk_181 0 38 (dk_at dksX3_init_3 15 rfl rfl)
theorem dX3_init_87 : decode cX3_init 87 = .ok (.aload_n 0, 1) := dk_42 (dk_at dksX3_init_3 18 rfl rfl)
theorem dX3_init_88 : decode cX3_init 88 = .ok (.bipush 9, 2) := dk_16 9 (dk_at dksX3_init_3 19 rfl rfl)
theorem dX3_init_90 : decode cX3_init 90 = .ok (.newarray .int, 2) := dk_188_10 (dk_at dksX3_init_3 21 rfl rfl)
theorem dX3_init_92 : decode cX3_init 92 = .ok (.putfield 41, 3) := dk_181 0 41 (dk_at dksX3_init_4 0 rfl rfl)
theorem dX3_init_95 : decode cX3_init 95 = .ok (.aload_n 0, 1) := dk_42 (dk_at dksX3_init_4 3 rfl rfl)
theorem dX3_init_96 : decode cX3_init 96 = .ok (.bipush 9, 2) := dk_16 9 (dk_at dksX3_init_4 4 rfl rfl)
theorem dX3_init_98 : decode cX3_init 98 = .ok (.newarray .int, 2) := dk_188_10 (dk_at dksX3_init_4 6 rfl rfl)
theorem dX3_init_100 : decode cX3_init 100 = .ok (.putfield 44, 3) := dk_181 0 44 (dk_at dksX3_init_4 8 rfl rfl)
theorem dX3_init_103 : decode cX3_init 103 = .ok (.aload_n 0, 1) := dk_42 (dk_at dksX3_init_4 11 rfl rfl)
theorem dX3_init_104 : decode cX3_init 104 = .ok (.bipush 9, 2) := dk_16 9 (dk_at dksX3_init_4 12 rfl rfl)
theorem dX3_init_106 : decode cX3_init 106 = .ok (.newarray .int, 2) := dk_188_10 (dk_at dksX3_init_4 14 rfl rfl)
theorem dX3_init_108 : decode cX3_init 108 = .ok (.putfield 47, 3) := dk_181 0 47 (dk_at dksX3_init_4 16 rfl rfl)
theorem dX3_init_111 : decode cX3_init 111 = .ok (.aload_n 0, 1) := dk_42 (dk_at dksX3_init_4 19 rfl rfl)
theorem dX3_init_112 : decode cX3_init 112 = .ok (.bipush 9, 2) := dk_16 9 (dk_at dksX3_init_4 20 rfl rfl)
theorem dX3_init_114 : decode cX3_init 114 = .ok (.newarray .int, 2) := dk_188_10 (dk_at dksX3_init_4 22 rfl rfl)
theorem dX3_init_116 : decode cX3_init 116 = .ok (.putfield 50, 3) := dk_181 0 50 (dk_at dksX3_init_5 0 rfl rfl)
theorem dX3_init_119 : decode cX3_init 119 = .ok (.aload_n 0, 1) := dk_42 (dk_at dksX3_init_5 3 rfl rfl)
theorem dX3_init_120 : decode cX3_init 120 = .ok (.bipush 9, 2) := dk_16 9 (dk_at dksX3_init_5 4 rfl rfl)
theorem dX3_init_122 : decode cX3_init 122 = .ok (.newarray .int, 2) := dk_188_10 (dk_at dksX3_init_5 6 rfl rfl)
theorem dX3_init_124 : decode cX3_init 124 = .ok (.putfield 53, 3) := dk_181 0 53 (dk_at dksX3_init_5 8 rfl rfl)
theorem dX3_init_127 : decode cX3_init 127 = .ok (.aload_n 0, 1) := dk_42 (dk_at dksX3_init_5 11 rfl rfl)
theorem dX3_init_128 : decode cX3_init 128 = .ok (.sipush 1809, 3) := dk_17 7 17 (dk_at dksX3_init_5 12 rfl rfl)
theorem dX3_init_131 : decode cX3_init 131 = .ok (.newarray .int, 2) := dk_188_10 (dk_at dksX3_init_5 15 rfl rfl)
theorem dX3_init_133 : decode cX3_init 133 = .ok (.putfield 56, 3) := dk_181 0 56 (dk_at dksX3_init_5 17 rfl rfl)
theorem dX3_init_136 : decode cX3_init 136 = .ok (.aload_n 0, 1) := dk_42 (dk_at dksX3_init_5 20 rfl rfl)
theorem dX3_init_137 : decode cX3_init 137 = .ok (.bipush 60, 2) := dk_16 60 (dk_at dksX3_init_5 21 rfl rfl)
theorem dX3_init_139 : decode cX3_init 139 = .ok (.newarray .long, 2) := dk_188_11 (dk_at dksX3_init_6 0 rfl rfl)
theorem dX3_init_141 : decode cX3_init 141 = .ok (.putfield 59, 3) := dk_181 0 59 (dk_at dksX3_init_6 2 rfl rfl)
theorem dX3_init_144 : decode cX3_init 144 = .ok (.aload_n 0, 1) := dk_42 (dk_at dksX3_init_6 5 rfl rfl)
theorem dX3_init_145 : decode cX3_init 145 = .ok (.sipush 512, 3) := dk_17 2 0 (dk_at dksX3_init_6 6 rfl rfl)
theorem dX3_init_148 : decode cX3_init 148 = .ok (.newarray .int, 2) := dk_188_10 (dk_at dksX3_init_6 9 rfl rfl)
theorem dX3_init_150 : decode cX3_init 150 = .ok (.putfield 63, 3) := dk_181 0 63 (dk_at dksX3_init_6 11 rfl rfl)
theorem dX3_init_153 : decode cX3_init 153 = .ok (.aload_n 0, 1) := dk_42 (dk_at dksX3_init_6 14 rfl rfl)
theorem dX3_init_154 : decode cX3_init 154 = .ok (.getfield 7, 3) := dk_180 0 7 (dk_at dksX3_init_6 15 rfl rfl)
theorem dX3_init_157 : decode cX3_init 157 = .ok (.iconst 0, 1) := dk_3 (dk_at dksX3_init_6 18 rfl rfl)
theorem dX3_init_158 : decode cX3_init 158 = .ok (.bipush 10, 2) := dk_16 10 (dk_at dksX3_init_6 19 rfl rfl)
theorem dX3_init_160 : decode cX3_init 160 = .ok (.iastore, 1) := dk_79 (dk_at dksX3_init_6 21 rfl rfl)
theorem dX3_init_161 : decode cX3_init 161 = .ok (.aload_n 0, 1) := dk_42 (dk_at dksX3_init_6 22 rfl rfl)
theorem dX3_init_162 : decode cX3_init 162 = .ok (.getfield 7, 3) := dk_180 0 7 (dk_at dksX3_init_7 0 rfl rfl)
theorem dX3_init_165 : decode cX3_init 165 = .ok (.iconst 1, 1) := dk_4 (dk_at dksX3_init_7 3 rfl rfl)
theorem dX3_init_166 : decode cX3_init 166 = .ok (.iconst 1, 1) := dk_4 (dk_at dksX3_init_7 4 rfl rfl)
theorem dX3_init_167 : decode cX3_init 167 = .ok (.iastore, 1) := dk_79 (dk_at dksX3_init_7 5 rfl rfl)
theorem dX3_init_168 : decode cX3_init 168 = .ok (.aload_n 0, 1) := dk_42 (dk_at dksX3_init_7 6 rfl rfl)
theorem dX3_init_169 : decode cX3_init 169 = .ok (.getfield 7, 3) := dk_180 0 7 (dk_at dksX3_init_7 7 rfl rfl)
theorem dX3_init_172 : decode cX3_init 172 = .ok (.iconst 2, 1) := dk_5 (dk_at dksX3_init_7 10 rfl rfl)
theorem dX3_init_173 : decode cX3_init 173 = .ok (.iconst 1, 1) := dk_4 (dk_at dksX3_init_7 11 rfl rfl)
theorem dX3_init_174 : decode cX3_init 174 = .ok (.iastore, 1) := dk_79 (dk_at dksX3_init_7 12 rfl rfl)
theorem dX3_init_175 : decode cX3_init 175 = .ok (.aload_n 0, 1) := dk_42 (dk_at dksX3_init_7 13 rfl rfl)
theorem dX3_init_176 : decode cX3_init 176 = .ok (.getfield 7, 3) := dk_180 0 7 (dk_at dksX3_init_7 14 rfl rfl)
theorem dX3_init_179 : decode cX3_init 179 = .ok (.bipush 9, 2) := dk_16 9 (dk_at dksX3_init_7 17 rfl rfl)
theorem dX3_init_181 : decode cX3_init 181 = .ok (.iconst (-1), 1) := dk_2 (dk_at dksX3_init_7 19 rfl rfl)
theorem dX3_init_182 : decode cX3_init 182 = .ok (.iastore, 1) := dk_79 (dk_at dksX3_init_7 20 rfl rfl)
theorem dX3_init_183 : decode cX3_init 183 = .ok (.iconst 0, 1) := dk_3 (dk_at dksX3_init_7 21 rfl rfl)
theorem dX3_init_184 : decode cX3_init 184 = .ok (.istore_n 1, 1) := dk_60 (dk_at dksX3_init_7 22 rfl rfl)
theorem dX3_init_185 : decode cX3_init 185 = .ok (.iload_n 1, 1) := dk_27 (dk_at dksX3_init_7 23 rfl rfl)
theorem dX3_init_186 : decode cX3_init 186 = .ok (.bipush 8, 2) := dk_16 8 (dk_at dksX3_init_8 0 rfl rfl)
theorem dX3_init_188 : decode cX3_init 188 = .ok (.if_icmp .ge 24, 3) := dk_162 0 24 (dk_at dksX3_init_8 2 rfl rfl)
theorem dX3_init_191 : decode cX3_init 191 = .ok (.aload_n 0, 1) := dk_42 (dk_at dksX3_init_8 5 rfl rfl)
theorem dX3_init_192 : decode cX3_init 192 = .ok (.getfield 7, 3) := dk_180 0 7 (dk_at dksX3_init_8 6 rfl rfl)
theorem dX3_init_195 : decode cX3_init 195 = .ok (.sipush 270, 3) := dk_17 1 14 (dk_at dksX3_init_8 9 rfl rfl)
theorem dX3_init_198 : decode cX3_init 198 = .ok (.bipush 9, 2) := dk_16 9 (dk_at dksX3_init_8 12 rfl rfl)
theorem dX3_init_200 : decode cX3_init 200 = .ok (.iload_n 1, 1) := dk_27 (dk_at dksX3_init_8 14 rfl rfl)
theorem dX3_init_201 : decode cX3_init 201 = .ok (.imul, 1) := dk_104 (dk_at dksX3_init_8 15 rfl rfl)
theorem dX3_init_202 : decode cX3_init 202 = .ok (.iadd, 1) := dk_96 (dk_at dksX3_init_8 16 rfl rfl)
theorem dX3_init_203 : decode cX3_init 203 = .ok (.bipush 9, 2) := dk_16 9 (dk_at dksX3_init_8 17 rfl rfl)
theorem dX3_init_205 : decode cX3_init 205 = .ok (.iastore, 1) := dk_79 (dk_at dksX3_init_8 19 rfl rfl)
theorem dX3_init_206 : decode cX3_init 206 = .ok (.iinc 1 1, 3) := dk_132 1 1 (dk_at dksX3_init_8 20 rfl rfl)
theorem dX3_init_209 : decode cX3_init 209 = .ok (.goto (-24), 3) := dk_167 255 232 (dk_at dksX3_init_9 0 rfl rfl)
theorem dX3_init_212 : decode cX3_init 212 = .ok (.return_, 1) := dk_177 (dk_at dksX3_init_9 3 rfl rfl)
abbrev cX3_state : ByteArray := prog_14_method_7_code
def yX3_state : MethodName := ⟨RX3, "state", "(I)I"⟩
def dkwX3_state_0 : List UInt8 := [42, 180, 0, 7, 16, 6, 46, 61, 42, 180, 0, 7, 16, 6, 27, 79, 28, 172]
abbrev dktX3_state_0 : List UInt8 := dkwX3_state_0 ++ []
theorem dksX3_state_0 : cX3_state.data.toList.drop 0 = dktX3_state_0 := by decide +kernel
theorem dX3_state_0 : decode cX3_state 0 = .ok (.aload_n 0, 1) := dk_42 (dk_at dksX3_state_0 0 rfl rfl)
theorem dX3_state_1 : decode cX3_state 1 = .ok (.getfield 7, 3) := dk_180 0 7 (dk_at dksX3_state_0 1 rfl rfl)
theorem dX3_state_4 : decode cX3_state 4 = .ok (.bipush 6, 2) := dk_16 6 (dk_at dksX3_state_0 4 rfl rfl)
theorem dX3_state_6 : decode cX3_state 6 = .ok (.iaload, 1) := dk_46 (dk_at dksX3_state_0 6 rfl rfl)
theorem dX3_state_7 : decode cX3_state 7 = .ok (.istore_n 2, 1) := dk_61 (dk_at dksX3_state_0 7 rfl rfl)
theorem dX3_state_8 : decode cX3_state 8 = .ok (.aload_n 0, 1) := dk_42 (dk_at dksX3_state_0 8 rfl rfl)
theorem dX3_state_9 : decode cX3_state 9 = .ok (.getfield 7, 3) := dk_180 0 7 (dk_at dksX3_state_0 9 rfl rfl)
theorem dX3_state_12 : decode cX3_state 12 = .ok (.bipush 6, 2) := dk_16 6 (dk_at dksX3_state_0 12 rfl rfl)
theorem dX3_state_14 : decode cX3_state 14 = .ok (.iload_n 1, 1) := dk_27 (dk_at dksX3_state_0 14 rfl rfl)
theorem dX3_state_15 : decode cX3_state 15 = .ok (.iastore, 1) := dk_79 (dk_at dksX3_state_0 15 rfl rfl)
theorem dX3_state_16 : decode cX3_state 16 = .ok (.iload_n 2, 1) := dk_28 (dk_at dksX3_state_0 16 rfl rfl)
theorem dX3_state_17 : decode cX3_state 17 = .ok (.ireturn, 1) := dk_172 (dk_at dksX3_state_0 17 rfl rfl)
abbrev cX3_feed : ByteArray := prog_14_method_9_code
def yX3_feed : MethodName := ⟨RX3, "feed", "(IIIII)I"⟩
def dkwX3_feed_5 : List UInt8 := [180, 0, 75, 172]
abbrev dktX3_feed_5 : List UInt8 := dkwX3_feed_5 ++ []
def dkwX3_feed_4 : List UInt8 := [122, 17, 0, 255, 126, 79, 42, 89, 180, 0, 75, 4, 96, 181, 0, 75, 132, 6, 1, 167, 255, 162, 42]
abbrev dktX3_feed_4 : List UInt8 := dkwX3_feed_4 ++ dktX3_feed_5
def dkwX3_feed_3 : List UInt8 := [21, 5, 54, 7, 42, 180, 0, 25, 42, 180, 0, 75, 21, 7, 16, 24, 16, 8, 21, 6, 7, 112, 104, 100]
abbrev dktX3_feed_3 : List UInt8 := dkwX3_feed_3 ++ dktX3_feed_4
def dkwX3_feed_2 : List UInt8 := [21, 6, 16, 12, 162, 0, 7, 29, 167, 0, 17, 21, 6, 16, 16, 162, 0, 8, 21, 4, 167, 0, 5]
abbrev dktX3_feed_2 : List UInt8 := dkwX3_feed_2 ++ dktX3_feed_3
def dkwX3_feed_1 : List UInt8 := [162, 0, 93, 21, 6, 7, 162, 0, 7, 27, 167, 0, 39, 21, 6, 16, 8, 162, 0, 7, 28, 167, 0, 28]
abbrev dktX3_feed_1 : List UInt8 := dkwX3_feed_1 ++ dktX3_feed_2
def dkwX3_feed_0 : List UInt8 := [42, 180, 0, 75, 16, 20, 96, 17, 1, 144, 164, 0, 5, 2, 172, 3, 54, 6, 21, 6, 16, 20]
abbrev dktX3_feed_0 : List UInt8 := dkwX3_feed_0 ++ dktX3_feed_1
theorem dksX3_feed_0 : cX3_feed.data.toList.drop 0 = dktX3_feed_0 := by decide +kernel
theorem dksX3_feed_1 : cX3_feed.data.toList.drop 22 = dktX3_feed_1 := dk_seg dksX3_feed_0 22 rfl rfl
theorem dksX3_feed_2 : cX3_feed.data.toList.drop 46 = dktX3_feed_2 := dk_seg dksX3_feed_1 24 rfl rfl
theorem dksX3_feed_3 : cX3_feed.data.toList.drop 69 = dktX3_feed_3 := dk_seg dksX3_feed_2 23 rfl rfl
theorem dksX3_feed_4 : cX3_feed.data.toList.drop 93 = dktX3_feed_4 := dk_seg dksX3_feed_3 24 rfl rfl
theorem dksX3_feed_5 : cX3_feed.data.toList.drop 116 = dktX3_feed_5 := dk_seg dksX3_feed_4 23 rfl rfl
theorem dX3_feed_0 : decode cX3_feed 0 = .ok (.aload_n 0, 1) := dk_42 (dk_at dksX3_feed_0 0 rfl rfl)
theorem dX3_feed_1 : decode cX3_feed 1 = .ok (.getfield 75, 3) := dk_180 0 75 (dk_at dksX3_feed_0 1 rfl rfl)
theorem dX3_feed_4 : decode cX3_feed 4 = .ok (.bipush 20, 2) := dk_16 20 (dk_at dksX3_feed_0 4 rfl rfl)
theorem dX3_feed_6 : decode cX3_feed 6 = .ok (.iadd, 1) := dk_96 (dk_at dksX3_feed_0 6 rfl rfl)
theorem dX3_feed_7 : decode cX3_feed 7 = .ok (.sipush 400, 3) := dk_17 1 144 (dk_at dksX3_feed_0 7 rfl rfl)
theorem dX3_feed_10 : decode cX3_feed 10 = .ok (.if_icmp .le 5, 3) := dk_164 0 5 (dk_at dksX3_feed_0 10 rfl rfl)
theorem dX3_feed_13 : decode cX3_feed 13 = .ok (.iconst (-1), 1) := dk_2 (dk_at dksX3_feed_0 13 rfl rfl)
theorem dX3_feed_14 : decode cX3_feed 14 = .ok (.ireturn, 1) := dk_172 (dk_at dksX3_feed_0 14 rfl rfl)
theorem dX3_feed_15 : decode cX3_feed 15 = .ok (.iconst 0, 1) := dk_3 (dk_at dksX3_feed_0 15 rfl rfl)
theorem dX3_feed_16 : decode cX3_feed 16 = .ok (.istore 6, 2) := dk_54 6 (dk_at dksX3_feed_0 16 rfl rfl)
theorem dX3_feed_18 : decode cX3_feed 18 = .ok (.iload 6, 2) := dk_21 6 (dk_at dksX3_feed_0 18 rfl rfl)
theorem dX3_feed_20 : decode cX3_feed 20 = .ok (.bipush 20, 2) := dk_16 20 (dk_at dksX3_feed_0 20 rfl rfl)
theorem dX3_feed_22 : decode cX3_feed 22 = .ok (.if_icmp .ge 93, 3) := dk_162 0 93 (dk_at dksX3_feed_1 0 rfl rfl)
theorem dX3_feed_25 : decode cX3_feed 25 = .ok (.iload 6, 2) := dk_21 6 (dk_at dksX3_feed_1 3 rfl rfl)
theorem dX3_feed_27 : decode cX3_feed 27 = .ok (.iconst 4, 1) := dk_7 (dk_at dksX3_feed_1 5 rfl rfl)
theorem dX3_feed_28 : decode cX3_feed 28 = .ok (.if_icmp .ge 7, 3) := dk_162 0 7 (dk_at dksX3_feed_1 6 rfl rfl)
theorem dX3_feed_31 : decode cX3_feed 31 = .ok (.iload_n 1, 1) := dk_27 (dk_at dksX3_feed_1 9 rfl rfl)
theorem dX3_feed_32 : decode cX3_feed 32 = .ok (.goto 39, 3) := dk_167 0 39 (dk_at dksX3_feed_1 10 rfl rfl)
theorem dX3_feed_35 : decode cX3_feed 35 = .ok (.iload 6, 2) := dk_21 6 (dk_at dksX3_feed_1 13 rfl rfl)
theorem dX3_feed_37 : decode cX3_feed 37 = .ok (.bipush 8, 2) := dk_16 8 (dk_at dksX3_feed_1 15 rfl rfl)
theorem dX3_feed_39 : decode cX3_feed 39 = .ok (.if_icmp .ge 7, 3) := dk_162 0 7 (dk_at dksX3_feed_1 17 rfl rfl)
theorem dX3_feed_42 : decode cX3_feed 42 = .ok (.iload_n 2, 1) := dk_28 (dk_at dksX3_feed_1 20 rfl rfl)
theorem dX3_feed_43 : decode cX3_feed 43 = .ok (.goto 28, 3) := dk_167 0 28 (dk_at dksX3_feed_1 21 rfl rfl)
theorem dX3_feed_46 : decode cX3_feed 46 = .ok (.iload 6, 2) := dk_21 6 (dk_at dksX3_feed_2 0 rfl rfl)
theorem dX3_feed_48 : decode cX3_feed 48 = .ok (.bipush 12, 2) := dk_16 12 (dk_at dksX3_feed_2 2 rfl rfl)
theorem dX3_feed_50 : decode cX3_feed 50 = .ok (.if_icmp .ge 7, 3) := dk_162 0 7 (dk_at dksX3_feed_2 4 rfl rfl)
theorem dX3_feed_53 : decode cX3_feed 53 = .ok (.iload_n 3, 1) := dk_29 (dk_at dksX3_feed_2 7 rfl rfl)
theorem dX3_feed_54 : decode cX3_feed 54 = .ok (.goto 17, 3) := dk_167 0 17 (dk_at dksX3_feed_2 8 rfl rfl)
theorem dX3_feed_57 : decode cX3_feed 57 = .ok (.iload 6, 2) := dk_21 6 (dk_at dksX3_feed_2 11 rfl rfl)
theorem dX3_feed_59 : decode cX3_feed 59 = .ok (.bipush 16, 2) := dk_16 16 (dk_at dksX3_feed_2 13 rfl rfl)
theorem dX3_feed_61 : decode cX3_feed 61 = .ok (.if_icmp .ge 8, 3) := dk_162 0 8 (dk_at dksX3_feed_2 15 rfl rfl)
theorem dX3_feed_64 : decode cX3_feed 64 = .ok (.iload 4, 2) := dk_21 4 (dk_at dksX3_feed_2 18 rfl rfl)
theorem dX3_feed_66 : decode cX3_feed 66 = .ok (.goto 5, 3) := dk_167 0 5 (dk_at dksX3_feed_2 20 rfl rfl)
theorem dX3_feed_69 : decode cX3_feed 69 = .ok (.iload 5, 2) := dk_21 5 (dk_at dksX3_feed_3 0 rfl rfl)
theorem dX3_feed_71 : decode cX3_feed 71 = .ok (.istore 7, 2) := dk_54 7 (dk_at dksX3_feed_3 2 rfl rfl)
theorem dX3_feed_73 : decode cX3_feed 73 = .ok (.aload_n 0, 1) := dk_42 (dk_at dksX3_feed_3 4 rfl rfl)
theorem dX3_feed_74 : decode cX3_feed 74 = .ok (.getfield 25, 3) := dk_180 0 25 (dk_at dksX3_feed_3 5 rfl rfl)
theorem dX3_feed_77 : decode cX3_feed 77 = .ok (.aload_n 0, 1) := dk_42 (dk_at dksX3_feed_3 8 rfl rfl)
theorem dX3_feed_78 : decode cX3_feed 78 = .ok (.getfield 75, 3) := dk_180 0 75 (dk_at dksX3_feed_3 9 rfl rfl)
theorem dX3_feed_81 : decode cX3_feed 81 = .ok (.iload 7, 2) := dk_21 7 (dk_at dksX3_feed_3 12 rfl rfl)
theorem dX3_feed_83 : decode cX3_feed 83 = .ok (.bipush 24, 2) := dk_16 24 (dk_at dksX3_feed_3 14 rfl rfl)
theorem dX3_feed_85 : decode cX3_feed 85 = .ok (.bipush 8, 2) := dk_16 8 (dk_at dksX3_feed_3 16 rfl rfl)
theorem dX3_feed_87 : decode cX3_feed 87 = .ok (.iload 6, 2) := dk_21 6 (dk_at dksX3_feed_3 18 rfl rfl)
theorem dX3_feed_89 : decode cX3_feed 89 = .ok (.iconst 4, 1) := dk_7 (dk_at dksX3_feed_3 20 rfl rfl)
theorem dX3_feed_90 : decode cX3_feed 90 = .ok (.irem, 1) := dk_112 (dk_at dksX3_feed_3 21 rfl rfl)
theorem dX3_feed_91 : decode cX3_feed 91 = .ok (.imul, 1) := dk_104 (dk_at dksX3_feed_3 22 rfl rfl)
theorem dX3_feed_92 : decode cX3_feed 92 = .ok (.isub, 1) := dk_100 (dk_at dksX3_feed_3 23 rfl rfl)
theorem dX3_feed_93 : decode cX3_feed 93 = .ok (.ishr, 1) := dk_122 (dk_at dksX3_feed_4 0 rfl rfl)
theorem dX3_feed_94 : decode cX3_feed 94 = .ok (.sipush 255, 3) := dk_17 0 255 (dk_at dksX3_feed_4 1 rfl rfl)
theorem dX3_feed_97 : decode cX3_feed 97 = .ok (.iand, 1) := dk_126 (dk_at dksX3_feed_4 4 rfl rfl)
theorem dX3_feed_98 : decode cX3_feed 98 = .ok (.iastore, 1) := dk_79 (dk_at dksX3_feed_4 5 rfl rfl)
theorem dX3_feed_99 : decode cX3_feed 99 = .ok (.aload_n 0, 1) := dk_42 (dk_at dksX3_feed_4 6 rfl rfl)
theorem dX3_feed_100 : decode cX3_feed 100 = .ok (.dup, 1) := dk_89 (dk_at dksX3_feed_4 7 rfl rfl)
theorem dX3_feed_101 : decode cX3_feed 101 = .ok (.getfield 75, 3) := dk_180 0 75 (dk_at dksX3_feed_4 8 rfl rfl)
theorem dX3_feed_104 : decode cX3_feed 104 = .ok (.iconst 1, 1) := dk_4 (dk_at dksX3_feed_4 11 rfl rfl)
theorem dX3_feed_105 : decode cX3_feed 105 = .ok (.iadd, 1) := dk_96 (dk_at dksX3_feed_4 12 rfl rfl)
theorem dX3_feed_106 : decode cX3_feed 106 = .ok (.putfield 75, 3) := dk_181 0 75 (dk_at dksX3_feed_4 13 rfl rfl)
theorem dX3_feed_109 : decode cX3_feed 109 = .ok (.iinc 6 1, 3) := dk_132 6 1 (dk_at dksX3_feed_4 16 rfl rfl)
theorem dX3_feed_112 : decode cX3_feed 112 = .ok (.goto (-94), 3) := dk_167 255 162 (dk_at dksX3_feed_4 19 rfl rfl)
theorem dX3_feed_115 : decode cX3_feed 115 = .ok (.aload_n 0, 1) := dk_42 (dk_at dksX3_feed_4 22 rfl rfl)
theorem dX3_feed_116 : decode cX3_feed 116 = .ok (.getfield 75, 3) := dk_180 0 75 (dk_at dksX3_feed_5 0 rfl rfl)
theorem dX3_feed_119 : decode cX3_feed 119 = .ok (.ireturn, 1) := dk_172 (dk_at dksX3_feed_5 3 rfl rfl)
abbrev cX3_end : ByteArray := prog_14_method_10_code
def yX3_end : MethodName := ⟨RX3, "end", "(I)Z"⟩
def dkwX3_end_0 : List UInt8 := [27, 3, 42, 180, 0, 75, 184, 0, 66, 154, 0, 5, 3, 172, 42, 27, 181, 0, 75, 4, 172]
abbrev dktX3_end_0 : List UInt8 := dkwX3_end_0 ++ []
theorem dksX3_end_0 : cX3_end.data.toList.drop 0 = dktX3_end_0 := by decide +kernel
theorem dX3_end_0 : decode cX3_end 0 = .ok (.iload_n 1, 1) := dk_27 (dk_at dksX3_end_0 0 rfl rfl)
theorem dX3_end_1 : decode cX3_end 1 = .ok (.iconst 0, 1) := dk_3 (dk_at dksX3_end_0 1 rfl rfl)
theorem dX3_end_2 : decode cX3_end 2 = .ok (.aload_n 0, 1) := dk_42 (dk_at dksX3_end_0 2 rfl rfl)
theorem dX3_end_3 : decode cX3_end 3 = .ok (.getfield 75, 3) := dk_180 0 75 (dk_at dksX3_end_0 3 rfl rfl)
theorem dX3_end_6 : decode cX3_end 6 = .ok (.invokestatic 66, 3) := dk_184 0 66 (dk_at dksX3_end_0 6 rfl rfl)
theorem dX3_end_9 : decode cX3_end 9 = .ok (.ifCond .ne 5, 3) := dk_154 0 5 (dk_at dksX3_end_0 9 rfl rfl)
theorem dX3_end_12 : decode cX3_end 12 = .ok (.iconst 0, 1) := dk_3 (dk_at dksX3_end_0 12 rfl rfl)
theorem dX3_end_13 : decode cX3_end 13 = .ok (.ireturn, 1) := dk_172 (dk_at dksX3_end_0 13 rfl rfl)
theorem dX3_end_14 : decode cX3_end 14 = .ok (.aload_n 0, 1) := dk_42 (dk_at dksX3_end_0 14 rfl rfl)
theorem dX3_end_15 : decode cX3_end 15 = .ok (.iload_n 1, 1) := dk_27 (dk_at dksX3_end_0 15 rfl rfl)
theorem dX3_end_16 : decode cX3_end 16 = .ok (.putfield 75, 3) := dk_181 0 75 (dk_at dksX3_end_0 16 rfl rfl)
theorem dX3_end_19 : decode cX3_end 19 = .ok (.iconst 1, 1) := dk_4 (dk_at dksX3_end_0 19 rfl rfl)
theorem dX3_end_20 : decode cX3_end 20 = .ok (.ireturn, 1) := dk_172 (dk_at dksX3_end_0 20 rfl rfl)
abbrev cX3_isIn : ByteArray := prog_14_method_2_code
def yX3_isIn : MethodName := ⟨RX3, "isIn", "(III)Z"⟩
def dkwX3_isIn_0 : List UInt8 := [26, 27, 161, 0, 12, 26, 28, 163, 0, 7, 4, 167, 0, 4, 3, 172]
abbrev dktX3_isIn_0 : List UInt8 := dkwX3_isIn_0 ++ []
theorem dksX3_isIn_0 : cX3_isIn.data.toList.drop 0 = dktX3_isIn_0 := by decide +kernel
theorem dX3_isIn_0 : decode cX3_isIn 0 = .ok (.iload_n 0, 1) := dk_26 (dk_at dksX3_isIn_0 0 rfl rfl)
theorem dX3_isIn_1 : decode cX3_isIn 1 = .ok (.iload_n 1, 1) := dk_27 (dk_at dksX3_isIn_0 1 rfl rfl)
theorem dX3_isIn_2 : decode cX3_isIn 2 = .ok (.if_icmp .lt 12, 3) := dk_161 0 12 (dk_at dksX3_isIn_0 2 rfl rfl)
theorem dX3_isIn_5 : decode cX3_isIn 5 = .ok (.iload_n 0, 1) := dk_26 (dk_at dksX3_isIn_0 5 rfl rfl)
theorem dX3_isIn_6 : decode cX3_isIn 6 = .ok (.iload_n 2, 1) := dk_28 (dk_at dksX3_isIn_0 6 rfl rfl)
theorem dX3_isIn_7 : decode cX3_isIn 7 = .ok (.if_icmp .gt 7, 3) := dk_163 0 7 (dk_at dksX3_isIn_0 7 rfl rfl)
theorem dX3_isIn_10 : decode cX3_isIn 10 = .ok (.iconst 1, 1) := dk_4 (dk_at dksX3_isIn_0 10 rfl rfl)
theorem dX3_isIn_11 : decode cX3_isIn 11 = .ok (.goto 4, 3) := dk_167 0 4 (dk_at dksX3_isIn_0 11 rfl rfl)
theorem dX3_isIn_14 : decode cX3_isIn 14 = .ok (.iconst 0, 1) := dk_3 (dk_at dksX3_isIn_0 14 rfl rfl)
theorem dX3_isIn_15 : decode cX3_isIn 15 = .ok (.ireturn, 1) := dk_172 (dk_at dksX3_isIn_0 15 rfl rfl)
abbrev cX3_text : ByteArray := prog_14_method_29_code
def yX3_text : MethodName := ⟨RX3, "text", "()I"⟩
def dkwX3_text_9 : List UInt8 := [46, 79, 132, 2, 1, 167, 255, 227, 42, 180, 0, 197, 172]
abbrev dktX3_text_9 : List UInt8 := dkwX3_text_9 ++ []
def dkwX3_text_8 : List UInt8 := [28, 5, 42, 180, 0, 163, 104, 162, 0, 25, 42, 180, 0, 7, 17, 2, 148, 28, 96, 42, 180, 0, 22, 28]
abbrev dktX3_text_8 : List UInt8 := dkwX3_text_8 ++ dktX3_text_9
def dkwX3_text_7 : List UInt8 := [17, 2, 128, 28, 96, 42, 180, 0, 19, 6, 28, 104, 5, 96, 46, 79, 132, 2, 1, 167, 255, 187, 3, 61]
abbrev dktX3_text_7 : List UInt8 := dkwX3_text_7 ++ dktX3_text_8
def dkwX3_text_6 : List UInt8 := [180, 0, 7, 17, 2, 108, 28, 96, 42, 180, 0, 19, 6, 28, 104, 4, 96, 46, 79, 42, 180, 0, 7]
abbrev dktX3_text_6 : List UInt8 := dkwX3_text_6 ++ dktX3_text_7
def dkwX3_text_5 : List UInt8 := [162, 0, 67, 42, 180, 0, 7, 17, 2, 88, 28, 96, 42, 180, 0, 19, 6, 28, 104, 46, 79, 42]
abbrev dktX3_text_5 : List UInt8 := dkwX3_text_5 ++ dktX3_text_6
def dkwX3_text_4 : List UInt8 := [154, 0, 5, 2, 172, 42, 180, 0, 7, 17, 2, 78, 42, 180, 0, 197, 79, 3, 61, 28, 42, 180, 0, 197]
abbrev dktX3_text_4 : List UInt8 := dkwX3_text_4 ++ dktX3_text_5
def dkwX3_text_3 : List UInt8 := [180, 0, 151, 181, 0, 203, 42, 27, 153, 0, 7, 2, 167, 0, 7, 42, 180, 0, 154, 181, 0, 34, 27]
abbrev dktX3_text_3 : List UInt8 := dkwX3_text_3 ++ dktX3_text_4
def dkwX3_text_2 : List UInt8 := [153, 0, 7, 4, 167, 0, 4, 3, 96, 181, 0, 197, 167, 255, 222, 42, 3, 181, 0, 75, 42, 42]
abbrev dktX3_text_2 : List UInt8 := dkwX3_text_2 ++ dktX3_text_3
def dkwX3_text_1 : List UInt8 := [4, 60, 27, 153, 0, 36, 42, 180, 0, 135, 153, 0, 29, 42, 182, 0, 200, 60, 42, 89, 180, 0, 197, 27]
abbrev dktX3_text_1 : List UInt8 := dkwX3_text_1 ++ dktX3_text_2
def dkwX3_text_0 : List UInt8 := [42, 3, 181, 0, 151, 42, 3, 181, 0, 78, 42, 3, 181, 0, 197, 42, 3, 181, 0, 163, 42, 182, 0, 160]
abbrev dktX3_text_0 : List UInt8 := dkwX3_text_0 ++ dktX3_text_1
theorem dksX3_text_0 : cX3_text.data.toList.drop 0 = dktX3_text_0 := by decide +kernel
theorem dksX3_text_1 : cX3_text.data.toList.drop 24 = dktX3_text_1 := dk_seg dksX3_text_0 24 rfl rfl
theorem dksX3_text_2 : cX3_text.data.toList.drop 48 = dktX3_text_2 := dk_seg dksX3_text_1 24 rfl rfl
theorem dksX3_text_3 : cX3_text.data.toList.drop 70 = dktX3_text_3 := dk_seg dksX3_text_2 22 rfl rfl
theorem dksX3_text_4 : cX3_text.data.toList.drop 93 = dktX3_text_4 := dk_seg dksX3_text_3 23 rfl rfl
theorem dksX3_text_5 : cX3_text.data.toList.drop 117 = dktX3_text_5 := dk_seg dksX3_text_4 24 rfl rfl
theorem dksX3_text_6 : cX3_text.data.toList.drop 139 = dktX3_text_6 := dk_seg dksX3_text_5 22 rfl rfl
theorem dksX3_text_7 : cX3_text.data.toList.drop 162 = dktX3_text_7 := dk_seg dksX3_text_6 23 rfl rfl
theorem dksX3_text_8 : cX3_text.data.toList.drop 186 = dktX3_text_8 := dk_seg dksX3_text_7 24 rfl rfl
theorem dksX3_text_9 : cX3_text.data.toList.drop 210 = dktX3_text_9 := dk_seg dksX3_text_8 24 rfl rfl
theorem dX3_text_0 : decode cX3_text 0 = .ok (.aload_n 0, 1) := dk_42 (dk_at dksX3_text_0 0 rfl rfl)
theorem dX3_text_1 : decode cX3_text 1 = .ok (.iconst 0, 1) := dk_3 (dk_at dksX3_text_0 1 rfl rfl)
theorem dX3_text_2 : decode cX3_text 2 = .ok (.putfield 151, 3) := dk_181 0 151 (dk_at dksX3_text_0 2 rfl rfl)
theorem dX3_text_5 : decode cX3_text 5 = .ok (.aload_n 0, 1) := dk_42 (dk_at dksX3_text_0 5 rfl rfl)
theorem dX3_text_6 : decode cX3_text 6 = .ok (.iconst 0, 1) := dk_3 (dk_at dksX3_text_0 6 rfl rfl)
theorem dX3_text_7 : decode cX3_text 7 = .ok (.putfield 78, 3) := dk_181 0 78 (dk_at dksX3_text_0 7 rfl rfl)
theorem dX3_text_10 : decode cX3_text 10 = .ok (.aload_n 0, 1) := dk_42 (dk_at dksX3_text_0 10 rfl rfl)
theorem dX3_text_11 : decode cX3_text 11 = .ok (.iconst 0, 1) := dk_3 (dk_at dksX3_text_0 11 rfl rfl)
theorem dX3_text_12 : decode cX3_text 12 = .ok (.putfield 197, 3) := dk_181 0 197 (dk_at dksX3_text_0 12 rfl rfl)
theorem dX3_text_15 : decode cX3_text 15 = .ok (.aload_n 0, 1) := dk_42 (dk_at dksX3_text_0 15 rfl rfl)
theorem dX3_text_16 : decode cX3_text 16 = .ok (.iconst 0, 1) := dk_3 (dk_at dksX3_text_0 16 rfl rfl)
theorem dX3_text_17 : decode cX3_text 17 = .ok (.putfield 163, 3) := dk_181 0 163 (dk_at dksX3_text_0 17 rfl rfl)
theorem dX3_text_20 : decode cX3_text 20 = .ok (.aload_n 0, 1) := dk_42 (dk_at dksX3_text_0 20 rfl rfl)
theorem dX3_text_21 : decode cX3_text 21 = .ok (.invokevirtual 160, 3) := dk_182 0 160 (dk_at dksX3_text_0 21 rfl rfl)
theorem dX3_text_24 : decode cX3_text 24 = .ok (.iconst 1, 1) := dk_4 (dk_at dksX3_text_1 0 rfl rfl)
theorem dX3_text_25 : decode cX3_text 25 = .ok (.istore_n 1, 1) := dk_60 (dk_at dksX3_text_1 1 rfl rfl)
theorem dX3_text_26 : decode cX3_text 26 = .ok (.iload_n 1, 1) := dk_27 (dk_at dksX3_text_1 2 rfl rfl)
theorem dX3_text_27 : decode cX3_text 27 = .ok (.ifCond .eq 36, 3) := dk_153 0 36 (dk_at dksX3_text_1 3 rfl rfl)
theorem dX3_text_30 : decode cX3_text 30 = .ok (.aload_n 0, 1) := dk_42 (dk_at dksX3_text_1 6 rfl rfl)
theorem dX3_text_31 : decode cX3_text 31 = .ok (.getfield 135, 3) := dk_180 0 135 (dk_at dksX3_text_1 7 rfl rfl)
theorem dX3_text_34 : decode cX3_text 34 = .ok (.ifCond .eq 29, 3) := dk_153 0 29 (dk_at dksX3_text_1 10 rfl rfl)
theorem dX3_text_37 : decode cX3_text 37 = .ok (.aload_n 0, 1) := dk_42 (dk_at dksX3_text_1 13 rfl rfl)
theorem dX3_text_38 : decode cX3_text 38 = .ok (.invokevirtual 200, 3) := dk_182 0 200 (dk_at dksX3_text_1 14 rfl rfl)
theorem dX3_text_41 : decode cX3_text 41 = .ok (.istore_n 1, 1) := dk_60 (dk_at dksX3_text_1 17 rfl rfl)
theorem dX3_text_42 : decode cX3_text 42 = .ok (.aload_n 0, 1) := dk_42 (dk_at dksX3_text_1 18 rfl rfl)
theorem dX3_text_43 : decode cX3_text 43 = .ok (.dup, 1) := dk_89 (dk_at dksX3_text_1 19 rfl rfl)
theorem dX3_text_44 : decode cX3_text 44 = .ok (.getfield 197, 3) := dk_180 0 197 (dk_at dksX3_text_1 20 rfl rfl)
theorem dX3_text_47 : decode cX3_text 47 = .ok (.iload_n 1, 1) := dk_27 (dk_at dksX3_text_1 23 rfl rfl)
theorem dX3_text_48 : decode cX3_text 48 = .ok (.ifCond .eq 7, 3) := dk_153 0 7 (dk_at dksX3_text_2 0 rfl rfl)
theorem dX3_text_51 : decode cX3_text 51 = .ok (.iconst 1, 1) := dk_4 (dk_at dksX3_text_2 3 rfl rfl)
theorem dX3_text_52 : decode cX3_text 52 = .ok (.goto 4, 3) := dk_167 0 4 (dk_at dksX3_text_2 4 rfl rfl)
theorem dX3_text_55 : decode cX3_text 55 = .ok (.iconst 0, 1) := dk_3 (dk_at dksX3_text_2 7 rfl rfl)
theorem dX3_text_56 : decode cX3_text 56 = .ok (.iadd, 1) := dk_96 (dk_at dksX3_text_2 8 rfl rfl)
theorem dX3_text_57 : decode cX3_text 57 = .ok (.putfield 197, 3) := dk_181 0 197 (dk_at dksX3_text_2 9 rfl rfl)
theorem dX3_text_60 : decode cX3_text 60 = .ok (.goto (-34), 3) := dk_167 255 222 (dk_at dksX3_text_2 12 rfl rfl)
theorem dX3_text_63 : decode cX3_text 63 = .ok (.aload_n 0, 1) := dk_42 (dk_at dksX3_text_2 15 rfl rfl)
theorem dX3_text_64 : decode cX3_text 64 = .ok (.iconst 0, 1) := dk_3 (dk_at dksX3_text_2 16 rfl rfl)
theorem dX3_text_65 : decode cX3_text 65 = .ok (.putfield 75, 3) := dk_181 0 75 (dk_at dksX3_text_2 17 rfl rfl)
theorem dX3_text_68 : decode cX3_text 68 = .ok (.aload_n 0, 1) := dk_42 (dk_at dksX3_text_2 20 rfl rfl)
theorem dX3_text_69 : decode cX3_text 69 = .ok (.aload_n 0, 1) := dk_42 (dk_at dksX3_text_2 21 rfl rfl)
theorem dX3_text_70 : decode cX3_text 70 = .ok (.getfield 151, 3) := dk_180 0 151 (dk_at dksX3_text_3 0 rfl rfl)
theorem dX3_text_73 : decode cX3_text 73 = .ok (.putfield 203, 3) := dk_181 0 203 (dk_at dksX3_text_3 3 rfl rfl)
theorem dX3_text_76 : decode cX3_text 76 = .ok (.aload_n 0, 1) := dk_42 (dk_at dksX3_text_3 6 rfl rfl)
theorem dX3_text_77 : decode cX3_text 77 = .ok (.iload_n 1, 1) := dk_27 (dk_at dksX3_text_3 7 rfl rfl)
theorem dX3_text_78 : decode cX3_text 78 = .ok (.ifCond .eq 7, 3) := dk_153 0 7 (dk_at dksX3_text_3 8 rfl rfl)
theorem dX3_text_81 : decode cX3_text 81 = .ok (.iconst (-1), 1) := dk_2 (dk_at dksX3_text_3 11 rfl rfl)
theorem dX3_text_82 : decode cX3_text 82 = .ok (.goto 7, 3) := dk_167 0 7 (dk_at dksX3_text_3 12 rfl rfl)
theorem dX3_text_85 : decode cX3_text 85 = .ok (.aload_n 0, 1) := dk_42 (dk_at dksX3_text_3 15 rfl rfl)
theorem dX3_text_86 : decode cX3_text 86 = .ok (.getfield 154, 3) := dk_180 0 154 (dk_at dksX3_text_3 16 rfl rfl)
theorem dX3_text_89 : decode cX3_text 89 = .ok (.putfield 34, 3) := dk_181 0 34 (dk_at dksX3_text_3 19 rfl rfl)
theorem dX3_text_92 : decode cX3_text 92 = .ok (.iload_n 1, 1) := dk_27 (dk_at dksX3_text_3 22 rfl rfl)
theorem dX3_text_93 : decode cX3_text 93 = .ok (.ifCond .ne 5, 3) := dk_154 0 5 (dk_at dksX3_text_4 0 rfl rfl)
theorem dX3_text_96 : decode cX3_text 96 = .ok (.iconst (-1), 1) := dk_2 (dk_at dksX3_text_4 3 rfl rfl)
theorem dX3_text_97 : decode cX3_text 97 = .ok (.ireturn, 1) := dk_172 (dk_at dksX3_text_4 4 rfl rfl)
theorem dX3_text_98 : decode cX3_text 98 = .ok (.aload_n 0, 1) := dk_42 (dk_at dksX3_text_4 5 rfl rfl)
theorem dX3_text_99 : decode cX3_text 99 = .ok (.getfield 7, 3) := dk_180 0 7 (dk_at dksX3_text_4 6 rfl rfl)
theorem dX3_text_102 : decode cX3_text 102 = .ok (.sipush 590, 3) := dk_17 2 78 (dk_at dksX3_text_4 9 rfl rfl)
theorem dX3_text_105 : decode cX3_text 105 = .ok (.aload_n 0, 1) := dk_42 (dk_at dksX3_text_4 12 rfl rfl)
theorem dX3_text_106 : decode cX3_text 106 = .ok (.getfield 197, 3) := dk_180 0 197 (dk_at dksX3_text_4 13 rfl rfl)
theorem dX3_text_109 : decode cX3_text 109 = .ok (.iastore, 1) := dk_79 (dk_at dksX3_text_4 16 rfl rfl)
theorem dX3_text_110 : decode cX3_text 110 = .ok (.iconst 0, 1) := dk_3 (dk_at dksX3_text_4 17 rfl rfl)
theorem dX3_text_111 : decode cX3_text 111 = .ok (.istore_n 2, 1) := dk_61 (dk_at dksX3_text_4 18 rfl rfl)
theorem dX3_text_112 : decode cX3_text 112 = .ok (.iload_n 2, 1) := dk_28 (dk_at dksX3_text_4 19 rfl rfl)
theorem dX3_text_113 : decode cX3_text 113 = .ok (.aload_n 0, 1) := dk_42 (dk_at dksX3_text_4 20 rfl rfl)
theorem dX3_text_114 : decode cX3_text 114 = .ok (.getfield 197, 3) := dk_180 0 197 (dk_at dksX3_text_4 21 rfl rfl)
theorem dX3_text_117 : decode cX3_text 117 = .ok (.if_icmp .ge 67, 3) := dk_162 0 67 (dk_at dksX3_text_5 0 rfl rfl)
theorem dX3_text_120 : decode cX3_text 120 = .ok (.aload_n 0, 1) := dk_42 (dk_at dksX3_text_5 3 rfl rfl)
theorem dX3_text_121 : decode cX3_text 121 = .ok (.getfield 7, 3) := dk_180 0 7 (dk_at dksX3_text_5 4 rfl rfl)
theorem dX3_text_124 : decode cX3_text 124 = .ok (.sipush 600, 3) := dk_17 2 88 (dk_at dksX3_text_5 7 rfl rfl)
theorem dX3_text_127 : decode cX3_text 127 = .ok (.iload_n 2, 1) := dk_28 (dk_at dksX3_text_5 10 rfl rfl)
theorem dX3_text_128 : decode cX3_text 128 = .ok (.iadd, 1) := dk_96 (dk_at dksX3_text_5 11 rfl rfl)
theorem dX3_text_129 : decode cX3_text 129 = .ok (.aload_n 0, 1) := dk_42 (dk_at dksX3_text_5 12 rfl rfl)
theorem dX3_text_130 : decode cX3_text 130 = .ok (.getfield 19, 3) := dk_180 0 19 (dk_at dksX3_text_5 13 rfl rfl)
theorem dX3_text_133 : decode cX3_text 133 = .ok (.iconst 3, 1) := dk_6 (dk_at dksX3_text_5 16 rfl rfl)
theorem dX3_text_134 : decode cX3_text 134 = .ok (.iload_n 2, 1) := dk_28 (dk_at dksX3_text_5 17 rfl rfl)
theorem dX3_text_135 : decode cX3_text 135 = .ok (.imul, 1) := dk_104 (dk_at dksX3_text_5 18 rfl rfl)
theorem dX3_text_136 : decode cX3_text 136 = .ok (.iaload, 1) := dk_46 (dk_at dksX3_text_5 19 rfl rfl)
theorem dX3_text_137 : decode cX3_text 137 = .ok (.iastore, 1) := dk_79 (dk_at dksX3_text_5 20 rfl rfl)
theorem dX3_text_138 : decode cX3_text 138 = .ok (.aload_n 0, 1) := dk_42 (dk_at dksX3_text_5 21 rfl rfl)
theorem dX3_text_139 : decode cX3_text 139 = .ok (.getfield 7, 3) := dk_180 0 7 (dk_at dksX3_text_6 0 rfl rfl)
theorem dX3_text_142 : decode cX3_text 142 = .ok (.sipush 620, 3) := dk_17 2 108 (dk_at dksX3_text_6 3 rfl rfl)
theorem dX3_text_145 : decode cX3_text 145 = .ok (.iload_n 2, 1) := dk_28 (dk_at dksX3_text_6 6 rfl rfl)
theorem dX3_text_146 : decode cX3_text 146 = .ok (.iadd, 1) := dk_96 (dk_at dksX3_text_6 7 rfl rfl)
theorem dX3_text_147 : decode cX3_text 147 = .ok (.aload_n 0, 1) := dk_42 (dk_at dksX3_text_6 8 rfl rfl)
theorem dX3_text_148 : decode cX3_text 148 = .ok (.getfield 19, 3) := dk_180 0 19 (dk_at dksX3_text_6 9 rfl rfl)
theorem dX3_text_151 : decode cX3_text 151 = .ok (.iconst 3, 1) := dk_6 (dk_at dksX3_text_6 12 rfl rfl)
theorem dX3_text_152 : decode cX3_text 152 = .ok (.iload_n 2, 1) := dk_28 (dk_at dksX3_text_6 13 rfl rfl)
theorem dX3_text_153 : decode cX3_text 153 = .ok (.imul, 1) := dk_104 (dk_at dksX3_text_6 14 rfl rfl)
theorem dX3_text_154 : decode cX3_text 154 = .ok (.iconst 1, 1) := dk_4 (dk_at dksX3_text_6 15 rfl rfl)
theorem dX3_text_155 : decode cX3_text 155 = .ok (.iadd, 1) := dk_96 (dk_at dksX3_text_6 16 rfl rfl)
theorem dX3_text_156 : decode cX3_text 156 = .ok (.iaload, 1) := dk_46 (dk_at dksX3_text_6 17 rfl rfl)
theorem dX3_text_157 : decode cX3_text 157 = .ok (.iastore, 1) := dk_79 (dk_at dksX3_text_6 18 rfl rfl)
theorem dX3_text_158 : decode cX3_text 158 = .ok (.aload_n 0, 1) := dk_42 (dk_at dksX3_text_6 19 rfl rfl)
theorem dX3_text_159 : decode cX3_text 159 = .ok (.getfield 7, 3) := dk_180 0 7 (dk_at dksX3_text_6 20 rfl rfl)
theorem dX3_text_162 : decode cX3_text 162 = .ok (.sipush 640, 3) := dk_17 2 128 (dk_at dksX3_text_7 0 rfl rfl)
theorem dX3_text_165 : decode cX3_text 165 = .ok (.iload_n 2, 1) := dk_28 (dk_at dksX3_text_7 3 rfl rfl)
theorem dX3_text_166 : decode cX3_text 166 = .ok (.iadd, 1) := dk_96 (dk_at dksX3_text_7 4 rfl rfl)
theorem dX3_text_167 : decode cX3_text 167 = .ok (.aload_n 0, 1) := dk_42 (dk_at dksX3_text_7 5 rfl rfl)
theorem dX3_text_168 : decode cX3_text 168 = .ok (.getfield 19, 3) := dk_180 0 19 (dk_at dksX3_text_7 6 rfl rfl)
theorem dX3_text_171 : decode cX3_text 171 = .ok (.iconst 3, 1) := dk_6 (dk_at dksX3_text_7 9 rfl rfl)
theorem dX3_text_172 : decode cX3_text 172 = .ok (.iload_n 2, 1) := dk_28 (dk_at dksX3_text_7 10 rfl rfl)
theorem dX3_text_173 : decode cX3_text 173 = .ok (.imul, 1) := dk_104 (dk_at dksX3_text_7 11 rfl rfl)
theorem dX3_text_174 : decode cX3_text 174 = .ok (.iconst 2, 1) := dk_5 (dk_at dksX3_text_7 12 rfl rfl)
theorem dX3_text_175 : decode cX3_text 175 = .ok (.iadd, 1) := dk_96 (dk_at dksX3_text_7 13 rfl rfl)
theorem dX3_text_176 : decode cX3_text 176 = .ok (.iaload, 1) := dk_46 (dk_at dksX3_text_7 14 rfl rfl)
theorem dX3_text_177 : decode cX3_text 177 = .ok (.iastore, 1) := dk_79 (dk_at dksX3_text_7 15 rfl rfl)
theorem dX3_text_178 : decode cX3_text 178 = .ok (.iinc 2 1, 3) := dk_132 2 1 (dk_at dksX3_text_7 16 rfl rfl)
theorem dX3_text_181 : decode cX3_text 181 = .ok (.goto (-69), 3) := dk_167 255 187 (dk_at dksX3_text_7 19 rfl rfl)
theorem dX3_text_184 : decode cX3_text 184 = .ok (.iconst 0, 1) := dk_3 (dk_at dksX3_text_7 22 rfl rfl)
theorem dX3_text_185 : decode cX3_text 185 = .ok (.istore_n 2, 1) := dk_61 (dk_at dksX3_text_7 23 rfl rfl)
theorem dX3_text_186 : decode cX3_text 186 = .ok (.iload_n 2, 1) := dk_28 (dk_at dksX3_text_8 0 rfl rfl)
theorem dX3_text_187 : decode cX3_text 187 = .ok (.iconst 2, 1) := dk_5 (dk_at dksX3_text_8 1 rfl rfl)
theorem dX3_text_188 : decode cX3_text 188 = .ok (.aload_n 0, 1) := dk_42 (dk_at dksX3_text_8 2 rfl rfl)
theorem dX3_text_189 : decode cX3_text 189 = .ok (.getfield 163, 3) := dk_180 0 163 (dk_at dksX3_text_8 3 rfl rfl)
theorem dX3_text_192 : decode cX3_text 192 = .ok (.imul, 1) := dk_104 (dk_at dksX3_text_8 6 rfl rfl)
theorem dX3_text_193 : decode cX3_text 193 = .ok (.if_icmp .ge 25, 3) := dk_162 0 25 (dk_at dksX3_text_8 7 rfl rfl)
theorem dX3_text_196 : decode cX3_text 196 = .ok (.aload_n 0, 1) := dk_42 (dk_at dksX3_text_8 10 rfl rfl)
theorem dX3_text_197 : decode cX3_text 197 = .ok (.getfield 7, 3) := dk_180 0 7 (dk_at dksX3_text_8 11 rfl rfl)
theorem dX3_text_200 : decode cX3_text 200 = .ok (.sipush 660, 3) := dk_17 2 148 (dk_at dksX3_text_8 14 rfl rfl)
theorem dX3_text_203 : decode cX3_text 203 = .ok (.iload_n 2, 1) := dk_28 (dk_at dksX3_text_8 17 rfl rfl)
theorem dX3_text_204 : decode cX3_text 204 = .ok (.iadd, 1) := dk_96 (dk_at dksX3_text_8 18 rfl rfl)
theorem dX3_text_205 : decode cX3_text 205 = .ok (.aload_n 0, 1) := dk_42 (dk_at dksX3_text_8 19 rfl rfl)
theorem dX3_text_206 : decode cX3_text 206 = .ok (.getfield 22, 3) := dk_180 0 22 (dk_at dksX3_text_8 20 rfl rfl)
theorem dX3_text_209 : decode cX3_text 209 = .ok (.iload_n 2, 1) := dk_28 (dk_at dksX3_text_8 23 rfl rfl)
theorem dX3_text_210 : decode cX3_text 210 = .ok (.iaload, 1) := dk_46 (dk_at dksX3_text_9 0 rfl rfl)
theorem dX3_text_211 : decode cX3_text 211 = .ok (.iastore, 1) := dk_79 (dk_at dksX3_text_9 1 rfl rfl)
theorem dX3_text_212 : decode cX3_text 212 = .ok (.iinc 2 1, 3) := dk_132 2 1 (dk_at dksX3_text_9 2 rfl rfl)
theorem dX3_text_215 : decode cX3_text 215 = .ok (.goto (-29), 3) := dk_167 255 227 (dk_at dksX3_text_9 5 rfl rfl)
theorem dX3_text_218 : decode cX3_text 218 = .ok (.aload_n 0, 1) := dk_42 (dk_at dksX3_text_9 8 rfl rfl)
theorem dX3_text_219 : decode cX3_text 219 = .ok (.getfield 197, 3) := dk_180 0 197 (dk_at dksX3_text_9 9 rfl rfl)
theorem dX3_text_222 : decode cX3_text 222 = .ok (.ireturn, 1) := dk_172 (dk_at dksX3_text_9 12 rfl rfl)
abbrev cX3_next0 : ByteArray := prog_14_method_17_code
def yX3_next0 : MethodName := ⟨RX3, "next0", "()V"⟩
def dkwX3_next0_13 : List UInt8 := [181, 0, 135, 177]
abbrev dktX3_next0_13 : List UInt8 := dkwX3_next0_13 ++ []
def dkwX3_next0_12 : List UInt8 := [16, 62, 160, 0, 7, 4, 167, 0, 4, 3, 61, 42, 28, 153, 0, 10, 16, 100, 27, 96, 167, 0, 4, 4]
abbrev dktX3_next0_12 : List UInt8 := dkwX3_next0_12 ++ dktX3_next0_13
def dkwX3_next0_11 : List UInt8 := [16, 40, 159, 0, 27, 27, 16, 41, 159, 0, 21, 27, 16, 60, 159, 0, 15, 27, 16, 61, 159, 0, 9, 27]
abbrev dktX3_next0_11 : List UInt8 := dkwX3_next0_11 ++ dktX3_next0_12
def dkwX3_next0_10 : List UInt8 := [16, 43, 159, 0, 51, 27, 16, 45, 159, 0, 45, 27, 16, 42, 159, 0, 39, 27, 16, 47, 159, 0, 33, 27]
abbrev dktX3_next0_10 : List UInt8 := dkwX3_next0_10 ++ dktX3_next0_11
def dkwX3_next0_9 : List UInt8 := [4, 181, 0, 135, 167, 0, 95, 42, 89, 180, 0, 78, 4, 96, 181, 0, 78, 27, 16, 59, 159, 0, 57, 27]
abbrev dktX3_next0_9 : List UInt8 := dkwX3_next0_9 ++ dktX3_next0_10
def dkwX3_next0_8 : List UInt8 := [181, 0, 78, 167, 255, 196, 42, 42, 180, 0, 78, 42, 180, 0, 81, 100, 8, 162, 0, 7, 5, 167, 0, 4]
abbrev dktX3_next0_8 : List UInt8 := dkwX3_next0_8 ++ dktX3_next0_9
def dkwX3_next0_7 : List UInt8 := [42, 42, 180, 0, 78, 182, 0, 131, 96, 16, 48, 100, 181, 0, 148, 42, 89, 180, 0, 78, 4, 96]
abbrev dktX3_next0_7 : List UInt8 := dkwX3_next0_7 ++ dktX3_next0_8
def dkwX3_next0_6 : List UInt8 := [153, 0, 52, 42, 180, 0, 78, 42, 180, 0, 81, 7, 96, 162, 0, 26, 42, 16, 10, 42, 180, 0, 148, 104]
abbrev dktX3_next0_6 : List UInt8 := dkwX3_next0_6 ++ dktX3_next0_7
def dkwX3_next0_5 : List UInt8 := [184, 0, 145, 153, 0, 96, 42, 3, 181, 0, 148, 42, 42, 180, 0, 78, 182, 0, 131, 184, 0, 145]
abbrev dktX3_next0_5 : List UInt8 := dkwX3_next0_5 ++ dktX3_next0_6
def dkwX3_next0_4 : List UInt8 := [180, 0, 78, 4, 96, 181, 0, 78, 167, 255, 232, 42, 42, 182, 0, 142, 181, 0, 135, 167, 0, 195, 27]
abbrev dktX3_next0_4 : List UInt8 := dkwX3_next0_4 ++ dktX3_next0_5
def dkwX3_next0_3 : List UInt8 := [184, 0, 138, 153, 0, 41, 42, 42, 180, 0, 78, 182, 0, 131, 184, 0, 138, 153, 0, 16, 42, 89]
abbrev dktX3_next0_3 : List UInt8 := dkwX3_next0_3 ++ dktX3_next0_4
def dkwX3_next0_2 : List UInt8 := [42, 42, 180, 0, 78, 182, 0, 131, 60, 27, 2, 160, 0, 11, 42, 3, 181, 0, 135, 167, 0, 240, 27]
abbrev dktX3_next0_2 : List UInt8 := dkwX3_next0_2 ++ dktX3_next0_3
def dkwX3_next0_1 : List UInt8 := [160, 0, 16, 42, 89, 180, 0, 78, 4, 96, 181, 0, 78, 167, 255, 220, 42, 42, 180, 0, 78, 181, 0, 81]
abbrev dktX3_next0_1 : List UInt8 := dkwX3_next0_1 ++ dktX3_next0_2
def dkwX3_next0_0 : List UInt8 := [42, 42, 180, 0, 78, 182, 0, 131, 16, 32, 159, 0, 16, 42, 42, 180, 0, 78, 182, 0, 131, 16, 10]
abbrev dktX3_next0_0 : List UInt8 := dkwX3_next0_0 ++ dktX3_next0_1
theorem dksX3_next0_0 : cX3_next0.data.toList.drop 0 = dktX3_next0_0 := by decide +kernel
theorem dksX3_next0_1 : cX3_next0.data.toList.drop 23 = dktX3_next0_1 := dk_seg dksX3_next0_0 23 rfl rfl
theorem dksX3_next0_2 : cX3_next0.data.toList.drop 47 = dktX3_next0_2 := dk_seg dksX3_next0_1 24 rfl rfl
theorem dksX3_next0_3 : cX3_next0.data.toList.drop 70 = dktX3_next0_3 := dk_seg dksX3_next0_2 23 rfl rfl
theorem dksX3_next0_4 : cX3_next0.data.toList.drop 92 = dktX3_next0_4 := dk_seg dksX3_next0_3 22 rfl rfl
theorem dksX3_next0_5 : cX3_next0.data.toList.drop 115 = dktX3_next0_5 := dk_seg dksX3_next0_4 23 rfl rfl
theorem dksX3_next0_6 : cX3_next0.data.toList.drop 137 = dktX3_next0_6 := dk_seg dksX3_next0_5 22 rfl rfl
theorem dksX3_next0_7 : cX3_next0.data.toList.drop 161 = dktX3_next0_7 := dk_seg dksX3_next0_6 24 rfl rfl
theorem dksX3_next0_8 : cX3_next0.data.toList.drop 183 = dktX3_next0_8 := dk_seg dksX3_next0_7 22 rfl rfl
theorem dksX3_next0_9 : cX3_next0.data.toList.drop 207 = dktX3_next0_9 := dk_seg dksX3_next0_8 24 rfl rfl
theorem dksX3_next0_10 : cX3_next0.data.toList.drop 231 = dktX3_next0_10 := dk_seg dksX3_next0_9 24 rfl rfl
theorem dksX3_next0_11 : cX3_next0.data.toList.drop 255 = dktX3_next0_11 := dk_seg dksX3_next0_10 24 rfl rfl
theorem dksX3_next0_12 : cX3_next0.data.toList.drop 279 = dktX3_next0_12 := dk_seg dksX3_next0_11 24 rfl rfl
theorem dksX3_next0_13 : cX3_next0.data.toList.drop 303 = dktX3_next0_13 := dk_seg dksX3_next0_12 24 rfl rfl
theorem dX3_next0_0 : decode cX3_next0 0 = .ok (.aload_n 0, 1) := dk_42 (dk_at dksX3_next0_0 0 rfl rfl)
theorem dX3_next0_1 : decode cX3_next0 1 = .ok (.aload_n 0, 1) := dk_42 (dk_at dksX3_next0_0 1 rfl rfl)
theorem dX3_next0_2 : decode cX3_next0 2 = .ok (.getfield 78, 3) := dk_180 0 78 (dk_at dksX3_next0_0 2 rfl rfl)
theorem dX3_next0_5 : decode cX3_next0 5 = .ok (.invokevirtual 131, 3) := dk_182 0 131 (dk_at dksX3_next0_0 5 rfl rfl)
theorem dX3_next0_8 : decode cX3_next0 8 = .ok (.bipush 32, 2) := dk_16 32 (dk_at dksX3_next0_0 8 rfl rfl)
theorem dX3_next0_10 : decode cX3_next0 10 = .ok (.if_icmp .eq 16, 3) := dk_159 0 16 (dk_at dksX3_next0_0 10 rfl rfl)
theorem dX3_next0_13 : decode cX3_next0 13 = .ok (.aload_n 0, 1) := dk_42 (dk_at dksX3_next0_0 13 rfl rfl)
theorem dX3_next0_14 : decode cX3_next0 14 = .ok (.aload_n 0, 1) := dk_42 (dk_at dksX3_next0_0 14 rfl rfl)
theorem dX3_next0_15 : decode cX3_next0 15 = .ok (.getfield 78, 3) := dk_180 0 78 (dk_at dksX3_next0_0 15 rfl rfl)
theorem dX3_next0_18 : decode cX3_next0 18 = .ok (.invokevirtual 131, 3) := dk_182 0 131 (dk_at dksX3_next0_0 18 rfl rfl)
theorem dX3_next0_21 : decode cX3_next0 21 = .ok (.bipush 10, 2) := dk_16 10 (dk_at dksX3_next0_0 21 rfl rfl)
theorem dX3_next0_23 : decode cX3_next0 23 = .ok (.if_icmp .ne 16, 3) := dk_160 0 16 (dk_at dksX3_next0_1 0 rfl rfl)
theorem dX3_next0_26 : decode cX3_next0 26 = .ok (.aload_n 0, 1) := dk_42 (dk_at dksX3_next0_1 3 rfl rfl)
theorem dX3_next0_27 : decode cX3_next0 27 = .ok (.dup, 1) := dk_89 (dk_at dksX3_next0_1 4 rfl rfl)
theorem dX3_next0_28 : decode cX3_next0 28 = .ok (.getfield 78, 3) := dk_180 0 78 (dk_at dksX3_next0_1 5 rfl rfl)
theorem dX3_next0_31 : decode cX3_next0 31 = .ok (.iconst 1, 1) := dk_4 (dk_at dksX3_next0_1 8 rfl rfl)
theorem dX3_next0_32 : decode cX3_next0 32 = .ok (.iadd, 1) := dk_96 (dk_at dksX3_next0_1 9 rfl rfl)
theorem dX3_next0_33 : decode cX3_next0 33 = .ok (.putfield 78, 3) := dk_181 0 78 (dk_at dksX3_next0_1 10 rfl rfl)
theorem dX3_next0_36 : decode cX3_next0 36 = .ok (.goto (-36), 3) := dk_167 255 220 (dk_at dksX3_next0_1 13 rfl rfl)
theorem dX3_next0_39 : decode cX3_next0 39 = .ok (.aload_n 0, 1) := dk_42 (dk_at dksX3_next0_1 16 rfl rfl)
theorem dX3_next0_40 : decode cX3_next0 40 = .ok (.aload_n 0, 1) := dk_42 (dk_at dksX3_next0_1 17 rfl rfl)
theorem dX3_next0_41 : decode cX3_next0 41 = .ok (.getfield 78, 3) := dk_180 0 78 (dk_at dksX3_next0_1 18 rfl rfl)
theorem dX3_next0_44 : decode cX3_next0 44 = .ok (.putfield 81, 3) := dk_181 0 81 (dk_at dksX3_next0_1 21 rfl rfl)
theorem dX3_next0_47 : decode cX3_next0 47 = .ok (.aload_n 0, 1) := dk_42 (dk_at dksX3_next0_2 0 rfl rfl)
theorem dX3_next0_48 : decode cX3_next0 48 = .ok (.aload_n 0, 1) := dk_42 (dk_at dksX3_next0_2 1 rfl rfl)
theorem dX3_next0_49 : decode cX3_next0 49 = .ok (.getfield 78, 3) := dk_180 0 78 (dk_at dksX3_next0_2 2 rfl rfl)
theorem dX3_next0_52 : decode cX3_next0 52 = .ok (.invokevirtual 131, 3) := dk_182 0 131 (dk_at dksX3_next0_2 5 rfl rfl)
theorem dX3_next0_55 : decode cX3_next0 55 = .ok (.istore_n 1, 1) := dk_60 (dk_at dksX3_next0_2 8 rfl rfl)
theorem dX3_next0_56 : decode cX3_next0 56 = .ok (.iload_n 1, 1) := dk_27 (dk_at dksX3_next0_2 9 rfl rfl)
theorem dX3_next0_57 : decode cX3_next0 57 = .ok (.iconst (-1), 1) := dk_2 (dk_at dksX3_next0_2 10 rfl rfl)
theorem dX3_next0_58 : decode cX3_next0 58 = .ok (.if_icmp .ne 11, 3) := dk_160 0 11 (dk_at dksX3_next0_2 11 rfl rfl)
theorem dX3_next0_61 : decode cX3_next0 61 = .ok (.aload_n 0, 1) := dk_42 (dk_at dksX3_next0_2 14 rfl rfl)
theorem dX3_next0_62 : decode cX3_next0 62 = .ok (.iconst 0, 1) := dk_3 (dk_at dksX3_next0_2 15 rfl rfl)
theorem dX3_next0_63 : decode cX3_next0 63 = .ok (.putfield 135, 3) := dk_181 0 135 (dk_at dksX3_next0_2 16 rfl rfl)
theorem dX3_next0_66 : decode cX3_next0 66 = .ok (.goto 240, 3) := dk_167 0 240 (dk_at dksX3_next0_2 19 rfl rfl)
theorem dX3_next0_69 : decode cX3_next0 69 = .ok (.iload_n 1, 1) := dk_27 (dk_at dksX3_next0_2 22 rfl rfl)
theorem dX3_next0_70 : decode cX3_next0 70 = .ok (.invokestatic 138, 3) := dk_184 0 138 (dk_at dksX3_next0_3 0 rfl rfl)
theorem dX3_next0_73 : decode cX3_next0 73 = .ok (.ifCond .eq 41, 3) := dk_153 0 41 (dk_at dksX3_next0_3 3 rfl rfl)
theorem dX3_next0_76 : decode cX3_next0 76 = .ok (.aload_n 0, 1) := dk_42 (dk_at dksX3_next0_3 6 rfl rfl)
theorem dX3_next0_77 : decode cX3_next0 77 = .ok (.aload_n 0, 1) := dk_42 (dk_at dksX3_next0_3 7 rfl rfl)
theorem dX3_next0_78 : decode cX3_next0 78 = .ok (.getfield 78, 3) := dk_180 0 78 (dk_at dksX3_next0_3 8 rfl rfl)
theorem dX3_next0_81 : decode cX3_next0 81 = .ok (.invokevirtual 131, 3) := dk_182 0 131 (dk_at dksX3_next0_3 11 rfl rfl)
theorem dX3_next0_84 : decode cX3_next0 84 = .ok (.invokestatic 138, 3) := dk_184 0 138 (dk_at dksX3_next0_3 14 rfl rfl)
theorem dX3_next0_87 : decode cX3_next0 87 = .ok (.ifCond .eq 16, 3) := dk_153 0 16 (dk_at dksX3_next0_3 17 rfl rfl)
theorem dX3_next0_90 : decode cX3_next0 90 = .ok (.aload_n 0, 1) := dk_42 (dk_at dksX3_next0_3 20 rfl rfl)
theorem dX3_next0_91 : decode cX3_next0 91 = .ok (.dup, 1) := dk_89 (dk_at dksX3_next0_3 21 rfl rfl)
theorem dX3_next0_92 : decode cX3_next0 92 = .ok (.getfield 78, 3) := dk_180 0 78 (dk_at dksX3_next0_4 0 rfl rfl)
theorem dX3_next0_95 : decode cX3_next0 95 = .ok (.iconst 1, 1) := dk_4 (dk_at dksX3_next0_4 3 rfl rfl)
theorem dX3_next0_96 : decode cX3_next0 96 = .ok (.iadd, 1) := dk_96 (dk_at dksX3_next0_4 4 rfl rfl)
theorem dX3_next0_97 : decode cX3_next0 97 = .ok (.putfield 78, 3) := dk_181 0 78 (dk_at dksX3_next0_4 5 rfl rfl)
theorem dX3_next0_100 : decode cX3_next0 100 = .ok (.goto (-24), 3) := dk_167 255 232 (dk_at dksX3_next0_4 8 rfl rfl)
theorem dX3_next0_103 : decode cX3_next0 103 = .ok (.aload_n 0, 1) := dk_42 (dk_at dksX3_next0_4 11 rfl rfl)
theorem dX3_next0_104 : decode cX3_next0 104 = .ok (.aload_n 0, 1) := dk_42 (dk_at dksX3_next0_4 12 rfl rfl)
theorem dX3_next0_105 : decode cX3_next0 105 = .ok (.invokevirtual 142, 3) := dk_182 0 142 (dk_at dksX3_next0_4 13 rfl rfl)
theorem dX3_next0_108 : decode cX3_next0 108 = .ok (.putfield 135, 3) := dk_181 0 135 (dk_at dksX3_next0_4 16 rfl rfl)
theorem dX3_next0_111 : decode cX3_next0 111 = .ok (.goto 195, 3) := dk_167 0 195 (dk_at dksX3_next0_4 19 rfl rfl)
theorem dX3_next0_114 : decode cX3_next0 114 = .ok (.iload_n 1, 1) := dk_27 (dk_at dksX3_next0_4 22 rfl rfl)
theorem dX3_next0_115 : decode cX3_next0 115 = .ok (.invokestatic 145, 3) := dk_184 0 145 (dk_at dksX3_next0_5 0 rfl rfl)
theorem dX3_next0_118 : decode cX3_next0 118 = .ok (.ifCond .eq 96, 3) := dk_153 0 96 (dk_at dksX3_next0_5 3 rfl rfl)
theorem dX3_next0_121 : decode cX3_next0 121 = .ok (.aload_n 0, 1) := dk_42 (dk_at dksX3_next0_5 6 rfl rfl)
theorem dX3_next0_122 : decode cX3_next0 122 = .ok (.iconst 0, 1) := dk_3 (dk_at dksX3_next0_5 7 rfl rfl)
theorem dX3_next0_123 : decode cX3_next0 123 = .ok (.putfield 148, 3) := dk_181 0 148 (dk_at dksX3_next0_5 8 rfl rfl)
theorem dX3_next0_126 : decode cX3_next0 126 = .ok (.aload_n 0, 1) := dk_42 (dk_at dksX3_next0_5 11 rfl rfl)
theorem dX3_next0_127 : decode cX3_next0 127 = .ok (.aload_n 0, 1) := dk_42 (dk_at dksX3_next0_5 12 rfl rfl)
theorem dX3_next0_128 : decode cX3_next0 128 = .ok (.getfield 78, 3) := dk_180 0 78 (dk_at dksX3_next0_5 13 rfl rfl)
theorem dX3_next0_131 : decode cX3_next0 131 = .ok (.invokevirtual 131, 3) := dk_182 0 131 (dk_at dksX3_next0_5 16 rfl rfl)
theorem dX3_next0_134 : decode cX3_next0 134 = .ok (.invokestatic 145, 3) := dk_184 0 145 (dk_at dksX3_next0_5 19 rfl rfl)
theorem dX3_next0_137 : decode cX3_next0 137 = .ok (.ifCond .eq 52, 3) := dk_153 0 52 (dk_at dksX3_next0_6 0 rfl rfl)
theorem dX3_next0_140 : decode cX3_next0 140 = .ok (.aload_n 0, 1) := dk_42 (dk_at dksX3_next0_6 3 rfl rfl)
theorem dX3_next0_141 : decode cX3_next0 141 = .ok (.getfield 78, 3) := dk_180 0 78 (dk_at dksX3_next0_6 4 rfl rfl)
theorem dX3_next0_144 : decode cX3_next0 144 = .ok (.aload_n 0, 1) := dk_42 (dk_at dksX3_next0_6 7 rfl rfl)
theorem dX3_next0_145 : decode cX3_next0 145 = .ok (.getfield 81, 3) := dk_180 0 81 (dk_at dksX3_next0_6 8 rfl rfl)
theorem dX3_next0_148 : decode cX3_next0 148 = .ok (.iconst 4, 1) := dk_7 (dk_at dksX3_next0_6 11 rfl rfl)
theorem dX3_next0_149 : decode cX3_next0 149 = .ok (.iadd, 1) := dk_96 (dk_at dksX3_next0_6 12 rfl rfl)
theorem dX3_next0_150 : decode cX3_next0 150 = .ok (.if_icmp .ge 26, 3) := dk_162 0 26 (dk_at dksX3_next0_6 13 rfl rfl)
theorem dX3_next0_153 : decode cX3_next0 153 = .ok (.aload_n 0, 1) := dk_42 (dk_at dksX3_next0_6 16 rfl rfl)
theorem dX3_next0_154 : decode cX3_next0 154 = .ok (.bipush 10, 2) := dk_16 10 (dk_at dksX3_next0_6 17 rfl rfl)
theorem dX3_next0_156 : decode cX3_next0 156 = .ok (.aload_n 0, 1) := dk_42 (dk_at dksX3_next0_6 19 rfl rfl)
theorem dX3_next0_157 : decode cX3_next0 157 = .ok (.getfield 148, 3) := dk_180 0 148 (dk_at dksX3_next0_6 20 rfl rfl)
theorem dX3_next0_160 : decode cX3_next0 160 = .ok (.imul, 1) := dk_104 (dk_at dksX3_next0_6 23 rfl rfl)
theorem dX3_next0_161 : decode cX3_next0 161 = .ok (.aload_n 0, 1) := dk_42 (dk_at dksX3_next0_7 0 rfl rfl)
theorem dX3_next0_162 : decode cX3_next0 162 = .ok (.aload_n 0, 1) := dk_42 (dk_at dksX3_next0_7 1 rfl rfl)
theorem dX3_next0_163 : decode cX3_next0 163 = .ok (.getfield 78, 3) := dk_180 0 78 (dk_at dksX3_next0_7 2 rfl rfl)
theorem dX3_next0_166 : decode cX3_next0 166 = .ok (.invokevirtual 131, 3) := dk_182 0 131 (dk_at dksX3_next0_7 5 rfl rfl)
theorem dX3_next0_169 : decode cX3_next0 169 = .ok (.iadd, 1) := dk_96 (dk_at dksX3_next0_7 8 rfl rfl)
theorem dX3_next0_170 : decode cX3_next0 170 = .ok (.bipush 48, 2) := dk_16 48 (dk_at dksX3_next0_7 9 rfl rfl)
theorem dX3_next0_172 : decode cX3_next0 172 = .ok (.isub, 1) := dk_100 (dk_at dksX3_next0_7 11 rfl rfl)
theorem dX3_next0_173 : decode cX3_next0 173 = .ok (.putfield 148, 3) := dk_181 0 148 (dk_at dksX3_next0_7 12 rfl rfl)
theorem dX3_next0_176 : decode cX3_next0 176 = .ok (.aload_n 0, 1) := dk_42 (dk_at dksX3_next0_7 15 rfl rfl)
theorem dX3_next0_177 : decode cX3_next0 177 = .ok (.dup, 1) := dk_89 (dk_at dksX3_next0_7 16 rfl rfl)
theorem dX3_next0_178 : decode cX3_next0 178 = .ok (.getfield 78, 3) := dk_180 0 78 (dk_at dksX3_next0_7 17 rfl rfl)
theorem dX3_next0_181 : decode cX3_next0 181 = .ok (.iconst 1, 1) := dk_4 (dk_at dksX3_next0_7 20 rfl rfl)
theorem dX3_next0_182 : decode cX3_next0 182 = .ok (.iadd, 1) := dk_96 (dk_at dksX3_next0_7 21 rfl rfl)
theorem dX3_next0_183 : decode cX3_next0 183 = .ok (.putfield 78, 3) := dk_181 0 78 (dk_at dksX3_next0_8 0 rfl rfl)
theorem dX3_next0_186 : decode cX3_next0 186 = .ok (.goto (-60), 3) := dk_167 255 196 (dk_at dksX3_next0_8 3 rfl rfl)
theorem dX3_next0_189 : decode cX3_next0 189 = .ok (.aload_n 0, 1) := dk_42 (dk_at dksX3_next0_8 6 rfl rfl)
theorem dX3_next0_190 : decode cX3_next0 190 = .ok (.aload_n 0, 1) := dk_42 (dk_at dksX3_next0_8 7 rfl rfl)
theorem dX3_next0_191 : decode cX3_next0 191 = .ok (.getfield 78, 3) := dk_180 0 78 (dk_at dksX3_next0_8 8 rfl rfl)
theorem dX3_next0_194 : decode cX3_next0 194 = .ok (.aload_n 0, 1) := dk_42 (dk_at dksX3_next0_8 11 rfl rfl)
theorem dX3_next0_195 : decode cX3_next0 195 = .ok (.getfield 81, 3) := dk_180 0 81 (dk_at dksX3_next0_8 12 rfl rfl)
theorem dX3_next0_198 : decode cX3_next0 198 = .ok (.isub, 1) := dk_100 (dk_at dksX3_next0_8 15 rfl rfl)
theorem dX3_next0_199 : decode cX3_next0 199 = .ok (.iconst 5, 1) := dk_8 (dk_at dksX3_next0_8 16 rfl rfl)
theorem dX3_next0_200 : decode cX3_next0 200 = .ok (.if_icmp .ge 7, 3) := dk_162 0 7 (dk_at dksX3_next0_8 17 rfl rfl)
theorem dX3_next0_203 : decode cX3_next0 203 = .ok (.iconst 2, 1) := dk_5 (dk_at dksX3_next0_8 20 rfl rfl)
theorem dX3_next0_204 : decode cX3_next0 204 = .ok (.goto 4, 3) := dk_167 0 4 (dk_at dksX3_next0_8 21 rfl rfl)
theorem dX3_next0_207 : decode cX3_next0 207 = .ok (.iconst 1, 1) := dk_4 (dk_at dksX3_next0_9 0 rfl rfl)
theorem dX3_next0_208 : decode cX3_next0 208 = .ok (.putfield 135, 3) := dk_181 0 135 (dk_at dksX3_next0_9 1 rfl rfl)
theorem dX3_next0_211 : decode cX3_next0 211 = .ok (.goto 95, 3) := dk_167 0 95 (dk_at dksX3_next0_9 4 rfl rfl)
theorem dX3_next0_214 : decode cX3_next0 214 = .ok (.aload_n 0, 1) := dk_42 (dk_at dksX3_next0_9 7 rfl rfl)
theorem dX3_next0_215 : decode cX3_next0 215 = .ok (.dup, 1) := dk_89 (dk_at dksX3_next0_9 8 rfl rfl)
theorem dX3_next0_216 : decode cX3_next0 216 = .ok (.getfield 78, 3) := dk_180 0 78 (dk_at dksX3_next0_9 9 rfl rfl)
theorem dX3_next0_219 : decode cX3_next0 219 = .ok (.iconst 1, 1) := dk_4 (dk_at dksX3_next0_9 12 rfl rfl)
theorem dX3_next0_220 : decode cX3_next0 220 = .ok (.iadd, 1) := dk_96 (dk_at dksX3_next0_9 13 rfl rfl)
theorem dX3_next0_221 : decode cX3_next0 221 = .ok (.putfield 78, 3) := dk_181 0 78 (dk_at dksX3_next0_9 14 rfl rfl)
theorem dX3_next0_224 : decode cX3_next0 224 = .ok (.iload_n 1, 1) := dk_27 (dk_at dksX3_next0_9 17 rfl rfl)
theorem dX3_next0_225 : decode cX3_next0 225 = .ok (.bipush 59, 2) := dk_16 59 (dk_at dksX3_next0_9 18 rfl rfl)
theorem dX3_next0_227 : decode cX3_next0 227 = .ok (.if_icmp .eq 57, 3) := dk_159 0 57 (dk_at dksX3_next0_9 20 rfl rfl)
theorem dX3_next0_230 : decode cX3_next0 230 = .ok (.iload_n 1, 1) := dk_27 (dk_at dksX3_next0_9 23 rfl rfl)
theorem dX3_next0_231 : decode cX3_next0 231 = .ok (.bipush 43, 2) := dk_16 43 (dk_at dksX3_next0_10 0 rfl rfl)
theorem dX3_next0_233 : decode cX3_next0 233 = .ok (.if_icmp .eq 51, 3) := dk_159 0 51 (dk_at dksX3_next0_10 2 rfl rfl)
theorem dX3_next0_236 : decode cX3_next0 236 = .ok (.iload_n 1, 1) := dk_27 (dk_at dksX3_next0_10 5 rfl rfl)
theorem dX3_next0_237 : decode cX3_next0 237 = .ok (.bipush 45, 2) := dk_16 45 (dk_at dksX3_next0_10 6 rfl rfl)
theorem dX3_next0_239 : decode cX3_next0 239 = .ok (.if_icmp .eq 45, 3) := dk_159 0 45 (dk_at dksX3_next0_10 8 rfl rfl)
theorem dX3_next0_242 : decode cX3_next0 242 = .ok (.iload_n 1, 1) := dk_27 (dk_at dksX3_next0_10 11 rfl rfl)
theorem dX3_next0_243 : decode cX3_next0 243 = .ok (.bipush 42, 2) := dk_16 42 (dk_at dksX3_next0_10 12 rfl rfl)
theorem dX3_next0_245 : decode cX3_next0 245 = .ok (.if_icmp .eq 39, 3) := dk_159 0 39 (dk_at dksX3_next0_10 14 rfl rfl)
theorem dX3_next0_248 : decode cX3_next0 248 = .ok (.iload_n 1, 1) := dk_27 (dk_at dksX3_next0_10 17 rfl rfl)
theorem dX3_next0_249 : decode cX3_next0 249 = .ok (.bipush 47, 2) := dk_16 47 (dk_at dksX3_next0_10 18 rfl rfl)
theorem dX3_next0_251 : decode cX3_next0 251 = .ok (.if_icmp .eq 33, 3) := dk_159 0 33 (dk_at dksX3_next0_10 20 rfl rfl)
theorem dX3_next0_254 : decode cX3_next0 254 = .ok (.iload_n 1, 1) := dk_27 (dk_at dksX3_next0_10 23 rfl rfl)
theorem dX3_next0_255 : decode cX3_next0 255 = .ok (.bipush 40, 2) := dk_16 40 (dk_at dksX3_next0_11 0 rfl rfl)
theorem dX3_next0_257 : decode cX3_next0 257 = .ok (.if_icmp .eq 27, 3) := dk_159 0 27 (dk_at dksX3_next0_11 2 rfl rfl)
theorem dX3_next0_260 : decode cX3_next0 260 = .ok (.iload_n 1, 1) := dk_27 (dk_at dksX3_next0_11 5 rfl rfl)
theorem dX3_next0_261 : decode cX3_next0 261 = .ok (.bipush 41, 2) := dk_16 41 (dk_at dksX3_next0_11 6 rfl rfl)
theorem dX3_next0_263 : decode cX3_next0 263 = .ok (.if_icmp .eq 21, 3) := dk_159 0 21 (dk_at dksX3_next0_11 8 rfl rfl)
theorem dX3_next0_266 : decode cX3_next0 266 = .ok (.iload_n 1, 1) := dk_27 (dk_at dksX3_next0_11 11 rfl rfl)
theorem dX3_next0_267 : decode cX3_next0 267 = .ok (.bipush 60, 2) := dk_16 60 (dk_at dksX3_next0_11 12 rfl rfl)
theorem dX3_next0_269 : decode cX3_next0 269 = .ok (.if_icmp .eq 15, 3) := dk_159 0 15 (dk_at dksX3_next0_11 14 rfl rfl)
theorem dX3_next0_272 : decode cX3_next0 272 = .ok (.iload_n 1, 1) := dk_27 (dk_at dksX3_next0_11 17 rfl rfl)
theorem dX3_next0_273 : decode cX3_next0 273 = .ok (.bipush 61, 2) := dk_16 61 (dk_at dksX3_next0_11 18 rfl rfl)
theorem dX3_next0_275 : decode cX3_next0 275 = .ok (.if_icmp .eq 9, 3) := dk_159 0 9 (dk_at dksX3_next0_11 20 rfl rfl)
theorem dX3_next0_278 : decode cX3_next0 278 = .ok (.iload_n 1, 1) := dk_27 (dk_at dksX3_next0_11 23 rfl rfl)
theorem dX3_next0_279 : decode cX3_next0 279 = .ok (.bipush 62, 2) := dk_16 62 (dk_at dksX3_next0_12 0 rfl rfl)
theorem dX3_next0_281 : decode cX3_next0 281 = .ok (.if_icmp .ne 7, 3) := dk_160 0 7 (dk_at dksX3_next0_12 2 rfl rfl)
theorem dX3_next0_284 : decode cX3_next0 284 = .ok (.iconst 1, 1) := dk_4 (dk_at dksX3_next0_12 5 rfl rfl)
theorem dX3_next0_285 : decode cX3_next0 285 = .ok (.goto 4, 3) := dk_167 0 4 (dk_at dksX3_next0_12 6 rfl rfl)
theorem dX3_next0_288 : decode cX3_next0 288 = .ok (.iconst 0, 1) := dk_3 (dk_at dksX3_next0_12 9 rfl rfl)
theorem dX3_next0_289 : decode cX3_next0 289 = .ok (.istore_n 2, 1) := dk_61 (dk_at dksX3_next0_12 10 rfl rfl)
theorem dX3_next0_290 : decode cX3_next0 290 = .ok (.aload_n 0, 1) := dk_42 (dk_at dksX3_next0_12 11 rfl rfl)
theorem dX3_next0_291 : decode cX3_next0 291 = .ok (.iload_n 2, 1) := dk_28 (dk_at dksX3_next0_12 12 rfl rfl)
theorem dX3_next0_292 : decode cX3_next0 292 = .ok (.ifCond .eq 10, 3) := dk_153 0 10 (dk_at dksX3_next0_12 13 rfl rfl)
theorem dX3_next0_295 : decode cX3_next0 295 = .ok (.bipush 100, 2) := dk_16 100 (dk_at dksX3_next0_12 16 rfl rfl)
theorem dX3_next0_297 : decode cX3_next0 297 = .ok (.iload_n 1, 1) := dk_27 (dk_at dksX3_next0_12 18 rfl rfl)
theorem dX3_next0_298 : decode cX3_next0 298 = .ok (.iadd, 1) := dk_96 (dk_at dksX3_next0_12 19 rfl rfl)
theorem dX3_next0_299 : decode cX3_next0 299 = .ok (.goto 4, 3) := dk_167 0 4 (dk_at dksX3_next0_12 20 rfl rfl)
theorem dX3_next0_302 : decode cX3_next0 302 = .ok (.iconst 1, 1) := dk_4 (dk_at dksX3_next0_12 23 rfl rfl)
theorem dX3_next0_303 : decode cX3_next0 303 = .ok (.putfield 135, 3) := dk_181 0 135 (dk_at dksX3_next0_13 0 rfl rfl)
theorem dX3_next0_306 : decode cX3_next0 306 = .ok (.return_, 1) := dk_177 (dk_at dksX3_next0_13 3 rfl rfl)
abbrev cX3_see : ByteArray := prog_14_method_11_code
def yX3_see : MethodName := ⟨RX3, "see", "(I)I"⟩
def dkwX3_see_0 : List UInt8 := [27, 42, 180, 0, 75, 162, 0, 12, 42, 180, 0, 25, 27, 46, 167, 0, 4, 2, 172]
abbrev dktX3_see_0 : List UInt8 := dkwX3_see_0 ++ []
theorem dksX3_see_0 : cX3_see.data.toList.drop 0 = dktX3_see_0 := by decide +kernel
theorem dX3_see_0 : decode cX3_see 0 = .ok (.iload_n 1, 1) := dk_27 (dk_at dksX3_see_0 0 rfl rfl)
theorem dX3_see_1 : decode cX3_see 1 = .ok (.aload_n 0, 1) := dk_42 (dk_at dksX3_see_0 1 rfl rfl)
theorem dX3_see_2 : decode cX3_see 2 = .ok (.getfield 75, 3) := dk_180 0 75 (dk_at dksX3_see_0 2 rfl rfl)
theorem dX3_see_5 : decode cX3_see 5 = .ok (.if_icmp .ge 12, 3) := dk_162 0 12 (dk_at dksX3_see_0 5 rfl rfl)
theorem dX3_see_8 : decode cX3_see 8 = .ok (.aload_n 0, 1) := dk_42 (dk_at dksX3_see_0 8 rfl rfl)
theorem dX3_see_9 : decode cX3_see 9 = .ok (.getfield 25, 3) := dk_180 0 25 (dk_at dksX3_see_0 9 rfl rfl)
theorem dX3_see_12 : decode cX3_see 12 = .ok (.iload_n 1, 1) := dk_27 (dk_at dksX3_see_0 12 rfl rfl)
theorem dX3_see_13 : decode cX3_see 13 = .ok (.iaload, 1) := dk_46 (dk_at dksX3_see_0 13 rfl rfl)
theorem dX3_see_14 : decode cX3_see 14 = .ok (.goto 4, 3) := dk_167 0 4 (dk_at dksX3_see_0 14 rfl rfl)
theorem dX3_see_17 : decode cX3_see 17 = .ok (.iconst (-1), 1) := dk_2 (dk_at dksX3_see_0 17 rfl rfl)
theorem dX3_see_18 : decode cX3_see 18 = .ok (.ireturn, 1) := dk_172 (dk_at dksX3_see_0 18 rfl rfl)
abbrev cX3_isLetter : ByteArray := prog_14_method_12_code
def yX3_isLetter : MethodName := ⟨RX3, "isLetter", "(I)Z"⟩
def dkwX3_isLetter_1 : List UInt8 := [167, 0, 4, 3, 172]
abbrev dktX3_isLetter_1 : List UInt8 := dkwX3_isLetter_1 ++ []
def dkwX3_isLetter_0 : List UInt8 := [26, 16, 97, 16, 122, 184, 0, 66, 154, 0, 14, 26, 16, 65, 16, 90, 184, 0, 66, 153, 0, 7, 4]
abbrev dktX3_isLetter_0 : List UInt8 := dkwX3_isLetter_0 ++ dktX3_isLetter_1
theorem dksX3_isLetter_0 : cX3_isLetter.data.toList.drop 0 = dktX3_isLetter_0 := by decide +kernel
theorem dksX3_isLetter_1 : cX3_isLetter.data.toList.drop 23 = dktX3_isLetter_1 := dk_seg dksX3_isLetter_0 23 rfl rfl
theorem dX3_isLetter_0 : decode cX3_isLetter 0 = .ok (.iload_n 0, 1) := dk_26 (dk_at dksX3_isLetter_0 0 rfl rfl)
theorem dX3_isLetter_1 : decode cX3_isLetter 1 = .ok (.bipush 97, 2) := dk_16 97 (dk_at dksX3_isLetter_0 1 rfl rfl)
theorem dX3_isLetter_3 : decode cX3_isLetter 3 = .ok (.bipush 122, 2) := dk_16 122 (dk_at dksX3_isLetter_0 3 rfl rfl)
theorem dX3_isLetter_5 : decode cX3_isLetter 5 = .ok (.invokestatic 66, 3) := dk_184 0 66 (dk_at dksX3_isLetter_0 5 rfl rfl)
theorem dX3_isLetter_8 : decode cX3_isLetter 8 = .ok (.ifCond .ne 14, 3) := dk_154 0 14 (dk_at dksX3_isLetter_0 8 rfl rfl)
theorem dX3_isLetter_11 : decode cX3_isLetter 11 = .ok (.iload_n 0, 1) := dk_26 (dk_at dksX3_isLetter_0 11 rfl rfl)
theorem dX3_isLetter_12 : decode cX3_isLetter 12 = .ok (.bipush 65, 2) := dk_16 65 (dk_at dksX3_isLetter_0 12 rfl rfl)
theorem dX3_isLetter_14 : decode cX3_isLetter 14 = .ok (.bipush 90, 2) := dk_16 90 (dk_at dksX3_isLetter_0 14 rfl rfl)
theorem dX3_isLetter_16 : decode cX3_isLetter 16 = .ok (.invokestatic 66, 3) := dk_184 0 66 (dk_at dksX3_isLetter_0 16 rfl rfl)
theorem dX3_isLetter_19 : decode cX3_isLetter 19 = .ok (.ifCond .eq 7, 3) := dk_153 0 7 (dk_at dksX3_isLetter_0 19 rfl rfl)
theorem dX3_isLetter_22 : decode cX3_isLetter 22 = .ok (.iconst 1, 1) := dk_4 (dk_at dksX3_isLetter_0 22 rfl rfl)
theorem dX3_isLetter_23 : decode cX3_isLetter 23 = .ok (.goto 4, 3) := dk_167 0 4 (dk_at dksX3_isLetter_1 0 rfl rfl)
theorem dX3_isLetter_26 : decode cX3_isLetter 26 = .ok (.iconst 0, 1) := dk_3 (dk_at dksX3_isLetter_1 3 rfl rfl)
theorem dX3_isLetter_27 : decode cX3_isLetter 27 = .ok (.ireturn, 1) := dk_172 (dk_at dksX3_isLetter_1 4 rfl rfl)
abbrev cX3_word : ByteArray := prog_14_method_16_code
def yX3_word : MethodName := ⟨RX3, "word", "()I"⟩
def dkwX3_word_2 : List UInt8 := [18, 126, 182, 0, 96, 153, 0, 8, 16, 20, 167, 0, 7, 42, 182, 0, 128, 172]
abbrev dktX3_word_2 : List UInt8 := dkwX3_word_2 ++ []
def dkwX3_word_1 : List UInt8 := [18, 122, 182, 0, 96, 153, 0, 5, 8, 172, 42, 18, 124, 182, 0, 96, 153, 0, 6, 16, 6, 172, 42]
abbrev dktX3_word_1 : List UInt8 := dkwX3_word_1 ++ dktX3_word_2
def dkwX3_word_0 : List UInt8 := [42, 18, 118, 182, 0, 96, 153, 0, 5, 6, 172, 42, 18, 120, 182, 0, 96, 153, 0, 5, 7, 172, 42]
abbrev dktX3_word_0 : List UInt8 := dkwX3_word_0 ++ dktX3_word_1
theorem dksX3_word_0 : cX3_word.data.toList.drop 0 = dktX3_word_0 := by decide +kernel
theorem dksX3_word_1 : cX3_word.data.toList.drop 23 = dktX3_word_1 := dk_seg dksX3_word_0 23 rfl rfl
theorem dksX3_word_2 : cX3_word.data.toList.drop 46 = dktX3_word_2 := dk_seg dksX3_word_1 23 rfl rfl
theorem dX3_word_0 : decode cX3_word 0 = .ok (.aload_n 0, 1) := dk_42 (dk_at dksX3_word_0 0 rfl rfl)
theorem dX3_word_1 : decode cX3_word 1 = .ok (.ldc 118, 2) := dk_18 118 (dk_at dksX3_word_0 1 rfl rfl)
theorem dX3_word_3 : decode cX3_word 3 = .ok (.invokevirtual 96, 3) := dk_182 0 96 (dk_at dksX3_word_0 3 rfl rfl)
theorem dX3_word_6 : decode cX3_word 6 = .ok (.ifCond .eq 5, 3) := dk_153 0 5 (dk_at dksX3_word_0 6 rfl rfl)
theorem dX3_word_9 : decode cX3_word 9 = .ok (.iconst 3, 1) := dk_6 (dk_at dksX3_word_0 9 rfl rfl)
theorem dX3_word_10 : decode cX3_word 10 = .ok (.ireturn, 1) := dk_172 (dk_at dksX3_word_0 10 rfl rfl)
theorem dX3_word_11 : decode cX3_word 11 = .ok (.aload_n 0, 1) := dk_42 (dk_at dksX3_word_0 11 rfl rfl)
theorem dX3_word_12 : decode cX3_word 12 = .ok (.ldc 120, 2) := dk_18 120 (dk_at dksX3_word_0 12 rfl rfl)
theorem dX3_word_14 : decode cX3_word 14 = .ok (.invokevirtual 96, 3) := dk_182 0 96 (dk_at dksX3_word_0 14 rfl rfl)
theorem dX3_word_17 : decode cX3_word 17 = .ok (.ifCond .eq 5, 3) := dk_153 0 5 (dk_at dksX3_word_0 17 rfl rfl)
theorem dX3_word_20 : decode cX3_word 20 = .ok (.iconst 4, 1) := dk_7 (dk_at dksX3_word_0 20 rfl rfl)
theorem dX3_word_21 : decode cX3_word 21 = .ok (.ireturn, 1) := dk_172 (dk_at dksX3_word_0 21 rfl rfl)
theorem dX3_word_22 : decode cX3_word 22 = .ok (.aload_n 0, 1) := dk_42 (dk_at dksX3_word_0 22 rfl rfl)
theorem dX3_word_23 : decode cX3_word 23 = .ok (.ldc 122, 2) := dk_18 122 (dk_at dksX3_word_1 0 rfl rfl)
theorem dX3_word_25 : decode cX3_word 25 = .ok (.invokevirtual 96, 3) := dk_182 0 96 (dk_at dksX3_word_1 2 rfl rfl)
theorem dX3_word_28 : decode cX3_word 28 = .ok (.ifCond .eq 5, 3) := dk_153 0 5 (dk_at dksX3_word_1 5 rfl rfl)
theorem dX3_word_31 : decode cX3_word 31 = .ok (.iconst 5, 1) := dk_8 (dk_at dksX3_word_1 8 rfl rfl)
theorem dX3_word_32 : decode cX3_word 32 = .ok (.ireturn, 1) := dk_172 (dk_at dksX3_word_1 9 rfl rfl)
theorem dX3_word_33 : decode cX3_word 33 = .ok (.aload_n 0, 1) := dk_42 (dk_at dksX3_word_1 10 rfl rfl)
theorem dX3_word_34 : decode cX3_word 34 = .ok (.ldc 124, 2) := dk_18 124 (dk_at dksX3_word_1 11 rfl rfl)
theorem dX3_word_36 : decode cX3_word 36 = .ok (.invokevirtual 96, 3) := dk_182 0 96 (dk_at dksX3_word_1 13 rfl rfl)
theorem dX3_word_39 : decode cX3_word 39 = .ok (.ifCond .eq 6, 3) := dk_153 0 6 (dk_at dksX3_word_1 16 rfl rfl)
theorem dX3_word_42 : decode cX3_word 42 = .ok (.bipush 6, 2) := dk_16 6 (dk_at dksX3_word_1 19 rfl rfl)
theorem dX3_word_44 : decode cX3_word 44 = .ok (.ireturn, 1) := dk_172 (dk_at dksX3_word_1 21 rfl rfl)
theorem dX3_word_45 : decode cX3_word 45 = .ok (.aload_n 0, 1) := dk_42 (dk_at dksX3_word_1 22 rfl rfl)
theorem dX3_word_46 : decode cX3_word 46 = .ok (.ldc 126, 2) := dk_18 126 (dk_at dksX3_word_2 0 rfl rfl)
theorem dX3_word_48 : decode cX3_word 48 = .ok (.invokevirtual 96, 3) := dk_182 0 96 (dk_at dksX3_word_2 2 rfl rfl)
theorem dX3_word_51 : decode cX3_word 51 = .ok (.ifCond .eq 8, 3) := dk_153 0 8 (dk_at dksX3_word_2 5 rfl rfl)
theorem dX3_word_54 : decode cX3_word 54 = .ok (.bipush 20, 2) := dk_16 20 (dk_at dksX3_word_2 8 rfl rfl)
theorem dX3_word_56 : decode cX3_word 56 = .ok (.goto 7, 3) := dk_167 0 7 (dk_at dksX3_word_2 10 rfl rfl)
theorem dX3_word_59 : decode cX3_word 59 = .ok (.aload_n 0, 1) := dk_42 (dk_at dksX3_word_2 13 rfl rfl)
theorem dX3_word_60 : decode cX3_word 60 = .ok (.invokevirtual 128, 3) := dk_182 0 128 (dk_at dksX3_word_2 14 rfl rfl)
theorem dX3_word_63 : decode cX3_word 63 = .ok (.ireturn, 1) := dk_172 (dk_at dksX3_word_2 17 rfl rfl)
abbrev cX3_is : ByteArray := prog_14_method_14_code
def yX3_is : MethodName := ⟨RX3, "is", "(Ljava/lang/String;)Z"⟩
def dkwX3_is_2 : List UInt8 := [29, 182, 0, 90, 160, 0, 7, 4, 167, 0, 4, 3, 61, 132, 3, 1, 167, 255, 216, 28, 172]
abbrev dktX3_is_2 : List UInt8 := dkwX3_is_2 ++ []
def dkwX3_is_1 : List UInt8 := [29, 43, 182, 0, 84, 162, 0, 38, 28, 153, 0, 34, 42, 180, 0, 25, 42, 180, 0, 81, 29, 96, 46, 43]
abbrev dktX3_is_1 : List UInt8 := dkwX3_is_1 ++ dktX3_is_2
def dkwX3_is_0 : List UInt8 := [42, 180, 0, 78, 42, 180, 0, 81, 100, 43, 182, 0, 84, 160, 0, 7, 4, 167, 0, 4, 3, 61, 3, 62]
abbrev dktX3_is_0 : List UInt8 := dkwX3_is_0 ++ dktX3_is_1
theorem dksX3_is_0 : cX3_is.data.toList.drop 0 = dktX3_is_0 := by decide +kernel
theorem dksX3_is_1 : cX3_is.data.toList.drop 24 = dktX3_is_1 := dk_seg dksX3_is_0 24 rfl rfl
theorem dksX3_is_2 : cX3_is.data.toList.drop 48 = dktX3_is_2 := dk_seg dksX3_is_1 24 rfl rfl
theorem dX3_is_0 : decode cX3_is 0 = .ok (.aload_n 0, 1) := dk_42 (dk_at dksX3_is_0 0 rfl rfl)
theorem dX3_is_1 : decode cX3_is 1 = .ok (.getfield 78, 3) := dk_180 0 78 (dk_at dksX3_is_0 1 rfl rfl)
theorem dX3_is_4 : decode cX3_is 4 = .ok (.aload_n 0, 1) := dk_42 (dk_at dksX3_is_0 4 rfl rfl)
theorem dX3_is_5 : decode cX3_is 5 = .ok (.getfield 81, 3) := dk_180 0 81 (dk_at dksX3_is_0 5 rfl rfl)
theorem dX3_is_8 : decode cX3_is 8 = .ok (.isub, 1) := dk_100 (dk_at dksX3_is_0 8 rfl rfl)
theorem dX3_is_9 : decode cX3_is 9 = .ok (.aload_n 1, 1) := dk_43 (dk_at dksX3_is_0 9 rfl rfl)
theorem dX3_is_10 : decode cX3_is 10 = .ok (.invokevirtual 84, 3) := dk_182 0 84 (dk_at dksX3_is_0 10 rfl rfl)
theorem dX3_is_13 : decode cX3_is 13 = .ok (.if_icmp .ne 7, 3) := dk_160 0 7 (dk_at dksX3_is_0 13 rfl rfl)
theorem dX3_is_16 : decode cX3_is 16 = .ok (.iconst 1, 1) := dk_4 (dk_at dksX3_is_0 16 rfl rfl)
theorem dX3_is_17 : decode cX3_is 17 = .ok (.goto 4, 3) := dk_167 0 4 (dk_at dksX3_is_0 17 rfl rfl)
theorem dX3_is_20 : decode cX3_is 20 = .ok (.iconst 0, 1) := dk_3 (dk_at dksX3_is_0 20 rfl rfl)
theorem dX3_is_21 : decode cX3_is 21 = .ok (.istore_n 2, 1) := dk_61 (dk_at dksX3_is_0 21 rfl rfl)
theorem dX3_is_22 : decode cX3_is 22 = .ok (.iconst 0, 1) := dk_3 (dk_at dksX3_is_0 22 rfl rfl)
theorem dX3_is_23 : decode cX3_is 23 = .ok (.istore_n 3, 1) := dk_62 (dk_at dksX3_is_0 23 rfl rfl)
theorem dX3_is_24 : decode cX3_is 24 = .ok (.iload_n 3, 1) := dk_29 (dk_at dksX3_is_1 0 rfl rfl)
theorem dX3_is_25 : decode cX3_is 25 = .ok (.aload_n 1, 1) := dk_43 (dk_at dksX3_is_1 1 rfl rfl)
theorem dX3_is_26 : decode cX3_is 26 = .ok (.invokevirtual 84, 3) := dk_182 0 84 (dk_at dksX3_is_1 2 rfl rfl)
theorem dX3_is_29 : decode cX3_is 29 = .ok (.if_icmp .ge 38, 3) := dk_162 0 38 (dk_at dksX3_is_1 5 rfl rfl)
theorem dX3_is_32 : decode cX3_is 32 = .ok (.iload_n 2, 1) := dk_28 (dk_at dksX3_is_1 8 rfl rfl)
theorem dX3_is_33 : decode cX3_is 33 = .ok (.ifCond .eq 34, 3) := dk_153 0 34 (dk_at dksX3_is_1 9 rfl rfl)
theorem dX3_is_36 : decode cX3_is 36 = .ok (.aload_n 0, 1) := dk_42 (dk_at dksX3_is_1 12 rfl rfl)
theorem dX3_is_37 : decode cX3_is 37 = .ok (.getfield 25, 3) := dk_180 0 25 (dk_at dksX3_is_1 13 rfl rfl)
theorem dX3_is_40 : decode cX3_is 40 = .ok (.aload_n 0, 1) := dk_42 (dk_at dksX3_is_1 16 rfl rfl)
theorem dX3_is_41 : decode cX3_is 41 = .ok (.getfield 81, 3) := dk_180 0 81 (dk_at dksX3_is_1 17 rfl rfl)
theorem dX3_is_44 : decode cX3_is 44 = .ok (.iload_n 3, 1) := dk_29 (dk_at dksX3_is_1 20 rfl rfl)
theorem dX3_is_45 : decode cX3_is 45 = .ok (.iadd, 1) := dk_96 (dk_at dksX3_is_1 21 rfl rfl)
theorem dX3_is_46 : decode cX3_is 46 = .ok (.iaload, 1) := dk_46 (dk_at dksX3_is_1 22 rfl rfl)
theorem dX3_is_47 : decode cX3_is 47 = .ok (.aload_n 1, 1) := dk_43 (dk_at dksX3_is_1 23 rfl rfl)
theorem dX3_is_48 : decode cX3_is 48 = .ok (.iload_n 3, 1) := dk_29 (dk_at dksX3_is_2 0 rfl rfl)
theorem dX3_is_49 : decode cX3_is 49 = .ok (.invokevirtual 90, 3) := dk_182 0 90 (dk_at dksX3_is_2 1 rfl rfl)
theorem dX3_is_52 : decode cX3_is 52 = .ok (.if_icmp .ne 7, 3) := dk_160 0 7 (dk_at dksX3_is_2 4 rfl rfl)
theorem dX3_is_55 : decode cX3_is 55 = .ok (.iconst 1, 1) := dk_4 (dk_at dksX3_is_2 7 rfl rfl)
theorem dX3_is_56 : decode cX3_is 56 = .ok (.goto 4, 3) := dk_167 0 4 (dk_at dksX3_is_2 8 rfl rfl)
theorem dX3_is_59 : decode cX3_is 59 = .ok (.iconst 0, 1) := dk_3 (dk_at dksX3_is_2 11 rfl rfl)
theorem dX3_is_60 : decode cX3_is 60 = .ok (.istore_n 2, 1) := dk_61 (dk_at dksX3_is_2 12 rfl rfl)
theorem dX3_is_61 : decode cX3_is 61 = .ok (.iinc 3 1, 3) := dk_132 3 1 (dk_at dksX3_is_2 13 rfl rfl)
theorem dX3_is_64 : decode cX3_is 64 = .ok (.goto (-40), 3) := dk_167 255 216 (dk_at dksX3_is_2 16 rfl rfl)
theorem dX3_is_67 : decode cX3_is 67 = .ok (.iload_n 2, 1) := dk_28 (dk_at dksX3_is_2 19 rfl rfl)
theorem dX3_is_68 : decode cX3_is 68 = .ok (.ireturn, 1) := dk_172 (dk_at dksX3_is_2 20 rfl rfl)
abbrev cX3_nameWord : ByteArray := prog_14_method_15_code
def yX3_nameWord : MethodName := ⟨RX3, "nameWord", "()I"⟩
def dkwX3_nameWord_5 : List UInt8 := [167, 0, 4, 4, 172]
abbrev dktX3_nameWord_5 : List UInt8 := dkwX3_nameWord_5 ++ []
def dkwX3_nameWord_4 : List UInt8 := [42, 18, 114, 182, 0, 96, 153, 0, 6, 16, 49, 172, 42, 18, 116, 182, 0, 96, 153, 0, 8, 16, 50]
abbrev dktX3_nameWord_4 : List UInt8 := dkwX3_nameWord_4 ++ dktX3_nameWord_5
def dkwX3_nameWord_3 : List UInt8 := [42, 18, 110, 182, 0, 96, 153, 0, 6, 16, 47, 172, 42, 18, 112, 182, 0, 96, 153, 0, 6, 16, 48, 172]
abbrev dktX3_nameWord_3 : List UInt8 := dkwX3_nameWord_3 ++ dktX3_nameWord_4
def dkwX3_nameWord_2 : List UInt8 := [42, 18, 106, 182, 0, 96, 153, 0, 6, 16, 45, 172, 42, 18, 108, 182, 0, 96, 153, 0, 6, 16, 46, 172]
abbrev dktX3_nameWord_2 : List UInt8 := dkwX3_nameWord_2 ++ dktX3_nameWord_3
def dkwX3_nameWord_1 : List UInt8 := [42, 18, 102, 182, 0, 96, 153, 0, 6, 16, 43, 172, 42, 18, 104, 182, 0, 96, 153, 0, 6, 16, 44, 172]
abbrev dktX3_nameWord_1 : List UInt8 := dkwX3_nameWord_1 ++ dktX3_nameWord_2
def dkwX3_nameWord_0 : List UInt8 := [42, 18, 94, 182, 0, 96, 153, 0, 6, 16, 41, 172, 42, 18, 100, 182, 0, 96, 153, 0, 6, 16, 42, 172]
abbrev dktX3_nameWord_0 : List UInt8 := dkwX3_nameWord_0 ++ dktX3_nameWord_1
theorem dksX3_nameWord_0 : cX3_nameWord.data.toList.drop 0 = dktX3_nameWord_0 := by decide +kernel
theorem dksX3_nameWord_1 : cX3_nameWord.data.toList.drop 24 = dktX3_nameWord_1 := dk_seg dksX3_nameWord_0 24 rfl rfl
theorem dksX3_nameWord_2 : cX3_nameWord.data.toList.drop 48 = dktX3_nameWord_2 := dk_seg dksX3_nameWord_1 24 rfl rfl
theorem dksX3_nameWord_3 : cX3_nameWord.data.toList.drop 72 = dktX3_nameWord_3 := dk_seg dksX3_nameWord_2 24 rfl rfl
theorem dksX3_nameWord_4 : cX3_nameWord.data.toList.drop 96 = dktX3_nameWord_4 := dk_seg dksX3_nameWord_3 24 rfl rfl
theorem dksX3_nameWord_5 : cX3_nameWord.data.toList.drop 119 = dktX3_nameWord_5 := dk_seg dksX3_nameWord_4 23 rfl rfl
theorem dX3_nameWord_0 : decode cX3_nameWord 0 = .ok (.aload_n 0, 1) := dk_42 (dk_at dksX3_nameWord_0 0 rfl rfl)
theorem dX3_nameWord_1 : decode cX3_nameWord 1 = .ok (.ldc 94, 2) := dk_18 94 (dk_at dksX3_nameWord_0 1 rfl rfl)
theorem dX3_nameWord_3 : decode cX3_nameWord 3 = .ok (.invokevirtual 96, 3) := dk_182 0 96 (dk_at dksX3_nameWord_0 3 rfl rfl)
theorem dX3_nameWord_6 : decode cX3_nameWord 6 = .ok (.ifCond .eq 6, 3) := dk_153 0 6 (dk_at dksX3_nameWord_0 6 rfl rfl)
theorem dX3_nameWord_9 : decode cX3_nameWord 9 = .ok (.bipush 41, 2) := dk_16 41 (dk_at dksX3_nameWord_0 9 rfl rfl)
theorem dX3_nameWord_11 : decode cX3_nameWord 11 = .ok (.ireturn, 1) := dk_172 (dk_at dksX3_nameWord_0 11 rfl rfl)
theorem dX3_nameWord_12 : decode cX3_nameWord 12 = .ok (.aload_n 0, 1) := dk_42 (dk_at dksX3_nameWord_0 12 rfl rfl)
theorem dX3_nameWord_13 : decode cX3_nameWord 13 = .ok (.ldc 100, 2) := dk_18 100 (dk_at dksX3_nameWord_0 13 rfl rfl)
theorem dX3_nameWord_15 : decode cX3_nameWord 15 = .ok (.invokevirtual 96, 3) := dk_182 0 96 (dk_at dksX3_nameWord_0 15 rfl rfl)
theorem dX3_nameWord_18 : decode cX3_nameWord 18 = .ok (.ifCond .eq 6, 3) := dk_153 0 6 (dk_at dksX3_nameWord_0 18 rfl rfl)
theorem dX3_nameWord_21 : decode cX3_nameWord 21 = .ok (.bipush 42, 2) := dk_16 42 (dk_at dksX3_nameWord_0 21 rfl rfl)
theorem dX3_nameWord_23 : decode cX3_nameWord 23 = .ok (.ireturn, 1) := dk_172 (dk_at dksX3_nameWord_0 23 rfl rfl)
theorem dX3_nameWord_24 : decode cX3_nameWord 24 = .ok (.aload_n 0, 1) := dk_42 (dk_at dksX3_nameWord_1 0 rfl rfl)
theorem dX3_nameWord_25 : decode cX3_nameWord 25 = .ok (.ldc 102, 2) := dk_18 102 (dk_at dksX3_nameWord_1 1 rfl rfl)
theorem dX3_nameWord_27 : decode cX3_nameWord 27 = .ok (.invokevirtual 96, 3) := dk_182 0 96 (dk_at dksX3_nameWord_1 3 rfl rfl)
theorem dX3_nameWord_30 : decode cX3_nameWord 30 = .ok (.ifCond .eq 6, 3) := dk_153 0 6 (dk_at dksX3_nameWord_1 6 rfl rfl)
theorem dX3_nameWord_33 : decode cX3_nameWord 33 = .ok (.bipush 43, 2) := dk_16 43 (dk_at dksX3_nameWord_1 9 rfl rfl)
theorem dX3_nameWord_35 : decode cX3_nameWord 35 = .ok (.ireturn, 1) := dk_172 (dk_at dksX3_nameWord_1 11 rfl rfl)
theorem dX3_nameWord_36 : decode cX3_nameWord 36 = .ok (.aload_n 0, 1) := dk_42 (dk_at dksX3_nameWord_1 12 rfl rfl)
theorem dX3_nameWord_37 : decode cX3_nameWord 37 = .ok (.ldc 104, 2) := dk_18 104 (dk_at dksX3_nameWord_1 13 rfl rfl)
theorem dX3_nameWord_39 : decode cX3_nameWord 39 = .ok (.invokevirtual 96, 3) := dk_182 0 96 (dk_at dksX3_nameWord_1 15 rfl rfl)
theorem dX3_nameWord_42 : decode cX3_nameWord 42 = .ok (.ifCond .eq 6, 3) := dk_153 0 6 (dk_at dksX3_nameWord_1 18 rfl rfl)
theorem dX3_nameWord_45 : decode cX3_nameWord 45 = .ok (.bipush 44, 2) := dk_16 44 (dk_at dksX3_nameWord_1 21 rfl rfl)
theorem dX3_nameWord_47 : decode cX3_nameWord 47 = .ok (.ireturn, 1) := dk_172 (dk_at dksX3_nameWord_1 23 rfl rfl)
theorem dX3_nameWord_48 : decode cX3_nameWord 48 = .ok (.aload_n 0, 1) := dk_42 (dk_at dksX3_nameWord_2 0 rfl rfl)
theorem dX3_nameWord_49 : decode cX3_nameWord 49 = .ok (.ldc 106, 2) := dk_18 106 (dk_at dksX3_nameWord_2 1 rfl rfl)
theorem dX3_nameWord_51 : decode cX3_nameWord 51 = .ok (.invokevirtual 96, 3) := dk_182 0 96 (dk_at dksX3_nameWord_2 3 rfl rfl)
theorem dX3_nameWord_54 : decode cX3_nameWord 54 = .ok (.ifCond .eq 6, 3) := dk_153 0 6 (dk_at dksX3_nameWord_2 6 rfl rfl)
theorem dX3_nameWord_57 : decode cX3_nameWord 57 = .ok (.bipush 45, 2) := dk_16 45 (dk_at dksX3_nameWord_2 9 rfl rfl)
theorem dX3_nameWord_59 : decode cX3_nameWord 59 = .ok (.ireturn, 1) := dk_172 (dk_at dksX3_nameWord_2 11 rfl rfl)
theorem dX3_nameWord_60 : decode cX3_nameWord 60 = .ok (.aload_n 0, 1) := dk_42 (dk_at dksX3_nameWord_2 12 rfl rfl)
theorem dX3_nameWord_61 : decode cX3_nameWord 61 = .ok (.ldc 108, 2) := dk_18 108 (dk_at dksX3_nameWord_2 13 rfl rfl)
theorem dX3_nameWord_63 : decode cX3_nameWord 63 = .ok (.invokevirtual 96, 3) := dk_182 0 96 (dk_at dksX3_nameWord_2 15 rfl rfl)
theorem dX3_nameWord_66 : decode cX3_nameWord 66 = .ok (.ifCond .eq 6, 3) := dk_153 0 6 (dk_at dksX3_nameWord_2 18 rfl rfl)
theorem dX3_nameWord_69 : decode cX3_nameWord 69 = .ok (.bipush 46, 2) := dk_16 46 (dk_at dksX3_nameWord_2 21 rfl rfl)
theorem dX3_nameWord_71 : decode cX3_nameWord 71 = .ok (.ireturn, 1) := dk_172 (dk_at dksX3_nameWord_2 23 rfl rfl)
theorem dX3_nameWord_72 : decode cX3_nameWord 72 = .ok (.aload_n 0, 1) := dk_42 (dk_at dksX3_nameWord_3 0 rfl rfl)
theorem dX3_nameWord_73 : decode cX3_nameWord 73 = .ok (.ldc 110, 2) := dk_18 110 (dk_at dksX3_nameWord_3 1 rfl rfl)
theorem dX3_nameWord_75 : decode cX3_nameWord 75 = .ok (.invokevirtual 96, 3) := dk_182 0 96 (dk_at dksX3_nameWord_3 3 rfl rfl)
theorem dX3_nameWord_78 : decode cX3_nameWord 78 = .ok (.ifCond .eq 6, 3) := dk_153 0 6 (dk_at dksX3_nameWord_3 6 rfl rfl)
theorem dX3_nameWord_81 : decode cX3_nameWord 81 = .ok (.bipush 47, 2) := dk_16 47 (dk_at dksX3_nameWord_3 9 rfl rfl)
theorem dX3_nameWord_83 : decode cX3_nameWord 83 = .ok (.ireturn, 1) := dk_172 (dk_at dksX3_nameWord_3 11 rfl rfl)
theorem dX3_nameWord_84 : decode cX3_nameWord 84 = .ok (.aload_n 0, 1) := dk_42 (dk_at dksX3_nameWord_3 12 rfl rfl)
theorem dX3_nameWord_85 : decode cX3_nameWord 85 = .ok (.ldc 112, 2) := dk_18 112 (dk_at dksX3_nameWord_3 13 rfl rfl)
theorem dX3_nameWord_87 : decode cX3_nameWord 87 = .ok (.invokevirtual 96, 3) := dk_182 0 96 (dk_at dksX3_nameWord_3 15 rfl rfl)
theorem dX3_nameWord_90 : decode cX3_nameWord 90 = .ok (.ifCond .eq 6, 3) := dk_153 0 6 (dk_at dksX3_nameWord_3 18 rfl rfl)
theorem dX3_nameWord_93 : decode cX3_nameWord 93 = .ok (.bipush 48, 2) := dk_16 48 (dk_at dksX3_nameWord_3 21 rfl rfl)
theorem dX3_nameWord_95 : decode cX3_nameWord 95 = .ok (.ireturn, 1) := dk_172 (dk_at dksX3_nameWord_3 23 rfl rfl)
theorem dX3_nameWord_96 : decode cX3_nameWord 96 = .ok (.aload_n 0, 1) := dk_42 (dk_at dksX3_nameWord_4 0 rfl rfl)
theorem dX3_nameWord_97 : decode cX3_nameWord 97 = .ok (.ldc 114, 2) := dk_18 114 (dk_at dksX3_nameWord_4 1 rfl rfl)
theorem dX3_nameWord_99 : decode cX3_nameWord 99 = .ok (.invokevirtual 96, 3) := dk_182 0 96 (dk_at dksX3_nameWord_4 3 rfl rfl)
theorem dX3_nameWord_102 : decode cX3_nameWord 102 = .ok (.ifCond .eq 6, 3) := dk_153 0 6 (dk_at dksX3_nameWord_4 6 rfl rfl)
theorem dX3_nameWord_105 : decode cX3_nameWord 105 = .ok (.bipush 49, 2) := dk_16 49 (dk_at dksX3_nameWord_4 9 rfl rfl)
theorem dX3_nameWord_107 : decode cX3_nameWord 107 = .ok (.ireturn, 1) := dk_172 (dk_at dksX3_nameWord_4 11 rfl rfl)
theorem dX3_nameWord_108 : decode cX3_nameWord 108 = .ok (.aload_n 0, 1) := dk_42 (dk_at dksX3_nameWord_4 12 rfl rfl)
theorem dX3_nameWord_109 : decode cX3_nameWord 109 = .ok (.ldc 116, 2) := dk_18 116 (dk_at dksX3_nameWord_4 13 rfl rfl)
theorem dX3_nameWord_111 : decode cX3_nameWord 111 = .ok (.invokevirtual 96, 3) := dk_182 0 96 (dk_at dksX3_nameWord_4 15 rfl rfl)
theorem dX3_nameWord_114 : decode cX3_nameWord 114 = .ok (.ifCond .eq 8, 3) := dk_153 0 8 (dk_at dksX3_nameWord_4 18 rfl rfl)
theorem dX3_nameWord_117 : decode cX3_nameWord 117 = .ok (.bipush 50, 2) := dk_16 50 (dk_at dksX3_nameWord_4 21 rfl rfl)
theorem dX3_nameWord_119 : decode cX3_nameWord 119 = .ok (.goto 4, 3) := dk_167 0 4 (dk_at dksX3_nameWord_5 0 rfl rfl)
theorem dX3_nameWord_122 : decode cX3_nameWord 122 = .ok (.iconst 1, 1) := dk_4 (dk_at dksX3_nameWord_5 3 rfl rfl)
theorem dX3_nameWord_123 : decode cX3_nameWord 123 = .ok (.ireturn, 1) := dk_172 (dk_at dksX3_nameWord_5 4 rfl rfl)
abbrev cX3_isDigit : ByteArray := prog_14_method_13_code
def yX3_isDigit : MethodName := ⟨RX3, "isDigit", "(I)Z"⟩
def dkwX3_isDigit_0 : List UInt8 := [26, 16, 48, 16, 57, 184, 0, 66, 172]
abbrev dktX3_isDigit_0 : List UInt8 := dkwX3_isDigit_0 ++ []
theorem dksX3_isDigit_0 : cX3_isDigit.data.toList.drop 0 = dktX3_isDigit_0 := by decide +kernel
theorem dX3_isDigit_0 : decode cX3_isDigit 0 = .ok (.iload_n 0, 1) := dk_26 (dk_at dksX3_isDigit_0 0 rfl rfl)
theorem dX3_isDigit_1 : decode cX3_isDigit 1 = .ok (.bipush 48, 2) := dk_16 48 (dk_at dksX3_isDigit_0 1 rfl rfl)
theorem dX3_isDigit_3 : decode cX3_isDigit 3 = .ok (.bipush 57, 2) := dk_16 57 (dk_at dksX3_isDigit_0 3 rfl rfl)
theorem dX3_isDigit_5 : decode cX3_isDigit 5 = .ok (.invokestatic 66, 3) := dk_184 0 66 (dk_at dksX3_isDigit_0 5 rfl rfl)
theorem dX3_isDigit_8 : decode cX3_isDigit 8 = .ok (.ireturn, 1) := dk_172 (dk_at dksX3_isDigit_0 8 rfl rfl)
abbrev cX3_aLine : ByteArray := prog_14_method_28_code
def yX3_aLine : MethodName := ⟨RX3, "aLine", "()Z"⟩
def dkwX3_aLine_5 : List UInt8 := [17, 0, 159, 182, 0, 192, 172]
abbrev dktX3_aLine_5 : List UInt8 := dkwX3_aLine_5 ++ []
def dkwX3_aLine_4 : List UInt8 := [154, 0, 5, 3, 172, 42, 180, 0, 19, 6, 42, 180, 0, 197, 104, 5, 96, 42, 180, 0, 163, 79, 42]
abbrev dktX3_aLine_4 : List UInt8 := dkwX3_aLine_4 ++ dktX3_aLine_5
def dkwX3_aLine_3 : List UInt8 := [104, 4, 96, 42, 180, 0, 163, 79, 42, 180, 0, 135, 6, 160, 0, 16, 42, 182, 0, 160, 42, 182, 0, 189]
abbrev dktX3_aLine_3 : List UInt8 := dkwX3_aLine_3 ++ dktX3_aLine_4
def dkwX3_aLine_2 : List UInt8 := [104, 42, 180, 0, 163, 79, 42, 182, 0, 194, 154, 0, 5, 3, 172, 42, 180, 0, 19, 6, 42, 180, 0, 197]
abbrev dktX3_aLine_2 : List UInt8 := dkwX3_aLine_2 ++ dktX3_aLine_3
def dkwX3_aLine_1 : List UInt8 := [42, 6, 182, 0, 157, 172, 42, 3, 181, 0, 166, 42, 182, 0, 160, 42, 180, 0, 19, 6, 42, 180, 0, 197]
abbrev dktX3_aLine_1 : List UInt8 := dkwX3_aLine_1 ++ dktX3_aLine_2
def dkwX3_aLine_0 : List UInt8 := [42, 180, 0, 135, 16, 20, 159, 0, 9, 42, 4, 182, 0, 157, 172, 42, 180, 0, 197, 16, 16, 160, 0, 9]
abbrev dktX3_aLine_0 : List UInt8 := dkwX3_aLine_0 ++ dktX3_aLine_1
theorem dksX3_aLine_0 : cX3_aLine.data.toList.drop 0 = dktX3_aLine_0 := by decide +kernel
theorem dksX3_aLine_1 : cX3_aLine.data.toList.drop 24 = dktX3_aLine_1 := dk_seg dksX3_aLine_0 24 rfl rfl
theorem dksX3_aLine_2 : cX3_aLine.data.toList.drop 48 = dktX3_aLine_2 := dk_seg dksX3_aLine_1 24 rfl rfl
theorem dksX3_aLine_3 : cX3_aLine.data.toList.drop 72 = dktX3_aLine_3 := dk_seg dksX3_aLine_2 24 rfl rfl
theorem dksX3_aLine_4 : cX3_aLine.data.toList.drop 96 = dktX3_aLine_4 := dk_seg dksX3_aLine_3 24 rfl rfl
theorem dksX3_aLine_5 : cX3_aLine.data.toList.drop 119 = dktX3_aLine_5 := dk_seg dksX3_aLine_4 23 rfl rfl
theorem dX3_aLine_0 : decode cX3_aLine 0 = .ok (.aload_n 0, 1) := dk_42 (dk_at dksX3_aLine_0 0 rfl rfl)
theorem dX3_aLine_1 : decode cX3_aLine 1 = .ok (.getfield 135, 3) := dk_180 0 135 (dk_at dksX3_aLine_0 1 rfl rfl)
theorem dX3_aLine_4 : decode cX3_aLine 4 = .ok (.bipush 20, 2) := dk_16 20 (dk_at dksX3_aLine_0 4 rfl rfl)
theorem dX3_aLine_6 : decode cX3_aLine 6 = .ok (.if_icmp .eq 9, 3) := dk_159 0 9 (dk_at dksX3_aLine_0 6 rfl rfl)
theorem dX3_aLine_9 : decode cX3_aLine 9 = .ok (.aload_n 0, 1) := dk_42 (dk_at dksX3_aLine_0 9 rfl rfl)
theorem dX3_aLine_10 : decode cX3_aLine 10 = .ok (.iconst 1, 1) := dk_4 (dk_at dksX3_aLine_0 10 rfl rfl)
theorem dX3_aLine_11 : decode cX3_aLine 11 = .ok (.invokevirtual 157, 3) := dk_182 0 157 (dk_at dksX3_aLine_0 11 rfl rfl)
theorem dX3_aLine_14 : decode cX3_aLine 14 = .ok (.ireturn, 1) := dk_172 (dk_at dksX3_aLine_0 14 rfl rfl)
theorem dX3_aLine_15 : decode cX3_aLine 15 = .ok (.aload_n 0, 1) := dk_42 (dk_at dksX3_aLine_0 15 rfl rfl)
theorem dX3_aLine_16 : decode cX3_aLine 16 = .ok (.getfield 197, 3) := dk_180 0 197 (dk_at dksX3_aLine_0 16 rfl rfl)
theorem dX3_aLine_19 : decode cX3_aLine 19 = .ok (.bipush 16, 2) := dk_16 16 (dk_at dksX3_aLine_0 19 rfl rfl)
theorem dX3_aLine_21 : decode cX3_aLine 21 = .ok (.if_icmp .ne 9, 3) := dk_160 0 9 (dk_at dksX3_aLine_0 21 rfl rfl)
theorem dX3_aLine_24 : decode cX3_aLine 24 = .ok (.aload_n 0, 1) := dk_42 (dk_at dksX3_aLine_1 0 rfl rfl)
theorem dX3_aLine_25 : decode cX3_aLine 25 = .ok (.iconst 3, 1) := dk_6 (dk_at dksX3_aLine_1 1 rfl rfl)
theorem dX3_aLine_26 : decode cX3_aLine 26 = .ok (.invokevirtual 157, 3) := dk_182 0 157 (dk_at dksX3_aLine_1 2 rfl rfl)
theorem dX3_aLine_29 : decode cX3_aLine 29 = .ok (.ireturn, 1) := dk_172 (dk_at dksX3_aLine_1 5 rfl rfl)
theorem dX3_aLine_30 : decode cX3_aLine 30 = .ok (.aload_n 0, 1) := dk_42 (dk_at dksX3_aLine_1 6 rfl rfl)
theorem dX3_aLine_31 : decode cX3_aLine 31 = .ok (.iconst 0, 1) := dk_3 (dk_at dksX3_aLine_1 7 rfl rfl)
theorem dX3_aLine_32 : decode cX3_aLine 32 = .ok (.putfield 166, 3) := dk_181 0 166 (dk_at dksX3_aLine_1 8 rfl rfl)
theorem dX3_aLine_35 : decode cX3_aLine 35 = .ok (.aload_n 0, 1) := dk_42 (dk_at dksX3_aLine_1 11 rfl rfl)
theorem dX3_aLine_36 : decode cX3_aLine 36 = .ok (.invokevirtual 160, 3) := dk_182 0 160 (dk_at dksX3_aLine_1 12 rfl rfl)
theorem dX3_aLine_39 : decode cX3_aLine 39 = .ok (.aload_n 0, 1) := dk_42 (dk_at dksX3_aLine_1 15 rfl rfl)
theorem dX3_aLine_40 : decode cX3_aLine 40 = .ok (.getfield 19, 3) := dk_180 0 19 (dk_at dksX3_aLine_1 16 rfl rfl)
theorem dX3_aLine_43 : decode cX3_aLine 43 = .ok (.iconst 3, 1) := dk_6 (dk_at dksX3_aLine_1 19 rfl rfl)
theorem dX3_aLine_44 : decode cX3_aLine 44 = .ok (.aload_n 0, 1) := dk_42 (dk_at dksX3_aLine_1 20 rfl rfl)
theorem dX3_aLine_45 : decode cX3_aLine 45 = .ok (.getfield 197, 3) := dk_180 0 197 (dk_at dksX3_aLine_1 21 rfl rfl)
theorem dX3_aLine_48 : decode cX3_aLine 48 = .ok (.imul, 1) := dk_104 (dk_at dksX3_aLine_2 0 rfl rfl)
theorem dX3_aLine_49 : decode cX3_aLine 49 = .ok (.aload_n 0, 1) := dk_42 (dk_at dksX3_aLine_2 1 rfl rfl)
theorem dX3_aLine_50 : decode cX3_aLine 50 = .ok (.getfield 163, 3) := dk_180 0 163 (dk_at dksX3_aLine_2 2 rfl rfl)
theorem dX3_aLine_53 : decode cX3_aLine 53 = .ok (.iastore, 1) := dk_79 (dk_at dksX3_aLine_2 5 rfl rfl)
theorem dX3_aLine_54 : decode cX3_aLine 54 = .ok (.aload_n 0, 1) := dk_42 (dk_at dksX3_aLine_2 6 rfl rfl)
theorem dX3_aLine_55 : decode cX3_aLine 55 = .ok (.invokevirtual 194, 3) := dk_182 0 194 (dk_at dksX3_aLine_2 7 rfl rfl)
theorem dX3_aLine_58 : decode cX3_aLine 58 = .ok (.ifCond .ne 5, 3) := dk_154 0 5 (dk_at dksX3_aLine_2 10 rfl rfl)
theorem dX3_aLine_61 : decode cX3_aLine 61 = .ok (.iconst 0, 1) := dk_3 (dk_at dksX3_aLine_2 13 rfl rfl)
theorem dX3_aLine_62 : decode cX3_aLine 62 = .ok (.ireturn, 1) := dk_172 (dk_at dksX3_aLine_2 14 rfl rfl)
theorem dX3_aLine_63 : decode cX3_aLine 63 = .ok (.aload_n 0, 1) := dk_42 (dk_at dksX3_aLine_2 15 rfl rfl)
theorem dX3_aLine_64 : decode cX3_aLine 64 = .ok (.getfield 19, 3) := dk_180 0 19 (dk_at dksX3_aLine_2 16 rfl rfl)
theorem dX3_aLine_67 : decode cX3_aLine 67 = .ok (.iconst 3, 1) := dk_6 (dk_at dksX3_aLine_2 19 rfl rfl)
theorem dX3_aLine_68 : decode cX3_aLine 68 = .ok (.aload_n 0, 1) := dk_42 (dk_at dksX3_aLine_2 20 rfl rfl)
theorem dX3_aLine_69 : decode cX3_aLine 69 = .ok (.getfield 197, 3) := dk_180 0 197 (dk_at dksX3_aLine_2 21 rfl rfl)
theorem dX3_aLine_72 : decode cX3_aLine 72 = .ok (.imul, 1) := dk_104 (dk_at dksX3_aLine_3 0 rfl rfl)
theorem dX3_aLine_73 : decode cX3_aLine 73 = .ok (.iconst 1, 1) := dk_4 (dk_at dksX3_aLine_3 1 rfl rfl)
theorem dX3_aLine_74 : decode cX3_aLine 74 = .ok (.iadd, 1) := dk_96 (dk_at dksX3_aLine_3 2 rfl rfl)
theorem dX3_aLine_75 : decode cX3_aLine 75 = .ok (.aload_n 0, 1) := dk_42 (dk_at dksX3_aLine_3 3 rfl rfl)
theorem dX3_aLine_76 : decode cX3_aLine 76 = .ok (.getfield 163, 3) := dk_180 0 163 (dk_at dksX3_aLine_3 4 rfl rfl)
theorem dX3_aLine_79 : decode cX3_aLine 79 = .ok (.iastore, 1) := dk_79 (dk_at dksX3_aLine_3 7 rfl rfl)
theorem dX3_aLine_80 : decode cX3_aLine 80 = .ok (.aload_n 0, 1) := dk_42 (dk_at dksX3_aLine_3 8 rfl rfl)
theorem dX3_aLine_81 : decode cX3_aLine 81 = .ok (.getfield 135, 3) := dk_180 0 135 (dk_at dksX3_aLine_3 9 rfl rfl)
theorem dX3_aLine_84 : decode cX3_aLine 84 = .ok (.iconst 3, 1) := dk_6 (dk_at dksX3_aLine_3 12 rfl rfl)
theorem dX3_aLine_85 : decode cX3_aLine 85 = .ok (.if_icmp .ne 16, 3) := dk_160 0 16 (dk_at dksX3_aLine_3 13 rfl rfl)
theorem dX3_aLine_88 : decode cX3_aLine 88 = .ok (.aload_n 0, 1) := dk_42 (dk_at dksX3_aLine_3 16 rfl rfl)
theorem dX3_aLine_89 : decode cX3_aLine 89 = .ok (.invokevirtual 160, 3) := dk_182 0 160 (dk_at dksX3_aLine_3 17 rfl rfl)
theorem dX3_aLine_92 : decode cX3_aLine 92 = .ok (.aload_n 0, 1) := dk_42 (dk_at dksX3_aLine_3 20 rfl rfl)
theorem dX3_aLine_93 : decode cX3_aLine 93 = .ok (.invokevirtual 189, 3) := dk_182 0 189 (dk_at dksX3_aLine_3 21 rfl rfl)
theorem dX3_aLine_96 : decode cX3_aLine 96 = .ok (.ifCond .ne 5, 3) := dk_154 0 5 (dk_at dksX3_aLine_4 0 rfl rfl)
theorem dX3_aLine_99 : decode cX3_aLine 99 = .ok (.iconst 0, 1) := dk_3 (dk_at dksX3_aLine_4 3 rfl rfl)
theorem dX3_aLine_100 : decode cX3_aLine 100 = .ok (.ireturn, 1) := dk_172 (dk_at dksX3_aLine_4 4 rfl rfl)
theorem dX3_aLine_101 : decode cX3_aLine 101 = .ok (.aload_n 0, 1) := dk_42 (dk_at dksX3_aLine_4 5 rfl rfl)
theorem dX3_aLine_102 : decode cX3_aLine 102 = .ok (.getfield 19, 3) := dk_180 0 19 (dk_at dksX3_aLine_4 6 rfl rfl)
theorem dX3_aLine_105 : decode cX3_aLine 105 = .ok (.iconst 3, 1) := dk_6 (dk_at dksX3_aLine_4 9 rfl rfl)
theorem dX3_aLine_106 : decode cX3_aLine 106 = .ok (.aload_n 0, 1) := dk_42 (dk_at dksX3_aLine_4 10 rfl rfl)
theorem dX3_aLine_107 : decode cX3_aLine 107 = .ok (.getfield 197, 3) := dk_180 0 197 (dk_at dksX3_aLine_4 11 rfl rfl)
theorem dX3_aLine_110 : decode cX3_aLine 110 = .ok (.imul, 1) := dk_104 (dk_at dksX3_aLine_4 14 rfl rfl)
theorem dX3_aLine_111 : decode cX3_aLine 111 = .ok (.iconst 2, 1) := dk_5 (dk_at dksX3_aLine_4 15 rfl rfl)
theorem dX3_aLine_112 : decode cX3_aLine 112 = .ok (.iadd, 1) := dk_96 (dk_at dksX3_aLine_4 16 rfl rfl)
theorem dX3_aLine_113 : decode cX3_aLine 113 = .ok (.aload_n 0, 1) := dk_42 (dk_at dksX3_aLine_4 17 rfl rfl)
theorem dX3_aLine_114 : decode cX3_aLine 114 = .ok (.getfield 163, 3) := dk_180 0 163 (dk_at dksX3_aLine_4 18 rfl rfl)
theorem dX3_aLine_117 : decode cX3_aLine 117 = .ok (.iastore, 1) := dk_79 (dk_at dksX3_aLine_4 21 rfl rfl)
theorem dX3_aLine_118 : decode cX3_aLine 118 = .ok (.aload_n 0, 1) := dk_42 (dk_at dksX3_aLine_4 22 rfl rfl)
theorem dX3_aLine_119 : decode cX3_aLine 119 = .ok (.sipush 159, 3) := dk_17 0 159 (dk_at dksX3_aLine_5 0 rfl rfl)
theorem dX3_aLine_122 : decode cX3_aLine 122 = .ok (.invokevirtual 192, 3) := dk_182 0 192 (dk_at dksX3_aLine_5 3 rfl rfl)
theorem dX3_aLine_125 : decode cX3_aLine 125 = .ok (.ireturn, 1) := dk_172 (dk_at dksX3_aLine_5 6 rfl rfl)
abbrev cX3_bad : ByteArray := prog_14_method_18_code
def yX3_bad : MethodName := ⟨RX3, "bad", "(I)Z"⟩
def dkwX3_bad_0 : List UInt8 := [42, 27, 181, 0, 151, 42, 42, 180, 0, 81, 181, 0, 154, 3, 172]
abbrev dktX3_bad_0 : List UInt8 := dkwX3_bad_0 ++ []
theorem dksX3_bad_0 : cX3_bad.data.toList.drop 0 = dktX3_bad_0 := by decide +kernel
theorem dX3_bad_0 : decode cX3_bad 0 = .ok (.aload_n 0, 1) := dk_42 (dk_at dksX3_bad_0 0 rfl rfl)
theorem dX3_bad_1 : decode cX3_bad 1 = .ok (.iload_n 1, 1) := dk_27 (dk_at dksX3_bad_0 1 rfl rfl)
theorem dX3_bad_2 : decode cX3_bad 2 = .ok (.putfield 151, 3) := dk_181 0 151 (dk_at dksX3_bad_0 2 rfl rfl)
theorem dX3_bad_5 : decode cX3_bad 5 = .ok (.aload_n 0, 1) := dk_42 (dk_at dksX3_bad_0 5 rfl rfl)
theorem dX3_bad_6 : decode cX3_bad 6 = .ok (.aload_n 0, 1) := dk_42 (dk_at dksX3_bad_0 6 rfl rfl)
theorem dX3_bad_7 : decode cX3_bad 7 = .ok (.getfield 81, 3) := dk_180 0 81 (dk_at dksX3_bad_0 7 rfl rfl)
theorem dX3_bad_10 : decode cX3_bad 10 = .ok (.putfield 154, 3) := dk_181 0 154 (dk_at dksX3_bad_0 10 rfl rfl)
theorem dX3_bad_13 : decode cX3_bad 13 = .ok (.iconst 0, 1) := dk_3 (dk_at dksX3_bad_0 13 rfl rfl)
theorem dX3_bad_14 : decode cX3_bad 14 = .ok (.ireturn, 1) := dk_172 (dk_at dksX3_bad_0 14 rfl rfl)
abbrev cX3_sumUp : ByteArray := prog_14_method_22_code
def yX3_sumUp : MethodName := ⟨RX3, "sumUp", "()Z"⟩
def dkwX3_sumUp_2 : List UInt8 := [42, 182, 0, 160, 42, 182, 0, 169, 154, 0, 5, 3, 172, 42, 27, 3, 182, 0, 173, 167, 255, 199, 4, 172]
abbrev dktX3_sumUp_2 : List UInt8 := dkwX3_sumUp_2 ++ []
def dkwX3_sumUp_1 : List UInt8 := [17, 0, 145, 160, 0, 43, 42, 180, 0, 135, 17, 0, 143, 160, 0, 8, 16, 13, 167, 0, 5, 16, 14, 60]
abbrev dktX3_sumUp_1 : List UInt8 := dkwX3_sumUp_1 ++ dktX3_sumUp_2
def dkwX3_sumUp_0 : List UInt8 := [42, 182, 0, 169, 154, 0, 5, 3, 172, 42, 180, 0, 135, 17, 0, 143, 159, 0, 13, 42, 180, 0, 135]
abbrev dktX3_sumUp_0 : List UInt8 := dkwX3_sumUp_0 ++ dktX3_sumUp_1
theorem dksX3_sumUp_0 : cX3_sumUp.data.toList.drop 0 = dktX3_sumUp_0 := by decide +kernel
theorem dksX3_sumUp_1 : cX3_sumUp.data.toList.drop 23 = dktX3_sumUp_1 := dk_seg dksX3_sumUp_0 23 rfl rfl
theorem dksX3_sumUp_2 : cX3_sumUp.data.toList.drop 47 = dktX3_sumUp_2 := dk_seg dksX3_sumUp_1 24 rfl rfl
theorem dX3_sumUp_0 : decode cX3_sumUp 0 = .ok (.aload_n 0, 1) := dk_42 (dk_at dksX3_sumUp_0 0 rfl rfl)
theorem dX3_sumUp_1 : decode cX3_sumUp 1 = .ok (.invokevirtual 169, 3) := dk_182 0 169 (dk_at dksX3_sumUp_0 1 rfl rfl)
theorem dX3_sumUp_4 : decode cX3_sumUp 4 = .ok (.ifCond .ne 5, 3) := dk_154 0 5 (dk_at dksX3_sumUp_0 4 rfl rfl)
theorem dX3_sumUp_7 : decode cX3_sumUp 7 = .ok (.iconst 0, 1) := dk_3 (dk_at dksX3_sumUp_0 7 rfl rfl)
theorem dX3_sumUp_8 : decode cX3_sumUp 8 = .ok (.ireturn, 1) := dk_172 (dk_at dksX3_sumUp_0 8 rfl rfl)
theorem dX3_sumUp_9 : decode cX3_sumUp 9 = .ok (.aload_n 0, 1) := dk_42 (dk_at dksX3_sumUp_0 9 rfl rfl)
theorem dX3_sumUp_10 : decode cX3_sumUp 10 = .ok (.getfield 135, 3) := dk_180 0 135 (dk_at dksX3_sumUp_0 10 rfl rfl)
theorem dX3_sumUp_13 : decode cX3_sumUp 13 = .ok (.sipush 143, 3) := dk_17 0 143 (dk_at dksX3_sumUp_0 13 rfl rfl)
theorem dX3_sumUp_16 : decode cX3_sumUp 16 = .ok (.if_icmp .eq 13, 3) := dk_159 0 13 (dk_at dksX3_sumUp_0 16 rfl rfl)
theorem dX3_sumUp_19 : decode cX3_sumUp 19 = .ok (.aload_n 0, 1) := dk_42 (dk_at dksX3_sumUp_0 19 rfl rfl)
theorem dX3_sumUp_20 : decode cX3_sumUp 20 = .ok (.getfield 135, 3) := dk_180 0 135 (dk_at dksX3_sumUp_0 20 rfl rfl)
theorem dX3_sumUp_23 : decode cX3_sumUp 23 = .ok (.sipush 145, 3) := dk_17 0 145 (dk_at dksX3_sumUp_1 0 rfl rfl)
theorem dX3_sumUp_26 : decode cX3_sumUp 26 = .ok (.if_icmp .ne 43, 3) := dk_160 0 43 (dk_at dksX3_sumUp_1 3 rfl rfl)
theorem dX3_sumUp_29 : decode cX3_sumUp 29 = .ok (.aload_n 0, 1) := dk_42 (dk_at dksX3_sumUp_1 6 rfl rfl)
theorem dX3_sumUp_30 : decode cX3_sumUp 30 = .ok (.getfield 135, 3) := dk_180 0 135 (dk_at dksX3_sumUp_1 7 rfl rfl)
theorem dX3_sumUp_33 : decode cX3_sumUp 33 = .ok (.sipush 143, 3) := dk_17 0 143 (dk_at dksX3_sumUp_1 10 rfl rfl)
theorem dX3_sumUp_36 : decode cX3_sumUp 36 = .ok (.if_icmp .ne 8, 3) := dk_160 0 8 (dk_at dksX3_sumUp_1 13 rfl rfl)
theorem dX3_sumUp_39 : decode cX3_sumUp 39 = .ok (.bipush 13, 2) := dk_16 13 (dk_at dksX3_sumUp_1 16 rfl rfl)
theorem dX3_sumUp_41 : decode cX3_sumUp 41 = .ok (.goto 5, 3) := dk_167 0 5 (dk_at dksX3_sumUp_1 18 rfl rfl)
theorem dX3_sumUp_44 : decode cX3_sumUp 44 = .ok (.bipush 14, 2) := dk_16 14 (dk_at dksX3_sumUp_1 21 rfl rfl)
theorem dX3_sumUp_46 : decode cX3_sumUp 46 = .ok (.istore_n 1, 1) := dk_60 (dk_at dksX3_sumUp_1 23 rfl rfl)
theorem dX3_sumUp_47 : decode cX3_sumUp 47 = .ok (.aload_n 0, 1) := dk_42 (dk_at dksX3_sumUp_2 0 rfl rfl)
theorem dX3_sumUp_48 : decode cX3_sumUp 48 = .ok (.invokevirtual 160, 3) := dk_182 0 160 (dk_at dksX3_sumUp_2 1 rfl rfl)
theorem dX3_sumUp_51 : decode cX3_sumUp 51 = .ok (.aload_n 0, 1) := dk_42 (dk_at dksX3_sumUp_2 4 rfl rfl)
theorem dX3_sumUp_52 : decode cX3_sumUp 52 = .ok (.invokevirtual 169, 3) := dk_182 0 169 (dk_at dksX3_sumUp_2 5 rfl rfl)
theorem dX3_sumUp_55 : decode cX3_sumUp 55 = .ok (.ifCond .ne 5, 3) := dk_154 0 5 (dk_at dksX3_sumUp_2 8 rfl rfl)
theorem dX3_sumUp_58 : decode cX3_sumUp 58 = .ok (.iconst 0, 1) := dk_3 (dk_at dksX3_sumUp_2 11 rfl rfl)
theorem dX3_sumUp_59 : decode cX3_sumUp 59 = .ok (.ireturn, 1) := dk_172 (dk_at dksX3_sumUp_2 12 rfl rfl)
theorem dX3_sumUp_60 : decode cX3_sumUp 60 = .ok (.aload_n 0, 1) := dk_42 (dk_at dksX3_sumUp_2 13 rfl rfl)
theorem dX3_sumUp_61 : decode cX3_sumUp 61 = .ok (.iload_n 1, 1) := dk_27 (dk_at dksX3_sumUp_2 14 rfl rfl)
theorem dX3_sumUp_62 : decode cX3_sumUp 62 = .ok (.iconst 0, 1) := dk_3 (dk_at dksX3_sumUp_2 15 rfl rfl)
theorem dX3_sumUp_63 : decode cX3_sumUp 63 = .ok (.invokevirtual 173, 3) := dk_182 0 173 (dk_at dksX3_sumUp_2 16 rfl rfl)
theorem dX3_sumUp_66 : decode cX3_sumUp 66 = .ok (.goto (-57), 3) := dk_167 255 199 (dk_at dksX3_sumUp_2 19 rfl rfl)
theorem dX3_sumUp_69 : decode cX3_sumUp 69 = .ok (.iconst 1, 1) := dk_4 (dk_at dksX3_sumUp_2 22 rfl rfl)
theorem dX3_sumUp_70 : decode cX3_sumUp 70 = .ok (.ireturn, 1) := dk_172 (dk_at dksX3_sumUp_2 23 rfl rfl)
abbrev cX3_product : ByteArray := prog_14_method_23_code
def yX3_product : MethodName := ⟨RX3, "product", "()Z"⟩
def dkwX3_product_5 : List UInt8 := [167, 255, 153, 4, 172]
abbrev dktX3_product_5 : List UInt8 := dkwX3_product_5 ++ []
def dkwX3_product_4 : List UInt8 := [182, 0, 173, 167, 0, 19, 42, 182, 0, 177, 154, 0, 5, 3, 172, 42, 16, 15, 3, 182, 0, 173]
abbrev dktX3_product_4 : List UInt8 := dkwX3_product_4 ++ dktX3_product_5
def dkwX3_product_3 : List UInt8 := [182, 0, 157, 172, 28, 154, 0, 9, 42, 5, 182, 0, 157, 172, 42, 182, 0, 160, 42, 16, 16, 28]
abbrev dktX3_product_3 : List UInt8 := dkwX3_product_3 ++ dktX3_product_4
def dkwX3_product_2 : List UInt8 := [182, 0, 160, 27, 153, 0, 46, 42, 180, 0, 148, 61, 42, 180, 0, 135, 5, 159, 0, 9, 42, 4]
abbrev dktX3_product_2 : List UInt8 := dkwX3_product_2 ++ dktX3_product_3
def dkwX3_product_1 : List UInt8 := [17, 0, 147, 160, 0, 89, 42, 180, 0, 135, 17, 0, 147, 160, 0, 7, 4, 167, 0, 4, 3, 60, 42]
abbrev dktX3_product_1 : List UInt8 := dkwX3_product_1 ++ dktX3_product_2
def dkwX3_product_0 : List UInt8 := [42, 182, 0, 177, 154, 0, 5, 3, 172, 42, 180, 0, 135, 17, 0, 142, 159, 0, 13, 42, 180, 0, 135]
abbrev dktX3_product_0 : List UInt8 := dkwX3_product_0 ++ dktX3_product_1
theorem dksX3_product_0 : cX3_product.data.toList.drop 0 = dktX3_product_0 := by decide +kernel
theorem dksX3_product_1 : cX3_product.data.toList.drop 23 = dktX3_product_1 := dk_seg dksX3_product_0 23 rfl rfl
theorem dksX3_product_2 : cX3_product.data.toList.drop 46 = dktX3_product_2 := dk_seg dksX3_product_1 23 rfl rfl
theorem dksX3_product_3 : cX3_product.data.toList.drop 68 = dktX3_product_3 := dk_seg dksX3_product_2 22 rfl rfl
theorem dksX3_product_4 : cX3_product.data.toList.drop 90 = dktX3_product_4 := dk_seg dksX3_product_3 22 rfl rfl
theorem dksX3_product_5 : cX3_product.data.toList.drop 112 = dktX3_product_5 := dk_seg dksX3_product_4 22 rfl rfl
theorem dX3_product_0 : decode cX3_product 0 = .ok (.aload_n 0, 1) := dk_42 (dk_at dksX3_product_0 0 rfl rfl)
theorem dX3_product_1 : decode cX3_product 1 = .ok (.invokevirtual 177, 3) := dk_182 0 177 (dk_at dksX3_product_0 1 rfl rfl)
theorem dX3_product_4 : decode cX3_product 4 = .ok (.ifCond .ne 5, 3) := dk_154 0 5 (dk_at dksX3_product_0 4 rfl rfl)
theorem dX3_product_7 : decode cX3_product 7 = .ok (.iconst 0, 1) := dk_3 (dk_at dksX3_product_0 7 rfl rfl)
theorem dX3_product_8 : decode cX3_product 8 = .ok (.ireturn, 1) := dk_172 (dk_at dksX3_product_0 8 rfl rfl)
theorem dX3_product_9 : decode cX3_product 9 = .ok (.aload_n 0, 1) := dk_42 (dk_at dksX3_product_0 9 rfl rfl)
theorem dX3_product_10 : decode cX3_product 10 = .ok (.getfield 135, 3) := dk_180 0 135 (dk_at dksX3_product_0 10 rfl rfl)
theorem dX3_product_13 : decode cX3_product 13 = .ok (.sipush 142, 3) := dk_17 0 142 (dk_at dksX3_product_0 13 rfl rfl)
theorem dX3_product_16 : decode cX3_product 16 = .ok (.if_icmp .eq 13, 3) := dk_159 0 13 (dk_at dksX3_product_0 16 rfl rfl)
theorem dX3_product_19 : decode cX3_product 19 = .ok (.aload_n 0, 1) := dk_42 (dk_at dksX3_product_0 19 rfl rfl)
theorem dX3_product_20 : decode cX3_product 20 = .ok (.getfield 135, 3) := dk_180 0 135 (dk_at dksX3_product_0 20 rfl rfl)
theorem dX3_product_23 : decode cX3_product 23 = .ok (.sipush 147, 3) := dk_17 0 147 (dk_at dksX3_product_1 0 rfl rfl)
theorem dX3_product_26 : decode cX3_product 26 = .ok (.if_icmp .ne 89, 3) := dk_160 0 89 (dk_at dksX3_product_1 3 rfl rfl)
theorem dX3_product_29 : decode cX3_product 29 = .ok (.aload_n 0, 1) := dk_42 (dk_at dksX3_product_1 6 rfl rfl)
theorem dX3_product_30 : decode cX3_product 30 = .ok (.getfield 135, 3) := dk_180 0 135 (dk_at dksX3_product_1 7 rfl rfl)
theorem dX3_product_33 : decode cX3_product 33 = .ok (.sipush 147, 3) := dk_17 0 147 (dk_at dksX3_product_1 10 rfl rfl)
theorem dX3_product_36 : decode cX3_product 36 = .ok (.if_icmp .ne 7, 3) := dk_160 0 7 (dk_at dksX3_product_1 13 rfl rfl)
theorem dX3_product_39 : decode cX3_product 39 = .ok (.iconst 1, 1) := dk_4 (dk_at dksX3_product_1 16 rfl rfl)
theorem dX3_product_40 : decode cX3_product 40 = .ok (.goto 4, 3) := dk_167 0 4 (dk_at dksX3_product_1 17 rfl rfl)
theorem dX3_product_43 : decode cX3_product 43 = .ok (.iconst 0, 1) := dk_3 (dk_at dksX3_product_1 20 rfl rfl)
theorem dX3_product_44 : decode cX3_product 44 = .ok (.istore_n 1, 1) := dk_60 (dk_at dksX3_product_1 21 rfl rfl)
theorem dX3_product_45 : decode cX3_product 45 = .ok (.aload_n 0, 1) := dk_42 (dk_at dksX3_product_1 22 rfl rfl)
theorem dX3_product_46 : decode cX3_product 46 = .ok (.invokevirtual 160, 3) := dk_182 0 160 (dk_at dksX3_product_2 0 rfl rfl)
theorem dX3_product_49 : decode cX3_product 49 = .ok (.iload_n 1, 1) := dk_27 (dk_at dksX3_product_2 3 rfl rfl)
theorem dX3_product_50 : decode cX3_product 50 = .ok (.ifCond .eq 46, 3) := dk_153 0 46 (dk_at dksX3_product_2 4 rfl rfl)
theorem dX3_product_53 : decode cX3_product 53 = .ok (.aload_n 0, 1) := dk_42 (dk_at dksX3_product_2 7 rfl rfl)
theorem dX3_product_54 : decode cX3_product 54 = .ok (.getfield 148, 3) := dk_180 0 148 (dk_at dksX3_product_2 8 rfl rfl)
theorem dX3_product_57 : decode cX3_product 57 = .ok (.istore_n 2, 1) := dk_61 (dk_at dksX3_product_2 11 rfl rfl)
theorem dX3_product_58 : decode cX3_product 58 = .ok (.aload_n 0, 1) := dk_42 (dk_at dksX3_product_2 12 rfl rfl)
theorem dX3_product_59 : decode cX3_product 59 = .ok (.getfield 135, 3) := dk_180 0 135 (dk_at dksX3_product_2 13 rfl rfl)
theorem dX3_product_62 : decode cX3_product 62 = .ok (.iconst 2, 1) := dk_5 (dk_at dksX3_product_2 16 rfl rfl)
theorem dX3_product_63 : decode cX3_product 63 = .ok (.if_icmp .eq 9, 3) := dk_159 0 9 (dk_at dksX3_product_2 17 rfl rfl)
theorem dX3_product_66 : decode cX3_product 66 = .ok (.aload_n 0, 1) := dk_42 (dk_at dksX3_product_2 20 rfl rfl)
theorem dX3_product_67 : decode cX3_product 67 = .ok (.iconst 1, 1) := dk_4 (dk_at dksX3_product_2 21 rfl rfl)
theorem dX3_product_68 : decode cX3_product 68 = .ok (.invokevirtual 157, 3) := dk_182 0 157 (dk_at dksX3_product_3 0 rfl rfl)
theorem dX3_product_71 : decode cX3_product 71 = .ok (.ireturn, 1) := dk_172 (dk_at dksX3_product_3 3 rfl rfl)
theorem dX3_product_72 : decode cX3_product 72 = .ok (.iload_n 2, 1) := dk_28 (dk_at dksX3_product_3 4 rfl rfl)
theorem dX3_product_73 : decode cX3_product 73 = .ok (.ifCond .ne 9, 3) := dk_154 0 9 (dk_at dksX3_product_3 5 rfl rfl)
theorem dX3_product_76 : decode cX3_product 76 = .ok (.aload_n 0, 1) := dk_42 (dk_at dksX3_product_3 8 rfl rfl)
theorem dX3_product_77 : decode cX3_product 77 = .ok (.iconst 2, 1) := dk_5 (dk_at dksX3_product_3 9 rfl rfl)
theorem dX3_product_78 : decode cX3_product 78 = .ok (.invokevirtual 157, 3) := dk_182 0 157 (dk_at dksX3_product_3 10 rfl rfl)
theorem dX3_product_81 : decode cX3_product 81 = .ok (.ireturn, 1) := dk_172 (dk_at dksX3_product_3 13 rfl rfl)
theorem dX3_product_82 : decode cX3_product 82 = .ok (.aload_n 0, 1) := dk_42 (dk_at dksX3_product_3 14 rfl rfl)
theorem dX3_product_83 : decode cX3_product 83 = .ok (.invokevirtual 160, 3) := dk_182 0 160 (dk_at dksX3_product_3 15 rfl rfl)
theorem dX3_product_86 : decode cX3_product 86 = .ok (.aload_n 0, 1) := dk_42 (dk_at dksX3_product_3 18 rfl rfl)
theorem dX3_product_87 : decode cX3_product 87 = .ok (.bipush 16, 2) := dk_16 16 (dk_at dksX3_product_3 19 rfl rfl)
theorem dX3_product_89 : decode cX3_product 89 = .ok (.iload_n 2, 1) := dk_28 (dk_at dksX3_product_3 21 rfl rfl)
theorem dX3_product_90 : decode cX3_product 90 = .ok (.invokevirtual 173, 3) := dk_182 0 173 (dk_at dksX3_product_4 0 rfl rfl)
theorem dX3_product_93 : decode cX3_product 93 = .ok (.goto 19, 3) := dk_167 0 19 (dk_at dksX3_product_4 3 rfl rfl)
theorem dX3_product_96 : decode cX3_product 96 = .ok (.aload_n 0, 1) := dk_42 (dk_at dksX3_product_4 6 rfl rfl)
theorem dX3_product_97 : decode cX3_product 97 = .ok (.invokevirtual 177, 3) := dk_182 0 177 (dk_at dksX3_product_4 7 rfl rfl)
theorem dX3_product_100 : decode cX3_product 100 = .ok (.ifCond .ne 5, 3) := dk_154 0 5 (dk_at dksX3_product_4 10 rfl rfl)
theorem dX3_product_103 : decode cX3_product 103 = .ok (.iconst 0, 1) := dk_3 (dk_at dksX3_product_4 13 rfl rfl)
theorem dX3_product_104 : decode cX3_product 104 = .ok (.ireturn, 1) := dk_172 (dk_at dksX3_product_4 14 rfl rfl)
theorem dX3_product_105 : decode cX3_product 105 = .ok (.aload_n 0, 1) := dk_42 (dk_at dksX3_product_4 15 rfl rfl)
theorem dX3_product_106 : decode cX3_product 106 = .ok (.bipush 15, 2) := dk_16 15 (dk_at dksX3_product_4 16 rfl rfl)
theorem dX3_product_108 : decode cX3_product 108 = .ok (.iconst 0, 1) := dk_3 (dk_at dksX3_product_4 18 rfl rfl)
theorem dX3_product_109 : decode cX3_product 109 = .ok (.invokevirtual 173, 3) := dk_182 0 173 (dk_at dksX3_product_4 19 rfl rfl)
theorem dX3_product_112 : decode cX3_product 112 = .ok (.goto (-103), 3) := dk_167 255 153 (dk_at dksX3_product_5 0 rfl rfl)
theorem dX3_product_115 : decode cX3_product 115 = .ok (.iconst 1, 1) := dk_4 (dk_at dksX3_product_5 3 rfl rfl)
theorem dX3_product_116 : decode cX3_product 116 = .ok (.ireturn, 1) := dk_172 (dk_at dksX3_product_5 4 rfl rfl)
abbrev cX3_unit : ByteArray := prog_14_method_24_code
def yX3_unit : MethodName := ⟨RX3, "unit", "()Z"⟩
def dkwX3_unit_2 : List UInt8 := [180, 0, 148, 182, 0, 173, 42, 182, 0, 160, 4, 172]
abbrev dktX3_unit_2 : List UInt8 := dkwX3_unit_2 ++ []
def dkwX3_unit_1 : List UInt8 := [42, 4, 182, 0, 157, 172, 42, 27, 153, 0, 13, 42, 180, 0, 135, 16, 40, 100, 167, 0, 4, 3, 42]
abbrev dktX3_unit_1 : List UInt8 := dkwX3_unit_1 ++ dktX3_unit_2
def dkwX3_unit_0 : List UInt8 := [42, 180, 0, 135, 16, 41, 16, 50, 184, 0, 66, 60, 42, 180, 0, 135, 5, 159, 0, 13, 27, 154, 0, 9]
abbrev dktX3_unit_0 : List UInt8 := dkwX3_unit_0 ++ dktX3_unit_1
theorem dksX3_unit_0 : cX3_unit.data.toList.drop 0 = dktX3_unit_0 := by decide +kernel
theorem dksX3_unit_1 : cX3_unit.data.toList.drop 24 = dktX3_unit_1 := dk_seg dksX3_unit_0 24 rfl rfl
theorem dksX3_unit_2 : cX3_unit.data.toList.drop 47 = dktX3_unit_2 := dk_seg dksX3_unit_1 23 rfl rfl
theorem dX3_unit_0 : decode cX3_unit 0 = .ok (.aload_n 0, 1) := dk_42 (dk_at dksX3_unit_0 0 rfl rfl)
theorem dX3_unit_1 : decode cX3_unit 1 = .ok (.getfield 135, 3) := dk_180 0 135 (dk_at dksX3_unit_0 1 rfl rfl)
theorem dX3_unit_4 : decode cX3_unit 4 = .ok (.bipush 41, 2) := dk_16 41 (dk_at dksX3_unit_0 4 rfl rfl)
theorem dX3_unit_6 : decode cX3_unit 6 = .ok (.bipush 50, 2) := dk_16 50 (dk_at dksX3_unit_0 6 rfl rfl)
theorem dX3_unit_8 : decode cX3_unit 8 = .ok (.invokestatic 66, 3) := dk_184 0 66 (dk_at dksX3_unit_0 8 rfl rfl)
theorem dX3_unit_11 : decode cX3_unit 11 = .ok (.istore_n 1, 1) := dk_60 (dk_at dksX3_unit_0 11 rfl rfl)
theorem dX3_unit_12 : decode cX3_unit 12 = .ok (.aload_n 0, 1) := dk_42 (dk_at dksX3_unit_0 12 rfl rfl)
theorem dX3_unit_13 : decode cX3_unit 13 = .ok (.getfield 135, 3) := dk_180 0 135 (dk_at dksX3_unit_0 13 rfl rfl)
theorem dX3_unit_16 : decode cX3_unit 16 = .ok (.iconst 2, 1) := dk_5 (dk_at dksX3_unit_0 16 rfl rfl)
theorem dX3_unit_17 : decode cX3_unit 17 = .ok (.if_icmp .eq 13, 3) := dk_159 0 13 (dk_at dksX3_unit_0 17 rfl rfl)
theorem dX3_unit_20 : decode cX3_unit 20 = .ok (.iload_n 1, 1) := dk_27 (dk_at dksX3_unit_0 20 rfl rfl)
theorem dX3_unit_21 : decode cX3_unit 21 = .ok (.ifCond .ne 9, 3) := dk_154 0 9 (dk_at dksX3_unit_0 21 rfl rfl)
theorem dX3_unit_24 : decode cX3_unit 24 = .ok (.aload_n 0, 1) := dk_42 (dk_at dksX3_unit_1 0 rfl rfl)
theorem dX3_unit_25 : decode cX3_unit 25 = .ok (.iconst 1, 1) := dk_4 (dk_at dksX3_unit_1 1 rfl rfl)
theorem dX3_unit_26 : decode cX3_unit 26 = .ok (.invokevirtual 157, 3) := dk_182 0 157 (dk_at dksX3_unit_1 2 rfl rfl)
theorem dX3_unit_29 : decode cX3_unit 29 = .ok (.ireturn, 1) := dk_172 (dk_at dksX3_unit_1 5 rfl rfl)
theorem dX3_unit_30 : decode cX3_unit 30 = .ok (.aload_n 0, 1) := dk_42 (dk_at dksX3_unit_1 6 rfl rfl)
theorem dX3_unit_31 : decode cX3_unit 31 = .ok (.iload_n 1, 1) := dk_27 (dk_at dksX3_unit_1 7 rfl rfl)
theorem dX3_unit_32 : decode cX3_unit 32 = .ok (.ifCond .eq 13, 3) := dk_153 0 13 (dk_at dksX3_unit_1 8 rfl rfl)
theorem dX3_unit_35 : decode cX3_unit 35 = .ok (.aload_n 0, 1) := dk_42 (dk_at dksX3_unit_1 11 rfl rfl)
theorem dX3_unit_36 : decode cX3_unit 36 = .ok (.getfield 135, 3) := dk_180 0 135 (dk_at dksX3_unit_1 12 rfl rfl)
theorem dX3_unit_39 : decode cX3_unit 39 = .ok (.bipush 40, 2) := dk_16 40 (dk_at dksX3_unit_1 15 rfl rfl)
theorem dX3_unit_41 : decode cX3_unit 41 = .ok (.isub, 1) := dk_100 (dk_at dksX3_unit_1 17 rfl rfl)
theorem dX3_unit_42 : decode cX3_unit 42 = .ok (.goto 4, 3) := dk_167 0 4 (dk_at dksX3_unit_1 18 rfl rfl)
theorem dX3_unit_45 : decode cX3_unit 45 = .ok (.iconst 0, 1) := dk_3 (dk_at dksX3_unit_1 21 rfl rfl)
theorem dX3_unit_46 : decode cX3_unit 46 = .ok (.aload_n 0, 1) := dk_42 (dk_at dksX3_unit_1 22 rfl rfl)
theorem dX3_unit_47 : decode cX3_unit 47 = .ok (.getfield 148, 3) := dk_180 0 148 (dk_at dksX3_unit_2 0 rfl rfl)
theorem dX3_unit_50 : decode cX3_unit 50 = .ok (.invokevirtual 173, 3) := dk_182 0 173 (dk_at dksX3_unit_2 3 rfl rfl)
theorem dX3_unit_53 : decode cX3_unit 53 = .ok (.aload_n 0, 1) := dk_42 (dk_at dksX3_unit_2 6 rfl rfl)
theorem dX3_unit_54 : decode cX3_unit 54 = .ok (.invokevirtual 160, 3) := dk_182 0 160 (dk_at dksX3_unit_2 7 rfl rfl)
theorem dX3_unit_57 : decode cX3_unit 57 = .ok (.iconst 1, 1) := dk_4 (dk_at dksX3_unit_2 10 rfl rfl)
theorem dX3_unit_58 : decode cX3_unit 58 = .ok (.ireturn, 1) := dk_172 (dk_at dksX3_unit_2 11 rfl rfl)
abbrev cX3_lay : ByteArray := prog_14_method_20_code
def yX3_lay : MethodName := ⟨RX3, "lay", "(II)V"⟩
def dkwX3_lay_1 : List UInt8 := [28, 79, 42, 89, 180, 0, 163, 4, 96, 181, 0, 163, 177]
abbrev dktX3_lay_1 : List UInt8 := dkwX3_lay_1 ++ []
def dkwX3_lay_0 : List UInt8 := [42, 180, 0, 22, 5, 42, 180, 0, 163, 104, 27, 79, 42, 180, 0, 22, 5, 42, 180, 0, 163, 104, 4, 96]
abbrev dktX3_lay_0 : List UInt8 := dkwX3_lay_0 ++ dktX3_lay_1
theorem dksX3_lay_0 : cX3_lay.data.toList.drop 0 = dktX3_lay_0 := by decide +kernel
theorem dksX3_lay_1 : cX3_lay.data.toList.drop 24 = dktX3_lay_1 := dk_seg dksX3_lay_0 24 rfl rfl
theorem dX3_lay_0 : decode cX3_lay 0 = .ok (.aload_n 0, 1) := dk_42 (dk_at dksX3_lay_0 0 rfl rfl)
theorem dX3_lay_1 : decode cX3_lay 1 = .ok (.getfield 22, 3) := dk_180 0 22 (dk_at dksX3_lay_0 1 rfl rfl)
theorem dX3_lay_4 : decode cX3_lay 4 = .ok (.iconst 2, 1) := dk_5 (dk_at dksX3_lay_0 4 rfl rfl)
theorem dX3_lay_5 : decode cX3_lay 5 = .ok (.aload_n 0, 1) := dk_42 (dk_at dksX3_lay_0 5 rfl rfl)
theorem dX3_lay_6 : decode cX3_lay 6 = .ok (.getfield 163, 3) := dk_180 0 163 (dk_at dksX3_lay_0 6 rfl rfl)
theorem dX3_lay_9 : decode cX3_lay 9 = .ok (.imul, 1) := dk_104 (dk_at dksX3_lay_0 9 rfl rfl)
theorem dX3_lay_10 : decode cX3_lay 10 = .ok (.iload_n 1, 1) := dk_27 (dk_at dksX3_lay_0 10 rfl rfl)
theorem dX3_lay_11 : decode cX3_lay 11 = .ok (.iastore, 1) := dk_79 (dk_at dksX3_lay_0 11 rfl rfl)
theorem dX3_lay_12 : decode cX3_lay 12 = .ok (.aload_n 0, 1) := dk_42 (dk_at dksX3_lay_0 12 rfl rfl)
theorem dX3_lay_13 : decode cX3_lay 13 = .ok (.getfield 22, 3) := dk_180 0 22 (dk_at dksX3_lay_0 13 rfl rfl)
theorem dX3_lay_16 : decode cX3_lay 16 = .ok (.iconst 2, 1) := dk_5 (dk_at dksX3_lay_0 16 rfl rfl)
theorem dX3_lay_17 : decode cX3_lay 17 = .ok (.aload_n 0, 1) := dk_42 (dk_at dksX3_lay_0 17 rfl rfl)
theorem dX3_lay_18 : decode cX3_lay 18 = .ok (.getfield 163, 3) := dk_180 0 163 (dk_at dksX3_lay_0 18 rfl rfl)
theorem dX3_lay_21 : decode cX3_lay 21 = .ok (.imul, 1) := dk_104 (dk_at dksX3_lay_0 21 rfl rfl)
theorem dX3_lay_22 : decode cX3_lay 22 = .ok (.iconst 1, 1) := dk_4 (dk_at dksX3_lay_0 22 rfl rfl)
theorem dX3_lay_23 : decode cX3_lay 23 = .ok (.iadd, 1) := dk_96 (dk_at dksX3_lay_0 23 rfl rfl)
theorem dX3_lay_24 : decode cX3_lay 24 = .ok (.iload_n 2, 1) := dk_28 (dk_at dksX3_lay_1 0 rfl rfl)
theorem dX3_lay_25 : decode cX3_lay 25 = .ok (.iastore, 1) := dk_79 (dk_at dksX3_lay_1 1 rfl rfl)
theorem dX3_lay_26 : decode cX3_lay 26 = .ok (.aload_n 0, 1) := dk_42 (dk_at dksX3_lay_1 2 rfl rfl)
theorem dX3_lay_27 : decode cX3_lay 27 = .ok (.dup, 1) := dk_89 (dk_at dksX3_lay_1 3 rfl rfl)
theorem dX3_lay_28 : decode cX3_lay 28 = .ok (.getfield 163, 3) := dk_180 0 163 (dk_at dksX3_lay_1 4 rfl rfl)
theorem dX3_lay_31 : decode cX3_lay 31 = .ok (.iconst 1, 1) := dk_4 (dk_at dksX3_lay_1 7 rfl rfl)
theorem dX3_lay_32 : decode cX3_lay 32 = .ok (.iadd, 1) := dk_96 (dk_at dksX3_lay_1 8 rfl rfl)
theorem dX3_lay_33 : decode cX3_lay 33 = .ok (.putfield 163, 3) := dk_181 0 163 (dk_at dksX3_lay_1 9 rfl rfl)
theorem dX3_lay_36 : decode cX3_lay 36 = .ok (.return_, 1) := dk_177 (dk_at dksX3_lay_1 12 rfl rfl)
abbrev cX3_any : ByteArray := prog_14_method_25_code
def yX3_any : MethodName := ⟨RX3, "any", "()Z"⟩
def dkwX3_any_1 : List UInt8 := [182, 0, 180, 154, 0, 5, 3, 172, 42, 16, 22, 3, 182, 0, 173, 167, 255, 228, 4, 172]
abbrev dktX3_any_1 : List UInt8 := dkwX3_any_1 ++ []
def dkwX3_any_0 : List UInt8 := [42, 182, 0, 180, 154, 0, 5, 3, 172, 42, 180, 0, 135, 7, 160, 0, 26, 42, 182, 0, 160, 42]
abbrev dktX3_any_0 : List UInt8 := dkwX3_any_0 ++ dktX3_any_1
theorem dksX3_any_0 : cX3_any.data.toList.drop 0 = dktX3_any_0 := by decide +kernel
theorem dksX3_any_1 : cX3_any.data.toList.drop 22 = dktX3_any_1 := dk_seg dksX3_any_0 22 rfl rfl
theorem dX3_any_0 : decode cX3_any 0 = .ok (.aload_n 0, 1) := dk_42 (dk_at dksX3_any_0 0 rfl rfl)
theorem dX3_any_1 : decode cX3_any 1 = .ok (.invokevirtual 180, 3) := dk_182 0 180 (dk_at dksX3_any_0 1 rfl rfl)
theorem dX3_any_4 : decode cX3_any 4 = .ok (.ifCond .ne 5, 3) := dk_154 0 5 (dk_at dksX3_any_0 4 rfl rfl)
theorem dX3_any_7 : decode cX3_any 7 = .ok (.iconst 0, 1) := dk_3 (dk_at dksX3_any_0 7 rfl rfl)
theorem dX3_any_8 : decode cX3_any 8 = .ok (.ireturn, 1) := dk_172 (dk_at dksX3_any_0 8 rfl rfl)
theorem dX3_any_9 : decode cX3_any 9 = .ok (.aload_n 0, 1) := dk_42 (dk_at dksX3_any_0 9 rfl rfl)
theorem dX3_any_10 : decode cX3_any 10 = .ok (.getfield 135, 3) := dk_180 0 135 (dk_at dksX3_any_0 10 rfl rfl)
theorem dX3_any_13 : decode cX3_any 13 = .ok (.iconst 4, 1) := dk_7 (dk_at dksX3_any_0 13 rfl rfl)
theorem dX3_any_14 : decode cX3_any 14 = .ok (.if_icmp .ne 26, 3) := dk_160 0 26 (dk_at dksX3_any_0 14 rfl rfl)
theorem dX3_any_17 : decode cX3_any 17 = .ok (.aload_n 0, 1) := dk_42 (dk_at dksX3_any_0 17 rfl rfl)
theorem dX3_any_18 : decode cX3_any 18 = .ok (.invokevirtual 160, 3) := dk_182 0 160 (dk_at dksX3_any_0 18 rfl rfl)
theorem dX3_any_21 : decode cX3_any 21 = .ok (.aload_n 0, 1) := dk_42 (dk_at dksX3_any_0 21 rfl rfl)
theorem dX3_any_22 : decode cX3_any 22 = .ok (.invokevirtual 180, 3) := dk_182 0 180 (dk_at dksX3_any_1 0 rfl rfl)
theorem dX3_any_25 : decode cX3_any 25 = .ok (.ifCond .ne 5, 3) := dk_154 0 5 (dk_at dksX3_any_1 3 rfl rfl)
theorem dX3_any_28 : decode cX3_any 28 = .ok (.iconst 0, 1) := dk_3 (dk_at dksX3_any_1 6 rfl rfl)
theorem dX3_any_29 : decode cX3_any 29 = .ok (.ireturn, 1) := dk_172 (dk_at dksX3_any_1 7 rfl rfl)
theorem dX3_any_30 : decode cX3_any 30 = .ok (.aload_n 0, 1) := dk_42 (dk_at dksX3_any_1 8 rfl rfl)
theorem dX3_any_31 : decode cX3_any 31 = .ok (.bipush 22, 2) := dk_16 22 (dk_at dksX3_any_1 9 rfl rfl)
theorem dX3_any_33 : decode cX3_any 33 = .ok (.iconst 0, 1) := dk_3 (dk_at dksX3_any_1 11 rfl rfl)
theorem dX3_any_34 : decode cX3_any 34 = .ok (.invokevirtual 173, 3) := dk_182 0 173 (dk_at dksX3_any_1 12 rfl rfl)
theorem dX3_any_37 : decode cX3_any 37 = .ok (.goto (-28), 3) := dk_167 255 228 (dk_at dksX3_any_1 15 rfl rfl)
theorem dX3_any_40 : decode cX3_any 40 = .ok (.iconst 1, 1) := dk_4 (dk_at dksX3_any_1 18 rfl rfl)
theorem dX3_any_41 : decode cX3_any 41 = .ok (.ireturn, 1) := dk_172 (dk_at dksX3_any_1 19 rfl rfl)
abbrev cX3_every : ByteArray := prog_14_method_26_code
def yX3_every : MethodName := ⟨RX3, "every", "()Z"⟩
def dkwX3_every_1 : List UInt8 := [182, 0, 183, 154, 0, 5, 3, 172, 42, 16, 21, 3, 182, 0, 173, 167, 255, 228, 4, 172]
abbrev dktX3_every_1 : List UInt8 := dkwX3_every_1 ++ []
def dkwX3_every_0 : List UInt8 := [42, 182, 0, 183, 154, 0, 5, 3, 172, 42, 180, 0, 135, 8, 160, 0, 26, 42, 182, 0, 160, 42]
abbrev dktX3_every_0 : List UInt8 := dkwX3_every_0 ++ dktX3_every_1
theorem dksX3_every_0 : cX3_every.data.toList.drop 0 = dktX3_every_0 := by decide +kernel
theorem dksX3_every_1 : cX3_every.data.toList.drop 22 = dktX3_every_1 := dk_seg dksX3_every_0 22 rfl rfl
theorem dX3_every_0 : decode cX3_every 0 = .ok (.aload_n 0, 1) := dk_42 (dk_at dksX3_every_0 0 rfl rfl)
theorem dX3_every_1 : decode cX3_every 1 = .ok (.invokevirtual 183, 3) := dk_182 0 183 (dk_at dksX3_every_0 1 rfl rfl)
theorem dX3_every_4 : decode cX3_every 4 = .ok (.ifCond .ne 5, 3) := dk_154 0 5 (dk_at dksX3_every_0 4 rfl rfl)
theorem dX3_every_7 : decode cX3_every 7 = .ok (.iconst 0, 1) := dk_3 (dk_at dksX3_every_0 7 rfl rfl)
theorem dX3_every_8 : decode cX3_every 8 = .ok (.ireturn, 1) := dk_172 (dk_at dksX3_every_0 8 rfl rfl)
theorem dX3_every_9 : decode cX3_every 9 = .ok (.aload_n 0, 1) := dk_42 (dk_at dksX3_every_0 9 rfl rfl)
theorem dX3_every_10 : decode cX3_every 10 = .ok (.getfield 135, 3) := dk_180 0 135 (dk_at dksX3_every_0 10 rfl rfl)
theorem dX3_every_13 : decode cX3_every 13 = .ok (.iconst 5, 1) := dk_8 (dk_at dksX3_every_0 13 rfl rfl)
theorem dX3_every_14 : decode cX3_every 14 = .ok (.if_icmp .ne 26, 3) := dk_160 0 26 (dk_at dksX3_every_0 14 rfl rfl)
theorem dX3_every_17 : decode cX3_every 17 = .ok (.aload_n 0, 1) := dk_42 (dk_at dksX3_every_0 17 rfl rfl)
theorem dX3_every_18 : decode cX3_every 18 = .ok (.invokevirtual 160, 3) := dk_182 0 160 (dk_at dksX3_every_0 18 rfl rfl)
theorem dX3_every_21 : decode cX3_every 21 = .ok (.aload_n 0, 1) := dk_42 (dk_at dksX3_every_0 21 rfl rfl)
theorem dX3_every_22 : decode cX3_every 22 = .ok (.invokevirtual 183, 3) := dk_182 0 183 (dk_at dksX3_every_1 0 rfl rfl)
theorem dX3_every_25 : decode cX3_every 25 = .ok (.ifCond .ne 5, 3) := dk_154 0 5 (dk_at dksX3_every_1 3 rfl rfl)
theorem dX3_every_28 : decode cX3_every 28 = .ok (.iconst 0, 1) := dk_3 (dk_at dksX3_every_1 6 rfl rfl)
theorem dX3_every_29 : decode cX3_every 29 = .ok (.ireturn, 1) := dk_172 (dk_at dksX3_every_1 7 rfl rfl)
theorem dX3_every_30 : decode cX3_every 30 = .ok (.aload_n 0, 1) := dk_42 (dk_at dksX3_every_1 8 rfl rfl)
theorem dX3_every_31 : decode cX3_every 31 = .ok (.bipush 21, 2) := dk_16 21 (dk_at dksX3_every_1 9 rfl rfl)
theorem dX3_every_33 : decode cX3_every 33 = .ok (.iconst 0, 1) := dk_3 (dk_at dksX3_every_1 11 rfl rfl)
theorem dX3_every_34 : decode cX3_every 34 = .ok (.invokevirtual 173, 3) := dk_182 0 173 (dk_at dksX3_every_1 12 rfl rfl)
theorem dX3_every_37 : decode cX3_every 37 = .ok (.goto (-28), 3) := dk_167 255 228 (dk_at dksX3_every_1 15 rfl rfl)
theorem dX3_every_40 : decode cX3_every 40 = .ok (.iconst 1, 1) := dk_4 (dk_at dksX3_every_1 18 rfl rfl)
theorem dX3_every_41 : decode cX3_every 41 = .ok (.ireturn, 1) := dk_172 (dk_at dksX3_every_1 19 rfl rfl)
abbrev cX3_oneTest : ByteArray := prog_14_method_27_code
def yX3_oneTest : MethodName := ⟨RX3, "oneTest", "()Z"⟩
def dkwX3_oneTest_7 : List UInt8 := [154, 0, 5, 3, 172, 42, 27, 3, 182, 0, 173, 4, 172]
abbrev dktX3_oneTest_7 : List UInt8 := dkwX3_oneTest_7 ++ []
def dkwX3_oneTest_6 : List UInt8 := [167, 0, 4, 2, 60, 27, 2, 160, 0, 9, 42, 4, 182, 0, 157, 172, 42, 182, 0, 160, 42, 182, 0, 194]
abbrev dktX3_oneTest_6 : List UInt8 := dkwX3_oneTest_6 ++ dktX3_oneTest_7
def dkwX3_oneTest_5 : List UInt8 := [17, 0, 161, 160, 0, 8, 16, 18, 167, 0, 19, 42, 180, 0, 135, 17, 0, 162, 160, 0, 8, 16, 19]
abbrev dktX3_oneTest_5 : List UInt8 := dkwX3_oneTest_5 ++ dktX3_oneTest_6
def dkwX3_oneTest_4 : List UInt8 := [154, 0, 5, 3, 172, 42, 180, 0, 135, 17, 0, 160, 160, 0, 8, 16, 17, 167, 0, 34, 42, 180, 0, 135]
abbrev dktX3_oneTest_4 : List UInt8 := dkwX3_oneTest_4 ++ dktX3_oneTest_5
def dkwX3_oneTest_3 : List UInt8 := [182, 0, 192, 154, 0, 5, 3, 172, 42, 89, 180, 0, 166, 4, 100, 181, 0, 166, 4, 172, 42, 182, 0, 194]
abbrev dktX3_oneTest_3 : List UInt8 := dkwX3_oneTest_3 ++ dktX3_oneTest_4
def dkwX3_oneTest_2 : List UInt8 := [17, 0, 140, 160, 0, 41, 42, 182, 0, 186, 153, 0, 20, 42, 182, 0, 189, 153, 0, 13, 42, 17, 0, 141]
abbrev dktX3_oneTest_2 : List UInt8 := dkwX3_oneTest_2 ++ dktX3_oneTest_3
def dkwX3_oneTest_1 : List UInt8 := [172, 42, 89, 180, 0, 166, 4, 100, 181, 0, 166, 42, 16, 20, 3, 182, 0, 173, 4, 172, 42, 180, 0, 135]
abbrev dktX3_oneTest_1 : List UInt8 := dkwX3_oneTest_1 ++ dktX3_oneTest_2
def dkwX3_oneTest_0 : List UInt8 := [42, 180, 0, 135, 16, 6, 160, 0, 38, 42, 182, 0, 186, 153, 0, 10, 42, 182, 0, 183, 154, 0, 5, 3]
abbrev dktX3_oneTest_0 : List UInt8 := dkwX3_oneTest_0 ++ dktX3_oneTest_1
theorem dksX3_oneTest_0 : cX3_oneTest.data.toList.drop 0 = dktX3_oneTest_0 := by decide +kernel
theorem dksX3_oneTest_1 : cX3_oneTest.data.toList.drop 24 = dktX3_oneTest_1 := dk_seg dksX3_oneTest_0 24 rfl rfl
theorem dksX3_oneTest_2 : cX3_oneTest.data.toList.drop 48 = dktX3_oneTest_2 := dk_seg dksX3_oneTest_1 24 rfl rfl
theorem dksX3_oneTest_3 : cX3_oneTest.data.toList.drop 72 = dktX3_oneTest_3 := dk_seg dksX3_oneTest_2 24 rfl rfl
theorem dksX3_oneTest_4 : cX3_oneTest.data.toList.drop 96 = dktX3_oneTest_4 := dk_seg dksX3_oneTest_3 24 rfl rfl
theorem dksX3_oneTest_5 : cX3_oneTest.data.toList.drop 120 = dktX3_oneTest_5 := dk_seg dksX3_oneTest_4 24 rfl rfl
theorem dksX3_oneTest_6 : cX3_oneTest.data.toList.drop 143 = dktX3_oneTest_6 := dk_seg dksX3_oneTest_5 23 rfl rfl
theorem dksX3_oneTest_7 : cX3_oneTest.data.toList.drop 167 = dktX3_oneTest_7 := dk_seg dksX3_oneTest_6 24 rfl rfl
theorem dX3_oneTest_0 : decode cX3_oneTest 0 = .ok (.aload_n 0, 1) := dk_42 (dk_at dksX3_oneTest_0 0 rfl rfl)
theorem dX3_oneTest_1 : decode cX3_oneTest 1 = .ok (.getfield 135, 3) := dk_180 0 135 (dk_at dksX3_oneTest_0 1 rfl rfl)
theorem dX3_oneTest_4 : decode cX3_oneTest 4 = .ok (.bipush 6, 2) := dk_16 6 (dk_at dksX3_oneTest_0 4 rfl rfl)
theorem dX3_oneTest_6 : decode cX3_oneTest 6 = .ok (.if_icmp .ne 38, 3) := dk_160 0 38 (dk_at dksX3_oneTest_0 6 rfl rfl)
theorem dX3_oneTest_9 : decode cX3_oneTest 9 = .ok (.aload_n 0, 1) := dk_42 (dk_at dksX3_oneTest_0 9 rfl rfl)
theorem dX3_oneTest_10 : decode cX3_oneTest 10 = .ok (.invokevirtual 186, 3) := dk_182 0 186 (dk_at dksX3_oneTest_0 10 rfl rfl)
theorem dX3_oneTest_13 : decode cX3_oneTest 13 = .ok (.ifCond .eq 10, 3) := dk_153 0 10 (dk_at dksX3_oneTest_0 13 rfl rfl)
theorem dX3_oneTest_16 : decode cX3_oneTest 16 = .ok (.aload_n 0, 1) := dk_42 (dk_at dksX3_oneTest_0 16 rfl rfl)
theorem dX3_oneTest_17 : decode cX3_oneTest 17 = .ok (.invokevirtual 183, 3) := dk_182 0 183 (dk_at dksX3_oneTest_0 17 rfl rfl)
theorem dX3_oneTest_20 : decode cX3_oneTest 20 = .ok (.ifCond .ne 5, 3) := dk_154 0 5 (dk_at dksX3_oneTest_0 20 rfl rfl)
theorem dX3_oneTest_23 : decode cX3_oneTest 23 = .ok (.iconst 0, 1) := dk_3 (dk_at dksX3_oneTest_0 23 rfl rfl)
theorem dX3_oneTest_24 : decode cX3_oneTest 24 = .ok (.ireturn, 1) := dk_172 (dk_at dksX3_oneTest_1 0 rfl rfl)
theorem dX3_oneTest_25 : decode cX3_oneTest 25 = .ok (.aload_n 0, 1) := dk_42 (dk_at dksX3_oneTest_1 1 rfl rfl)
theorem dX3_oneTest_26 : decode cX3_oneTest 26 = .ok (.dup, 1) := dk_89 (dk_at dksX3_oneTest_1 2 rfl rfl)
theorem dX3_oneTest_27 : decode cX3_oneTest 27 = .ok (.getfield 166, 3) := dk_180 0 166 (dk_at dksX3_oneTest_1 3 rfl rfl)
theorem dX3_oneTest_30 : decode cX3_oneTest 30 = .ok (.iconst 1, 1) := dk_4 (dk_at dksX3_oneTest_1 6 rfl rfl)
theorem dX3_oneTest_31 : decode cX3_oneTest 31 = .ok (.isub, 1) := dk_100 (dk_at dksX3_oneTest_1 7 rfl rfl)
theorem dX3_oneTest_32 : decode cX3_oneTest 32 = .ok (.putfield 166, 3) := dk_181 0 166 (dk_at dksX3_oneTest_1 8 rfl rfl)
theorem dX3_oneTest_35 : decode cX3_oneTest 35 = .ok (.aload_n 0, 1) := dk_42 (dk_at dksX3_oneTest_1 11 rfl rfl)
theorem dX3_oneTest_36 : decode cX3_oneTest 36 = .ok (.bipush 20, 2) := dk_16 20 (dk_at dksX3_oneTest_1 12 rfl rfl)
theorem dX3_oneTest_38 : decode cX3_oneTest 38 = .ok (.iconst 0, 1) := dk_3 (dk_at dksX3_oneTest_1 14 rfl rfl)
theorem dX3_oneTest_39 : decode cX3_oneTest 39 = .ok (.invokevirtual 173, 3) := dk_182 0 173 (dk_at dksX3_oneTest_1 15 rfl rfl)
theorem dX3_oneTest_42 : decode cX3_oneTest 42 = .ok (.iconst 1, 1) := dk_4 (dk_at dksX3_oneTest_1 18 rfl rfl)
theorem dX3_oneTest_43 : decode cX3_oneTest 43 = .ok (.ireturn, 1) := dk_172 (dk_at dksX3_oneTest_1 19 rfl rfl)
theorem dX3_oneTest_44 : decode cX3_oneTest 44 = .ok (.aload_n 0, 1) := dk_42 (dk_at dksX3_oneTest_1 20 rfl rfl)
theorem dX3_oneTest_45 : decode cX3_oneTest 45 = .ok (.getfield 135, 3) := dk_180 0 135 (dk_at dksX3_oneTest_1 21 rfl rfl)
theorem dX3_oneTest_48 : decode cX3_oneTest 48 = .ok (.sipush 140, 3) := dk_17 0 140 (dk_at dksX3_oneTest_2 0 rfl rfl)
theorem dX3_oneTest_51 : decode cX3_oneTest 51 = .ok (.if_icmp .ne 41, 3) := dk_160 0 41 (dk_at dksX3_oneTest_2 3 rfl rfl)
theorem dX3_oneTest_54 : decode cX3_oneTest 54 = .ok (.aload_n 0, 1) := dk_42 (dk_at dksX3_oneTest_2 6 rfl rfl)
theorem dX3_oneTest_55 : decode cX3_oneTest 55 = .ok (.invokevirtual 186, 3) := dk_182 0 186 (dk_at dksX3_oneTest_2 7 rfl rfl)
theorem dX3_oneTest_58 : decode cX3_oneTest 58 = .ok (.ifCond .eq 20, 3) := dk_153 0 20 (dk_at dksX3_oneTest_2 10 rfl rfl)
theorem dX3_oneTest_61 : decode cX3_oneTest 61 = .ok (.aload_n 0, 1) := dk_42 (dk_at dksX3_oneTest_2 13 rfl rfl)
theorem dX3_oneTest_62 : decode cX3_oneTest 62 = .ok (.invokevirtual 189, 3) := dk_182 0 189 (dk_at dksX3_oneTest_2 14 rfl rfl)
theorem dX3_oneTest_65 : decode cX3_oneTest 65 = .ok (.ifCond .eq 13, 3) := dk_153 0 13 (dk_at dksX3_oneTest_2 17 rfl rfl)
theorem dX3_oneTest_68 : decode cX3_oneTest 68 = .ok (.aload_n 0, 1) := dk_42 (dk_at dksX3_oneTest_2 20 rfl rfl)
theorem dX3_oneTest_69 : decode cX3_oneTest 69 = .ok (.sipush 141, 3) := dk_17 0 141 (dk_at dksX3_oneTest_2 21 rfl rfl)
theorem dX3_oneTest_72 : decode cX3_oneTest 72 = .ok (.invokevirtual 192, 3) := dk_182 0 192 (dk_at dksX3_oneTest_3 0 rfl rfl)
theorem dX3_oneTest_75 : decode cX3_oneTest 75 = .ok (.ifCond .ne 5, 3) := dk_154 0 5 (dk_at dksX3_oneTest_3 3 rfl rfl)
theorem dX3_oneTest_78 : decode cX3_oneTest 78 = .ok (.iconst 0, 1) := dk_3 (dk_at dksX3_oneTest_3 6 rfl rfl)
theorem dX3_oneTest_79 : decode cX3_oneTest 79 = .ok (.ireturn, 1) := dk_172 (dk_at dksX3_oneTest_3 7 rfl rfl)
theorem dX3_oneTest_80 : decode cX3_oneTest 80 = .ok (.aload_n 0, 1) := dk_42 (dk_at dksX3_oneTest_3 8 rfl rfl)
theorem dX3_oneTest_81 : decode cX3_oneTest 81 = .ok (.dup, 1) := dk_89 (dk_at dksX3_oneTest_3 9 rfl rfl)
theorem dX3_oneTest_82 : decode cX3_oneTest 82 = .ok (.getfield 166, 3) := dk_180 0 166 (dk_at dksX3_oneTest_3 10 rfl rfl)
theorem dX3_oneTest_85 : decode cX3_oneTest 85 = .ok (.iconst 1, 1) := dk_4 (dk_at dksX3_oneTest_3 13 rfl rfl)
theorem dX3_oneTest_86 : decode cX3_oneTest 86 = .ok (.isub, 1) := dk_100 (dk_at dksX3_oneTest_3 14 rfl rfl)
theorem dX3_oneTest_87 : decode cX3_oneTest 87 = .ok (.putfield 166, 3) := dk_181 0 166 (dk_at dksX3_oneTest_3 15 rfl rfl)
theorem dX3_oneTest_90 : decode cX3_oneTest 90 = .ok (.iconst 1, 1) := dk_4 (dk_at dksX3_oneTest_3 18 rfl rfl)
theorem dX3_oneTest_91 : decode cX3_oneTest 91 = .ok (.ireturn, 1) := dk_172 (dk_at dksX3_oneTest_3 19 rfl rfl)
theorem dX3_oneTest_92 : decode cX3_oneTest 92 = .ok (.aload_n 0, 1) := dk_42 (dk_at dksX3_oneTest_3 20 rfl rfl)
theorem dX3_oneTest_93 : decode cX3_oneTest 93 = .ok (.invokevirtual 194, 3) := dk_182 0 194 (dk_at dksX3_oneTest_3 21 rfl rfl)
theorem dX3_oneTest_96 : decode cX3_oneTest 96 = .ok (.ifCond .ne 5, 3) := dk_154 0 5 (dk_at dksX3_oneTest_4 0 rfl rfl)
theorem dX3_oneTest_99 : decode cX3_oneTest 99 = .ok (.iconst 0, 1) := dk_3 (dk_at dksX3_oneTest_4 3 rfl rfl)
theorem dX3_oneTest_100 : decode cX3_oneTest 100 = .ok (.ireturn, 1) := dk_172 (dk_at dksX3_oneTest_4 4 rfl rfl)
theorem dX3_oneTest_101 : decode cX3_oneTest 101 = .ok (.aload_n 0, 1) := dk_42 (dk_at dksX3_oneTest_4 5 rfl rfl)
theorem dX3_oneTest_102 : decode cX3_oneTest 102 = .ok (.getfield 135, 3) := dk_180 0 135 (dk_at dksX3_oneTest_4 6 rfl rfl)
theorem dX3_oneTest_105 : decode cX3_oneTest 105 = .ok (.sipush 160, 3) := dk_17 0 160 (dk_at dksX3_oneTest_4 9 rfl rfl)
theorem dX3_oneTest_108 : decode cX3_oneTest 108 = .ok (.if_icmp .ne 8, 3) := dk_160 0 8 (dk_at dksX3_oneTest_4 12 rfl rfl)
theorem dX3_oneTest_111 : decode cX3_oneTest 111 = .ok (.bipush 17, 2) := dk_16 17 (dk_at dksX3_oneTest_4 15 rfl rfl)
theorem dX3_oneTest_113 : decode cX3_oneTest 113 = .ok (.goto 34, 3) := dk_167 0 34 (dk_at dksX3_oneTest_4 17 rfl rfl)
theorem dX3_oneTest_116 : decode cX3_oneTest 116 = .ok (.aload_n 0, 1) := dk_42 (dk_at dksX3_oneTest_4 20 rfl rfl)
theorem dX3_oneTest_117 : decode cX3_oneTest 117 = .ok (.getfield 135, 3) := dk_180 0 135 (dk_at dksX3_oneTest_4 21 rfl rfl)
theorem dX3_oneTest_120 : decode cX3_oneTest 120 = .ok (.sipush 161, 3) := dk_17 0 161 (dk_at dksX3_oneTest_5 0 rfl rfl)
theorem dX3_oneTest_123 : decode cX3_oneTest 123 = .ok (.if_icmp .ne 8, 3) := dk_160 0 8 (dk_at dksX3_oneTest_5 3 rfl rfl)
theorem dX3_oneTest_126 : decode cX3_oneTest 126 = .ok (.bipush 18, 2) := dk_16 18 (dk_at dksX3_oneTest_5 6 rfl rfl)
theorem dX3_oneTest_128 : decode cX3_oneTest 128 = .ok (.goto 19, 3) := dk_167 0 19 (dk_at dksX3_oneTest_5 8 rfl rfl)
theorem dX3_oneTest_131 : decode cX3_oneTest 131 = .ok (.aload_n 0, 1) := dk_42 (dk_at dksX3_oneTest_5 11 rfl rfl)
theorem dX3_oneTest_132 : decode cX3_oneTest 132 = .ok (.getfield 135, 3) := dk_180 0 135 (dk_at dksX3_oneTest_5 12 rfl rfl)
theorem dX3_oneTest_135 : decode cX3_oneTest 135 = .ok (.sipush 162, 3) := dk_17 0 162 (dk_at dksX3_oneTest_5 15 rfl rfl)
theorem dX3_oneTest_138 : decode cX3_oneTest 138 = .ok (.if_icmp .ne 8, 3) := dk_160 0 8 (dk_at dksX3_oneTest_5 18 rfl rfl)
theorem dX3_oneTest_141 : decode cX3_oneTest 141 = .ok (.bipush 19, 2) := dk_16 19 (dk_at dksX3_oneTest_5 21 rfl rfl)
theorem dX3_oneTest_143 : decode cX3_oneTest 143 = .ok (.goto 4, 3) := dk_167 0 4 (dk_at dksX3_oneTest_6 0 rfl rfl)
theorem dX3_oneTest_146 : decode cX3_oneTest 146 = .ok (.iconst (-1), 1) := dk_2 (dk_at dksX3_oneTest_6 3 rfl rfl)
theorem dX3_oneTest_147 : decode cX3_oneTest 147 = .ok (.istore_n 1, 1) := dk_60 (dk_at dksX3_oneTest_6 4 rfl rfl)
theorem dX3_oneTest_148 : decode cX3_oneTest 148 = .ok (.iload_n 1, 1) := dk_27 (dk_at dksX3_oneTest_6 5 rfl rfl)
theorem dX3_oneTest_149 : decode cX3_oneTest 149 = .ok (.iconst (-1), 1) := dk_2 (dk_at dksX3_oneTest_6 6 rfl rfl)
theorem dX3_oneTest_150 : decode cX3_oneTest 150 = .ok (.if_icmp .ne 9, 3) := dk_160 0 9 (dk_at dksX3_oneTest_6 7 rfl rfl)
theorem dX3_oneTest_153 : decode cX3_oneTest 153 = .ok (.aload_n 0, 1) := dk_42 (dk_at dksX3_oneTest_6 10 rfl rfl)
theorem dX3_oneTest_154 : decode cX3_oneTest 154 = .ok (.iconst 1, 1) := dk_4 (dk_at dksX3_oneTest_6 11 rfl rfl)
theorem dX3_oneTest_155 : decode cX3_oneTest 155 = .ok (.invokevirtual 157, 3) := dk_182 0 157 (dk_at dksX3_oneTest_6 12 rfl rfl)
theorem dX3_oneTest_158 : decode cX3_oneTest 158 = .ok (.ireturn, 1) := dk_172 (dk_at dksX3_oneTest_6 15 rfl rfl)
theorem dX3_oneTest_159 : decode cX3_oneTest 159 = .ok (.aload_n 0, 1) := dk_42 (dk_at dksX3_oneTest_6 16 rfl rfl)
theorem dX3_oneTest_160 : decode cX3_oneTest 160 = .ok (.invokevirtual 160, 3) := dk_182 0 160 (dk_at dksX3_oneTest_6 17 rfl rfl)
theorem dX3_oneTest_163 : decode cX3_oneTest 163 = .ok (.aload_n 0, 1) := dk_42 (dk_at dksX3_oneTest_6 20 rfl rfl)
theorem dX3_oneTest_164 : decode cX3_oneTest 164 = .ok (.invokevirtual 194, 3) := dk_182 0 194 (dk_at dksX3_oneTest_6 21 rfl rfl)
theorem dX3_oneTest_167 : decode cX3_oneTest 167 = .ok (.ifCond .ne 5, 3) := dk_154 0 5 (dk_at dksX3_oneTest_7 0 rfl rfl)
theorem dX3_oneTest_170 : decode cX3_oneTest 170 = .ok (.iconst 0, 1) := dk_3 (dk_at dksX3_oneTest_7 3 rfl rfl)
theorem dX3_oneTest_171 : decode cX3_oneTest 171 = .ok (.ireturn, 1) := dk_172 (dk_at dksX3_oneTest_7 4 rfl rfl)
theorem dX3_oneTest_172 : decode cX3_oneTest 172 = .ok (.aload_n 0, 1) := dk_42 (dk_at dksX3_oneTest_7 5 rfl rfl)
theorem dX3_oneTest_173 : decode cX3_oneTest 173 = .ok (.iload_n 1, 1) := dk_27 (dk_at dksX3_oneTest_7 6 rfl rfl)
theorem dX3_oneTest_174 : decode cX3_oneTest 174 = .ok (.iconst 0, 1) := dk_3 (dk_at dksX3_oneTest_7 7 rfl rfl)
theorem dX3_oneTest_175 : decode cX3_oneTest 175 = .ok (.invokevirtual 173, 3) := dk_182 0 173 (dk_at dksX3_oneTest_7 8 rfl rfl)
theorem dX3_oneTest_178 : decode cX3_oneTest 178 = .ok (.iconst 1, 1) := dk_4 (dk_at dksX3_oneTest_7 11 rfl rfl)
theorem dX3_oneTest_179 : decode cX3_oneTest 179 = .ok (.ireturn, 1) := dk_172 (dk_at dksX3_oneTest_7 12 rfl rfl)
abbrev cX3_opens : ByteArray := prog_14_method_21_code
def yX3_opens : MethodName := ⟨RX3, "opens", "()Z"⟩
def dkwX3_opens_1 : List UInt8 := [181, 0, 166, 42, 182, 0, 160, 4, 172]
abbrev dktX3_opens_1 : List UInt8 := dkwX3_opens_1 ++ []
def dkwX3_opens_0 : List UInt8 := [42, 180, 0, 166, 16, 8, 160, 0, 9, 42, 6, 182, 0, 157, 172, 42, 89, 180, 0, 166, 4, 96]
abbrev dktX3_opens_0 : List UInt8 := dkwX3_opens_0 ++ dktX3_opens_1
theorem dksX3_opens_0 : cX3_opens.data.toList.drop 0 = dktX3_opens_0 := by decide +kernel
theorem dksX3_opens_1 : cX3_opens.data.toList.drop 22 = dktX3_opens_1 := dk_seg dksX3_opens_0 22 rfl rfl
theorem dX3_opens_0 : decode cX3_opens 0 = .ok (.aload_n 0, 1) := dk_42 (dk_at dksX3_opens_0 0 rfl rfl)
theorem dX3_opens_1 : decode cX3_opens 1 = .ok (.getfield 166, 3) := dk_180 0 166 (dk_at dksX3_opens_0 1 rfl rfl)
theorem dX3_opens_4 : decode cX3_opens 4 = .ok (.bipush 8, 2) := dk_16 8 (dk_at dksX3_opens_0 4 rfl rfl)
theorem dX3_opens_6 : decode cX3_opens 6 = .ok (.if_icmp .ne 9, 3) := dk_160 0 9 (dk_at dksX3_opens_0 6 rfl rfl)
theorem dX3_opens_9 : decode cX3_opens 9 = .ok (.aload_n 0, 1) := dk_42 (dk_at dksX3_opens_0 9 rfl rfl)
theorem dX3_opens_10 : decode cX3_opens 10 = .ok (.iconst 3, 1) := dk_6 (dk_at dksX3_opens_0 10 rfl rfl)
theorem dX3_opens_11 : decode cX3_opens 11 = .ok (.invokevirtual 157, 3) := dk_182 0 157 (dk_at dksX3_opens_0 11 rfl rfl)
theorem dX3_opens_14 : decode cX3_opens 14 = .ok (.ireturn, 1) := dk_172 (dk_at dksX3_opens_0 14 rfl rfl)
theorem dX3_opens_15 : decode cX3_opens 15 = .ok (.aload_n 0, 1) := dk_42 (dk_at dksX3_opens_0 15 rfl rfl)
theorem dX3_opens_16 : decode cX3_opens 16 = .ok (.dup, 1) := dk_89 (dk_at dksX3_opens_0 16 rfl rfl)
theorem dX3_opens_17 : decode cX3_opens 17 = .ok (.getfield 166, 3) := dk_180 0 166 (dk_at dksX3_opens_0 17 rfl rfl)
theorem dX3_opens_20 : decode cX3_opens 20 = .ok (.iconst 1, 1) := dk_4 (dk_at dksX3_opens_0 20 rfl rfl)
theorem dX3_opens_21 : decode cX3_opens 21 = .ok (.iadd, 1) := dk_96 (dk_at dksX3_opens_0 21 rfl rfl)
theorem dX3_opens_22 : decode cX3_opens 22 = .ok (.putfield 166, 3) := dk_181 0 166 (dk_at dksX3_opens_1 0 rfl rfl)
theorem dX3_opens_25 : decode cX3_opens 25 = .ok (.aload_n 0, 1) := dk_42 (dk_at dksX3_opens_1 3 rfl rfl)
theorem dX3_opens_26 : decode cX3_opens 26 = .ok (.invokevirtual 160, 3) := dk_182 0 160 (dk_at dksX3_opens_1 4 rfl rfl)
theorem dX3_opens_29 : decode cX3_opens 29 = .ok (.iconst 1, 1) := dk_4 (dk_at dksX3_opens_1 7 rfl rfl)
theorem dX3_opens_30 : decode cX3_opens 30 = .ok (.ireturn, 1) := dk_172 (dk_at dksX3_opens_1 8 rfl rfl)
abbrev cX3_need : ByteArray := prog_14_method_19_code
def yX3_need : MethodName := ⟨RX3, "need", "(I)Z"⟩
def dkwX3_need_0 : List UInt8 := [42, 180, 0, 135, 27, 159, 0, 9, 42, 4, 182, 0, 157, 172, 42, 182, 0, 160, 4, 172]
abbrev dktX3_need_0 : List UInt8 := dkwX3_need_0 ++ []
theorem dksX3_need_0 : cX3_need.data.toList.drop 0 = dktX3_need_0 := by decide +kernel
theorem dX3_need_0 : decode cX3_need 0 = .ok (.aload_n 0, 1) := dk_42 (dk_at dksX3_need_0 0 rfl rfl)
theorem dX3_need_1 : decode cX3_need 1 = .ok (.getfield 135, 3) := dk_180 0 135 (dk_at dksX3_need_0 1 rfl rfl)
theorem dX3_need_4 : decode cX3_need 4 = .ok (.iload_n 1, 1) := dk_27 (dk_at dksX3_need_0 4 rfl rfl)
theorem dX3_need_5 : decode cX3_need 5 = .ok (.if_icmp .eq 9, 3) := dk_159 0 9 (dk_at dksX3_need_0 5 rfl rfl)
theorem dX3_need_8 : decode cX3_need 8 = .ok (.aload_n 0, 1) := dk_42 (dk_at dksX3_need_0 8 rfl rfl)
theorem dX3_need_9 : decode cX3_need 9 = .ok (.iconst 1, 1) := dk_4 (dk_at dksX3_need_0 9 rfl rfl)
theorem dX3_need_10 : decode cX3_need 10 = .ok (.invokevirtual 157, 3) := dk_182 0 157 (dk_at dksX3_need_0 10 rfl rfl)
theorem dX3_need_13 : decode cX3_need 13 = .ok (.ireturn, 1) := dk_172 (dk_at dksX3_need_0 13 rfl rfl)
theorem dX3_need_14 : decode cX3_need 14 = .ok (.aload_n 0, 1) := dk_42 (dk_at dksX3_need_0 14 rfl rfl)
theorem dX3_need_15 : decode cX3_need 15 = .ok (.invokevirtual 160, 3) := dk_182 0 160 (dk_at dksX3_need_0 15 rfl rfl)
theorem dX3_need_18 : decode cX3_need 18 = .ok (.iconst 1, 1) := dk_4 (dk_at dksX3_need_0 18 rfl rfl)
theorem dX3_need_19 : decode cX3_need 19 = .ok (.ireturn, 1) := dk_172 (dk_at dksX3_need_0 19 rfl rfl)
abbrev cX3_fault : ByteArray := prog_14_method_30_code
def yX3_fault : MethodName := ⟨RX3, "fault", "(I)I"⟩
def dkwX3_fault_1 : List UInt8 := [172]
abbrev dktX3_fault_1 : List UInt8 := dkwX3_fault_1 ++ []
def dkwX3_fault_0 : List UInt8 := [27, 154, 0, 10, 42, 180, 0, 203, 167, 0, 16, 27, 4, 160, 0, 10, 42, 180, 0, 34, 167, 0, 4, 2]
abbrev dktX3_fault_0 : List UInt8 := dkwX3_fault_0 ++ dktX3_fault_1
theorem dksX3_fault_0 : cX3_fault.data.toList.drop 0 = dktX3_fault_0 := by decide +kernel
theorem dksX3_fault_1 : cX3_fault.data.toList.drop 24 = dktX3_fault_1 := dk_seg dksX3_fault_0 24 rfl rfl
theorem dX3_fault_0 : decode cX3_fault 0 = .ok (.iload_n 1, 1) := dk_27 (dk_at dksX3_fault_0 0 rfl rfl)
theorem dX3_fault_1 : decode cX3_fault 1 = .ok (.ifCond .ne 10, 3) := dk_154 0 10 (dk_at dksX3_fault_0 1 rfl rfl)
theorem dX3_fault_4 : decode cX3_fault 4 = .ok (.aload_n 0, 1) := dk_42 (dk_at dksX3_fault_0 4 rfl rfl)
theorem dX3_fault_5 : decode cX3_fault 5 = .ok (.getfield 203, 3) := dk_180 0 203 (dk_at dksX3_fault_0 5 rfl rfl)
theorem dX3_fault_8 : decode cX3_fault 8 = .ok (.goto 16, 3) := dk_167 0 16 (dk_at dksX3_fault_0 8 rfl rfl)
theorem dX3_fault_11 : decode cX3_fault 11 = .ok (.iload_n 1, 1) := dk_27 (dk_at dksX3_fault_0 11 rfl rfl)
theorem dX3_fault_12 : decode cX3_fault 12 = .ok (.iconst 1, 1) := dk_4 (dk_at dksX3_fault_0 12 rfl rfl)
theorem dX3_fault_13 : decode cX3_fault 13 = .ok (.if_icmp .ne 10, 3) := dk_160 0 10 (dk_at dksX3_fault_0 13 rfl rfl)
theorem dX3_fault_16 : decode cX3_fault 16 = .ok (.aload_n 0, 1) := dk_42 (dk_at dksX3_fault_0 16 rfl rfl)
theorem dX3_fault_17 : decode cX3_fault 17 = .ok (.getfield 34, 3) := dk_180 0 34 (dk_at dksX3_fault_0 17 rfl rfl)
theorem dX3_fault_20 : decode cX3_fault 20 = .ok (.goto 4, 3) := dk_167 0 4 (dk_at dksX3_fault_0 20 rfl rfl)
theorem dX3_fault_23 : decode cX3_fault 23 = .ok (.iconst (-1), 1) := dk_2 (dk_at dksX3_fault_0 23 rfl rfl)
theorem dX3_fault_24 : decode cX3_fault 24 = .ok (.ireturn, 1) := dk_172 (dk_at dksX3_fault_1 0 rfl rfl)
abbrev cX3_house : ByteArray := prog_14_method_34_code
def yX3_house : MethodName := ⟨RX3, "house", "(III)I"⟩
def dkwX3_house_8 : List UInt8 := [182, 0, 213, 42, 180, 0, 7, 7, 46, 4, 100, 172]
abbrev dktX3_house_8 : List UInt8 := dkwX3_house_8 ++ []
def dkwX3_house_7 : List UInt8 := [21, 6, 46, 16, 97, 100, 79, 132, 6, 1, 167, 255, 223, 42, 180, 0, 7, 7, 92, 46, 4, 96, 79, 42]
abbrev dktX3_house_7 : List UInt8 := dkwX3_house_7 ++ dktX3_house_8
def dkwX3_house_6 : List UInt8 := [21, 6, 21, 4, 162, 0, 32, 42, 180, 0, 7, 21, 5, 16, 10, 96, 21, 6, 96, 42, 180, 0, 25]
abbrev dktX3_house_6 : List UInt8 := dkwX3_house_6 ++ dktX3_house_7
def dkwX3_house_5 : List UInt8 := [180, 0, 7, 21, 5, 5, 96, 29, 79, 42, 180, 0, 7, 21, 5, 16, 9, 96, 21, 4, 79, 3, 54, 6]
abbrev dktX3_house_5 : List UInt8 := dkwX3_house_5 ++ dktX3_house_6
def dkwX3_house_4 : List UInt8 := [167, 255, 235, 42, 180, 0, 7, 21, 5, 3, 96, 27, 79, 42, 180, 0, 7, 21, 5, 4, 96, 28, 79, 42]
abbrev dktX3_house_4 : List UInt8 := dkwX3_house_4 ++ dktX3_house_5
def dkwX3_house_3 : List UInt8 := [54, 6, 21, 6, 16, 16, 162, 0, 20, 42, 180, 0, 7, 21, 5, 21, 6, 96, 3, 79, 132, 6, 1]
abbrev dktX3_house_3 : List UInt8 := dkwX3_house_3 ++ dktX3_house_4
def dkwX3_house_2 : List UInt8 := [7, 46, 16, 9, 160, 0, 5, 2, 172, 16, 20, 16, 16, 42, 180, 0, 7, 7, 46, 104, 96, 54, 5, 3]
abbrev dktX3_house_2 : List UInt8 := dkwX3_house_2 ++ dktX3_house_3
def dkwX3_house_1 : List UInt8 := [4, 17, 3, 231, 184, 0, 66, 153, 0, 24, 29, 4, 16, 99, 184, 0, 66, 153, 0, 14, 42, 180, 0, 7]
abbrev dktX3_house_1 : List UInt8 := dkwX3_house_1 ++ dktX3_house_2
def dkwX3_house_0 : List UInt8 := [42, 182, 0, 210, 54, 4, 21, 4, 2, 159, 0, 46, 27, 3, 17, 3, 231, 184, 0, 66, 153, 0, 35, 28]
abbrev dktX3_house_0 : List UInt8 := dkwX3_house_0 ++ dktX3_house_1
theorem dksX3_house_0 : cX3_house.data.toList.drop 0 = dktX3_house_0 := by decide +kernel
theorem dksX3_house_1 : cX3_house.data.toList.drop 24 = dktX3_house_1 := dk_seg dksX3_house_0 24 rfl rfl
theorem dksX3_house_2 : cX3_house.data.toList.drop 48 = dktX3_house_2 := dk_seg dksX3_house_1 24 rfl rfl
theorem dksX3_house_3 : cX3_house.data.toList.drop 72 = dktX3_house_3 := dk_seg dksX3_house_2 24 rfl rfl
theorem dksX3_house_4 : cX3_house.data.toList.drop 95 = dktX3_house_4 := dk_seg dksX3_house_3 23 rfl rfl
theorem dksX3_house_5 : cX3_house.data.toList.drop 119 = dktX3_house_5 := dk_seg dksX3_house_4 24 rfl rfl
theorem dksX3_house_6 : cX3_house.data.toList.drop 143 = dktX3_house_6 := dk_seg dksX3_house_5 24 rfl rfl
theorem dksX3_house_7 : cX3_house.data.toList.drop 166 = dktX3_house_7 := dk_seg dksX3_house_6 23 rfl rfl
theorem dksX3_house_8 : cX3_house.data.toList.drop 190 = dktX3_house_8 := dk_seg dksX3_house_7 24 rfl rfl
theorem dX3_house_0 : decode cX3_house 0 = .ok (.aload_n 0, 1) := dk_42 (dk_at dksX3_house_0 0 rfl rfl)
theorem dX3_house_1 : decode cX3_house 1 = .ok (.invokevirtual 210, 3) := dk_182 0 210 (dk_at dksX3_house_0 1 rfl rfl)
theorem dX3_house_4 : decode cX3_house 4 = .ok (.istore 4, 2) := dk_54 4 (dk_at dksX3_house_0 4 rfl rfl)
theorem dX3_house_6 : decode cX3_house 6 = .ok (.iload 4, 2) := dk_21 4 (dk_at dksX3_house_0 6 rfl rfl)
theorem dX3_house_8 : decode cX3_house 8 = .ok (.iconst (-1), 1) := dk_2 (dk_at dksX3_house_0 8 rfl rfl)
theorem dX3_house_9 : decode cX3_house 9 = .ok (.if_icmp .eq 46, 3) := dk_159 0 46 (dk_at dksX3_house_0 9 rfl rfl)
theorem dX3_house_12 : decode cX3_house 12 = .ok (.iload_n 1, 1) := dk_27 (dk_at dksX3_house_0 12 rfl rfl)
theorem dX3_house_13 : decode cX3_house 13 = .ok (.iconst 0, 1) := dk_3 (dk_at dksX3_house_0 13 rfl rfl)
theorem dX3_house_14 : decode cX3_house 14 = .ok (.sipush 999, 3) := dk_17 3 231 (dk_at dksX3_house_0 14 rfl rfl)
theorem dX3_house_17 : decode cX3_house 17 = .ok (.invokestatic 66, 3) := dk_184 0 66 (dk_at dksX3_house_0 17 rfl rfl)
theorem dX3_house_20 : decode cX3_house 20 = .ok (.ifCond .eq 35, 3) := dk_153 0 35 (dk_at dksX3_house_0 20 rfl rfl)
theorem dX3_house_23 : decode cX3_house 23 = .ok (.iload_n 2, 1) := dk_28 (dk_at dksX3_house_0 23 rfl rfl)
theorem dX3_house_24 : decode cX3_house 24 = .ok (.iconst 1, 1) := dk_4 (dk_at dksX3_house_1 0 rfl rfl)
theorem dX3_house_25 : decode cX3_house 25 = .ok (.sipush 999, 3) := dk_17 3 231 (dk_at dksX3_house_1 1 rfl rfl)
theorem dX3_house_28 : decode cX3_house 28 = .ok (.invokestatic 66, 3) := dk_184 0 66 (dk_at dksX3_house_1 4 rfl rfl)
theorem dX3_house_31 : decode cX3_house 31 = .ok (.ifCond .eq 24, 3) := dk_153 0 24 (dk_at dksX3_house_1 7 rfl rfl)
theorem dX3_house_34 : decode cX3_house 34 = .ok (.iload_n 3, 1) := dk_29 (dk_at dksX3_house_1 10 rfl rfl)
theorem dX3_house_35 : decode cX3_house 35 = .ok (.iconst 1, 1) := dk_4 (dk_at dksX3_house_1 11 rfl rfl)
theorem dX3_house_36 : decode cX3_house 36 = .ok (.bipush 99, 2) := dk_16 99 (dk_at dksX3_house_1 12 rfl rfl)
theorem dX3_house_38 : decode cX3_house 38 = .ok (.invokestatic 66, 3) := dk_184 0 66 (dk_at dksX3_house_1 14 rfl rfl)
theorem dX3_house_41 : decode cX3_house 41 = .ok (.ifCond .eq 14, 3) := dk_153 0 14 (dk_at dksX3_house_1 17 rfl rfl)
theorem dX3_house_44 : decode cX3_house 44 = .ok (.aload_n 0, 1) := dk_42 (dk_at dksX3_house_1 20 rfl rfl)
theorem dX3_house_45 : decode cX3_house 45 = .ok (.getfield 7, 3) := dk_180 0 7 (dk_at dksX3_house_1 21 rfl rfl)
theorem dX3_house_48 : decode cX3_house 48 = .ok (.iconst 4, 1) := dk_7 (dk_at dksX3_house_2 0 rfl rfl)
theorem dX3_house_49 : decode cX3_house 49 = .ok (.iaload, 1) := dk_46 (dk_at dksX3_house_2 1 rfl rfl)
theorem dX3_house_50 : decode cX3_house 50 = .ok (.bipush 9, 2) := dk_16 9 (dk_at dksX3_house_2 2 rfl rfl)
theorem dX3_house_52 : decode cX3_house 52 = .ok (.if_icmp .ne 5, 3) := dk_160 0 5 (dk_at dksX3_house_2 4 rfl rfl)
theorem dX3_house_55 : decode cX3_house 55 = .ok (.iconst (-1), 1) := dk_2 (dk_at dksX3_house_2 7 rfl rfl)
theorem dX3_house_56 : decode cX3_house 56 = .ok (.ireturn, 1) := dk_172 (dk_at dksX3_house_2 8 rfl rfl)
theorem dX3_house_57 : decode cX3_house 57 = .ok (.bipush 20, 2) := dk_16 20 (dk_at dksX3_house_2 9 rfl rfl)
theorem dX3_house_59 : decode cX3_house 59 = .ok (.bipush 16, 2) := dk_16 16 (dk_at dksX3_house_2 11 rfl rfl)
theorem dX3_house_61 : decode cX3_house 61 = .ok (.aload_n 0, 1) := dk_42 (dk_at dksX3_house_2 13 rfl rfl)
theorem dX3_house_62 : decode cX3_house 62 = .ok (.getfield 7, 3) := dk_180 0 7 (dk_at dksX3_house_2 14 rfl rfl)
theorem dX3_house_65 : decode cX3_house 65 = .ok (.iconst 4, 1) := dk_7 (dk_at dksX3_house_2 17 rfl rfl)
theorem dX3_house_66 : decode cX3_house 66 = .ok (.iaload, 1) := dk_46 (dk_at dksX3_house_2 18 rfl rfl)
theorem dX3_house_67 : decode cX3_house 67 = .ok (.imul, 1) := dk_104 (dk_at dksX3_house_2 19 rfl rfl)
theorem dX3_house_68 : decode cX3_house 68 = .ok (.iadd, 1) := dk_96 (dk_at dksX3_house_2 20 rfl rfl)
theorem dX3_house_69 : decode cX3_house 69 = .ok (.istore 5, 2) := dk_54 5 (dk_at dksX3_house_2 21 rfl rfl)
theorem dX3_house_71 : decode cX3_house 71 = .ok (.iconst 0, 1) := dk_3 (dk_at dksX3_house_2 23 rfl rfl)
theorem dX3_house_72 : decode cX3_house 72 = .ok (.istore 6, 2) := dk_54 6 (dk_at dksX3_house_3 0 rfl rfl)
theorem dX3_house_74 : decode cX3_house 74 = .ok (.iload 6, 2) := dk_21 6 (dk_at dksX3_house_3 2 rfl rfl)
theorem dX3_house_76 : decode cX3_house 76 = .ok (.bipush 16, 2) := dk_16 16 (dk_at dksX3_house_3 4 rfl rfl)
theorem dX3_house_78 : decode cX3_house 78 = .ok (.if_icmp .ge 20, 3) := dk_162 0 20 (dk_at dksX3_house_3 6 rfl rfl)
theorem dX3_house_81 : decode cX3_house 81 = .ok (.aload_n 0, 1) := dk_42 (dk_at dksX3_house_3 9 rfl rfl)
theorem dX3_house_82 : decode cX3_house 82 = .ok (.getfield 7, 3) := dk_180 0 7 (dk_at dksX3_house_3 10 rfl rfl)
theorem dX3_house_85 : decode cX3_house 85 = .ok (.iload 5, 2) := dk_21 5 (dk_at dksX3_house_3 13 rfl rfl)
theorem dX3_house_87 : decode cX3_house 87 = .ok (.iload 6, 2) := dk_21 6 (dk_at dksX3_house_3 15 rfl rfl)
theorem dX3_house_89 : decode cX3_house 89 = .ok (.iadd, 1) := dk_96 (dk_at dksX3_house_3 17 rfl rfl)
theorem dX3_house_90 : decode cX3_house 90 = .ok (.iconst 0, 1) := dk_3 (dk_at dksX3_house_3 18 rfl rfl)
theorem dX3_house_91 : decode cX3_house 91 = .ok (.iastore, 1) := dk_79 (dk_at dksX3_house_3 19 rfl rfl)
theorem dX3_house_92 : decode cX3_house 92 = .ok (.iinc 6 1, 3) := dk_132 6 1 (dk_at dksX3_house_3 20 rfl rfl)
theorem dX3_house_95 : decode cX3_house 95 = .ok (.goto (-21), 3) := dk_167 255 235 (dk_at dksX3_house_4 0 rfl rfl)
theorem dX3_house_98 : decode cX3_house 98 = .ok (.aload_n 0, 1) := dk_42 (dk_at dksX3_house_4 3 rfl rfl)
theorem dX3_house_99 : decode cX3_house 99 = .ok (.getfield 7, 3) := dk_180 0 7 (dk_at dksX3_house_4 4 rfl rfl)
theorem dX3_house_102 : decode cX3_house 102 = .ok (.iload 5, 2) := dk_21 5 (dk_at dksX3_house_4 7 rfl rfl)
theorem dX3_house_104 : decode cX3_house 104 = .ok (.iconst 0, 1) := dk_3 (dk_at dksX3_house_4 9 rfl rfl)
theorem dX3_house_105 : decode cX3_house 105 = .ok (.iadd, 1) := dk_96 (dk_at dksX3_house_4 10 rfl rfl)
theorem dX3_house_106 : decode cX3_house 106 = .ok (.iload_n 1, 1) := dk_27 (dk_at dksX3_house_4 11 rfl rfl)
theorem dX3_house_107 : decode cX3_house 107 = .ok (.iastore, 1) := dk_79 (dk_at dksX3_house_4 12 rfl rfl)
theorem dX3_house_108 : decode cX3_house 108 = .ok (.aload_n 0, 1) := dk_42 (dk_at dksX3_house_4 13 rfl rfl)
theorem dX3_house_109 : decode cX3_house 109 = .ok (.getfield 7, 3) := dk_180 0 7 (dk_at dksX3_house_4 14 rfl rfl)
theorem dX3_house_112 : decode cX3_house 112 = .ok (.iload 5, 2) := dk_21 5 (dk_at dksX3_house_4 17 rfl rfl)
theorem dX3_house_114 : decode cX3_house 114 = .ok (.iconst 1, 1) := dk_4 (dk_at dksX3_house_4 19 rfl rfl)
theorem dX3_house_115 : decode cX3_house 115 = .ok (.iadd, 1) := dk_96 (dk_at dksX3_house_4 20 rfl rfl)
theorem dX3_house_116 : decode cX3_house 116 = .ok (.iload_n 2, 1) := dk_28 (dk_at dksX3_house_4 21 rfl rfl)
theorem dX3_house_117 : decode cX3_house 117 = .ok (.iastore, 1) := dk_79 (dk_at dksX3_house_4 22 rfl rfl)
theorem dX3_house_118 : decode cX3_house 118 = .ok (.aload_n 0, 1) := dk_42 (dk_at dksX3_house_4 23 rfl rfl)
theorem dX3_house_119 : decode cX3_house 119 = .ok (.getfield 7, 3) := dk_180 0 7 (dk_at dksX3_house_5 0 rfl rfl)
theorem dX3_house_122 : decode cX3_house 122 = .ok (.iload 5, 2) := dk_21 5 (dk_at dksX3_house_5 3 rfl rfl)
theorem dX3_house_124 : decode cX3_house 124 = .ok (.iconst 2, 1) := dk_5 (dk_at dksX3_house_5 5 rfl rfl)
theorem dX3_house_125 : decode cX3_house 125 = .ok (.iadd, 1) := dk_96 (dk_at dksX3_house_5 6 rfl rfl)
theorem dX3_house_126 : decode cX3_house 126 = .ok (.iload_n 3, 1) := dk_29 (dk_at dksX3_house_5 7 rfl rfl)
theorem dX3_house_127 : decode cX3_house 127 = .ok (.iastore, 1) := dk_79 (dk_at dksX3_house_5 8 rfl rfl)
theorem dX3_house_128 : decode cX3_house 128 = .ok (.aload_n 0, 1) := dk_42 (dk_at dksX3_house_5 9 rfl rfl)
theorem dX3_house_129 : decode cX3_house 129 = .ok (.getfield 7, 3) := dk_180 0 7 (dk_at dksX3_house_5 10 rfl rfl)
theorem dX3_house_132 : decode cX3_house 132 = .ok (.iload 5, 2) := dk_21 5 (dk_at dksX3_house_5 13 rfl rfl)
theorem dX3_house_134 : decode cX3_house 134 = .ok (.bipush 9, 2) := dk_16 9 (dk_at dksX3_house_5 15 rfl rfl)
theorem dX3_house_136 : decode cX3_house 136 = .ok (.iadd, 1) := dk_96 (dk_at dksX3_house_5 17 rfl rfl)
theorem dX3_house_137 : decode cX3_house 137 = .ok (.iload 4, 2) := dk_21 4 (dk_at dksX3_house_5 18 rfl rfl)
theorem dX3_house_139 : decode cX3_house 139 = .ok (.iastore, 1) := dk_79 (dk_at dksX3_house_5 20 rfl rfl)
theorem dX3_house_140 : decode cX3_house 140 = .ok (.iconst 0, 1) := dk_3 (dk_at dksX3_house_5 21 rfl rfl)
theorem dX3_house_141 : decode cX3_house 141 = .ok (.istore 6, 2) := dk_54 6 (dk_at dksX3_house_5 22 rfl rfl)
theorem dX3_house_143 : decode cX3_house 143 = .ok (.iload 6, 2) := dk_21 6 (dk_at dksX3_house_6 0 rfl rfl)
theorem dX3_house_145 : decode cX3_house 145 = .ok (.iload 4, 2) := dk_21 4 (dk_at dksX3_house_6 2 rfl rfl)
theorem dX3_house_147 : decode cX3_house 147 = .ok (.if_icmp .ge 32, 3) := dk_162 0 32 (dk_at dksX3_house_6 4 rfl rfl)
theorem dX3_house_150 : decode cX3_house 150 = .ok (.aload_n 0, 1) := dk_42 (dk_at dksX3_house_6 7 rfl rfl)
theorem dX3_house_151 : decode cX3_house 151 = .ok (.getfield 7, 3) := dk_180 0 7 (dk_at dksX3_house_6 8 rfl rfl)
theorem dX3_house_154 : decode cX3_house 154 = .ok (.iload 5, 2) := dk_21 5 (dk_at dksX3_house_6 11 rfl rfl)
theorem dX3_house_156 : decode cX3_house 156 = .ok (.bipush 10, 2) := dk_16 10 (dk_at dksX3_house_6 13 rfl rfl)
theorem dX3_house_158 : decode cX3_house 158 = .ok (.iadd, 1) := dk_96 (dk_at dksX3_house_6 15 rfl rfl)
theorem dX3_house_159 : decode cX3_house 159 = .ok (.iload 6, 2) := dk_21 6 (dk_at dksX3_house_6 16 rfl rfl)
theorem dX3_house_161 : decode cX3_house 161 = .ok (.iadd, 1) := dk_96 (dk_at dksX3_house_6 18 rfl rfl)
theorem dX3_house_162 : decode cX3_house 162 = .ok (.aload_n 0, 1) := dk_42 (dk_at dksX3_house_6 19 rfl rfl)
theorem dX3_house_163 : decode cX3_house 163 = .ok (.getfield 25, 3) := dk_180 0 25 (dk_at dksX3_house_6 20 rfl rfl)
theorem dX3_house_166 : decode cX3_house 166 = .ok (.iload 6, 2) := dk_21 6 (dk_at dksX3_house_7 0 rfl rfl)
theorem dX3_house_168 : decode cX3_house 168 = .ok (.iaload, 1) := dk_46 (dk_at dksX3_house_7 2 rfl rfl)
theorem dX3_house_169 : decode cX3_house 169 = .ok (.bipush 97, 2) := dk_16 97 (dk_at dksX3_house_7 3 rfl rfl)
theorem dX3_house_171 : decode cX3_house 171 = .ok (.isub, 1) := dk_100 (dk_at dksX3_house_7 5 rfl rfl)
theorem dX3_house_172 : decode cX3_house 172 = .ok (.iastore, 1) := dk_79 (dk_at dksX3_house_7 6 rfl rfl)
theorem dX3_house_173 : decode cX3_house 173 = .ok (.iinc 6 1, 3) := dk_132 6 1 (dk_at dksX3_house_7 7 rfl rfl)
theorem dX3_house_176 : decode cX3_house 176 = .ok (.goto (-33), 3) := dk_167 255 223 (dk_at dksX3_house_7 10 rfl rfl)
theorem dX3_house_179 : decode cX3_house 179 = .ok (.aload_n 0, 1) := dk_42 (dk_at dksX3_house_7 13 rfl rfl)
theorem dX3_house_180 : decode cX3_house 180 = .ok (.getfield 7, 3) := dk_180 0 7 (dk_at dksX3_house_7 14 rfl rfl)
theorem dX3_house_183 : decode cX3_house 183 = .ok (.iconst 4, 1) := dk_7 (dk_at dksX3_house_7 17 rfl rfl)
theorem dX3_house_184 : decode cX3_house 184 = .ok (.dup2, 1) := dk_92 (dk_at dksX3_house_7 18 rfl rfl)
theorem dX3_house_185 : decode cX3_house 185 = .ok (.iaload, 1) := dk_46 (dk_at dksX3_house_7 19 rfl rfl)
theorem dX3_house_186 : decode cX3_house 186 = .ok (.iconst 1, 1) := dk_4 (dk_at dksX3_house_7 20 rfl rfl)
theorem dX3_house_187 : decode cX3_house 187 = .ok (.iadd, 1) := dk_96 (dk_at dksX3_house_7 21 rfl rfl)
theorem dX3_house_188 : decode cX3_house 188 = .ok (.iastore, 1) := dk_79 (dk_at dksX3_house_7 22 rfl rfl)
theorem dX3_house_189 : decode cX3_house 189 = .ok (.aload_n 0, 1) := dk_42 (dk_at dksX3_house_7 23 rfl rfl)
theorem dX3_house_190 : decode cX3_house 190 = .ok (.invokevirtual 213, 3) := dk_182 0 213 (dk_at dksX3_house_8 0 rfl rfl)
theorem dX3_house_193 : decode cX3_house 193 = .ok (.aload_n 0, 1) := dk_42 (dk_at dksX3_house_8 3 rfl rfl)
theorem dX3_house_194 : decode cX3_house 194 = .ok (.getfield 7, 3) := dk_180 0 7 (dk_at dksX3_house_8 4 rfl rfl)
theorem dX3_house_197 : decode cX3_house 197 = .ok (.iconst 4, 1) := dk_7 (dk_at dksX3_house_8 7 rfl rfl)
theorem dX3_house_198 : decode cX3_house 198 = .ok (.iaload, 1) := dk_46 (dk_at dksX3_house_8 8 rfl rfl)
theorem dX3_house_199 : decode cX3_house 199 = .ok (.iconst 1, 1) := dk_4 (dk_at dksX3_house_8 9 rfl rfl)
theorem dX3_house_200 : decode cX3_house 200 = .ok (.isub, 1) := dk_100 (dk_at dksX3_house_8 10 rfl rfl)
theorem dX3_house_201 : decode cX3_house 201 = .ok (.ireturn, 1) := dk_172 (dk_at dksX3_house_8 11 rfl rfl)
abbrev cX3_takesRow : ByteArray := prog_14_method_33_code
def yX3_takesRow : MethodName := ⟨RX3, "takesRow", "()I"⟩
def dkwX3_takesRow_2 : List UInt8 := [132, 2, 1, 167, 255, 230, 27, 172]
abbrev dktX3_takesRow_2 : List UInt8 := dkwX3_takesRow_2 ++ []
def dkwX3_takesRow_1 : List UInt8 := [27, 162, 0, 27, 42, 180, 0, 25, 28, 46, 16, 97, 16, 104, 184, 0, 66, 154, 0, 5, 2, 172]
abbrev dktX3_takesRow_1 : List UInt8 := dkwX3_takesRow_1 ++ dktX3_takesRow_2
def dkwX3_takesRow_0 : List UInt8 := [42, 180, 0, 75, 60, 42, 3, 181, 0, 75, 27, 4, 8, 184, 0, 66, 154, 0, 5, 2, 172, 3, 61, 28]
abbrev dktX3_takesRow_0 : List UInt8 := dkwX3_takesRow_0 ++ dktX3_takesRow_1
theorem dksX3_takesRow_0 : cX3_takesRow.data.toList.drop 0 = dktX3_takesRow_0 := by decide +kernel
theorem dksX3_takesRow_1 : cX3_takesRow.data.toList.drop 24 = dktX3_takesRow_1 := dk_seg dksX3_takesRow_0 24 rfl rfl
theorem dksX3_takesRow_2 : cX3_takesRow.data.toList.drop 46 = dktX3_takesRow_2 := dk_seg dksX3_takesRow_1 22 rfl rfl
theorem dX3_takesRow_0 : decode cX3_takesRow 0 = .ok (.aload_n 0, 1) := dk_42 (dk_at dksX3_takesRow_0 0 rfl rfl)
theorem dX3_takesRow_1 : decode cX3_takesRow 1 = .ok (.getfield 75, 3) := dk_180 0 75 (dk_at dksX3_takesRow_0 1 rfl rfl)
theorem dX3_takesRow_4 : decode cX3_takesRow 4 = .ok (.istore_n 1, 1) := dk_60 (dk_at dksX3_takesRow_0 4 rfl rfl)
theorem dX3_takesRow_5 : decode cX3_takesRow 5 = .ok (.aload_n 0, 1) := dk_42 (dk_at dksX3_takesRow_0 5 rfl rfl)
theorem dX3_takesRow_6 : decode cX3_takesRow 6 = .ok (.iconst 0, 1) := dk_3 (dk_at dksX3_takesRow_0 6 rfl rfl)
theorem dX3_takesRow_7 : decode cX3_takesRow 7 = .ok (.putfield 75, 3) := dk_181 0 75 (dk_at dksX3_takesRow_0 7 rfl rfl)
theorem dX3_takesRow_10 : decode cX3_takesRow 10 = .ok (.iload_n 1, 1) := dk_27 (dk_at dksX3_takesRow_0 10 rfl rfl)
theorem dX3_takesRow_11 : decode cX3_takesRow 11 = .ok (.iconst 1, 1) := dk_4 (dk_at dksX3_takesRow_0 11 rfl rfl)
theorem dX3_takesRow_12 : decode cX3_takesRow 12 = .ok (.iconst 5, 1) := dk_8 (dk_at dksX3_takesRow_0 12 rfl rfl)
theorem dX3_takesRow_13 : decode cX3_takesRow 13 = .ok (.invokestatic 66, 3) := dk_184 0 66 (dk_at dksX3_takesRow_0 13 rfl rfl)
theorem dX3_takesRow_16 : decode cX3_takesRow 16 = .ok (.ifCond .ne 5, 3) := dk_154 0 5 (dk_at dksX3_takesRow_0 16 rfl rfl)
theorem dX3_takesRow_19 : decode cX3_takesRow 19 = .ok (.iconst (-1), 1) := dk_2 (dk_at dksX3_takesRow_0 19 rfl rfl)
theorem dX3_takesRow_20 : decode cX3_takesRow 20 = .ok (.ireturn, 1) := dk_172 (dk_at dksX3_takesRow_0 20 rfl rfl)
theorem dX3_takesRow_21 : decode cX3_takesRow 21 = .ok (.iconst 0, 1) := dk_3 (dk_at dksX3_takesRow_0 21 rfl rfl)
theorem dX3_takesRow_22 : decode cX3_takesRow 22 = .ok (.istore_n 2, 1) := dk_61 (dk_at dksX3_takesRow_0 22 rfl rfl)
theorem dX3_takesRow_23 : decode cX3_takesRow 23 = .ok (.iload_n 2, 1) := dk_28 (dk_at dksX3_takesRow_0 23 rfl rfl)
theorem dX3_takesRow_24 : decode cX3_takesRow 24 = .ok (.iload_n 1, 1) := dk_27 (dk_at dksX3_takesRow_1 0 rfl rfl)
theorem dX3_takesRow_25 : decode cX3_takesRow 25 = .ok (.if_icmp .ge 27, 3) := dk_162 0 27 (dk_at dksX3_takesRow_1 1 rfl rfl)
theorem dX3_takesRow_28 : decode cX3_takesRow 28 = .ok (.aload_n 0, 1) := dk_42 (dk_at dksX3_takesRow_1 4 rfl rfl)
theorem dX3_takesRow_29 : decode cX3_takesRow 29 = .ok (.getfield 25, 3) := dk_180 0 25 (dk_at dksX3_takesRow_1 5 rfl rfl)
theorem dX3_takesRow_32 : decode cX3_takesRow 32 = .ok (.iload_n 2, 1) := dk_28 (dk_at dksX3_takesRow_1 8 rfl rfl)
theorem dX3_takesRow_33 : decode cX3_takesRow 33 = .ok (.iaload, 1) := dk_46 (dk_at dksX3_takesRow_1 9 rfl rfl)
theorem dX3_takesRow_34 : decode cX3_takesRow 34 = .ok (.bipush 97, 2) := dk_16 97 (dk_at dksX3_takesRow_1 10 rfl rfl)
theorem dX3_takesRow_36 : decode cX3_takesRow 36 = .ok (.bipush 104, 2) := dk_16 104 (dk_at dksX3_takesRow_1 12 rfl rfl)
theorem dX3_takesRow_38 : decode cX3_takesRow 38 = .ok (.invokestatic 66, 3) := dk_184 0 66 (dk_at dksX3_takesRow_1 14 rfl rfl)
theorem dX3_takesRow_41 : decode cX3_takesRow 41 = .ok (.ifCond .ne 5, 3) := dk_154 0 5 (dk_at dksX3_takesRow_1 17 rfl rfl)
theorem dX3_takesRow_44 : decode cX3_takesRow 44 = .ok (.iconst (-1), 1) := dk_2 (dk_at dksX3_takesRow_1 20 rfl rfl)
theorem dX3_takesRow_45 : decode cX3_takesRow 45 = .ok (.ireturn, 1) := dk_172 (dk_at dksX3_takesRow_1 21 rfl rfl)
theorem dX3_takesRow_46 : decode cX3_takesRow 46 = .ok (.iinc 2 1, 3) := dk_132 2 1 (dk_at dksX3_takesRow_2 0 rfl rfl)
theorem dX3_takesRow_49 : decode cX3_takesRow 49 = .ok (.goto (-26), 3) := dk_167 255 230 (dk_at dksX3_takesRow_2 3 rfl rfl)
theorem dX3_takesRow_52 : decode cX3_takesRow 52 = .ok (.iload_n 1, 1) := dk_27 (dk_at dksX3_takesRow_2 6 rfl rfl)
theorem dX3_takesRow_53 : decode cX3_takesRow 53 = .ok (.ireturn, 1) := dk_172 (dk_at dksX3_takesRow_2 7 rfl rfl)
abbrev cX3_forgets : ByteArray := prog_14_method_6_code
def yX3_forgets : MethodName := ⟨RX3, "forgets", "()V"⟩
def dkwX3_forgets_0 : List UInt8 := [42, 3, 181, 0, 70, 177]
abbrev dktX3_forgets_0 : List UInt8 := dkwX3_forgets_0 ++ []
theorem dksX3_forgets_0 : cX3_forgets.data.toList.drop 0 = dktX3_forgets_0 := by decide +kernel
theorem dX3_forgets_0 : decode cX3_forgets 0 = .ok (.aload_n 0, 1) := dk_42 (dk_at dksX3_forgets_0 0 rfl rfl)
theorem dX3_forgets_1 : decode cX3_forgets 1 = .ok (.iconst 0, 1) := dk_3 (dk_at dksX3_forgets_0 1 rfl rfl)
theorem dX3_forgets_2 : decode cX3_forgets 2 = .ok (.putfield 70, 3) := dk_181 0 70 (dk_at dksX3_forgets_0 2 rfl rfl)
theorem dX3_forgets_5 : decode cX3_forgets 5 = .ok (.return_, 1) := dk_177 (dk_at dksX3_forgets_0 5 rfl rfl)
abbrev cX3_give : ByteArray := prog_14_method_35_code
def yX3_give : MethodName := ⟨RX3, "give", "(II)Z"⟩
def dkwX3_give_1 : List UInt8 := [28, 96, 18, 224, 164, 0, 5, 3, 172, 42, 27, 6, 28, 182, 0, 225, 42, 182, 0, 213, 4, 172]
abbrev dktX3_give_1 : List UInt8 := dkwX3_give_1 ++ []
def dkwX3_give_0 : List UInt8 := [42, 27, 182, 0, 216, 153, 0, 26, 28, 3, 18, 219, 184, 0, 66, 153, 0, 16, 42, 27, 6, 182, 0, 220]
abbrev dktX3_give_0 : List UInt8 := dkwX3_give_0 ++ dktX3_give_1
theorem dksX3_give_0 : cX3_give.data.toList.drop 0 = dktX3_give_0 := by decide +kernel
theorem dksX3_give_1 : cX3_give.data.toList.drop 24 = dktX3_give_1 := dk_seg dksX3_give_0 24 rfl rfl
theorem dX3_give_0 : decode cX3_give 0 = .ok (.aload_n 0, 1) := dk_42 (dk_at dksX3_give_0 0 rfl rfl)
theorem dX3_give_1 : decode cX3_give 1 = .ok (.iload_n 1, 1) := dk_27 (dk_at dksX3_give_0 1 rfl rfl)
theorem dX3_give_2 : decode cX3_give 2 = .ok (.invokevirtual 216, 3) := dk_182 0 216 (dk_at dksX3_give_0 2 rfl rfl)
theorem dX3_give_5 : decode cX3_give 5 = .ok (.ifCond .eq 26, 3) := dk_153 0 26 (dk_at dksX3_give_0 5 rfl rfl)
theorem dX3_give_8 : decode cX3_give 8 = .ok (.iload_n 2, 1) := dk_28 (dk_at dksX3_give_0 8 rfl rfl)
theorem dX3_give_9 : decode cX3_give 9 = .ok (.iconst 0, 1) := dk_3 (dk_at dksX3_give_0 9 rfl rfl)
theorem dX3_give_10 : decode cX3_give 10 = .ok (.ldc 219, 2) := dk_18 219 (dk_at dksX3_give_0 10 rfl rfl)
theorem dX3_give_12 : decode cX3_give 12 = .ok (.invokestatic 66, 3) := dk_184 0 66 (dk_at dksX3_give_0 12 rfl rfl)
theorem dX3_give_15 : decode cX3_give 15 = .ok (.ifCond .eq 16, 3) := dk_153 0 16 (dk_at dksX3_give_0 15 rfl rfl)
theorem dX3_give_18 : decode cX3_give 18 = .ok (.aload_n 0, 1) := dk_42 (dk_at dksX3_give_0 18 rfl rfl)
theorem dX3_give_19 : decode cX3_give 19 = .ok (.iload_n 1, 1) := dk_27 (dk_at dksX3_give_0 19 rfl rfl)
theorem dX3_give_20 : decode cX3_give 20 = .ok (.iconst 3, 1) := dk_6 (dk_at dksX3_give_0 20 rfl rfl)
theorem dX3_give_21 : decode cX3_give 21 = .ok (.invokevirtual 220, 3) := dk_182 0 220 (dk_at dksX3_give_0 21 rfl rfl)
theorem dX3_give_24 : decode cX3_give 24 = .ok (.iload_n 2, 1) := dk_28 (dk_at dksX3_give_1 0 rfl rfl)
theorem dX3_give_25 : decode cX3_give 25 = .ok (.iadd, 1) := dk_96 (dk_at dksX3_give_1 1 rfl rfl)
theorem dX3_give_26 : decode cX3_give 26 = .ok (.ldc 224, 2) := dk_18 224 (dk_at dksX3_give_1 2 rfl rfl)
theorem dX3_give_28 : decode cX3_give 28 = .ok (.if_icmp .le 5, 3) := dk_164 0 5 (dk_at dksX3_give_1 4 rfl rfl)
theorem dX3_give_31 : decode cX3_give 31 = .ok (.iconst 0, 1) := dk_3 (dk_at dksX3_give_1 7 rfl rfl)
theorem dX3_give_32 : decode cX3_give 32 = .ok (.ireturn, 1) := dk_172 (dk_at dksX3_give_1 8 rfl rfl)
theorem dX3_give_33 : decode cX3_give 33 = .ok (.aload_n 0, 1) := dk_42 (dk_at dksX3_give_1 9 rfl rfl)
theorem dX3_give_34 : decode cX3_give 34 = .ok (.iload_n 1, 1) := dk_27 (dk_at dksX3_give_1 10 rfl rfl)
theorem dX3_give_35 : decode cX3_give 35 = .ok (.iconst 3, 1) := dk_6 (dk_at dksX3_give_1 11 rfl rfl)
theorem dX3_give_36 : decode cX3_give 36 = .ok (.iload_n 2, 1) := dk_28 (dk_at dksX3_give_1 12 rfl rfl)
theorem dX3_give_37 : decode cX3_give 37 = .ok (.invokevirtual 225, 3) := dk_182 0 225 (dk_at dksX3_give_1 13 rfl rfl)
theorem dX3_give_40 : decode cX3_give 40 = .ok (.aload_n 0, 1) := dk_42 (dk_at dksX3_give_1 16 rfl rfl)
theorem dX3_give_41 : decode cX3_give 41 = .ok (.invokevirtual 213, 3) := dk_182 0 213 (dk_at dksX3_give_1 17 rfl rfl)
theorem dX3_give_44 : decode cX3_give 44 = .ok (.iconst 1, 1) := dk_4 (dk_at dksX3_give_1 20 rfl rfl)
theorem dX3_give_45 : decode cX3_give 45 = .ok (.ireturn, 1) := dk_172 (dk_at dksX3_give_1 21 rfl rfl)
abbrev cX3_isHouse : ByteArray := prog_14_method_3_code
def yX3_isHouse : MethodName := ⟨RX3, "isHouse", "(I)Z"⟩
def dkwX3_isHouse_0 : List UInt8 := [27, 3, 42, 180, 0, 7, 7, 46, 4, 100, 184, 0, 66, 172]
abbrev dktX3_isHouse_0 : List UInt8 := dkwX3_isHouse_0 ++ []
theorem dksX3_isHouse_0 : cX3_isHouse.data.toList.drop 0 = dktX3_isHouse_0 := by decide +kernel
theorem dX3_isHouse_0 : decode cX3_isHouse 0 = .ok (.iload_n 1, 1) := dk_27 (dk_at dksX3_isHouse_0 0 rfl rfl)
theorem dX3_isHouse_1 : decode cX3_isHouse 1 = .ok (.iconst 0, 1) := dk_3 (dk_at dksX3_isHouse_0 1 rfl rfl)
theorem dX3_isHouse_2 : decode cX3_isHouse 2 = .ok (.aload_n 0, 1) := dk_42 (dk_at dksX3_isHouse_0 2 rfl rfl)
theorem dX3_isHouse_3 : decode cX3_isHouse 3 = .ok (.getfield 7, 3) := dk_180 0 7 (dk_at dksX3_isHouse_0 3 rfl rfl)
theorem dX3_isHouse_6 : decode cX3_isHouse 6 = .ok (.iconst 4, 1) := dk_7 (dk_at dksX3_isHouse_0 6 rfl rfl)
theorem dX3_isHouse_7 : decode cX3_isHouse 7 = .ok (.iaload, 1) := dk_46 (dk_at dksX3_isHouse_0 7 rfl rfl)
theorem dX3_isHouse_8 : decode cX3_isHouse 8 = .ok (.iconst 1, 1) := dk_4 (dk_at dksX3_isHouse_0 8 rfl rfl)
theorem dX3_isHouse_9 : decode cX3_isHouse 9 = .ok (.isub, 1) := dk_100 (dk_at dksX3_isHouse_0 9 rfl rfl)
theorem dX3_isHouse_10 : decode cX3_isHouse 10 = .ok (.invokestatic 66, 3) := dk_184 0 66 (dk_at dksX3_isHouse_0 10 rfl rfl)
theorem dX3_isHouse_13 : decode cX3_isHouse 13 = .ok (.ireturn, 1) := dk_172 (dk_at dksX3_isHouse_0 13 rfl rfl)
abbrev cX3_own : ByteArray := prog_14_method_4_code
def yX3_own : MethodName := ⟨RX3, "own", "(II)I"⟩
def dkwX3_own_0 : List UInt8 := [42, 180, 0, 7, 16, 20, 16, 16, 27, 104, 96, 28, 96, 46, 172]
abbrev dktX3_own_0 : List UInt8 := dkwX3_own_0 ++ []
theorem dksX3_own_0 : cX3_own.data.toList.drop 0 = dktX3_own_0 := by decide +kernel
theorem dX3_own_0 : decode cX3_own 0 = .ok (.aload_n 0, 1) := dk_42 (dk_at dksX3_own_0 0 rfl rfl)
theorem dX3_own_1 : decode cX3_own 1 = .ok (.getfield 7, 3) := dk_180 0 7 (dk_at dksX3_own_0 1 rfl rfl)
theorem dX3_own_4 : decode cX3_own 4 = .ok (.bipush 20, 2) := dk_16 20 (dk_at dksX3_own_0 4 rfl rfl)
theorem dX3_own_6 : decode cX3_own 6 = .ok (.bipush 16, 2) := dk_16 16 (dk_at dksX3_own_0 6 rfl rfl)
theorem dX3_own_8 : decode cX3_own 8 = .ok (.iload_n 1, 1) := dk_27 (dk_at dksX3_own_0 8 rfl rfl)
theorem dX3_own_9 : decode cX3_own 9 = .ok (.imul, 1) := dk_104 (dk_at dksX3_own_0 9 rfl rfl)
theorem dX3_own_10 : decode cX3_own 10 = .ok (.iadd, 1) := dk_96 (dk_at dksX3_own_0 10 rfl rfl)
theorem dX3_own_11 : decode cX3_own 11 = .ok (.iload_n 2, 1) := dk_28 (dk_at dksX3_own_0 11 rfl rfl)
theorem dX3_own_12 : decode cX3_own 12 = .ok (.iadd, 1) := dk_96 (dk_at dksX3_own_0 12 rfl rfl)
theorem dX3_own_13 : decode cX3_own 13 = .ok (.iaload, 1) := dk_46 (dk_at dksX3_own_0 13 rfl rfl)
theorem dX3_own_14 : decode cX3_own 14 = .ok (.ireturn, 1) := dk_172 (dk_at dksX3_own_0 14 rfl rfl)
abbrev cX3_adds : ByteArray := prog_14_method_5_code
def yX3_adds : MethodName := ⟨RX3, "adds", "(III)V"⟩
def dkwX3_adds_0 : List UInt8 := [42, 180, 0, 7, 16, 20, 16, 16, 27, 104, 96, 28, 96, 92, 46, 29, 96, 79, 177]
abbrev dktX3_adds_0 : List UInt8 := dkwX3_adds_0 ++ []
theorem dksX3_adds_0 : cX3_adds.data.toList.drop 0 = dktX3_adds_0 := by decide +kernel
theorem dX3_adds_0 : decode cX3_adds 0 = .ok (.aload_n 0, 1) := dk_42 (dk_at dksX3_adds_0 0 rfl rfl)
theorem dX3_adds_1 : decode cX3_adds 1 = .ok (.getfield 7, 3) := dk_180 0 7 (dk_at dksX3_adds_0 1 rfl rfl)
theorem dX3_adds_4 : decode cX3_adds 4 = .ok (.bipush 20, 2) := dk_16 20 (dk_at dksX3_adds_0 4 rfl rfl)
theorem dX3_adds_6 : decode cX3_adds 6 = .ok (.bipush 16, 2) := dk_16 16 (dk_at dksX3_adds_0 6 rfl rfl)
theorem dX3_adds_8 : decode cX3_adds 8 = .ok (.iload_n 1, 1) := dk_27 (dk_at dksX3_adds_0 8 rfl rfl)
theorem dX3_adds_9 : decode cX3_adds 9 = .ok (.imul, 1) := dk_104 (dk_at dksX3_adds_0 9 rfl rfl)
theorem dX3_adds_10 : decode cX3_adds 10 = .ok (.iadd, 1) := dk_96 (dk_at dksX3_adds_0 10 rfl rfl)
theorem dX3_adds_11 : decode cX3_adds 11 = .ok (.iload_n 2, 1) := dk_28 (dk_at dksX3_adds_0 11 rfl rfl)
theorem dX3_adds_12 : decode cX3_adds 12 = .ok (.iadd, 1) := dk_96 (dk_at dksX3_adds_0 12 rfl rfl)
theorem dX3_adds_13 : decode cX3_adds 13 = .ok (.dup2, 1) := dk_92 (dk_at dksX3_adds_0 13 rfl rfl)
theorem dX3_adds_14 : decode cX3_adds 14 = .ok (.iaload, 1) := dk_46 (dk_at dksX3_adds_0 14 rfl rfl)
theorem dX3_adds_15 : decode cX3_adds 15 = .ok (.iload_n 3, 1) := dk_29 (dk_at dksX3_adds_0 15 rfl rfl)
theorem dX3_adds_16 : decode cX3_adds 16 = .ok (.iadd, 1) := dk_96 (dk_at dksX3_adds_0 16 rfl rfl)
theorem dX3_adds_17 : decode cX3_adds 17 = .ok (.iastore, 1) := dk_79 (dk_at dksX3_adds_0 17 rfl rfl)
theorem dX3_adds_18 : decode cX3_adds 18 = .ok (.return_, 1) := dk_177 (dk_at dksX3_adds_0 18 rfl rfl)
abbrev cX3_set : ByteArray := prog_14_method_36_code
def yX3_set : MethodName := ⟨RX3, "set", "(II)Z"⟩
def dkwX3_set_2 : List UInt8 := [182, 0, 213, 4, 172]
abbrev dktX3_set_2 : List UInt8 := dkwX3_set_2 ++ []
def dkwX3_set_1 : List UInt8 := [16, 100, 167, 0, 5, 16, 99, 184, 0, 66, 154, 0, 5, 3, 172, 42, 180, 0, 7, 27, 28, 79, 42]
abbrev dktX3_set_1 : List UInt8 := dkwX3_set_1 ++ dktX3_set_2
def dkwX3_set_0 : List UInt8 := [27, 3, 6, 184, 0, 66, 153, 0, 31, 28, 27, 154, 0, 7, 4, 167, 0, 4, 3, 27, 6, 160, 0, 8]
abbrev dktX3_set_0 : List UInt8 := dkwX3_set_0 ++ dktX3_set_1
theorem dksX3_set_0 : cX3_set.data.toList.drop 0 = dktX3_set_0 := by decide +kernel
theorem dksX3_set_1 : cX3_set.data.toList.drop 24 = dktX3_set_1 := dk_seg dksX3_set_0 24 rfl rfl
theorem dksX3_set_2 : cX3_set.data.toList.drop 47 = dktX3_set_2 := dk_seg dksX3_set_1 23 rfl rfl
theorem dX3_set_0 : decode cX3_set 0 = .ok (.iload_n 1, 1) := dk_27 (dk_at dksX3_set_0 0 rfl rfl)
theorem dX3_set_1 : decode cX3_set 1 = .ok (.iconst 0, 1) := dk_3 (dk_at dksX3_set_0 1 rfl rfl)
theorem dX3_set_2 : decode cX3_set 2 = .ok (.iconst 3, 1) := dk_6 (dk_at dksX3_set_0 2 rfl rfl)
theorem dX3_set_3 : decode cX3_set 3 = .ok (.invokestatic 66, 3) := dk_184 0 66 (dk_at dksX3_set_0 3 rfl rfl)
theorem dX3_set_6 : decode cX3_set 6 = .ok (.ifCond .eq 31, 3) := dk_153 0 31 (dk_at dksX3_set_0 6 rfl rfl)
theorem dX3_set_9 : decode cX3_set 9 = .ok (.iload_n 2, 1) := dk_28 (dk_at dksX3_set_0 9 rfl rfl)
theorem dX3_set_10 : decode cX3_set 10 = .ok (.iload_n 1, 1) := dk_27 (dk_at dksX3_set_0 10 rfl rfl)
theorem dX3_set_11 : decode cX3_set 11 = .ok (.ifCond .ne 7, 3) := dk_154 0 7 (dk_at dksX3_set_0 11 rfl rfl)
theorem dX3_set_14 : decode cX3_set 14 = .ok (.iconst 1, 1) := dk_4 (dk_at dksX3_set_0 14 rfl rfl)
theorem dX3_set_15 : decode cX3_set 15 = .ok (.goto 4, 3) := dk_167 0 4 (dk_at dksX3_set_0 15 rfl rfl)
theorem dX3_set_18 : decode cX3_set 18 = .ok (.iconst 0, 1) := dk_3 (dk_at dksX3_set_0 18 rfl rfl)
theorem dX3_set_19 : decode cX3_set 19 = .ok (.iload_n 1, 1) := dk_27 (dk_at dksX3_set_0 19 rfl rfl)
theorem dX3_set_20 : decode cX3_set 20 = .ok (.iconst 3, 1) := dk_6 (dk_at dksX3_set_0 20 rfl rfl)
theorem dX3_set_21 : decode cX3_set 21 = .ok (.if_icmp .ne 8, 3) := dk_160 0 8 (dk_at dksX3_set_0 21 rfl rfl)
theorem dX3_set_24 : decode cX3_set 24 = .ok (.bipush 100, 2) := dk_16 100 (dk_at dksX3_set_1 0 rfl rfl)
theorem dX3_set_26 : decode cX3_set 26 = .ok (.goto 5, 3) := dk_167 0 5 (dk_at dksX3_set_1 2 rfl rfl)
theorem dX3_set_29 : decode cX3_set 29 = .ok (.bipush 99, 2) := dk_16 99 (dk_at dksX3_set_1 5 rfl rfl)
theorem dX3_set_31 : decode cX3_set 31 = .ok (.invokestatic 66, 3) := dk_184 0 66 (dk_at dksX3_set_1 7 rfl rfl)
theorem dX3_set_34 : decode cX3_set 34 = .ok (.ifCond .ne 5, 3) := dk_154 0 5 (dk_at dksX3_set_1 10 rfl rfl)
theorem dX3_set_37 : decode cX3_set 37 = .ok (.iconst 0, 1) := dk_3 (dk_at dksX3_set_1 13 rfl rfl)
theorem dX3_set_38 : decode cX3_set 38 = .ok (.ireturn, 1) := dk_172 (dk_at dksX3_set_1 14 rfl rfl)
theorem dX3_set_39 : decode cX3_set 39 = .ok (.aload_n 0, 1) := dk_42 (dk_at dksX3_set_1 15 rfl rfl)
theorem dX3_set_40 : decode cX3_set 40 = .ok (.getfield 7, 3) := dk_180 0 7 (dk_at dksX3_set_1 16 rfl rfl)
theorem dX3_set_43 : decode cX3_set 43 = .ok (.iload_n 1, 1) := dk_27 (dk_at dksX3_set_1 19 rfl rfl)
theorem dX3_set_44 : decode cX3_set 44 = .ok (.iload_n 2, 1) := dk_28 (dk_at dksX3_set_1 20 rfl rfl)
theorem dX3_set_45 : decode cX3_set 45 = .ok (.iastore, 1) := dk_79 (dk_at dksX3_set_1 21 rfl rfl)
theorem dX3_set_46 : decode cX3_set 46 = .ok (.aload_n 0, 1) := dk_42 (dk_at dksX3_set_1 22 rfl rfl)
theorem dX3_set_47 : decode cX3_set 47 = .ok (.invokevirtual 213, 3) := dk_182 0 213 (dk_at dksX3_set_2 0 rfl rfl)
theorem dX3_set_50 : decode cX3_set 50 = .ok (.iconst 1, 1) := dk_4 (dk_at dksX3_set_2 3 rfl rfl)
theorem dX3_set_51 : decode cX3_set 51 = .ok (.ireturn, 1) := dk_172 (dk_at dksX3_set_2 4 rfl rfl)
abbrev cX3_order : ByteArray := prog_14_method_41_code
def yX3_order : MethodName := ⟨RX3, "order", "(I)I"⟩
def dkwX3_order_0 : List UInt8 := [42, 27, 182, 0, 216, 154, 0, 5, 2, 172, 42, 4, 182, 0, 240, 42, 180, 0, 38, 27, 46, 172]
abbrev dktX3_order_0 : List UInt8 := dkwX3_order_0 ++ []
theorem dksX3_order_0 : cX3_order.data.toList.drop 0 = dktX3_order_0 := by decide +kernel
theorem dX3_order_0 : decode cX3_order 0 = .ok (.aload_n 0, 1) := dk_42 (dk_at dksX3_order_0 0 rfl rfl)
theorem dX3_order_1 : decode cX3_order 1 = .ok (.iload_n 1, 1) := dk_27 (dk_at dksX3_order_0 1 rfl rfl)
theorem dX3_order_2 : decode cX3_order 2 = .ok (.invokevirtual 216, 3) := dk_182 0 216 (dk_at dksX3_order_0 2 rfl rfl)
theorem dX3_order_5 : decode cX3_order 5 = .ok (.ifCond .ne 5, 3) := dk_154 0 5 (dk_at dksX3_order_0 5 rfl rfl)
theorem dX3_order_8 : decode cX3_order 8 = .ok (.iconst (-1), 1) := dk_2 (dk_at dksX3_order_0 8 rfl rfl)
theorem dX3_order_9 : decode cX3_order 9 = .ok (.ireturn, 1) := dk_172 (dk_at dksX3_order_0 9 rfl rfl)
theorem dX3_order_10 : decode cX3_order 10 = .ok (.aload_n 0, 1) := dk_42 (dk_at dksX3_order_0 10 rfl rfl)
theorem dX3_order_11 : decode cX3_order 11 = .ok (.iconst 1, 1) := dk_4 (dk_at dksX3_order_0 11 rfl rfl)
theorem dX3_order_12 : decode cX3_order 12 = .ok (.invokevirtual 240, 3) := dk_182 0 240 (dk_at dksX3_order_0 12 rfl rfl)
theorem dX3_order_15 : decode cX3_order 15 = .ok (.aload_n 0, 1) := dk_42 (dk_at dksX3_order_0 15 rfl rfl)
theorem dX3_order_16 : decode cX3_order 16 = .ok (.getfield 38, 3) := dk_180 0 38 (dk_at dksX3_order_0 16 rfl rfl)
theorem dX3_order_19 : decode cX3_order 19 = .ok (.iload_n 1, 1) := dk_27 (dk_at dksX3_order_0 19 rfl rfl)
theorem dX3_order_20 : decode cX3_order 20 = .ok (.iaload, 1) := dk_46 (dk_at dksX3_order_0 20 rfl rfl)
theorem dX3_order_21 : decode cX3_order 21 = .ok (.ireturn, 1) := dk_172 (dk_at dksX3_order_0 21 rfl rfl)
abbrev cX3_laysOrder : ByteArray := prog_14_method_40_code
def yX3_laysOrder : MethodName := ⟨RX3, "laysOrder", "(Z)V"⟩
def dkwX3_laysOrder_8 : List UInt8 := [4, 100, 46, 79, 132, 5, 255, 167, 255, 232, 42, 180, 0, 38, 3, 29, 79, 177]
abbrev dktX3_laysOrder_8 : List UInt8 := dkwX3_laysOrder_8 ++ []
def dkwX3_laysOrder_7 : List UInt8 := [167, 255, 242, 21, 4, 54, 5, 21, 5, 158, 0, 25, 42, 180, 0, 38, 21, 5, 42, 180, 0, 38, 21, 5]
abbrev dktX3_laysOrder_7 : List UInt8 := dkwX3_laysOrder_7 ++ dktX3_laysOrder_8
def dkwX3_laysOrder_6 : List UInt8 := [62, 132, 4, 1, 167, 255, 226, 3, 54, 4, 42, 180, 0, 38, 21, 4, 46, 29, 159, 0, 9, 132, 4, 1]
abbrev dktX3_laysOrder_6 : List UInt8 := dkwX3_laysOrder_6 ++ dktX3_laysOrder_7
def dkwX3_laysOrder_5 : List UInt8 := [28, 162, 0, 30, 42, 21, 4, 16, 7, 182, 0, 220, 42, 29, 16, 7, 182, 0, 220, 162, 0, 6, 21, 4]
abbrev dktX3_laysOrder_5 : List UInt8 := dkwX3_laysOrder_5 ++ dktX3_laysOrder_6
def dkwX3_laysOrder_4 : List UInt8 := [42, 180, 0, 7, 8, 46, 16, 7, 112, 154, 0, 7, 28, 154, 0, 4, 177, 3, 62, 4, 54, 4, 21, 4]
abbrev dktX3_laysOrder_4 : List UInt8 := dkwX3_laysOrder_4 ++ dktX3_laysOrder_5
def dkwX3_laysOrder_3 : List UInt8 := [132, 4, 255, 167, 255, 209, 42, 180, 0, 38, 21, 4, 29, 79, 132, 3, 1, 167, 255, 176, 27, 153, 0, 19]
abbrev dktX3_laysOrder_3 : List UInt8 := dkwX3_laysOrder_3 ++ dktX3_laysOrder_4
def dkwX3_laysOrder_2 : List UInt8 := [180, 0, 41, 29, 46, 162, 0, 25, 42, 180, 0, 38, 21, 4, 42, 180, 0, 38, 21, 4, 4, 100, 46, 79]
abbrev dktX3_laysOrder_2 : List UInt8 := dkwX3_laysOrder_2 ++ dktX3_laysOrder_3
def dkwX3_laysOrder_1 : List UInt8 := [79, 29, 54, 4, 21, 4, 158, 0, 48, 42, 180, 0, 41, 42, 180, 0, 38, 21, 4, 4, 100, 46, 46, 42]
abbrev dktX3_laysOrder_1 : List UInt8 := dkwX3_laysOrder_1 ++ dktX3_laysOrder_2
def dkwX3_laysOrder_0 : List UInt8 := [42, 180, 0, 7, 7, 46, 61, 3, 62, 29, 28, 162, 0, 81, 42, 180, 0, 41, 29, 42, 29, 182, 0, 238]
abbrev dktX3_laysOrder_0 : List UInt8 := dkwX3_laysOrder_0 ++ dktX3_laysOrder_1
theorem dksX3_laysOrder_0 : cX3_laysOrder.data.toList.drop 0 = dktX3_laysOrder_0 := by decide +kernel
theorem dksX3_laysOrder_1 : cX3_laysOrder.data.toList.drop 24 = dktX3_laysOrder_1 := dk_seg dksX3_laysOrder_0 24 rfl rfl
theorem dksX3_laysOrder_2 : cX3_laysOrder.data.toList.drop 48 = dktX3_laysOrder_2 := dk_seg dksX3_laysOrder_1 24 rfl rfl
theorem dksX3_laysOrder_3 : cX3_laysOrder.data.toList.drop 72 = dktX3_laysOrder_3 := dk_seg dksX3_laysOrder_2 24 rfl rfl
theorem dksX3_laysOrder_4 : cX3_laysOrder.data.toList.drop 96 = dktX3_laysOrder_4 := dk_seg dksX3_laysOrder_3 24 rfl rfl
theorem dksX3_laysOrder_5 : cX3_laysOrder.data.toList.drop 120 = dktX3_laysOrder_5 := dk_seg dksX3_laysOrder_4 24 rfl rfl
theorem dksX3_laysOrder_6 : cX3_laysOrder.data.toList.drop 144 = dktX3_laysOrder_6 := dk_seg dksX3_laysOrder_5 24 rfl rfl
theorem dksX3_laysOrder_7 : cX3_laysOrder.data.toList.drop 168 = dktX3_laysOrder_7 := dk_seg dksX3_laysOrder_6 24 rfl rfl
theorem dksX3_laysOrder_8 : cX3_laysOrder.data.toList.drop 192 = dktX3_laysOrder_8 := dk_seg dksX3_laysOrder_7 24 rfl rfl
theorem dX3_laysOrder_0 : decode cX3_laysOrder 0 = .ok (.aload_n 0, 1) := dk_42 (dk_at dksX3_laysOrder_0 0 rfl rfl)
theorem dX3_laysOrder_1 : decode cX3_laysOrder 1 = .ok (.getfield 7, 3) := dk_180 0 7 (dk_at dksX3_laysOrder_0 1 rfl rfl)
theorem dX3_laysOrder_4 : decode cX3_laysOrder 4 = .ok (.iconst 4, 1) := dk_7 (dk_at dksX3_laysOrder_0 4 rfl rfl)
theorem dX3_laysOrder_5 : decode cX3_laysOrder 5 = .ok (.iaload, 1) := dk_46 (dk_at dksX3_laysOrder_0 5 rfl rfl)
theorem dX3_laysOrder_6 : decode cX3_laysOrder 6 = .ok (.istore_n 2, 1) := dk_61 (dk_at dksX3_laysOrder_0 6 rfl rfl)
theorem dX3_laysOrder_7 : decode cX3_laysOrder 7 = .ok (.iconst 0, 1) := dk_3 (dk_at dksX3_laysOrder_0 7 rfl rfl)
theorem dX3_laysOrder_8 : decode cX3_laysOrder 8 = .ok (.istore_n 3, 1) := dk_62 (dk_at dksX3_laysOrder_0 8 rfl rfl)
theorem dX3_laysOrder_9 : decode cX3_laysOrder 9 = .ok (.iload_n 3, 1) := dk_29 (dk_at dksX3_laysOrder_0 9 rfl rfl)
theorem dX3_laysOrder_10 : decode cX3_laysOrder 10 = .ok (.iload_n 2, 1) := dk_28 (dk_at dksX3_laysOrder_0 10 rfl rfl)
theorem dX3_laysOrder_11 : decode cX3_laysOrder 11 = .ok (.if_icmp .ge 81, 3) := dk_162 0 81 (dk_at dksX3_laysOrder_0 11 rfl rfl)
theorem dX3_laysOrder_14 : decode cX3_laysOrder 14 = .ok (.aload_n 0, 1) := dk_42 (dk_at dksX3_laysOrder_0 14 rfl rfl)
theorem dX3_laysOrder_15 : decode cX3_laysOrder 15 = .ok (.getfield 41, 3) := dk_180 0 41 (dk_at dksX3_laysOrder_0 15 rfl rfl)
theorem dX3_laysOrder_18 : decode cX3_laysOrder 18 = .ok (.iload_n 3, 1) := dk_29 (dk_at dksX3_laysOrder_0 18 rfl rfl)
theorem dX3_laysOrder_19 : decode cX3_laysOrder 19 = .ok (.aload_n 0, 1) := dk_42 (dk_at dksX3_laysOrder_0 19 rfl rfl)
theorem dX3_laysOrder_20 : decode cX3_laysOrder 20 = .ok (.iload_n 3, 1) := dk_29 (dk_at dksX3_laysOrder_0 20 rfl rfl)
theorem dX3_laysOrder_21 : decode cX3_laysOrder 21 = .ok (.invokevirtual 238, 3) := dk_182 0 238 (dk_at dksX3_laysOrder_0 21 rfl rfl)
theorem dX3_laysOrder_24 : decode cX3_laysOrder 24 = .ok (.iastore, 1) := dk_79 (dk_at dksX3_laysOrder_1 0 rfl rfl)
theorem dX3_laysOrder_25 : decode cX3_laysOrder 25 = .ok (.iload_n 3, 1) := dk_29 (dk_at dksX3_laysOrder_1 1 rfl rfl)
theorem dX3_laysOrder_26 : decode cX3_laysOrder 26 = .ok (.istore 4, 2) := dk_54 4 (dk_at dksX3_laysOrder_1 2 rfl rfl)
theorem dX3_laysOrder_28 : decode cX3_laysOrder 28 = .ok (.iload 4, 2) := dk_21 4 (dk_at dksX3_laysOrder_1 4 rfl rfl)
theorem dX3_laysOrder_30 : decode cX3_laysOrder 30 = .ok (.ifCond .le 48, 3) := dk_158 0 48 (dk_at dksX3_laysOrder_1 6 rfl rfl)
theorem dX3_laysOrder_33 : decode cX3_laysOrder 33 = .ok (.aload_n 0, 1) := dk_42 (dk_at dksX3_laysOrder_1 9 rfl rfl)
theorem dX3_laysOrder_34 : decode cX3_laysOrder 34 = .ok (.getfield 41, 3) := dk_180 0 41 (dk_at dksX3_laysOrder_1 10 rfl rfl)
theorem dX3_laysOrder_37 : decode cX3_laysOrder 37 = .ok (.aload_n 0, 1) := dk_42 (dk_at dksX3_laysOrder_1 13 rfl rfl)
theorem dX3_laysOrder_38 : decode cX3_laysOrder 38 = .ok (.getfield 38, 3) := dk_180 0 38 (dk_at dksX3_laysOrder_1 14 rfl rfl)
theorem dX3_laysOrder_41 : decode cX3_laysOrder 41 = .ok (.iload 4, 2) := dk_21 4 (dk_at dksX3_laysOrder_1 17 rfl rfl)
theorem dX3_laysOrder_43 : decode cX3_laysOrder 43 = .ok (.iconst 1, 1) := dk_4 (dk_at dksX3_laysOrder_1 19 rfl rfl)
theorem dX3_laysOrder_44 : decode cX3_laysOrder 44 = .ok (.isub, 1) := dk_100 (dk_at dksX3_laysOrder_1 20 rfl rfl)
theorem dX3_laysOrder_45 : decode cX3_laysOrder 45 = .ok (.iaload, 1) := dk_46 (dk_at dksX3_laysOrder_1 21 rfl rfl)
theorem dX3_laysOrder_46 : decode cX3_laysOrder 46 = .ok (.iaload, 1) := dk_46 (dk_at dksX3_laysOrder_1 22 rfl rfl)
theorem dX3_laysOrder_47 : decode cX3_laysOrder 47 = .ok (.aload_n 0, 1) := dk_42 (dk_at dksX3_laysOrder_1 23 rfl rfl)
theorem dX3_laysOrder_48 : decode cX3_laysOrder 48 = .ok (.getfield 41, 3) := dk_180 0 41 (dk_at dksX3_laysOrder_2 0 rfl rfl)
theorem dX3_laysOrder_51 : decode cX3_laysOrder 51 = .ok (.iload_n 3, 1) := dk_29 (dk_at dksX3_laysOrder_2 3 rfl rfl)
theorem dX3_laysOrder_52 : decode cX3_laysOrder 52 = .ok (.iaload, 1) := dk_46 (dk_at dksX3_laysOrder_2 4 rfl rfl)
theorem dX3_laysOrder_53 : decode cX3_laysOrder 53 = .ok (.if_icmp .ge 25, 3) := dk_162 0 25 (dk_at dksX3_laysOrder_2 5 rfl rfl)
theorem dX3_laysOrder_56 : decode cX3_laysOrder 56 = .ok (.aload_n 0, 1) := dk_42 (dk_at dksX3_laysOrder_2 8 rfl rfl)
theorem dX3_laysOrder_57 : decode cX3_laysOrder 57 = .ok (.getfield 38, 3) := dk_180 0 38 (dk_at dksX3_laysOrder_2 9 rfl rfl)
theorem dX3_laysOrder_60 : decode cX3_laysOrder 60 = .ok (.iload 4, 2) := dk_21 4 (dk_at dksX3_laysOrder_2 12 rfl rfl)
theorem dX3_laysOrder_62 : decode cX3_laysOrder 62 = .ok (.aload_n 0, 1) := dk_42 (dk_at dksX3_laysOrder_2 14 rfl rfl)
theorem dX3_laysOrder_63 : decode cX3_laysOrder 63 = .ok (.getfield 38, 3) := dk_180 0 38 (dk_at dksX3_laysOrder_2 15 rfl rfl)
theorem dX3_laysOrder_66 : decode cX3_laysOrder 66 = .ok (.iload 4, 2) := dk_21 4 (dk_at dksX3_laysOrder_2 18 rfl rfl)
theorem dX3_laysOrder_68 : decode cX3_laysOrder 68 = .ok (.iconst 1, 1) := dk_4 (dk_at dksX3_laysOrder_2 20 rfl rfl)
theorem dX3_laysOrder_69 : decode cX3_laysOrder 69 = .ok (.isub, 1) := dk_100 (dk_at dksX3_laysOrder_2 21 rfl rfl)
theorem dX3_laysOrder_70 : decode cX3_laysOrder 70 = .ok (.iaload, 1) := dk_46 (dk_at dksX3_laysOrder_2 22 rfl rfl)
theorem dX3_laysOrder_71 : decode cX3_laysOrder 71 = .ok (.iastore, 1) := dk_79 (dk_at dksX3_laysOrder_2 23 rfl rfl)
theorem dX3_laysOrder_72 : decode cX3_laysOrder 72 = .ok (.iinc 4 (-1), 3) := dk_132 4 255 (dk_at dksX3_laysOrder_3 0 rfl rfl)
theorem dX3_laysOrder_75 : decode cX3_laysOrder 75 = .ok (.goto (-47), 3) := dk_167 255 209 (dk_at dksX3_laysOrder_3 3 rfl rfl)
theorem dX3_laysOrder_78 : decode cX3_laysOrder 78 = .ok (.aload_n 0, 1) := dk_42 (dk_at dksX3_laysOrder_3 6 rfl rfl)
theorem dX3_laysOrder_79 : decode cX3_laysOrder 79 = .ok (.getfield 38, 3) := dk_180 0 38 (dk_at dksX3_laysOrder_3 7 rfl rfl)
theorem dX3_laysOrder_82 : decode cX3_laysOrder 82 = .ok (.iload 4, 2) := dk_21 4 (dk_at dksX3_laysOrder_3 10 rfl rfl)
theorem dX3_laysOrder_84 : decode cX3_laysOrder 84 = .ok (.iload_n 3, 1) := dk_29 (dk_at dksX3_laysOrder_3 12 rfl rfl)
theorem dX3_laysOrder_85 : decode cX3_laysOrder 85 = .ok (.iastore, 1) := dk_79 (dk_at dksX3_laysOrder_3 13 rfl rfl)
theorem dX3_laysOrder_86 : decode cX3_laysOrder 86 = .ok (.iinc 3 1, 3) := dk_132 3 1 (dk_at dksX3_laysOrder_3 14 rfl rfl)
theorem dX3_laysOrder_89 : decode cX3_laysOrder 89 = .ok (.goto (-80), 3) := dk_167 255 176 (dk_at dksX3_laysOrder_3 17 rfl rfl)
theorem dX3_laysOrder_92 : decode cX3_laysOrder 92 = .ok (.iload_n 1, 1) := dk_27 (dk_at dksX3_laysOrder_3 20 rfl rfl)
theorem dX3_laysOrder_93 : decode cX3_laysOrder 93 = .ok (.ifCond .eq 19, 3) := dk_153 0 19 (dk_at dksX3_laysOrder_3 21 rfl rfl)
theorem dX3_laysOrder_96 : decode cX3_laysOrder 96 = .ok (.aload_n 0, 1) := dk_42 (dk_at dksX3_laysOrder_4 0 rfl rfl)
theorem dX3_laysOrder_97 : decode cX3_laysOrder 97 = .ok (.getfield 7, 3) := dk_180 0 7 (dk_at dksX3_laysOrder_4 1 rfl rfl)
theorem dX3_laysOrder_100 : decode cX3_laysOrder 100 = .ok (.iconst 5, 1) := dk_8 (dk_at dksX3_laysOrder_4 4 rfl rfl)
theorem dX3_laysOrder_101 : decode cX3_laysOrder 101 = .ok (.iaload, 1) := dk_46 (dk_at dksX3_laysOrder_4 5 rfl rfl)
theorem dX3_laysOrder_102 : decode cX3_laysOrder 102 = .ok (.bipush 7, 2) := dk_16 7 (dk_at dksX3_laysOrder_4 6 rfl rfl)
theorem dX3_laysOrder_104 : decode cX3_laysOrder 104 = .ok (.irem, 1) := dk_112 (dk_at dksX3_laysOrder_4 8 rfl rfl)
theorem dX3_laysOrder_105 : decode cX3_laysOrder 105 = .ok (.ifCond .ne 7, 3) := dk_154 0 7 (dk_at dksX3_laysOrder_4 9 rfl rfl)
theorem dX3_laysOrder_108 : decode cX3_laysOrder 108 = .ok (.iload_n 2, 1) := dk_28 (dk_at dksX3_laysOrder_4 12 rfl rfl)
theorem dX3_laysOrder_109 : decode cX3_laysOrder 109 = .ok (.ifCond .ne 4, 3) := dk_154 0 4 (dk_at dksX3_laysOrder_4 13 rfl rfl)
theorem dX3_laysOrder_112 : decode cX3_laysOrder 112 = .ok (.return_, 1) := dk_177 (dk_at dksX3_laysOrder_4 16 rfl rfl)
theorem dX3_laysOrder_113 : decode cX3_laysOrder 113 = .ok (.iconst 0, 1) := dk_3 (dk_at dksX3_laysOrder_4 17 rfl rfl)
theorem dX3_laysOrder_114 : decode cX3_laysOrder 114 = .ok (.istore_n 3, 1) := dk_62 (dk_at dksX3_laysOrder_4 18 rfl rfl)
theorem dX3_laysOrder_115 : decode cX3_laysOrder 115 = .ok (.iconst 1, 1) := dk_4 (dk_at dksX3_laysOrder_4 19 rfl rfl)
theorem dX3_laysOrder_116 : decode cX3_laysOrder 116 = .ok (.istore 4, 2) := dk_54 4 (dk_at dksX3_laysOrder_4 20 rfl rfl)
theorem dX3_laysOrder_118 : decode cX3_laysOrder 118 = .ok (.iload 4, 2) := dk_21 4 (dk_at dksX3_laysOrder_4 22 rfl rfl)
theorem dX3_laysOrder_120 : decode cX3_laysOrder 120 = .ok (.iload_n 2, 1) := dk_28 (dk_at dksX3_laysOrder_5 0 rfl rfl)
theorem dX3_laysOrder_121 : decode cX3_laysOrder 121 = .ok (.if_icmp .ge 30, 3) := dk_162 0 30 (dk_at dksX3_laysOrder_5 1 rfl rfl)
theorem dX3_laysOrder_124 : decode cX3_laysOrder 124 = .ok (.aload_n 0, 1) := dk_42 (dk_at dksX3_laysOrder_5 4 rfl rfl)
theorem dX3_laysOrder_125 : decode cX3_laysOrder 125 = .ok (.iload 4, 2) := dk_21 4 (dk_at dksX3_laysOrder_5 5 rfl rfl)
theorem dX3_laysOrder_127 : decode cX3_laysOrder 127 = .ok (.bipush 7, 2) := dk_16 7 (dk_at dksX3_laysOrder_5 7 rfl rfl)
theorem dX3_laysOrder_129 : decode cX3_laysOrder 129 = .ok (.invokevirtual 220, 3) := dk_182 0 220 (dk_at dksX3_laysOrder_5 9 rfl rfl)
theorem dX3_laysOrder_132 : decode cX3_laysOrder 132 = .ok (.aload_n 0, 1) := dk_42 (dk_at dksX3_laysOrder_5 12 rfl rfl)
theorem dX3_laysOrder_133 : decode cX3_laysOrder 133 = .ok (.iload_n 3, 1) := dk_29 (dk_at dksX3_laysOrder_5 13 rfl rfl)
theorem dX3_laysOrder_134 : decode cX3_laysOrder 134 = .ok (.bipush 7, 2) := dk_16 7 (dk_at dksX3_laysOrder_5 14 rfl rfl)
theorem dX3_laysOrder_136 : decode cX3_laysOrder 136 = .ok (.invokevirtual 220, 3) := dk_182 0 220 (dk_at dksX3_laysOrder_5 16 rfl rfl)
theorem dX3_laysOrder_139 : decode cX3_laysOrder 139 = .ok (.if_icmp .ge 6, 3) := dk_162 0 6 (dk_at dksX3_laysOrder_5 19 rfl rfl)
theorem dX3_laysOrder_142 : decode cX3_laysOrder 142 = .ok (.iload 4, 2) := dk_21 4 (dk_at dksX3_laysOrder_5 22 rfl rfl)
theorem dX3_laysOrder_144 : decode cX3_laysOrder 144 = .ok (.istore_n 3, 1) := dk_62 (dk_at dksX3_laysOrder_6 0 rfl rfl)
theorem dX3_laysOrder_145 : decode cX3_laysOrder 145 = .ok (.iinc 4 1, 3) := dk_132 4 1 (dk_at dksX3_laysOrder_6 1 rfl rfl)
theorem dX3_laysOrder_148 : decode cX3_laysOrder 148 = .ok (.goto (-30), 3) := dk_167 255 226 (dk_at dksX3_laysOrder_6 4 rfl rfl)
theorem dX3_laysOrder_151 : decode cX3_laysOrder 151 = .ok (.iconst 0, 1) := dk_3 (dk_at dksX3_laysOrder_6 7 rfl rfl)
theorem dX3_laysOrder_152 : decode cX3_laysOrder 152 = .ok (.istore 4, 2) := dk_54 4 (dk_at dksX3_laysOrder_6 8 rfl rfl)
theorem dX3_laysOrder_154 : decode cX3_laysOrder 154 = .ok (.aload_n 0, 1) := dk_42 (dk_at dksX3_laysOrder_6 10 rfl rfl)
theorem dX3_laysOrder_155 : decode cX3_laysOrder 155 = .ok (.getfield 38, 3) := dk_180 0 38 (dk_at dksX3_laysOrder_6 11 rfl rfl)
theorem dX3_laysOrder_158 : decode cX3_laysOrder 158 = .ok (.iload 4, 2) := dk_21 4 (dk_at dksX3_laysOrder_6 14 rfl rfl)
theorem dX3_laysOrder_160 : decode cX3_laysOrder 160 = .ok (.iaload, 1) := dk_46 (dk_at dksX3_laysOrder_6 16 rfl rfl)
theorem dX3_laysOrder_161 : decode cX3_laysOrder 161 = .ok (.iload_n 3, 1) := dk_29 (dk_at dksX3_laysOrder_6 17 rfl rfl)
theorem dX3_laysOrder_162 : decode cX3_laysOrder 162 = .ok (.if_icmp .eq 9, 3) := dk_159 0 9 (dk_at dksX3_laysOrder_6 18 rfl rfl)
theorem dX3_laysOrder_165 : decode cX3_laysOrder 165 = .ok (.iinc 4 1, 3) := dk_132 4 1 (dk_at dksX3_laysOrder_6 21 rfl rfl)
theorem dX3_laysOrder_168 : decode cX3_laysOrder 168 = .ok (.goto (-14), 3) := dk_167 255 242 (dk_at dksX3_laysOrder_7 0 rfl rfl)
theorem dX3_laysOrder_171 : decode cX3_laysOrder 171 = .ok (.iload 4, 2) := dk_21 4 (dk_at dksX3_laysOrder_7 3 rfl rfl)
theorem dX3_laysOrder_173 : decode cX3_laysOrder 173 = .ok (.istore 5, 2) := dk_54 5 (dk_at dksX3_laysOrder_7 5 rfl rfl)
theorem dX3_laysOrder_175 : decode cX3_laysOrder 175 = .ok (.iload 5, 2) := dk_21 5 (dk_at dksX3_laysOrder_7 7 rfl rfl)
theorem dX3_laysOrder_177 : decode cX3_laysOrder 177 = .ok (.ifCond .le 25, 3) := dk_158 0 25 (dk_at dksX3_laysOrder_7 9 rfl rfl)
theorem dX3_laysOrder_180 : decode cX3_laysOrder 180 = .ok (.aload_n 0, 1) := dk_42 (dk_at dksX3_laysOrder_7 12 rfl rfl)
theorem dX3_laysOrder_181 : decode cX3_laysOrder 181 = .ok (.getfield 38, 3) := dk_180 0 38 (dk_at dksX3_laysOrder_7 13 rfl rfl)
theorem dX3_laysOrder_184 : decode cX3_laysOrder 184 = .ok (.iload 5, 2) := dk_21 5 (dk_at dksX3_laysOrder_7 16 rfl rfl)
theorem dX3_laysOrder_186 : decode cX3_laysOrder 186 = .ok (.aload_n 0, 1) := dk_42 (dk_at dksX3_laysOrder_7 18 rfl rfl)
theorem dX3_laysOrder_187 : decode cX3_laysOrder 187 = .ok (.getfield 38, 3) := dk_180 0 38 (dk_at dksX3_laysOrder_7 19 rfl rfl)
theorem dX3_laysOrder_190 : decode cX3_laysOrder 190 = .ok (.iload 5, 2) := dk_21 5 (dk_at dksX3_laysOrder_7 22 rfl rfl)
theorem dX3_laysOrder_192 : decode cX3_laysOrder 192 = .ok (.iconst 1, 1) := dk_4 (dk_at dksX3_laysOrder_8 0 rfl rfl)
theorem dX3_laysOrder_193 : decode cX3_laysOrder 193 = .ok (.isub, 1) := dk_100 (dk_at dksX3_laysOrder_8 1 rfl rfl)
theorem dX3_laysOrder_194 : decode cX3_laysOrder 194 = .ok (.iaload, 1) := dk_46 (dk_at dksX3_laysOrder_8 2 rfl rfl)
theorem dX3_laysOrder_195 : decode cX3_laysOrder 195 = .ok (.iastore, 1) := dk_79 (dk_at dksX3_laysOrder_8 3 rfl rfl)
theorem dX3_laysOrder_196 : decode cX3_laysOrder 196 = .ok (.iinc 5 (-1), 3) := dk_132 5 255 (dk_at dksX3_laysOrder_8 4 rfl rfl)
theorem dX3_laysOrder_199 : decode cX3_laysOrder 199 = .ok (.goto (-24), 3) := dk_167 255 232 (dk_at dksX3_laysOrder_8 7 rfl rfl)
theorem dX3_laysOrder_202 : decode cX3_laysOrder 202 = .ok (.aload_n 0, 1) := dk_42 (dk_at dksX3_laysOrder_8 10 rfl rfl)
theorem dX3_laysOrder_203 : decode cX3_laysOrder 203 = .ok (.getfield 38, 3) := dk_180 0 38 (dk_at dksX3_laysOrder_8 11 rfl rfl)
theorem dX3_laysOrder_206 : decode cX3_laysOrder 206 = .ok (.iconst 0, 1) := dk_3 (dk_at dksX3_laysOrder_8 14 rfl rfl)
theorem dX3_laysOrder_207 : decode cX3_laysOrder 207 = .ok (.iload_n 3, 1) := dk_29 (dk_at dksX3_laysOrder_8 15 rfl rfl)
theorem dX3_laysOrder_208 : decode cX3_laysOrder 208 = .ok (.iastore, 1) := dk_79 (dk_at dksX3_laysOrder_8 16 rfl rfl)
theorem dX3_laysOrder_209 : decode cX3_laysOrder 209 = .ok (.return_, 1) := dk_177 (dk_at dksX3_laysOrder_8 17 rfl rfl)
abbrev cX3_worth : ByteArray := prog_14_method_39_code
def yX3_worth : MethodName := ⟨RX3, "worth", "(I)I"⟩
def dkwX3_worth_8 : List UInt8 := [132, 2, 1, 167, 255, 165, 3, 172]
abbrev dktX3_worth_8 : List UInt8 := dkwX3_worth_8 ++ []
def dkwX3_worth_7 : List UInt8 := [42, 180, 0, 7, 17, 2, 88, 28, 96, 46, 42, 180, 0, 7, 17, 2, 108, 28, 96, 46, 182, 0, 235, 172]
abbrev dktX3_worth_7 : List UInt8 := dkwX3_worth_7 ++ dktX3_worth_8
def dkwX3_worth_6 : List UInt8 := [17, 2, 108, 28, 96, 46, 42, 180, 0, 7, 17, 2, 128, 28, 96, 46, 182, 0, 235, 4, 160, 0, 28, 42]
abbrev dktX3_worth_6 : List UInt8 := dkwX3_worth_6 ++ dktX3_worth_7
def dkwX3_worth_5 : List UInt8 := [17, 2, 128, 28, 96, 46, 42, 180, 0, 7, 17, 2, 108, 28, 96, 46, 159, 0, 31, 42, 42, 180, 0, 7]
abbrev dktX3_worth_5 : List UInt8 := dkwX3_worth_5 ++ dktX3_worth_6
def dkwX3_worth_4 : List UInt8 := [27, 182, 0, 232, 116, 79, 3, 61, 28, 42, 180, 0, 7, 17, 2, 78, 46, 162, 0, 85, 42, 180, 0, 7]
abbrev dktX3_worth_4 : List UInt8 := dkwX3_worth_4 ++ dktX3_worth_5
def dkwX3_worth_3 : List UInt8 := [16, 8, 27, 79, 42, 180, 0, 31, 16, 9, 42, 180, 0, 7, 8, 46, 79, 42, 180, 0, 31, 16, 10, 42]
abbrev dktX3_worth_3 : List UInt8 := dkwX3_worth_3 ++ dktX3_worth_4
def dkwX3_worth_2 : List UInt8 := [132, 2, 1, 167, 255, 232, 42, 180, 0, 31, 16, 7, 42, 27, 16, 8, 182, 0, 220, 79, 42, 180, 0, 31]
abbrev dktX3_worth_2 : List UInt8 := dkwX3_worth_2 ++ dktX3_worth_3
def dkwX3_worth_1 : List UInt8 := [3, 61, 28, 7, 162, 0, 25, 42, 180, 0, 31, 6, 28, 96, 42, 27, 6, 28, 96, 182, 0, 220, 79]
abbrev dktX3_worth_1 : List UInt8 := dkwX3_worth_1 ++ dktX3_worth_2
def dkwX3_worth_0 : List UInt8 := [42, 180, 0, 31, 4, 42, 27, 3, 182, 0, 220, 79, 42, 180, 0, 31, 5, 42, 27, 4, 182, 0, 220, 79]
abbrev dktX3_worth_0 : List UInt8 := dkwX3_worth_0 ++ dktX3_worth_1
theorem dksX3_worth_0 : cX3_worth.data.toList.drop 0 = dktX3_worth_0 := by decide +kernel
theorem dksX3_worth_1 : cX3_worth.data.toList.drop 24 = dktX3_worth_1 := dk_seg dksX3_worth_0 24 rfl rfl
theorem dksX3_worth_2 : cX3_worth.data.toList.drop 47 = dktX3_worth_2 := dk_seg dksX3_worth_1 23 rfl rfl
theorem dksX3_worth_3 : cX3_worth.data.toList.drop 71 = dktX3_worth_3 := dk_seg dksX3_worth_2 24 rfl rfl
theorem dksX3_worth_4 : cX3_worth.data.toList.drop 95 = dktX3_worth_4 := dk_seg dksX3_worth_3 24 rfl rfl
theorem dksX3_worth_5 : cX3_worth.data.toList.drop 119 = dktX3_worth_5 := dk_seg dksX3_worth_4 24 rfl rfl
theorem dksX3_worth_6 : cX3_worth.data.toList.drop 143 = dktX3_worth_6 := dk_seg dksX3_worth_5 24 rfl rfl
theorem dksX3_worth_7 : cX3_worth.data.toList.drop 167 = dktX3_worth_7 := dk_seg dksX3_worth_6 24 rfl rfl
theorem dksX3_worth_8 : cX3_worth.data.toList.drop 191 = dktX3_worth_8 := dk_seg dksX3_worth_7 24 rfl rfl
theorem dX3_worth_0 : decode cX3_worth 0 = .ok (.aload_n 0, 1) := dk_42 (dk_at dksX3_worth_0 0 rfl rfl)
theorem dX3_worth_1 : decode cX3_worth 1 = .ok (.getfield 31, 3) := dk_180 0 31 (dk_at dksX3_worth_0 1 rfl rfl)
theorem dX3_worth_4 : decode cX3_worth 4 = .ok (.iconst 1, 1) := dk_4 (dk_at dksX3_worth_0 4 rfl rfl)
theorem dX3_worth_5 : decode cX3_worth 5 = .ok (.aload_n 0, 1) := dk_42 (dk_at dksX3_worth_0 5 rfl rfl)
theorem dX3_worth_6 : decode cX3_worth 6 = .ok (.iload_n 1, 1) := dk_27 (dk_at dksX3_worth_0 6 rfl rfl)
theorem dX3_worth_7 : decode cX3_worth 7 = .ok (.iconst 0, 1) := dk_3 (dk_at dksX3_worth_0 7 rfl rfl)
theorem dX3_worth_8 : decode cX3_worth 8 = .ok (.invokevirtual 220, 3) := dk_182 0 220 (dk_at dksX3_worth_0 8 rfl rfl)
theorem dX3_worth_11 : decode cX3_worth 11 = .ok (.iastore, 1) := dk_79 (dk_at dksX3_worth_0 11 rfl rfl)
theorem dX3_worth_12 : decode cX3_worth 12 = .ok (.aload_n 0, 1) := dk_42 (dk_at dksX3_worth_0 12 rfl rfl)
theorem dX3_worth_13 : decode cX3_worth 13 = .ok (.getfield 31, 3) := dk_180 0 31 (dk_at dksX3_worth_0 13 rfl rfl)
theorem dX3_worth_16 : decode cX3_worth 16 = .ok (.iconst 2, 1) := dk_5 (dk_at dksX3_worth_0 16 rfl rfl)
theorem dX3_worth_17 : decode cX3_worth 17 = .ok (.aload_n 0, 1) := dk_42 (dk_at dksX3_worth_0 17 rfl rfl)
theorem dX3_worth_18 : decode cX3_worth 18 = .ok (.iload_n 1, 1) := dk_27 (dk_at dksX3_worth_0 18 rfl rfl)
theorem dX3_worth_19 : decode cX3_worth 19 = .ok (.iconst 1, 1) := dk_4 (dk_at dksX3_worth_0 19 rfl rfl)
theorem dX3_worth_20 : decode cX3_worth 20 = .ok (.invokevirtual 220, 3) := dk_182 0 220 (dk_at dksX3_worth_0 20 rfl rfl)
theorem dX3_worth_23 : decode cX3_worth 23 = .ok (.iastore, 1) := dk_79 (dk_at dksX3_worth_0 23 rfl rfl)
theorem dX3_worth_24 : decode cX3_worth 24 = .ok (.iconst 0, 1) := dk_3 (dk_at dksX3_worth_1 0 rfl rfl)
theorem dX3_worth_25 : decode cX3_worth 25 = .ok (.istore_n 2, 1) := dk_61 (dk_at dksX3_worth_1 1 rfl rfl)
theorem dX3_worth_26 : decode cX3_worth 26 = .ok (.iload_n 2, 1) := dk_28 (dk_at dksX3_worth_1 2 rfl rfl)
theorem dX3_worth_27 : decode cX3_worth 27 = .ok (.iconst 4, 1) := dk_7 (dk_at dksX3_worth_1 3 rfl rfl)
theorem dX3_worth_28 : decode cX3_worth 28 = .ok (.if_icmp .ge 25, 3) := dk_162 0 25 (dk_at dksX3_worth_1 4 rfl rfl)
theorem dX3_worth_31 : decode cX3_worth 31 = .ok (.aload_n 0, 1) := dk_42 (dk_at dksX3_worth_1 7 rfl rfl)
theorem dX3_worth_32 : decode cX3_worth 32 = .ok (.getfield 31, 3) := dk_180 0 31 (dk_at dksX3_worth_1 8 rfl rfl)
theorem dX3_worth_35 : decode cX3_worth 35 = .ok (.iconst 3, 1) := dk_6 (dk_at dksX3_worth_1 11 rfl rfl)
theorem dX3_worth_36 : decode cX3_worth 36 = .ok (.iload_n 2, 1) := dk_28 (dk_at dksX3_worth_1 12 rfl rfl)
theorem dX3_worth_37 : decode cX3_worth 37 = .ok (.iadd, 1) := dk_96 (dk_at dksX3_worth_1 13 rfl rfl)
theorem dX3_worth_38 : decode cX3_worth 38 = .ok (.aload_n 0, 1) := dk_42 (dk_at dksX3_worth_1 14 rfl rfl)
theorem dX3_worth_39 : decode cX3_worth 39 = .ok (.iload_n 1, 1) := dk_27 (dk_at dksX3_worth_1 15 rfl rfl)
theorem dX3_worth_40 : decode cX3_worth 40 = .ok (.iconst 3, 1) := dk_6 (dk_at dksX3_worth_1 16 rfl rfl)
theorem dX3_worth_41 : decode cX3_worth 41 = .ok (.iload_n 2, 1) := dk_28 (dk_at dksX3_worth_1 17 rfl rfl)
theorem dX3_worth_42 : decode cX3_worth 42 = .ok (.iadd, 1) := dk_96 (dk_at dksX3_worth_1 18 rfl rfl)
theorem dX3_worth_43 : decode cX3_worth 43 = .ok (.invokevirtual 220, 3) := dk_182 0 220 (dk_at dksX3_worth_1 19 rfl rfl)
theorem dX3_worth_46 : decode cX3_worth 46 = .ok (.iastore, 1) := dk_79 (dk_at dksX3_worth_1 22 rfl rfl)
theorem dX3_worth_47 : decode cX3_worth 47 = .ok (.iinc 2 1, 3) := dk_132 2 1 (dk_at dksX3_worth_2 0 rfl rfl)
theorem dX3_worth_50 : decode cX3_worth 50 = .ok (.goto (-24), 3) := dk_167 255 232 (dk_at dksX3_worth_2 3 rfl rfl)
theorem dX3_worth_53 : decode cX3_worth 53 = .ok (.aload_n 0, 1) := dk_42 (dk_at dksX3_worth_2 6 rfl rfl)
theorem dX3_worth_54 : decode cX3_worth 54 = .ok (.getfield 31, 3) := dk_180 0 31 (dk_at dksX3_worth_2 7 rfl rfl)
theorem dX3_worth_57 : decode cX3_worth 57 = .ok (.bipush 7, 2) := dk_16 7 (dk_at dksX3_worth_2 10 rfl rfl)
theorem dX3_worth_59 : decode cX3_worth 59 = .ok (.aload_n 0, 1) := dk_42 (dk_at dksX3_worth_2 12 rfl rfl)
theorem dX3_worth_60 : decode cX3_worth 60 = .ok (.iload_n 1, 1) := dk_27 (dk_at dksX3_worth_2 13 rfl rfl)
theorem dX3_worth_61 : decode cX3_worth 61 = .ok (.bipush 8, 2) := dk_16 8 (dk_at dksX3_worth_2 14 rfl rfl)
theorem dX3_worth_63 : decode cX3_worth 63 = .ok (.invokevirtual 220, 3) := dk_182 0 220 (dk_at dksX3_worth_2 16 rfl rfl)
theorem dX3_worth_66 : decode cX3_worth 66 = .ok (.iastore, 1) := dk_79 (dk_at dksX3_worth_2 19 rfl rfl)
theorem dX3_worth_67 : decode cX3_worth 67 = .ok (.aload_n 0, 1) := dk_42 (dk_at dksX3_worth_2 20 rfl rfl)
theorem dX3_worth_68 : decode cX3_worth 68 = .ok (.getfield 31, 3) := dk_180 0 31 (dk_at dksX3_worth_2 21 rfl rfl)
theorem dX3_worth_71 : decode cX3_worth 71 = .ok (.bipush 8, 2) := dk_16 8 (dk_at dksX3_worth_3 0 rfl rfl)
theorem dX3_worth_73 : decode cX3_worth 73 = .ok (.iload_n 1, 1) := dk_27 (dk_at dksX3_worth_3 2 rfl rfl)
theorem dX3_worth_74 : decode cX3_worth 74 = .ok (.iastore, 1) := dk_79 (dk_at dksX3_worth_3 3 rfl rfl)
theorem dX3_worth_75 : decode cX3_worth 75 = .ok (.aload_n 0, 1) := dk_42 (dk_at dksX3_worth_3 4 rfl rfl)
theorem dX3_worth_76 : decode cX3_worth 76 = .ok (.getfield 31, 3) := dk_180 0 31 (dk_at dksX3_worth_3 5 rfl rfl)
theorem dX3_worth_79 : decode cX3_worth 79 = .ok (.bipush 9, 2) := dk_16 9 (dk_at dksX3_worth_3 8 rfl rfl)
theorem dX3_worth_81 : decode cX3_worth 81 = .ok (.aload_n 0, 1) := dk_42 (dk_at dksX3_worth_3 10 rfl rfl)
theorem dX3_worth_82 : decode cX3_worth 82 = .ok (.getfield 7, 3) := dk_180 0 7 (dk_at dksX3_worth_3 11 rfl rfl)
theorem dX3_worth_85 : decode cX3_worth 85 = .ok (.iconst 5, 1) := dk_8 (dk_at dksX3_worth_3 14 rfl rfl)
theorem dX3_worth_86 : decode cX3_worth 86 = .ok (.iaload, 1) := dk_46 (dk_at dksX3_worth_3 15 rfl rfl)
theorem dX3_worth_87 : decode cX3_worth 87 = .ok (.iastore, 1) := dk_79 (dk_at dksX3_worth_3 16 rfl rfl)
theorem dX3_worth_88 : decode cX3_worth 88 = .ok (.aload_n 0, 1) := dk_42 (dk_at dksX3_worth_3 17 rfl rfl)
theorem dX3_worth_89 : decode cX3_worth 89 = .ok (.getfield 31, 3) := dk_180 0 31 (dk_at dksX3_worth_3 18 rfl rfl)
theorem dX3_worth_92 : decode cX3_worth 92 = .ok (.bipush 10, 2) := dk_16 10 (dk_at dksX3_worth_3 21 rfl rfl)
theorem dX3_worth_94 : decode cX3_worth 94 = .ok (.aload_n 0, 1) := dk_42 (dk_at dksX3_worth_3 23 rfl rfl)
theorem dX3_worth_95 : decode cX3_worth 95 = .ok (.iload_n 1, 1) := dk_27 (dk_at dksX3_worth_4 0 rfl rfl)
theorem dX3_worth_96 : decode cX3_worth 96 = .ok (.invokevirtual 232, 3) := dk_182 0 232 (dk_at dksX3_worth_4 1 rfl rfl)
theorem dX3_worth_99 : decode cX3_worth 99 = .ok (.ineg, 1) := dk_116 (dk_at dksX3_worth_4 4 rfl rfl)
theorem dX3_worth_100 : decode cX3_worth 100 = .ok (.iastore, 1) := dk_79 (dk_at dksX3_worth_4 5 rfl rfl)
theorem dX3_worth_101 : decode cX3_worth 101 = .ok (.iconst 0, 1) := dk_3 (dk_at dksX3_worth_4 6 rfl rfl)
theorem dX3_worth_102 : decode cX3_worth 102 = .ok (.istore_n 2, 1) := dk_61 (dk_at dksX3_worth_4 7 rfl rfl)
theorem dX3_worth_103 : decode cX3_worth 103 = .ok (.iload_n 2, 1) := dk_28 (dk_at dksX3_worth_4 8 rfl rfl)
theorem dX3_worth_104 : decode cX3_worth 104 = .ok (.aload_n 0, 1) := dk_42 (dk_at dksX3_worth_4 9 rfl rfl)
theorem dX3_worth_105 : decode cX3_worth 105 = .ok (.getfield 7, 3) := dk_180 0 7 (dk_at dksX3_worth_4 10 rfl rfl)
theorem dX3_worth_108 : decode cX3_worth 108 = .ok (.sipush 590, 3) := dk_17 2 78 (dk_at dksX3_worth_4 13 rfl rfl)
theorem dX3_worth_111 : decode cX3_worth 111 = .ok (.iaload, 1) := dk_46 (dk_at dksX3_worth_4 16 rfl rfl)
theorem dX3_worth_112 : decode cX3_worth 112 = .ok (.if_icmp .ge 85, 3) := dk_162 0 85 (dk_at dksX3_worth_4 17 rfl rfl)
theorem dX3_worth_115 : decode cX3_worth 115 = .ok (.aload_n 0, 1) := dk_42 (dk_at dksX3_worth_4 20 rfl rfl)
theorem dX3_worth_116 : decode cX3_worth 116 = .ok (.getfield 7, 3) := dk_180 0 7 (dk_at dksX3_worth_4 21 rfl rfl)
theorem dX3_worth_119 : decode cX3_worth 119 = .ok (.sipush 640, 3) := dk_17 2 128 (dk_at dksX3_worth_5 0 rfl rfl)
theorem dX3_worth_122 : decode cX3_worth 122 = .ok (.iload_n 2, 1) := dk_28 (dk_at dksX3_worth_5 3 rfl rfl)
theorem dX3_worth_123 : decode cX3_worth 123 = .ok (.iadd, 1) := dk_96 (dk_at dksX3_worth_5 4 rfl rfl)
theorem dX3_worth_124 : decode cX3_worth 124 = .ok (.iaload, 1) := dk_46 (dk_at dksX3_worth_5 5 rfl rfl)
theorem dX3_worth_125 : decode cX3_worth 125 = .ok (.aload_n 0, 1) := dk_42 (dk_at dksX3_worth_5 6 rfl rfl)
theorem dX3_worth_126 : decode cX3_worth 126 = .ok (.getfield 7, 3) := dk_180 0 7 (dk_at dksX3_worth_5 7 rfl rfl)
theorem dX3_worth_129 : decode cX3_worth 129 = .ok (.sipush 620, 3) := dk_17 2 108 (dk_at dksX3_worth_5 10 rfl rfl)
theorem dX3_worth_132 : decode cX3_worth 132 = .ok (.iload_n 2, 1) := dk_28 (dk_at dksX3_worth_5 13 rfl rfl)
theorem dX3_worth_133 : decode cX3_worth 133 = .ok (.iadd, 1) := dk_96 (dk_at dksX3_worth_5 14 rfl rfl)
theorem dX3_worth_134 : decode cX3_worth 134 = .ok (.iaload, 1) := dk_46 (dk_at dksX3_worth_5 15 rfl rfl)
theorem dX3_worth_135 : decode cX3_worth 135 = .ok (.if_icmp .eq 31, 3) := dk_159 0 31 (dk_at dksX3_worth_5 16 rfl rfl)
theorem dX3_worth_138 : decode cX3_worth 138 = .ok (.aload_n 0, 1) := dk_42 (dk_at dksX3_worth_5 19 rfl rfl)
theorem dX3_worth_139 : decode cX3_worth 139 = .ok (.aload_n 0, 1) := dk_42 (dk_at dksX3_worth_5 20 rfl rfl)
theorem dX3_worth_140 : decode cX3_worth 140 = .ok (.getfield 7, 3) := dk_180 0 7 (dk_at dksX3_worth_5 21 rfl rfl)
theorem dX3_worth_143 : decode cX3_worth 143 = .ok (.sipush 620, 3) := dk_17 2 108 (dk_at dksX3_worth_6 0 rfl rfl)
theorem dX3_worth_146 : decode cX3_worth 146 = .ok (.iload_n 2, 1) := dk_28 (dk_at dksX3_worth_6 3 rfl rfl)
theorem dX3_worth_147 : decode cX3_worth 147 = .ok (.iadd, 1) := dk_96 (dk_at dksX3_worth_6 4 rfl rfl)
theorem dX3_worth_148 : decode cX3_worth 148 = .ok (.iaload, 1) := dk_46 (dk_at dksX3_worth_6 5 rfl rfl)
theorem dX3_worth_149 : decode cX3_worth 149 = .ok (.aload_n 0, 1) := dk_42 (dk_at dksX3_worth_6 6 rfl rfl)
theorem dX3_worth_150 : decode cX3_worth 150 = .ok (.getfield 7, 3) := dk_180 0 7 (dk_at dksX3_worth_6 7 rfl rfl)
theorem dX3_worth_153 : decode cX3_worth 153 = .ok (.sipush 640, 3) := dk_17 2 128 (dk_at dksX3_worth_6 10 rfl rfl)
theorem dX3_worth_156 : decode cX3_worth 156 = .ok (.iload_n 2, 1) := dk_28 (dk_at dksX3_worth_6 13 rfl rfl)
theorem dX3_worth_157 : decode cX3_worth 157 = .ok (.iadd, 1) := dk_96 (dk_at dksX3_worth_6 14 rfl rfl)
theorem dX3_worth_158 : decode cX3_worth 158 = .ok (.iaload, 1) := dk_46 (dk_at dksX3_worth_6 15 rfl rfl)
theorem dX3_worth_159 : decode cX3_worth 159 = .ok (.invokevirtual 235, 3) := dk_182 0 235 (dk_at dksX3_worth_6 16 rfl rfl)
theorem dX3_worth_162 : decode cX3_worth 162 = .ok (.iconst 1, 1) := dk_4 (dk_at dksX3_worth_6 19 rfl rfl)
theorem dX3_worth_163 : decode cX3_worth 163 = .ok (.if_icmp .ne 28, 3) := dk_160 0 28 (dk_at dksX3_worth_6 20 rfl rfl)
theorem dX3_worth_166 : decode cX3_worth 166 = .ok (.aload_n 0, 1) := dk_42 (dk_at dksX3_worth_6 23 rfl rfl)
theorem dX3_worth_167 : decode cX3_worth 167 = .ok (.aload_n 0, 1) := dk_42 (dk_at dksX3_worth_7 0 rfl rfl)
theorem dX3_worth_168 : decode cX3_worth 168 = .ok (.getfield 7, 3) := dk_180 0 7 (dk_at dksX3_worth_7 1 rfl rfl)
theorem dX3_worth_171 : decode cX3_worth 171 = .ok (.sipush 600, 3) := dk_17 2 88 (dk_at dksX3_worth_7 4 rfl rfl)
theorem dX3_worth_174 : decode cX3_worth 174 = .ok (.iload_n 2, 1) := dk_28 (dk_at dksX3_worth_7 7 rfl rfl)
theorem dX3_worth_175 : decode cX3_worth 175 = .ok (.iadd, 1) := dk_96 (dk_at dksX3_worth_7 8 rfl rfl)
theorem dX3_worth_176 : decode cX3_worth 176 = .ok (.iaload, 1) := dk_46 (dk_at dksX3_worth_7 9 rfl rfl)
theorem dX3_worth_177 : decode cX3_worth 177 = .ok (.aload_n 0, 1) := dk_42 (dk_at dksX3_worth_7 10 rfl rfl)
theorem dX3_worth_178 : decode cX3_worth 178 = .ok (.getfield 7, 3) := dk_180 0 7 (dk_at dksX3_worth_7 11 rfl rfl)
theorem dX3_worth_181 : decode cX3_worth 181 = .ok (.sipush 620, 3) := dk_17 2 108 (dk_at dksX3_worth_7 14 rfl rfl)
theorem dX3_worth_184 : decode cX3_worth 184 = .ok (.iload_n 2, 1) := dk_28 (dk_at dksX3_worth_7 17 rfl rfl)
theorem dX3_worth_185 : decode cX3_worth 185 = .ok (.iadd, 1) := dk_96 (dk_at dksX3_worth_7 18 rfl rfl)
theorem dX3_worth_186 : decode cX3_worth 186 = .ok (.iaload, 1) := dk_46 (dk_at dksX3_worth_7 19 rfl rfl)
theorem dX3_worth_187 : decode cX3_worth 187 = .ok (.invokevirtual 235, 3) := dk_182 0 235 (dk_at dksX3_worth_7 20 rfl rfl)
theorem dX3_worth_190 : decode cX3_worth 190 = .ok (.ireturn, 1) := dk_172 (dk_at dksX3_worth_7 23 rfl rfl)
theorem dX3_worth_191 : decode cX3_worth 191 = .ok (.iinc 2 1, 3) := dk_132 2 1 (dk_at dksX3_worth_8 0 rfl rfl)
theorem dX3_worth_194 : decode cX3_worth 194 = .ok (.goto (-91), 3) := dk_167 255 165 (dk_at dksX3_worth_8 3 rfl rfl)
theorem dX3_worth_197 : decode cX3_worth 197 = .ok (.iconst 0, 1) := dk_3 (dk_at dksX3_worth_8 6 rfl rfl)
theorem dX3_worth_198 : decode cX3_worth 198 = .ok (.ireturn, 1) := dk_172 (dk_at dksX3_worth_8 7 rfl rfl)
abbrev cX3_net : ByteArray := prog_14_method_38_code
def yX3_net : MethodName := ⟨RX3, "net", "(I)I"⟩
def dkwX3_net_1 : List UInt8 := [182, 0, 229, 100, 96, 61, 132, 3, 1, 167, 255, 227, 28, 172]
abbrev dktX3_net_1 : List UInt8 := dkwX3_net_1 ++ []
def dkwX3_net_0 : List UInt8 := [3, 61, 3, 62, 29, 42, 180, 0, 7, 7, 46, 162, 0, 25, 28, 42, 29, 27, 182, 0, 229, 42, 27, 29]
abbrev dktX3_net_0 : List UInt8 := dkwX3_net_0 ++ dktX3_net_1
theorem dksX3_net_0 : cX3_net.data.toList.drop 0 = dktX3_net_0 := by decide +kernel
theorem dksX3_net_1 : cX3_net.data.toList.drop 24 = dktX3_net_1 := dk_seg dksX3_net_0 24 rfl rfl
theorem dX3_net_0 : decode cX3_net 0 = .ok (.iconst 0, 1) := dk_3 (dk_at dksX3_net_0 0 rfl rfl)
theorem dX3_net_1 : decode cX3_net 1 = .ok (.istore_n 2, 1) := dk_61 (dk_at dksX3_net_0 1 rfl rfl)
theorem dX3_net_2 : decode cX3_net 2 = .ok (.iconst 0, 1) := dk_3 (dk_at dksX3_net_0 2 rfl rfl)
theorem dX3_net_3 : decode cX3_net 3 = .ok (.istore_n 3, 1) := dk_62 (dk_at dksX3_net_0 3 rfl rfl)
theorem dX3_net_4 : decode cX3_net 4 = .ok (.iload_n 3, 1) := dk_29 (dk_at dksX3_net_0 4 rfl rfl)
theorem dX3_net_5 : decode cX3_net 5 = .ok (.aload_n 0, 1) := dk_42 (dk_at dksX3_net_0 5 rfl rfl)
theorem dX3_net_6 : decode cX3_net 6 = .ok (.getfield 7, 3) := dk_180 0 7 (dk_at dksX3_net_0 6 rfl rfl)
theorem dX3_net_9 : decode cX3_net 9 = .ok (.iconst 4, 1) := dk_7 (dk_at dksX3_net_0 9 rfl rfl)
theorem dX3_net_10 : decode cX3_net 10 = .ok (.iaload, 1) := dk_46 (dk_at dksX3_net_0 10 rfl rfl)
theorem dX3_net_11 : decode cX3_net 11 = .ok (.if_icmp .ge 25, 3) := dk_162 0 25 (dk_at dksX3_net_0 11 rfl rfl)
theorem dX3_net_14 : decode cX3_net 14 = .ok (.iload_n 2, 1) := dk_28 (dk_at dksX3_net_0 14 rfl rfl)
theorem dX3_net_15 : decode cX3_net 15 = .ok (.aload_n 0, 1) := dk_42 (dk_at dksX3_net_0 15 rfl rfl)
theorem dX3_net_16 : decode cX3_net 16 = .ok (.iload_n 3, 1) := dk_29 (dk_at dksX3_net_0 16 rfl rfl)
theorem dX3_net_17 : decode cX3_net 17 = .ok (.iload_n 1, 1) := dk_27 (dk_at dksX3_net_0 17 rfl rfl)
theorem dX3_net_18 : decode cX3_net 18 = .ok (.invokevirtual 229, 3) := dk_182 0 229 (dk_at dksX3_net_0 18 rfl rfl)
theorem dX3_net_21 : decode cX3_net 21 = .ok (.aload_n 0, 1) := dk_42 (dk_at dksX3_net_0 21 rfl rfl)
theorem dX3_net_22 : decode cX3_net 22 = .ok (.iload_n 1, 1) := dk_27 (dk_at dksX3_net_0 22 rfl rfl)
theorem dX3_net_23 : decode cX3_net 23 = .ok (.iload_n 3, 1) := dk_29 (dk_at dksX3_net_0 23 rfl rfl)
theorem dX3_net_24 : decode cX3_net 24 = .ok (.invokevirtual 229, 3) := dk_182 0 229 (dk_at dksX3_net_1 0 rfl rfl)
theorem dX3_net_27 : decode cX3_net 27 = .ok (.isub, 1) := dk_100 (dk_at dksX3_net_1 3 rfl rfl)
theorem dX3_net_28 : decode cX3_net 28 = .ok (.iadd, 1) := dk_96 (dk_at dksX3_net_1 4 rfl rfl)
theorem dX3_net_29 : decode cX3_net 29 = .ok (.istore_n 2, 1) := dk_61 (dk_at dksX3_net_1 5 rfl rfl)
theorem dX3_net_30 : decode cX3_net 30 = .ok (.iinc 3 1, 3) := dk_132 3 1 (dk_at dksX3_net_1 6 rfl rfl)
theorem dX3_net_33 : decode cX3_net 33 = .ok (.goto (-29), 3) := dk_167 255 227 (dk_at dksX3_net_1 9 rfl rfl)
theorem dX3_net_36 : decode cX3_net 36 = .ok (.iload_n 2, 1) := dk_28 (dk_at dksX3_net_1 12 rfl rfl)
theorem dX3_net_37 : decode cX3_net 37 = .ok (.ireturn, 1) := dk_172 (dk_at dksX3_net_1 13 rfl rfl)
abbrev cX3_debt : ByteArray := prog_14_method_37_code
def yX3_debt : MethodName := ⟨RX3, "debt", "(II)I"⟩
def dkwX3_debt_0 : List UInt8 := [42, 180, 0, 7, 17, 0, 180, 16, 9, 27, 104, 96, 28, 96, 46, 172]
abbrev dktX3_debt_0 : List UInt8 := dkwX3_debt_0 ++ []
theorem dksX3_debt_0 : cX3_debt.data.toList.drop 0 = dktX3_debt_0 := by decide +kernel
theorem dX3_debt_0 : decode cX3_debt 0 = .ok (.aload_n 0, 1) := dk_42 (dk_at dksX3_debt_0 0 rfl rfl)
theorem dX3_debt_1 : decode cX3_debt 1 = .ok (.getfield 7, 3) := dk_180 0 7 (dk_at dksX3_debt_0 1 rfl rfl)
theorem dX3_debt_4 : decode cX3_debt 4 = .ok (.sipush 180, 3) := dk_17 0 180 (dk_at dksX3_debt_0 4 rfl rfl)
theorem dX3_debt_7 : decode cX3_debt 7 = .ok (.bipush 9, 2) := dk_16 9 (dk_at dksX3_debt_0 7 rfl rfl)
theorem dX3_debt_9 : decode cX3_debt 9 = .ok (.iload_n 1, 1) := dk_27 (dk_at dksX3_debt_0 9 rfl rfl)
theorem dX3_debt_10 : decode cX3_debt 10 = .ok (.imul, 1) := dk_104 (dk_at dksX3_debt_0 10 rfl rfl)
theorem dX3_debt_11 : decode cX3_debt 11 = .ok (.iadd, 1) := dk_96 (dk_at dksX3_debt_0 11 rfl rfl)
theorem dX3_debt_12 : decode cX3_debt 12 = .ok (.iload_n 2, 1) := dk_28 (dk_at dksX3_debt_0 12 rfl rfl)
theorem dX3_debt_13 : decode cX3_debt 13 = .ok (.iadd, 1) := dk_96 (dk_at dksX3_debt_0 13 rfl rfl)
theorem dX3_debt_14 : decode cX3_debt 14 = .ok (.iaload, 1) := dk_46 (dk_at dksX3_debt_0 14 rfl rfl)
theorem dX3_debt_15 : decode cX3_debt 15 = .ok (.ireturn, 1) := dk_172 (dk_at dksX3_debt_0 15 rfl rfl)
abbrev cX3_comesTo : ByteArray := prog_14_method_32_code
def yX3_comesTo : MethodName := ⟨RX3, "comesTo", "(II)I"⟩
def dkwX3_comesTo_7 : List UInt8 := [42, 180, 0, 28, 3, 46, 172]
abbrev dktX3_comesTo_7 : List UInt8 := dkwX3_comesTo_7 ++ []
def dkwX3_comesTo_6 : List UInt8 := [42, 180, 0, 28, 29, 4, 100, 46, 42, 180, 0, 28, 29, 46, 184, 0, 206, 79, 132, 4, 1, 167, 255, 98]
abbrev dktX3_comesTo_6 : List UInt8 := dkwX3_comesTo_6 ++ dktX3_comesTo_7
def dkwX3_comesTo_5 : List UInt8 := [180, 0, 28, 29, 4, 100, 46, 100, 79, 167, 0, 33, 132, 3, 255, 42, 180, 0, 28, 29, 4, 100, 21, 5]
abbrev dktX3_comesTo_5 : List UInt8 := dkwX3_comesTo_5 ++ dktX3_comesTo_6
def dkwX3_comesTo_4 : List UInt8 := [21, 6, 108, 79, 167, 0, 61, 21, 5, 16, 20, 160, 0, 24, 42, 180, 0, 28, 29, 4, 100, 4, 42]
abbrev dktX3_comesTo_4 : List UInt8 := dkwX3_comesTo_4 ++ dktX3_comesTo_5
def dkwX3_comesTo_3 : List UInt8 := [46, 79, 132, 3, 1, 167, 0, 84, 21, 5, 16, 16, 160, 0, 19, 42, 180, 0, 28, 29, 4, 100, 92, 46]
abbrev dktX3_comesTo_3 : List UInt8 := dkwX3_comesTo_3 ++ dktX3_comesTo_4
def dkwX3_comesTo_2 : List UInt8 := [162, 0, 32, 42, 180, 0, 28, 29, 21, 5, 154, 0, 8, 21, 6, 167, 0, 10, 42, 180, 0, 31, 21, 5]
abbrev dktX3_comesTo_2 : List UInt8 := dkwX3_comesTo_2 ++ dktX3_comesTo_3
def dkwX3_comesTo_1 : List UInt8 := [54, 5, 42, 180, 0, 7, 17, 2, 148, 5, 21, 4, 104, 96, 4, 96, 46, 54, 6, 21, 5, 16, 13]
abbrev dktX3_comesTo_1 : List UInt8 := dkwX3_comesTo_1 ++ dktX3_comesTo_2
def dkwX3_comesTo_0 : List UInt8 := [3, 62, 27, 54, 4, 21, 4, 28, 162, 0, 158, 42, 180, 0, 7, 17, 2, 148, 5, 21, 4, 104, 96, 46]
abbrev dktX3_comesTo_0 : List UInt8 := dkwX3_comesTo_0 ++ dktX3_comesTo_1
theorem dksX3_comesTo_0 : cX3_comesTo.data.toList.drop 0 = dktX3_comesTo_0 := by decide +kernel
theorem dksX3_comesTo_1 : cX3_comesTo.data.toList.drop 24 = dktX3_comesTo_1 := dk_seg dksX3_comesTo_0 24 rfl rfl
theorem dksX3_comesTo_2 : cX3_comesTo.data.toList.drop 47 = dktX3_comesTo_2 := dk_seg dksX3_comesTo_1 23 rfl rfl
theorem dksX3_comesTo_3 : cX3_comesTo.data.toList.drop 71 = dktX3_comesTo_3 := dk_seg dksX3_comesTo_2 24 rfl rfl
theorem dksX3_comesTo_4 : cX3_comesTo.data.toList.drop 95 = dktX3_comesTo_4 := dk_seg dksX3_comesTo_3 24 rfl rfl
theorem dksX3_comesTo_5 : cX3_comesTo.data.toList.drop 118 = dktX3_comesTo_5 := dk_seg dksX3_comesTo_4 23 rfl rfl
theorem dksX3_comesTo_6 : cX3_comesTo.data.toList.drop 142 = dktX3_comesTo_6 := dk_seg dksX3_comesTo_5 24 rfl rfl
theorem dksX3_comesTo_7 : cX3_comesTo.data.toList.drop 166 = dktX3_comesTo_7 := dk_seg dksX3_comesTo_6 24 rfl rfl
theorem dX3_comesTo_0 : decode cX3_comesTo 0 = .ok (.iconst 0, 1) := dk_3 (dk_at dksX3_comesTo_0 0 rfl rfl)
theorem dX3_comesTo_1 : decode cX3_comesTo 1 = .ok (.istore_n 3, 1) := dk_62 (dk_at dksX3_comesTo_0 1 rfl rfl)
theorem dX3_comesTo_2 : decode cX3_comesTo 2 = .ok (.iload_n 1, 1) := dk_27 (dk_at dksX3_comesTo_0 2 rfl rfl)
theorem dX3_comesTo_3 : decode cX3_comesTo 3 = .ok (.istore 4, 2) := dk_54 4 (dk_at dksX3_comesTo_0 3 rfl rfl)
theorem dX3_comesTo_5 : decode cX3_comesTo 5 = .ok (.iload 4, 2) := dk_21 4 (dk_at dksX3_comesTo_0 5 rfl rfl)
theorem dX3_comesTo_7 : decode cX3_comesTo 7 = .ok (.iload_n 2, 1) := dk_28 (dk_at dksX3_comesTo_0 7 rfl rfl)
theorem dX3_comesTo_8 : decode cX3_comesTo 8 = .ok (.if_icmp .ge 158, 3) := dk_162 0 158 (dk_at dksX3_comesTo_0 8 rfl rfl)
theorem dX3_comesTo_11 : decode cX3_comesTo 11 = .ok (.aload_n 0, 1) := dk_42 (dk_at dksX3_comesTo_0 11 rfl rfl)
theorem dX3_comesTo_12 : decode cX3_comesTo 12 = .ok (.getfield 7, 3) := dk_180 0 7 (dk_at dksX3_comesTo_0 12 rfl rfl)
theorem dX3_comesTo_15 : decode cX3_comesTo 15 = .ok (.sipush 660, 3) := dk_17 2 148 (dk_at dksX3_comesTo_0 15 rfl rfl)
theorem dX3_comesTo_18 : decode cX3_comesTo 18 = .ok (.iconst 2, 1) := dk_5 (dk_at dksX3_comesTo_0 18 rfl rfl)
theorem dX3_comesTo_19 : decode cX3_comesTo 19 = .ok (.iload 4, 2) := dk_21 4 (dk_at dksX3_comesTo_0 19 rfl rfl)
theorem dX3_comesTo_21 : decode cX3_comesTo 21 = .ok (.imul, 1) := dk_104 (dk_at dksX3_comesTo_0 21 rfl rfl)
theorem dX3_comesTo_22 : decode cX3_comesTo 22 = .ok (.iadd, 1) := dk_96 (dk_at dksX3_comesTo_0 22 rfl rfl)
theorem dX3_comesTo_23 : decode cX3_comesTo 23 = .ok (.iaload, 1) := dk_46 (dk_at dksX3_comesTo_0 23 rfl rfl)
theorem dX3_comesTo_24 : decode cX3_comesTo 24 = .ok (.istore 5, 2) := dk_54 5 (dk_at dksX3_comesTo_1 0 rfl rfl)
theorem dX3_comesTo_26 : decode cX3_comesTo 26 = .ok (.aload_n 0, 1) := dk_42 (dk_at dksX3_comesTo_1 2 rfl rfl)
theorem dX3_comesTo_27 : decode cX3_comesTo 27 = .ok (.getfield 7, 3) := dk_180 0 7 (dk_at dksX3_comesTo_1 3 rfl rfl)
theorem dX3_comesTo_30 : decode cX3_comesTo 30 = .ok (.sipush 660, 3) := dk_17 2 148 (dk_at dksX3_comesTo_1 6 rfl rfl)
theorem dX3_comesTo_33 : decode cX3_comesTo 33 = .ok (.iconst 2, 1) := dk_5 (dk_at dksX3_comesTo_1 9 rfl rfl)
theorem dX3_comesTo_34 : decode cX3_comesTo 34 = .ok (.iload 4, 2) := dk_21 4 (dk_at dksX3_comesTo_1 10 rfl rfl)
theorem dX3_comesTo_36 : decode cX3_comesTo 36 = .ok (.imul, 1) := dk_104 (dk_at dksX3_comesTo_1 12 rfl rfl)
theorem dX3_comesTo_37 : decode cX3_comesTo 37 = .ok (.iadd, 1) := dk_96 (dk_at dksX3_comesTo_1 13 rfl rfl)
theorem dX3_comesTo_38 : decode cX3_comesTo 38 = .ok (.iconst 1, 1) := dk_4 (dk_at dksX3_comesTo_1 14 rfl rfl)
theorem dX3_comesTo_39 : decode cX3_comesTo 39 = .ok (.iadd, 1) := dk_96 (dk_at dksX3_comesTo_1 15 rfl rfl)
theorem dX3_comesTo_40 : decode cX3_comesTo 40 = .ok (.iaload, 1) := dk_46 (dk_at dksX3_comesTo_1 16 rfl rfl)
theorem dX3_comesTo_41 : decode cX3_comesTo 41 = .ok (.istore 6, 2) := dk_54 6 (dk_at dksX3_comesTo_1 17 rfl rfl)
theorem dX3_comesTo_43 : decode cX3_comesTo 43 = .ok (.iload 5, 2) := dk_21 5 (dk_at dksX3_comesTo_1 19 rfl rfl)
theorem dX3_comesTo_45 : decode cX3_comesTo 45 = .ok (.bipush 13, 2) := dk_16 13 (dk_at dksX3_comesTo_1 21 rfl rfl)
theorem dX3_comesTo_47 : decode cX3_comesTo 47 = .ok (.if_icmp .ge 32, 3) := dk_162 0 32 (dk_at dksX3_comesTo_2 0 rfl rfl)
theorem dX3_comesTo_50 : decode cX3_comesTo 50 = .ok (.aload_n 0, 1) := dk_42 (dk_at dksX3_comesTo_2 3 rfl rfl)
theorem dX3_comesTo_51 : decode cX3_comesTo 51 = .ok (.getfield 28, 3) := dk_180 0 28 (dk_at dksX3_comesTo_2 4 rfl rfl)
theorem dX3_comesTo_54 : decode cX3_comesTo 54 = .ok (.iload_n 3, 1) := dk_29 (dk_at dksX3_comesTo_2 7 rfl rfl)
theorem dX3_comesTo_55 : decode cX3_comesTo 55 = .ok (.iload 5, 2) := dk_21 5 (dk_at dksX3_comesTo_2 8 rfl rfl)
theorem dX3_comesTo_57 : decode cX3_comesTo 57 = .ok (.ifCond .ne 8, 3) := dk_154 0 8 (dk_at dksX3_comesTo_2 10 rfl rfl)
theorem dX3_comesTo_60 : decode cX3_comesTo 60 = .ok (.iload 6, 2) := dk_21 6 (dk_at dksX3_comesTo_2 13 rfl rfl)
theorem dX3_comesTo_62 : decode cX3_comesTo 62 = .ok (.goto 10, 3) := dk_167 0 10 (dk_at dksX3_comesTo_2 15 rfl rfl)
theorem dX3_comesTo_65 : decode cX3_comesTo 65 = .ok (.aload_n 0, 1) := dk_42 (dk_at dksX3_comesTo_2 18 rfl rfl)
theorem dX3_comesTo_66 : decode cX3_comesTo 66 = .ok (.getfield 31, 3) := dk_180 0 31 (dk_at dksX3_comesTo_2 19 rfl rfl)
theorem dX3_comesTo_69 : decode cX3_comesTo 69 = .ok (.iload 5, 2) := dk_21 5 (dk_at dksX3_comesTo_2 22 rfl rfl)
theorem dX3_comesTo_71 : decode cX3_comesTo 71 = .ok (.iaload, 1) := dk_46 (dk_at dksX3_comesTo_3 0 rfl rfl)
theorem dX3_comesTo_72 : decode cX3_comesTo 72 = .ok (.iastore, 1) := dk_79 (dk_at dksX3_comesTo_3 1 rfl rfl)
theorem dX3_comesTo_73 : decode cX3_comesTo 73 = .ok (.iinc 3 1, 3) := dk_132 3 1 (dk_at dksX3_comesTo_3 2 rfl rfl)
theorem dX3_comesTo_76 : decode cX3_comesTo 76 = .ok (.goto 84, 3) := dk_167 0 84 (dk_at dksX3_comesTo_3 5 rfl rfl)
theorem dX3_comesTo_79 : decode cX3_comesTo 79 = .ok (.iload 5, 2) := dk_21 5 (dk_at dksX3_comesTo_3 8 rfl rfl)
theorem dX3_comesTo_81 : decode cX3_comesTo 81 = .ok (.bipush 16, 2) := dk_16 16 (dk_at dksX3_comesTo_3 10 rfl rfl)
theorem dX3_comesTo_83 : decode cX3_comesTo 83 = .ok (.if_icmp .ne 19, 3) := dk_160 0 19 (dk_at dksX3_comesTo_3 12 rfl rfl)
theorem dX3_comesTo_86 : decode cX3_comesTo 86 = .ok (.aload_n 0, 1) := dk_42 (dk_at dksX3_comesTo_3 15 rfl rfl)
theorem dX3_comesTo_87 : decode cX3_comesTo 87 = .ok (.getfield 28, 3) := dk_180 0 28 (dk_at dksX3_comesTo_3 16 rfl rfl)
theorem dX3_comesTo_90 : decode cX3_comesTo 90 = .ok (.iload_n 3, 1) := dk_29 (dk_at dksX3_comesTo_3 19 rfl rfl)
theorem dX3_comesTo_91 : decode cX3_comesTo 91 = .ok (.iconst 1, 1) := dk_4 (dk_at dksX3_comesTo_3 20 rfl rfl)
theorem dX3_comesTo_92 : decode cX3_comesTo 92 = .ok (.isub, 1) := dk_100 (dk_at dksX3_comesTo_3 21 rfl rfl)
theorem dX3_comesTo_93 : decode cX3_comesTo 93 = .ok (.dup2, 1) := dk_92 (dk_at dksX3_comesTo_3 22 rfl rfl)
theorem dX3_comesTo_94 : decode cX3_comesTo 94 = .ok (.iaload, 1) := dk_46 (dk_at dksX3_comesTo_3 23 rfl rfl)
theorem dX3_comesTo_95 : decode cX3_comesTo 95 = .ok (.iload 6, 2) := dk_21 6 (dk_at dksX3_comesTo_4 0 rfl rfl)
theorem dX3_comesTo_97 : decode cX3_comesTo 97 = .ok (.idiv, 1) := dk_108 (dk_at dksX3_comesTo_4 2 rfl rfl)
theorem dX3_comesTo_98 : decode cX3_comesTo 98 = .ok (.iastore, 1) := dk_79 (dk_at dksX3_comesTo_4 3 rfl rfl)
theorem dX3_comesTo_99 : decode cX3_comesTo 99 = .ok (.goto 61, 3) := dk_167 0 61 (dk_at dksX3_comesTo_4 4 rfl rfl)
theorem dX3_comesTo_102 : decode cX3_comesTo 102 = .ok (.iload 5, 2) := dk_21 5 (dk_at dksX3_comesTo_4 7 rfl rfl)
theorem dX3_comesTo_104 : decode cX3_comesTo 104 = .ok (.bipush 20, 2) := dk_16 20 (dk_at dksX3_comesTo_4 9 rfl rfl)
theorem dX3_comesTo_106 : decode cX3_comesTo 106 = .ok (.if_icmp .ne 24, 3) := dk_160 0 24 (dk_at dksX3_comesTo_4 11 rfl rfl)
theorem dX3_comesTo_109 : decode cX3_comesTo 109 = .ok (.aload_n 0, 1) := dk_42 (dk_at dksX3_comesTo_4 14 rfl rfl)
theorem dX3_comesTo_110 : decode cX3_comesTo 110 = .ok (.getfield 28, 3) := dk_180 0 28 (dk_at dksX3_comesTo_4 15 rfl rfl)
theorem dX3_comesTo_113 : decode cX3_comesTo 113 = .ok (.iload_n 3, 1) := dk_29 (dk_at dksX3_comesTo_4 18 rfl rfl)
theorem dX3_comesTo_114 : decode cX3_comesTo 114 = .ok (.iconst 1, 1) := dk_4 (dk_at dksX3_comesTo_4 19 rfl rfl)
theorem dX3_comesTo_115 : decode cX3_comesTo 115 = .ok (.isub, 1) := dk_100 (dk_at dksX3_comesTo_4 20 rfl rfl)
theorem dX3_comesTo_116 : decode cX3_comesTo 116 = .ok (.iconst 1, 1) := dk_4 (dk_at dksX3_comesTo_4 21 rfl rfl)
theorem dX3_comesTo_117 : decode cX3_comesTo 117 = .ok (.aload_n 0, 1) := dk_42 (dk_at dksX3_comesTo_4 22 rfl rfl)
theorem dX3_comesTo_118 : decode cX3_comesTo 118 = .ok (.getfield 28, 3) := dk_180 0 28 (dk_at dksX3_comesTo_5 0 rfl rfl)
theorem dX3_comesTo_121 : decode cX3_comesTo 121 = .ok (.iload_n 3, 1) := dk_29 (dk_at dksX3_comesTo_5 3 rfl rfl)
theorem dX3_comesTo_122 : decode cX3_comesTo 122 = .ok (.iconst 1, 1) := dk_4 (dk_at dksX3_comesTo_5 4 rfl rfl)
theorem dX3_comesTo_123 : decode cX3_comesTo 123 = .ok (.isub, 1) := dk_100 (dk_at dksX3_comesTo_5 5 rfl rfl)
theorem dX3_comesTo_124 : decode cX3_comesTo 124 = .ok (.iaload, 1) := dk_46 (dk_at dksX3_comesTo_5 6 rfl rfl)
theorem dX3_comesTo_125 : decode cX3_comesTo 125 = .ok (.isub, 1) := dk_100 (dk_at dksX3_comesTo_5 7 rfl rfl)
theorem dX3_comesTo_126 : decode cX3_comesTo 126 = .ok (.iastore, 1) := dk_79 (dk_at dksX3_comesTo_5 8 rfl rfl)
theorem dX3_comesTo_127 : decode cX3_comesTo 127 = .ok (.goto 33, 3) := dk_167 0 33 (dk_at dksX3_comesTo_5 9 rfl rfl)
theorem dX3_comesTo_130 : decode cX3_comesTo 130 = .ok (.iinc 3 (-1), 3) := dk_132 3 255 (dk_at dksX3_comesTo_5 12 rfl rfl)
theorem dX3_comesTo_133 : decode cX3_comesTo 133 = .ok (.aload_n 0, 1) := dk_42 (dk_at dksX3_comesTo_5 15 rfl rfl)
theorem dX3_comesTo_134 : decode cX3_comesTo 134 = .ok (.getfield 28, 3) := dk_180 0 28 (dk_at dksX3_comesTo_5 16 rfl rfl)
theorem dX3_comesTo_137 : decode cX3_comesTo 137 = .ok (.iload_n 3, 1) := dk_29 (dk_at dksX3_comesTo_5 19 rfl rfl)
theorem dX3_comesTo_138 : decode cX3_comesTo 138 = .ok (.iconst 1, 1) := dk_4 (dk_at dksX3_comesTo_5 20 rfl rfl)
theorem dX3_comesTo_139 : decode cX3_comesTo 139 = .ok (.isub, 1) := dk_100 (dk_at dksX3_comesTo_5 21 rfl rfl)
theorem dX3_comesTo_140 : decode cX3_comesTo 140 = .ok (.iload 5, 2) := dk_21 5 (dk_at dksX3_comesTo_5 22 rfl rfl)
theorem dX3_comesTo_142 : decode cX3_comesTo 142 = .ok (.aload_n 0, 1) := dk_42 (dk_at dksX3_comesTo_6 0 rfl rfl)
theorem dX3_comesTo_143 : decode cX3_comesTo 143 = .ok (.getfield 28, 3) := dk_180 0 28 (dk_at dksX3_comesTo_6 1 rfl rfl)
theorem dX3_comesTo_146 : decode cX3_comesTo 146 = .ok (.iload_n 3, 1) := dk_29 (dk_at dksX3_comesTo_6 4 rfl rfl)
theorem dX3_comesTo_147 : decode cX3_comesTo 147 = .ok (.iconst 1, 1) := dk_4 (dk_at dksX3_comesTo_6 5 rfl rfl)
theorem dX3_comesTo_148 : decode cX3_comesTo 148 = .ok (.isub, 1) := dk_100 (dk_at dksX3_comesTo_6 6 rfl rfl)
theorem dX3_comesTo_149 : decode cX3_comesTo 149 = .ok (.iaload, 1) := dk_46 (dk_at dksX3_comesTo_6 7 rfl rfl)
theorem dX3_comesTo_150 : decode cX3_comesTo 150 = .ok (.aload_n 0, 1) := dk_42 (dk_at dksX3_comesTo_6 8 rfl rfl)
theorem dX3_comesTo_151 : decode cX3_comesTo 151 = .ok (.getfield 28, 3) := dk_180 0 28 (dk_at dksX3_comesTo_6 9 rfl rfl)
theorem dX3_comesTo_154 : decode cX3_comesTo 154 = .ok (.iload_n 3, 1) := dk_29 (dk_at dksX3_comesTo_6 12 rfl rfl)
theorem dX3_comesTo_155 : decode cX3_comesTo 155 = .ok (.iaload, 1) := dk_46 (dk_at dksX3_comesTo_6 13 rfl rfl)
theorem dX3_comesTo_156 : decode cX3_comesTo 156 = .ok (.invokestatic 206, 3) := dk_184 0 206 (dk_at dksX3_comesTo_6 14 rfl rfl)
theorem dX3_comesTo_159 : decode cX3_comesTo 159 = .ok (.iastore, 1) := dk_79 (dk_at dksX3_comesTo_6 17 rfl rfl)
theorem dX3_comesTo_160 : decode cX3_comesTo 160 = .ok (.iinc 4 1, 3) := dk_132 4 1 (dk_at dksX3_comesTo_6 18 rfl rfl)
theorem dX3_comesTo_163 : decode cX3_comesTo 163 = .ok (.goto (-158), 3) := dk_167 255 98 (dk_at dksX3_comesTo_6 21 rfl rfl)
theorem dX3_comesTo_166 : decode cX3_comesTo 166 = .ok (.aload_n 0, 1) := dk_42 (dk_at dksX3_comesTo_7 0 rfl rfl)
theorem dX3_comesTo_167 : decode cX3_comesTo 167 = .ok (.getfield 28, 3) := dk_180 0 28 (dk_at dksX3_comesTo_7 1 rfl rfl)
theorem dX3_comesTo_170 : decode cX3_comesTo 170 = .ok (.iconst 0, 1) := dk_3 (dk_at dksX3_comesTo_7 4 rfl rfl)
theorem dX3_comesTo_171 : decode cX3_comesTo 171 = .ok (.iaload, 1) := dk_46 (dk_at dksX3_comesTo_7 5 rfl rfl)
theorem dX3_comesTo_172 : decode cX3_comesTo 172 = .ok (.ireturn, 1) := dk_172 (dk_at dksX3_comesTo_7 6 rfl rfl)
abbrev cX3_both : ByteArray := prog_14_method_31_code
def yX3_both : MethodName := ⟨RX3, "both", "(III)I"⟩
def dkwX3_both_4 : List UInt8 := [172, 27, 28, 128, 172]
abbrev dktX3_both_4 : List UInt8 := dkwX3_both_4 ++ []
def dkwX3_both_3 : List UInt8 := [28, 160, 0, 7, 4, 167, 0, 4, 3, 172, 27, 28, 164, 0, 7, 4, 167, 0, 4, 3, 172, 27, 28, 126]
abbrev dktX3_both_3 : List UInt8 := dkwX3_both_3 ++ dktX3_both_4
def dkwX3_both_2 : List UInt8 := [27, 28, 96, 172, 27, 28, 100, 172, 27, 28, 104, 172, 27, 28, 162, 0, 7, 4, 167, 0, 4, 3, 172, 27]
abbrev dktX3_both_2 : List UInt8 := dkwX3_both_2 ++ dktX3_both_3
def dkwX3_both_1 : List UInt8 := [170, 0, 0, 0, 0, 0, 100, 0, 0, 0, 13, 0, 0, 0, 21, 0, 0, 0, 51, 0, 0, 0, 55, 0, 0, 0, 59, 0, 0, 0, 100, 0, 0, 0, 63, 0, 0, 0, 74, 0, 0, 0, 85, 0, 0, 0, 100, 0, 0, 0, 96]
abbrev dktX3_both_1 : List UInt8 := dkwX3_both_1 ++ dktX3_both_2
def dkwX3_both_0 : List UInt8 := [26]
abbrev dktX3_both_0 : List UInt8 := dkwX3_both_0 ++ dktX3_both_1
theorem dksX3_both_0 : cX3_both.data.toList.drop 0 = dktX3_both_0 := by decide +kernel
theorem dksX3_both_1 : cX3_both.data.toList.drop 1 = dktX3_both_1 := dk_seg dksX3_both_0 1 rfl rfl
theorem dksX3_both_2 : cX3_both.data.toList.drop 52 = dktX3_both_2 := dk_seg dksX3_both_1 51 rfl rfl
theorem dksX3_both_3 : cX3_both.data.toList.drop 76 = dktX3_both_3 := dk_seg dksX3_both_2 24 rfl rfl
theorem dksX3_both_4 : cX3_both.data.toList.drop 100 = dktX3_both_4 := dk_seg dksX3_both_3 24 rfl rfl
theorem dX3_both_0 : decode cX3_both 0 = .ok (.iload_n 0, 1) := dk_26 (dk_at dksX3_both_0 0 rfl rfl)
theorem dX3_both_1 : decode cX3_both 1 = .ok (.tableswitch 100 13 21 #[51, 55, 59, 100, 63, 74, 85, 100, 96], 51) := by decide +kernel
theorem dX3_both_52 : decode cX3_both 52 = .ok (.iload_n 1, 1) := dk_27 (dk_at dksX3_both_2 0 rfl rfl)
theorem dX3_both_53 : decode cX3_both 53 = .ok (.iload_n 2, 1) := dk_28 (dk_at dksX3_both_2 1 rfl rfl)
theorem dX3_both_54 : decode cX3_both 54 = .ok (.iadd, 1) := dk_96 (dk_at dksX3_both_2 2 rfl rfl)
theorem dX3_both_55 : decode cX3_both 55 = .ok (.ireturn, 1) := dk_172 (dk_at dksX3_both_2 3 rfl rfl)
theorem dX3_both_56 : decode cX3_both 56 = .ok (.iload_n 1, 1) := dk_27 (dk_at dksX3_both_2 4 rfl rfl)
theorem dX3_both_57 : decode cX3_both 57 = .ok (.iload_n 2, 1) := dk_28 (dk_at dksX3_both_2 5 rfl rfl)
theorem dX3_both_58 : decode cX3_both 58 = .ok (.isub, 1) := dk_100 (dk_at dksX3_both_2 6 rfl rfl)
theorem dX3_both_59 : decode cX3_both 59 = .ok (.ireturn, 1) := dk_172 (dk_at dksX3_both_2 7 rfl rfl)
theorem dX3_both_60 : decode cX3_both 60 = .ok (.iload_n 1, 1) := dk_27 (dk_at dksX3_both_2 8 rfl rfl)
theorem dX3_both_61 : decode cX3_both 61 = .ok (.iload_n 2, 1) := dk_28 (dk_at dksX3_both_2 9 rfl rfl)
theorem dX3_both_62 : decode cX3_both 62 = .ok (.imul, 1) := dk_104 (dk_at dksX3_both_2 10 rfl rfl)
theorem dX3_both_63 : decode cX3_both 63 = .ok (.ireturn, 1) := dk_172 (dk_at dksX3_both_2 11 rfl rfl)
theorem dX3_both_64 : decode cX3_both 64 = .ok (.iload_n 1, 1) := dk_27 (dk_at dksX3_both_2 12 rfl rfl)
theorem dX3_both_65 : decode cX3_both 65 = .ok (.iload_n 2, 1) := dk_28 (dk_at dksX3_both_2 13 rfl rfl)
theorem dX3_both_66 : decode cX3_both 66 = .ok (.if_icmp .ge 7, 3) := dk_162 0 7 (dk_at dksX3_both_2 14 rfl rfl)
theorem dX3_both_69 : decode cX3_both 69 = .ok (.iconst 1, 1) := dk_4 (dk_at dksX3_both_2 17 rfl rfl)
theorem dX3_both_70 : decode cX3_both 70 = .ok (.goto 4, 3) := dk_167 0 4 (dk_at dksX3_both_2 18 rfl rfl)
theorem dX3_both_73 : decode cX3_both 73 = .ok (.iconst 0, 1) := dk_3 (dk_at dksX3_both_2 21 rfl rfl)
theorem dX3_both_74 : decode cX3_both 74 = .ok (.ireturn, 1) := dk_172 (dk_at dksX3_both_2 22 rfl rfl)
theorem dX3_both_75 : decode cX3_both 75 = .ok (.iload_n 1, 1) := dk_27 (dk_at dksX3_both_2 23 rfl rfl)
theorem dX3_both_76 : decode cX3_both 76 = .ok (.iload_n 2, 1) := dk_28 (dk_at dksX3_both_3 0 rfl rfl)
theorem dX3_both_77 : decode cX3_both 77 = .ok (.if_icmp .ne 7, 3) := dk_160 0 7 (dk_at dksX3_both_3 1 rfl rfl)
theorem dX3_both_80 : decode cX3_both 80 = .ok (.iconst 1, 1) := dk_4 (dk_at dksX3_both_3 4 rfl rfl)
theorem dX3_both_81 : decode cX3_both 81 = .ok (.goto 4, 3) := dk_167 0 4 (dk_at dksX3_both_3 5 rfl rfl)
theorem dX3_both_84 : decode cX3_both 84 = .ok (.iconst 0, 1) := dk_3 (dk_at dksX3_both_3 8 rfl rfl)
theorem dX3_both_85 : decode cX3_both 85 = .ok (.ireturn, 1) := dk_172 (dk_at dksX3_both_3 9 rfl rfl)
theorem dX3_both_86 : decode cX3_both 86 = .ok (.iload_n 1, 1) := dk_27 (dk_at dksX3_both_3 10 rfl rfl)
theorem dX3_both_87 : decode cX3_both 87 = .ok (.iload_n 2, 1) := dk_28 (dk_at dksX3_both_3 11 rfl rfl)
theorem dX3_both_88 : decode cX3_both 88 = .ok (.if_icmp .le 7, 3) := dk_164 0 7 (dk_at dksX3_both_3 12 rfl rfl)
theorem dX3_both_91 : decode cX3_both 91 = .ok (.iconst 1, 1) := dk_4 (dk_at dksX3_both_3 15 rfl rfl)
theorem dX3_both_92 : decode cX3_both 92 = .ok (.goto 4, 3) := dk_167 0 4 (dk_at dksX3_both_3 16 rfl rfl)
theorem dX3_both_95 : decode cX3_both 95 = .ok (.iconst 0, 1) := dk_3 (dk_at dksX3_both_3 19 rfl rfl)
theorem dX3_both_96 : decode cX3_both 96 = .ok (.ireturn, 1) := dk_172 (dk_at dksX3_both_3 20 rfl rfl)
theorem dX3_both_97 : decode cX3_both 97 = .ok (.iload_n 1, 1) := dk_27 (dk_at dksX3_both_3 21 rfl rfl)
theorem dX3_both_98 : decode cX3_both 98 = .ok (.iload_n 2, 1) := dk_28 (dk_at dksX3_both_3 22 rfl rfl)
theorem dX3_both_99 : decode cX3_both 99 = .ok (.iand, 1) := dk_126 (dk_at dksX3_both_3 23 rfl rfl)
theorem dX3_both_100 : decode cX3_both 100 = .ok (.ireturn, 1) := dk_172 (dk_at dksX3_both_4 0 rfl rfl)
theorem dX3_both_101 : decode cX3_both 101 = .ok (.iload_n 1, 1) := dk_27 (dk_at dksX3_both_4 1 rfl rfl)
theorem dX3_both_102 : decode cX3_both 102 = .ok (.iload_n 2, 1) := dk_28 (dk_at dksX3_both_4 2 rfl rfl)
theorem dX3_both_103 : decode cX3_both 103 = .ok (.ior, 1) := dk_128 (dk_at dksX3_both_4 3 rfl rfl)
theorem dX3_both_104 : decode cX3_both 104 = .ok (.ireturn, 1) := dk_172 (dk_at dksX3_both_4 4 rfl rfl)
abbrev cX3_days : ByteArray := prog_14_method_45_code
def yX3_days : MethodName := ⟨RX3, "days", "(I)I"⟩
def dkwX3_days_6 : List UInt8 := [181, 0, 70, 28, 42, 182, 1, 0, 96, 61, 132, 3, 1, 167, 255, 137, 28, 172]
abbrev dktX3_days_6 : List UInt8 := dkwX3_days_6 ++ []
def dkwX3_days_5 : List UInt8 := [96, 42, 180, 0, 7, 21, 4, 46, 79, 132, 4, 1, 167, 255, 222, 42, 89, 180, 0, 70, 4, 96]
abbrev dktX3_days_5 : List UInt8 := dkwX3_days_5 ++ dktX3_days_6
def dkwX3_days_4 : List UInt8 := [54, 4, 21, 4, 17, 0, 180, 162, 0, 32, 42, 180, 0, 16, 17, 0, 180, 42, 180, 0, 70, 104, 21, 4]
abbrev dktX3_days_4 : List UInt8 := dkwX3_days_4 ++ dktX3_days_5
def dkwX3_days_3 : List UInt8 := [17, 0, 180, 96, 46, 79, 132, 4, 1, 167, 255, 227, 42, 89, 180, 0, 70, 4, 100, 181, 0, 70, 3]
abbrev dktX3_days_3 : List UInt8 := dkwX3_days_3 ++ dktX3_days_4
def dkwX3_days_2 : List UInt8 := [54, 4, 21, 4, 17, 4, 236, 162, 0, 27, 42, 180, 0, 16, 21, 4, 42, 180, 0, 16, 21, 4]
abbrev dktX3_days_2 : List UInt8 := dkwX3_days_2 ++ dktX3_days_3
def dkwX3_days_1 : List UInt8 := [164, 0, 5, 2, 172, 3, 61, 3, 62, 29, 27, 162, 0, 120, 42, 180, 0, 70, 16, 8, 160, 0, 48, 3]
abbrev dktX3_days_1 : List UInt8 := dkwX3_days_1 ++ dktX3_days_2
def dkwX3_days_0 : List UInt8 := [27, 4, 17, 1, 144, 184, 0, 66, 153, 0, 17, 42, 180, 0, 7, 8, 46, 27, 96, 17, 39, 15]
abbrev dktX3_days_0 : List UInt8 := dkwX3_days_0 ++ dktX3_days_1
theorem dksX3_days_0 : cX3_days.data.toList.drop 0 = dktX3_days_0 := by decide +kernel
theorem dksX3_days_1 : cX3_days.data.toList.drop 22 = dktX3_days_1 := dk_seg dksX3_days_0 22 rfl rfl
theorem dksX3_days_2 : cX3_days.data.toList.drop 46 = dktX3_days_2 := dk_seg dksX3_days_1 24 rfl rfl
theorem dksX3_days_3 : cX3_days.data.toList.drop 68 = dktX3_days_3 := dk_seg dksX3_days_2 22 rfl rfl
theorem dksX3_days_4 : cX3_days.data.toList.drop 91 = dktX3_days_4 := dk_seg dksX3_days_3 23 rfl rfl
theorem dksX3_days_5 : cX3_days.data.toList.drop 115 = dktX3_days_5 := dk_seg dksX3_days_4 24 rfl rfl
theorem dksX3_days_6 : cX3_days.data.toList.drop 137 = dktX3_days_6 := dk_seg dksX3_days_5 22 rfl rfl
theorem dX3_days_0 : decode cX3_days 0 = .ok (.iload_n 1, 1) := dk_27 (dk_at dksX3_days_0 0 rfl rfl)
theorem dX3_days_1 : decode cX3_days 1 = .ok (.iconst 1, 1) := dk_4 (dk_at dksX3_days_0 1 rfl rfl)
theorem dX3_days_2 : decode cX3_days 2 = .ok (.sipush 400, 3) := dk_17 1 144 (dk_at dksX3_days_0 2 rfl rfl)
theorem dX3_days_5 : decode cX3_days 5 = .ok (.invokestatic 66, 3) := dk_184 0 66 (dk_at dksX3_days_0 5 rfl rfl)
theorem dX3_days_8 : decode cX3_days 8 = .ok (.ifCond .eq 17, 3) := dk_153 0 17 (dk_at dksX3_days_0 8 rfl rfl)
theorem dX3_days_11 : decode cX3_days 11 = .ok (.aload_n 0, 1) := dk_42 (dk_at dksX3_days_0 11 rfl rfl)
theorem dX3_days_12 : decode cX3_days 12 = .ok (.getfield 7, 3) := dk_180 0 7 (dk_at dksX3_days_0 12 rfl rfl)
theorem dX3_days_15 : decode cX3_days 15 = .ok (.iconst 5, 1) := dk_8 (dk_at dksX3_days_0 15 rfl rfl)
theorem dX3_days_16 : decode cX3_days 16 = .ok (.iaload, 1) := dk_46 (dk_at dksX3_days_0 16 rfl rfl)
theorem dX3_days_17 : decode cX3_days 17 = .ok (.iload_n 1, 1) := dk_27 (dk_at dksX3_days_0 17 rfl rfl)
theorem dX3_days_18 : decode cX3_days 18 = .ok (.iadd, 1) := dk_96 (dk_at dksX3_days_0 18 rfl rfl)
theorem dX3_days_19 : decode cX3_days 19 = .ok (.sipush 9999, 3) := dk_17 39 15 (dk_at dksX3_days_0 19 rfl rfl)
theorem dX3_days_22 : decode cX3_days 22 = .ok (.if_icmp .le 5, 3) := dk_164 0 5 (dk_at dksX3_days_1 0 rfl rfl)
theorem dX3_days_25 : decode cX3_days 25 = .ok (.iconst (-1), 1) := dk_2 (dk_at dksX3_days_1 3 rfl rfl)
theorem dX3_days_26 : decode cX3_days 26 = .ok (.ireturn, 1) := dk_172 (dk_at dksX3_days_1 4 rfl rfl)
theorem dX3_days_27 : decode cX3_days 27 = .ok (.iconst 0, 1) := dk_3 (dk_at dksX3_days_1 5 rfl rfl)
theorem dX3_days_28 : decode cX3_days 28 = .ok (.istore_n 2, 1) := dk_61 (dk_at dksX3_days_1 6 rfl rfl)
theorem dX3_days_29 : decode cX3_days 29 = .ok (.iconst 0, 1) := dk_3 (dk_at dksX3_days_1 7 rfl rfl)
theorem dX3_days_30 : decode cX3_days 30 = .ok (.istore_n 3, 1) := dk_62 (dk_at dksX3_days_1 8 rfl rfl)
theorem dX3_days_31 : decode cX3_days 31 = .ok (.iload_n 3, 1) := dk_29 (dk_at dksX3_days_1 9 rfl rfl)
theorem dX3_days_32 : decode cX3_days 32 = .ok (.iload_n 1, 1) := dk_27 (dk_at dksX3_days_1 10 rfl rfl)
theorem dX3_days_33 : decode cX3_days 33 = .ok (.if_icmp .ge 120, 3) := dk_162 0 120 (dk_at dksX3_days_1 11 rfl rfl)
theorem dX3_days_36 : decode cX3_days 36 = .ok (.aload_n 0, 1) := dk_42 (dk_at dksX3_days_1 14 rfl rfl)
theorem dX3_days_37 : decode cX3_days 37 = .ok (.getfield 70, 3) := dk_180 0 70 (dk_at dksX3_days_1 15 rfl rfl)
theorem dX3_days_40 : decode cX3_days 40 = .ok (.bipush 8, 2) := dk_16 8 (dk_at dksX3_days_1 18 rfl rfl)
theorem dX3_days_42 : decode cX3_days 42 = .ok (.if_icmp .ne 48, 3) := dk_160 0 48 (dk_at dksX3_days_1 20 rfl rfl)
theorem dX3_days_45 : decode cX3_days 45 = .ok (.iconst 0, 1) := dk_3 (dk_at dksX3_days_1 23 rfl rfl)
theorem dX3_days_46 : decode cX3_days 46 = .ok (.istore 4, 2) := dk_54 4 (dk_at dksX3_days_2 0 rfl rfl)
theorem dX3_days_48 : decode cX3_days 48 = .ok (.iload 4, 2) := dk_21 4 (dk_at dksX3_days_2 2 rfl rfl)
theorem dX3_days_50 : decode cX3_days 50 = .ok (.sipush 1260, 3) := dk_17 4 236 (dk_at dksX3_days_2 4 rfl rfl)
theorem dX3_days_53 : decode cX3_days 53 = .ok (.if_icmp .ge 27, 3) := dk_162 0 27 (dk_at dksX3_days_2 7 rfl rfl)
theorem dX3_days_56 : decode cX3_days 56 = .ok (.aload_n 0, 1) := dk_42 (dk_at dksX3_days_2 10 rfl rfl)
theorem dX3_days_57 : decode cX3_days 57 = .ok (.getfield 16, 3) := dk_180 0 16 (dk_at dksX3_days_2 11 rfl rfl)
theorem dX3_days_60 : decode cX3_days 60 = .ok (.iload 4, 2) := dk_21 4 (dk_at dksX3_days_2 14 rfl rfl)
theorem dX3_days_62 : decode cX3_days 62 = .ok (.aload_n 0, 1) := dk_42 (dk_at dksX3_days_2 16 rfl rfl)
theorem dX3_days_63 : decode cX3_days 63 = .ok (.getfield 16, 3) := dk_180 0 16 (dk_at dksX3_days_2 17 rfl rfl)
theorem dX3_days_66 : decode cX3_days 66 = .ok (.iload 4, 2) := dk_21 4 (dk_at dksX3_days_2 20 rfl rfl)
theorem dX3_days_68 : decode cX3_days 68 = .ok (.sipush 180, 3) := dk_17 0 180 (dk_at dksX3_days_3 0 rfl rfl)
theorem dX3_days_71 : decode cX3_days 71 = .ok (.iadd, 1) := dk_96 (dk_at dksX3_days_3 3 rfl rfl)
theorem dX3_days_72 : decode cX3_days 72 = .ok (.iaload, 1) := dk_46 (dk_at dksX3_days_3 4 rfl rfl)
theorem dX3_days_73 : decode cX3_days 73 = .ok (.iastore, 1) := dk_79 (dk_at dksX3_days_3 5 rfl rfl)
theorem dX3_days_74 : decode cX3_days 74 = .ok (.iinc 4 1, 3) := dk_132 4 1 (dk_at dksX3_days_3 6 rfl rfl)
theorem dX3_days_77 : decode cX3_days 77 = .ok (.goto (-29), 3) := dk_167 255 227 (dk_at dksX3_days_3 9 rfl rfl)
theorem dX3_days_80 : decode cX3_days 80 = .ok (.aload_n 0, 1) := dk_42 (dk_at dksX3_days_3 12 rfl rfl)
theorem dX3_days_81 : decode cX3_days 81 = .ok (.dup, 1) := dk_89 (dk_at dksX3_days_3 13 rfl rfl)
theorem dX3_days_82 : decode cX3_days 82 = .ok (.getfield 70, 3) := dk_180 0 70 (dk_at dksX3_days_3 14 rfl rfl)
theorem dX3_days_85 : decode cX3_days 85 = .ok (.iconst 1, 1) := dk_4 (dk_at dksX3_days_3 17 rfl rfl)
theorem dX3_days_86 : decode cX3_days 86 = .ok (.isub, 1) := dk_100 (dk_at dksX3_days_3 18 rfl rfl)
theorem dX3_days_87 : decode cX3_days 87 = .ok (.putfield 70, 3) := dk_181 0 70 (dk_at dksX3_days_3 19 rfl rfl)
theorem dX3_days_90 : decode cX3_days 90 = .ok (.iconst 0, 1) := dk_3 (dk_at dksX3_days_3 22 rfl rfl)
theorem dX3_days_91 : decode cX3_days 91 = .ok (.istore 4, 2) := dk_54 4 (dk_at dksX3_days_4 0 rfl rfl)
theorem dX3_days_93 : decode cX3_days 93 = .ok (.iload 4, 2) := dk_21 4 (dk_at dksX3_days_4 2 rfl rfl)
theorem dX3_days_95 : decode cX3_days 95 = .ok (.sipush 180, 3) := dk_17 0 180 (dk_at dksX3_days_4 4 rfl rfl)
theorem dX3_days_98 : decode cX3_days 98 = .ok (.if_icmp .ge 32, 3) := dk_162 0 32 (dk_at dksX3_days_4 7 rfl rfl)
theorem dX3_days_101 : decode cX3_days 101 = .ok (.aload_n 0, 1) := dk_42 (dk_at dksX3_days_4 10 rfl rfl)
theorem dX3_days_102 : decode cX3_days 102 = .ok (.getfield 16, 3) := dk_180 0 16 (dk_at dksX3_days_4 11 rfl rfl)
theorem dX3_days_105 : decode cX3_days 105 = .ok (.sipush 180, 3) := dk_17 0 180 (dk_at dksX3_days_4 14 rfl rfl)
theorem dX3_days_108 : decode cX3_days 108 = .ok (.aload_n 0, 1) := dk_42 (dk_at dksX3_days_4 17 rfl rfl)
theorem dX3_days_109 : decode cX3_days 109 = .ok (.getfield 70, 3) := dk_180 0 70 (dk_at dksX3_days_4 18 rfl rfl)
theorem dX3_days_112 : decode cX3_days 112 = .ok (.imul, 1) := dk_104 (dk_at dksX3_days_4 21 rfl rfl)
theorem dX3_days_113 : decode cX3_days 113 = .ok (.iload 4, 2) := dk_21 4 (dk_at dksX3_days_4 22 rfl rfl)
theorem dX3_days_115 : decode cX3_days 115 = .ok (.iadd, 1) := dk_96 (dk_at dksX3_days_5 0 rfl rfl)
theorem dX3_days_116 : decode cX3_days 116 = .ok (.aload_n 0, 1) := dk_42 (dk_at dksX3_days_5 1 rfl rfl)
theorem dX3_days_117 : decode cX3_days 117 = .ok (.getfield 7, 3) := dk_180 0 7 (dk_at dksX3_days_5 2 rfl rfl)
theorem dX3_days_120 : decode cX3_days 120 = .ok (.iload 4, 2) := dk_21 4 (dk_at dksX3_days_5 5 rfl rfl)
theorem dX3_days_122 : decode cX3_days 122 = .ok (.iaload, 1) := dk_46 (dk_at dksX3_days_5 7 rfl rfl)
theorem dX3_days_123 : decode cX3_days 123 = .ok (.iastore, 1) := dk_79 (dk_at dksX3_days_5 8 rfl rfl)
theorem dX3_days_124 : decode cX3_days 124 = .ok (.iinc 4 1, 3) := dk_132 4 1 (dk_at dksX3_days_5 9 rfl rfl)
theorem dX3_days_127 : decode cX3_days 127 = .ok (.goto (-34), 3) := dk_167 255 222 (dk_at dksX3_days_5 12 rfl rfl)
theorem dX3_days_130 : decode cX3_days 130 = .ok (.aload_n 0, 1) := dk_42 (dk_at dksX3_days_5 15 rfl rfl)
theorem dX3_days_131 : decode cX3_days 131 = .ok (.dup, 1) := dk_89 (dk_at dksX3_days_5 16 rfl rfl)
theorem dX3_days_132 : decode cX3_days 132 = .ok (.getfield 70, 3) := dk_180 0 70 (dk_at dksX3_days_5 17 rfl rfl)
theorem dX3_days_135 : decode cX3_days 135 = .ok (.iconst 1, 1) := dk_4 (dk_at dksX3_days_5 20 rfl rfl)
theorem dX3_days_136 : decode cX3_days 136 = .ok (.iadd, 1) := dk_96 (dk_at dksX3_days_5 21 rfl rfl)
theorem dX3_days_137 : decode cX3_days 137 = .ok (.putfield 70, 3) := dk_181 0 70 (dk_at dksX3_days_6 0 rfl rfl)
theorem dX3_days_140 : decode cX3_days 140 = .ok (.iload_n 2, 1) := dk_28 (dk_at dksX3_days_6 3 rfl rfl)
theorem dX3_days_141 : decode cX3_days 141 = .ok (.aload_n 0, 1) := dk_42 (dk_at dksX3_days_6 4 rfl rfl)
theorem dX3_days_142 : decode cX3_days 142 = .ok (.invokevirtual 256, 3) := dk_182 1 0 (dk_at dksX3_days_6 5 rfl rfl)
theorem dX3_days_145 : decode cX3_days 145 = .ok (.iadd, 1) := dk_96 (dk_at dksX3_days_6 8 rfl rfl)
theorem dX3_days_146 : decode cX3_days 146 = .ok (.istore_n 2, 1) := dk_61 (dk_at dksX3_days_6 9 rfl rfl)
theorem dX3_days_147 : decode cX3_days 147 = .ok (.iinc 3 1, 3) := dk_132 3 1 (dk_at dksX3_days_6 10 rfl rfl)
theorem dX3_days_150 : decode cX3_days 150 = .ok (.goto (-119), 3) := dk_167 255 137 (dk_at dksX3_days_6 13 rfl rfl)
theorem dX3_days_153 : decode cX3_days 153 = .ok (.iload_n 2, 1) := dk_28 (dk_at dksX3_days_6 16 rfl rfl)
theorem dX3_days_154 : decode cX3_days 154 = .ok (.ireturn, 1) := dk_172 (dk_at dksX3_days_6 17 rfl rfl)
abbrev cX3_aDay : ByteArray := prog_14_method_44_code
def yX3_aDay : MethodName := ⟨RX3, "aDay", "()I"⟩
def dkwX3_aDay_13 : List UInt8 := [182, 0, 225, 42, 180, 0, 7, 8, 92, 46, 4, 96, 79, 29, 2, 160, 0, 7, 3, 167, 0, 4, 4, 172]
abbrev dktX3_aDay_13 : List UInt8 := dkwX3_aDay_13 ++ []
def dkwX3_aDay_12 : List UInt8 := [4, 182, 0, 225, 42, 42, 180, 0, 38, 3, 46, 16, 7, 28, 153, 0, 7, 4, 167, 0, 4, 3]
abbrev dktX3_aDay_12 : List UInt8 := dkwX3_aDay_12 ++ dktX3_aDay_13
def dkwX3_aDay_11 : List UInt8 := [21, 7, 182, 0, 225, 132, 4, 1, 167, 255, 89, 27, 158, 0, 37, 42, 42, 180, 0, 38, 3, 46, 16, 6]
abbrev dktX3_aDay_11 : List UInt8 := dkwX3_aDay_11 ++ dktX3_aDay_12
def dkwX3_aDay_10 : List UInt8 := [21, 6, 21, 7, 100, 182, 0, 225, 21, 4, 158, 0, 19, 42, 42, 180, 0, 38, 21, 4, 4, 100, 46, 7]
abbrev dktX3_aDay_10 : List UInt8 := dkwX3_aDay_10 ++ dktX3_aDay_11
def dkwX3_aDay_9 : List UInt8 := [79, 167, 0, 52, 21, 4, 154, 0, 7, 3, 167, 0, 8, 21, 6, 16, 9, 108, 54, 7, 42, 21, 5, 7]
abbrev dktX3_aDay_9 : List UInt8 := dkwX3_aDay_9 ++ dktX3_aDay_10
def dkwX3_aDay_8 : List UInt8 := [4, 96, 167, 0, 4, 3, 79, 21, 4, 29, 160, 0, 18, 42, 180, 0, 7, 16, 8, 92, 46, 21, 6, 96]
abbrev dktX3_aDay_8 : List UInt8 := dkwX3_aDay_8 ++ dktX3_aDay_9
def dkwX3_aDay_7 : List UInt8 := [16, 20, 16, 16, 21, 5, 104, 96, 16, 8, 96, 21, 6, 154, 0, 16, 42, 21, 5, 16, 8, 182, 0, 220]
abbrev dktX3_aDay_7 : List UInt8 := dkwX3_aDay_7 ++ dktX3_aDay_8
def dkwX3_aDay_6 : List UInt8 := [8, 42, 21, 5, 182, 0, 253, 182, 0, 225, 42, 21, 5, 6, 21, 6, 116, 182, 0, 225, 42, 180, 0, 7]
abbrev dktX3_aDay_6 : List UInt8 := dkwX3_aDay_6 ++ dktX3_aDay_7
def dkwX3_aDay_5 : List UInt8 := [42, 180, 0, 7, 17, 0, 170, 21, 4, 96, 21, 5, 79, 42, 21, 5, 182, 0, 244, 54, 6, 42, 21, 5]
abbrev dktX3_aDay_5 : List UInt8 := dkwX3_aDay_5 ++ dktX3_aDay_6
def dkwX3_aDay_4 : List UInt8 := [180, 0, 38, 29, 46, 79, 3, 54, 4, 21, 4, 27, 162, 0, 167, 42, 180, 0, 38, 21, 4, 46, 54, 5]
abbrev dktX3_aDay_4 : List UInt8 := dkwX3_aDay_4 ++ dktX3_aDay_5
def dkwX3_aDay_3 : List UInt8 := [180, 0, 7, 16, 9, 27, 79, 42, 180, 0, 7, 16, 10, 29, 2, 160, 0, 7, 2, 167, 0, 9, 42]
abbrev dktX3_aDay_3 : List UInt8 := dkwX3_aDay_3 ++ dktX3_aDay_4
def dkwX3_aDay_2 : List UInt8 := [182, 0, 250, 42, 180, 0, 7, 6, 46, 162, 0, 9, 42, 27, 182, 0, 250, 62, 42, 3, 181, 0, 247, 42]
abbrev dktX3_aDay_2 : List UInt8 := dkwX3_aDay_2 ++ dktX3_aDay_3
def dkwX3_aDay_1 : List UInt8 := [61, 42, 4, 182, 0, 240, 2, 62, 42, 180, 0, 7, 6, 46, 158, 0, 28, 27, 158, 0, 24, 42, 16, 100]
abbrev dktX3_aDay_1 : List UInt8 := dkwX3_aDay_1 ++ dktX3_aDay_2
def dkwX3_aDay_0 : List UInt8 := [42, 180, 0, 7, 7, 46, 60, 42, 180, 0, 7, 8, 46, 16, 7, 112, 154, 0, 7, 4, 167, 0, 4, 3]
abbrev dktX3_aDay_0 : List UInt8 := dkwX3_aDay_0 ++ dktX3_aDay_1
theorem dksX3_aDay_0 : cX3_aDay.data.toList.drop 0 = dktX3_aDay_0 := by decide +kernel
theorem dksX3_aDay_1 : cX3_aDay.data.toList.drop 24 = dktX3_aDay_1 := dk_seg dksX3_aDay_0 24 rfl rfl
theorem dksX3_aDay_2 : cX3_aDay.data.toList.drop 48 = dktX3_aDay_2 := dk_seg dksX3_aDay_1 24 rfl rfl
theorem dksX3_aDay_3 : cX3_aDay.data.toList.drop 72 = dktX3_aDay_3 := dk_seg dksX3_aDay_2 24 rfl rfl
theorem dksX3_aDay_4 : cX3_aDay.data.toList.drop 95 = dktX3_aDay_4 := dk_seg dksX3_aDay_3 23 rfl rfl
theorem dksX3_aDay_5 : cX3_aDay.data.toList.drop 119 = dktX3_aDay_5 := dk_seg dksX3_aDay_4 24 rfl rfl
theorem dksX3_aDay_6 : cX3_aDay.data.toList.drop 143 = dktX3_aDay_6 := dk_seg dksX3_aDay_5 24 rfl rfl
theorem dksX3_aDay_7 : cX3_aDay.data.toList.drop 167 = dktX3_aDay_7 := dk_seg dksX3_aDay_6 24 rfl rfl
theorem dksX3_aDay_8 : cX3_aDay.data.toList.drop 191 = dktX3_aDay_8 := dk_seg dksX3_aDay_7 24 rfl rfl
theorem dksX3_aDay_9 : cX3_aDay.data.toList.drop 215 = dktX3_aDay_9 := dk_seg dksX3_aDay_8 24 rfl rfl
theorem dksX3_aDay_10 : cX3_aDay.data.toList.drop 239 = dktX3_aDay_10 := dk_seg dksX3_aDay_9 24 rfl rfl
theorem dksX3_aDay_11 : cX3_aDay.data.toList.drop 263 = dktX3_aDay_11 := dk_seg dksX3_aDay_10 24 rfl rfl
theorem dksX3_aDay_12 : cX3_aDay.data.toList.drop 287 = dktX3_aDay_12 := dk_seg dksX3_aDay_11 24 rfl rfl
theorem dksX3_aDay_13 : cX3_aDay.data.toList.drop 309 = dktX3_aDay_13 := dk_seg dksX3_aDay_12 22 rfl rfl
theorem dX3_aDay_0 : decode cX3_aDay 0 = .ok (.aload_n 0, 1) := dk_42 (dk_at dksX3_aDay_0 0 rfl rfl)
theorem dX3_aDay_1 : decode cX3_aDay 1 = .ok (.getfield 7, 3) := dk_180 0 7 (dk_at dksX3_aDay_0 1 rfl rfl)
theorem dX3_aDay_4 : decode cX3_aDay 4 = .ok (.iconst 4, 1) := dk_7 (dk_at dksX3_aDay_0 4 rfl rfl)
theorem dX3_aDay_5 : decode cX3_aDay 5 = .ok (.iaload, 1) := dk_46 (dk_at dksX3_aDay_0 5 rfl rfl)
theorem dX3_aDay_6 : decode cX3_aDay 6 = .ok (.istore_n 1, 1) := dk_60 (dk_at dksX3_aDay_0 6 rfl rfl)
theorem dX3_aDay_7 : decode cX3_aDay 7 = .ok (.aload_n 0, 1) := dk_42 (dk_at dksX3_aDay_0 7 rfl rfl)
theorem dX3_aDay_8 : decode cX3_aDay 8 = .ok (.getfield 7, 3) := dk_180 0 7 (dk_at dksX3_aDay_0 8 rfl rfl)
theorem dX3_aDay_11 : decode cX3_aDay 11 = .ok (.iconst 5, 1) := dk_8 (dk_at dksX3_aDay_0 11 rfl rfl)
theorem dX3_aDay_12 : decode cX3_aDay 12 = .ok (.iaload, 1) := dk_46 (dk_at dksX3_aDay_0 12 rfl rfl)
theorem dX3_aDay_13 : decode cX3_aDay 13 = .ok (.bipush 7, 2) := dk_16 7 (dk_at dksX3_aDay_0 13 rfl rfl)
theorem dX3_aDay_15 : decode cX3_aDay 15 = .ok (.irem, 1) := dk_112 (dk_at dksX3_aDay_0 15 rfl rfl)
theorem dX3_aDay_16 : decode cX3_aDay 16 = .ok (.ifCond .ne 7, 3) := dk_154 0 7 (dk_at dksX3_aDay_0 16 rfl rfl)
theorem dX3_aDay_19 : decode cX3_aDay 19 = .ok (.iconst 1, 1) := dk_4 (dk_at dksX3_aDay_0 19 rfl rfl)
theorem dX3_aDay_20 : decode cX3_aDay 20 = .ok (.goto 4, 3) := dk_167 0 4 (dk_at dksX3_aDay_0 20 rfl rfl)
theorem dX3_aDay_23 : decode cX3_aDay 23 = .ok (.iconst 0, 1) := dk_3 (dk_at dksX3_aDay_0 23 rfl rfl)
theorem dX3_aDay_24 : decode cX3_aDay 24 = .ok (.istore_n 2, 1) := dk_61 (dk_at dksX3_aDay_1 0 rfl rfl)
theorem dX3_aDay_25 : decode cX3_aDay 25 = .ok (.aload_n 0, 1) := dk_42 (dk_at dksX3_aDay_1 1 rfl rfl)
theorem dX3_aDay_26 : decode cX3_aDay 26 = .ok (.iconst 1, 1) := dk_4 (dk_at dksX3_aDay_1 2 rfl rfl)
theorem dX3_aDay_27 : decode cX3_aDay 27 = .ok (.invokevirtual 240, 3) := dk_182 0 240 (dk_at dksX3_aDay_1 3 rfl rfl)
theorem dX3_aDay_30 : decode cX3_aDay 30 = .ok (.iconst (-1), 1) := dk_2 (dk_at dksX3_aDay_1 6 rfl rfl)
theorem dX3_aDay_31 : decode cX3_aDay 31 = .ok (.istore_n 3, 1) := dk_62 (dk_at dksX3_aDay_1 7 rfl rfl)
theorem dX3_aDay_32 : decode cX3_aDay 32 = .ok (.aload_n 0, 1) := dk_42 (dk_at dksX3_aDay_1 8 rfl rfl)
theorem dX3_aDay_33 : decode cX3_aDay 33 = .ok (.getfield 7, 3) := dk_180 0 7 (dk_at dksX3_aDay_1 9 rfl rfl)
theorem dX3_aDay_36 : decode cX3_aDay 36 = .ok (.iconst 3, 1) := dk_6 (dk_at dksX3_aDay_1 12 rfl rfl)
theorem dX3_aDay_37 : decode cX3_aDay 37 = .ok (.iaload, 1) := dk_46 (dk_at dksX3_aDay_1 13 rfl rfl)
theorem dX3_aDay_38 : decode cX3_aDay 38 = .ok (.ifCond .le 28, 3) := dk_158 0 28 (dk_at dksX3_aDay_1 14 rfl rfl)
theorem dX3_aDay_41 : decode cX3_aDay 41 = .ok (.iload_n 1, 1) := dk_27 (dk_at dksX3_aDay_1 17 rfl rfl)
theorem dX3_aDay_42 : decode cX3_aDay 42 = .ok (.ifCond .le 24, 3) := dk_158 0 24 (dk_at dksX3_aDay_1 18 rfl rfl)
theorem dX3_aDay_45 : decode cX3_aDay 45 = .ok (.aload_n 0, 1) := dk_42 (dk_at dksX3_aDay_1 21 rfl rfl)
theorem dX3_aDay_46 : decode cX3_aDay 46 = .ok (.bipush 100, 2) := dk_16 100 (dk_at dksX3_aDay_1 22 rfl rfl)
theorem dX3_aDay_48 : decode cX3_aDay 48 = .ok (.invokevirtual 250, 3) := dk_182 0 250 (dk_at dksX3_aDay_2 0 rfl rfl)
theorem dX3_aDay_51 : decode cX3_aDay 51 = .ok (.aload_n 0, 1) := dk_42 (dk_at dksX3_aDay_2 3 rfl rfl)
theorem dX3_aDay_52 : decode cX3_aDay 52 = .ok (.getfield 7, 3) := dk_180 0 7 (dk_at dksX3_aDay_2 4 rfl rfl)
theorem dX3_aDay_55 : decode cX3_aDay 55 = .ok (.iconst 3, 1) := dk_6 (dk_at dksX3_aDay_2 7 rfl rfl)
theorem dX3_aDay_56 : decode cX3_aDay 56 = .ok (.iaload, 1) := dk_46 (dk_at dksX3_aDay_2 8 rfl rfl)
theorem dX3_aDay_57 : decode cX3_aDay 57 = .ok (.if_icmp .ge 9, 3) := dk_162 0 9 (dk_at dksX3_aDay_2 9 rfl rfl)
theorem dX3_aDay_60 : decode cX3_aDay 60 = .ok (.aload_n 0, 1) := dk_42 (dk_at dksX3_aDay_2 12 rfl rfl)
theorem dX3_aDay_61 : decode cX3_aDay 61 = .ok (.iload_n 1, 1) := dk_27 (dk_at dksX3_aDay_2 13 rfl rfl)
theorem dX3_aDay_62 : decode cX3_aDay 62 = .ok (.invokevirtual 250, 3) := dk_182 0 250 (dk_at dksX3_aDay_2 14 rfl rfl)
theorem dX3_aDay_65 : decode cX3_aDay 65 = .ok (.istore_n 3, 1) := dk_62 (dk_at dksX3_aDay_2 17 rfl rfl)
theorem dX3_aDay_66 : decode cX3_aDay 66 = .ok (.aload_n 0, 1) := dk_42 (dk_at dksX3_aDay_2 18 rfl rfl)
theorem dX3_aDay_67 : decode cX3_aDay 67 = .ok (.iconst 0, 1) := dk_3 (dk_at dksX3_aDay_2 19 rfl rfl)
theorem dX3_aDay_68 : decode cX3_aDay 68 = .ok (.putfield 247, 3) := dk_181 0 247 (dk_at dksX3_aDay_2 20 rfl rfl)
theorem dX3_aDay_71 : decode cX3_aDay 71 = .ok (.aload_n 0, 1) := dk_42 (dk_at dksX3_aDay_2 23 rfl rfl)
theorem dX3_aDay_72 : decode cX3_aDay 72 = .ok (.getfield 7, 3) := dk_180 0 7 (dk_at dksX3_aDay_3 0 rfl rfl)
theorem dX3_aDay_75 : decode cX3_aDay 75 = .ok (.bipush 9, 2) := dk_16 9 (dk_at dksX3_aDay_3 3 rfl rfl)
theorem dX3_aDay_77 : decode cX3_aDay 77 = .ok (.iload_n 1, 1) := dk_27 (dk_at dksX3_aDay_3 5 rfl rfl)
theorem dX3_aDay_78 : decode cX3_aDay 78 = .ok (.iastore, 1) := dk_79 (dk_at dksX3_aDay_3 6 rfl rfl)
theorem dX3_aDay_79 : decode cX3_aDay 79 = .ok (.aload_n 0, 1) := dk_42 (dk_at dksX3_aDay_3 7 rfl rfl)
theorem dX3_aDay_80 : decode cX3_aDay 80 = .ok (.getfield 7, 3) := dk_180 0 7 (dk_at dksX3_aDay_3 8 rfl rfl)
theorem dX3_aDay_83 : decode cX3_aDay 83 = .ok (.bipush 10, 2) := dk_16 10 (dk_at dksX3_aDay_3 11 rfl rfl)
theorem dX3_aDay_85 : decode cX3_aDay 85 = .ok (.iload_n 3, 1) := dk_29 (dk_at dksX3_aDay_3 13 rfl rfl)
theorem dX3_aDay_86 : decode cX3_aDay 86 = .ok (.iconst (-1), 1) := dk_2 (dk_at dksX3_aDay_3 14 rfl rfl)
theorem dX3_aDay_87 : decode cX3_aDay 87 = .ok (.if_icmp .ne 7, 3) := dk_160 0 7 (dk_at dksX3_aDay_3 15 rfl rfl)
theorem dX3_aDay_90 : decode cX3_aDay 90 = .ok (.iconst (-1), 1) := dk_2 (dk_at dksX3_aDay_3 18 rfl rfl)
theorem dX3_aDay_91 : decode cX3_aDay 91 = .ok (.goto 9, 3) := dk_167 0 9 (dk_at dksX3_aDay_3 19 rfl rfl)
theorem dX3_aDay_94 : decode cX3_aDay 94 = .ok (.aload_n 0, 1) := dk_42 (dk_at dksX3_aDay_3 22 rfl rfl)
theorem dX3_aDay_95 : decode cX3_aDay 95 = .ok (.getfield 38, 3) := dk_180 0 38 (dk_at dksX3_aDay_4 0 rfl rfl)
theorem dX3_aDay_98 : decode cX3_aDay 98 = .ok (.iload_n 3, 1) := dk_29 (dk_at dksX3_aDay_4 3 rfl rfl)
theorem dX3_aDay_99 : decode cX3_aDay 99 = .ok (.iaload, 1) := dk_46 (dk_at dksX3_aDay_4 4 rfl rfl)
theorem dX3_aDay_100 : decode cX3_aDay 100 = .ok (.iastore, 1) := dk_79 (dk_at dksX3_aDay_4 5 rfl rfl)
theorem dX3_aDay_101 : decode cX3_aDay 101 = .ok (.iconst 0, 1) := dk_3 (dk_at dksX3_aDay_4 6 rfl rfl)
theorem dX3_aDay_102 : decode cX3_aDay 102 = .ok (.istore 4, 2) := dk_54 4 (dk_at dksX3_aDay_4 7 rfl rfl)
theorem dX3_aDay_104 : decode cX3_aDay 104 = .ok (.iload 4, 2) := dk_21 4 (dk_at dksX3_aDay_4 9 rfl rfl)
theorem dX3_aDay_106 : decode cX3_aDay 106 = .ok (.iload_n 1, 1) := dk_27 (dk_at dksX3_aDay_4 11 rfl rfl)
theorem dX3_aDay_107 : decode cX3_aDay 107 = .ok (.if_icmp .ge 167, 3) := dk_162 0 167 (dk_at dksX3_aDay_4 12 rfl rfl)
theorem dX3_aDay_110 : decode cX3_aDay 110 = .ok (.aload_n 0, 1) := dk_42 (dk_at dksX3_aDay_4 15 rfl rfl)
theorem dX3_aDay_111 : decode cX3_aDay 111 = .ok (.getfield 38, 3) := dk_180 0 38 (dk_at dksX3_aDay_4 16 rfl rfl)
theorem dX3_aDay_114 : decode cX3_aDay 114 = .ok (.iload 4, 2) := dk_21 4 (dk_at dksX3_aDay_4 19 rfl rfl)
theorem dX3_aDay_116 : decode cX3_aDay 116 = .ok (.iaload, 1) := dk_46 (dk_at dksX3_aDay_4 21 rfl rfl)
theorem dX3_aDay_117 : decode cX3_aDay 117 = .ok (.istore 5, 2) := dk_54 5 (dk_at dksX3_aDay_4 22 rfl rfl)
theorem dX3_aDay_119 : decode cX3_aDay 119 = .ok (.aload_n 0, 1) := dk_42 (dk_at dksX3_aDay_5 0 rfl rfl)
theorem dX3_aDay_120 : decode cX3_aDay 120 = .ok (.getfield 7, 3) := dk_180 0 7 (dk_at dksX3_aDay_5 1 rfl rfl)
theorem dX3_aDay_123 : decode cX3_aDay 123 = .ok (.sipush 170, 3) := dk_17 0 170 (dk_at dksX3_aDay_5 4 rfl rfl)
theorem dX3_aDay_126 : decode cX3_aDay 126 = .ok (.iload 4, 2) := dk_21 4 (dk_at dksX3_aDay_5 7 rfl rfl)
theorem dX3_aDay_128 : decode cX3_aDay 128 = .ok (.iadd, 1) := dk_96 (dk_at dksX3_aDay_5 9 rfl rfl)
theorem dX3_aDay_129 : decode cX3_aDay 129 = .ok (.iload 5, 2) := dk_21 5 (dk_at dksX3_aDay_5 10 rfl rfl)
theorem dX3_aDay_131 : decode cX3_aDay 131 = .ok (.iastore, 1) := dk_79 (dk_at dksX3_aDay_5 12 rfl rfl)
theorem dX3_aDay_132 : decode cX3_aDay 132 = .ok (.aload_n 0, 1) := dk_42 (dk_at dksX3_aDay_5 13 rfl rfl)
theorem dX3_aDay_133 : decode cX3_aDay 133 = .ok (.iload 5, 2) := dk_21 5 (dk_at dksX3_aDay_5 14 rfl rfl)
theorem dX3_aDay_135 : decode cX3_aDay 135 = .ok (.invokevirtual 244, 3) := dk_182 0 244 (dk_at dksX3_aDay_5 16 rfl rfl)
theorem dX3_aDay_138 : decode cX3_aDay 138 = .ok (.istore 6, 2) := dk_54 6 (dk_at dksX3_aDay_5 19 rfl rfl)
theorem dX3_aDay_140 : decode cX3_aDay 140 = .ok (.aload_n 0, 1) := dk_42 (dk_at dksX3_aDay_5 21 rfl rfl)
theorem dX3_aDay_141 : decode cX3_aDay 141 = .ok (.iload 5, 2) := dk_21 5 (dk_at dksX3_aDay_5 22 rfl rfl)
theorem dX3_aDay_143 : decode cX3_aDay 143 = .ok (.iconst 5, 1) := dk_8 (dk_at dksX3_aDay_6 0 rfl rfl)
theorem dX3_aDay_144 : decode cX3_aDay 144 = .ok (.aload_n 0, 1) := dk_42 (dk_at dksX3_aDay_6 1 rfl rfl)
theorem dX3_aDay_145 : decode cX3_aDay 145 = .ok (.iload 5, 2) := dk_21 5 (dk_at dksX3_aDay_6 2 rfl rfl)
theorem dX3_aDay_147 : decode cX3_aDay 147 = .ok (.invokevirtual 253, 3) := dk_182 0 253 (dk_at dksX3_aDay_6 4 rfl rfl)
theorem dX3_aDay_150 : decode cX3_aDay 150 = .ok (.invokevirtual 225, 3) := dk_182 0 225 (dk_at dksX3_aDay_6 7 rfl rfl)
theorem dX3_aDay_153 : decode cX3_aDay 153 = .ok (.aload_n 0, 1) := dk_42 (dk_at dksX3_aDay_6 10 rfl rfl)
theorem dX3_aDay_154 : decode cX3_aDay 154 = .ok (.iload 5, 2) := dk_21 5 (dk_at dksX3_aDay_6 11 rfl rfl)
theorem dX3_aDay_156 : decode cX3_aDay 156 = .ok (.iconst 3, 1) := dk_6 (dk_at dksX3_aDay_6 13 rfl rfl)
theorem dX3_aDay_157 : decode cX3_aDay 157 = .ok (.iload 6, 2) := dk_21 6 (dk_at dksX3_aDay_6 14 rfl rfl)
theorem dX3_aDay_159 : decode cX3_aDay 159 = .ok (.ineg, 1) := dk_116 (dk_at dksX3_aDay_6 16 rfl rfl)
theorem dX3_aDay_160 : decode cX3_aDay 160 = .ok (.invokevirtual 225, 3) := dk_182 0 225 (dk_at dksX3_aDay_6 17 rfl rfl)
theorem dX3_aDay_163 : decode cX3_aDay 163 = .ok (.aload_n 0, 1) := dk_42 (dk_at dksX3_aDay_6 20 rfl rfl)
theorem dX3_aDay_164 : decode cX3_aDay 164 = .ok (.getfield 7, 3) := dk_180 0 7 (dk_at dksX3_aDay_6 21 rfl rfl)
theorem dX3_aDay_167 : decode cX3_aDay 167 = .ok (.bipush 20, 2) := dk_16 20 (dk_at dksX3_aDay_7 0 rfl rfl)
theorem dX3_aDay_169 : decode cX3_aDay 169 = .ok (.bipush 16, 2) := dk_16 16 (dk_at dksX3_aDay_7 2 rfl rfl)
theorem dX3_aDay_171 : decode cX3_aDay 171 = .ok (.iload 5, 2) := dk_21 5 (dk_at dksX3_aDay_7 4 rfl rfl)
theorem dX3_aDay_173 : decode cX3_aDay 173 = .ok (.imul, 1) := dk_104 (dk_at dksX3_aDay_7 6 rfl rfl)
theorem dX3_aDay_174 : decode cX3_aDay 174 = .ok (.iadd, 1) := dk_96 (dk_at dksX3_aDay_7 7 rfl rfl)
theorem dX3_aDay_175 : decode cX3_aDay 175 = .ok (.bipush 8, 2) := dk_16 8 (dk_at dksX3_aDay_7 8 rfl rfl)
theorem dX3_aDay_177 : decode cX3_aDay 177 = .ok (.iadd, 1) := dk_96 (dk_at dksX3_aDay_7 10 rfl rfl)
theorem dX3_aDay_178 : decode cX3_aDay 178 = .ok (.iload 6, 2) := dk_21 6 (dk_at dksX3_aDay_7 11 rfl rfl)
theorem dX3_aDay_180 : decode cX3_aDay 180 = .ok (.ifCond .ne 16, 3) := dk_154 0 16 (dk_at dksX3_aDay_7 13 rfl rfl)
theorem dX3_aDay_183 : decode cX3_aDay 183 = .ok (.aload_n 0, 1) := dk_42 (dk_at dksX3_aDay_7 16 rfl rfl)
theorem dX3_aDay_184 : decode cX3_aDay 184 = .ok (.iload 5, 2) := dk_21 5 (dk_at dksX3_aDay_7 17 rfl rfl)
theorem dX3_aDay_186 : decode cX3_aDay 186 = .ok (.bipush 8, 2) := dk_16 8 (dk_at dksX3_aDay_7 19 rfl rfl)
theorem dX3_aDay_188 : decode cX3_aDay 188 = .ok (.invokevirtual 220, 3) := dk_182 0 220 (dk_at dksX3_aDay_7 21 rfl rfl)
theorem dX3_aDay_191 : decode cX3_aDay 191 = .ok (.iconst 1, 1) := dk_4 (dk_at dksX3_aDay_8 0 rfl rfl)
theorem dX3_aDay_192 : decode cX3_aDay 192 = .ok (.iadd, 1) := dk_96 (dk_at dksX3_aDay_8 1 rfl rfl)
theorem dX3_aDay_193 : decode cX3_aDay 193 = .ok (.goto 4, 3) := dk_167 0 4 (dk_at dksX3_aDay_8 2 rfl rfl)
theorem dX3_aDay_196 : decode cX3_aDay 196 = .ok (.iconst 0, 1) := dk_3 (dk_at dksX3_aDay_8 5 rfl rfl)
theorem dX3_aDay_197 : decode cX3_aDay 197 = .ok (.iastore, 1) := dk_79 (dk_at dksX3_aDay_8 6 rfl rfl)
theorem dX3_aDay_198 : decode cX3_aDay 198 = .ok (.iload 4, 2) := dk_21 4 (dk_at dksX3_aDay_8 7 rfl rfl)
theorem dX3_aDay_200 : decode cX3_aDay 200 = .ok (.iload_n 3, 1) := dk_29 (dk_at dksX3_aDay_8 9 rfl rfl)
theorem dX3_aDay_201 : decode cX3_aDay 201 = .ok (.if_icmp .ne 18, 3) := dk_160 0 18 (dk_at dksX3_aDay_8 10 rfl rfl)
theorem dX3_aDay_204 : decode cX3_aDay 204 = .ok (.aload_n 0, 1) := dk_42 (dk_at dksX3_aDay_8 13 rfl rfl)
theorem dX3_aDay_205 : decode cX3_aDay 205 = .ok (.getfield 7, 3) := dk_180 0 7 (dk_at dksX3_aDay_8 14 rfl rfl)
theorem dX3_aDay_208 : decode cX3_aDay 208 = .ok (.bipush 8, 2) := dk_16 8 (dk_at dksX3_aDay_8 17 rfl rfl)
theorem dX3_aDay_210 : decode cX3_aDay 210 = .ok (.dup2, 1) := dk_92 (dk_at dksX3_aDay_8 19 rfl rfl)
theorem dX3_aDay_211 : decode cX3_aDay 211 = .ok (.iaload, 1) := dk_46 (dk_at dksX3_aDay_8 20 rfl rfl)
theorem dX3_aDay_212 : decode cX3_aDay 212 = .ok (.iload 6, 2) := dk_21 6 (dk_at dksX3_aDay_8 21 rfl rfl)
theorem dX3_aDay_214 : decode cX3_aDay 214 = .ok (.iadd, 1) := dk_96 (dk_at dksX3_aDay_8 23 rfl rfl)
theorem dX3_aDay_215 : decode cX3_aDay 215 = .ok (.iastore, 1) := dk_79 (dk_at dksX3_aDay_9 0 rfl rfl)
theorem dX3_aDay_216 : decode cX3_aDay 216 = .ok (.goto 52, 3) := dk_167 0 52 (dk_at dksX3_aDay_9 1 rfl rfl)
theorem dX3_aDay_219 : decode cX3_aDay 219 = .ok (.iload 4, 2) := dk_21 4 (dk_at dksX3_aDay_9 4 rfl rfl)
theorem dX3_aDay_221 : decode cX3_aDay 221 = .ok (.ifCond .ne 7, 3) := dk_154 0 7 (dk_at dksX3_aDay_9 6 rfl rfl)
theorem dX3_aDay_224 : decode cX3_aDay 224 = .ok (.iconst 0, 1) := dk_3 (dk_at dksX3_aDay_9 9 rfl rfl)
theorem dX3_aDay_225 : decode cX3_aDay 225 = .ok (.goto 8, 3) := dk_167 0 8 (dk_at dksX3_aDay_9 10 rfl rfl)
theorem dX3_aDay_228 : decode cX3_aDay 228 = .ok (.iload 6, 2) := dk_21 6 (dk_at dksX3_aDay_9 13 rfl rfl)
theorem dX3_aDay_230 : decode cX3_aDay 230 = .ok (.bipush 9, 2) := dk_16 9 (dk_at dksX3_aDay_9 15 rfl rfl)
theorem dX3_aDay_232 : decode cX3_aDay 232 = .ok (.idiv, 1) := dk_108 (dk_at dksX3_aDay_9 17 rfl rfl)
theorem dX3_aDay_233 : decode cX3_aDay 233 = .ok (.istore 7, 2) := dk_54 7 (dk_at dksX3_aDay_9 18 rfl rfl)
theorem dX3_aDay_235 : decode cX3_aDay 235 = .ok (.aload_n 0, 1) := dk_42 (dk_at dksX3_aDay_9 20 rfl rfl)
theorem dX3_aDay_236 : decode cX3_aDay 236 = .ok (.iload 5, 2) := dk_21 5 (dk_at dksX3_aDay_9 21 rfl rfl)
theorem dX3_aDay_238 : decode cX3_aDay 238 = .ok (.iconst 4, 1) := dk_7 (dk_at dksX3_aDay_9 23 rfl rfl)
theorem dX3_aDay_239 : decode cX3_aDay 239 = .ok (.iload 6, 2) := dk_21 6 (dk_at dksX3_aDay_10 0 rfl rfl)
theorem dX3_aDay_241 : decode cX3_aDay 241 = .ok (.iload 7, 2) := dk_21 7 (dk_at dksX3_aDay_10 2 rfl rfl)
theorem dX3_aDay_243 : decode cX3_aDay 243 = .ok (.isub, 1) := dk_100 (dk_at dksX3_aDay_10 4 rfl rfl)
theorem dX3_aDay_244 : decode cX3_aDay 244 = .ok (.invokevirtual 225, 3) := dk_182 0 225 (dk_at dksX3_aDay_10 5 rfl rfl)
theorem dX3_aDay_247 : decode cX3_aDay 247 = .ok (.iload 4, 2) := dk_21 4 (dk_at dksX3_aDay_10 8 rfl rfl)
theorem dX3_aDay_249 : decode cX3_aDay 249 = .ok (.ifCond .le 19, 3) := dk_158 0 19 (dk_at dksX3_aDay_10 10 rfl rfl)
theorem dX3_aDay_252 : decode cX3_aDay 252 = .ok (.aload_n 0, 1) := dk_42 (dk_at dksX3_aDay_10 13 rfl rfl)
theorem dX3_aDay_253 : decode cX3_aDay 253 = .ok (.aload_n 0, 1) := dk_42 (dk_at dksX3_aDay_10 14 rfl rfl)
theorem dX3_aDay_254 : decode cX3_aDay 254 = .ok (.getfield 38, 3) := dk_180 0 38 (dk_at dksX3_aDay_10 15 rfl rfl)
theorem dX3_aDay_257 : decode cX3_aDay 257 = .ok (.iload 4, 2) := dk_21 4 (dk_at dksX3_aDay_10 18 rfl rfl)
theorem dX3_aDay_259 : decode cX3_aDay 259 = .ok (.iconst 1, 1) := dk_4 (dk_at dksX3_aDay_10 20 rfl rfl)
theorem dX3_aDay_260 : decode cX3_aDay 260 = .ok (.isub, 1) := dk_100 (dk_at dksX3_aDay_10 21 rfl rfl)
theorem dX3_aDay_261 : decode cX3_aDay 261 = .ok (.iaload, 1) := dk_46 (dk_at dksX3_aDay_10 22 rfl rfl)
theorem dX3_aDay_262 : decode cX3_aDay 262 = .ok (.iconst 4, 1) := dk_7 (dk_at dksX3_aDay_10 23 rfl rfl)
theorem dX3_aDay_263 : decode cX3_aDay 263 = .ok (.iload 7, 2) := dk_21 7 (dk_at dksX3_aDay_11 0 rfl rfl)
theorem dX3_aDay_265 : decode cX3_aDay 265 = .ok (.invokevirtual 225, 3) := dk_182 0 225 (dk_at dksX3_aDay_11 2 rfl rfl)
theorem dX3_aDay_268 : decode cX3_aDay 268 = .ok (.iinc 4 1, 3) := dk_132 4 1 (dk_at dksX3_aDay_11 5 rfl rfl)
theorem dX3_aDay_271 : decode cX3_aDay 271 = .ok (.goto (-167), 3) := dk_167 255 89 (dk_at dksX3_aDay_11 8 rfl rfl)
theorem dX3_aDay_274 : decode cX3_aDay 274 = .ok (.iload_n 1, 1) := dk_27 (dk_at dksX3_aDay_11 11 rfl rfl)
theorem dX3_aDay_275 : decode cX3_aDay 275 = .ok (.ifCond .le 37, 3) := dk_158 0 37 (dk_at dksX3_aDay_11 12 rfl rfl)
theorem dX3_aDay_278 : decode cX3_aDay 278 = .ok (.aload_n 0, 1) := dk_42 (dk_at dksX3_aDay_11 15 rfl rfl)
theorem dX3_aDay_279 : decode cX3_aDay 279 = .ok (.aload_n 0, 1) := dk_42 (dk_at dksX3_aDay_11 16 rfl rfl)
theorem dX3_aDay_280 : decode cX3_aDay 280 = .ok (.getfield 38, 3) := dk_180 0 38 (dk_at dksX3_aDay_11 17 rfl rfl)
theorem dX3_aDay_283 : decode cX3_aDay 283 = .ok (.iconst 0, 1) := dk_3 (dk_at dksX3_aDay_11 20 rfl rfl)
theorem dX3_aDay_284 : decode cX3_aDay 284 = .ok (.iaload, 1) := dk_46 (dk_at dksX3_aDay_11 21 rfl rfl)
theorem dX3_aDay_285 : decode cX3_aDay 285 = .ok (.bipush 6, 2) := dk_16 6 (dk_at dksX3_aDay_11 22 rfl rfl)
theorem dX3_aDay_287 : decode cX3_aDay 287 = .ok (.iconst 1, 1) := dk_4 (dk_at dksX3_aDay_12 0 rfl rfl)
theorem dX3_aDay_288 : decode cX3_aDay 288 = .ok (.invokevirtual 225, 3) := dk_182 0 225 (dk_at dksX3_aDay_12 1 rfl rfl)
theorem dX3_aDay_291 : decode cX3_aDay 291 = .ok (.aload_n 0, 1) := dk_42 (dk_at dksX3_aDay_12 4 rfl rfl)
theorem dX3_aDay_292 : decode cX3_aDay 292 = .ok (.aload_n 0, 1) := dk_42 (dk_at dksX3_aDay_12 5 rfl rfl)
theorem dX3_aDay_293 : decode cX3_aDay 293 = .ok (.getfield 38, 3) := dk_180 0 38 (dk_at dksX3_aDay_12 6 rfl rfl)
theorem dX3_aDay_296 : decode cX3_aDay 296 = .ok (.iconst 0, 1) := dk_3 (dk_at dksX3_aDay_12 9 rfl rfl)
theorem dX3_aDay_297 : decode cX3_aDay 297 = .ok (.iaload, 1) := dk_46 (dk_at dksX3_aDay_12 10 rfl rfl)
theorem dX3_aDay_298 : decode cX3_aDay 298 = .ok (.bipush 7, 2) := dk_16 7 (dk_at dksX3_aDay_12 11 rfl rfl)
theorem dX3_aDay_300 : decode cX3_aDay 300 = .ok (.iload_n 2, 1) := dk_28 (dk_at dksX3_aDay_12 13 rfl rfl)
theorem dX3_aDay_301 : decode cX3_aDay 301 = .ok (.ifCond .eq 7, 3) := dk_153 0 7 (dk_at dksX3_aDay_12 14 rfl rfl)
theorem dX3_aDay_304 : decode cX3_aDay 304 = .ok (.iconst 1, 1) := dk_4 (dk_at dksX3_aDay_12 17 rfl rfl)
theorem dX3_aDay_305 : decode cX3_aDay 305 = .ok (.goto 4, 3) := dk_167 0 4 (dk_at dksX3_aDay_12 18 rfl rfl)
theorem dX3_aDay_308 : decode cX3_aDay 308 = .ok (.iconst 0, 1) := dk_3 (dk_at dksX3_aDay_12 21 rfl rfl)
theorem dX3_aDay_309 : decode cX3_aDay 309 = .ok (.invokevirtual 225, 3) := dk_182 0 225 (dk_at dksX3_aDay_13 0 rfl rfl)
theorem dX3_aDay_312 : decode cX3_aDay 312 = .ok (.aload_n 0, 1) := dk_42 (dk_at dksX3_aDay_13 3 rfl rfl)
theorem dX3_aDay_313 : decode cX3_aDay 313 = .ok (.getfield 7, 3) := dk_180 0 7 (dk_at dksX3_aDay_13 4 rfl rfl)
theorem dX3_aDay_316 : decode cX3_aDay 316 = .ok (.iconst 5, 1) := dk_8 (dk_at dksX3_aDay_13 7 rfl rfl)
theorem dX3_aDay_317 : decode cX3_aDay 317 = .ok (.dup2, 1) := dk_92 (dk_at dksX3_aDay_13 8 rfl rfl)
theorem dX3_aDay_318 : decode cX3_aDay 318 = .ok (.iaload, 1) := dk_46 (dk_at dksX3_aDay_13 9 rfl rfl)
theorem dX3_aDay_319 : decode cX3_aDay 319 = .ok (.iconst 1, 1) := dk_4 (dk_at dksX3_aDay_13 10 rfl rfl)
theorem dX3_aDay_320 : decode cX3_aDay 320 = .ok (.iadd, 1) := dk_96 (dk_at dksX3_aDay_13 11 rfl rfl)
theorem dX3_aDay_321 : decode cX3_aDay 321 = .ok (.iastore, 1) := dk_79 (dk_at dksX3_aDay_13 12 rfl rfl)
theorem dX3_aDay_322 : decode cX3_aDay 322 = .ok (.iload_n 3, 1) := dk_29 (dk_at dksX3_aDay_13 13 rfl rfl)
theorem dX3_aDay_323 : decode cX3_aDay 323 = .ok (.iconst (-1), 1) := dk_2 (dk_at dksX3_aDay_13 14 rfl rfl)
theorem dX3_aDay_324 : decode cX3_aDay 324 = .ok (.if_icmp .ne 7, 3) := dk_160 0 7 (dk_at dksX3_aDay_13 15 rfl rfl)
theorem dX3_aDay_327 : decode cX3_aDay 327 = .ok (.iconst 0, 1) := dk_3 (dk_at dksX3_aDay_13 18 rfl rfl)
theorem dX3_aDay_328 : decode cX3_aDay 328 = .ok (.goto 4, 3) := dk_167 0 4 (dk_at dksX3_aDay_13 19 rfl rfl)
theorem dX3_aDay_331 : decode cX3_aDay 331 = .ok (.iconst 1, 1) := dk_4 (dk_at dksX3_aDay_13 22 rfl rfl)
theorem dX3_aDay_332 : decode cX3_aDay 332 = .ok (.ireturn, 1) := dk_172 (dk_at dksX3_aDay_13 23 rfl rfl)
abbrev cX3_draw : ByteArray := prog_14_method_8_code
def yX3_draw : MethodName := ⟨RX3, "draw", "(I)I"⟩
def dkwX3_draw_1 : List UInt8 := [16, 6, 46, 16, 8, 124, 27, 112, 172]
abbrev dktX3_draw_1 : List UInt8 := dkwX3_draw_1 ++ []
def dkwX3_draw_0 : List UInt8 := [42, 180, 0, 7, 16, 6, 18, 73, 42, 180, 0, 7, 16, 6, 46, 104, 18, 74, 96, 79, 42, 180, 0, 7]
abbrev dktX3_draw_0 : List UInt8 := dkwX3_draw_0 ++ dktX3_draw_1
theorem dksX3_draw_0 : cX3_draw.data.toList.drop 0 = dktX3_draw_0 := by decide +kernel
theorem dksX3_draw_1 : cX3_draw.data.toList.drop 24 = dktX3_draw_1 := dk_seg dksX3_draw_0 24 rfl rfl
theorem dX3_draw_0 : decode cX3_draw 0 = .ok (.aload_n 0, 1) := dk_42 (dk_at dksX3_draw_0 0 rfl rfl)
theorem dX3_draw_1 : decode cX3_draw 1 = .ok (.getfield 7, 3) := dk_180 0 7 (dk_at dksX3_draw_0 1 rfl rfl)
theorem dX3_draw_4 : decode cX3_draw 4 = .ok (.bipush 6, 2) := dk_16 6 (dk_at dksX3_draw_0 4 rfl rfl)
theorem dX3_draw_6 : decode cX3_draw 6 = .ok (.ldc 73, 2) := dk_18 73 (dk_at dksX3_draw_0 6 rfl rfl)
theorem dX3_draw_8 : decode cX3_draw 8 = .ok (.aload_n 0, 1) := dk_42 (dk_at dksX3_draw_0 8 rfl rfl)
theorem dX3_draw_9 : decode cX3_draw 9 = .ok (.getfield 7, 3) := dk_180 0 7 (dk_at dksX3_draw_0 9 rfl rfl)
theorem dX3_draw_12 : decode cX3_draw 12 = .ok (.bipush 6, 2) := dk_16 6 (dk_at dksX3_draw_0 12 rfl rfl)
theorem dX3_draw_14 : decode cX3_draw 14 = .ok (.iaload, 1) := dk_46 (dk_at dksX3_draw_0 14 rfl rfl)
theorem dX3_draw_15 : decode cX3_draw 15 = .ok (.imul, 1) := dk_104 (dk_at dksX3_draw_0 15 rfl rfl)
theorem dX3_draw_16 : decode cX3_draw 16 = .ok (.ldc 74, 2) := dk_18 74 (dk_at dksX3_draw_0 16 rfl rfl)
theorem dX3_draw_18 : decode cX3_draw 18 = .ok (.iadd, 1) := dk_96 (dk_at dksX3_draw_0 18 rfl rfl)
theorem dX3_draw_19 : decode cX3_draw 19 = .ok (.iastore, 1) := dk_79 (dk_at dksX3_draw_0 19 rfl rfl)
theorem dX3_draw_20 : decode cX3_draw 20 = .ok (.aload_n 0, 1) := dk_42 (dk_at dksX3_draw_0 20 rfl rfl)
theorem dX3_draw_21 : decode cX3_draw 21 = .ok (.getfield 7, 3) := dk_180 0 7 (dk_at dksX3_draw_0 21 rfl rfl)
theorem dX3_draw_24 : decode cX3_draw 24 = .ok (.bipush 6, 2) := dk_16 6 (dk_at dksX3_draw_1 0 rfl rfl)
theorem dX3_draw_26 : decode cX3_draw 26 = .ok (.iaload, 1) := dk_46 (dk_at dksX3_draw_1 2 rfl rfl)
theorem dX3_draw_27 : decode cX3_draw 27 = .ok (.bipush 8, 2) := dk_16 8 (dk_at dksX3_draw_1 3 rfl rfl)
theorem dX3_draw_29 : decode cX3_draw 29 = .ok (.iushr, 1) := dk_124 (dk_at dksX3_draw_1 5 rfl rfl)
theorem dX3_draw_30 : decode cX3_draw 30 = .ok (.iload_n 1, 1) := dk_27 (dk_at dksX3_draw_1 6 rfl rfl)
theorem dX3_draw_31 : decode cX3_draw 31 = .ok (.irem, 1) := dk_112 (dk_at dksX3_draw_1 7 rfl rfl)
theorem dX3_draw_32 : decode cX3_draw 32 = .ok (.ireturn, 1) := dk_172 (dk_at dksX3_draw_1 8 rfl rfl)
abbrev cX3_loaf : ByteArray := prog_14_method_42_code
def yX3_loaf : MethodName := ⟨RX3, "loaf", "(I)I"⟩
def dkwX3_loaf_1 : List UInt8 := [42, 27, 3, 182, 0, 220, 172]
abbrev dktX3_loaf_1 : List UInt8 := dkwX3_loaf_1 ++ []
def dkwX3_loaf_0 : List UInt8 := [42, 27, 6, 182, 0, 220, 42, 27, 3, 182, 0, 220, 162, 0, 12, 42, 27, 6, 182, 0, 220, 167, 0, 9]
abbrev dktX3_loaf_0 : List UInt8 := dkwX3_loaf_0 ++ dktX3_loaf_1
theorem dksX3_loaf_0 : cX3_loaf.data.toList.drop 0 = dktX3_loaf_0 := by decide +kernel
theorem dksX3_loaf_1 : cX3_loaf.data.toList.drop 24 = dktX3_loaf_1 := dk_seg dksX3_loaf_0 24 rfl rfl
theorem dX3_loaf_0 : decode cX3_loaf 0 = .ok (.aload_n 0, 1) := dk_42 (dk_at dksX3_loaf_0 0 rfl rfl)
theorem dX3_loaf_1 : decode cX3_loaf 1 = .ok (.iload_n 1, 1) := dk_27 (dk_at dksX3_loaf_0 1 rfl rfl)
theorem dX3_loaf_2 : decode cX3_loaf 2 = .ok (.iconst 3, 1) := dk_6 (dk_at dksX3_loaf_0 2 rfl rfl)
theorem dX3_loaf_3 : decode cX3_loaf 3 = .ok (.invokevirtual 220, 3) := dk_182 0 220 (dk_at dksX3_loaf_0 3 rfl rfl)
theorem dX3_loaf_6 : decode cX3_loaf 6 = .ok (.aload_n 0, 1) := dk_42 (dk_at dksX3_loaf_0 6 rfl rfl)
theorem dX3_loaf_7 : decode cX3_loaf 7 = .ok (.iload_n 1, 1) := dk_27 (dk_at dksX3_loaf_0 7 rfl rfl)
theorem dX3_loaf_8 : decode cX3_loaf 8 = .ok (.iconst 0, 1) := dk_3 (dk_at dksX3_loaf_0 8 rfl rfl)
theorem dX3_loaf_9 : decode cX3_loaf 9 = .ok (.invokevirtual 220, 3) := dk_182 0 220 (dk_at dksX3_loaf_0 9 rfl rfl)
theorem dX3_loaf_12 : decode cX3_loaf 12 = .ok (.if_icmp .ge 12, 3) := dk_162 0 12 (dk_at dksX3_loaf_0 12 rfl rfl)
theorem dX3_loaf_15 : decode cX3_loaf 15 = .ok (.aload_n 0, 1) := dk_42 (dk_at dksX3_loaf_0 15 rfl rfl)
theorem dX3_loaf_16 : decode cX3_loaf 16 = .ok (.iload_n 1, 1) := dk_27 (dk_at dksX3_loaf_0 16 rfl rfl)
theorem dX3_loaf_17 : decode cX3_loaf 17 = .ok (.iconst 3, 1) := dk_6 (dk_at dksX3_loaf_0 17 rfl rfl)
theorem dX3_loaf_18 : decode cX3_loaf 18 = .ok (.invokevirtual 220, 3) := dk_182 0 220 (dk_at dksX3_loaf_0 18 rfl rfl)
theorem dX3_loaf_21 : decode cX3_loaf 21 = .ok (.goto 9, 3) := dk_167 0 9 (dk_at dksX3_loaf_0 21 rfl rfl)
theorem dX3_loaf_24 : decode cX3_loaf 24 = .ok (.aload_n 0, 1) := dk_42 (dk_at dksX3_loaf_1 0 rfl rfl)
theorem dX3_loaf_25 : decode cX3_loaf 25 = .ok (.iload_n 1, 1) := dk_27 (dk_at dksX3_loaf_1 1 rfl rfl)
theorem dX3_loaf_26 : decode cX3_loaf 26 = .ok (.iconst 0, 1) := dk_3 (dk_at dksX3_loaf_1 2 rfl rfl)
theorem dX3_loaf_27 : decode cX3_loaf 27 = .ok (.invokevirtual 220, 3) := dk_182 0 220 (dk_at dksX3_loaf_1 3 rfl rfl)
theorem dX3_loaf_30 : decode cX3_loaf 30 = .ok (.ireturn, 1) := dk_172 (dk_at dksX3_loaf_1 6 rfl rfl)
abbrev cX3_heats : ByteArray := prog_14_method_43_code
def yX3_heats : MethodName := ⟨RX3, "heats", "(I)I"⟩
def dkwX3_heats_4 : List UInt8 := [167, 0, 7, 42, 180, 0, 247, 181, 0, 247, 28, 172]
abbrev dktX3_heats_4 : List UInt8 := dkwX3_heats_4 ++ []
def dkwX3_heats_3 : List UInt8 := [4, 46, 42, 27, 5, 182, 0, 220, 104, 100, 96, 181, 0, 247, 42, 42, 180, 0, 247, 156, 0, 7, 3]
abbrev dktX3_heats_3 : List UInt8 := dkwX3_heats_3 ++ dktX3_heats_4
def dkwX3_heats_2 : List UInt8 := [180, 0, 7, 3, 46, 108, 61, 42, 89, 180, 0, 247, 28, 42, 180, 0, 7, 3, 46, 104, 42, 180, 0, 7]
abbrev dktX3_heats_2 : List UInt8 := dkwX3_heats_2 ++ dktX3_heats_3
def dkwX3_heats_1 : List UInt8 := [167, 0, 30, 42, 27, 4, 182, 0, 220, 42, 180, 0, 247, 100, 42, 180, 0, 7, 3, 46, 96, 4, 100, 42]
abbrev dktX3_heats_1 : List UInt8 := dkwX3_heats_1 ++ dktX3_heats_2
def dkwX3_heats_0 : List UInt8 := [42, 27, 182, 0, 244, 154, 0, 5, 3, 172, 42, 180, 0, 247, 42, 27, 4, 182, 0, 220, 161, 0, 7, 3]
abbrev dktX3_heats_0 : List UInt8 := dkwX3_heats_0 ++ dktX3_heats_1
theorem dksX3_heats_0 : cX3_heats.data.toList.drop 0 = dktX3_heats_0 := by decide +kernel
theorem dksX3_heats_1 : cX3_heats.data.toList.drop 24 = dktX3_heats_1 := dk_seg dksX3_heats_0 24 rfl rfl
theorem dksX3_heats_2 : cX3_heats.data.toList.drop 48 = dktX3_heats_2 := dk_seg dksX3_heats_1 24 rfl rfl
theorem dksX3_heats_3 : cX3_heats.data.toList.drop 72 = dktX3_heats_3 := dk_seg dksX3_heats_2 24 rfl rfl
theorem dksX3_heats_4 : cX3_heats.data.toList.drop 95 = dktX3_heats_4 := dk_seg dksX3_heats_3 23 rfl rfl
theorem dX3_heats_0 : decode cX3_heats 0 = .ok (.aload_n 0, 1) := dk_42 (dk_at dksX3_heats_0 0 rfl rfl)
theorem dX3_heats_1 : decode cX3_heats 1 = .ok (.iload_n 1, 1) := dk_27 (dk_at dksX3_heats_0 1 rfl rfl)
theorem dX3_heats_2 : decode cX3_heats 2 = .ok (.invokevirtual 244, 3) := dk_182 0 244 (dk_at dksX3_heats_0 2 rfl rfl)
theorem dX3_heats_5 : decode cX3_heats 5 = .ok (.ifCond .ne 5, 3) := dk_154 0 5 (dk_at dksX3_heats_0 5 rfl rfl)
theorem dX3_heats_8 : decode cX3_heats 8 = .ok (.iconst 0, 1) := dk_3 (dk_at dksX3_heats_0 8 rfl rfl)
theorem dX3_heats_9 : decode cX3_heats 9 = .ok (.ireturn, 1) := dk_172 (dk_at dksX3_heats_0 9 rfl rfl)
theorem dX3_heats_10 : decode cX3_heats 10 = .ok (.aload_n 0, 1) := dk_42 (dk_at dksX3_heats_0 10 rfl rfl)
theorem dX3_heats_11 : decode cX3_heats 11 = .ok (.getfield 247, 3) := dk_180 0 247 (dk_at dksX3_heats_0 11 rfl rfl)
theorem dX3_heats_14 : decode cX3_heats 14 = .ok (.aload_n 0, 1) := dk_42 (dk_at dksX3_heats_0 14 rfl rfl)
theorem dX3_heats_15 : decode cX3_heats 15 = .ok (.iload_n 1, 1) := dk_27 (dk_at dksX3_heats_0 15 rfl rfl)
theorem dX3_heats_16 : decode cX3_heats 16 = .ok (.iconst 1, 1) := dk_4 (dk_at dksX3_heats_0 16 rfl rfl)
theorem dX3_heats_17 : decode cX3_heats 17 = .ok (.invokevirtual 220, 3) := dk_182 0 220 (dk_at dksX3_heats_0 17 rfl rfl)
theorem dX3_heats_20 : decode cX3_heats 20 = .ok (.if_icmp .lt 7, 3) := dk_161 0 7 (dk_at dksX3_heats_0 20 rfl rfl)
theorem dX3_heats_23 : decode cX3_heats 23 = .ok (.iconst 0, 1) := dk_3 (dk_at dksX3_heats_0 23 rfl rfl)
theorem dX3_heats_24 : decode cX3_heats 24 = .ok (.goto 30, 3) := dk_167 0 30 (dk_at dksX3_heats_1 0 rfl rfl)
theorem dX3_heats_27 : decode cX3_heats 27 = .ok (.aload_n 0, 1) := dk_42 (dk_at dksX3_heats_1 3 rfl rfl)
theorem dX3_heats_28 : decode cX3_heats 28 = .ok (.iload_n 1, 1) := dk_27 (dk_at dksX3_heats_1 4 rfl rfl)
theorem dX3_heats_29 : decode cX3_heats 29 = .ok (.iconst 1, 1) := dk_4 (dk_at dksX3_heats_1 5 rfl rfl)
theorem dX3_heats_30 : decode cX3_heats 30 = .ok (.invokevirtual 220, 3) := dk_182 0 220 (dk_at dksX3_heats_1 6 rfl rfl)
theorem dX3_heats_33 : decode cX3_heats 33 = .ok (.aload_n 0, 1) := dk_42 (dk_at dksX3_heats_1 9 rfl rfl)
theorem dX3_heats_34 : decode cX3_heats 34 = .ok (.getfield 247, 3) := dk_180 0 247 (dk_at dksX3_heats_1 10 rfl rfl)
theorem dX3_heats_37 : decode cX3_heats 37 = .ok (.isub, 1) := dk_100 (dk_at dksX3_heats_1 13 rfl rfl)
theorem dX3_heats_38 : decode cX3_heats 38 = .ok (.aload_n 0, 1) := dk_42 (dk_at dksX3_heats_1 14 rfl rfl)
theorem dX3_heats_39 : decode cX3_heats 39 = .ok (.getfield 7, 3) := dk_180 0 7 (dk_at dksX3_heats_1 15 rfl rfl)
theorem dX3_heats_42 : decode cX3_heats 42 = .ok (.iconst 0, 1) := dk_3 (dk_at dksX3_heats_1 18 rfl rfl)
theorem dX3_heats_43 : decode cX3_heats 43 = .ok (.iaload, 1) := dk_46 (dk_at dksX3_heats_1 19 rfl rfl)
theorem dX3_heats_44 : decode cX3_heats 44 = .ok (.iadd, 1) := dk_96 (dk_at dksX3_heats_1 20 rfl rfl)
theorem dX3_heats_45 : decode cX3_heats 45 = .ok (.iconst 1, 1) := dk_4 (dk_at dksX3_heats_1 21 rfl rfl)
theorem dX3_heats_46 : decode cX3_heats 46 = .ok (.isub, 1) := dk_100 (dk_at dksX3_heats_1 22 rfl rfl)
theorem dX3_heats_47 : decode cX3_heats 47 = .ok (.aload_n 0, 1) := dk_42 (dk_at dksX3_heats_1 23 rfl rfl)
theorem dX3_heats_48 : decode cX3_heats 48 = .ok (.getfield 7, 3) := dk_180 0 7 (dk_at dksX3_heats_2 0 rfl rfl)
theorem dX3_heats_51 : decode cX3_heats 51 = .ok (.iconst 0, 1) := dk_3 (dk_at dksX3_heats_2 3 rfl rfl)
theorem dX3_heats_52 : decode cX3_heats 52 = .ok (.iaload, 1) := dk_46 (dk_at dksX3_heats_2 4 rfl rfl)
theorem dX3_heats_53 : decode cX3_heats 53 = .ok (.idiv, 1) := dk_108 (dk_at dksX3_heats_2 5 rfl rfl)
theorem dX3_heats_54 : decode cX3_heats 54 = .ok (.istore_n 2, 1) := dk_61 (dk_at dksX3_heats_2 6 rfl rfl)
theorem dX3_heats_55 : decode cX3_heats 55 = .ok (.aload_n 0, 1) := dk_42 (dk_at dksX3_heats_2 7 rfl rfl)
theorem dX3_heats_56 : decode cX3_heats 56 = .ok (.dup, 1) := dk_89 (dk_at dksX3_heats_2 8 rfl rfl)
theorem dX3_heats_57 : decode cX3_heats 57 = .ok (.getfield 247, 3) := dk_180 0 247 (dk_at dksX3_heats_2 9 rfl rfl)
theorem dX3_heats_60 : decode cX3_heats 60 = .ok (.iload_n 2, 1) := dk_28 (dk_at dksX3_heats_2 12 rfl rfl)
theorem dX3_heats_61 : decode cX3_heats 61 = .ok (.aload_n 0, 1) := dk_42 (dk_at dksX3_heats_2 13 rfl rfl)
theorem dX3_heats_62 : decode cX3_heats 62 = .ok (.getfield 7, 3) := dk_180 0 7 (dk_at dksX3_heats_2 14 rfl rfl)
theorem dX3_heats_65 : decode cX3_heats 65 = .ok (.iconst 0, 1) := dk_3 (dk_at dksX3_heats_2 17 rfl rfl)
theorem dX3_heats_66 : decode cX3_heats 66 = .ok (.iaload, 1) := dk_46 (dk_at dksX3_heats_2 18 rfl rfl)
theorem dX3_heats_67 : decode cX3_heats 67 = .ok (.imul, 1) := dk_104 (dk_at dksX3_heats_2 19 rfl rfl)
theorem dX3_heats_68 : decode cX3_heats 68 = .ok (.aload_n 0, 1) := dk_42 (dk_at dksX3_heats_2 20 rfl rfl)
theorem dX3_heats_69 : decode cX3_heats 69 = .ok (.getfield 7, 3) := dk_180 0 7 (dk_at dksX3_heats_2 21 rfl rfl)
theorem dX3_heats_72 : decode cX3_heats 72 = .ok (.iconst 1, 1) := dk_4 (dk_at dksX3_heats_3 0 rfl rfl)
theorem dX3_heats_73 : decode cX3_heats 73 = .ok (.iaload, 1) := dk_46 (dk_at dksX3_heats_3 1 rfl rfl)
theorem dX3_heats_74 : decode cX3_heats 74 = .ok (.aload_n 0, 1) := dk_42 (dk_at dksX3_heats_3 2 rfl rfl)
theorem dX3_heats_75 : decode cX3_heats 75 = .ok (.iload_n 1, 1) := dk_27 (dk_at dksX3_heats_3 3 rfl rfl)
theorem dX3_heats_76 : decode cX3_heats 76 = .ok (.iconst 2, 1) := dk_5 (dk_at dksX3_heats_3 4 rfl rfl)
theorem dX3_heats_77 : decode cX3_heats 77 = .ok (.invokevirtual 220, 3) := dk_182 0 220 (dk_at dksX3_heats_3 5 rfl rfl)
theorem dX3_heats_80 : decode cX3_heats 80 = .ok (.imul, 1) := dk_104 (dk_at dksX3_heats_3 8 rfl rfl)
theorem dX3_heats_81 : decode cX3_heats 81 = .ok (.isub, 1) := dk_100 (dk_at dksX3_heats_3 9 rfl rfl)
theorem dX3_heats_82 : decode cX3_heats 82 = .ok (.iadd, 1) := dk_96 (dk_at dksX3_heats_3 10 rfl rfl)
theorem dX3_heats_83 : decode cX3_heats 83 = .ok (.putfield 247, 3) := dk_181 0 247 (dk_at dksX3_heats_3 11 rfl rfl)
theorem dX3_heats_86 : decode cX3_heats 86 = .ok (.aload_n 0, 1) := dk_42 (dk_at dksX3_heats_3 14 rfl rfl)
theorem dX3_heats_87 : decode cX3_heats 87 = .ok (.aload_n 0, 1) := dk_42 (dk_at dksX3_heats_3 15 rfl rfl)
theorem dX3_heats_88 : decode cX3_heats 88 = .ok (.getfield 247, 3) := dk_180 0 247 (dk_at dksX3_heats_3 16 rfl rfl)
theorem dX3_heats_91 : decode cX3_heats 91 = .ok (.ifCond .ge 7, 3) := dk_156 0 7 (dk_at dksX3_heats_3 19 rfl rfl)
theorem dX3_heats_94 : decode cX3_heats 94 = .ok (.iconst 0, 1) := dk_3 (dk_at dksX3_heats_3 22 rfl rfl)
theorem dX3_heats_95 : decode cX3_heats 95 = .ok (.goto 7, 3) := dk_167 0 7 (dk_at dksX3_heats_4 0 rfl rfl)
theorem dX3_heats_98 : decode cX3_heats 98 = .ok (.aload_n 0, 1) := dk_42 (dk_at dksX3_heats_4 3 rfl rfl)
theorem dX3_heats_99 : decode cX3_heats 99 = .ok (.getfield 247, 3) := dk_180 0 247 (dk_at dksX3_heats_4 4 rfl rfl)
theorem dX3_heats_102 : decode cX3_heats 102 = .ok (.putfield 247, 3) := dk_181 0 247 (dk_at dksX3_heats_4 7 rfl rfl)
theorem dX3_heats_105 : decode cX3_heats 105 = .ok (.iload_n 2, 1) := dk_28 (dk_at dksX3_heats_4 10 rfl rfl)
theorem dX3_heats_106 : decode cX3_heats 106 = .ok (.ireturn, 1) := dk_172 (dk_at dksX3_heats_4 11 rfl rfl)
abbrev cX3_undo : ByteArray := prog_14_method_46_code
def yX3_undo : MethodName := ⟨RX3, "undo", "()Z"⟩
def dkwX3_undo_2 : List UInt8 := [96, 46, 79, 132, 1, 1, 167, 255, 225, 4, 172]
abbrev dktX3_undo_2 : List UInt8 := dkwX3_undo_2 ++ []
def dkwX3_undo_1 : List UInt8 := [17, 0, 180, 162, 0, 30, 42, 180, 0, 7, 27, 42, 180, 0, 16, 17, 0, 180, 42, 180, 0, 70, 104, 27]
abbrev dktX3_undo_1 : List UInt8 := dkwX3_undo_1 ++ dktX3_undo_2
def dkwX3_undo_0 : List UInt8 := [42, 180, 0, 70, 154, 0, 5, 3, 172, 42, 89, 180, 0, 70, 4, 100, 181, 0, 70, 3, 60, 27]
abbrev dktX3_undo_0 : List UInt8 := dkwX3_undo_0 ++ dktX3_undo_1
theorem dksX3_undo_0 : cX3_undo.data.toList.drop 0 = dktX3_undo_0 := by decide +kernel
theorem dksX3_undo_1 : cX3_undo.data.toList.drop 22 = dktX3_undo_1 := dk_seg dksX3_undo_0 22 rfl rfl
theorem dksX3_undo_2 : cX3_undo.data.toList.drop 46 = dktX3_undo_2 := dk_seg dksX3_undo_1 24 rfl rfl
theorem dX3_undo_0 : decode cX3_undo 0 = .ok (.aload_n 0, 1) := dk_42 (dk_at dksX3_undo_0 0 rfl rfl)
theorem dX3_undo_1 : decode cX3_undo 1 = .ok (.getfield 70, 3) := dk_180 0 70 (dk_at dksX3_undo_0 1 rfl rfl)
theorem dX3_undo_4 : decode cX3_undo 4 = .ok (.ifCond .ne 5, 3) := dk_154 0 5 (dk_at dksX3_undo_0 4 rfl rfl)
theorem dX3_undo_7 : decode cX3_undo 7 = .ok (.iconst 0, 1) := dk_3 (dk_at dksX3_undo_0 7 rfl rfl)
theorem dX3_undo_8 : decode cX3_undo 8 = .ok (.ireturn, 1) := dk_172 (dk_at dksX3_undo_0 8 rfl rfl)
theorem dX3_undo_9 : decode cX3_undo 9 = .ok (.aload_n 0, 1) := dk_42 (dk_at dksX3_undo_0 9 rfl rfl)
theorem dX3_undo_10 : decode cX3_undo 10 = .ok (.dup, 1) := dk_89 (dk_at dksX3_undo_0 10 rfl rfl)
theorem dX3_undo_11 : decode cX3_undo 11 = .ok (.getfield 70, 3) := dk_180 0 70 (dk_at dksX3_undo_0 11 rfl rfl)
theorem dX3_undo_14 : decode cX3_undo 14 = .ok (.iconst 1, 1) := dk_4 (dk_at dksX3_undo_0 14 rfl rfl)
theorem dX3_undo_15 : decode cX3_undo 15 = .ok (.isub, 1) := dk_100 (dk_at dksX3_undo_0 15 rfl rfl)
theorem dX3_undo_16 : decode cX3_undo 16 = .ok (.putfield 70, 3) := dk_181 0 70 (dk_at dksX3_undo_0 16 rfl rfl)
theorem dX3_undo_19 : decode cX3_undo 19 = .ok (.iconst 0, 1) := dk_3 (dk_at dksX3_undo_0 19 rfl rfl)
theorem dX3_undo_20 : decode cX3_undo 20 = .ok (.istore_n 1, 1) := dk_60 (dk_at dksX3_undo_0 20 rfl rfl)
theorem dX3_undo_21 : decode cX3_undo 21 = .ok (.iload_n 1, 1) := dk_27 (dk_at dksX3_undo_0 21 rfl rfl)
theorem dX3_undo_22 : decode cX3_undo 22 = .ok (.sipush 180, 3) := dk_17 0 180 (dk_at dksX3_undo_1 0 rfl rfl)
theorem dX3_undo_25 : decode cX3_undo 25 = .ok (.if_icmp .ge 30, 3) := dk_162 0 30 (dk_at dksX3_undo_1 3 rfl rfl)
theorem dX3_undo_28 : decode cX3_undo 28 = .ok (.aload_n 0, 1) := dk_42 (dk_at dksX3_undo_1 6 rfl rfl)
theorem dX3_undo_29 : decode cX3_undo 29 = .ok (.getfield 7, 3) := dk_180 0 7 (dk_at dksX3_undo_1 7 rfl rfl)
theorem dX3_undo_32 : decode cX3_undo 32 = .ok (.iload_n 1, 1) := dk_27 (dk_at dksX3_undo_1 10 rfl rfl)
theorem dX3_undo_33 : decode cX3_undo 33 = .ok (.aload_n 0, 1) := dk_42 (dk_at dksX3_undo_1 11 rfl rfl)
theorem dX3_undo_34 : decode cX3_undo 34 = .ok (.getfield 16, 3) := dk_180 0 16 (dk_at dksX3_undo_1 12 rfl rfl)
theorem dX3_undo_37 : decode cX3_undo 37 = .ok (.sipush 180, 3) := dk_17 0 180 (dk_at dksX3_undo_1 15 rfl rfl)
theorem dX3_undo_40 : decode cX3_undo 40 = .ok (.aload_n 0, 1) := dk_42 (dk_at dksX3_undo_1 18 rfl rfl)
theorem dX3_undo_41 : decode cX3_undo 41 = .ok (.getfield 70, 3) := dk_180 0 70 (dk_at dksX3_undo_1 19 rfl rfl)
theorem dX3_undo_44 : decode cX3_undo 44 = .ok (.imul, 1) := dk_104 (dk_at dksX3_undo_1 22 rfl rfl)
theorem dX3_undo_45 : decode cX3_undo 45 = .ok (.iload_n 1, 1) := dk_27 (dk_at dksX3_undo_1 23 rfl rfl)
theorem dX3_undo_46 : decode cX3_undo 46 = .ok (.iadd, 1) := dk_96 (dk_at dksX3_undo_2 0 rfl rfl)
theorem dX3_undo_47 : decode cX3_undo 47 = .ok (.iaload, 1) := dk_46 (dk_at dksX3_undo_2 1 rfl rfl)
theorem dX3_undo_48 : decode cX3_undo 48 = .ok (.iastore, 1) := dk_79 (dk_at dksX3_undo_2 2 rfl rfl)
theorem dX3_undo_49 : decode cX3_undo 49 = .ok (.iinc 1 1, 3) := dk_132 1 1 (dk_at dksX3_undo_2 3 rfl rfl)
theorem dX3_undo_52 : decode cX3_undo 52 = .ok (.goto (-31), 3) := dk_167 255 225 (dk_at dksX3_undo_2 6 rfl rfl)
theorem dX3_undo_55 : decode cX3_undo 55 = .ok (.iconst 1, 1) := dk_4 (dk_at dksX3_undo_2 9 rfl rfl)
theorem dX3_undo_56 : decode cX3_undo 56 = .ok (.ireturn, 1) := dk_172 (dk_at dksX3_undo_2 10 rfl rfl)
abbrev cX3_of : ByteArray := prog_14_method_47_code
def yX3_of : MethodName := ⟨RX3, "of", "(II)I"⟩
def dkwX3_of_3 : List UInt8 := [167, 0, 6, 19, 1, 3, 172]
abbrev dktX3_of_3 : List UInt8 := dkwX3_of_3 ++ []
def dkwX3_of_2 : List UInt8 := [16, 9, 182, 0, 220, 96, 184, 0, 66, 153, 0, 18, 42, 27, 16, 10, 28, 96, 16, 10, 100, 182, 0, 220]
abbrev dktX3_of_2 : List UInt8 := dkwX3_of_2 ++ dktX3_of_3
def dkwX3_of_1 : List UInt8 := [28, 182, 0, 220, 172, 28, 16, 9, 160, 0, 9, 42, 27, 182, 0, 232, 172, 28, 16, 10, 16, 9, 42, 27]
abbrev dktX3_of_1 : List UInt8 := dkwX3_of_1 ++ dktX3_of_2
def dkwX3_of_0 : List UInt8 := [42, 27, 182, 0, 216, 154, 0, 7, 19, 1, 3, 172, 28, 3, 16, 8, 184, 0, 66, 153, 0, 10, 42, 27]
abbrev dktX3_of_0 : List UInt8 := dkwX3_of_0 ++ dktX3_of_1
theorem dksX3_of_0 : cX3_of.data.toList.drop 0 = dktX3_of_0 := by decide +kernel
theorem dksX3_of_1 : cX3_of.data.toList.drop 24 = dktX3_of_1 := dk_seg dksX3_of_0 24 rfl rfl
theorem dksX3_of_2 : cX3_of.data.toList.drop 48 = dktX3_of_2 := dk_seg dksX3_of_1 24 rfl rfl
theorem dksX3_of_3 : cX3_of.data.toList.drop 72 = dktX3_of_3 := dk_seg dksX3_of_2 24 rfl rfl
theorem dX3_of_0 : decode cX3_of 0 = .ok (.aload_n 0, 1) := dk_42 (dk_at dksX3_of_0 0 rfl rfl)
theorem dX3_of_1 : decode cX3_of 1 = .ok (.iload_n 1, 1) := dk_27 (dk_at dksX3_of_0 1 rfl rfl)
theorem dX3_of_2 : decode cX3_of 2 = .ok (.invokevirtual 216, 3) := dk_182 0 216 (dk_at dksX3_of_0 2 rfl rfl)
theorem dX3_of_5 : decode cX3_of 5 = .ok (.ifCond .ne 7, 3) := dk_154 0 7 (dk_at dksX3_of_0 5 rfl rfl)
theorem dX3_of_8 : decode cX3_of 8 = .ok (.ldc_w 259, 3) := dk_19 1 3 (dk_at dksX3_of_0 8 rfl rfl)
theorem dX3_of_11 : decode cX3_of 11 = .ok (.ireturn, 1) := dk_172 (dk_at dksX3_of_0 11 rfl rfl)
theorem dX3_of_12 : decode cX3_of 12 = .ok (.iload_n 2, 1) := dk_28 (dk_at dksX3_of_0 12 rfl rfl)
theorem dX3_of_13 : decode cX3_of 13 = .ok (.iconst 0, 1) := dk_3 (dk_at dksX3_of_0 13 rfl rfl)
theorem dX3_of_14 : decode cX3_of 14 = .ok (.bipush 8, 2) := dk_16 8 (dk_at dksX3_of_0 14 rfl rfl)
theorem dX3_of_16 : decode cX3_of 16 = .ok (.invokestatic 66, 3) := dk_184 0 66 (dk_at dksX3_of_0 16 rfl rfl)
theorem dX3_of_19 : decode cX3_of 19 = .ok (.ifCond .eq 10, 3) := dk_153 0 10 (dk_at dksX3_of_0 19 rfl rfl)
theorem dX3_of_22 : decode cX3_of 22 = .ok (.aload_n 0, 1) := dk_42 (dk_at dksX3_of_0 22 rfl rfl)
theorem dX3_of_23 : decode cX3_of 23 = .ok (.iload_n 1, 1) := dk_27 (dk_at dksX3_of_0 23 rfl rfl)
theorem dX3_of_24 : decode cX3_of 24 = .ok (.iload_n 2, 1) := dk_28 (dk_at dksX3_of_1 0 rfl rfl)
theorem dX3_of_25 : decode cX3_of 25 = .ok (.invokevirtual 220, 3) := dk_182 0 220 (dk_at dksX3_of_1 1 rfl rfl)
theorem dX3_of_28 : decode cX3_of 28 = .ok (.ireturn, 1) := dk_172 (dk_at dksX3_of_1 4 rfl rfl)
theorem dX3_of_29 : decode cX3_of 29 = .ok (.iload_n 2, 1) := dk_28 (dk_at dksX3_of_1 5 rfl rfl)
theorem dX3_of_30 : decode cX3_of 30 = .ok (.bipush 9, 2) := dk_16 9 (dk_at dksX3_of_1 6 rfl rfl)
theorem dX3_of_32 : decode cX3_of 32 = .ok (.if_icmp .ne 9, 3) := dk_160 0 9 (dk_at dksX3_of_1 8 rfl rfl)
theorem dX3_of_35 : decode cX3_of 35 = .ok (.aload_n 0, 1) := dk_42 (dk_at dksX3_of_1 11 rfl rfl)
theorem dX3_of_36 : decode cX3_of 36 = .ok (.iload_n 1, 1) := dk_27 (dk_at dksX3_of_1 12 rfl rfl)
theorem dX3_of_37 : decode cX3_of 37 = .ok (.invokevirtual 232, 3) := dk_182 0 232 (dk_at dksX3_of_1 13 rfl rfl)
theorem dX3_of_40 : decode cX3_of 40 = .ok (.ireturn, 1) := dk_172 (dk_at dksX3_of_1 16 rfl rfl)
theorem dX3_of_41 : decode cX3_of 41 = .ok (.iload_n 2, 1) := dk_28 (dk_at dksX3_of_1 17 rfl rfl)
theorem dX3_of_42 : decode cX3_of 42 = .ok (.bipush 10, 2) := dk_16 10 (dk_at dksX3_of_1 18 rfl rfl)
theorem dX3_of_44 : decode cX3_of 44 = .ok (.bipush 9, 2) := dk_16 9 (dk_at dksX3_of_1 20 rfl rfl)
theorem dX3_of_46 : decode cX3_of 46 = .ok (.aload_n 0, 1) := dk_42 (dk_at dksX3_of_1 22 rfl rfl)
theorem dX3_of_47 : decode cX3_of 47 = .ok (.iload_n 1, 1) := dk_27 (dk_at dksX3_of_1 23 rfl rfl)
theorem dX3_of_48 : decode cX3_of 48 = .ok (.bipush 9, 2) := dk_16 9 (dk_at dksX3_of_2 0 rfl rfl)
theorem dX3_of_50 : decode cX3_of 50 = .ok (.invokevirtual 220, 3) := dk_182 0 220 (dk_at dksX3_of_2 2 rfl rfl)
theorem dX3_of_53 : decode cX3_of 53 = .ok (.iadd, 1) := dk_96 (dk_at dksX3_of_2 5 rfl rfl)
theorem dX3_of_54 : decode cX3_of 54 = .ok (.invokestatic 66, 3) := dk_184 0 66 (dk_at dksX3_of_2 6 rfl rfl)
theorem dX3_of_57 : decode cX3_of 57 = .ok (.ifCond .eq 18, 3) := dk_153 0 18 (dk_at dksX3_of_2 9 rfl rfl)
theorem dX3_of_60 : decode cX3_of 60 = .ok (.aload_n 0, 1) := dk_42 (dk_at dksX3_of_2 12 rfl rfl)
theorem dX3_of_61 : decode cX3_of 61 = .ok (.iload_n 1, 1) := dk_27 (dk_at dksX3_of_2 13 rfl rfl)
theorem dX3_of_62 : decode cX3_of 62 = .ok (.bipush 10, 2) := dk_16 10 (dk_at dksX3_of_2 14 rfl rfl)
theorem dX3_of_64 : decode cX3_of 64 = .ok (.iload_n 2, 1) := dk_28 (dk_at dksX3_of_2 16 rfl rfl)
theorem dX3_of_65 : decode cX3_of 65 = .ok (.iadd, 1) := dk_96 (dk_at dksX3_of_2 17 rfl rfl)
theorem dX3_of_66 : decode cX3_of 66 = .ok (.bipush 10, 2) := dk_16 10 (dk_at dksX3_of_2 18 rfl rfl)
theorem dX3_of_68 : decode cX3_of 68 = .ok (.isub, 1) := dk_100 (dk_at dksX3_of_2 20 rfl rfl)
theorem dX3_of_69 : decode cX3_of 69 = .ok (.invokevirtual 220, 3) := dk_182 0 220 (dk_at dksX3_of_2 21 rfl rfl)
theorem dX3_of_72 : decode cX3_of 72 = .ok (.goto 6, 3) := dk_167 0 6 (dk_at dksX3_of_3 0 rfl rfl)
theorem dX3_of_75 : decode cX3_of 75 = .ok (.ldc_w 259, 3) := dk_19 1 3 (dk_at dksX3_of_3 3 rfl rfl)
theorem dX3_of_78 : decode cX3_of 78 = .ok (.ireturn, 1) := dk_172 (dk_at dksX3_of_3 6 rfl rfl)
abbrev cX3_book : ByteArray := prog_14_method_48_code
def yX3_book : MethodName := ⟨RX3, "book", "(I)I"⟩
def dkwX3_book_2 : List UInt8 := [180, 0, 7, 17, 0, 170, 27, 96, 46, 167, 0, 4, 2, 172]
abbrev dktX3_book_2 : List UInt8 := dkwX3_book_2 ++ []
def dkwX3_book_1 : List UInt8 := [16, 10, 46, 167, 0, 34, 27, 3, 42, 180, 0, 7, 16, 9, 46, 4, 100, 184, 0, 66, 153, 0, 16, 42]
abbrev dktX3_book_1 : List UInt8 := dkwX3_book_1 ++ dktX3_book_2
def dkwX3_book_0 : List UInt8 := [42, 180, 0, 7, 16, 9, 46, 2, 160, 0, 5, 2, 172, 27, 16, 100, 160, 0, 13, 42, 180, 0, 7]
abbrev dktX3_book_0 : List UInt8 := dkwX3_book_0 ++ dktX3_book_1
theorem dksX3_book_0 : cX3_book.data.toList.drop 0 = dktX3_book_0 := by decide +kernel
theorem dksX3_book_1 : cX3_book.data.toList.drop 23 = dktX3_book_1 := dk_seg dksX3_book_0 23 rfl rfl
theorem dksX3_book_2 : cX3_book.data.toList.drop 47 = dktX3_book_2 := dk_seg dksX3_book_1 24 rfl rfl
theorem dX3_book_0 : decode cX3_book 0 = .ok (.aload_n 0, 1) := dk_42 (dk_at dksX3_book_0 0 rfl rfl)
theorem dX3_book_1 : decode cX3_book 1 = .ok (.getfield 7, 3) := dk_180 0 7 (dk_at dksX3_book_0 1 rfl rfl)
theorem dX3_book_4 : decode cX3_book 4 = .ok (.bipush 9, 2) := dk_16 9 (dk_at dksX3_book_0 4 rfl rfl)
theorem dX3_book_6 : decode cX3_book 6 = .ok (.iaload, 1) := dk_46 (dk_at dksX3_book_0 6 rfl rfl)
theorem dX3_book_7 : decode cX3_book 7 = .ok (.iconst (-1), 1) := dk_2 (dk_at dksX3_book_0 7 rfl rfl)
theorem dX3_book_8 : decode cX3_book 8 = .ok (.if_icmp .ne 5, 3) := dk_160 0 5 (dk_at dksX3_book_0 8 rfl rfl)
theorem dX3_book_11 : decode cX3_book 11 = .ok (.iconst (-1), 1) := dk_2 (dk_at dksX3_book_0 11 rfl rfl)
theorem dX3_book_12 : decode cX3_book 12 = .ok (.ireturn, 1) := dk_172 (dk_at dksX3_book_0 12 rfl rfl)
theorem dX3_book_13 : decode cX3_book 13 = .ok (.iload_n 1, 1) := dk_27 (dk_at dksX3_book_0 13 rfl rfl)
theorem dX3_book_14 : decode cX3_book 14 = .ok (.bipush 100, 2) := dk_16 100 (dk_at dksX3_book_0 14 rfl rfl)
theorem dX3_book_16 : decode cX3_book 16 = .ok (.if_icmp .ne 13, 3) := dk_160 0 13 (dk_at dksX3_book_0 16 rfl rfl)
theorem dX3_book_19 : decode cX3_book 19 = .ok (.aload_n 0, 1) := dk_42 (dk_at dksX3_book_0 19 rfl rfl)
theorem dX3_book_20 : decode cX3_book 20 = .ok (.getfield 7, 3) := dk_180 0 7 (dk_at dksX3_book_0 20 rfl rfl)
theorem dX3_book_23 : decode cX3_book 23 = .ok (.bipush 10, 2) := dk_16 10 (dk_at dksX3_book_1 0 rfl rfl)
theorem dX3_book_25 : decode cX3_book 25 = .ok (.iaload, 1) := dk_46 (dk_at dksX3_book_1 2 rfl rfl)
theorem dX3_book_26 : decode cX3_book 26 = .ok (.goto 34, 3) := dk_167 0 34 (dk_at dksX3_book_1 3 rfl rfl)
theorem dX3_book_29 : decode cX3_book 29 = .ok (.iload_n 1, 1) := dk_27 (dk_at dksX3_book_1 6 rfl rfl)
theorem dX3_book_30 : decode cX3_book 30 = .ok (.iconst 0, 1) := dk_3 (dk_at dksX3_book_1 7 rfl rfl)
theorem dX3_book_31 : decode cX3_book 31 = .ok (.aload_n 0, 1) := dk_42 (dk_at dksX3_book_1 8 rfl rfl)
theorem dX3_book_32 : decode cX3_book 32 = .ok (.getfield 7, 3) := dk_180 0 7 (dk_at dksX3_book_1 9 rfl rfl)
theorem dX3_book_35 : decode cX3_book 35 = .ok (.bipush 9, 2) := dk_16 9 (dk_at dksX3_book_1 12 rfl rfl)
theorem dX3_book_37 : decode cX3_book 37 = .ok (.iaload, 1) := dk_46 (dk_at dksX3_book_1 14 rfl rfl)
theorem dX3_book_38 : decode cX3_book 38 = .ok (.iconst 1, 1) := dk_4 (dk_at dksX3_book_1 15 rfl rfl)
theorem dX3_book_39 : decode cX3_book 39 = .ok (.isub, 1) := dk_100 (dk_at dksX3_book_1 16 rfl rfl)
theorem dX3_book_40 : decode cX3_book 40 = .ok (.invokestatic 66, 3) := dk_184 0 66 (dk_at dksX3_book_1 17 rfl rfl)
theorem dX3_book_43 : decode cX3_book 43 = .ok (.ifCond .eq 16, 3) := dk_153 0 16 (dk_at dksX3_book_1 20 rfl rfl)
theorem dX3_book_46 : decode cX3_book 46 = .ok (.aload_n 0, 1) := dk_42 (dk_at dksX3_book_1 23 rfl rfl)
theorem dX3_book_47 : decode cX3_book 47 = .ok (.getfield 7, 3) := dk_180 0 7 (dk_at dksX3_book_2 0 rfl rfl)
theorem dX3_book_50 : decode cX3_book 50 = .ok (.sipush 170, 3) := dk_17 0 170 (dk_at dksX3_book_2 3 rfl rfl)
theorem dX3_book_53 : decode cX3_book 53 = .ok (.iload_n 1, 1) := dk_27 (dk_at dksX3_book_2 6 rfl rfl)
theorem dX3_book_54 : decode cX3_book 54 = .ok (.iadd, 1) := dk_96 (dk_at dksX3_book_2 7 rfl rfl)
theorem dX3_book_55 : decode cX3_book 55 = .ok (.iaload, 1) := dk_46 (dk_at dksX3_book_2 8 rfl rfl)
theorem dX3_book_56 : decode cX3_book 56 = .ok (.goto 4, 3) := dk_167 0 4 (dk_at dksX3_book_2 9 rfl rfl)
theorem dX3_book_59 : decode cX3_book 59 = .ok (.iconst (-1), 1) := dk_2 (dk_at dksX3_book_2 12 rfl rfl)
theorem dX3_book_60 : decode cX3_book 60 = .ok (.ireturn, 1) := dk_172 (dk_at dksX3_book_2 13 rfl rfl)
abbrev cX3_gain : ByteArray := prog_14_method_51_code
def yX3_gain : MethodName := ⟨RX3, "gain", "(I)I"⟩
def dkwX3_gain_5 : List UInt8 := [42, 182, 1, 4, 87, 42, 21, 4, 182, 1, 7, 172]
abbrev dktX3_gain_5 : List UInt8 := dkwX3_gain_5 ++ []
def dkwX3_gain_4 : List UInt8 := [21, 6, 79, 21, 6, 27, 160, 0, 8, 21, 5, 167, 0, 5, 21, 4, 54, 4, 132, 5, 1, 167, 255, 181]
abbrev dktX3_gain_4 : List UInt8 := dkwX3_gain_4 ++ dktX3_gain_5
def dkwX3_gain_3 : List UInt8 := [4, 126, 4, 160, 0, 7, 19, 1, 3, 172, 29, 4, 21, 6, 120, 128, 62, 42, 180, 0, 44, 21, 5]
abbrev dktX3_gain_3 : List UInt8 := dkwX3_gain_3 ++ dktX3_gain_4
def dkwX3_gain_2 : List UInt8 := [180, 0, 25, 21, 5, 46, 16, 48, 100, 54, 6, 42, 21, 6, 182, 0, 216, 153, 0, 13, 29, 21, 6, 122]
abbrev dktX3_gain_2 : List UInt8 := dkwX3_gain_2 ++ dktX3_gain_3
def dkwX3_gain_1 : List UInt8 := [46, 159, 0, 7, 19, 1, 3, 172, 3, 62, 2, 54, 4, 3, 54, 5, 21, 5, 28, 162, 0, 75, 42]
abbrev dktX3_gain_1 : List UInt8 := dkwX3_gain_1 ++ dktX3_gain_2
def dkwX3_gain_0 : List UInt8 := [42, 180, 0, 75, 61, 42, 3, 181, 0, 75, 42, 27, 182, 0, 216, 153, 0, 13, 28, 42, 180, 0, 7, 7]
abbrev dktX3_gain_0 : List UInt8 := dkwX3_gain_0 ++ dktX3_gain_1
theorem dksX3_gain_0 : cX3_gain.data.toList.drop 0 = dktX3_gain_0 := by decide +kernel
theorem dksX3_gain_1 : cX3_gain.data.toList.drop 24 = dktX3_gain_1 := dk_seg dksX3_gain_0 24 rfl rfl
theorem dksX3_gain_2 : cX3_gain.data.toList.drop 47 = dktX3_gain_2 := dk_seg dksX3_gain_1 23 rfl rfl
theorem dksX3_gain_3 : cX3_gain.data.toList.drop 71 = dktX3_gain_3 := dk_seg dksX3_gain_2 24 rfl rfl
theorem dksX3_gain_4 : cX3_gain.data.toList.drop 94 = dktX3_gain_4 := dk_seg dksX3_gain_3 23 rfl rfl
theorem dksX3_gain_5 : cX3_gain.data.toList.drop 118 = dktX3_gain_5 := dk_seg dksX3_gain_4 24 rfl rfl
theorem dX3_gain_0 : decode cX3_gain 0 = .ok (.aload_n 0, 1) := dk_42 (dk_at dksX3_gain_0 0 rfl rfl)
theorem dX3_gain_1 : decode cX3_gain 1 = .ok (.getfield 75, 3) := dk_180 0 75 (dk_at dksX3_gain_0 1 rfl rfl)
theorem dX3_gain_4 : decode cX3_gain 4 = .ok (.istore_n 2, 1) := dk_61 (dk_at dksX3_gain_0 4 rfl rfl)
theorem dX3_gain_5 : decode cX3_gain 5 = .ok (.aload_n 0, 1) := dk_42 (dk_at dksX3_gain_0 5 rfl rfl)
theorem dX3_gain_6 : decode cX3_gain 6 = .ok (.iconst 0, 1) := dk_3 (dk_at dksX3_gain_0 6 rfl rfl)
theorem dX3_gain_7 : decode cX3_gain 7 = .ok (.putfield 75, 3) := dk_181 0 75 (dk_at dksX3_gain_0 7 rfl rfl)
theorem dX3_gain_10 : decode cX3_gain 10 = .ok (.aload_n 0, 1) := dk_42 (dk_at dksX3_gain_0 10 rfl rfl)
theorem dX3_gain_11 : decode cX3_gain 11 = .ok (.iload_n 1, 1) := dk_27 (dk_at dksX3_gain_0 11 rfl rfl)
theorem dX3_gain_12 : decode cX3_gain 12 = .ok (.invokevirtual 216, 3) := dk_182 0 216 (dk_at dksX3_gain_0 12 rfl rfl)
theorem dX3_gain_15 : decode cX3_gain 15 = .ok (.ifCond .eq 13, 3) := dk_153 0 13 (dk_at dksX3_gain_0 15 rfl rfl)
theorem dX3_gain_18 : decode cX3_gain 18 = .ok (.iload_n 2, 1) := dk_28 (dk_at dksX3_gain_0 18 rfl rfl)
theorem dX3_gain_19 : decode cX3_gain 19 = .ok (.aload_n 0, 1) := dk_42 (dk_at dksX3_gain_0 19 rfl rfl)
theorem dX3_gain_20 : decode cX3_gain 20 = .ok (.getfield 7, 3) := dk_180 0 7 (dk_at dksX3_gain_0 20 rfl rfl)
theorem dX3_gain_23 : decode cX3_gain 23 = .ok (.iconst 4, 1) := dk_7 (dk_at dksX3_gain_0 23 rfl rfl)
theorem dX3_gain_24 : decode cX3_gain 24 = .ok (.iaload, 1) := dk_46 (dk_at dksX3_gain_1 0 rfl rfl)
theorem dX3_gain_25 : decode cX3_gain 25 = .ok (.if_icmp .eq 7, 3) := dk_159 0 7 (dk_at dksX3_gain_1 1 rfl rfl)
theorem dX3_gain_28 : decode cX3_gain 28 = .ok (.ldc_w 259, 3) := dk_19 1 3 (dk_at dksX3_gain_1 4 rfl rfl)
theorem dX3_gain_31 : decode cX3_gain 31 = .ok (.ireturn, 1) := dk_172 (dk_at dksX3_gain_1 7 rfl rfl)
theorem dX3_gain_32 : decode cX3_gain 32 = .ok (.iconst 0, 1) := dk_3 (dk_at dksX3_gain_1 8 rfl rfl)
theorem dX3_gain_33 : decode cX3_gain 33 = .ok (.istore_n 3, 1) := dk_62 (dk_at dksX3_gain_1 9 rfl rfl)
theorem dX3_gain_34 : decode cX3_gain 34 = .ok (.iconst (-1), 1) := dk_2 (dk_at dksX3_gain_1 10 rfl rfl)
theorem dX3_gain_35 : decode cX3_gain 35 = .ok (.istore 4, 2) := dk_54 4 (dk_at dksX3_gain_1 11 rfl rfl)
theorem dX3_gain_37 : decode cX3_gain 37 = .ok (.iconst 0, 1) := dk_3 (dk_at dksX3_gain_1 13 rfl rfl)
theorem dX3_gain_38 : decode cX3_gain 38 = .ok (.istore 5, 2) := dk_54 5 (dk_at dksX3_gain_1 14 rfl rfl)
theorem dX3_gain_40 : decode cX3_gain 40 = .ok (.iload 5, 2) := dk_21 5 (dk_at dksX3_gain_1 16 rfl rfl)
theorem dX3_gain_42 : decode cX3_gain 42 = .ok (.iload_n 2, 1) := dk_28 (dk_at dksX3_gain_1 18 rfl rfl)
theorem dX3_gain_43 : decode cX3_gain 43 = .ok (.if_icmp .ge 75, 3) := dk_162 0 75 (dk_at dksX3_gain_1 19 rfl rfl)
theorem dX3_gain_46 : decode cX3_gain 46 = .ok (.aload_n 0, 1) := dk_42 (dk_at dksX3_gain_1 22 rfl rfl)
theorem dX3_gain_47 : decode cX3_gain 47 = .ok (.getfield 25, 3) := dk_180 0 25 (dk_at dksX3_gain_2 0 rfl rfl)
theorem dX3_gain_50 : decode cX3_gain 50 = .ok (.iload 5, 2) := dk_21 5 (dk_at dksX3_gain_2 3 rfl rfl)
theorem dX3_gain_52 : decode cX3_gain 52 = .ok (.iaload, 1) := dk_46 (dk_at dksX3_gain_2 5 rfl rfl)
theorem dX3_gain_53 : decode cX3_gain 53 = .ok (.bipush 48, 2) := dk_16 48 (dk_at dksX3_gain_2 6 rfl rfl)
theorem dX3_gain_55 : decode cX3_gain 55 = .ok (.isub, 1) := dk_100 (dk_at dksX3_gain_2 8 rfl rfl)
theorem dX3_gain_56 : decode cX3_gain 56 = .ok (.istore 6, 2) := dk_54 6 (dk_at dksX3_gain_2 9 rfl rfl)
theorem dX3_gain_58 : decode cX3_gain 58 = .ok (.aload_n 0, 1) := dk_42 (dk_at dksX3_gain_2 11 rfl rfl)
theorem dX3_gain_59 : decode cX3_gain 59 = .ok (.iload 6, 2) := dk_21 6 (dk_at dksX3_gain_2 12 rfl rfl)
theorem dX3_gain_61 : decode cX3_gain 61 = .ok (.invokevirtual 216, 3) := dk_182 0 216 (dk_at dksX3_gain_2 14 rfl rfl)
theorem dX3_gain_64 : decode cX3_gain 64 = .ok (.ifCond .eq 13, 3) := dk_153 0 13 (dk_at dksX3_gain_2 17 rfl rfl)
theorem dX3_gain_67 : decode cX3_gain 67 = .ok (.iload_n 3, 1) := dk_29 (dk_at dksX3_gain_2 20 rfl rfl)
theorem dX3_gain_68 : decode cX3_gain 68 = .ok (.iload 6, 2) := dk_21 6 (dk_at dksX3_gain_2 21 rfl rfl)
theorem dX3_gain_70 : decode cX3_gain 70 = .ok (.ishr, 1) := dk_122 (dk_at dksX3_gain_2 23 rfl rfl)
theorem dX3_gain_71 : decode cX3_gain 71 = .ok (.iconst 1, 1) := dk_4 (dk_at dksX3_gain_3 0 rfl rfl)
theorem dX3_gain_72 : decode cX3_gain 72 = .ok (.iand, 1) := dk_126 (dk_at dksX3_gain_3 1 rfl rfl)
theorem dX3_gain_73 : decode cX3_gain 73 = .ok (.iconst 1, 1) := dk_4 (dk_at dksX3_gain_3 2 rfl rfl)
theorem dX3_gain_74 : decode cX3_gain 74 = .ok (.if_icmp .ne 7, 3) := dk_160 0 7 (dk_at dksX3_gain_3 3 rfl rfl)
theorem dX3_gain_77 : decode cX3_gain 77 = .ok (.ldc_w 259, 3) := dk_19 1 3 (dk_at dksX3_gain_3 6 rfl rfl)
theorem dX3_gain_80 : decode cX3_gain 80 = .ok (.ireturn, 1) := dk_172 (dk_at dksX3_gain_3 9 rfl rfl)
theorem dX3_gain_81 : decode cX3_gain 81 = .ok (.iload_n 3, 1) := dk_29 (dk_at dksX3_gain_3 10 rfl rfl)
theorem dX3_gain_82 : decode cX3_gain 82 = .ok (.iconst 1, 1) := dk_4 (dk_at dksX3_gain_3 11 rfl rfl)
theorem dX3_gain_83 : decode cX3_gain 83 = .ok (.iload 6, 2) := dk_21 6 (dk_at dksX3_gain_3 12 rfl rfl)
theorem dX3_gain_85 : decode cX3_gain 85 = .ok (.ishl, 1) := dk_120 (dk_at dksX3_gain_3 14 rfl rfl)
theorem dX3_gain_86 : decode cX3_gain 86 = .ok (.ior, 1) := dk_128 (dk_at dksX3_gain_3 15 rfl rfl)
theorem dX3_gain_87 : decode cX3_gain 87 = .ok (.istore_n 3, 1) := dk_62 (dk_at dksX3_gain_3 16 rfl rfl)
theorem dX3_gain_88 : decode cX3_gain 88 = .ok (.aload_n 0, 1) := dk_42 (dk_at dksX3_gain_3 17 rfl rfl)
theorem dX3_gain_89 : decode cX3_gain 89 = .ok (.getfield 44, 3) := dk_180 0 44 (dk_at dksX3_gain_3 18 rfl rfl)
theorem dX3_gain_92 : decode cX3_gain 92 = .ok (.iload 5, 2) := dk_21 5 (dk_at dksX3_gain_3 21 rfl rfl)
theorem dX3_gain_94 : decode cX3_gain 94 = .ok (.iload 6, 2) := dk_21 6 (dk_at dksX3_gain_4 0 rfl rfl)
theorem dX3_gain_96 : decode cX3_gain 96 = .ok (.iastore, 1) := dk_79 (dk_at dksX3_gain_4 2 rfl rfl)
theorem dX3_gain_97 : decode cX3_gain 97 = .ok (.iload 6, 2) := dk_21 6 (dk_at dksX3_gain_4 3 rfl rfl)
theorem dX3_gain_99 : decode cX3_gain 99 = .ok (.iload_n 1, 1) := dk_27 (dk_at dksX3_gain_4 5 rfl rfl)
theorem dX3_gain_100 : decode cX3_gain 100 = .ok (.if_icmp .ne 8, 3) := dk_160 0 8 (dk_at dksX3_gain_4 6 rfl rfl)
theorem dX3_gain_103 : decode cX3_gain 103 = .ok (.iload 5, 2) := dk_21 5 (dk_at dksX3_gain_4 9 rfl rfl)
theorem dX3_gain_105 : decode cX3_gain 105 = .ok (.goto 5, 3) := dk_167 0 5 (dk_at dksX3_gain_4 11 rfl rfl)
theorem dX3_gain_108 : decode cX3_gain 108 = .ok (.iload 4, 2) := dk_21 4 (dk_at dksX3_gain_4 14 rfl rfl)
theorem dX3_gain_110 : decode cX3_gain 110 = .ok (.istore 4, 2) := dk_54 4 (dk_at dksX3_gain_4 16 rfl rfl)
theorem dX3_gain_112 : decode cX3_gain 112 = .ok (.iinc 5 1, 3) := dk_132 5 1 (dk_at dksX3_gain_4 18 rfl rfl)
theorem dX3_gain_115 : decode cX3_gain 115 = .ok (.goto (-75), 3) := dk_167 255 181 (dk_at dksX3_gain_4 21 rfl rfl)
theorem dX3_gain_118 : decode cX3_gain 118 = .ok (.aload_n 0, 1) := dk_42 (dk_at dksX3_gain_5 0 rfl rfl)
theorem dX3_gain_119 : decode cX3_gain 119 = .ok (.invokevirtual 260, 3) := dk_182 1 4 (dk_at dksX3_gain_5 1 rfl rfl)
theorem dX3_gain_122 : decode cX3_gain 122 = .ok (.pop, 1) := dk_87 (dk_at dksX3_gain_5 4 rfl rfl)
theorem dX3_gain_123 : decode cX3_gain 123 = .ok (.aload_n 0, 1) := dk_42 (dk_at dksX3_gain_5 5 rfl rfl)
theorem dX3_gain_124 : decode cX3_gain 124 = .ok (.iload 4, 2) := dk_21 4 (dk_at dksX3_gain_5 6 rfl rfl)
theorem dX3_gain_126 : decode cX3_gain 126 = .ok (.invokevirtual 263, 3) := dk_182 1 7 (dk_at dksX3_gain_5 8 rfl rfl)
theorem dX3_gain_129 : decode cX3_gain 129 = .ok (.ireturn, 1) := dk_172 (dk_at dksX3_gain_5 11 rfl rfl)
abbrev cX3_bakes : ByteArray := prog_14_method_49_code
def yX3_bakes : MethodName := ⟨RX3, "bakes", "()I"⟩
def dkwX3_bakes_2 : List UInt8 := [167, 255, 218, 27, 172]
abbrev dktX3_bakes_2 : List UInt8 := dkwX3_bakes_2 ++ []
def dkwX3_bakes_1 : List UInt8 := [42, 42, 180, 0, 44, 28, 46, 182, 0, 253, 79, 27, 42, 180, 0, 47, 28, 46, 96, 60, 132, 2, 1]
abbrev dktX3_bakes_1 : List UInt8 := dkwX3_bakes_1 ++ dktX3_bakes_2
def dkwX3_bakes_0 : List UInt8 := [3, 60, 42, 3, 181, 0, 247, 3, 61, 28, 42, 180, 0, 7, 7, 46, 162, 0, 34, 42, 180, 0, 47, 28]
abbrev dktX3_bakes_0 : List UInt8 := dkwX3_bakes_0 ++ dktX3_bakes_1
theorem dksX3_bakes_0 : cX3_bakes.data.toList.drop 0 = dktX3_bakes_0 := by decide +kernel
theorem dksX3_bakes_1 : cX3_bakes.data.toList.drop 24 = dktX3_bakes_1 := dk_seg dksX3_bakes_0 24 rfl rfl
theorem dksX3_bakes_2 : cX3_bakes.data.toList.drop 47 = dktX3_bakes_2 := dk_seg dksX3_bakes_1 23 rfl rfl
theorem dX3_bakes_0 : decode cX3_bakes 0 = .ok (.iconst 0, 1) := dk_3 (dk_at dksX3_bakes_0 0 rfl rfl)
theorem dX3_bakes_1 : decode cX3_bakes 1 = .ok (.istore_n 1, 1) := dk_60 (dk_at dksX3_bakes_0 1 rfl rfl)
theorem dX3_bakes_2 : decode cX3_bakes 2 = .ok (.aload_n 0, 1) := dk_42 (dk_at dksX3_bakes_0 2 rfl rfl)
theorem dX3_bakes_3 : decode cX3_bakes 3 = .ok (.iconst 0, 1) := dk_3 (dk_at dksX3_bakes_0 3 rfl rfl)
theorem dX3_bakes_4 : decode cX3_bakes 4 = .ok (.putfield 247, 3) := dk_181 0 247 (dk_at dksX3_bakes_0 4 rfl rfl)
theorem dX3_bakes_7 : decode cX3_bakes 7 = .ok (.iconst 0, 1) := dk_3 (dk_at dksX3_bakes_0 7 rfl rfl)
theorem dX3_bakes_8 : decode cX3_bakes 8 = .ok (.istore_n 2, 1) := dk_61 (dk_at dksX3_bakes_0 8 rfl rfl)
theorem dX3_bakes_9 : decode cX3_bakes 9 = .ok (.iload_n 2, 1) := dk_28 (dk_at dksX3_bakes_0 9 rfl rfl)
theorem dX3_bakes_10 : decode cX3_bakes 10 = .ok (.aload_n 0, 1) := dk_42 (dk_at dksX3_bakes_0 10 rfl rfl)
theorem dX3_bakes_11 : decode cX3_bakes 11 = .ok (.getfield 7, 3) := dk_180 0 7 (dk_at dksX3_bakes_0 11 rfl rfl)
theorem dX3_bakes_14 : decode cX3_bakes 14 = .ok (.iconst 4, 1) := dk_7 (dk_at dksX3_bakes_0 14 rfl rfl)
theorem dX3_bakes_15 : decode cX3_bakes 15 = .ok (.iaload, 1) := dk_46 (dk_at dksX3_bakes_0 15 rfl rfl)
theorem dX3_bakes_16 : decode cX3_bakes 16 = .ok (.if_icmp .ge 34, 3) := dk_162 0 34 (dk_at dksX3_bakes_0 16 rfl rfl)
theorem dX3_bakes_19 : decode cX3_bakes 19 = .ok (.aload_n 0, 1) := dk_42 (dk_at dksX3_bakes_0 19 rfl rfl)
theorem dX3_bakes_20 : decode cX3_bakes 20 = .ok (.getfield 47, 3) := dk_180 0 47 (dk_at dksX3_bakes_0 20 rfl rfl)
theorem dX3_bakes_23 : decode cX3_bakes 23 = .ok (.iload_n 2, 1) := dk_28 (dk_at dksX3_bakes_0 23 rfl rfl)
theorem dX3_bakes_24 : decode cX3_bakes 24 = .ok (.aload_n 0, 1) := dk_42 (dk_at dksX3_bakes_1 0 rfl rfl)
theorem dX3_bakes_25 : decode cX3_bakes 25 = .ok (.aload_n 0, 1) := dk_42 (dk_at dksX3_bakes_1 1 rfl rfl)
theorem dX3_bakes_26 : decode cX3_bakes 26 = .ok (.getfield 44, 3) := dk_180 0 44 (dk_at dksX3_bakes_1 2 rfl rfl)
theorem dX3_bakes_29 : decode cX3_bakes 29 = .ok (.iload_n 2, 1) := dk_28 (dk_at dksX3_bakes_1 5 rfl rfl)
theorem dX3_bakes_30 : decode cX3_bakes 30 = .ok (.iaload, 1) := dk_46 (dk_at dksX3_bakes_1 6 rfl rfl)
theorem dX3_bakes_31 : decode cX3_bakes 31 = .ok (.invokevirtual 253, 3) := dk_182 0 253 (dk_at dksX3_bakes_1 7 rfl rfl)
theorem dX3_bakes_34 : decode cX3_bakes 34 = .ok (.iastore, 1) := dk_79 (dk_at dksX3_bakes_1 10 rfl rfl)
theorem dX3_bakes_35 : decode cX3_bakes 35 = .ok (.iload_n 1, 1) := dk_27 (dk_at dksX3_bakes_1 11 rfl rfl)
theorem dX3_bakes_36 : decode cX3_bakes 36 = .ok (.aload_n 0, 1) := dk_42 (dk_at dksX3_bakes_1 12 rfl rfl)
theorem dX3_bakes_37 : decode cX3_bakes 37 = .ok (.getfield 47, 3) := dk_180 0 47 (dk_at dksX3_bakes_1 13 rfl rfl)
theorem dX3_bakes_40 : decode cX3_bakes 40 = .ok (.iload_n 2, 1) := dk_28 (dk_at dksX3_bakes_1 16 rfl rfl)
theorem dX3_bakes_41 : decode cX3_bakes 41 = .ok (.iaload, 1) := dk_46 (dk_at dksX3_bakes_1 17 rfl rfl)
theorem dX3_bakes_42 : decode cX3_bakes 42 = .ok (.iadd, 1) := dk_96 (dk_at dksX3_bakes_1 18 rfl rfl)
theorem dX3_bakes_43 : decode cX3_bakes 43 = .ok (.istore_n 1, 1) := dk_60 (dk_at dksX3_bakes_1 19 rfl rfl)
theorem dX3_bakes_44 : decode cX3_bakes 44 = .ok (.iinc 2 1, 3) := dk_132 2 1 (dk_at dksX3_bakes_1 20 rfl rfl)
theorem dX3_bakes_47 : decode cX3_bakes 47 = .ok (.goto (-38), 3) := dk_167 255 218 (dk_at dksX3_bakes_2 0 rfl rfl)
theorem dX3_bakes_50 : decode cX3_bakes 50 = .ok (.iload_n 1, 1) := dk_27 (dk_at dksX3_bakes_2 3 rfl rfl)
theorem dX3_bakes_51 : decode cX3_bakes 51 = .ok (.ireturn, 1) := dk_172 (dk_at dksX3_bakes_2 4 rfl rfl)
abbrev cX3_gainAt : ByteArray := prog_14_method_50_code
def yX3_gainAt : MethodName := ⟨RX3, "gainAt", "(I)I"⟩
def dkwX3_gainAt_2 : List UInt8 := [16, 9, 108, 96, 61, 28, 42, 180, 0, 7, 5, 46, 42, 180, 0, 47, 27, 46, 104, 100, 172]
abbrev dktX3_gainAt_2 : List UInt8 := dkwX3_gainAt_2 ++ []
def dkwX3_gainAt_1 : List UInt8 := [4, 96, 42, 180, 0, 7, 7, 46, 162, 0, 21, 28, 42, 42, 180, 0, 44, 27, 4, 96, 46, 182, 0, 244]
abbrev dktX3_gainAt_1 : List UInt8 := dkwX3_gainAt_1 ++ dktX3_gainAt_2
def dkwX3_gainAt_0 : List UInt8 := [27, 154, 0, 7, 3, 167, 0, 17, 42, 42, 180, 0, 44, 27, 46, 182, 0, 244, 16, 9, 108, 116, 61, 27]
abbrev dktX3_gainAt_0 : List UInt8 := dkwX3_gainAt_0 ++ dktX3_gainAt_1
theorem dksX3_gainAt_0 : cX3_gainAt.data.toList.drop 0 = dktX3_gainAt_0 := by decide +kernel
theorem dksX3_gainAt_1 : cX3_gainAt.data.toList.drop 24 = dktX3_gainAt_1 := dk_seg dksX3_gainAt_0 24 rfl rfl
theorem dksX3_gainAt_2 : cX3_gainAt.data.toList.drop 48 = dktX3_gainAt_2 := dk_seg dksX3_gainAt_1 24 rfl rfl
theorem dX3_gainAt_0 : decode cX3_gainAt 0 = .ok (.iload_n 1, 1) := dk_27 (dk_at dksX3_gainAt_0 0 rfl rfl)
theorem dX3_gainAt_1 : decode cX3_gainAt 1 = .ok (.ifCond .ne 7, 3) := dk_154 0 7 (dk_at dksX3_gainAt_0 1 rfl rfl)
theorem dX3_gainAt_4 : decode cX3_gainAt 4 = .ok (.iconst 0, 1) := dk_3 (dk_at dksX3_gainAt_0 4 rfl rfl)
theorem dX3_gainAt_5 : decode cX3_gainAt 5 = .ok (.goto 17, 3) := dk_167 0 17 (dk_at dksX3_gainAt_0 5 rfl rfl)
theorem dX3_gainAt_8 : decode cX3_gainAt 8 = .ok (.aload_n 0, 1) := dk_42 (dk_at dksX3_gainAt_0 8 rfl rfl)
theorem dX3_gainAt_9 : decode cX3_gainAt 9 = .ok (.aload_n 0, 1) := dk_42 (dk_at dksX3_gainAt_0 9 rfl rfl)
theorem dX3_gainAt_10 : decode cX3_gainAt 10 = .ok (.getfield 44, 3) := dk_180 0 44 (dk_at dksX3_gainAt_0 10 rfl rfl)
theorem dX3_gainAt_13 : decode cX3_gainAt 13 = .ok (.iload_n 1, 1) := dk_27 (dk_at dksX3_gainAt_0 13 rfl rfl)
theorem dX3_gainAt_14 : decode cX3_gainAt 14 = .ok (.iaload, 1) := dk_46 (dk_at dksX3_gainAt_0 14 rfl rfl)
theorem dX3_gainAt_15 : decode cX3_gainAt 15 = .ok (.invokevirtual 244, 3) := dk_182 0 244 (dk_at dksX3_gainAt_0 15 rfl rfl)
theorem dX3_gainAt_18 : decode cX3_gainAt 18 = .ok (.bipush 9, 2) := dk_16 9 (dk_at dksX3_gainAt_0 18 rfl rfl)
theorem dX3_gainAt_20 : decode cX3_gainAt 20 = .ok (.idiv, 1) := dk_108 (dk_at dksX3_gainAt_0 20 rfl rfl)
theorem dX3_gainAt_21 : decode cX3_gainAt 21 = .ok (.ineg, 1) := dk_116 (dk_at dksX3_gainAt_0 21 rfl rfl)
theorem dX3_gainAt_22 : decode cX3_gainAt 22 = .ok (.istore_n 2, 1) := dk_61 (dk_at dksX3_gainAt_0 22 rfl rfl)
theorem dX3_gainAt_23 : decode cX3_gainAt 23 = .ok (.iload_n 1, 1) := dk_27 (dk_at dksX3_gainAt_0 23 rfl rfl)
theorem dX3_gainAt_24 : decode cX3_gainAt 24 = .ok (.iconst 1, 1) := dk_4 (dk_at dksX3_gainAt_1 0 rfl rfl)
theorem dX3_gainAt_25 : decode cX3_gainAt 25 = .ok (.iadd, 1) := dk_96 (dk_at dksX3_gainAt_1 1 rfl rfl)
theorem dX3_gainAt_26 : decode cX3_gainAt 26 = .ok (.aload_n 0, 1) := dk_42 (dk_at dksX3_gainAt_1 2 rfl rfl)
theorem dX3_gainAt_27 : decode cX3_gainAt 27 = .ok (.getfield 7, 3) := dk_180 0 7 (dk_at dksX3_gainAt_1 3 rfl rfl)
theorem dX3_gainAt_30 : decode cX3_gainAt 30 = .ok (.iconst 4, 1) := dk_7 (dk_at dksX3_gainAt_1 6 rfl rfl)
theorem dX3_gainAt_31 : decode cX3_gainAt 31 = .ok (.iaload, 1) := dk_46 (dk_at dksX3_gainAt_1 7 rfl rfl)
theorem dX3_gainAt_32 : decode cX3_gainAt 32 = .ok (.if_icmp .ge 21, 3) := dk_162 0 21 (dk_at dksX3_gainAt_1 8 rfl rfl)
theorem dX3_gainAt_35 : decode cX3_gainAt 35 = .ok (.iload_n 2, 1) := dk_28 (dk_at dksX3_gainAt_1 11 rfl rfl)
theorem dX3_gainAt_36 : decode cX3_gainAt 36 = .ok (.aload_n 0, 1) := dk_42 (dk_at dksX3_gainAt_1 12 rfl rfl)
theorem dX3_gainAt_37 : decode cX3_gainAt 37 = .ok (.aload_n 0, 1) := dk_42 (dk_at dksX3_gainAt_1 13 rfl rfl)
theorem dX3_gainAt_38 : decode cX3_gainAt 38 = .ok (.getfield 44, 3) := dk_180 0 44 (dk_at dksX3_gainAt_1 14 rfl rfl)
theorem dX3_gainAt_41 : decode cX3_gainAt 41 = .ok (.iload_n 1, 1) := dk_27 (dk_at dksX3_gainAt_1 17 rfl rfl)
theorem dX3_gainAt_42 : decode cX3_gainAt 42 = .ok (.iconst 1, 1) := dk_4 (dk_at dksX3_gainAt_1 18 rfl rfl)
theorem dX3_gainAt_43 : decode cX3_gainAt 43 = .ok (.iadd, 1) := dk_96 (dk_at dksX3_gainAt_1 19 rfl rfl)
theorem dX3_gainAt_44 : decode cX3_gainAt 44 = .ok (.iaload, 1) := dk_46 (dk_at dksX3_gainAt_1 20 rfl rfl)
theorem dX3_gainAt_45 : decode cX3_gainAt 45 = .ok (.invokevirtual 244, 3) := dk_182 0 244 (dk_at dksX3_gainAt_1 21 rfl rfl)
theorem dX3_gainAt_48 : decode cX3_gainAt 48 = .ok (.bipush 9, 2) := dk_16 9 (dk_at dksX3_gainAt_2 0 rfl rfl)
theorem dX3_gainAt_50 : decode cX3_gainAt 50 = .ok (.idiv, 1) := dk_108 (dk_at dksX3_gainAt_2 2 rfl rfl)
theorem dX3_gainAt_51 : decode cX3_gainAt 51 = .ok (.iadd, 1) := dk_96 (dk_at dksX3_gainAt_2 3 rfl rfl)
theorem dX3_gainAt_52 : decode cX3_gainAt 52 = .ok (.istore_n 2, 1) := dk_61 (dk_at dksX3_gainAt_2 4 rfl rfl)
theorem dX3_gainAt_53 : decode cX3_gainAt 53 = .ok (.iload_n 2, 1) := dk_28 (dk_at dksX3_gainAt_2 5 rfl rfl)
theorem dX3_gainAt_54 : decode cX3_gainAt 54 = .ok (.aload_n 0, 1) := dk_42 (dk_at dksX3_gainAt_2 6 rfl rfl)
theorem dX3_gainAt_55 : decode cX3_gainAt 55 = .ok (.getfield 7, 3) := dk_180 0 7 (dk_at dksX3_gainAt_2 7 rfl rfl)
theorem dX3_gainAt_58 : decode cX3_gainAt 58 = .ok (.iconst 2, 1) := dk_5 (dk_at dksX3_gainAt_2 10 rfl rfl)
theorem dX3_gainAt_59 : decode cX3_gainAt 59 = .ok (.iaload, 1) := dk_46 (dk_at dksX3_gainAt_2 11 rfl rfl)
theorem dX3_gainAt_60 : decode cX3_gainAt 60 = .ok (.aload_n 0, 1) := dk_42 (dk_at dksX3_gainAt_2 12 rfl rfl)
theorem dX3_gainAt_61 : decode cX3_gainAt 61 = .ok (.getfield 47, 3) := dk_180 0 47 (dk_at dksX3_gainAt_2 13 rfl rfl)
theorem dX3_gainAt_64 : decode cX3_gainAt 64 = .ok (.iload_n 1, 1) := dk_27 (dk_at dksX3_gainAt_2 16 rfl rfl)
theorem dX3_gainAt_65 : decode cX3_gainAt 65 = .ok (.iaload, 1) := dk_46 (dk_at dksX3_gainAt_2 17 rfl rfl)
theorem dX3_gainAt_66 : decode cX3_gainAt 66 = .ok (.imul, 1) := dk_104 (dk_at dksX3_gainAt_2 18 rfl rfl)
theorem dX3_gainAt_67 : decode cX3_gainAt 67 = .ok (.isub, 1) := dk_100 (dk_at dksX3_gainAt_2 19 rfl rfl)
theorem dX3_gainAt_68 : decode cX3_gainAt 68 = .ok (.ireturn, 1) := dk_172 (dk_at dksX3_gainAt_2 20 rfl rfl)
abbrev cX3_orders : ByteArray := prog_14_method_57_code
def yX3_orders : MethodName := ⟨RX3, "orders", "(I)I"⟩
def dkwX3_orders_1 : List UInt8 := [180, 1, 26, 154, 0, 7, 2, 167, 0, 12, 42, 180, 0, 50, 27, 16, 10, 100, 46, 172]
abbrev dktX3_orders_1 : List UInt8 := dkwX3_orders_1 ++ []
def dkwX3_orders_0 : List UInt8 := [42, 27, 182, 1, 29, 154, 0, 7, 2, 167, 0, 34, 27, 154, 0, 10, 42, 180, 1, 26, 167, 0, 23, 42]
abbrev dktX3_orders_0 : List UInt8 := dkwX3_orders_0 ++ dktX3_orders_1
theorem dksX3_orders_0 : cX3_orders.data.toList.drop 0 = dktX3_orders_0 := by decide +kernel
theorem dksX3_orders_1 : cX3_orders.data.toList.drop 24 = dktX3_orders_1 := dk_seg dksX3_orders_0 24 rfl rfl
theorem dX3_orders_0 : decode cX3_orders 0 = .ok (.aload_n 0, 1) := dk_42 (dk_at dksX3_orders_0 0 rfl rfl)
theorem dX3_orders_1 : decode cX3_orders 1 = .ok (.iload_n 1, 1) := dk_27 (dk_at dksX3_orders_0 1 rfl rfl)
theorem dX3_orders_2 : decode cX3_orders 2 = .ok (.invokevirtual 285, 3) := dk_182 1 29 (dk_at dksX3_orders_0 2 rfl rfl)
theorem dX3_orders_5 : decode cX3_orders 5 = .ok (.ifCond .ne 7, 3) := dk_154 0 7 (dk_at dksX3_orders_0 5 rfl rfl)
theorem dX3_orders_8 : decode cX3_orders 8 = .ok (.iconst (-1), 1) := dk_2 (dk_at dksX3_orders_0 8 rfl rfl)
theorem dX3_orders_9 : decode cX3_orders 9 = .ok (.goto 34, 3) := dk_167 0 34 (dk_at dksX3_orders_0 9 rfl rfl)
theorem dX3_orders_12 : decode cX3_orders 12 = .ok (.iload_n 1, 1) := dk_27 (dk_at dksX3_orders_0 12 rfl rfl)
theorem dX3_orders_13 : decode cX3_orders 13 = .ok (.ifCond .ne 10, 3) := dk_154 0 10 (dk_at dksX3_orders_0 13 rfl rfl)
theorem dX3_orders_16 : decode cX3_orders 16 = .ok (.aload_n 0, 1) := dk_42 (dk_at dksX3_orders_0 16 rfl rfl)
theorem dX3_orders_17 : decode cX3_orders 17 = .ok (.getfield 282, 3) := dk_180 1 26 (dk_at dksX3_orders_0 17 rfl rfl)
theorem dX3_orders_20 : decode cX3_orders 20 = .ok (.goto 23, 3) := dk_167 0 23 (dk_at dksX3_orders_0 20 rfl rfl)
theorem dX3_orders_23 : decode cX3_orders 23 = .ok (.aload_n 0, 1) := dk_42 (dk_at dksX3_orders_0 23 rfl rfl)
theorem dX3_orders_24 : decode cX3_orders 24 = .ok (.getfield 282, 3) := dk_180 1 26 (dk_at dksX3_orders_1 0 rfl rfl)
theorem dX3_orders_27 : decode cX3_orders 27 = .ok (.ifCond .ne 7, 3) := dk_154 0 7 (dk_at dksX3_orders_1 3 rfl rfl)
theorem dX3_orders_30 : decode cX3_orders 30 = .ok (.iconst (-1), 1) := dk_2 (dk_at dksX3_orders_1 6 rfl rfl)
theorem dX3_orders_31 : decode cX3_orders 31 = .ok (.goto 12, 3) := dk_167 0 12 (dk_at dksX3_orders_1 7 rfl rfl)
theorem dX3_orders_34 : decode cX3_orders 34 = .ok (.aload_n 0, 1) := dk_42 (dk_at dksX3_orders_1 10 rfl rfl)
theorem dX3_orders_35 : decode cX3_orders 35 = .ok (.getfield 50, 3) := dk_180 0 50 (dk_at dksX3_orders_1 11 rfl rfl)
theorem dX3_orders_38 : decode cX3_orders 38 = .ok (.iload_n 1, 1) := dk_27 (dk_at dksX3_orders_1 14 rfl rfl)
theorem dX3_orders_39 : decode cX3_orders 39 = .ok (.bipush 10, 2) := dk_16 10 (dk_at dksX3_orders_1 15 rfl rfl)
theorem dX3_orders_41 : decode cX3_orders 41 = .ok (.isub, 1) := dk_100 (dk_at dksX3_orders_1 17 rfl rfl)
theorem dX3_orders_42 : decode cX3_orders 42 = .ok (.iaload, 1) := dk_46 (dk_at dksX3_orders_1 18 rfl rfl)
theorem dX3_orders_43 : decode cX3_orders 43 = .ok (.ireturn, 1) := dk_172 (dk_at dksX3_orders_1 19 rfl rfl)
abbrev cX3_isTold : ByteArray := prog_14_method_56_code
def yX3_isTold : MethodName := ⟨RX3, "isTold", "(I)Z"⟩
def dkwX3_isTold_2 : List UInt8 := [182, 1, 17, 4, 172]
abbrev dktX3_isTold_2 : List UInt8 := dkwX3_isTold_2 ++ []
def dkwX3_isTold_1 : List UInt8 := [7, 46, 96, 184, 0, 66, 154, 0, 5, 3, 172, 42, 3, 181, 1, 26, 42, 2, 181, 1, 20, 42, 3, 3]
abbrev dktX3_isTold_1 : List UInt8 := dkwX3_isTold_1 ++ dktX3_isTold_2
def dkwX3_isTold_0 : List UInt8 := [42, 180, 0, 7, 7, 46, 16, 7, 163, 0, 25, 27, 153, 0, 23, 27, 16, 10, 16, 9, 42, 180, 0, 7]
abbrev dktX3_isTold_0 : List UInt8 := dkwX3_isTold_0 ++ dktX3_isTold_1
theorem dksX3_isTold_0 : cX3_isTold.data.toList.drop 0 = dktX3_isTold_0 := by decide +kernel
theorem dksX3_isTold_1 : cX3_isTold.data.toList.drop 24 = dktX3_isTold_1 := dk_seg dksX3_isTold_0 24 rfl rfl
theorem dksX3_isTold_2 : cX3_isTold.data.toList.drop 48 = dktX3_isTold_2 := dk_seg dksX3_isTold_1 24 rfl rfl
theorem dX3_isTold_0 : decode cX3_isTold 0 = .ok (.aload_n 0, 1) := dk_42 (dk_at dksX3_isTold_0 0 rfl rfl)
theorem dX3_isTold_1 : decode cX3_isTold 1 = .ok (.getfield 7, 3) := dk_180 0 7 (dk_at dksX3_isTold_0 1 rfl rfl)
theorem dX3_isTold_4 : decode cX3_isTold 4 = .ok (.iconst 4, 1) := dk_7 (dk_at dksX3_isTold_0 4 rfl rfl)
theorem dX3_isTold_5 : decode cX3_isTold 5 = .ok (.iaload, 1) := dk_46 (dk_at dksX3_isTold_0 5 rfl rfl)
theorem dX3_isTold_6 : decode cX3_isTold 6 = .ok (.bipush 7, 2) := dk_16 7 (dk_at dksX3_isTold_0 6 rfl rfl)
theorem dX3_isTold_8 : decode cX3_isTold 8 = .ok (.if_icmp .gt 25, 3) := dk_163 0 25 (dk_at dksX3_isTold_0 8 rfl rfl)
theorem dX3_isTold_11 : decode cX3_isTold 11 = .ok (.iload_n 1, 1) := dk_27 (dk_at dksX3_isTold_0 11 rfl rfl)
theorem dX3_isTold_12 : decode cX3_isTold 12 = .ok (.ifCond .eq 23, 3) := dk_153 0 23 (dk_at dksX3_isTold_0 12 rfl rfl)
theorem dX3_isTold_15 : decode cX3_isTold 15 = .ok (.iload_n 1, 1) := dk_27 (dk_at dksX3_isTold_0 15 rfl rfl)
theorem dX3_isTold_16 : decode cX3_isTold 16 = .ok (.bipush 10, 2) := dk_16 10 (dk_at dksX3_isTold_0 16 rfl rfl)
theorem dX3_isTold_18 : decode cX3_isTold 18 = .ok (.bipush 9, 2) := dk_16 9 (dk_at dksX3_isTold_0 18 rfl rfl)
theorem dX3_isTold_20 : decode cX3_isTold 20 = .ok (.aload_n 0, 1) := dk_42 (dk_at dksX3_isTold_0 20 rfl rfl)
theorem dX3_isTold_21 : decode cX3_isTold 21 = .ok (.getfield 7, 3) := dk_180 0 7 (dk_at dksX3_isTold_0 21 rfl rfl)
theorem dX3_isTold_24 : decode cX3_isTold 24 = .ok (.iconst 4, 1) := dk_7 (dk_at dksX3_isTold_1 0 rfl rfl)
theorem dX3_isTold_25 : decode cX3_isTold 25 = .ok (.iaload, 1) := dk_46 (dk_at dksX3_isTold_1 1 rfl rfl)
theorem dX3_isTold_26 : decode cX3_isTold 26 = .ok (.iadd, 1) := dk_96 (dk_at dksX3_isTold_1 2 rfl rfl)
theorem dX3_isTold_27 : decode cX3_isTold 27 = .ok (.invokestatic 66, 3) := dk_184 0 66 (dk_at dksX3_isTold_1 3 rfl rfl)
theorem dX3_isTold_30 : decode cX3_isTold 30 = .ok (.ifCond .ne 5, 3) := dk_154 0 5 (dk_at dksX3_isTold_1 6 rfl rfl)
theorem dX3_isTold_33 : decode cX3_isTold 33 = .ok (.iconst 0, 1) := dk_3 (dk_at dksX3_isTold_1 9 rfl rfl)
theorem dX3_isTold_34 : decode cX3_isTold 34 = .ok (.ireturn, 1) := dk_172 (dk_at dksX3_isTold_1 10 rfl rfl)
theorem dX3_isTold_35 : decode cX3_isTold 35 = .ok (.aload_n 0, 1) := dk_42 (dk_at dksX3_isTold_1 11 rfl rfl)
theorem dX3_isTold_36 : decode cX3_isTold 36 = .ok (.iconst 0, 1) := dk_3 (dk_at dksX3_isTold_1 12 rfl rfl)
theorem dX3_isTold_37 : decode cX3_isTold 37 = .ok (.putfield 282, 3) := dk_181 1 26 (dk_at dksX3_isTold_1 13 rfl rfl)
theorem dX3_isTold_40 : decode cX3_isTold 40 = .ok (.aload_n 0, 1) := dk_42 (dk_at dksX3_isTold_1 16 rfl rfl)
theorem dX3_isTold_41 : decode cX3_isTold 41 = .ok (.iconst (-1), 1) := dk_2 (dk_at dksX3_isTold_1 17 rfl rfl)
theorem dX3_isTold_42 : decode cX3_isTold 42 = .ok (.putfield 276, 3) := dk_181 1 20 (dk_at dksX3_isTold_1 18 rfl rfl)
theorem dX3_isTold_45 : decode cX3_isTold 45 = .ok (.aload_n 0, 1) := dk_42 (dk_at dksX3_isTold_1 21 rfl rfl)
theorem dX3_isTold_46 : decode cX3_isTold 46 = .ok (.iconst 0, 1) := dk_3 (dk_at dksX3_isTold_1 22 rfl rfl)
theorem dX3_isTold_47 : decode cX3_isTold 47 = .ok (.iconst 0, 1) := dk_3 (dk_at dksX3_isTold_1 23 rfl rfl)
theorem dX3_isTold_48 : decode cX3_isTold 48 = .ok (.invokevirtual 273, 3) := dk_182 1 17 (dk_at dksX3_isTold_2 0 rfl rfl)
theorem dX3_isTold_51 : decode cX3_isTold 51 = .ok (.iconst 1, 1) := dk_4 (dk_at dksX3_isTold_2 3 rfl rfl)
theorem dX3_isTold_52 : decode cX3_isTold 52 = .ok (.ireturn, 1) := dk_172 (dk_at dksX3_isTold_2 4 rfl rfl)
abbrev cX3_goesThrough : ByteArray := prog_14_method_55_code
def yX3_goesThrough : MethodName := ⟨RX3, "goesThrough", "(II)V"⟩
def dkwX3_goesThrough_8 : List UInt8 := [167, 255, 226, 42, 89, 180, 1, 26, 4, 96, 181, 1, 26, 177]
abbrev dktX3_goesThrough_8 : List UInt8 := dkwX3_goesThrough_8 ++ []
def dkwX3_goesThrough_7 : List UInt8 := [180, 1, 26, 154, 0, 23, 42, 180, 0, 50, 21, 5, 42, 180, 0, 44, 21, 5, 46, 79, 132, 5, 1]
abbrev dktX3_goesThrough_7 : List UInt8 := dkwX3_goesThrough_7 ++ dktX3_goesThrough_8
def dkwX3_goesThrough_6 : List UInt8 := [181, 1, 20, 42, 182, 1, 23, 2, 159, 0, 4, 177, 3, 54, 5, 21, 5, 29, 162, 0, 30, 42]
abbrev dktX3_goesThrough_6 : List UInt8 := dkwX3_goesThrough_6 ++ dktX3_goesThrough_7
def dkwX3_goesThrough_5 : List UInt8 := [2, 159, 0, 12, 21, 4, 42, 180, 1, 20, 162, 0, 8, 21, 4, 167, 0, 7, 42, 180, 1, 20]
abbrev dktX3_goesThrough_5 : List UInt8 := dkwX3_goesThrough_5 ++ dktX3_goesThrough_6
def dkwX3_goesThrough_4 : List UInt8 := [180, 0, 53, 21, 5, 42, 180, 0, 44, 21, 5, 46, 79, 132, 5, 1, 167, 255, 216, 42, 42, 180, 1, 20]
abbrev dktX3_goesThrough_4 : List UInt8 := dkwX3_goesThrough_4 ++ dktX3_goesThrough_5
def dkwX3_goesThrough_3 : List UInt8 := [21, 5, 29, 162, 0, 40, 42, 180, 1, 20, 2, 159, 0, 12, 21, 4, 42, 180, 1, 20, 162, 0, 23, 42]
abbrev dktX3_goesThrough_3 : List UInt8 := dkwX3_goesThrough_3 ++ dktX3_goesThrough_4
def dkwX3_goesThrough_2 : List UInt8 := [21, 4, 120, 128, 182, 1, 17, 132, 4, 1, 167, 255, 213, 177, 42, 182, 1, 4, 54, 4, 3, 54, 5]
abbrev dktX3_goesThrough_2 : List UInt8 := dkwX3_goesThrough_2 ++ dktX3_goesThrough_3
def dkwX3_goesThrough_1 : List UInt8 := [122, 4, 126, 4, 160, 0, 6, 167, 0, 24, 42, 180, 0, 44, 27, 21, 4, 79, 42, 27, 4, 96, 28, 4]
abbrev dktX3_goesThrough_1 : List UInt8 := dkwX3_goesThrough_1 ++ dktX3_goesThrough_2
def dkwX3_goesThrough_0 : List UInt8 := [42, 180, 0, 7, 7, 46, 62, 27, 29, 162, 0, 53, 3, 54, 4, 21, 4, 29, 162, 0, 43, 28, 21, 4]
abbrev dktX3_goesThrough_0 : List UInt8 := dkwX3_goesThrough_0 ++ dktX3_goesThrough_1
theorem dksX3_goesThrough_0 : cX3_goesThrough.data.toList.drop 0 = dktX3_goesThrough_0 := by decide +kernel
theorem dksX3_goesThrough_1 : cX3_goesThrough.data.toList.drop 24 = dktX3_goesThrough_1 := dk_seg dksX3_goesThrough_0 24 rfl rfl
theorem dksX3_goesThrough_2 : cX3_goesThrough.data.toList.drop 48 = dktX3_goesThrough_2 := dk_seg dksX3_goesThrough_1 24 rfl rfl
theorem dksX3_goesThrough_3 : cX3_goesThrough.data.toList.drop 71 = dktX3_goesThrough_3 := dk_seg dksX3_goesThrough_2 23 rfl rfl
theorem dksX3_goesThrough_4 : cX3_goesThrough.data.toList.drop 95 = dktX3_goesThrough_4 := dk_seg dksX3_goesThrough_3 24 rfl rfl
theorem dksX3_goesThrough_5 : cX3_goesThrough.data.toList.drop 119 = dktX3_goesThrough_5 := dk_seg dksX3_goesThrough_4 24 rfl rfl
theorem dksX3_goesThrough_6 : cX3_goesThrough.data.toList.drop 141 = dktX3_goesThrough_6 := dk_seg dksX3_goesThrough_5 22 rfl rfl
theorem dksX3_goesThrough_7 : cX3_goesThrough.data.toList.drop 163 = dktX3_goesThrough_7 := dk_seg dksX3_goesThrough_6 22 rfl rfl
theorem dksX3_goesThrough_8 : cX3_goesThrough.data.toList.drop 186 = dktX3_goesThrough_8 := dk_seg dksX3_goesThrough_7 23 rfl rfl
theorem dX3_goesThrough_0 : decode cX3_goesThrough 0 = .ok (.aload_n 0, 1) := dk_42 (dk_at dksX3_goesThrough_0 0 rfl rfl)
theorem dX3_goesThrough_1 : decode cX3_goesThrough 1 = .ok (.getfield 7, 3) := dk_180 0 7 (dk_at dksX3_goesThrough_0 1 rfl rfl)
theorem dX3_goesThrough_4 : decode cX3_goesThrough 4 = .ok (.iconst 4, 1) := dk_7 (dk_at dksX3_goesThrough_0 4 rfl rfl)
theorem dX3_goesThrough_5 : decode cX3_goesThrough 5 = .ok (.iaload, 1) := dk_46 (dk_at dksX3_goesThrough_0 5 rfl rfl)
theorem dX3_goesThrough_6 : decode cX3_goesThrough 6 = .ok (.istore_n 3, 1) := dk_62 (dk_at dksX3_goesThrough_0 6 rfl rfl)
theorem dX3_goesThrough_7 : decode cX3_goesThrough 7 = .ok (.iload_n 1, 1) := dk_27 (dk_at dksX3_goesThrough_0 7 rfl rfl)
theorem dX3_goesThrough_8 : decode cX3_goesThrough 8 = .ok (.iload_n 3, 1) := dk_29 (dk_at dksX3_goesThrough_0 8 rfl rfl)
theorem dX3_goesThrough_9 : decode cX3_goesThrough 9 = .ok (.if_icmp .ge 53, 3) := dk_162 0 53 (dk_at dksX3_goesThrough_0 9 rfl rfl)
theorem dX3_goesThrough_12 : decode cX3_goesThrough 12 = .ok (.iconst 0, 1) := dk_3 (dk_at dksX3_goesThrough_0 12 rfl rfl)
theorem dX3_goesThrough_13 : decode cX3_goesThrough 13 = .ok (.istore 4, 2) := dk_54 4 (dk_at dksX3_goesThrough_0 13 rfl rfl)
theorem dX3_goesThrough_15 : decode cX3_goesThrough 15 = .ok (.iload 4, 2) := dk_21 4 (dk_at dksX3_goesThrough_0 15 rfl rfl)
theorem dX3_goesThrough_17 : decode cX3_goesThrough 17 = .ok (.iload_n 3, 1) := dk_29 (dk_at dksX3_goesThrough_0 17 rfl rfl)
theorem dX3_goesThrough_18 : decode cX3_goesThrough 18 = .ok (.if_icmp .ge 43, 3) := dk_162 0 43 (dk_at dksX3_goesThrough_0 18 rfl rfl)
theorem dX3_goesThrough_21 : decode cX3_goesThrough 21 = .ok (.iload_n 2, 1) := dk_28 (dk_at dksX3_goesThrough_0 21 rfl rfl)
theorem dX3_goesThrough_22 : decode cX3_goesThrough 22 = .ok (.iload 4, 2) := dk_21 4 (dk_at dksX3_goesThrough_0 22 rfl rfl)
theorem dX3_goesThrough_24 : decode cX3_goesThrough 24 = .ok (.ishr, 1) := dk_122 (dk_at dksX3_goesThrough_1 0 rfl rfl)
theorem dX3_goesThrough_25 : decode cX3_goesThrough 25 = .ok (.iconst 1, 1) := dk_4 (dk_at dksX3_goesThrough_1 1 rfl rfl)
theorem dX3_goesThrough_26 : decode cX3_goesThrough 26 = .ok (.iand, 1) := dk_126 (dk_at dksX3_goesThrough_1 2 rfl rfl)
theorem dX3_goesThrough_27 : decode cX3_goesThrough 27 = .ok (.iconst 1, 1) := dk_4 (dk_at dksX3_goesThrough_1 3 rfl rfl)
theorem dX3_goesThrough_28 : decode cX3_goesThrough 28 = .ok (.if_icmp .ne 6, 3) := dk_160 0 6 (dk_at dksX3_goesThrough_1 4 rfl rfl)
theorem dX3_goesThrough_31 : decode cX3_goesThrough 31 = .ok (.goto 24, 3) := dk_167 0 24 (dk_at dksX3_goesThrough_1 7 rfl rfl)
theorem dX3_goesThrough_34 : decode cX3_goesThrough 34 = .ok (.aload_n 0, 1) := dk_42 (dk_at dksX3_goesThrough_1 10 rfl rfl)
theorem dX3_goesThrough_35 : decode cX3_goesThrough 35 = .ok (.getfield 44, 3) := dk_180 0 44 (dk_at dksX3_goesThrough_1 11 rfl rfl)
theorem dX3_goesThrough_38 : decode cX3_goesThrough 38 = .ok (.iload_n 1, 1) := dk_27 (dk_at dksX3_goesThrough_1 14 rfl rfl)
theorem dX3_goesThrough_39 : decode cX3_goesThrough 39 = .ok (.iload 4, 2) := dk_21 4 (dk_at dksX3_goesThrough_1 15 rfl rfl)
theorem dX3_goesThrough_41 : decode cX3_goesThrough 41 = .ok (.iastore, 1) := dk_79 (dk_at dksX3_goesThrough_1 17 rfl rfl)
theorem dX3_goesThrough_42 : decode cX3_goesThrough 42 = .ok (.aload_n 0, 1) := dk_42 (dk_at dksX3_goesThrough_1 18 rfl rfl)
theorem dX3_goesThrough_43 : decode cX3_goesThrough 43 = .ok (.iload_n 1, 1) := dk_27 (dk_at dksX3_goesThrough_1 19 rfl rfl)
theorem dX3_goesThrough_44 : decode cX3_goesThrough 44 = .ok (.iconst 1, 1) := dk_4 (dk_at dksX3_goesThrough_1 20 rfl rfl)
theorem dX3_goesThrough_45 : decode cX3_goesThrough 45 = .ok (.iadd, 1) := dk_96 (dk_at dksX3_goesThrough_1 21 rfl rfl)
theorem dX3_goesThrough_46 : decode cX3_goesThrough 46 = .ok (.iload_n 2, 1) := dk_28 (dk_at dksX3_goesThrough_1 22 rfl rfl)
theorem dX3_goesThrough_47 : decode cX3_goesThrough 47 = .ok (.iconst 1, 1) := dk_4 (dk_at dksX3_goesThrough_1 23 rfl rfl)
theorem dX3_goesThrough_48 : decode cX3_goesThrough 48 = .ok (.iload 4, 2) := dk_21 4 (dk_at dksX3_goesThrough_2 0 rfl rfl)
theorem dX3_goesThrough_50 : decode cX3_goesThrough 50 = .ok (.ishl, 1) := dk_120 (dk_at dksX3_goesThrough_2 2 rfl rfl)
theorem dX3_goesThrough_51 : decode cX3_goesThrough 51 = .ok (.ior, 1) := dk_128 (dk_at dksX3_goesThrough_2 3 rfl rfl)
theorem dX3_goesThrough_52 : decode cX3_goesThrough 52 = .ok (.invokevirtual 273, 3) := dk_182 1 17 (dk_at dksX3_goesThrough_2 4 rfl rfl)
theorem dX3_goesThrough_55 : decode cX3_goesThrough 55 = .ok (.iinc 4 1, 3) := dk_132 4 1 (dk_at dksX3_goesThrough_2 7 rfl rfl)
theorem dX3_goesThrough_58 : decode cX3_goesThrough 58 = .ok (.goto (-43), 3) := dk_167 255 213 (dk_at dksX3_goesThrough_2 10 rfl rfl)
theorem dX3_goesThrough_61 : decode cX3_goesThrough 61 = .ok (.return_, 1) := dk_177 (dk_at dksX3_goesThrough_2 13 rfl rfl)
theorem dX3_goesThrough_62 : decode cX3_goesThrough 62 = .ok (.aload_n 0, 1) := dk_42 (dk_at dksX3_goesThrough_2 14 rfl rfl)
theorem dX3_goesThrough_63 : decode cX3_goesThrough 63 = .ok (.invokevirtual 260, 3) := dk_182 1 4 (dk_at dksX3_goesThrough_2 15 rfl rfl)
theorem dX3_goesThrough_66 : decode cX3_goesThrough 66 = .ok (.istore 4, 2) := dk_54 4 (dk_at dksX3_goesThrough_2 18 rfl rfl)
theorem dX3_goesThrough_68 : decode cX3_goesThrough 68 = .ok (.iconst 0, 1) := dk_3 (dk_at dksX3_goesThrough_2 20 rfl rfl)
theorem dX3_goesThrough_69 : decode cX3_goesThrough 69 = .ok (.istore 5, 2) := dk_54 5 (dk_at dksX3_goesThrough_2 21 rfl rfl)
theorem dX3_goesThrough_71 : decode cX3_goesThrough 71 = .ok (.iload 5, 2) := dk_21 5 (dk_at dksX3_goesThrough_3 0 rfl rfl)
theorem dX3_goesThrough_73 : decode cX3_goesThrough 73 = .ok (.iload_n 3, 1) := dk_29 (dk_at dksX3_goesThrough_3 2 rfl rfl)
theorem dX3_goesThrough_74 : decode cX3_goesThrough 74 = .ok (.if_icmp .ge 40, 3) := dk_162 0 40 (dk_at dksX3_goesThrough_3 3 rfl rfl)
theorem dX3_goesThrough_77 : decode cX3_goesThrough 77 = .ok (.aload_n 0, 1) := dk_42 (dk_at dksX3_goesThrough_3 6 rfl rfl)
theorem dX3_goesThrough_78 : decode cX3_goesThrough 78 = .ok (.getfield 276, 3) := dk_180 1 20 (dk_at dksX3_goesThrough_3 7 rfl rfl)
theorem dX3_goesThrough_81 : decode cX3_goesThrough 81 = .ok (.iconst (-1), 1) := dk_2 (dk_at dksX3_goesThrough_3 10 rfl rfl)
theorem dX3_goesThrough_82 : decode cX3_goesThrough 82 = .ok (.if_icmp .eq 12, 3) := dk_159 0 12 (dk_at dksX3_goesThrough_3 11 rfl rfl)
theorem dX3_goesThrough_85 : decode cX3_goesThrough 85 = .ok (.iload 4, 2) := dk_21 4 (dk_at dksX3_goesThrough_3 14 rfl rfl)
theorem dX3_goesThrough_87 : decode cX3_goesThrough 87 = .ok (.aload_n 0, 1) := dk_42 (dk_at dksX3_goesThrough_3 16 rfl rfl)
theorem dX3_goesThrough_88 : decode cX3_goesThrough 88 = .ok (.getfield 276, 3) := dk_180 1 20 (dk_at dksX3_goesThrough_3 17 rfl rfl)
theorem dX3_goesThrough_91 : decode cX3_goesThrough 91 = .ok (.if_icmp .ge 23, 3) := dk_162 0 23 (dk_at dksX3_goesThrough_3 20 rfl rfl)
theorem dX3_goesThrough_94 : decode cX3_goesThrough 94 = .ok (.aload_n 0, 1) := dk_42 (dk_at dksX3_goesThrough_3 23 rfl rfl)
theorem dX3_goesThrough_95 : decode cX3_goesThrough 95 = .ok (.getfield 53, 3) := dk_180 0 53 (dk_at dksX3_goesThrough_4 0 rfl rfl)
theorem dX3_goesThrough_98 : decode cX3_goesThrough 98 = .ok (.iload 5, 2) := dk_21 5 (dk_at dksX3_goesThrough_4 3 rfl rfl)
theorem dX3_goesThrough_100 : decode cX3_goesThrough 100 = .ok (.aload_n 0, 1) := dk_42 (dk_at dksX3_goesThrough_4 5 rfl rfl)
theorem dX3_goesThrough_101 : decode cX3_goesThrough 101 = .ok (.getfield 44, 3) := dk_180 0 44 (dk_at dksX3_goesThrough_4 6 rfl rfl)
theorem dX3_goesThrough_104 : decode cX3_goesThrough 104 = .ok (.iload 5, 2) := dk_21 5 (dk_at dksX3_goesThrough_4 9 rfl rfl)
theorem dX3_goesThrough_106 : decode cX3_goesThrough 106 = .ok (.iaload, 1) := dk_46 (dk_at dksX3_goesThrough_4 11 rfl rfl)
theorem dX3_goesThrough_107 : decode cX3_goesThrough 107 = .ok (.iastore, 1) := dk_79 (dk_at dksX3_goesThrough_4 12 rfl rfl)
theorem dX3_goesThrough_108 : decode cX3_goesThrough 108 = .ok (.iinc 5 1, 3) := dk_132 5 1 (dk_at dksX3_goesThrough_4 13 rfl rfl)
theorem dX3_goesThrough_111 : decode cX3_goesThrough 111 = .ok (.goto (-40), 3) := dk_167 255 216 (dk_at dksX3_goesThrough_4 16 rfl rfl)
theorem dX3_goesThrough_114 : decode cX3_goesThrough 114 = .ok (.aload_n 0, 1) := dk_42 (dk_at dksX3_goesThrough_4 19 rfl rfl)
theorem dX3_goesThrough_115 : decode cX3_goesThrough 115 = .ok (.aload_n 0, 1) := dk_42 (dk_at dksX3_goesThrough_4 20 rfl rfl)
theorem dX3_goesThrough_116 : decode cX3_goesThrough 116 = .ok (.getfield 276, 3) := dk_180 1 20 (dk_at dksX3_goesThrough_4 21 rfl rfl)
theorem dX3_goesThrough_119 : decode cX3_goesThrough 119 = .ok (.iconst (-1), 1) := dk_2 (dk_at dksX3_goesThrough_5 0 rfl rfl)
theorem dX3_goesThrough_120 : decode cX3_goesThrough 120 = .ok (.if_icmp .eq 12, 3) := dk_159 0 12 (dk_at dksX3_goesThrough_5 1 rfl rfl)
theorem dX3_goesThrough_123 : decode cX3_goesThrough 123 = .ok (.iload 4, 2) := dk_21 4 (dk_at dksX3_goesThrough_5 4 rfl rfl)
theorem dX3_goesThrough_125 : decode cX3_goesThrough 125 = .ok (.aload_n 0, 1) := dk_42 (dk_at dksX3_goesThrough_5 6 rfl rfl)
theorem dX3_goesThrough_126 : decode cX3_goesThrough 126 = .ok (.getfield 276, 3) := dk_180 1 20 (dk_at dksX3_goesThrough_5 7 rfl rfl)
theorem dX3_goesThrough_129 : decode cX3_goesThrough 129 = .ok (.if_icmp .ge 8, 3) := dk_162 0 8 (dk_at dksX3_goesThrough_5 10 rfl rfl)
theorem dX3_goesThrough_132 : decode cX3_goesThrough 132 = .ok (.iload 4, 2) := dk_21 4 (dk_at dksX3_goesThrough_5 13 rfl rfl)
theorem dX3_goesThrough_134 : decode cX3_goesThrough 134 = .ok (.goto 7, 3) := dk_167 0 7 (dk_at dksX3_goesThrough_5 15 rfl rfl)
theorem dX3_goesThrough_137 : decode cX3_goesThrough 137 = .ok (.aload_n 0, 1) := dk_42 (dk_at dksX3_goesThrough_5 18 rfl rfl)
theorem dX3_goesThrough_138 : decode cX3_goesThrough 138 = .ok (.getfield 276, 3) := dk_180 1 20 (dk_at dksX3_goesThrough_5 19 rfl rfl)
theorem dX3_goesThrough_141 : decode cX3_goesThrough 141 = .ok (.putfield 276, 3) := dk_181 1 20 (dk_at dksX3_goesThrough_6 0 rfl rfl)
theorem dX3_goesThrough_144 : decode cX3_goesThrough 144 = .ok (.aload_n 0, 1) := dk_42 (dk_at dksX3_goesThrough_6 3 rfl rfl)
theorem dX3_goesThrough_145 : decode cX3_goesThrough 145 = .ok (.invokevirtual 279, 3) := dk_182 1 23 (dk_at dksX3_goesThrough_6 4 rfl rfl)
theorem dX3_goesThrough_148 : decode cX3_goesThrough 148 = .ok (.iconst (-1), 1) := dk_2 (dk_at dksX3_goesThrough_6 7 rfl rfl)
theorem dX3_goesThrough_149 : decode cX3_goesThrough 149 = .ok (.if_icmp .eq 4, 3) := dk_159 0 4 (dk_at dksX3_goesThrough_6 8 rfl rfl)
theorem dX3_goesThrough_152 : decode cX3_goesThrough 152 = .ok (.return_, 1) := dk_177 (dk_at dksX3_goesThrough_6 11 rfl rfl)
theorem dX3_goesThrough_153 : decode cX3_goesThrough 153 = .ok (.iconst 0, 1) := dk_3 (dk_at dksX3_goesThrough_6 12 rfl rfl)
theorem dX3_goesThrough_154 : decode cX3_goesThrough 154 = .ok (.istore 5, 2) := dk_54 5 (dk_at dksX3_goesThrough_6 13 rfl rfl)
theorem dX3_goesThrough_156 : decode cX3_goesThrough 156 = .ok (.iload 5, 2) := dk_21 5 (dk_at dksX3_goesThrough_6 15 rfl rfl)
theorem dX3_goesThrough_158 : decode cX3_goesThrough 158 = .ok (.iload_n 3, 1) := dk_29 (dk_at dksX3_goesThrough_6 17 rfl rfl)
theorem dX3_goesThrough_159 : decode cX3_goesThrough 159 = .ok (.if_icmp .ge 30, 3) := dk_162 0 30 (dk_at dksX3_goesThrough_6 18 rfl rfl)
theorem dX3_goesThrough_162 : decode cX3_goesThrough 162 = .ok (.aload_n 0, 1) := dk_42 (dk_at dksX3_goesThrough_6 21 rfl rfl)
theorem dX3_goesThrough_163 : decode cX3_goesThrough 163 = .ok (.getfield 282, 3) := dk_180 1 26 (dk_at dksX3_goesThrough_7 0 rfl rfl)
theorem dX3_goesThrough_166 : decode cX3_goesThrough 166 = .ok (.ifCond .ne 23, 3) := dk_154 0 23 (dk_at dksX3_goesThrough_7 3 rfl rfl)
theorem dX3_goesThrough_169 : decode cX3_goesThrough 169 = .ok (.aload_n 0, 1) := dk_42 (dk_at dksX3_goesThrough_7 6 rfl rfl)
theorem dX3_goesThrough_170 : decode cX3_goesThrough 170 = .ok (.getfield 50, 3) := dk_180 0 50 (dk_at dksX3_goesThrough_7 7 rfl rfl)
theorem dX3_goesThrough_173 : decode cX3_goesThrough 173 = .ok (.iload 5, 2) := dk_21 5 (dk_at dksX3_goesThrough_7 10 rfl rfl)
theorem dX3_goesThrough_175 : decode cX3_goesThrough 175 = .ok (.aload_n 0, 1) := dk_42 (dk_at dksX3_goesThrough_7 12 rfl rfl)
theorem dX3_goesThrough_176 : decode cX3_goesThrough 176 = .ok (.getfield 44, 3) := dk_180 0 44 (dk_at dksX3_goesThrough_7 13 rfl rfl)
theorem dX3_goesThrough_179 : decode cX3_goesThrough 179 = .ok (.iload 5, 2) := dk_21 5 (dk_at dksX3_goesThrough_7 16 rfl rfl)
theorem dX3_goesThrough_181 : decode cX3_goesThrough 181 = .ok (.iaload, 1) := dk_46 (dk_at dksX3_goesThrough_7 18 rfl rfl)
theorem dX3_goesThrough_182 : decode cX3_goesThrough 182 = .ok (.iastore, 1) := dk_79 (dk_at dksX3_goesThrough_7 19 rfl rfl)
theorem dX3_goesThrough_183 : decode cX3_goesThrough 183 = .ok (.iinc 5 1, 3) := dk_132 5 1 (dk_at dksX3_goesThrough_7 20 rfl rfl)
theorem dX3_goesThrough_186 : decode cX3_goesThrough 186 = .ok (.goto (-30), 3) := dk_167 255 226 (dk_at dksX3_goesThrough_8 0 rfl rfl)
theorem dX3_goesThrough_189 : decode cX3_goesThrough 189 = .ok (.aload_n 0, 1) := dk_42 (dk_at dksX3_goesThrough_8 3 rfl rfl)
theorem dX3_goesThrough_190 : decode cX3_goesThrough 190 = .ok (.dup, 1) := dk_89 (dk_at dksX3_goesThrough_8 4 rfl rfl)
theorem dX3_goesThrough_191 : decode cX3_goesThrough 191 = .ok (.getfield 282, 3) := dk_180 1 26 (dk_at dksX3_goesThrough_8 5 rfl rfl)
theorem dX3_goesThrough_194 : decode cX3_goesThrough 194 = .ok (.iconst 1, 1) := dk_4 (dk_at dksX3_goesThrough_8 8 rfl rfl)
theorem dX3_goesThrough_195 : decode cX3_goesThrough 195 = .ok (.iadd, 1) := dk_96 (dk_at dksX3_goesThrough_8 9 rfl rfl)
theorem dX3_goesThrough_196 : decode cX3_goesThrough 196 = .ok (.putfield 282, 3) := dk_181 1 26 (dk_at dksX3_goesThrough_8 10 rfl rfl)
theorem dX3_goesThrough_199 : decode cX3_goesThrough 199 = .ok (.return_, 1) := dk_177 (dk_at dksX3_goesThrough_8 13 rfl rfl)
abbrev cX3_firstChange : ByteArray := prog_14_method_54_code
def yX3_firstChange : MethodName := ⟨RX3, "firstChange", "()I"⟩
def dkwX3_firstChange_1 : List UInt8 := [132, 1, 1, 167, 255, 231, 2, 172]
abbrev dktX3_firstChange_1 : List UInt8 := dkwX3_firstChange_1 ++ []
def dkwX3_firstChange_0 : List UInt8 := [3, 60, 27, 4, 96, 42, 180, 0, 7, 7, 46, 162, 0, 19, 42, 27, 182, 1, 14, 153, 0, 5, 27, 172]
abbrev dktX3_firstChange_0 : List UInt8 := dkwX3_firstChange_0 ++ dktX3_firstChange_1
theorem dksX3_firstChange_0 : cX3_firstChange.data.toList.drop 0 = dktX3_firstChange_0 := by decide +kernel
theorem dksX3_firstChange_1 : cX3_firstChange.data.toList.drop 24 = dktX3_firstChange_1 := dk_seg dksX3_firstChange_0 24 rfl rfl
theorem dX3_firstChange_0 : decode cX3_firstChange 0 = .ok (.iconst 0, 1) := dk_3 (dk_at dksX3_firstChange_0 0 rfl rfl)
theorem dX3_firstChange_1 : decode cX3_firstChange 1 = .ok (.istore_n 1, 1) := dk_60 (dk_at dksX3_firstChange_0 1 rfl rfl)
theorem dX3_firstChange_2 : decode cX3_firstChange 2 = .ok (.iload_n 1, 1) := dk_27 (dk_at dksX3_firstChange_0 2 rfl rfl)
theorem dX3_firstChange_3 : decode cX3_firstChange 3 = .ok (.iconst 1, 1) := dk_4 (dk_at dksX3_firstChange_0 3 rfl rfl)
theorem dX3_firstChange_4 : decode cX3_firstChange 4 = .ok (.iadd, 1) := dk_96 (dk_at dksX3_firstChange_0 4 rfl rfl)
theorem dX3_firstChange_5 : decode cX3_firstChange 5 = .ok (.aload_n 0, 1) := dk_42 (dk_at dksX3_firstChange_0 5 rfl rfl)
theorem dX3_firstChange_6 : decode cX3_firstChange 6 = .ok (.getfield 7, 3) := dk_180 0 7 (dk_at dksX3_firstChange_0 6 rfl rfl)
theorem dX3_firstChange_9 : decode cX3_firstChange 9 = .ok (.iconst 4, 1) := dk_7 (dk_at dksX3_firstChange_0 9 rfl rfl)
theorem dX3_firstChange_10 : decode cX3_firstChange 10 = .ok (.iaload, 1) := dk_46 (dk_at dksX3_firstChange_0 10 rfl rfl)
theorem dX3_firstChange_11 : decode cX3_firstChange 11 = .ok (.if_icmp .ge 19, 3) := dk_162 0 19 (dk_at dksX3_firstChange_0 11 rfl rfl)
theorem dX3_firstChange_14 : decode cX3_firstChange 14 = .ok (.aload_n 0, 1) := dk_42 (dk_at dksX3_firstChange_0 14 rfl rfl)
theorem dX3_firstChange_15 : decode cX3_firstChange 15 = .ok (.iload_n 1, 1) := dk_27 (dk_at dksX3_firstChange_0 15 rfl rfl)
theorem dX3_firstChange_16 : decode cX3_firstChange 16 = .ok (.invokevirtual 270, 3) := dk_182 1 14 (dk_at dksX3_firstChange_0 16 rfl rfl)
theorem dX3_firstChange_19 : decode cX3_firstChange 19 = .ok (.ifCond .eq 5, 3) := dk_153 0 5 (dk_at dksX3_firstChange_0 19 rfl rfl)
theorem dX3_firstChange_22 : decode cX3_firstChange 22 = .ok (.iload_n 1, 1) := dk_27 (dk_at dksX3_firstChange_0 22 rfl rfl)
theorem dX3_firstChange_23 : decode cX3_firstChange 23 = .ok (.ireturn, 1) := dk_172 (dk_at dksX3_firstChange_0 23 rfl rfl)
theorem dX3_firstChange_24 : decode cX3_firstChange 24 = .ok (.iinc 1 1, 3) := dk_132 1 1 (dk_at dksX3_firstChange_1 0 rfl rfl)
theorem dX3_firstChange_27 : decode cX3_firstChange 27 = .ok (.goto (-25), 3) := dk_167 255 231 (dk_at dksX3_firstChange_1 3 rfl rfl)
theorem dX3_firstChange_30 : decode cX3_firstChange 30 = .ok (.iconst (-1), 1) := dk_2 (dk_at dksX3_firstChange_1 6 rfl rfl)
theorem dX3_firstChange_31 : decode cX3_firstChange 31 = .ok (.ireturn, 1) := dk_172 (dk_at dksX3_firstChange_1 7 rfl rfl)
abbrev cX3_wouldChange : ByteArray := prog_14_method_53_code
def yX3_wouldChange : MethodName := ⟨RX3, "wouldChange", "(I)Z"⟩
def dkwX3_wouldChange_2 : List UInt8 := [164, 0, 7, 4, 167, 0, 4, 3, 54, 4, 42, 27, 182, 1, 10, 21, 4, 172]
abbrev dktX3_wouldChange_2 : List UInt8 := dkwX3_wouldChange_2 ++ []
def dkwX3_wouldChange_1 : List UInt8 := [42, 182, 1, 4, 87, 42, 27, 4, 96, 182, 1, 7, 28, 164, 0, 16, 42, 27, 182, 1, 7, 29]
abbrev dktX3_wouldChange_1 : List UInt8 := dkwX3_wouldChange_1 ++ dktX3_wouldChange_2
def dkwX3_wouldChange_0 : List UInt8 := [42, 182, 1, 4, 87, 42, 27, 182, 1, 7, 61, 42, 27, 4, 96, 182, 1, 7, 62, 42, 27, 182, 1, 10]
abbrev dktX3_wouldChange_0 : List UInt8 := dkwX3_wouldChange_0 ++ dktX3_wouldChange_1
theorem dksX3_wouldChange_0 : cX3_wouldChange.data.toList.drop 0 = dktX3_wouldChange_0 := by decide +kernel
theorem dksX3_wouldChange_1 : cX3_wouldChange.data.toList.drop 24 = dktX3_wouldChange_1 := dk_seg dksX3_wouldChange_0 24 rfl rfl
theorem dksX3_wouldChange_2 : cX3_wouldChange.data.toList.drop 46 = dktX3_wouldChange_2 := dk_seg dksX3_wouldChange_1 22 rfl rfl
theorem dX3_wouldChange_0 : decode cX3_wouldChange 0 = .ok (.aload_n 0, 1) := dk_42 (dk_at dksX3_wouldChange_0 0 rfl rfl)
theorem dX3_wouldChange_1 : decode cX3_wouldChange 1 = .ok (.invokevirtual 260, 3) := dk_182 1 4 (dk_at dksX3_wouldChange_0 1 rfl rfl)
theorem dX3_wouldChange_4 : decode cX3_wouldChange 4 = .ok (.pop, 1) := dk_87 (dk_at dksX3_wouldChange_0 4 rfl rfl)
theorem dX3_wouldChange_5 : decode cX3_wouldChange 5 = .ok (.aload_n 0, 1) := dk_42 (dk_at dksX3_wouldChange_0 5 rfl rfl)
theorem dX3_wouldChange_6 : decode cX3_wouldChange 6 = .ok (.iload_n 1, 1) := dk_27 (dk_at dksX3_wouldChange_0 6 rfl rfl)
theorem dX3_wouldChange_7 : decode cX3_wouldChange 7 = .ok (.invokevirtual 263, 3) := dk_182 1 7 (dk_at dksX3_wouldChange_0 7 rfl rfl)
theorem dX3_wouldChange_10 : decode cX3_wouldChange 10 = .ok (.istore_n 2, 1) := dk_61 (dk_at dksX3_wouldChange_0 10 rfl rfl)
theorem dX3_wouldChange_11 : decode cX3_wouldChange 11 = .ok (.aload_n 0, 1) := dk_42 (dk_at dksX3_wouldChange_0 11 rfl rfl)
theorem dX3_wouldChange_12 : decode cX3_wouldChange 12 = .ok (.iload_n 1, 1) := dk_27 (dk_at dksX3_wouldChange_0 12 rfl rfl)
theorem dX3_wouldChange_13 : decode cX3_wouldChange 13 = .ok (.iconst 1, 1) := dk_4 (dk_at dksX3_wouldChange_0 13 rfl rfl)
theorem dX3_wouldChange_14 : decode cX3_wouldChange 14 = .ok (.iadd, 1) := dk_96 (dk_at dksX3_wouldChange_0 14 rfl rfl)
theorem dX3_wouldChange_15 : decode cX3_wouldChange 15 = .ok (.invokevirtual 263, 3) := dk_182 1 7 (dk_at dksX3_wouldChange_0 15 rfl rfl)
theorem dX3_wouldChange_18 : decode cX3_wouldChange 18 = .ok (.istore_n 3, 1) := dk_62 (dk_at dksX3_wouldChange_0 18 rfl rfl)
theorem dX3_wouldChange_19 : decode cX3_wouldChange 19 = .ok (.aload_n 0, 1) := dk_42 (dk_at dksX3_wouldChange_0 19 rfl rfl)
theorem dX3_wouldChange_20 : decode cX3_wouldChange 20 = .ok (.iload_n 1, 1) := dk_27 (dk_at dksX3_wouldChange_0 20 rfl rfl)
theorem dX3_wouldChange_21 : decode cX3_wouldChange 21 = .ok (.invokevirtual 266, 3) := dk_182 1 10 (dk_at dksX3_wouldChange_0 21 rfl rfl)
theorem dX3_wouldChange_24 : decode cX3_wouldChange 24 = .ok (.aload_n 0, 1) := dk_42 (dk_at dksX3_wouldChange_1 0 rfl rfl)
theorem dX3_wouldChange_25 : decode cX3_wouldChange 25 = .ok (.invokevirtual 260, 3) := dk_182 1 4 (dk_at dksX3_wouldChange_1 1 rfl rfl)
theorem dX3_wouldChange_28 : decode cX3_wouldChange 28 = .ok (.pop, 1) := dk_87 (dk_at dksX3_wouldChange_1 4 rfl rfl)
theorem dX3_wouldChange_29 : decode cX3_wouldChange 29 = .ok (.aload_n 0, 1) := dk_42 (dk_at dksX3_wouldChange_1 5 rfl rfl)
theorem dX3_wouldChange_30 : decode cX3_wouldChange 30 = .ok (.iload_n 1, 1) := dk_27 (dk_at dksX3_wouldChange_1 6 rfl rfl)
theorem dX3_wouldChange_31 : decode cX3_wouldChange 31 = .ok (.iconst 1, 1) := dk_4 (dk_at dksX3_wouldChange_1 7 rfl rfl)
theorem dX3_wouldChange_32 : decode cX3_wouldChange 32 = .ok (.iadd, 1) := dk_96 (dk_at dksX3_wouldChange_1 8 rfl rfl)
theorem dX3_wouldChange_33 : decode cX3_wouldChange 33 = .ok (.invokevirtual 263, 3) := dk_182 1 7 (dk_at dksX3_wouldChange_1 9 rfl rfl)
theorem dX3_wouldChange_36 : decode cX3_wouldChange 36 = .ok (.iload_n 2, 1) := dk_28 (dk_at dksX3_wouldChange_1 12 rfl rfl)
theorem dX3_wouldChange_37 : decode cX3_wouldChange 37 = .ok (.if_icmp .le 16, 3) := dk_164 0 16 (dk_at dksX3_wouldChange_1 13 rfl rfl)
theorem dX3_wouldChange_40 : decode cX3_wouldChange 40 = .ok (.aload_n 0, 1) := dk_42 (dk_at dksX3_wouldChange_1 16 rfl rfl)
theorem dX3_wouldChange_41 : decode cX3_wouldChange 41 = .ok (.iload_n 1, 1) := dk_27 (dk_at dksX3_wouldChange_1 17 rfl rfl)
theorem dX3_wouldChange_42 : decode cX3_wouldChange 42 = .ok (.invokevirtual 263, 3) := dk_182 1 7 (dk_at dksX3_wouldChange_1 18 rfl rfl)
theorem dX3_wouldChange_45 : decode cX3_wouldChange 45 = .ok (.iload_n 3, 1) := dk_29 (dk_at dksX3_wouldChange_1 21 rfl rfl)
theorem dX3_wouldChange_46 : decode cX3_wouldChange 46 = .ok (.if_icmp .le 7, 3) := dk_164 0 7 (dk_at dksX3_wouldChange_2 0 rfl rfl)
theorem dX3_wouldChange_49 : decode cX3_wouldChange 49 = .ok (.iconst 1, 1) := dk_4 (dk_at dksX3_wouldChange_2 3 rfl rfl)
theorem dX3_wouldChange_50 : decode cX3_wouldChange 50 = .ok (.goto 4, 3) := dk_167 0 4 (dk_at dksX3_wouldChange_2 4 rfl rfl)
theorem dX3_wouldChange_53 : decode cX3_wouldChange 53 = .ok (.iconst 0, 1) := dk_3 (dk_at dksX3_wouldChange_2 7 rfl rfl)
theorem dX3_wouldChange_54 : decode cX3_wouldChange 54 = .ok (.istore 4, 2) := dk_54 4 (dk_at dksX3_wouldChange_2 8 rfl rfl)
theorem dX3_wouldChange_56 : decode cX3_wouldChange 56 = .ok (.aload_n 0, 1) := dk_42 (dk_at dksX3_wouldChange_2 10 rfl rfl)
theorem dX3_wouldChange_57 : decode cX3_wouldChange 57 = .ok (.iload_n 1, 1) := dk_27 (dk_at dksX3_wouldChange_2 11 rfl rfl)
theorem dX3_wouldChange_58 : decode cX3_wouldChange 58 = .ok (.invokevirtual 266, 3) := dk_182 1 10 (dk_at dksX3_wouldChange_2 12 rfl rfl)
theorem dX3_wouldChange_61 : decode cX3_wouldChange 61 = .ok (.iload 4, 2) := dk_21 4 (dk_at dksX3_wouldChange_2 15 rfl rfl)
theorem dX3_wouldChange_63 : decode cX3_wouldChange 63 = .ok (.ireturn, 1) := dk_172 (dk_at dksX3_wouldChange_2 17 rfl rfl)
abbrev cX3_exchanges : ByteArray := prog_14_method_52_code
def yX3_exchanges : MethodName := ⟨RX3, "exchanges", "(I)V"⟩
def dkwX3_exchanges_1 : List UInt8 := [180, 0, 44, 27, 4, 96, 28, 79, 177]
abbrev dktX3_exchanges_1 : List UInt8 := dkwX3_exchanges_1 ++ []
def dkwX3_exchanges_0 : List UInt8 := [42, 180, 0, 44, 27, 46, 61, 42, 180, 0, 44, 27, 42, 180, 0, 44, 27, 4, 96, 46, 79, 42]
abbrev dktX3_exchanges_0 : List UInt8 := dkwX3_exchanges_0 ++ dktX3_exchanges_1
theorem dksX3_exchanges_0 : cX3_exchanges.data.toList.drop 0 = dktX3_exchanges_0 := by decide +kernel
theorem dksX3_exchanges_1 : cX3_exchanges.data.toList.drop 22 = dktX3_exchanges_1 := dk_seg dksX3_exchanges_0 22 rfl rfl
theorem dX3_exchanges_0 : decode cX3_exchanges 0 = .ok (.aload_n 0, 1) := dk_42 (dk_at dksX3_exchanges_0 0 rfl rfl)
theorem dX3_exchanges_1 : decode cX3_exchanges 1 = .ok (.getfield 44, 3) := dk_180 0 44 (dk_at dksX3_exchanges_0 1 rfl rfl)
theorem dX3_exchanges_4 : decode cX3_exchanges 4 = .ok (.iload_n 1, 1) := dk_27 (dk_at dksX3_exchanges_0 4 rfl rfl)
theorem dX3_exchanges_5 : decode cX3_exchanges 5 = .ok (.iaload, 1) := dk_46 (dk_at dksX3_exchanges_0 5 rfl rfl)
theorem dX3_exchanges_6 : decode cX3_exchanges 6 = .ok (.istore_n 2, 1) := dk_61 (dk_at dksX3_exchanges_0 6 rfl rfl)
theorem dX3_exchanges_7 : decode cX3_exchanges 7 = .ok (.aload_n 0, 1) := dk_42 (dk_at dksX3_exchanges_0 7 rfl rfl)
theorem dX3_exchanges_8 : decode cX3_exchanges 8 = .ok (.getfield 44, 3) := dk_180 0 44 (dk_at dksX3_exchanges_0 8 rfl rfl)
theorem dX3_exchanges_11 : decode cX3_exchanges 11 = .ok (.iload_n 1, 1) := dk_27 (dk_at dksX3_exchanges_0 11 rfl rfl)
theorem dX3_exchanges_12 : decode cX3_exchanges 12 = .ok (.aload_n 0, 1) := dk_42 (dk_at dksX3_exchanges_0 12 rfl rfl)
theorem dX3_exchanges_13 : decode cX3_exchanges 13 = .ok (.getfield 44, 3) := dk_180 0 44 (dk_at dksX3_exchanges_0 13 rfl rfl)
theorem dX3_exchanges_16 : decode cX3_exchanges 16 = .ok (.iload_n 1, 1) := dk_27 (dk_at dksX3_exchanges_0 16 rfl rfl)
theorem dX3_exchanges_17 : decode cX3_exchanges 17 = .ok (.iconst 1, 1) := dk_4 (dk_at dksX3_exchanges_0 17 rfl rfl)
theorem dX3_exchanges_18 : decode cX3_exchanges 18 = .ok (.iadd, 1) := dk_96 (dk_at dksX3_exchanges_0 18 rfl rfl)
theorem dX3_exchanges_19 : decode cX3_exchanges 19 = .ok (.iaload, 1) := dk_46 (dk_at dksX3_exchanges_0 19 rfl rfl)
theorem dX3_exchanges_20 : decode cX3_exchanges 20 = .ok (.iastore, 1) := dk_79 (dk_at dksX3_exchanges_0 20 rfl rfl)
theorem dX3_exchanges_21 : decode cX3_exchanges 21 = .ok (.aload_n 0, 1) := dk_42 (dk_at dksX3_exchanges_0 21 rfl rfl)
theorem dX3_exchanges_22 : decode cX3_exchanges 22 = .ok (.getfield 44, 3) := dk_180 0 44 (dk_at dksX3_exchanges_1 0 rfl rfl)
theorem dX3_exchanges_25 : decode cX3_exchanges 25 = .ok (.iload_n 1, 1) := dk_27 (dk_at dksX3_exchanges_1 3 rfl rfl)
theorem dX3_exchanges_26 : decode cX3_exchanges 26 = .ok (.iconst 1, 1) := dk_4 (dk_at dksX3_exchanges_1 4 rfl rfl)
theorem dX3_exchanges_27 : decode cX3_exchanges 27 = .ok (.iadd, 1) := dk_96 (dk_at dksX3_exchanges_1 5 rfl rfl)
theorem dX3_exchanges_28 : decode cX3_exchanges 28 = .ok (.iload_n 2, 1) := dk_28 (dk_at dksX3_exchanges_1 6 rfl rfl)
theorem dX3_exchanges_29 : decode cX3_exchanges 29 = .ok (.iastore, 1) := dk_79 (dk_at dksX3_exchanges_1 7 rfl rfl)
theorem dX3_exchanges_30 : decode cX3_exchanges 30 = .ok (.return_, 1) := dk_177 (dk_at dksX3_exchanges_1 8 rfl rfl)
abbrev cX3_least : ByteArray := prog_14_method_58_code
def yX3_least : MethodName := ⟨RX3, "least", "(I)I"⟩
def dkwX3_least_1 : List UInt8 := [180, 0, 53, 27, 16, 10, 100, 46, 172]
abbrev dktX3_least_1 : List UInt8 := dkwX3_least_1 ++ []
def dkwX3_least_0 : List UInt8 := [42, 27, 182, 1, 29, 154, 0, 7, 2, 167, 0, 23, 27, 154, 0, 10, 42, 180, 1, 20, 167, 0, 12, 42]
abbrev dktX3_least_0 : List UInt8 := dkwX3_least_0 ++ dktX3_least_1
theorem dksX3_least_0 : cX3_least.data.toList.drop 0 = dktX3_least_0 := by decide +kernel
theorem dksX3_least_1 : cX3_least.data.toList.drop 24 = dktX3_least_1 := dk_seg dksX3_least_0 24 rfl rfl
theorem dX3_least_0 : decode cX3_least 0 = .ok (.aload_n 0, 1) := dk_42 (dk_at dksX3_least_0 0 rfl rfl)
theorem dX3_least_1 : decode cX3_least 1 = .ok (.iload_n 1, 1) := dk_27 (dk_at dksX3_least_0 1 rfl rfl)
theorem dX3_least_2 : decode cX3_least 2 = .ok (.invokevirtual 285, 3) := dk_182 1 29 (dk_at dksX3_least_0 2 rfl rfl)
theorem dX3_least_5 : decode cX3_least 5 = .ok (.ifCond .ne 7, 3) := dk_154 0 7 (dk_at dksX3_least_0 5 rfl rfl)
theorem dX3_least_8 : decode cX3_least 8 = .ok (.iconst (-1), 1) := dk_2 (dk_at dksX3_least_0 8 rfl rfl)
theorem dX3_least_9 : decode cX3_least 9 = .ok (.goto 23, 3) := dk_167 0 23 (dk_at dksX3_least_0 9 rfl rfl)
theorem dX3_least_12 : decode cX3_least 12 = .ok (.iload_n 1, 1) := dk_27 (dk_at dksX3_least_0 12 rfl rfl)
theorem dX3_least_13 : decode cX3_least 13 = .ok (.ifCond .ne 10, 3) := dk_154 0 10 (dk_at dksX3_least_0 13 rfl rfl)
theorem dX3_least_16 : decode cX3_least 16 = .ok (.aload_n 0, 1) := dk_42 (dk_at dksX3_least_0 16 rfl rfl)
theorem dX3_least_17 : decode cX3_least 17 = .ok (.getfield 276, 3) := dk_180 1 20 (dk_at dksX3_least_0 17 rfl rfl)
theorem dX3_least_20 : decode cX3_least 20 = .ok (.goto 12, 3) := dk_167 0 12 (dk_at dksX3_least_0 20 rfl rfl)
theorem dX3_least_23 : decode cX3_least 23 = .ok (.aload_n 0, 1) := dk_42 (dk_at dksX3_least_0 23 rfl rfl)
theorem dX3_least_24 : decode cX3_least 24 = .ok (.getfield 53, 3) := dk_180 0 53 (dk_at dksX3_least_1 0 rfl rfl)
theorem dX3_least_27 : decode cX3_least 27 = .ok (.iload_n 1, 1) := dk_27 (dk_at dksX3_least_1 3 rfl rfl)
theorem dX3_least_28 : decode cX3_least 28 = .ok (.bipush 10, 2) := dk_16 10 (dk_at dksX3_least_1 4 rfl rfl)
theorem dX3_least_30 : decode cX3_least 30 = .ok (.isub, 1) := dk_100 (dk_at dksX3_least_1 6 rfl rfl)
theorem dX3_least_31 : decode cX3_least 31 = .ok (.iaload, 1) := dk_46 (dk_at dksX3_least_1 7 rfl rfl)
theorem dX3_least_32 : decode cX3_least 32 = .ok (.ireturn, 1) := dk_172 (dk_at dksX3_least_1 8 rfl rfl)
abbrev cX3_round : ByteArray := prog_14_method_60_code
def yX3_round : MethodName := ⟨RX3, "round", "(I)I"⟩
def dkwX3_round_6 : List UInt8 := [3, 172, 42, 29, 182, 1, 10, 132, 2, 1, 167, 255, 153, 27, 154, 0, 7, 2, 167, 0, 4, 3, 172]
abbrev dktX3_round_6 : List UInt8 := dkwX3_round_6 ++ []
def dkwX3_round_5 : List UInt8 := [132, 3, 1, 167, 255, 226, 42, 182, 1, 23, 62, 29, 2, 160, 0, 13, 27, 154, 0, 7, 28, 167, 0, 4]
abbrev dktX3_round_5 : List UInt8 := dkwX3_round_5 ++ dktX3_round_6
def dkwX3_round_4 : List UInt8 := [7, 46, 162, 0, 26, 42, 180, 0, 56, 16, 9, 28, 104, 29, 96, 42, 180, 0, 44, 29, 46, 79]
abbrev dktX3_round_4 : List UInt8 := dkwX3_round_4 ++ dktX3_round_5
def dkwX3_round_3 : List UInt8 := [154, 0, 7, 2, 167, 0, 6, 28, 29, 100, 172, 132, 3, 1, 167, 255, 228, 3, 62, 29, 42, 180, 0, 7]
abbrev dktX3_round_3 : List UInt8 := dkwX3_round_3 ++ dktX3_round_4
def dkwX3_round_2 : List UInt8 := [28, 17, 0, 200, 163, 0, 102, 3, 62, 29, 28, 162, 0, 29, 42, 29, 182, 1, 32, 153, 0, 15, 27]
abbrev dktX3_round_2 : List UInt8 := dkwX3_round_2 ++ dktX3_round_3
def dkwX3_round_1 : List UInt8 := [46, 162, 0, 21, 42, 180, 0, 44, 28, 42, 180, 0, 38, 28, 46, 79, 132, 2, 1, 167, 255, 231, 3, 61]
abbrev dktX3_round_1 : List UInt8 := dkwX3_round_1 ++ dktX3_round_2
def dkwX3_round_0 : List UInt8 := [27, 3, 4, 184, 0, 66, 154, 0, 5, 2, 172, 42, 3, 182, 0, 240, 3, 61, 28, 42, 180, 0, 7, 7]
abbrev dktX3_round_0 : List UInt8 := dkwX3_round_0 ++ dktX3_round_1
theorem dksX3_round_0 : cX3_round.data.toList.drop 0 = dktX3_round_0 := by decide +kernel
theorem dksX3_round_1 : cX3_round.data.toList.drop 24 = dktX3_round_1 := dk_seg dksX3_round_0 24 rfl rfl
theorem dksX3_round_2 : cX3_round.data.toList.drop 48 = dktX3_round_2 := dk_seg dksX3_round_1 24 rfl rfl
theorem dksX3_round_3 : cX3_round.data.toList.drop 71 = dktX3_round_3 := dk_seg dksX3_round_2 23 rfl rfl
theorem dksX3_round_4 : cX3_round.data.toList.drop 95 = dktX3_round_4 := dk_seg dksX3_round_3 24 rfl rfl
theorem dksX3_round_5 : cX3_round.data.toList.drop 117 = dktX3_round_5 := dk_seg dksX3_round_4 22 rfl rfl
theorem dksX3_round_6 : cX3_round.data.toList.drop 141 = dktX3_round_6 := dk_seg dksX3_round_5 24 rfl rfl
theorem dX3_round_0 : decode cX3_round 0 = .ok (.iload_n 1, 1) := dk_27 (dk_at dksX3_round_0 0 rfl rfl)
theorem dX3_round_1 : decode cX3_round 1 = .ok (.iconst 0, 1) := dk_3 (dk_at dksX3_round_0 1 rfl rfl)
theorem dX3_round_2 : decode cX3_round 2 = .ok (.iconst 1, 1) := dk_4 (dk_at dksX3_round_0 2 rfl rfl)
theorem dX3_round_3 : decode cX3_round 3 = .ok (.invokestatic 66, 3) := dk_184 0 66 (dk_at dksX3_round_0 3 rfl rfl)
theorem dX3_round_6 : decode cX3_round 6 = .ok (.ifCond .ne 5, 3) := dk_154 0 5 (dk_at dksX3_round_0 6 rfl rfl)
theorem dX3_round_9 : decode cX3_round 9 = .ok (.iconst (-1), 1) := dk_2 (dk_at dksX3_round_0 9 rfl rfl)
theorem dX3_round_10 : decode cX3_round 10 = .ok (.ireturn, 1) := dk_172 (dk_at dksX3_round_0 10 rfl rfl)
theorem dX3_round_11 : decode cX3_round 11 = .ok (.aload_n 0, 1) := dk_42 (dk_at dksX3_round_0 11 rfl rfl)
theorem dX3_round_12 : decode cX3_round 12 = .ok (.iconst 0, 1) := dk_3 (dk_at dksX3_round_0 12 rfl rfl)
theorem dX3_round_13 : decode cX3_round 13 = .ok (.invokevirtual 240, 3) := dk_182 0 240 (dk_at dksX3_round_0 13 rfl rfl)
theorem dX3_round_16 : decode cX3_round 16 = .ok (.iconst 0, 1) := dk_3 (dk_at dksX3_round_0 16 rfl rfl)
theorem dX3_round_17 : decode cX3_round 17 = .ok (.istore_n 2, 1) := dk_61 (dk_at dksX3_round_0 17 rfl rfl)
theorem dX3_round_18 : decode cX3_round 18 = .ok (.iload_n 2, 1) := dk_28 (dk_at dksX3_round_0 18 rfl rfl)
theorem dX3_round_19 : decode cX3_round 19 = .ok (.aload_n 0, 1) := dk_42 (dk_at dksX3_round_0 19 rfl rfl)
theorem dX3_round_20 : decode cX3_round 20 = .ok (.getfield 7, 3) := dk_180 0 7 (dk_at dksX3_round_0 20 rfl rfl)
theorem dX3_round_23 : decode cX3_round 23 = .ok (.iconst 4, 1) := dk_7 (dk_at dksX3_round_0 23 rfl rfl)
theorem dX3_round_24 : decode cX3_round 24 = .ok (.iaload, 1) := dk_46 (dk_at dksX3_round_1 0 rfl rfl)
theorem dX3_round_25 : decode cX3_round 25 = .ok (.if_icmp .ge 21, 3) := dk_162 0 21 (dk_at dksX3_round_1 1 rfl rfl)
theorem dX3_round_28 : decode cX3_round 28 = .ok (.aload_n 0, 1) := dk_42 (dk_at dksX3_round_1 4 rfl rfl)
theorem dX3_round_29 : decode cX3_round 29 = .ok (.getfield 44, 3) := dk_180 0 44 (dk_at dksX3_round_1 5 rfl rfl)
theorem dX3_round_32 : decode cX3_round 32 = .ok (.iload_n 2, 1) := dk_28 (dk_at dksX3_round_1 8 rfl rfl)
theorem dX3_round_33 : decode cX3_round 33 = .ok (.aload_n 0, 1) := dk_42 (dk_at dksX3_round_1 9 rfl rfl)
theorem dX3_round_34 : decode cX3_round 34 = .ok (.getfield 38, 3) := dk_180 0 38 (dk_at dksX3_round_1 10 rfl rfl)
theorem dX3_round_37 : decode cX3_round 37 = .ok (.iload_n 2, 1) := dk_28 (dk_at dksX3_round_1 13 rfl rfl)
theorem dX3_round_38 : decode cX3_round 38 = .ok (.iaload, 1) := dk_46 (dk_at dksX3_round_1 14 rfl rfl)
theorem dX3_round_39 : decode cX3_round 39 = .ok (.iastore, 1) := dk_79 (dk_at dksX3_round_1 15 rfl rfl)
theorem dX3_round_40 : decode cX3_round 40 = .ok (.iinc 2 1, 3) := dk_132 2 1 (dk_at dksX3_round_1 16 rfl rfl)
theorem dX3_round_43 : decode cX3_round 43 = .ok (.goto (-25), 3) := dk_167 255 231 (dk_at dksX3_round_1 19 rfl rfl)
theorem dX3_round_46 : decode cX3_round 46 = .ok (.iconst 0, 1) := dk_3 (dk_at dksX3_round_1 22 rfl rfl)
theorem dX3_round_47 : decode cX3_round 47 = .ok (.istore_n 2, 1) := dk_61 (dk_at dksX3_round_1 23 rfl rfl)
theorem dX3_round_48 : decode cX3_round 48 = .ok (.iload_n 2, 1) := dk_28 (dk_at dksX3_round_2 0 rfl rfl)
theorem dX3_round_49 : decode cX3_round 49 = .ok (.sipush 200, 3) := dk_17 0 200 (dk_at dksX3_round_2 1 rfl rfl)
theorem dX3_round_52 : decode cX3_round 52 = .ok (.if_icmp .gt 102, 3) := dk_163 0 102 (dk_at dksX3_round_2 4 rfl rfl)
theorem dX3_round_55 : decode cX3_round 55 = .ok (.iconst 0, 1) := dk_3 (dk_at dksX3_round_2 7 rfl rfl)
theorem dX3_round_56 : decode cX3_round 56 = .ok (.istore_n 3, 1) := dk_62 (dk_at dksX3_round_2 8 rfl rfl)
theorem dX3_round_57 : decode cX3_round 57 = .ok (.iload_n 3, 1) := dk_29 (dk_at dksX3_round_2 9 rfl rfl)
theorem dX3_round_58 : decode cX3_round 58 = .ok (.iload_n 2, 1) := dk_28 (dk_at dksX3_round_2 10 rfl rfl)
theorem dX3_round_59 : decode cX3_round 59 = .ok (.if_icmp .ge 29, 3) := dk_162 0 29 (dk_at dksX3_round_2 11 rfl rfl)
theorem dX3_round_62 : decode cX3_round 62 = .ok (.aload_n 0, 1) := dk_42 (dk_at dksX3_round_2 14 rfl rfl)
theorem dX3_round_63 : decode cX3_round 63 = .ok (.iload_n 3, 1) := dk_29 (dk_at dksX3_round_2 15 rfl rfl)
theorem dX3_round_64 : decode cX3_round 64 = .ok (.invokevirtual 288, 3) := dk_182 1 32 (dk_at dksX3_round_2 16 rfl rfl)
theorem dX3_round_67 : decode cX3_round 67 = .ok (.ifCond .eq 15, 3) := dk_153 0 15 (dk_at dksX3_round_2 19 rfl rfl)
theorem dX3_round_70 : decode cX3_round 70 = .ok (.iload_n 1, 1) := dk_27 (dk_at dksX3_round_2 22 rfl rfl)
theorem dX3_round_71 : decode cX3_round 71 = .ok (.ifCond .ne 7, 3) := dk_154 0 7 (dk_at dksX3_round_3 0 rfl rfl)
theorem dX3_round_74 : decode cX3_round 74 = .ok (.iconst (-1), 1) := dk_2 (dk_at dksX3_round_3 3 rfl rfl)
theorem dX3_round_75 : decode cX3_round 75 = .ok (.goto 6, 3) := dk_167 0 6 (dk_at dksX3_round_3 4 rfl rfl)
theorem dX3_round_78 : decode cX3_round 78 = .ok (.iload_n 2, 1) := dk_28 (dk_at dksX3_round_3 7 rfl rfl)
theorem dX3_round_79 : decode cX3_round 79 = .ok (.iload_n 3, 1) := dk_29 (dk_at dksX3_round_3 8 rfl rfl)
theorem dX3_round_80 : decode cX3_round 80 = .ok (.isub, 1) := dk_100 (dk_at dksX3_round_3 9 rfl rfl)
theorem dX3_round_81 : decode cX3_round 81 = .ok (.ireturn, 1) := dk_172 (dk_at dksX3_round_3 10 rfl rfl)
theorem dX3_round_82 : decode cX3_round 82 = .ok (.iinc 3 1, 3) := dk_132 3 1 (dk_at dksX3_round_3 11 rfl rfl)
theorem dX3_round_85 : decode cX3_round 85 = .ok (.goto (-28), 3) := dk_167 255 228 (dk_at dksX3_round_3 14 rfl rfl)
theorem dX3_round_88 : decode cX3_round 88 = .ok (.iconst 0, 1) := dk_3 (dk_at dksX3_round_3 17 rfl rfl)
theorem dX3_round_89 : decode cX3_round 89 = .ok (.istore_n 3, 1) := dk_62 (dk_at dksX3_round_3 18 rfl rfl)
theorem dX3_round_90 : decode cX3_round 90 = .ok (.iload_n 3, 1) := dk_29 (dk_at dksX3_round_3 19 rfl rfl)
theorem dX3_round_91 : decode cX3_round 91 = .ok (.aload_n 0, 1) := dk_42 (dk_at dksX3_round_3 20 rfl rfl)
theorem dX3_round_92 : decode cX3_round 92 = .ok (.getfield 7, 3) := dk_180 0 7 (dk_at dksX3_round_3 21 rfl rfl)
theorem dX3_round_95 : decode cX3_round 95 = .ok (.iconst 4, 1) := dk_7 (dk_at dksX3_round_4 0 rfl rfl)
theorem dX3_round_96 : decode cX3_round 96 = .ok (.iaload, 1) := dk_46 (dk_at dksX3_round_4 1 rfl rfl)
theorem dX3_round_97 : decode cX3_round 97 = .ok (.if_icmp .ge 26, 3) := dk_162 0 26 (dk_at dksX3_round_4 2 rfl rfl)
theorem dX3_round_100 : decode cX3_round 100 = .ok (.aload_n 0, 1) := dk_42 (dk_at dksX3_round_4 5 rfl rfl)
theorem dX3_round_101 : decode cX3_round 101 = .ok (.getfield 56, 3) := dk_180 0 56 (dk_at dksX3_round_4 6 rfl rfl)
theorem dX3_round_104 : decode cX3_round 104 = .ok (.bipush 9, 2) := dk_16 9 (dk_at dksX3_round_4 9 rfl rfl)
theorem dX3_round_106 : decode cX3_round 106 = .ok (.iload_n 2, 1) := dk_28 (dk_at dksX3_round_4 11 rfl rfl)
theorem dX3_round_107 : decode cX3_round 107 = .ok (.imul, 1) := dk_104 (dk_at dksX3_round_4 12 rfl rfl)
theorem dX3_round_108 : decode cX3_round 108 = .ok (.iload_n 3, 1) := dk_29 (dk_at dksX3_round_4 13 rfl rfl)
theorem dX3_round_109 : decode cX3_round 109 = .ok (.iadd, 1) := dk_96 (dk_at dksX3_round_4 14 rfl rfl)
theorem dX3_round_110 : decode cX3_round 110 = .ok (.aload_n 0, 1) := dk_42 (dk_at dksX3_round_4 15 rfl rfl)
theorem dX3_round_111 : decode cX3_round 111 = .ok (.getfield 44, 3) := dk_180 0 44 (dk_at dksX3_round_4 16 rfl rfl)
theorem dX3_round_114 : decode cX3_round 114 = .ok (.iload_n 3, 1) := dk_29 (dk_at dksX3_round_4 19 rfl rfl)
theorem dX3_round_115 : decode cX3_round 115 = .ok (.iaload, 1) := dk_46 (dk_at dksX3_round_4 20 rfl rfl)
theorem dX3_round_116 : decode cX3_round 116 = .ok (.iastore, 1) := dk_79 (dk_at dksX3_round_4 21 rfl rfl)
theorem dX3_round_117 : decode cX3_round 117 = .ok (.iinc 3 1, 3) := dk_132 3 1 (dk_at dksX3_round_5 0 rfl rfl)
theorem dX3_round_120 : decode cX3_round 120 = .ok (.goto (-30), 3) := dk_167 255 226 (dk_at dksX3_round_5 3 rfl rfl)
theorem dX3_round_123 : decode cX3_round 123 = .ok (.aload_n 0, 1) := dk_42 (dk_at dksX3_round_5 6 rfl rfl)
theorem dX3_round_124 : decode cX3_round 124 = .ok (.invokevirtual 279, 3) := dk_182 1 23 (dk_at dksX3_round_5 7 rfl rfl)
theorem dX3_round_127 : decode cX3_round 127 = .ok (.istore_n 3, 1) := dk_62 (dk_at dksX3_round_5 10 rfl rfl)
theorem dX3_round_128 : decode cX3_round 128 = .ok (.iload_n 3, 1) := dk_29 (dk_at dksX3_round_5 11 rfl rfl)
theorem dX3_round_129 : decode cX3_round 129 = .ok (.iconst (-1), 1) := dk_2 (dk_at dksX3_round_5 12 rfl rfl)
theorem dX3_round_130 : decode cX3_round 130 = .ok (.if_icmp .ne 13, 3) := dk_160 0 13 (dk_at dksX3_round_5 13 rfl rfl)
theorem dX3_round_133 : decode cX3_round 133 = .ok (.iload_n 1, 1) := dk_27 (dk_at dksX3_round_5 16 rfl rfl)
theorem dX3_round_134 : decode cX3_round 134 = .ok (.ifCond .ne 7, 3) := dk_154 0 7 (dk_at dksX3_round_5 17 rfl rfl)
theorem dX3_round_137 : decode cX3_round 137 = .ok (.iload_n 2, 1) := dk_28 (dk_at dksX3_round_5 20 rfl rfl)
theorem dX3_round_138 : decode cX3_round 138 = .ok (.goto 4, 3) := dk_167 0 4 (dk_at dksX3_round_5 21 rfl rfl)
theorem dX3_round_141 : decode cX3_round 141 = .ok (.iconst 0, 1) := dk_3 (dk_at dksX3_round_6 0 rfl rfl)
theorem dX3_round_142 : decode cX3_round 142 = .ok (.ireturn, 1) := dk_172 (dk_at dksX3_round_6 1 rfl rfl)
theorem dX3_round_143 : decode cX3_round 143 = .ok (.aload_n 0, 1) := dk_42 (dk_at dksX3_round_6 2 rfl rfl)
theorem dX3_round_144 : decode cX3_round 144 = .ok (.iload_n 3, 1) := dk_29 (dk_at dksX3_round_6 3 rfl rfl)
theorem dX3_round_145 : decode cX3_round 145 = .ok (.invokevirtual 266, 3) := dk_182 1 10 (dk_at dksX3_round_6 4 rfl rfl)
theorem dX3_round_148 : decode cX3_round 148 = .ok (.iinc 2 1, 3) := dk_132 2 1 (dk_at dksX3_round_6 7 rfl rfl)
theorem dX3_round_151 : decode cX3_round 151 = .ok (.goto (-103), 3) := dk_167 255 153 (dk_at dksX3_round_6 10 rfl rfl)
theorem dX3_round_154 : decode cX3_round 154 = .ok (.iload_n 1, 1) := dk_27 (dk_at dksX3_round_6 13 rfl rfl)
theorem dX3_round_155 : decode cX3_round 155 = .ok (.ifCond .ne 7, 3) := dk_154 0 7 (dk_at dksX3_round_6 14 rfl rfl)
theorem dX3_round_158 : decode cX3_round 158 = .ok (.iconst (-1), 1) := dk_2 (dk_at dksX3_round_6 17 rfl rfl)
theorem dX3_round_159 : decode cX3_round 159 = .ok (.goto 4, 3) := dk_167 0 4 (dk_at dksX3_round_6 18 rfl rfl)
theorem dX3_round_162 : decode cX3_round 162 = .ok (.iconst 0, 1) := dk_3 (dk_at dksX3_round_6 21 rfl rfl)
theorem dX3_round_163 : decode cX3_round 163 = .ok (.ireturn, 1) := dk_172 (dk_at dksX3_round_6 22 rfl rfl)
abbrev cX3_isRow : ByteArray := prog_14_method_59_code
def yX3_isRow : MethodName := ⟨RX3, "isRow", "(I)Z"⟩
def dkwX3_isRow_1 : List UInt8 := [180, 0, 44, 28, 46, 159, 0, 5, 3, 172, 132, 2, 1, 167, 255, 221, 4, 172]
abbrev dktX3_isRow_1 : List UInt8 := dkwX3_isRow_1 ++ []
def dkwX3_isRow_0 : List UInt8 := [3, 61, 28, 42, 180, 0, 7, 7, 46, 162, 0, 31, 42, 180, 0, 56, 16, 9, 27, 104, 28, 96, 46, 42]
abbrev dktX3_isRow_0 : List UInt8 := dkwX3_isRow_0 ++ dktX3_isRow_1
theorem dksX3_isRow_0 : cX3_isRow.data.toList.drop 0 = dktX3_isRow_0 := by decide +kernel
theorem dksX3_isRow_1 : cX3_isRow.data.toList.drop 24 = dktX3_isRow_1 := dk_seg dksX3_isRow_0 24 rfl rfl
theorem dX3_isRow_0 : decode cX3_isRow 0 = .ok (.iconst 0, 1) := dk_3 (dk_at dksX3_isRow_0 0 rfl rfl)
theorem dX3_isRow_1 : decode cX3_isRow 1 = .ok (.istore_n 2, 1) := dk_61 (dk_at dksX3_isRow_0 1 rfl rfl)
theorem dX3_isRow_2 : decode cX3_isRow 2 = .ok (.iload_n 2, 1) := dk_28 (dk_at dksX3_isRow_0 2 rfl rfl)
theorem dX3_isRow_3 : decode cX3_isRow 3 = .ok (.aload_n 0, 1) := dk_42 (dk_at dksX3_isRow_0 3 rfl rfl)
theorem dX3_isRow_4 : decode cX3_isRow 4 = .ok (.getfield 7, 3) := dk_180 0 7 (dk_at dksX3_isRow_0 4 rfl rfl)
theorem dX3_isRow_7 : decode cX3_isRow 7 = .ok (.iconst 4, 1) := dk_7 (dk_at dksX3_isRow_0 7 rfl rfl)
theorem dX3_isRow_8 : decode cX3_isRow 8 = .ok (.iaload, 1) := dk_46 (dk_at dksX3_isRow_0 8 rfl rfl)
theorem dX3_isRow_9 : decode cX3_isRow 9 = .ok (.if_icmp .ge 31, 3) := dk_162 0 31 (dk_at dksX3_isRow_0 9 rfl rfl)
theorem dX3_isRow_12 : decode cX3_isRow 12 = .ok (.aload_n 0, 1) := dk_42 (dk_at dksX3_isRow_0 12 rfl rfl)
theorem dX3_isRow_13 : decode cX3_isRow 13 = .ok (.getfield 56, 3) := dk_180 0 56 (dk_at dksX3_isRow_0 13 rfl rfl)
theorem dX3_isRow_16 : decode cX3_isRow 16 = .ok (.bipush 9, 2) := dk_16 9 (dk_at dksX3_isRow_0 16 rfl rfl)
theorem dX3_isRow_18 : decode cX3_isRow 18 = .ok (.iload_n 1, 1) := dk_27 (dk_at dksX3_isRow_0 18 rfl rfl)
theorem dX3_isRow_19 : decode cX3_isRow 19 = .ok (.imul, 1) := dk_104 (dk_at dksX3_isRow_0 19 rfl rfl)
theorem dX3_isRow_20 : decode cX3_isRow 20 = .ok (.iload_n 2, 1) := dk_28 (dk_at dksX3_isRow_0 20 rfl rfl)
theorem dX3_isRow_21 : decode cX3_isRow 21 = .ok (.iadd, 1) := dk_96 (dk_at dksX3_isRow_0 21 rfl rfl)
theorem dX3_isRow_22 : decode cX3_isRow 22 = .ok (.iaload, 1) := dk_46 (dk_at dksX3_isRow_0 22 rfl rfl)
theorem dX3_isRow_23 : decode cX3_isRow 23 = .ok (.aload_n 0, 1) := dk_42 (dk_at dksX3_isRow_0 23 rfl rfl)
theorem dX3_isRow_24 : decode cX3_isRow 24 = .ok (.getfield 44, 3) := dk_180 0 44 (dk_at dksX3_isRow_1 0 rfl rfl)
theorem dX3_isRow_27 : decode cX3_isRow 27 = .ok (.iload_n 2, 1) := dk_28 (dk_at dksX3_isRow_1 3 rfl rfl)
theorem dX3_isRow_28 : decode cX3_isRow 28 = .ok (.iaload, 1) := dk_46 (dk_at dksX3_isRow_1 4 rfl rfl)
theorem dX3_isRow_29 : decode cX3_isRow 29 = .ok (.if_icmp .eq 5, 3) := dk_159 0 5 (dk_at dksX3_isRow_1 5 rfl rfl)
theorem dX3_isRow_32 : decode cX3_isRow 32 = .ok (.iconst 0, 1) := dk_3 (dk_at dksX3_isRow_1 8 rfl rfl)
theorem dX3_isRow_33 : decode cX3_isRow 33 = .ok (.ireturn, 1) := dk_172 (dk_at dksX3_isRow_1 9 rfl rfl)
theorem dX3_isRow_34 : decode cX3_isRow 34 = .ok (.iinc 2 1, 3) := dk_132 2 1 (dk_at dksX3_isRow_1 10 rfl rfl)
theorem dX3_isRow_37 : decode cX3_isRow 37 = .ok (.goto (-35), 3) := dk_167 255 221 (dk_at dksX3_isRow_1 13 rfl rfl)
theorem dX3_isRow_40 : decode cX3_isRow 40 = .ok (.iconst 1, 1) := dk_4 (dk_at dksX3_isRow_1 16 rfl rfl)
theorem dX3_isRow_41 : decode cX3_isRow 41 = .ok (.ireturn, 1) := dk_172 (dk_at dksX3_isRow_1 17 rfl rfl)
abbrev cX3_leaven : ByteArray := prog_14_method_63_code
def yX3_leaven : MethodName := ⟨RX3, "leaven", "(II)I"⟩
def dkwX3_leaven_8 : List UInt8 := [17, 2, 73, 92, 46, 4, 96, 79, 42, 180, 0, 7, 17, 2, 73, 46, 4, 100, 172]
abbrev dktX3_leaven_8 : List UInt8 := dkwX3_leaven_8 ++ []
def dkwX3_leaven_7 : List UInt8 := [180, 0, 7, 29, 5, 96, 2, 79, 42, 180, 0, 7, 29, 6, 96, 21, 4, 79, 42, 180, 0, 7]
abbrev dktX3_leaven_7 : List UInt8 := dkwX3_leaven_7 ++ dktX3_leaven_8
def dkwX3_leaven_6 : List UInt8 := [164, 0, 5, 2, 172, 42, 180, 0, 7, 29, 27, 79, 42, 180, 0, 7, 29, 4, 96, 28, 79, 42]
abbrev dktX3_leaven_6 : List UInt8 := dkwX3_leaven_6 ++ dktX3_leaven_7
def dkwX3_leaven_5 : List UInt8 := [42, 27, 6, 182, 1, 38, 167, 0, 9, 42, 28, 6, 182, 1, 38, 96, 54, 4, 21, 4, 16, 30]
abbrev dktX3_leaven_5 : List UInt8 := dkwX3_leaven_5 ++ dktX3_leaven_6
def dkwX3_leaven_4 : List UInt8 := [182, 1, 35, 154, 0, 5, 2, 172, 4, 42, 27, 6, 182, 1, 38, 42, 28, 6, 182, 1, 38, 164, 0, 12]
abbrev dktX3_leaven_4 : List UInt8 := dkwX3_leaven_4 ++ dktX3_leaven_5
def dkwX3_leaven_3 : List UInt8 := [42, 180, 0, 7, 29, 6, 96, 3, 79, 167, 0, 99, 42, 27, 182, 1, 35, 153, 0, 11, 42, 28]
abbrev dktX3_leaven_3 : List UInt8 := dkwX3_leaven_3 ++ dktX3_leaven_4
def dkwX3_leaven_2 : List UInt8 := [180, 0, 7, 29, 2, 79, 42, 180, 0, 7, 29, 4, 96, 2, 79, 42, 180, 0, 7, 29, 5, 96, 27, 79]
abbrev dktX3_leaven_2 : List UInt8 := dkwX3_leaven_2 ++ dktX3_leaven_3
def dkwX3_leaven_1 : List UInt8 := [17, 2, 73, 46, 104, 96, 62, 28, 2, 160, 0, 50, 42, 27, 182, 0, 216, 154, 0, 5, 2, 172, 42]
abbrev dktX3_leaven_1 : List UInt8 := dkwX3_leaven_1 ++ dktX3_leaven_2
def dkwX3_leaven_0 : List UInt8 := [42, 180, 0, 7, 17, 2, 73, 46, 16, 60, 160, 0, 5, 2, 172, 17, 1, 84, 7, 42, 180, 0, 7]
abbrev dktX3_leaven_0 : List UInt8 := dkwX3_leaven_0 ++ dktX3_leaven_1
theorem dksX3_leaven_0 : cX3_leaven.data.toList.drop 0 = dktX3_leaven_0 := by decide +kernel
theorem dksX3_leaven_1 : cX3_leaven.data.toList.drop 23 = dktX3_leaven_1 := dk_seg dksX3_leaven_0 23 rfl rfl
theorem dksX3_leaven_2 : cX3_leaven.data.toList.drop 46 = dktX3_leaven_2 := dk_seg dksX3_leaven_1 23 rfl rfl
theorem dksX3_leaven_3 : cX3_leaven.data.toList.drop 70 = dktX3_leaven_3 := dk_seg dksX3_leaven_2 24 rfl rfl
theorem dksX3_leaven_4 : cX3_leaven.data.toList.drop 92 = dktX3_leaven_4 := dk_seg dksX3_leaven_3 22 rfl rfl
theorem dksX3_leaven_5 : cX3_leaven.data.toList.drop 116 = dktX3_leaven_5 := dk_seg dksX3_leaven_4 24 rfl rfl
theorem dksX3_leaven_6 : cX3_leaven.data.toList.drop 138 = dktX3_leaven_6 := dk_seg dksX3_leaven_5 22 rfl rfl
theorem dksX3_leaven_7 : cX3_leaven.data.toList.drop 160 = dktX3_leaven_7 := dk_seg dksX3_leaven_6 22 rfl rfl
theorem dksX3_leaven_8 : cX3_leaven.data.toList.drop 182 = dktX3_leaven_8 := dk_seg dksX3_leaven_7 22 rfl rfl
theorem dX3_leaven_0 : decode cX3_leaven 0 = .ok (.aload_n 0, 1) := dk_42 (dk_at dksX3_leaven_0 0 rfl rfl)
theorem dX3_leaven_1 : decode cX3_leaven 1 = .ok (.getfield 7, 3) := dk_180 0 7 (dk_at dksX3_leaven_0 1 rfl rfl)
theorem dX3_leaven_4 : decode cX3_leaven 4 = .ok (.sipush 585, 3) := dk_17 2 73 (dk_at dksX3_leaven_0 4 rfl rfl)
theorem dX3_leaven_7 : decode cX3_leaven 7 = .ok (.iaload, 1) := dk_46 (dk_at dksX3_leaven_0 7 rfl rfl)
theorem dX3_leaven_8 : decode cX3_leaven 8 = .ok (.bipush 60, 2) := dk_16 60 (dk_at dksX3_leaven_0 8 rfl rfl)
theorem dX3_leaven_10 : decode cX3_leaven 10 = .ok (.if_icmp .ne 5, 3) := dk_160 0 5 (dk_at dksX3_leaven_0 10 rfl rfl)
theorem dX3_leaven_13 : decode cX3_leaven 13 = .ok (.iconst (-1), 1) := dk_2 (dk_at dksX3_leaven_0 13 rfl rfl)
theorem dX3_leaven_14 : decode cX3_leaven 14 = .ok (.ireturn, 1) := dk_172 (dk_at dksX3_leaven_0 14 rfl rfl)
theorem dX3_leaven_15 : decode cX3_leaven 15 = .ok (.sipush 340, 3) := dk_17 1 84 (dk_at dksX3_leaven_0 15 rfl rfl)
theorem dX3_leaven_18 : decode cX3_leaven 18 = .ok (.iconst 4, 1) := dk_7 (dk_at dksX3_leaven_0 18 rfl rfl)
theorem dX3_leaven_19 : decode cX3_leaven 19 = .ok (.aload_n 0, 1) := dk_42 (dk_at dksX3_leaven_0 19 rfl rfl)
theorem dX3_leaven_20 : decode cX3_leaven 20 = .ok (.getfield 7, 3) := dk_180 0 7 (dk_at dksX3_leaven_0 20 rfl rfl)
theorem dX3_leaven_23 : decode cX3_leaven 23 = .ok (.sipush 585, 3) := dk_17 2 73 (dk_at dksX3_leaven_1 0 rfl rfl)
theorem dX3_leaven_26 : decode cX3_leaven 26 = .ok (.iaload, 1) := dk_46 (dk_at dksX3_leaven_1 3 rfl rfl)
theorem dX3_leaven_27 : decode cX3_leaven 27 = .ok (.imul, 1) := dk_104 (dk_at dksX3_leaven_1 4 rfl rfl)
theorem dX3_leaven_28 : decode cX3_leaven 28 = .ok (.iadd, 1) := dk_96 (dk_at dksX3_leaven_1 5 rfl rfl)
theorem dX3_leaven_29 : decode cX3_leaven 29 = .ok (.istore_n 3, 1) := dk_62 (dk_at dksX3_leaven_1 6 rfl rfl)
theorem dX3_leaven_30 : decode cX3_leaven 30 = .ok (.iload_n 2, 1) := dk_28 (dk_at dksX3_leaven_1 7 rfl rfl)
theorem dX3_leaven_31 : decode cX3_leaven 31 = .ok (.iconst (-1), 1) := dk_2 (dk_at dksX3_leaven_1 8 rfl rfl)
theorem dX3_leaven_32 : decode cX3_leaven 32 = .ok (.if_icmp .ne 50, 3) := dk_160 0 50 (dk_at dksX3_leaven_1 9 rfl rfl)
theorem dX3_leaven_35 : decode cX3_leaven 35 = .ok (.aload_n 0, 1) := dk_42 (dk_at dksX3_leaven_1 12 rfl rfl)
theorem dX3_leaven_36 : decode cX3_leaven 36 = .ok (.iload_n 1, 1) := dk_27 (dk_at dksX3_leaven_1 13 rfl rfl)
theorem dX3_leaven_37 : decode cX3_leaven 37 = .ok (.invokevirtual 216, 3) := dk_182 0 216 (dk_at dksX3_leaven_1 14 rfl rfl)
theorem dX3_leaven_40 : decode cX3_leaven 40 = .ok (.ifCond .ne 5, 3) := dk_154 0 5 (dk_at dksX3_leaven_1 17 rfl rfl)
theorem dX3_leaven_43 : decode cX3_leaven 43 = .ok (.iconst (-1), 1) := dk_2 (dk_at dksX3_leaven_1 20 rfl rfl)
theorem dX3_leaven_44 : decode cX3_leaven 44 = .ok (.ireturn, 1) := dk_172 (dk_at dksX3_leaven_1 21 rfl rfl)
theorem dX3_leaven_45 : decode cX3_leaven 45 = .ok (.aload_n 0, 1) := dk_42 (dk_at dksX3_leaven_1 22 rfl rfl)
theorem dX3_leaven_46 : decode cX3_leaven 46 = .ok (.getfield 7, 3) := dk_180 0 7 (dk_at dksX3_leaven_2 0 rfl rfl)
theorem dX3_leaven_49 : decode cX3_leaven 49 = .ok (.iload_n 3, 1) := dk_29 (dk_at dksX3_leaven_2 3 rfl rfl)
theorem dX3_leaven_50 : decode cX3_leaven 50 = .ok (.iconst (-1), 1) := dk_2 (dk_at dksX3_leaven_2 4 rfl rfl)
theorem dX3_leaven_51 : decode cX3_leaven 51 = .ok (.iastore, 1) := dk_79 (dk_at dksX3_leaven_2 5 rfl rfl)
theorem dX3_leaven_52 : decode cX3_leaven 52 = .ok (.aload_n 0, 1) := dk_42 (dk_at dksX3_leaven_2 6 rfl rfl)
theorem dX3_leaven_53 : decode cX3_leaven 53 = .ok (.getfield 7, 3) := dk_180 0 7 (dk_at dksX3_leaven_2 7 rfl rfl)
theorem dX3_leaven_56 : decode cX3_leaven 56 = .ok (.iload_n 3, 1) := dk_29 (dk_at dksX3_leaven_2 10 rfl rfl)
theorem dX3_leaven_57 : decode cX3_leaven 57 = .ok (.iconst 1, 1) := dk_4 (dk_at dksX3_leaven_2 11 rfl rfl)
theorem dX3_leaven_58 : decode cX3_leaven 58 = .ok (.iadd, 1) := dk_96 (dk_at dksX3_leaven_2 12 rfl rfl)
theorem dX3_leaven_59 : decode cX3_leaven 59 = .ok (.iconst (-1), 1) := dk_2 (dk_at dksX3_leaven_2 13 rfl rfl)
theorem dX3_leaven_60 : decode cX3_leaven 60 = .ok (.iastore, 1) := dk_79 (dk_at dksX3_leaven_2 14 rfl rfl)
theorem dX3_leaven_61 : decode cX3_leaven 61 = .ok (.aload_n 0, 1) := dk_42 (dk_at dksX3_leaven_2 15 rfl rfl)
theorem dX3_leaven_62 : decode cX3_leaven 62 = .ok (.getfield 7, 3) := dk_180 0 7 (dk_at dksX3_leaven_2 16 rfl rfl)
theorem dX3_leaven_65 : decode cX3_leaven 65 = .ok (.iload_n 3, 1) := dk_29 (dk_at dksX3_leaven_2 19 rfl rfl)
theorem dX3_leaven_66 : decode cX3_leaven 66 = .ok (.iconst 2, 1) := dk_5 (dk_at dksX3_leaven_2 20 rfl rfl)
theorem dX3_leaven_67 : decode cX3_leaven 67 = .ok (.iadd, 1) := dk_96 (dk_at dksX3_leaven_2 21 rfl rfl)
theorem dX3_leaven_68 : decode cX3_leaven 68 = .ok (.iload_n 1, 1) := dk_27 (dk_at dksX3_leaven_2 22 rfl rfl)
theorem dX3_leaven_69 : decode cX3_leaven 69 = .ok (.iastore, 1) := dk_79 (dk_at dksX3_leaven_2 23 rfl rfl)
theorem dX3_leaven_70 : decode cX3_leaven 70 = .ok (.aload_n 0, 1) := dk_42 (dk_at dksX3_leaven_3 0 rfl rfl)
theorem dX3_leaven_71 : decode cX3_leaven 71 = .ok (.getfield 7, 3) := dk_180 0 7 (dk_at dksX3_leaven_3 1 rfl rfl)
theorem dX3_leaven_74 : decode cX3_leaven 74 = .ok (.iload_n 3, 1) := dk_29 (dk_at dksX3_leaven_3 4 rfl rfl)
theorem dX3_leaven_75 : decode cX3_leaven 75 = .ok (.iconst 3, 1) := dk_6 (dk_at dksX3_leaven_3 5 rfl rfl)
theorem dX3_leaven_76 : decode cX3_leaven 76 = .ok (.iadd, 1) := dk_96 (dk_at dksX3_leaven_3 6 rfl rfl)
theorem dX3_leaven_77 : decode cX3_leaven 77 = .ok (.iconst 0, 1) := dk_3 (dk_at dksX3_leaven_3 7 rfl rfl)
theorem dX3_leaven_78 : decode cX3_leaven 78 = .ok (.iastore, 1) := dk_79 (dk_at dksX3_leaven_3 8 rfl rfl)
theorem dX3_leaven_79 : decode cX3_leaven 79 = .ok (.goto 99, 3) := dk_167 0 99 (dk_at dksX3_leaven_3 9 rfl rfl)
theorem dX3_leaven_82 : decode cX3_leaven 82 = .ok (.aload_n 0, 1) := dk_42 (dk_at dksX3_leaven_3 12 rfl rfl)
theorem dX3_leaven_83 : decode cX3_leaven 83 = .ok (.iload_n 1, 1) := dk_27 (dk_at dksX3_leaven_3 13 rfl rfl)
theorem dX3_leaven_84 : decode cX3_leaven 84 = .ok (.invokevirtual 291, 3) := dk_182 1 35 (dk_at dksX3_leaven_3 14 rfl rfl)
theorem dX3_leaven_87 : decode cX3_leaven 87 = .ok (.ifCond .eq 11, 3) := dk_153 0 11 (dk_at dksX3_leaven_3 17 rfl rfl)
theorem dX3_leaven_90 : decode cX3_leaven 90 = .ok (.aload_n 0, 1) := dk_42 (dk_at dksX3_leaven_3 20 rfl rfl)
theorem dX3_leaven_91 : decode cX3_leaven 91 = .ok (.iload_n 2, 1) := dk_28 (dk_at dksX3_leaven_3 21 rfl rfl)
theorem dX3_leaven_92 : decode cX3_leaven 92 = .ok (.invokevirtual 291, 3) := dk_182 1 35 (dk_at dksX3_leaven_4 0 rfl rfl)
theorem dX3_leaven_95 : decode cX3_leaven 95 = .ok (.ifCond .ne 5, 3) := dk_154 0 5 (dk_at dksX3_leaven_4 3 rfl rfl)
theorem dX3_leaven_98 : decode cX3_leaven 98 = .ok (.iconst (-1), 1) := dk_2 (dk_at dksX3_leaven_4 6 rfl rfl)
theorem dX3_leaven_99 : decode cX3_leaven 99 = .ok (.ireturn, 1) := dk_172 (dk_at dksX3_leaven_4 7 rfl rfl)
theorem dX3_leaven_100 : decode cX3_leaven 100 = .ok (.iconst 1, 1) := dk_4 (dk_at dksX3_leaven_4 8 rfl rfl)
theorem dX3_leaven_101 : decode cX3_leaven 101 = .ok (.aload_n 0, 1) := dk_42 (dk_at dksX3_leaven_4 9 rfl rfl)
theorem dX3_leaven_102 : decode cX3_leaven 102 = .ok (.iload_n 1, 1) := dk_27 (dk_at dksX3_leaven_4 10 rfl rfl)
theorem dX3_leaven_103 : decode cX3_leaven 103 = .ok (.iconst 3, 1) := dk_6 (dk_at dksX3_leaven_4 11 rfl rfl)
theorem dX3_leaven_104 : decode cX3_leaven 104 = .ok (.invokevirtual 294, 3) := dk_182 1 38 (dk_at dksX3_leaven_4 12 rfl rfl)
theorem dX3_leaven_107 : decode cX3_leaven 107 = .ok (.aload_n 0, 1) := dk_42 (dk_at dksX3_leaven_4 15 rfl rfl)
theorem dX3_leaven_108 : decode cX3_leaven 108 = .ok (.iload_n 2, 1) := dk_28 (dk_at dksX3_leaven_4 16 rfl rfl)
theorem dX3_leaven_109 : decode cX3_leaven 109 = .ok (.iconst 3, 1) := dk_6 (dk_at dksX3_leaven_4 17 rfl rfl)
theorem dX3_leaven_110 : decode cX3_leaven 110 = .ok (.invokevirtual 294, 3) := dk_182 1 38 (dk_at dksX3_leaven_4 18 rfl rfl)
theorem dX3_leaven_113 : decode cX3_leaven 113 = .ok (.if_icmp .le 12, 3) := dk_164 0 12 (dk_at dksX3_leaven_4 21 rfl rfl)
theorem dX3_leaven_116 : decode cX3_leaven 116 = .ok (.aload_n 0, 1) := dk_42 (dk_at dksX3_leaven_5 0 rfl rfl)
theorem dX3_leaven_117 : decode cX3_leaven 117 = .ok (.iload_n 1, 1) := dk_27 (dk_at dksX3_leaven_5 1 rfl rfl)
theorem dX3_leaven_118 : decode cX3_leaven 118 = .ok (.iconst 3, 1) := dk_6 (dk_at dksX3_leaven_5 2 rfl rfl)
theorem dX3_leaven_119 : decode cX3_leaven 119 = .ok (.invokevirtual 294, 3) := dk_182 1 38 (dk_at dksX3_leaven_5 3 rfl rfl)
theorem dX3_leaven_122 : decode cX3_leaven 122 = .ok (.goto 9, 3) := dk_167 0 9 (dk_at dksX3_leaven_5 6 rfl rfl)
theorem dX3_leaven_125 : decode cX3_leaven 125 = .ok (.aload_n 0, 1) := dk_42 (dk_at dksX3_leaven_5 9 rfl rfl)
theorem dX3_leaven_126 : decode cX3_leaven 126 = .ok (.iload_n 2, 1) := dk_28 (dk_at dksX3_leaven_5 10 rfl rfl)
theorem dX3_leaven_127 : decode cX3_leaven 127 = .ok (.iconst 3, 1) := dk_6 (dk_at dksX3_leaven_5 11 rfl rfl)
theorem dX3_leaven_128 : decode cX3_leaven 128 = .ok (.invokevirtual 294, 3) := dk_182 1 38 (dk_at dksX3_leaven_5 12 rfl rfl)
theorem dX3_leaven_131 : decode cX3_leaven 131 = .ok (.iadd, 1) := dk_96 (dk_at dksX3_leaven_5 15 rfl rfl)
theorem dX3_leaven_132 : decode cX3_leaven 132 = .ok (.istore 4, 2) := dk_54 4 (dk_at dksX3_leaven_5 16 rfl rfl)
theorem dX3_leaven_134 : decode cX3_leaven 134 = .ok (.iload 4, 2) := dk_21 4 (dk_at dksX3_leaven_5 18 rfl rfl)
theorem dX3_leaven_136 : decode cX3_leaven 136 = .ok (.bipush 30, 2) := dk_16 30 (dk_at dksX3_leaven_5 20 rfl rfl)
theorem dX3_leaven_138 : decode cX3_leaven 138 = .ok (.if_icmp .le 5, 3) := dk_164 0 5 (dk_at dksX3_leaven_6 0 rfl rfl)
theorem dX3_leaven_141 : decode cX3_leaven 141 = .ok (.iconst (-1), 1) := dk_2 (dk_at dksX3_leaven_6 3 rfl rfl)
theorem dX3_leaven_142 : decode cX3_leaven 142 = .ok (.ireturn, 1) := dk_172 (dk_at dksX3_leaven_6 4 rfl rfl)
theorem dX3_leaven_143 : decode cX3_leaven 143 = .ok (.aload_n 0, 1) := dk_42 (dk_at dksX3_leaven_6 5 rfl rfl)
theorem dX3_leaven_144 : decode cX3_leaven 144 = .ok (.getfield 7, 3) := dk_180 0 7 (dk_at dksX3_leaven_6 6 rfl rfl)
theorem dX3_leaven_147 : decode cX3_leaven 147 = .ok (.iload_n 3, 1) := dk_29 (dk_at dksX3_leaven_6 9 rfl rfl)
theorem dX3_leaven_148 : decode cX3_leaven 148 = .ok (.iload_n 1, 1) := dk_27 (dk_at dksX3_leaven_6 10 rfl rfl)
theorem dX3_leaven_149 : decode cX3_leaven 149 = .ok (.iastore, 1) := dk_79 (dk_at dksX3_leaven_6 11 rfl rfl)
theorem dX3_leaven_150 : decode cX3_leaven 150 = .ok (.aload_n 0, 1) := dk_42 (dk_at dksX3_leaven_6 12 rfl rfl)
theorem dX3_leaven_151 : decode cX3_leaven 151 = .ok (.getfield 7, 3) := dk_180 0 7 (dk_at dksX3_leaven_6 13 rfl rfl)
theorem dX3_leaven_154 : decode cX3_leaven 154 = .ok (.iload_n 3, 1) := dk_29 (dk_at dksX3_leaven_6 16 rfl rfl)
theorem dX3_leaven_155 : decode cX3_leaven 155 = .ok (.iconst 1, 1) := dk_4 (dk_at dksX3_leaven_6 17 rfl rfl)
theorem dX3_leaven_156 : decode cX3_leaven 156 = .ok (.iadd, 1) := dk_96 (dk_at dksX3_leaven_6 18 rfl rfl)
theorem dX3_leaven_157 : decode cX3_leaven 157 = .ok (.iload_n 2, 1) := dk_28 (dk_at dksX3_leaven_6 19 rfl rfl)
theorem dX3_leaven_158 : decode cX3_leaven 158 = .ok (.iastore, 1) := dk_79 (dk_at dksX3_leaven_6 20 rfl rfl)
theorem dX3_leaven_159 : decode cX3_leaven 159 = .ok (.aload_n 0, 1) := dk_42 (dk_at dksX3_leaven_6 21 rfl rfl)
theorem dX3_leaven_160 : decode cX3_leaven 160 = .ok (.getfield 7, 3) := dk_180 0 7 (dk_at dksX3_leaven_7 0 rfl rfl)
theorem dX3_leaven_163 : decode cX3_leaven 163 = .ok (.iload_n 3, 1) := dk_29 (dk_at dksX3_leaven_7 3 rfl rfl)
theorem dX3_leaven_164 : decode cX3_leaven 164 = .ok (.iconst 2, 1) := dk_5 (dk_at dksX3_leaven_7 4 rfl rfl)
theorem dX3_leaven_165 : decode cX3_leaven 165 = .ok (.iadd, 1) := dk_96 (dk_at dksX3_leaven_7 5 rfl rfl)
theorem dX3_leaven_166 : decode cX3_leaven 166 = .ok (.iconst (-1), 1) := dk_2 (dk_at dksX3_leaven_7 6 rfl rfl)
theorem dX3_leaven_167 : decode cX3_leaven 167 = .ok (.iastore, 1) := dk_79 (dk_at dksX3_leaven_7 7 rfl rfl)
theorem dX3_leaven_168 : decode cX3_leaven 168 = .ok (.aload_n 0, 1) := dk_42 (dk_at dksX3_leaven_7 8 rfl rfl)
theorem dX3_leaven_169 : decode cX3_leaven 169 = .ok (.getfield 7, 3) := dk_180 0 7 (dk_at dksX3_leaven_7 9 rfl rfl)
theorem dX3_leaven_172 : decode cX3_leaven 172 = .ok (.iload_n 3, 1) := dk_29 (dk_at dksX3_leaven_7 12 rfl rfl)
theorem dX3_leaven_173 : decode cX3_leaven 173 = .ok (.iconst 3, 1) := dk_6 (dk_at dksX3_leaven_7 13 rfl rfl)
theorem dX3_leaven_174 : decode cX3_leaven 174 = .ok (.iadd, 1) := dk_96 (dk_at dksX3_leaven_7 14 rfl rfl)
theorem dX3_leaven_175 : decode cX3_leaven 175 = .ok (.iload 4, 2) := dk_21 4 (dk_at dksX3_leaven_7 15 rfl rfl)
theorem dX3_leaven_177 : decode cX3_leaven 177 = .ok (.iastore, 1) := dk_79 (dk_at dksX3_leaven_7 17 rfl rfl)
theorem dX3_leaven_178 : decode cX3_leaven 178 = .ok (.aload_n 0, 1) := dk_42 (dk_at dksX3_leaven_7 18 rfl rfl)
theorem dX3_leaven_179 : decode cX3_leaven 179 = .ok (.getfield 7, 3) := dk_180 0 7 (dk_at dksX3_leaven_7 19 rfl rfl)
theorem dX3_leaven_182 : decode cX3_leaven 182 = .ok (.sipush 585, 3) := dk_17 2 73 (dk_at dksX3_leaven_8 0 rfl rfl)
theorem dX3_leaven_185 : decode cX3_leaven 185 = .ok (.dup2, 1) := dk_92 (dk_at dksX3_leaven_8 3 rfl rfl)
theorem dX3_leaven_186 : decode cX3_leaven 186 = .ok (.iaload, 1) := dk_46 (dk_at dksX3_leaven_8 4 rfl rfl)
theorem dX3_leaven_187 : decode cX3_leaven 187 = .ok (.iconst 1, 1) := dk_4 (dk_at dksX3_leaven_8 5 rfl rfl)
theorem dX3_leaven_188 : decode cX3_leaven 188 = .ok (.iadd, 1) := dk_96 (dk_at dksX3_leaven_8 6 rfl rfl)
theorem dX3_leaven_189 : decode cX3_leaven 189 = .ok (.iastore, 1) := dk_79 (dk_at dksX3_leaven_8 7 rfl rfl)
theorem dX3_leaven_190 : decode cX3_leaven 190 = .ok (.aload_n 0, 1) := dk_42 (dk_at dksX3_leaven_8 8 rfl rfl)
theorem dX3_leaven_191 : decode cX3_leaven 191 = .ok (.getfield 7, 3) := dk_180 0 7 (dk_at dksX3_leaven_8 9 rfl rfl)
theorem dX3_leaven_194 : decode cX3_leaven 194 = .ok (.sipush 585, 3) := dk_17 2 73 (dk_at dksX3_leaven_8 12 rfl rfl)
theorem dX3_leaven_197 : decode cX3_leaven 197 = .ok (.iaload, 1) := dk_46 (dk_at dksX3_leaven_8 15 rfl rfl)
theorem dX3_leaven_198 : decode cX3_leaven 198 = .ok (.iconst 1, 1) := dk_4 (dk_at dksX3_leaven_8 16 rfl rfl)
theorem dX3_leaven_199 : decode cX3_leaven 199 = .ok (.isub, 1) := dk_100 (dk_at dksX3_leaven_8 17 rfl rfl)
theorem dX3_leaven_200 : decode cX3_leaven 200 = .ok (.ireturn, 1) := dk_172 (dk_at dksX3_leaven_8 18 rfl rfl)
abbrev cX3_isLeaven : ByteArray := prog_14_method_61_code
def yX3_isLeaven : MethodName := ⟨RX3, "isLeaven", "(I)Z"⟩
def dkwX3_isLeaven_0 : List UInt8 := [27, 3, 42, 180, 0, 7, 17, 2, 73, 46, 4, 100, 184, 0, 66, 172]
abbrev dktX3_isLeaven_0 : List UInt8 := dkwX3_isLeaven_0 ++ []
theorem dksX3_isLeaven_0 : cX3_isLeaven.data.toList.drop 0 = dktX3_isLeaven_0 := by decide +kernel
theorem dX3_isLeaven_0 : decode cX3_isLeaven 0 = .ok (.iload_n 1, 1) := dk_27 (dk_at dksX3_isLeaven_0 0 rfl rfl)
theorem dX3_isLeaven_1 : decode cX3_isLeaven 1 = .ok (.iconst 0, 1) := dk_3 (dk_at dksX3_isLeaven_0 1 rfl rfl)
theorem dX3_isLeaven_2 : decode cX3_isLeaven 2 = .ok (.aload_n 0, 1) := dk_42 (dk_at dksX3_isLeaven_0 2 rfl rfl)
theorem dX3_isLeaven_3 : decode cX3_isLeaven 3 = .ok (.getfield 7, 3) := dk_180 0 7 (dk_at dksX3_isLeaven_0 3 rfl rfl)
theorem dX3_isLeaven_6 : decode cX3_isLeaven 6 = .ok (.sipush 585, 3) := dk_17 2 73 (dk_at dksX3_isLeaven_0 6 rfl rfl)
theorem dX3_isLeaven_9 : decode cX3_isLeaven 9 = .ok (.iaload, 1) := dk_46 (dk_at dksX3_isLeaven_0 9 rfl rfl)
theorem dX3_isLeaven_10 : decode cX3_isLeaven 10 = .ok (.iconst 1, 1) := dk_4 (dk_at dksX3_isLeaven_0 10 rfl rfl)
theorem dX3_isLeaven_11 : decode cX3_isLeaven 11 = .ok (.isub, 1) := dk_100 (dk_at dksX3_isLeaven_0 11 rfl rfl)
theorem dX3_isLeaven_12 : decode cX3_isLeaven 12 = .ok (.invokestatic 66, 3) := dk_184 0 66 (dk_at dksX3_isLeaven_0 12 rfl rfl)
theorem dX3_isLeaven_15 : decode cX3_isLeaven 15 = .ok (.ireturn, 1) := dk_172 (dk_at dksX3_isLeaven_0 15 rfl rfl)
abbrev cX3_ofLeaven : ByteArray := prog_14_method_62_code
def yX3_ofLeaven : MethodName := ⟨RX3, "ofLeaven", "(II)I"⟩
def dkwX3_ofLeaven_0 : List UInt8 := [42, 180, 0, 7, 17, 1, 84, 7, 27, 104, 96, 28, 96, 46, 172]
abbrev dktX3_ofLeaven_0 : List UInt8 := dkwX3_ofLeaven_0 ++ []
theorem dksX3_ofLeaven_0 : cX3_ofLeaven.data.toList.drop 0 = dktX3_ofLeaven_0 := by decide +kernel
theorem dX3_ofLeaven_0 : decode cX3_ofLeaven 0 = .ok (.aload_n 0, 1) := dk_42 (dk_at dksX3_ofLeaven_0 0 rfl rfl)
theorem dX3_ofLeaven_1 : decode cX3_ofLeaven 1 = .ok (.getfield 7, 3) := dk_180 0 7 (dk_at dksX3_ofLeaven_0 1 rfl rfl)
theorem dX3_ofLeaven_4 : decode cX3_ofLeaven 4 = .ok (.sipush 340, 3) := dk_17 1 84 (dk_at dksX3_ofLeaven_0 4 rfl rfl)
theorem dX3_ofLeaven_7 : decode cX3_ofLeaven 7 = .ok (.iconst 4, 1) := dk_7 (dk_at dksX3_ofLeaven_0 7 rfl rfl)
theorem dX3_ofLeaven_8 : decode cX3_ofLeaven 8 = .ok (.iload_n 1, 1) := dk_27 (dk_at dksX3_ofLeaven_0 8 rfl rfl)
theorem dX3_ofLeaven_9 : decode cX3_ofLeaven 9 = .ok (.imul, 1) := dk_104 (dk_at dksX3_ofLeaven_0 9 rfl rfl)
theorem dX3_ofLeaven_10 : decode cX3_ofLeaven 10 = .ok (.iadd, 1) := dk_96 (dk_at dksX3_ofLeaven_0 10 rfl rfl)
theorem dX3_ofLeaven_11 : decode cX3_ofLeaven 11 = .ok (.iload_n 2, 1) := dk_28 (dk_at dksX3_ofLeaven_0 11 rfl rfl)
theorem dX3_ofLeaven_12 : decode cX3_ofLeaven 12 = .ok (.iadd, 1) := dk_96 (dk_at dksX3_ofLeaven_0 12 rfl rfl)
theorem dX3_ofLeaven_13 : decode cX3_ofLeaven 13 = .ok (.iaload, 1) := dk_46 (dk_at dksX3_ofLeaven_0 13 rfl rfl)
theorem dX3_ofLeaven_14 : decode cX3_ofLeaven 14 = .ok (.ireturn, 1) := dk_172 (dk_at dksX3_ofLeaven_0 14 rfl rfl)
abbrev cX3_part : ByteArray := prog_14_method_65_code
def yX3_part : MethodName := ⟨RX3, "part", "(III)I"⟩
def dkwX3_part_4 : List UInt8 := [22, 6, 20, 1, 44, 109, 55, 6, 167, 255, 222, 29, 154, 0, 8, 22, 4, 167, 0, 5, 22, 6, 136, 172]
abbrev dktX3_part_4 : List UInt8 := dkwX3_part_4 ++ []
def dkwX3_part_3 : List UInt8 := [20, 1, 44, 113, 9, 148, 154, 0, 29, 22, 6, 10, 148, 158, 0, 22, 22, 4, 20, 1, 44, 109, 55, 4]
abbrev dktX3_part_3 : List UInt8 := dkwX3_part_3 ++ dktX3_part_4
def dkwX3_part_2 : List UInt8 := [47, 55, 4, 10, 42, 27, 6, 182, 1, 38, 121, 55, 6, 22, 4, 9, 148, 154, 0, 5, 29, 172, 22, 4]
abbrev dktX3_part_2 : List UInt8 := dkwX3_part_2 ++ dktX3_part_3
def dkwX3_part_1 : List UInt8 := [160, 0, 12, 29, 3, 4, 184, 0, 66, 154, 0, 5, 2, 172, 42, 28, 182, 1, 41, 42, 180, 0, 59, 27]
abbrev dktX3_part_1 : List UInt8 := dkwX3_part_1 ++ dktX3_part_2
def dkwX3_part_0 : List UInt8 := [42, 27, 182, 1, 35, 153, 0, 30, 42, 28, 182, 1, 35, 153, 0, 22, 42, 28, 3, 182, 1, 38, 2]
abbrev dktX3_part_0 : List UInt8 := dkwX3_part_0 ++ dktX3_part_1
theorem dksX3_part_0 : cX3_part.data.toList.drop 0 = dktX3_part_0 := by decide +kernel
theorem dksX3_part_1 : cX3_part.data.toList.drop 23 = dktX3_part_1 := dk_seg dksX3_part_0 23 rfl rfl
theorem dksX3_part_2 : cX3_part.data.toList.drop 47 = dktX3_part_2 := dk_seg dksX3_part_1 24 rfl rfl
theorem dksX3_part_3 : cX3_part.data.toList.drop 71 = dktX3_part_3 := dk_seg dksX3_part_2 24 rfl rfl
theorem dksX3_part_4 : cX3_part.data.toList.drop 95 = dktX3_part_4 := dk_seg dksX3_part_3 24 rfl rfl
theorem dX3_part_0 : decode cX3_part 0 = .ok (.aload_n 0, 1) := dk_42 (dk_at dksX3_part_0 0 rfl rfl)
theorem dX3_part_1 : decode cX3_part 1 = .ok (.iload_n 1, 1) := dk_27 (dk_at dksX3_part_0 1 rfl rfl)
theorem dX3_part_2 : decode cX3_part 2 = .ok (.invokevirtual 291, 3) := dk_182 1 35 (dk_at dksX3_part_0 2 rfl rfl)
theorem dX3_part_5 : decode cX3_part 5 = .ok (.ifCond .eq 30, 3) := dk_153 0 30 (dk_at dksX3_part_0 5 rfl rfl)
theorem dX3_part_8 : decode cX3_part 8 = .ok (.aload_n 0, 1) := dk_42 (dk_at dksX3_part_0 8 rfl rfl)
theorem dX3_part_9 : decode cX3_part 9 = .ok (.iload_n 2, 1) := dk_28 (dk_at dksX3_part_0 9 rfl rfl)
theorem dX3_part_10 : decode cX3_part 10 = .ok (.invokevirtual 291, 3) := dk_182 1 35 (dk_at dksX3_part_0 10 rfl rfl)
theorem dX3_part_13 : decode cX3_part 13 = .ok (.ifCond .eq 22, 3) := dk_153 0 22 (dk_at dksX3_part_0 13 rfl rfl)
theorem dX3_part_16 : decode cX3_part 16 = .ok (.aload_n 0, 1) := dk_42 (dk_at dksX3_part_0 16 rfl rfl)
theorem dX3_part_17 : decode cX3_part 17 = .ok (.iload_n 2, 1) := dk_28 (dk_at dksX3_part_0 17 rfl rfl)
theorem dX3_part_18 : decode cX3_part 18 = .ok (.iconst 0, 1) := dk_3 (dk_at dksX3_part_0 18 rfl rfl)
theorem dX3_part_19 : decode cX3_part 19 = .ok (.invokevirtual 294, 3) := dk_182 1 38 (dk_at dksX3_part_0 19 rfl rfl)
theorem dX3_part_22 : decode cX3_part 22 = .ok (.iconst (-1), 1) := dk_2 (dk_at dksX3_part_0 22 rfl rfl)
theorem dX3_part_23 : decode cX3_part 23 = .ok (.if_icmp .ne 12, 3) := dk_160 0 12 (dk_at dksX3_part_1 0 rfl rfl)
theorem dX3_part_26 : decode cX3_part 26 = .ok (.iload_n 3, 1) := dk_29 (dk_at dksX3_part_1 3 rfl rfl)
theorem dX3_part_27 : decode cX3_part 27 = .ok (.iconst 0, 1) := dk_3 (dk_at dksX3_part_1 4 rfl rfl)
theorem dX3_part_28 : decode cX3_part 28 = .ok (.iconst 1, 1) := dk_4 (dk_at dksX3_part_1 5 rfl rfl)
theorem dX3_part_29 : decode cX3_part 29 = .ok (.invokestatic 66, 3) := dk_184 0 66 (dk_at dksX3_part_1 6 rfl rfl)
theorem dX3_part_32 : decode cX3_part 32 = .ok (.ifCond .ne 5, 3) := dk_154 0 5 (dk_at dksX3_part_1 9 rfl rfl)
theorem dX3_part_35 : decode cX3_part 35 = .ok (.iconst (-1), 1) := dk_2 (dk_at dksX3_part_1 12 rfl rfl)
theorem dX3_part_36 : decode cX3_part 36 = .ok (.ireturn, 1) := dk_172 (dk_at dksX3_part_1 13 rfl rfl)
theorem dX3_part_37 : decode cX3_part 37 = .ok (.aload_n 0, 1) := dk_42 (dk_at dksX3_part_1 14 rfl rfl)
theorem dX3_part_38 : decode cX3_part 38 = .ok (.iload_n 2, 1) := dk_28 (dk_at dksX3_part_1 15 rfl rfl)
theorem dX3_part_39 : decode cX3_part 39 = .ok (.invokevirtual 297, 3) := dk_182 1 41 (dk_at dksX3_part_1 16 rfl rfl)
theorem dX3_part_42 : decode cX3_part 42 = .ok (.aload_n 0, 1) := dk_42 (dk_at dksX3_part_1 19 rfl rfl)
theorem dX3_part_43 : decode cX3_part 43 = .ok (.getfield 59, 3) := dk_180 0 59 (dk_at dksX3_part_1 20 rfl rfl)
theorem dX3_part_46 : decode cX3_part 46 = .ok (.iload_n 1, 1) := dk_27 (dk_at dksX3_part_1 23 rfl rfl)
theorem dX3_part_47 : decode cX3_part 47 = .ok (.laload, 1) := dk_47 (dk_at dksX3_part_2 0 rfl rfl)
theorem dX3_part_48 : decode cX3_part 48 = .ok (.lstore 4, 2) := dk_55 4 (dk_at dksX3_part_2 1 rfl rfl)
theorem dX3_part_50 : decode cX3_part 50 = .ok (.lconst 1, 1) := dk_10 (dk_at dksX3_part_2 3 rfl rfl)
theorem dX3_part_51 : decode cX3_part 51 = .ok (.aload_n 0, 1) := dk_42 (dk_at dksX3_part_2 4 rfl rfl)
theorem dX3_part_52 : decode cX3_part 52 = .ok (.iload_n 1, 1) := dk_27 (dk_at dksX3_part_2 5 rfl rfl)
theorem dX3_part_53 : decode cX3_part 53 = .ok (.iconst 3, 1) := dk_6 (dk_at dksX3_part_2 6 rfl rfl)
theorem dX3_part_54 : decode cX3_part 54 = .ok (.invokevirtual 294, 3) := dk_182 1 38 (dk_at dksX3_part_2 7 rfl rfl)
theorem dX3_part_57 : decode cX3_part 57 = .ok (.lshl, 1) := dk_121 (dk_at dksX3_part_2 10 rfl rfl)
theorem dX3_part_58 : decode cX3_part 58 = .ok (.lstore 6, 2) := dk_55 6 (dk_at dksX3_part_2 11 rfl rfl)
theorem dX3_part_60 : decode cX3_part 60 = .ok (.lload 4, 2) := dk_22 4 (dk_at dksX3_part_2 13 rfl rfl)
theorem dX3_part_62 : decode cX3_part 62 = .ok (.lconst 0, 1) := dk_9 (dk_at dksX3_part_2 15 rfl rfl)
theorem dX3_part_63 : decode cX3_part 63 = .ok (.lcmp, 1) := dk_148 (dk_at dksX3_part_2 16 rfl rfl)
theorem dX3_part_64 : decode cX3_part 64 = .ok (.ifCond .ne 5, 3) := dk_154 0 5 (dk_at dksX3_part_2 17 rfl rfl)
theorem dX3_part_67 : decode cX3_part 67 = .ok (.iload_n 3, 1) := dk_29 (dk_at dksX3_part_2 20 rfl rfl)
theorem dX3_part_68 : decode cX3_part 68 = .ok (.ireturn, 1) := dk_172 (dk_at dksX3_part_2 21 rfl rfl)
theorem dX3_part_69 : decode cX3_part 69 = .ok (.lload 4, 2) := dk_22 4 (dk_at dksX3_part_2 22 rfl rfl)
theorem dX3_part_71 : decode cX3_part 71 = .ok (.ldc2_w 300, 3) := dk_20 1 44 (dk_at dksX3_part_3 0 rfl rfl)
theorem dX3_part_74 : decode cX3_part 74 = .ok (.lrem, 1) := dk_113 (dk_at dksX3_part_3 3 rfl rfl)
theorem dX3_part_75 : decode cX3_part 75 = .ok (.lconst 0, 1) := dk_9 (dk_at dksX3_part_3 4 rfl rfl)
theorem dX3_part_76 : decode cX3_part 76 = .ok (.lcmp, 1) := dk_148 (dk_at dksX3_part_3 5 rfl rfl)
theorem dX3_part_77 : decode cX3_part 77 = .ok (.ifCond .ne 29, 3) := dk_154 0 29 (dk_at dksX3_part_3 6 rfl rfl)
theorem dX3_part_80 : decode cX3_part 80 = .ok (.lload 6, 2) := dk_22 6 (dk_at dksX3_part_3 9 rfl rfl)
theorem dX3_part_82 : decode cX3_part 82 = .ok (.lconst 1, 1) := dk_10 (dk_at dksX3_part_3 11 rfl rfl)
theorem dX3_part_83 : decode cX3_part 83 = .ok (.lcmp, 1) := dk_148 (dk_at dksX3_part_3 12 rfl rfl)
theorem dX3_part_84 : decode cX3_part 84 = .ok (.ifCond .le 22, 3) := dk_158 0 22 (dk_at dksX3_part_3 13 rfl rfl)
theorem dX3_part_87 : decode cX3_part 87 = .ok (.lload 4, 2) := dk_22 4 (dk_at dksX3_part_3 16 rfl rfl)
theorem dX3_part_89 : decode cX3_part 89 = .ok (.ldc2_w 300, 3) := dk_20 1 44 (dk_at dksX3_part_3 18 rfl rfl)
theorem dX3_part_92 : decode cX3_part 92 = .ok (.ldiv, 1) := dk_109 (dk_at dksX3_part_3 21 rfl rfl)
theorem dX3_part_93 : decode cX3_part 93 = .ok (.lstore 4, 2) := dk_55 4 (dk_at dksX3_part_3 22 rfl rfl)
theorem dX3_part_95 : decode cX3_part 95 = .ok (.lload 6, 2) := dk_22 6 (dk_at dksX3_part_4 0 rfl rfl)
theorem dX3_part_97 : decode cX3_part 97 = .ok (.ldc2_w 300, 3) := dk_20 1 44 (dk_at dksX3_part_4 2 rfl rfl)
theorem dX3_part_100 : decode cX3_part 100 = .ok (.ldiv, 1) := dk_109 (dk_at dksX3_part_4 5 rfl rfl)
theorem dX3_part_101 : decode cX3_part 101 = .ok (.lstore 6, 2) := dk_55 6 (dk_at dksX3_part_4 6 rfl rfl)
theorem dX3_part_103 : decode cX3_part 103 = .ok (.goto (-34), 3) := dk_167 255 222 (dk_at dksX3_part_4 8 rfl rfl)
theorem dX3_part_106 : decode cX3_part 106 = .ok (.iload_n 3, 1) := dk_29 (dk_at dksX3_part_4 11 rfl rfl)
theorem dX3_part_107 : decode cX3_part 107 = .ok (.ifCond .ne 8, 3) := dk_154 0 8 (dk_at dksX3_part_4 12 rfl rfl)
theorem dX3_part_110 : decode cX3_part 110 = .ok (.lload 4, 2) := dk_22 4 (dk_at dksX3_part_4 15 rfl rfl)
theorem dX3_part_112 : decode cX3_part 112 = .ok (.goto 5, 3) := dk_167 0 5 (dk_at dksX3_part_4 17 rfl rfl)
theorem dX3_part_115 : decode cX3_part 115 = .ok (.lload 6, 2) := dk_22 6 (dk_at dksX3_part_4 20 rfl rfl)
theorem dX3_part_117 : decode cX3_part 117 = .ok (.l2i, 1) := dk_136 (dk_at dksX3_part_4 22 rfl rfl)
theorem dX3_part_118 : decode cX3_part 118 = .ok (.ireturn, 1) := dk_172 (dk_at dksX3_part_4 23 rfl rfl)
abbrev cX3_laysParts : ByteArray := prog_14_method_64_code
def yX3_laysParts : MethodName := ⟨RX3, "laysParts", "(I)V"⟩
def dkwX3_laysParts_5 : List UInt8 := [167, 255, 141, 177]
abbrev dktX3_laysParts_5 : List UInt8 := dkwX3_laysParts_5 ++ []
def dkwX3_laysParts_4 : List UInt8 := [180, 0, 59, 21, 4, 47, 21, 5, 4, 100, 42, 21, 4, 6, 182, 1, 38, 100, 121, 97, 80, 132, 2, 1]
abbrev dktX3_laysParts_4 : List UInt8 := dkwX3_laysParts_4 ++ dktX3_laysParts_5
def dkwX3_laysParts_3 : List UInt8 := [180, 0, 59, 28, 42, 180, 0, 59, 29, 47, 21, 5, 4, 100, 42, 29, 6, 182, 1, 38, 100, 121, 42]
abbrev dktX3_laysParts_3 : List UInt8 := dkwX3_laysParts_3 ++ dktX3_laysParts_4
def dkwX3_laysParts_2 : List UInt8 := [21, 5, 121, 167, 0, 4, 9, 80, 28, 27, 159, 0, 56, 29, 2, 160, 0, 6, 167, 0, 48, 42]
abbrev dktX3_laysParts_2 : List UInt8 := dkwX3_laysParts_2 ++ dktX3_laysParts_3
def dkwX3_laysParts_1 : List UInt8 := [182, 1, 38, 54, 4, 42, 28, 6, 182, 1, 38, 54, 5, 42, 180, 0, 59, 28, 28, 27, 160, 0, 10, 10]
abbrev dktX3_laysParts_1 : List UInt8 := dkwX3_laysParts_1 ++ dktX3_laysParts_2
def dkwX3_laysParts_0 : List UInt8 := [3, 61, 28, 42, 180, 0, 7, 17, 2, 73, 46, 162, 0, 109, 42, 28, 3, 182, 1, 38, 62, 42, 28, 4]
abbrev dktX3_laysParts_0 : List UInt8 := dkwX3_laysParts_0 ++ dktX3_laysParts_1
theorem dksX3_laysParts_0 : cX3_laysParts.data.toList.drop 0 = dktX3_laysParts_0 := by decide +kernel
theorem dksX3_laysParts_1 : cX3_laysParts.data.toList.drop 24 = dktX3_laysParts_1 := dk_seg dksX3_laysParts_0 24 rfl rfl
theorem dksX3_laysParts_2 : cX3_laysParts.data.toList.drop 48 = dktX3_laysParts_2 := dk_seg dksX3_laysParts_1 24 rfl rfl
theorem dksX3_laysParts_3 : cX3_laysParts.data.toList.drop 70 = dktX3_laysParts_3 := dk_seg dksX3_laysParts_2 22 rfl rfl
theorem dksX3_laysParts_4 : cX3_laysParts.data.toList.drop 93 = dktX3_laysParts_4 := dk_seg dksX3_laysParts_3 23 rfl rfl
theorem dksX3_laysParts_5 : cX3_laysParts.data.toList.drop 117 = dktX3_laysParts_5 := dk_seg dksX3_laysParts_4 24 rfl rfl
theorem dX3_laysParts_0 : decode cX3_laysParts 0 = .ok (.iconst 0, 1) := dk_3 (dk_at dksX3_laysParts_0 0 rfl rfl)
theorem dX3_laysParts_1 : decode cX3_laysParts 1 = .ok (.istore_n 2, 1) := dk_61 (dk_at dksX3_laysParts_0 1 rfl rfl)
theorem dX3_laysParts_2 : decode cX3_laysParts 2 = .ok (.iload_n 2, 1) := dk_28 (dk_at dksX3_laysParts_0 2 rfl rfl)
theorem dX3_laysParts_3 : decode cX3_laysParts 3 = .ok (.aload_n 0, 1) := dk_42 (dk_at dksX3_laysParts_0 3 rfl rfl)
theorem dX3_laysParts_4 : decode cX3_laysParts 4 = .ok (.getfield 7, 3) := dk_180 0 7 (dk_at dksX3_laysParts_0 4 rfl rfl)
theorem dX3_laysParts_7 : decode cX3_laysParts 7 = .ok (.sipush 585, 3) := dk_17 2 73 (dk_at dksX3_laysParts_0 7 rfl rfl)
theorem dX3_laysParts_10 : decode cX3_laysParts 10 = .ok (.iaload, 1) := dk_46 (dk_at dksX3_laysParts_0 10 rfl rfl)
theorem dX3_laysParts_11 : decode cX3_laysParts 11 = .ok (.if_icmp .ge 109, 3) := dk_162 0 109 (dk_at dksX3_laysParts_0 11 rfl rfl)
theorem dX3_laysParts_14 : decode cX3_laysParts 14 = .ok (.aload_n 0, 1) := dk_42 (dk_at dksX3_laysParts_0 14 rfl rfl)
theorem dX3_laysParts_15 : decode cX3_laysParts 15 = .ok (.iload_n 2, 1) := dk_28 (dk_at dksX3_laysParts_0 15 rfl rfl)
theorem dX3_laysParts_16 : decode cX3_laysParts 16 = .ok (.iconst 0, 1) := dk_3 (dk_at dksX3_laysParts_0 16 rfl rfl)
theorem dX3_laysParts_17 : decode cX3_laysParts 17 = .ok (.invokevirtual 294, 3) := dk_182 1 38 (dk_at dksX3_laysParts_0 17 rfl rfl)
theorem dX3_laysParts_20 : decode cX3_laysParts 20 = .ok (.istore_n 3, 1) := dk_62 (dk_at dksX3_laysParts_0 20 rfl rfl)
theorem dX3_laysParts_21 : decode cX3_laysParts 21 = .ok (.aload_n 0, 1) := dk_42 (dk_at dksX3_laysParts_0 21 rfl rfl)
theorem dX3_laysParts_22 : decode cX3_laysParts 22 = .ok (.iload_n 2, 1) := dk_28 (dk_at dksX3_laysParts_0 22 rfl rfl)
theorem dX3_laysParts_23 : decode cX3_laysParts 23 = .ok (.iconst 1, 1) := dk_4 (dk_at dksX3_laysParts_0 23 rfl rfl)
theorem dX3_laysParts_24 : decode cX3_laysParts 24 = .ok (.invokevirtual 294, 3) := dk_182 1 38 (dk_at dksX3_laysParts_1 0 rfl rfl)
theorem dX3_laysParts_27 : decode cX3_laysParts 27 = .ok (.istore 4, 2) := dk_54 4 (dk_at dksX3_laysParts_1 3 rfl rfl)
theorem dX3_laysParts_29 : decode cX3_laysParts 29 = .ok (.aload_n 0, 1) := dk_42 (dk_at dksX3_laysParts_1 5 rfl rfl)
theorem dX3_laysParts_30 : decode cX3_laysParts 30 = .ok (.iload_n 2, 1) := dk_28 (dk_at dksX3_laysParts_1 6 rfl rfl)
theorem dX3_laysParts_31 : decode cX3_laysParts 31 = .ok (.iconst 3, 1) := dk_6 (dk_at dksX3_laysParts_1 7 rfl rfl)
theorem dX3_laysParts_32 : decode cX3_laysParts 32 = .ok (.invokevirtual 294, 3) := dk_182 1 38 (dk_at dksX3_laysParts_1 8 rfl rfl)
theorem dX3_laysParts_35 : decode cX3_laysParts 35 = .ok (.istore 5, 2) := dk_54 5 (dk_at dksX3_laysParts_1 11 rfl rfl)
theorem dX3_laysParts_37 : decode cX3_laysParts 37 = .ok (.aload_n 0, 1) := dk_42 (dk_at dksX3_laysParts_1 13 rfl rfl)
theorem dX3_laysParts_38 : decode cX3_laysParts 38 = .ok (.getfield 59, 3) := dk_180 0 59 (dk_at dksX3_laysParts_1 14 rfl rfl)
theorem dX3_laysParts_41 : decode cX3_laysParts 41 = .ok (.iload_n 2, 1) := dk_28 (dk_at dksX3_laysParts_1 17 rfl rfl)
theorem dX3_laysParts_42 : decode cX3_laysParts 42 = .ok (.iload_n 2, 1) := dk_28 (dk_at dksX3_laysParts_1 18 rfl rfl)
theorem dX3_laysParts_43 : decode cX3_laysParts 43 = .ok (.iload_n 1, 1) := dk_27 (dk_at dksX3_laysParts_1 19 rfl rfl)
theorem dX3_laysParts_44 : decode cX3_laysParts 44 = .ok (.if_icmp .ne 10, 3) := dk_160 0 10 (dk_at dksX3_laysParts_1 20 rfl rfl)
theorem dX3_laysParts_47 : decode cX3_laysParts 47 = .ok (.lconst 1, 1) := dk_10 (dk_at dksX3_laysParts_1 23 rfl rfl)
theorem dX3_laysParts_48 : decode cX3_laysParts 48 = .ok (.iload 5, 2) := dk_21 5 (dk_at dksX3_laysParts_2 0 rfl rfl)
theorem dX3_laysParts_50 : decode cX3_laysParts 50 = .ok (.lshl, 1) := dk_121 (dk_at dksX3_laysParts_2 2 rfl rfl)
theorem dX3_laysParts_51 : decode cX3_laysParts 51 = .ok (.goto 4, 3) := dk_167 0 4 (dk_at dksX3_laysParts_2 3 rfl rfl)
theorem dX3_laysParts_54 : decode cX3_laysParts 54 = .ok (.lconst 0, 1) := dk_9 (dk_at dksX3_laysParts_2 6 rfl rfl)
theorem dX3_laysParts_55 : decode cX3_laysParts 55 = .ok (.lastore, 1) := dk_80 (dk_at dksX3_laysParts_2 7 rfl rfl)
theorem dX3_laysParts_56 : decode cX3_laysParts 56 = .ok (.iload_n 2, 1) := dk_28 (dk_at dksX3_laysParts_2 8 rfl rfl)
theorem dX3_laysParts_57 : decode cX3_laysParts 57 = .ok (.iload_n 1, 1) := dk_27 (dk_at dksX3_laysParts_2 9 rfl rfl)
theorem dX3_laysParts_58 : decode cX3_laysParts 58 = .ok (.if_icmp .eq 56, 3) := dk_159 0 56 (dk_at dksX3_laysParts_2 10 rfl rfl)
theorem dX3_laysParts_61 : decode cX3_laysParts 61 = .ok (.iload_n 3, 1) := dk_29 (dk_at dksX3_laysParts_2 13 rfl rfl)
theorem dX3_laysParts_62 : decode cX3_laysParts 62 = .ok (.iconst (-1), 1) := dk_2 (dk_at dksX3_laysParts_2 14 rfl rfl)
theorem dX3_laysParts_63 : decode cX3_laysParts 63 = .ok (.if_icmp .ne 6, 3) := dk_160 0 6 (dk_at dksX3_laysParts_2 15 rfl rfl)
theorem dX3_laysParts_66 : decode cX3_laysParts 66 = .ok (.goto 48, 3) := dk_167 0 48 (dk_at dksX3_laysParts_2 18 rfl rfl)
theorem dX3_laysParts_69 : decode cX3_laysParts 69 = .ok (.aload_n 0, 1) := dk_42 (dk_at dksX3_laysParts_2 21 rfl rfl)
theorem dX3_laysParts_70 : decode cX3_laysParts 70 = .ok (.getfield 59, 3) := dk_180 0 59 (dk_at dksX3_laysParts_3 0 rfl rfl)
theorem dX3_laysParts_73 : decode cX3_laysParts 73 = .ok (.iload_n 2, 1) := dk_28 (dk_at dksX3_laysParts_3 3 rfl rfl)
theorem dX3_laysParts_74 : decode cX3_laysParts 74 = .ok (.aload_n 0, 1) := dk_42 (dk_at dksX3_laysParts_3 4 rfl rfl)
theorem dX3_laysParts_75 : decode cX3_laysParts 75 = .ok (.getfield 59, 3) := dk_180 0 59 (dk_at dksX3_laysParts_3 5 rfl rfl)
theorem dX3_laysParts_78 : decode cX3_laysParts 78 = .ok (.iload_n 3, 1) := dk_29 (dk_at dksX3_laysParts_3 8 rfl rfl)
theorem dX3_laysParts_79 : decode cX3_laysParts 79 = .ok (.laload, 1) := dk_47 (dk_at dksX3_laysParts_3 9 rfl rfl)
theorem dX3_laysParts_80 : decode cX3_laysParts 80 = .ok (.iload 5, 2) := dk_21 5 (dk_at dksX3_laysParts_3 10 rfl rfl)
theorem dX3_laysParts_82 : decode cX3_laysParts 82 = .ok (.iconst 1, 1) := dk_4 (dk_at dksX3_laysParts_3 12 rfl rfl)
theorem dX3_laysParts_83 : decode cX3_laysParts 83 = .ok (.isub, 1) := dk_100 (dk_at dksX3_laysParts_3 13 rfl rfl)
theorem dX3_laysParts_84 : decode cX3_laysParts 84 = .ok (.aload_n 0, 1) := dk_42 (dk_at dksX3_laysParts_3 14 rfl rfl)
theorem dX3_laysParts_85 : decode cX3_laysParts 85 = .ok (.iload_n 3, 1) := dk_29 (dk_at dksX3_laysParts_3 15 rfl rfl)
theorem dX3_laysParts_86 : decode cX3_laysParts 86 = .ok (.iconst 3, 1) := dk_6 (dk_at dksX3_laysParts_3 16 rfl rfl)
theorem dX3_laysParts_87 : decode cX3_laysParts 87 = .ok (.invokevirtual 294, 3) := dk_182 1 38 (dk_at dksX3_laysParts_3 17 rfl rfl)
theorem dX3_laysParts_90 : decode cX3_laysParts 90 = .ok (.isub, 1) := dk_100 (dk_at dksX3_laysParts_3 20 rfl rfl)
theorem dX3_laysParts_91 : decode cX3_laysParts 91 = .ok (.lshl, 1) := dk_121 (dk_at dksX3_laysParts_3 21 rfl rfl)
theorem dX3_laysParts_92 : decode cX3_laysParts 92 = .ok (.aload_n 0, 1) := dk_42 (dk_at dksX3_laysParts_3 22 rfl rfl)
theorem dX3_laysParts_93 : decode cX3_laysParts 93 = .ok (.getfield 59, 3) := dk_180 0 59 (dk_at dksX3_laysParts_4 0 rfl rfl)
theorem dX3_laysParts_96 : decode cX3_laysParts 96 = .ok (.iload 4, 2) := dk_21 4 (dk_at dksX3_laysParts_4 3 rfl rfl)
theorem dX3_laysParts_98 : decode cX3_laysParts 98 = .ok (.laload, 1) := dk_47 (dk_at dksX3_laysParts_4 5 rfl rfl)
theorem dX3_laysParts_99 : decode cX3_laysParts 99 = .ok (.iload 5, 2) := dk_21 5 (dk_at dksX3_laysParts_4 6 rfl rfl)
theorem dX3_laysParts_101 : decode cX3_laysParts 101 = .ok (.iconst 1, 1) := dk_4 (dk_at dksX3_laysParts_4 8 rfl rfl)
theorem dX3_laysParts_102 : decode cX3_laysParts 102 = .ok (.isub, 1) := dk_100 (dk_at dksX3_laysParts_4 9 rfl rfl)
theorem dX3_laysParts_103 : decode cX3_laysParts 103 = .ok (.aload_n 0, 1) := dk_42 (dk_at dksX3_laysParts_4 10 rfl rfl)
theorem dX3_laysParts_104 : decode cX3_laysParts 104 = .ok (.iload 4, 2) := dk_21 4 (dk_at dksX3_laysParts_4 11 rfl rfl)
theorem dX3_laysParts_106 : decode cX3_laysParts 106 = .ok (.iconst 3, 1) := dk_6 (dk_at dksX3_laysParts_4 13 rfl rfl)
theorem dX3_laysParts_107 : decode cX3_laysParts 107 = .ok (.invokevirtual 294, 3) := dk_182 1 38 (dk_at dksX3_laysParts_4 14 rfl rfl)
theorem dX3_laysParts_110 : decode cX3_laysParts 110 = .ok (.isub, 1) := dk_100 (dk_at dksX3_laysParts_4 17 rfl rfl)
theorem dX3_laysParts_111 : decode cX3_laysParts 111 = .ok (.lshl, 1) := dk_121 (dk_at dksX3_laysParts_4 18 rfl rfl)
theorem dX3_laysParts_112 : decode cX3_laysParts 112 = .ok (.ladd, 1) := dk_97 (dk_at dksX3_laysParts_4 19 rfl rfl)
theorem dX3_laysParts_113 : decode cX3_laysParts 113 = .ok (.lastore, 1) := dk_80 (dk_at dksX3_laysParts_4 20 rfl rfl)
theorem dX3_laysParts_114 : decode cX3_laysParts 114 = .ok (.iinc 2 1, 3) := dk_132 2 1 (dk_at dksX3_laysParts_4 21 rfl rfl)
theorem dX3_laysParts_117 : decode cX3_laysParts 117 = .ok (.goto (-115), 3) := dk_167 255 141 (dk_at dksX3_laysParts_5 0 rfl rfl)
theorem dX3_laysParts_120 : decode cX3_laysParts 120 = .ok (.return_, 1) := dk_177 (dk_at dksX3_laysParts_5 3 rfl rfl)
abbrev cX3_led : ByteArray := prog_14_method_67_code
def yX3_led : MethodName := ⟨RX3, "led", "(II)I"⟩
def dkwX3_led_1 : List UInt8 := [182, 1, 46, 153, 0, 7, 4, 167, 0, 4, 3, 172]
abbrev dktX3_led_1 : List UInt8 := dkwX3_led_1 ++ []
def dkwX3_led_0 : List UInt8 := [42, 27, 182, 1, 35, 153, 0, 11, 42, 28, 182, 1, 35, 154, 0, 7, 2, 167, 0, 17, 42, 27, 28]
abbrev dktX3_led_0 : List UInt8 := dkwX3_led_0 ++ dktX3_led_1
theorem dksX3_led_0 : cX3_led.data.toList.drop 0 = dktX3_led_0 := by decide +kernel
theorem dksX3_led_1 : cX3_led.data.toList.drop 23 = dktX3_led_1 := dk_seg dksX3_led_0 23 rfl rfl
theorem dX3_led_0 : decode cX3_led 0 = .ok (.aload_n 0, 1) := dk_42 (dk_at dksX3_led_0 0 rfl rfl)
theorem dX3_led_1 : decode cX3_led 1 = .ok (.iload_n 1, 1) := dk_27 (dk_at dksX3_led_0 1 rfl rfl)
theorem dX3_led_2 : decode cX3_led 2 = .ok (.invokevirtual 291, 3) := dk_182 1 35 (dk_at dksX3_led_0 2 rfl rfl)
theorem dX3_led_5 : decode cX3_led 5 = .ok (.ifCond .eq 11, 3) := dk_153 0 11 (dk_at dksX3_led_0 5 rfl rfl)
theorem dX3_led_8 : decode cX3_led 8 = .ok (.aload_n 0, 1) := dk_42 (dk_at dksX3_led_0 8 rfl rfl)
theorem dX3_led_9 : decode cX3_led 9 = .ok (.iload_n 2, 1) := dk_28 (dk_at dksX3_led_0 9 rfl rfl)
theorem dX3_led_10 : decode cX3_led 10 = .ok (.invokevirtual 291, 3) := dk_182 1 35 (dk_at dksX3_led_0 10 rfl rfl)
theorem dX3_led_13 : decode cX3_led 13 = .ok (.ifCond .ne 7, 3) := dk_154 0 7 (dk_at dksX3_led_0 13 rfl rfl)
theorem dX3_led_16 : decode cX3_led 16 = .ok (.iconst (-1), 1) := dk_2 (dk_at dksX3_led_0 16 rfl rfl)
theorem dX3_led_17 : decode cX3_led 17 = .ok (.goto 17, 3) := dk_167 0 17 (dk_at dksX3_led_0 17 rfl rfl)
theorem dX3_led_20 : decode cX3_led 20 = .ok (.aload_n 0, 1) := dk_42 (dk_at dksX3_led_0 20 rfl rfl)
theorem dX3_led_21 : decode cX3_led 21 = .ok (.iload_n 1, 1) := dk_27 (dk_at dksX3_led_0 21 rfl rfl)
theorem dX3_led_22 : decode cX3_led 22 = .ok (.iload_n 2, 1) := dk_28 (dk_at dksX3_led_0 22 rfl rfl)
theorem dX3_led_23 : decode cX3_led 23 = .ok (.invokevirtual 302, 3) := dk_182 1 46 (dk_at dksX3_led_1 0 rfl rfl)
theorem dX3_led_26 : decode cX3_led 26 = .ok (.ifCond .eq 7, 3) := dk_153 0 7 (dk_at dksX3_led_1 3 rfl rfl)
theorem dX3_led_29 : decode cX3_led 29 = .ok (.iconst 1, 1) := dk_4 (dk_at dksX3_led_1 6 rfl rfl)
theorem dX3_led_30 : decode cX3_led 30 = .ok (.goto 4, 3) := dk_167 0 4 (dk_at dksX3_led_1 7 rfl rfl)
theorem dX3_led_33 : decode cX3_led 33 = .ok (.iconst 0, 1) := dk_3 (dk_at dksX3_led_1 10 rfl rfl)
theorem dX3_led_34 : decode cX3_led 34 = .ok (.ireturn, 1) := dk_172 (dk_at dksX3_led_1 11 rfl rfl)
abbrev cX3_isLed : ByteArray := prog_14_method_66_code
def yX3_isLed : MethodName := ⟨RX3, "isLed", "(II)Z"⟩
def dkwX3_isLed_0 : List UInt8 := [42, 28, 182, 1, 41, 42, 180, 0, 59, 27, 47, 9, 148, 158, 0, 7, 4, 167, 0, 4, 3, 172]
abbrev dktX3_isLed_0 : List UInt8 := dkwX3_isLed_0 ++ []
theorem dksX3_isLed_0 : cX3_isLed.data.toList.drop 0 = dktX3_isLed_0 := by decide +kernel
theorem dX3_isLed_0 : decode cX3_isLed 0 = .ok (.aload_n 0, 1) := dk_42 (dk_at dksX3_isLed_0 0 rfl rfl)
theorem dX3_isLed_1 : decode cX3_isLed 1 = .ok (.iload_n 2, 1) := dk_28 (dk_at dksX3_isLed_0 1 rfl rfl)
theorem dX3_isLed_2 : decode cX3_isLed 2 = .ok (.invokevirtual 297, 3) := dk_182 1 41 (dk_at dksX3_isLed_0 2 rfl rfl)
theorem dX3_isLed_5 : decode cX3_isLed 5 = .ok (.aload_n 0, 1) := dk_42 (dk_at dksX3_isLed_0 5 rfl rfl)
theorem dX3_isLed_6 : decode cX3_isLed 6 = .ok (.getfield 59, 3) := dk_180 0 59 (dk_at dksX3_isLed_0 6 rfl rfl)
theorem dX3_isLed_9 : decode cX3_isLed 9 = .ok (.iload_n 1, 1) := dk_27 (dk_at dksX3_isLed_0 9 rfl rfl)
theorem dX3_isLed_10 : decode cX3_isLed 10 = .ok (.laload, 1) := dk_47 (dk_at dksX3_isLed_0 10 rfl rfl)
theorem dX3_isLed_11 : decode cX3_isLed 11 = .ok (.lconst 0, 1) := dk_9 (dk_at dksX3_isLed_0 11 rfl rfl)
theorem dX3_isLed_12 : decode cX3_isLed 12 = .ok (.lcmp, 1) := dk_148 (dk_at dksX3_isLed_0 12 rfl rfl)
theorem dX3_isLed_13 : decode cX3_isLed 13 = .ok (.ifCond .le 7, 3) := dk_158 0 7 (dk_at dksX3_isLed_0 13 rfl rfl)
theorem dX3_isLed_16 : decode cX3_isLed 16 = .ok (.iconst 1, 1) := dk_4 (dk_at dksX3_isLed_0 16 rfl rfl)
theorem dX3_isLed_17 : decode cX3_isLed 17 = .ok (.goto 4, 3) := dk_167 0 4 (dk_at dksX3_isLed_0 17 rfl rfl)
theorem dX3_isLed_20 : decode cX3_isLed 20 = .ok (.iconst 0, 1) := dk_3 (dk_at dksX3_isLed_0 20 rfl rfl)
theorem dX3_isLed_21 : decode cX3_isLed 21 = .ok (.ireturn, 1) := dk_172 (dk_at dksX3_isLed_0 21 rfl rfl)
abbrev cX3_lent : ByteArray := prog_14_method_68_code
def yX3_lent : MethodName := ⟨RX3, "lent", "(II)I"⟩
def dkwX3_lent_5 : List UInt8 := [21, 5, 122, 4, 126, 96, 54, 4, 132, 5, 1, 167, 255, 235, 21, 4, 172]
abbrev dktX3_lent_5 : List UInt8 := dkwX3_lent_5 ++ []
def dkwX3_lent_4 : List UInt8 := [62, 132, 4, 1, 167, 255, 214, 3, 54, 4, 3, 54, 5, 21, 5, 16, 9, 162, 0, 20, 21, 4, 29]
abbrev dktX3_lent_4 : List UInt8 := dkwX3_lent_4 ++ dktX3_lent_5
def dkwX3_lent_3 : List UInt8 := [160, 0, 25, 42, 27, 21, 4, 182, 1, 46, 153, 0, 15, 29, 4, 42, 21, 4, 5, 182, 1, 38, 120, 128]
abbrev dktX3_lent_3 : List UInt8 := dkwX3_lent_3 ++ dktX3_lent_4
def dkwX3_lent_2 : List UInt8 := [182, 1, 38, 172, 3, 62, 3, 54, 4, 21, 4, 27, 163, 0, 42, 42, 21, 4, 3, 182, 1, 38, 2]
abbrev dktX3_lent_2 : List UInt8 := dkwX3_lent_2 ++ dktX3_lent_3
def dkwX3_lent_1 : List UInt8 := [162, 0, 12, 42, 27, 6, 28, 100, 182, 1, 38, 172, 28, 7, 162, 0, 12, 42, 27, 28, 5, 100]
abbrev dktX3_lent_1 : List UInt8 := dkwX3_lent_1 ++ dktX3_lent_2
def dkwX3_lent_0 : List UInt8 := [42, 27, 182, 1, 35, 153, 0, 12, 28, 3, 7, 184, 0, 66, 154, 0, 6, 16, 254, 172, 28, 5]
abbrev dktX3_lent_0 : List UInt8 := dkwX3_lent_0 ++ dktX3_lent_1
theorem dksX3_lent_0 : cX3_lent.data.toList.drop 0 = dktX3_lent_0 := by decide +kernel
theorem dksX3_lent_1 : cX3_lent.data.toList.drop 22 = dktX3_lent_1 := dk_seg dksX3_lent_0 22 rfl rfl
theorem dksX3_lent_2 : cX3_lent.data.toList.drop 44 = dktX3_lent_2 := dk_seg dksX3_lent_1 22 rfl rfl
theorem dksX3_lent_3 : cX3_lent.data.toList.drop 67 = dktX3_lent_3 := dk_seg dksX3_lent_2 23 rfl rfl
theorem dksX3_lent_4 : cX3_lent.data.toList.drop 91 = dktX3_lent_4 := dk_seg dksX3_lent_3 24 rfl rfl
theorem dksX3_lent_5 : cX3_lent.data.toList.drop 114 = dktX3_lent_5 := dk_seg dksX3_lent_4 23 rfl rfl
theorem dX3_lent_0 : decode cX3_lent 0 = .ok (.aload_n 0, 1) := dk_42 (dk_at dksX3_lent_0 0 rfl rfl)
theorem dX3_lent_1 : decode cX3_lent 1 = .ok (.iload_n 1, 1) := dk_27 (dk_at dksX3_lent_0 1 rfl rfl)
theorem dX3_lent_2 : decode cX3_lent 2 = .ok (.invokevirtual 291, 3) := dk_182 1 35 (dk_at dksX3_lent_0 2 rfl rfl)
theorem dX3_lent_5 : decode cX3_lent 5 = .ok (.ifCond .eq 12, 3) := dk_153 0 12 (dk_at dksX3_lent_0 5 rfl rfl)
theorem dX3_lent_8 : decode cX3_lent 8 = .ok (.iload_n 2, 1) := dk_28 (dk_at dksX3_lent_0 8 rfl rfl)
theorem dX3_lent_9 : decode cX3_lent 9 = .ok (.iconst 0, 1) := dk_3 (dk_at dksX3_lent_0 9 rfl rfl)
theorem dX3_lent_10 : decode cX3_lent 10 = .ok (.iconst 4, 1) := dk_7 (dk_at dksX3_lent_0 10 rfl rfl)
theorem dX3_lent_11 : decode cX3_lent 11 = .ok (.invokestatic 66, 3) := dk_184 0 66 (dk_at dksX3_lent_0 11 rfl rfl)
theorem dX3_lent_14 : decode cX3_lent 14 = .ok (.ifCond .ne 6, 3) := dk_154 0 6 (dk_at dksX3_lent_0 14 rfl rfl)
theorem dX3_lent_17 : decode cX3_lent 17 = .ok (.bipush (-2), 2) := dk_16 254 (dk_at dksX3_lent_0 17 rfl rfl)
theorem dX3_lent_19 : decode cX3_lent 19 = .ok (.ireturn, 1) := dk_172 (dk_at dksX3_lent_0 19 rfl rfl)
theorem dX3_lent_20 : decode cX3_lent 20 = .ok (.iload_n 2, 1) := dk_28 (dk_at dksX3_lent_0 20 rfl rfl)
theorem dX3_lent_21 : decode cX3_lent 21 = .ok (.iconst 2, 1) := dk_5 (dk_at dksX3_lent_0 21 rfl rfl)
theorem dX3_lent_22 : decode cX3_lent 22 = .ok (.if_icmp .ge 12, 3) := dk_162 0 12 (dk_at dksX3_lent_1 0 rfl rfl)
theorem dX3_lent_25 : decode cX3_lent 25 = .ok (.aload_n 0, 1) := dk_42 (dk_at dksX3_lent_1 3 rfl rfl)
theorem dX3_lent_26 : decode cX3_lent 26 = .ok (.iload_n 1, 1) := dk_27 (dk_at dksX3_lent_1 4 rfl rfl)
theorem dX3_lent_27 : decode cX3_lent 27 = .ok (.iconst 3, 1) := dk_6 (dk_at dksX3_lent_1 5 rfl rfl)
theorem dX3_lent_28 : decode cX3_lent 28 = .ok (.iload_n 2, 1) := dk_28 (dk_at dksX3_lent_1 6 rfl rfl)
theorem dX3_lent_29 : decode cX3_lent 29 = .ok (.isub, 1) := dk_100 (dk_at dksX3_lent_1 7 rfl rfl)
theorem dX3_lent_30 : decode cX3_lent 30 = .ok (.invokevirtual 294, 3) := dk_182 1 38 (dk_at dksX3_lent_1 8 rfl rfl)
theorem dX3_lent_33 : decode cX3_lent 33 = .ok (.ireturn, 1) := dk_172 (dk_at dksX3_lent_1 11 rfl rfl)
theorem dX3_lent_34 : decode cX3_lent 34 = .ok (.iload_n 2, 1) := dk_28 (dk_at dksX3_lent_1 12 rfl rfl)
theorem dX3_lent_35 : decode cX3_lent 35 = .ok (.iconst 4, 1) := dk_7 (dk_at dksX3_lent_1 13 rfl rfl)
theorem dX3_lent_36 : decode cX3_lent 36 = .ok (.if_icmp .ge 12, 3) := dk_162 0 12 (dk_at dksX3_lent_1 14 rfl rfl)
theorem dX3_lent_39 : decode cX3_lent 39 = .ok (.aload_n 0, 1) := dk_42 (dk_at dksX3_lent_1 17 rfl rfl)
theorem dX3_lent_40 : decode cX3_lent 40 = .ok (.iload_n 1, 1) := dk_27 (dk_at dksX3_lent_1 18 rfl rfl)
theorem dX3_lent_41 : decode cX3_lent 41 = .ok (.iload_n 2, 1) := dk_28 (dk_at dksX3_lent_1 19 rfl rfl)
theorem dX3_lent_42 : decode cX3_lent 42 = .ok (.iconst 2, 1) := dk_5 (dk_at dksX3_lent_1 20 rfl rfl)
theorem dX3_lent_43 : decode cX3_lent 43 = .ok (.isub, 1) := dk_100 (dk_at dksX3_lent_1 21 rfl rfl)
theorem dX3_lent_44 : decode cX3_lent 44 = .ok (.invokevirtual 294, 3) := dk_182 1 38 (dk_at dksX3_lent_2 0 rfl rfl)
theorem dX3_lent_47 : decode cX3_lent 47 = .ok (.ireturn, 1) := dk_172 (dk_at dksX3_lent_2 3 rfl rfl)
theorem dX3_lent_48 : decode cX3_lent 48 = .ok (.iconst 0, 1) := dk_3 (dk_at dksX3_lent_2 4 rfl rfl)
theorem dX3_lent_49 : decode cX3_lent 49 = .ok (.istore_n 3, 1) := dk_62 (dk_at dksX3_lent_2 5 rfl rfl)
theorem dX3_lent_50 : decode cX3_lent 50 = .ok (.iconst 0, 1) := dk_3 (dk_at dksX3_lent_2 6 rfl rfl)
theorem dX3_lent_51 : decode cX3_lent 51 = .ok (.istore 4, 2) := dk_54 4 (dk_at dksX3_lent_2 7 rfl rfl)
theorem dX3_lent_53 : decode cX3_lent 53 = .ok (.iload 4, 2) := dk_21 4 (dk_at dksX3_lent_2 9 rfl rfl)
theorem dX3_lent_55 : decode cX3_lent 55 = .ok (.iload_n 1, 1) := dk_27 (dk_at dksX3_lent_2 11 rfl rfl)
theorem dX3_lent_56 : decode cX3_lent 56 = .ok (.if_icmp .gt 42, 3) := dk_163 0 42 (dk_at dksX3_lent_2 12 rfl rfl)
theorem dX3_lent_59 : decode cX3_lent 59 = .ok (.aload_n 0, 1) := dk_42 (dk_at dksX3_lent_2 15 rfl rfl)
theorem dX3_lent_60 : decode cX3_lent 60 = .ok (.iload 4, 2) := dk_21 4 (dk_at dksX3_lent_2 16 rfl rfl)
theorem dX3_lent_62 : decode cX3_lent 62 = .ok (.iconst 0, 1) := dk_3 (dk_at dksX3_lent_2 18 rfl rfl)
theorem dX3_lent_63 : decode cX3_lent 63 = .ok (.invokevirtual 294, 3) := dk_182 1 38 (dk_at dksX3_lent_2 19 rfl rfl)
theorem dX3_lent_66 : decode cX3_lent 66 = .ok (.iconst (-1), 1) := dk_2 (dk_at dksX3_lent_2 22 rfl rfl)
theorem dX3_lent_67 : decode cX3_lent 67 = .ok (.if_icmp .ne 25, 3) := dk_160 0 25 (dk_at dksX3_lent_3 0 rfl rfl)
theorem dX3_lent_70 : decode cX3_lent 70 = .ok (.aload_n 0, 1) := dk_42 (dk_at dksX3_lent_3 3 rfl rfl)
theorem dX3_lent_71 : decode cX3_lent 71 = .ok (.iload_n 1, 1) := dk_27 (dk_at dksX3_lent_3 4 rfl rfl)
theorem dX3_lent_72 : decode cX3_lent 72 = .ok (.iload 4, 2) := dk_21 4 (dk_at dksX3_lent_3 5 rfl rfl)
theorem dX3_lent_74 : decode cX3_lent 74 = .ok (.invokevirtual 302, 3) := dk_182 1 46 (dk_at dksX3_lent_3 7 rfl rfl)
theorem dX3_lent_77 : decode cX3_lent 77 = .ok (.ifCond .eq 15, 3) := dk_153 0 15 (dk_at dksX3_lent_3 10 rfl rfl)
theorem dX3_lent_80 : decode cX3_lent 80 = .ok (.iload_n 3, 1) := dk_29 (dk_at dksX3_lent_3 13 rfl rfl)
theorem dX3_lent_81 : decode cX3_lent 81 = .ok (.iconst 1, 1) := dk_4 (dk_at dksX3_lent_3 14 rfl rfl)
theorem dX3_lent_82 : decode cX3_lent 82 = .ok (.aload_n 0, 1) := dk_42 (dk_at dksX3_lent_3 15 rfl rfl)
theorem dX3_lent_83 : decode cX3_lent 83 = .ok (.iload 4, 2) := dk_21 4 (dk_at dksX3_lent_3 16 rfl rfl)
theorem dX3_lent_85 : decode cX3_lent 85 = .ok (.iconst 2, 1) := dk_5 (dk_at dksX3_lent_3 18 rfl rfl)
theorem dX3_lent_86 : decode cX3_lent 86 = .ok (.invokevirtual 294, 3) := dk_182 1 38 (dk_at dksX3_lent_3 19 rfl rfl)
theorem dX3_lent_89 : decode cX3_lent 89 = .ok (.ishl, 1) := dk_120 (dk_at dksX3_lent_3 22 rfl rfl)
theorem dX3_lent_90 : decode cX3_lent 90 = .ok (.ior, 1) := dk_128 (dk_at dksX3_lent_3 23 rfl rfl)
theorem dX3_lent_91 : decode cX3_lent 91 = .ok (.istore_n 3, 1) := dk_62 (dk_at dksX3_lent_4 0 rfl rfl)
theorem dX3_lent_92 : decode cX3_lent 92 = .ok (.iinc 4 1, 3) := dk_132 4 1 (dk_at dksX3_lent_4 1 rfl rfl)
theorem dX3_lent_95 : decode cX3_lent 95 = .ok (.goto (-42), 3) := dk_167 255 214 (dk_at dksX3_lent_4 4 rfl rfl)
theorem dX3_lent_98 : decode cX3_lent 98 = .ok (.iconst 0, 1) := dk_3 (dk_at dksX3_lent_4 7 rfl rfl)
theorem dX3_lent_99 : decode cX3_lent 99 = .ok (.istore 4, 2) := dk_54 4 (dk_at dksX3_lent_4 8 rfl rfl)
theorem dX3_lent_101 : decode cX3_lent 101 = .ok (.iconst 0, 1) := dk_3 (dk_at dksX3_lent_4 10 rfl rfl)
theorem dX3_lent_102 : decode cX3_lent 102 = .ok (.istore 5, 2) := dk_54 5 (dk_at dksX3_lent_4 11 rfl rfl)
theorem dX3_lent_104 : decode cX3_lent 104 = .ok (.iload 5, 2) := dk_21 5 (dk_at dksX3_lent_4 13 rfl rfl)
theorem dX3_lent_106 : decode cX3_lent 106 = .ok (.bipush 9, 2) := dk_16 9 (dk_at dksX3_lent_4 15 rfl rfl)
theorem dX3_lent_108 : decode cX3_lent 108 = .ok (.if_icmp .ge 20, 3) := dk_162 0 20 (dk_at dksX3_lent_4 17 rfl rfl)
theorem dX3_lent_111 : decode cX3_lent 111 = .ok (.iload 4, 2) := dk_21 4 (dk_at dksX3_lent_4 20 rfl rfl)
theorem dX3_lent_113 : decode cX3_lent 113 = .ok (.iload_n 3, 1) := dk_29 (dk_at dksX3_lent_4 22 rfl rfl)
theorem dX3_lent_114 : decode cX3_lent 114 = .ok (.iload 5, 2) := dk_21 5 (dk_at dksX3_lent_5 0 rfl rfl)
theorem dX3_lent_116 : decode cX3_lent 116 = .ok (.ishr, 1) := dk_122 (dk_at dksX3_lent_5 2 rfl rfl)
theorem dX3_lent_117 : decode cX3_lent 117 = .ok (.iconst 1, 1) := dk_4 (dk_at dksX3_lent_5 3 rfl rfl)
theorem dX3_lent_118 : decode cX3_lent 118 = .ok (.iand, 1) := dk_126 (dk_at dksX3_lent_5 4 rfl rfl)
theorem dX3_lent_119 : decode cX3_lent 119 = .ok (.iadd, 1) := dk_96 (dk_at dksX3_lent_5 5 rfl rfl)
theorem dX3_lent_120 : decode cX3_lent 120 = .ok (.istore 4, 2) := dk_54 4 (dk_at dksX3_lent_5 6 rfl rfl)
theorem dX3_lent_122 : decode cX3_lent 122 = .ok (.iinc 5 1, 3) := dk_132 5 1 (dk_at dksX3_lent_5 8 rfl rfl)
theorem dX3_lent_125 : decode cX3_lent 125 = .ok (.goto (-21), 3) := dk_167 255 235 (dk_at dksX3_lent_5 11 rfl rfl)
theorem dX3_lent_128 : decode cX3_lent 128 = .ok (.iload 4, 2) := dk_21 4 (dk_at dksX3_lent_5 14 rfl rfl)
theorem dX3_lent_130 : decode cX3_lent 130 = .ok (.ireturn, 1) := dk_172 (dk_at dksX3_lent_5 16 rfl rfl)
abbrev cX3_rise : ByteArray := prog_14_method_69_code
def yX3_rise : MethodName := ⟨RX3, "rise", "(III)Z"⟩
def dkwX3_rise_2 : List UInt8 := [4, 172]
abbrev dktX3_rise_2 : List UInt8 := dkwX3_rise_2 ++ []
def dkwX3_rise_1 : List UInt8 := [184, 0, 66, 154, 0, 5, 3, 172, 42, 180, 0, 7, 17, 1, 14, 16, 8, 27, 104, 96, 28, 96, 29, 79]
abbrev dktX3_rise_1 : List UInt8 := dkwX3_rise_1 ++ dktX3_rise_2
def dkwX3_rise_0 : List UInt8 := [27, 3, 16, 7, 184, 0, 66, 153, 0, 23, 28, 3, 16, 7, 184, 0, 66, 153, 0, 13, 29, 3, 16, 9]
abbrev dktX3_rise_0 : List UInt8 := dkwX3_rise_0 ++ dktX3_rise_1
theorem dksX3_rise_0 : cX3_rise.data.toList.drop 0 = dktX3_rise_0 := by decide +kernel
theorem dksX3_rise_1 : cX3_rise.data.toList.drop 24 = dktX3_rise_1 := dk_seg dksX3_rise_0 24 rfl rfl
theorem dksX3_rise_2 : cX3_rise.data.toList.drop 48 = dktX3_rise_2 := dk_seg dksX3_rise_1 24 rfl rfl
theorem dX3_rise_0 : decode cX3_rise 0 = .ok (.iload_n 1, 1) := dk_27 (dk_at dksX3_rise_0 0 rfl rfl)
theorem dX3_rise_1 : decode cX3_rise 1 = .ok (.iconst 0, 1) := dk_3 (dk_at dksX3_rise_0 1 rfl rfl)
theorem dX3_rise_2 : decode cX3_rise 2 = .ok (.bipush 7, 2) := dk_16 7 (dk_at dksX3_rise_0 2 rfl rfl)
theorem dX3_rise_4 : decode cX3_rise 4 = .ok (.invokestatic 66, 3) := dk_184 0 66 (dk_at dksX3_rise_0 4 rfl rfl)
theorem dX3_rise_7 : decode cX3_rise 7 = .ok (.ifCond .eq 23, 3) := dk_153 0 23 (dk_at dksX3_rise_0 7 rfl rfl)
theorem dX3_rise_10 : decode cX3_rise 10 = .ok (.iload_n 2, 1) := dk_28 (dk_at dksX3_rise_0 10 rfl rfl)
theorem dX3_rise_11 : decode cX3_rise 11 = .ok (.iconst 0, 1) := dk_3 (dk_at dksX3_rise_0 11 rfl rfl)
theorem dX3_rise_12 : decode cX3_rise 12 = .ok (.bipush 7, 2) := dk_16 7 (dk_at dksX3_rise_0 12 rfl rfl)
theorem dX3_rise_14 : decode cX3_rise 14 = .ok (.invokestatic 66, 3) := dk_184 0 66 (dk_at dksX3_rise_0 14 rfl rfl)
theorem dX3_rise_17 : decode cX3_rise 17 = .ok (.ifCond .eq 13, 3) := dk_153 0 13 (dk_at dksX3_rise_0 17 rfl rfl)
theorem dX3_rise_20 : decode cX3_rise 20 = .ok (.iload_n 3, 1) := dk_29 (dk_at dksX3_rise_0 20 rfl rfl)
theorem dX3_rise_21 : decode cX3_rise 21 = .ok (.iconst 0, 1) := dk_3 (dk_at dksX3_rise_0 21 rfl rfl)
theorem dX3_rise_22 : decode cX3_rise 22 = .ok (.bipush 9, 2) := dk_16 9 (dk_at dksX3_rise_0 22 rfl rfl)
theorem dX3_rise_24 : decode cX3_rise 24 = .ok (.invokestatic 66, 3) := dk_184 0 66 (dk_at dksX3_rise_1 0 rfl rfl)
theorem dX3_rise_27 : decode cX3_rise 27 = .ok (.ifCond .ne 5, 3) := dk_154 0 5 (dk_at dksX3_rise_1 3 rfl rfl)
theorem dX3_rise_30 : decode cX3_rise 30 = .ok (.iconst 0, 1) := dk_3 (dk_at dksX3_rise_1 6 rfl rfl)
theorem dX3_rise_31 : decode cX3_rise 31 = .ok (.ireturn, 1) := dk_172 (dk_at dksX3_rise_1 7 rfl rfl)
theorem dX3_rise_32 : decode cX3_rise 32 = .ok (.aload_n 0, 1) := dk_42 (dk_at dksX3_rise_1 8 rfl rfl)
theorem dX3_rise_33 : decode cX3_rise 33 = .ok (.getfield 7, 3) := dk_180 0 7 (dk_at dksX3_rise_1 9 rfl rfl)
theorem dX3_rise_36 : decode cX3_rise 36 = .ok (.sipush 270, 3) := dk_17 1 14 (dk_at dksX3_rise_1 12 rfl rfl)
theorem dX3_rise_39 : decode cX3_rise 39 = .ok (.bipush 8, 2) := dk_16 8 (dk_at dksX3_rise_1 15 rfl rfl)
theorem dX3_rise_41 : decode cX3_rise 41 = .ok (.iload_n 1, 1) := dk_27 (dk_at dksX3_rise_1 17 rfl rfl)
theorem dX3_rise_42 : decode cX3_rise 42 = .ok (.imul, 1) := dk_104 (dk_at dksX3_rise_1 18 rfl rfl)
theorem dX3_rise_43 : decode cX3_rise 43 = .ok (.iadd, 1) := dk_96 (dk_at dksX3_rise_1 19 rfl rfl)
theorem dX3_rise_44 : decode cX3_rise 44 = .ok (.iload_n 2, 1) := dk_28 (dk_at dksX3_rise_1 20 rfl rfl)
theorem dX3_rise_45 : decode cX3_rise 45 = .ok (.iadd, 1) := dk_96 (dk_at dksX3_rise_1 21 rfl rfl)
theorem dX3_rise_46 : decode cX3_rise 46 = .ok (.iload_n 3, 1) := dk_29 (dk_at dksX3_rise_1 22 rfl rfl)
theorem dX3_rise_47 : decode cX3_rise 47 = .ok (.iastore, 1) := dk_79 (dk_at dksX3_rise_1 23 rfl rfl)
theorem dX3_rise_48 : decode cX3_rise 48 = .ok (.iconst 1, 1) := dk_4 (dk_at dksX3_rise_2 0 rfl rfl)
theorem dX3_rise_49 : decode cX3_rise 49 = .ok (.ireturn, 1) := dk_172 (dk_at dksX3_rise_2 1 rfl rfl)
abbrev cX3_odds : ByteArray := prog_14_method_71_code
def yX3_odds : MethodName := ⟨RX3, "odds", "(II)J"⟩
def dkwX3_odds_2 : List UInt8 := [42, 180, 1, 54, 173]
abbrev dktX3_odds_2 : List UInt8 := dkwX3_odds_2 ++ []
def dkwX3_odds_1 : List UInt8 := [154, 0, 7, 20, 1, 57, 173, 42, 27, 29, 182, 1, 59, 28, 154, 0, 10, 42, 180, 1, 50, 167, 0, 7]
abbrev dktX3_odds_1 : List UInt8 := dkwX3_odds_1 ++ dktX3_odds_2
def dkwX3_odds_0 : List UInt8 := [42, 182, 0, 210, 62, 29, 2, 159, 0, 20, 42, 27, 182, 0, 216, 153, 0, 12, 28, 3, 4, 184, 0, 66]
abbrev dktX3_odds_0 : List UInt8 := dkwX3_odds_0 ++ dktX3_odds_1
theorem dksX3_odds_0 : cX3_odds.data.toList.drop 0 = dktX3_odds_0 := by decide +kernel
theorem dksX3_odds_1 : cX3_odds.data.toList.drop 24 = dktX3_odds_1 := dk_seg dksX3_odds_0 24 rfl rfl
theorem dksX3_odds_2 : cX3_odds.data.toList.drop 48 = dktX3_odds_2 := dk_seg dksX3_odds_1 24 rfl rfl
theorem dX3_odds_0 : decode cX3_odds 0 = .ok (.aload_n 0, 1) := dk_42 (dk_at dksX3_odds_0 0 rfl rfl)
theorem dX3_odds_1 : decode cX3_odds 1 = .ok (.invokevirtual 210, 3) := dk_182 0 210 (dk_at dksX3_odds_0 1 rfl rfl)
theorem dX3_odds_4 : decode cX3_odds 4 = .ok (.istore_n 3, 1) := dk_62 (dk_at dksX3_odds_0 4 rfl rfl)
theorem dX3_odds_5 : decode cX3_odds 5 = .ok (.iload_n 3, 1) := dk_29 (dk_at dksX3_odds_0 5 rfl rfl)
theorem dX3_odds_6 : decode cX3_odds 6 = .ok (.iconst (-1), 1) := dk_2 (dk_at dksX3_odds_0 6 rfl rfl)
theorem dX3_odds_7 : decode cX3_odds 7 = .ok (.if_icmp .eq 20, 3) := dk_159 0 20 (dk_at dksX3_odds_0 7 rfl rfl)
theorem dX3_odds_10 : decode cX3_odds 10 = .ok (.aload_n 0, 1) := dk_42 (dk_at dksX3_odds_0 10 rfl rfl)
theorem dX3_odds_11 : decode cX3_odds 11 = .ok (.iload_n 1, 1) := dk_27 (dk_at dksX3_odds_0 11 rfl rfl)
theorem dX3_odds_12 : decode cX3_odds 12 = .ok (.invokevirtual 216, 3) := dk_182 0 216 (dk_at dksX3_odds_0 12 rfl rfl)
theorem dX3_odds_15 : decode cX3_odds 15 = .ok (.ifCond .eq 12, 3) := dk_153 0 12 (dk_at dksX3_odds_0 15 rfl rfl)
theorem dX3_odds_18 : decode cX3_odds 18 = .ok (.iload_n 2, 1) := dk_28 (dk_at dksX3_odds_0 18 rfl rfl)
theorem dX3_odds_19 : decode cX3_odds 19 = .ok (.iconst 0, 1) := dk_3 (dk_at dksX3_odds_0 19 rfl rfl)
theorem dX3_odds_20 : decode cX3_odds 20 = .ok (.iconst 1, 1) := dk_4 (dk_at dksX3_odds_0 20 rfl rfl)
theorem dX3_odds_21 : decode cX3_odds 21 = .ok (.invokestatic 66, 3) := dk_184 0 66 (dk_at dksX3_odds_0 21 rfl rfl)
theorem dX3_odds_24 : decode cX3_odds 24 = .ok (.ifCond .ne 7, 3) := dk_154 0 7 (dk_at dksX3_odds_1 0 rfl rfl)
theorem dX3_odds_27 : decode cX3_odds 27 = .ok (.ldc2_w 313, 3) := dk_20 1 57 (dk_at dksX3_odds_1 3 rfl rfl)
theorem dX3_odds_30 : decode cX3_odds 30 = .ok (.lreturn, 1) := dk_173 (dk_at dksX3_odds_1 6 rfl rfl)
theorem dX3_odds_31 : decode cX3_odds 31 = .ok (.aload_n 0, 1) := dk_42 (dk_at dksX3_odds_1 7 rfl rfl)
theorem dX3_odds_32 : decode cX3_odds 32 = .ok (.iload_n 1, 1) := dk_27 (dk_at dksX3_odds_1 8 rfl rfl)
theorem dX3_odds_33 : decode cX3_odds 33 = .ok (.iload_n 3, 1) := dk_29 (dk_at dksX3_odds_1 9 rfl rfl)
theorem dX3_odds_34 : decode cX3_odds 34 = .ok (.invokevirtual 315, 3) := dk_182 1 59 (dk_at dksX3_odds_1 10 rfl rfl)
theorem dX3_odds_37 : decode cX3_odds 37 = .ok (.iload_n 2, 1) := dk_28 (dk_at dksX3_odds_1 13 rfl rfl)
theorem dX3_odds_38 : decode cX3_odds 38 = .ok (.ifCond .ne 10, 3) := dk_154 0 10 (dk_at dksX3_odds_1 14 rfl rfl)
theorem dX3_odds_41 : decode cX3_odds 41 = .ok (.aload_n 0, 1) := dk_42 (dk_at dksX3_odds_1 17 rfl rfl)
theorem dX3_odds_42 : decode cX3_odds 42 = .ok (.getfield 306, 3) := dk_180 1 50 (dk_at dksX3_odds_1 18 rfl rfl)
theorem dX3_odds_45 : decode cX3_odds 45 = .ok (.goto 7, 3) := dk_167 0 7 (dk_at dksX3_odds_1 21 rfl rfl)
theorem dX3_odds_48 : decode cX3_odds 48 = .ok (.aload_n 0, 1) := dk_42 (dk_at dksX3_odds_2 0 rfl rfl)
theorem dX3_odds_49 : decode cX3_odds 49 = .ok (.getfield 310, 3) := dk_180 1 54 (dk_at dksX3_odds_2 1 rfl rfl)
theorem dX3_odds_52 : decode cX3_odds 52 = .ok (.lreturn, 1) := dk_173 (dk_at dksX3_odds_2 4 rfl rfl)
abbrev cX3_laysOdds : ByteArray := prog_14_method_70_code
def yX3_laysOdds : MethodName := ⟨RX3, "laysOdds", "(II)V"⟩
def dkwX3_laysOdds_9 : List UInt8 := [180, 1, 54, 33, 109, 181, 1, 54, 177]
abbrev dktX3_laysOdds_9 : List UInt8 := dkwX3_laysOdds_9 ++ []
def dkwX3_laysOdds_8 : List UInt8 := [22, 5, 66, 22, 7, 55, 5, 167, 255, 236, 42, 89, 180, 1, 50, 33, 109, 181, 1, 50, 42, 89]
abbrev dktX3_laysOdds_8 : List UInt8 := dkwX3_laysOdds_8 ++ dktX3_laysOdds_9
def dkwX3_laysOdds_7 : List UInt8 := [180, 1, 50, 66, 42, 180, 1, 54, 55, 5, 22, 5, 9, 148, 158, 0, 19, 33, 22, 5, 113, 55, 7]
abbrev dktX3_laysOdds_7 : List UInt8 := dkwX3_laysOdds_7 ++ dktX3_laysOdds_8
def dkwX3_laysOdds_6 : List UInt8 := [181, 1, 54, 132, 3, 1, 167, 255, 141, 42, 180, 1, 50, 9, 148, 154, 0, 8, 42, 10, 181, 1, 54, 42]
abbrev dktX3_laysOdds_6 : List UInt8 := dkwX3_laysOdds_6 ++ dktX3_laysOdds_7
def dkwX3_laysOdds_5 : List UInt8 := [180, 0, 25, 29, 46, 96, 16, 97, 100, 46, 133, 105, 181, 1, 50, 42, 89, 180, 1, 54, 21, 5, 133, 105]
abbrev dktX3_laysOdds_5 : List UInt8 := dkwX3_laysOdds_5 ++ dktX3_laysOdds_6
def dkwX3_laysOdds_4 : List UInt8 := [167, 255, 224, 42, 89, 180, 1, 50, 42, 180, 0, 7, 17, 1, 14, 16, 8, 21, 4, 104, 96, 42]
abbrev dktX3_laysOdds_4 : List UInt8 := dkwX3_laysOdds_4 ++ dktX3_laysOdds_5
def dkwX3_laysOdds_3 : List UInt8 := [180, 0, 7, 17, 1, 14, 16, 8, 21, 4, 104, 96, 21, 6, 96, 46, 96, 54, 5, 132, 6, 1]
abbrev dktX3_laysOdds_3 : List UInt8 := dkwX3_laysOdds_3 ++ dktX3_laysOdds_4
def dkwX3_laysOdds_2 : List UInt8 := [96, 182, 0, 220, 54, 4, 3, 54, 5, 3, 54, 6, 21, 6, 16, 8, 162, 0, 31, 21, 5, 42]
abbrev dktX3_laysOdds_2 : List UInt8 := dkwX3_laysOdds_2 ++ dktX3_laysOdds_3
def dkwX3_laysOdds_1 : List UInt8 := [181, 1, 54, 3, 62, 29, 28, 162, 0, 116, 42, 180, 1, 50, 9, 148, 158, 0, 107, 42, 27, 16, 10, 29]
abbrev dktX3_laysOdds_1 : List UInt8 := dkwX3_laysOdds_1 ++ dktX3_laysOdds_2
def dkwX3_laysOdds_0 : List UInt8 := [42, 42, 27, 16, 9, 182, 0, 220, 28, 160, 0, 7, 10, 167, 0, 4, 9, 181, 1, 50, 42, 10]
abbrev dktX3_laysOdds_0 : List UInt8 := dkwX3_laysOdds_0 ++ dktX3_laysOdds_1
theorem dksX3_laysOdds_0 : cX3_laysOdds.data.toList.drop 0 = dktX3_laysOdds_0 := by decide +kernel
theorem dksX3_laysOdds_1 : cX3_laysOdds.data.toList.drop 22 = dktX3_laysOdds_1 := dk_seg dksX3_laysOdds_0 22 rfl rfl
theorem dksX3_laysOdds_2 : cX3_laysOdds.data.toList.drop 46 = dktX3_laysOdds_2 := dk_seg dksX3_laysOdds_1 24 rfl rfl
theorem dksX3_laysOdds_3 : cX3_laysOdds.data.toList.drop 68 = dktX3_laysOdds_3 := dk_seg dksX3_laysOdds_2 22 rfl rfl
theorem dksX3_laysOdds_4 : cX3_laysOdds.data.toList.drop 90 = dktX3_laysOdds_4 := dk_seg dksX3_laysOdds_3 22 rfl rfl
theorem dksX3_laysOdds_5 : cX3_laysOdds.data.toList.drop 112 = dktX3_laysOdds_5 := dk_seg dksX3_laysOdds_4 22 rfl rfl
theorem dksX3_laysOdds_6 : cX3_laysOdds.data.toList.drop 136 = dktX3_laysOdds_6 := dk_seg dksX3_laysOdds_5 24 rfl rfl
theorem dksX3_laysOdds_7 : cX3_laysOdds.data.toList.drop 160 = dktX3_laysOdds_7 := dk_seg dksX3_laysOdds_6 24 rfl rfl
theorem dksX3_laysOdds_8 : cX3_laysOdds.data.toList.drop 183 = dktX3_laysOdds_8 := dk_seg dksX3_laysOdds_7 23 rfl rfl
theorem dksX3_laysOdds_9 : cX3_laysOdds.data.toList.drop 205 = dktX3_laysOdds_9 := dk_seg dksX3_laysOdds_8 22 rfl rfl
theorem dX3_laysOdds_0 : decode cX3_laysOdds 0 = .ok (.aload_n 0, 1) := dk_42 (dk_at dksX3_laysOdds_0 0 rfl rfl)
theorem dX3_laysOdds_1 : decode cX3_laysOdds 1 = .ok (.aload_n 0, 1) := dk_42 (dk_at dksX3_laysOdds_0 1 rfl rfl)
theorem dX3_laysOdds_2 : decode cX3_laysOdds 2 = .ok (.iload_n 1, 1) := dk_27 (dk_at dksX3_laysOdds_0 2 rfl rfl)
theorem dX3_laysOdds_3 : decode cX3_laysOdds 3 = .ok (.bipush 9, 2) := dk_16 9 (dk_at dksX3_laysOdds_0 3 rfl rfl)
theorem dX3_laysOdds_5 : decode cX3_laysOdds 5 = .ok (.invokevirtual 220, 3) := dk_182 0 220 (dk_at dksX3_laysOdds_0 5 rfl rfl)
theorem dX3_laysOdds_8 : decode cX3_laysOdds 8 = .ok (.iload_n 2, 1) := dk_28 (dk_at dksX3_laysOdds_0 8 rfl rfl)
theorem dX3_laysOdds_9 : decode cX3_laysOdds 9 = .ok (.if_icmp .ne 7, 3) := dk_160 0 7 (dk_at dksX3_laysOdds_0 9 rfl rfl)
theorem dX3_laysOdds_12 : decode cX3_laysOdds 12 = .ok (.lconst 1, 1) := dk_10 (dk_at dksX3_laysOdds_0 12 rfl rfl)
theorem dX3_laysOdds_13 : decode cX3_laysOdds 13 = .ok (.goto 4, 3) := dk_167 0 4 (dk_at dksX3_laysOdds_0 13 rfl rfl)
theorem dX3_laysOdds_16 : decode cX3_laysOdds 16 = .ok (.lconst 0, 1) := dk_9 (dk_at dksX3_laysOdds_0 16 rfl rfl)
theorem dX3_laysOdds_17 : decode cX3_laysOdds 17 = .ok (.putfield 306, 3) := dk_181 1 50 (dk_at dksX3_laysOdds_0 17 rfl rfl)
theorem dX3_laysOdds_20 : decode cX3_laysOdds 20 = .ok (.aload_n 0, 1) := dk_42 (dk_at dksX3_laysOdds_0 20 rfl rfl)
theorem dX3_laysOdds_21 : decode cX3_laysOdds 21 = .ok (.lconst 1, 1) := dk_10 (dk_at dksX3_laysOdds_0 21 rfl rfl)
theorem dX3_laysOdds_22 : decode cX3_laysOdds 22 = .ok (.putfield 310, 3) := dk_181 1 54 (dk_at dksX3_laysOdds_1 0 rfl rfl)
theorem dX3_laysOdds_25 : decode cX3_laysOdds 25 = .ok (.iconst 0, 1) := dk_3 (dk_at dksX3_laysOdds_1 3 rfl rfl)
theorem dX3_laysOdds_26 : decode cX3_laysOdds 26 = .ok (.istore_n 3, 1) := dk_62 (dk_at dksX3_laysOdds_1 4 rfl rfl)
theorem dX3_laysOdds_27 : decode cX3_laysOdds 27 = .ok (.iload_n 3, 1) := dk_29 (dk_at dksX3_laysOdds_1 5 rfl rfl)
theorem dX3_laysOdds_28 : decode cX3_laysOdds 28 = .ok (.iload_n 2, 1) := dk_28 (dk_at dksX3_laysOdds_1 6 rfl rfl)
theorem dX3_laysOdds_29 : decode cX3_laysOdds 29 = .ok (.if_icmp .ge 116, 3) := dk_162 0 116 (dk_at dksX3_laysOdds_1 7 rfl rfl)
theorem dX3_laysOdds_32 : decode cX3_laysOdds 32 = .ok (.aload_n 0, 1) := dk_42 (dk_at dksX3_laysOdds_1 10 rfl rfl)
theorem dX3_laysOdds_33 : decode cX3_laysOdds 33 = .ok (.getfield 306, 3) := dk_180 1 50 (dk_at dksX3_laysOdds_1 11 rfl rfl)
theorem dX3_laysOdds_36 : decode cX3_laysOdds 36 = .ok (.lconst 0, 1) := dk_9 (dk_at dksX3_laysOdds_1 14 rfl rfl)
theorem dX3_laysOdds_37 : decode cX3_laysOdds 37 = .ok (.lcmp, 1) := dk_148 (dk_at dksX3_laysOdds_1 15 rfl rfl)
theorem dX3_laysOdds_38 : decode cX3_laysOdds 38 = .ok (.ifCond .le 107, 3) := dk_158 0 107 (dk_at dksX3_laysOdds_1 16 rfl rfl)
theorem dX3_laysOdds_41 : decode cX3_laysOdds 41 = .ok (.aload_n 0, 1) := dk_42 (dk_at dksX3_laysOdds_1 19 rfl rfl)
theorem dX3_laysOdds_42 : decode cX3_laysOdds 42 = .ok (.iload_n 1, 1) := dk_27 (dk_at dksX3_laysOdds_1 20 rfl rfl)
theorem dX3_laysOdds_43 : decode cX3_laysOdds 43 = .ok (.bipush 10, 2) := dk_16 10 (dk_at dksX3_laysOdds_1 21 rfl rfl)
theorem dX3_laysOdds_45 : decode cX3_laysOdds 45 = .ok (.iload_n 3, 1) := dk_29 (dk_at dksX3_laysOdds_1 23 rfl rfl)
theorem dX3_laysOdds_46 : decode cX3_laysOdds 46 = .ok (.iadd, 1) := dk_96 (dk_at dksX3_laysOdds_2 0 rfl rfl)
theorem dX3_laysOdds_47 : decode cX3_laysOdds 47 = .ok (.invokevirtual 220, 3) := dk_182 0 220 (dk_at dksX3_laysOdds_2 1 rfl rfl)
theorem dX3_laysOdds_50 : decode cX3_laysOdds 50 = .ok (.istore 4, 2) := dk_54 4 (dk_at dksX3_laysOdds_2 4 rfl rfl)
theorem dX3_laysOdds_52 : decode cX3_laysOdds 52 = .ok (.iconst 0, 1) := dk_3 (dk_at dksX3_laysOdds_2 6 rfl rfl)
theorem dX3_laysOdds_53 : decode cX3_laysOdds 53 = .ok (.istore 5, 2) := dk_54 5 (dk_at dksX3_laysOdds_2 7 rfl rfl)
theorem dX3_laysOdds_55 : decode cX3_laysOdds 55 = .ok (.iconst 0, 1) := dk_3 (dk_at dksX3_laysOdds_2 9 rfl rfl)
theorem dX3_laysOdds_56 : decode cX3_laysOdds 56 = .ok (.istore 6, 2) := dk_54 6 (dk_at dksX3_laysOdds_2 10 rfl rfl)
theorem dX3_laysOdds_58 : decode cX3_laysOdds 58 = .ok (.iload 6, 2) := dk_21 6 (dk_at dksX3_laysOdds_2 12 rfl rfl)
theorem dX3_laysOdds_60 : decode cX3_laysOdds 60 = .ok (.bipush 8, 2) := dk_16 8 (dk_at dksX3_laysOdds_2 14 rfl rfl)
theorem dX3_laysOdds_62 : decode cX3_laysOdds 62 = .ok (.if_icmp .ge 31, 3) := dk_162 0 31 (dk_at dksX3_laysOdds_2 16 rfl rfl)
theorem dX3_laysOdds_65 : decode cX3_laysOdds 65 = .ok (.iload 5, 2) := dk_21 5 (dk_at dksX3_laysOdds_2 19 rfl rfl)
theorem dX3_laysOdds_67 : decode cX3_laysOdds 67 = .ok (.aload_n 0, 1) := dk_42 (dk_at dksX3_laysOdds_2 21 rfl rfl)
theorem dX3_laysOdds_68 : decode cX3_laysOdds 68 = .ok (.getfield 7, 3) := dk_180 0 7 (dk_at dksX3_laysOdds_3 0 rfl rfl)
theorem dX3_laysOdds_71 : decode cX3_laysOdds 71 = .ok (.sipush 270, 3) := dk_17 1 14 (dk_at dksX3_laysOdds_3 3 rfl rfl)
theorem dX3_laysOdds_74 : decode cX3_laysOdds 74 = .ok (.bipush 8, 2) := dk_16 8 (dk_at dksX3_laysOdds_3 6 rfl rfl)
theorem dX3_laysOdds_76 : decode cX3_laysOdds 76 = .ok (.iload 4, 2) := dk_21 4 (dk_at dksX3_laysOdds_3 8 rfl rfl)
theorem dX3_laysOdds_78 : decode cX3_laysOdds 78 = .ok (.imul, 1) := dk_104 (dk_at dksX3_laysOdds_3 10 rfl rfl)
theorem dX3_laysOdds_79 : decode cX3_laysOdds 79 = .ok (.iadd, 1) := dk_96 (dk_at dksX3_laysOdds_3 11 rfl rfl)
theorem dX3_laysOdds_80 : decode cX3_laysOdds 80 = .ok (.iload 6, 2) := dk_21 6 (dk_at dksX3_laysOdds_3 12 rfl rfl)
theorem dX3_laysOdds_82 : decode cX3_laysOdds 82 = .ok (.iadd, 1) := dk_96 (dk_at dksX3_laysOdds_3 14 rfl rfl)
theorem dX3_laysOdds_83 : decode cX3_laysOdds 83 = .ok (.iaload, 1) := dk_46 (dk_at dksX3_laysOdds_3 15 rfl rfl)
theorem dX3_laysOdds_84 : decode cX3_laysOdds 84 = .ok (.iadd, 1) := dk_96 (dk_at dksX3_laysOdds_3 16 rfl rfl)
theorem dX3_laysOdds_85 : decode cX3_laysOdds 85 = .ok (.istore 5, 2) := dk_54 5 (dk_at dksX3_laysOdds_3 17 rfl rfl)
theorem dX3_laysOdds_87 : decode cX3_laysOdds 87 = .ok (.iinc 6 1, 3) := dk_132 6 1 (dk_at dksX3_laysOdds_3 19 rfl rfl)
theorem dX3_laysOdds_90 : decode cX3_laysOdds 90 = .ok (.goto (-32), 3) := dk_167 255 224 (dk_at dksX3_laysOdds_4 0 rfl rfl)
theorem dX3_laysOdds_93 : decode cX3_laysOdds 93 = .ok (.aload_n 0, 1) := dk_42 (dk_at dksX3_laysOdds_4 3 rfl rfl)
theorem dX3_laysOdds_94 : decode cX3_laysOdds 94 = .ok (.dup, 1) := dk_89 (dk_at dksX3_laysOdds_4 4 rfl rfl)
theorem dX3_laysOdds_95 : decode cX3_laysOdds 95 = .ok (.getfield 306, 3) := dk_180 1 50 (dk_at dksX3_laysOdds_4 5 rfl rfl)
theorem dX3_laysOdds_98 : decode cX3_laysOdds 98 = .ok (.aload_n 0, 1) := dk_42 (dk_at dksX3_laysOdds_4 8 rfl rfl)
theorem dX3_laysOdds_99 : decode cX3_laysOdds 99 = .ok (.getfield 7, 3) := dk_180 0 7 (dk_at dksX3_laysOdds_4 9 rfl rfl)
theorem dX3_laysOdds_102 : decode cX3_laysOdds 102 = .ok (.sipush 270, 3) := dk_17 1 14 (dk_at dksX3_laysOdds_4 12 rfl rfl)
theorem dX3_laysOdds_105 : decode cX3_laysOdds 105 = .ok (.bipush 8, 2) := dk_16 8 (dk_at dksX3_laysOdds_4 15 rfl rfl)
theorem dX3_laysOdds_107 : decode cX3_laysOdds 107 = .ok (.iload 4, 2) := dk_21 4 (dk_at dksX3_laysOdds_4 17 rfl rfl)
theorem dX3_laysOdds_109 : decode cX3_laysOdds 109 = .ok (.imul, 1) := dk_104 (dk_at dksX3_laysOdds_4 19 rfl rfl)
theorem dX3_laysOdds_110 : decode cX3_laysOdds 110 = .ok (.iadd, 1) := dk_96 (dk_at dksX3_laysOdds_4 20 rfl rfl)
theorem dX3_laysOdds_111 : decode cX3_laysOdds 111 = .ok (.aload_n 0, 1) := dk_42 (dk_at dksX3_laysOdds_4 21 rfl rfl)
theorem dX3_laysOdds_112 : decode cX3_laysOdds 112 = .ok (.getfield 25, 3) := dk_180 0 25 (dk_at dksX3_laysOdds_5 0 rfl rfl)
theorem dX3_laysOdds_115 : decode cX3_laysOdds 115 = .ok (.iload_n 3, 1) := dk_29 (dk_at dksX3_laysOdds_5 3 rfl rfl)
theorem dX3_laysOdds_116 : decode cX3_laysOdds 116 = .ok (.iaload, 1) := dk_46 (dk_at dksX3_laysOdds_5 4 rfl rfl)
theorem dX3_laysOdds_117 : decode cX3_laysOdds 117 = .ok (.iadd, 1) := dk_96 (dk_at dksX3_laysOdds_5 5 rfl rfl)
theorem dX3_laysOdds_118 : decode cX3_laysOdds 118 = .ok (.bipush 97, 2) := dk_16 97 (dk_at dksX3_laysOdds_5 6 rfl rfl)
theorem dX3_laysOdds_120 : decode cX3_laysOdds 120 = .ok (.isub, 1) := dk_100 (dk_at dksX3_laysOdds_5 8 rfl rfl)
theorem dX3_laysOdds_121 : decode cX3_laysOdds 121 = .ok (.iaload, 1) := dk_46 (dk_at dksX3_laysOdds_5 9 rfl rfl)
theorem dX3_laysOdds_122 : decode cX3_laysOdds 122 = .ok (.i2l, 1) := dk_133 (dk_at dksX3_laysOdds_5 10 rfl rfl)
theorem dX3_laysOdds_123 : decode cX3_laysOdds 123 = .ok (.lmul, 1) := dk_105 (dk_at dksX3_laysOdds_5 11 rfl rfl)
theorem dX3_laysOdds_124 : decode cX3_laysOdds 124 = .ok (.putfield 306, 3) := dk_181 1 50 (dk_at dksX3_laysOdds_5 12 rfl rfl)
theorem dX3_laysOdds_127 : decode cX3_laysOdds 127 = .ok (.aload_n 0, 1) := dk_42 (dk_at dksX3_laysOdds_5 15 rfl rfl)
theorem dX3_laysOdds_128 : decode cX3_laysOdds 128 = .ok (.dup, 1) := dk_89 (dk_at dksX3_laysOdds_5 16 rfl rfl)
theorem dX3_laysOdds_129 : decode cX3_laysOdds 129 = .ok (.getfield 310, 3) := dk_180 1 54 (dk_at dksX3_laysOdds_5 17 rfl rfl)
theorem dX3_laysOdds_132 : decode cX3_laysOdds 132 = .ok (.iload 5, 2) := dk_21 5 (dk_at dksX3_laysOdds_5 20 rfl rfl)
theorem dX3_laysOdds_134 : decode cX3_laysOdds 134 = .ok (.i2l, 1) := dk_133 (dk_at dksX3_laysOdds_5 22 rfl rfl)
theorem dX3_laysOdds_135 : decode cX3_laysOdds 135 = .ok (.lmul, 1) := dk_105 (dk_at dksX3_laysOdds_5 23 rfl rfl)
theorem dX3_laysOdds_136 : decode cX3_laysOdds 136 = .ok (.putfield 310, 3) := dk_181 1 54 (dk_at dksX3_laysOdds_6 0 rfl rfl)
theorem dX3_laysOdds_139 : decode cX3_laysOdds 139 = .ok (.iinc 3 1, 3) := dk_132 3 1 (dk_at dksX3_laysOdds_6 3 rfl rfl)
theorem dX3_laysOdds_142 : decode cX3_laysOdds 142 = .ok (.goto (-115), 3) := dk_167 255 141 (dk_at dksX3_laysOdds_6 6 rfl rfl)
theorem dX3_laysOdds_145 : decode cX3_laysOdds 145 = .ok (.aload_n 0, 1) := dk_42 (dk_at dksX3_laysOdds_6 9 rfl rfl)
theorem dX3_laysOdds_146 : decode cX3_laysOdds 146 = .ok (.getfield 306, 3) := dk_180 1 50 (dk_at dksX3_laysOdds_6 10 rfl rfl)
theorem dX3_laysOdds_149 : decode cX3_laysOdds 149 = .ok (.lconst 0, 1) := dk_9 (dk_at dksX3_laysOdds_6 13 rfl rfl)
theorem dX3_laysOdds_150 : decode cX3_laysOdds 150 = .ok (.lcmp, 1) := dk_148 (dk_at dksX3_laysOdds_6 14 rfl rfl)
theorem dX3_laysOdds_151 : decode cX3_laysOdds 151 = .ok (.ifCond .ne 8, 3) := dk_154 0 8 (dk_at dksX3_laysOdds_6 15 rfl rfl)
theorem dX3_laysOdds_154 : decode cX3_laysOdds 154 = .ok (.aload_n 0, 1) := dk_42 (dk_at dksX3_laysOdds_6 18 rfl rfl)
theorem dX3_laysOdds_155 : decode cX3_laysOdds 155 = .ok (.lconst 1, 1) := dk_10 (dk_at dksX3_laysOdds_6 19 rfl rfl)
theorem dX3_laysOdds_156 : decode cX3_laysOdds 156 = .ok (.putfield 310, 3) := dk_181 1 54 (dk_at dksX3_laysOdds_6 20 rfl rfl)
theorem dX3_laysOdds_159 : decode cX3_laysOdds 159 = .ok (.aload_n 0, 1) := dk_42 (dk_at dksX3_laysOdds_6 23 rfl rfl)
theorem dX3_laysOdds_160 : decode cX3_laysOdds 160 = .ok (.getfield 306, 3) := dk_180 1 50 (dk_at dksX3_laysOdds_7 0 rfl rfl)
theorem dX3_laysOdds_163 : decode cX3_laysOdds 163 = .ok (.lstore_n 3, 1) := dk_66 (dk_at dksX3_laysOdds_7 3 rfl rfl)
theorem dX3_laysOdds_164 : decode cX3_laysOdds 164 = .ok (.aload_n 0, 1) := dk_42 (dk_at dksX3_laysOdds_7 4 rfl rfl)
theorem dX3_laysOdds_165 : decode cX3_laysOdds 165 = .ok (.getfield 310, 3) := dk_180 1 54 (dk_at dksX3_laysOdds_7 5 rfl rfl)
theorem dX3_laysOdds_168 : decode cX3_laysOdds 168 = .ok (.lstore 5, 2) := dk_55 5 (dk_at dksX3_laysOdds_7 8 rfl rfl)
theorem dX3_laysOdds_170 : decode cX3_laysOdds 170 = .ok (.lload 5, 2) := dk_22 5 (dk_at dksX3_laysOdds_7 10 rfl rfl)
theorem dX3_laysOdds_172 : decode cX3_laysOdds 172 = .ok (.lconst 0, 1) := dk_9 (dk_at dksX3_laysOdds_7 12 rfl rfl)
theorem dX3_laysOdds_173 : decode cX3_laysOdds 173 = .ok (.lcmp, 1) := dk_148 (dk_at dksX3_laysOdds_7 13 rfl rfl)
theorem dX3_laysOdds_174 : decode cX3_laysOdds 174 = .ok (.ifCond .le 19, 3) := dk_158 0 19 (dk_at dksX3_laysOdds_7 14 rfl rfl)
theorem dX3_laysOdds_177 : decode cX3_laysOdds 177 = .ok (.lload_n 3, 1) := dk_33 (dk_at dksX3_laysOdds_7 17 rfl rfl)
theorem dX3_laysOdds_178 : decode cX3_laysOdds 178 = .ok (.lload 5, 2) := dk_22 5 (dk_at dksX3_laysOdds_7 18 rfl rfl)
theorem dX3_laysOdds_180 : decode cX3_laysOdds 180 = .ok (.lrem, 1) := dk_113 (dk_at dksX3_laysOdds_7 20 rfl rfl)
theorem dX3_laysOdds_181 : decode cX3_laysOdds 181 = .ok (.lstore 7, 2) := dk_55 7 (dk_at dksX3_laysOdds_7 21 rfl rfl)
theorem dX3_laysOdds_183 : decode cX3_laysOdds 183 = .ok (.lload 5, 2) := dk_22 5 (dk_at dksX3_laysOdds_8 0 rfl rfl)
theorem dX3_laysOdds_185 : decode cX3_laysOdds 185 = .ok (.lstore_n 3, 1) := dk_66 (dk_at dksX3_laysOdds_8 2 rfl rfl)
theorem dX3_laysOdds_186 : decode cX3_laysOdds 186 = .ok (.lload 7, 2) := dk_22 7 (dk_at dksX3_laysOdds_8 3 rfl rfl)
theorem dX3_laysOdds_188 : decode cX3_laysOdds 188 = .ok (.lstore 5, 2) := dk_55 5 (dk_at dksX3_laysOdds_8 5 rfl rfl)
theorem dX3_laysOdds_190 : decode cX3_laysOdds 190 = .ok (.goto (-20), 3) := dk_167 255 236 (dk_at dksX3_laysOdds_8 7 rfl rfl)
theorem dX3_laysOdds_193 : decode cX3_laysOdds 193 = .ok (.aload_n 0, 1) := dk_42 (dk_at dksX3_laysOdds_8 10 rfl rfl)
theorem dX3_laysOdds_194 : decode cX3_laysOdds 194 = .ok (.dup, 1) := dk_89 (dk_at dksX3_laysOdds_8 11 rfl rfl)
theorem dX3_laysOdds_195 : decode cX3_laysOdds 195 = .ok (.getfield 306, 3) := dk_180 1 50 (dk_at dksX3_laysOdds_8 12 rfl rfl)
theorem dX3_laysOdds_198 : decode cX3_laysOdds 198 = .ok (.lload_n 3, 1) := dk_33 (dk_at dksX3_laysOdds_8 15 rfl rfl)
theorem dX3_laysOdds_199 : decode cX3_laysOdds 199 = .ok (.ldiv, 1) := dk_109 (dk_at dksX3_laysOdds_8 16 rfl rfl)
theorem dX3_laysOdds_200 : decode cX3_laysOdds 200 = .ok (.putfield 306, 3) := dk_181 1 50 (dk_at dksX3_laysOdds_8 17 rfl rfl)
theorem dX3_laysOdds_203 : decode cX3_laysOdds 203 = .ok (.aload_n 0, 1) := dk_42 (dk_at dksX3_laysOdds_8 20 rfl rfl)
theorem dX3_laysOdds_204 : decode cX3_laysOdds 204 = .ok (.dup, 1) := dk_89 (dk_at dksX3_laysOdds_8 21 rfl rfl)
theorem dX3_laysOdds_205 : decode cX3_laysOdds 205 = .ok (.getfield 310, 3) := dk_180 1 54 (dk_at dksX3_laysOdds_9 0 rfl rfl)
theorem dX3_laysOdds_208 : decode cX3_laysOdds 208 = .ok (.lload_n 3, 1) := dk_33 (dk_at dksX3_laysOdds_9 3 rfl rfl)
theorem dX3_laysOdds_209 : decode cX3_laysOdds 209 = .ok (.ldiv, 1) := dk_109 (dk_at dksX3_laysOdds_9 4 rfl rfl)
theorem dX3_laysOdds_210 : decode cX3_laysOdds 210 = .ok (.putfield 310, 3) := dk_181 1 54 (dk_at dksX3_laysOdds_9 5 rfl rfl)
theorem dX3_laysOdds_213 : decode cX3_laysOdds 213 = .ok (.return_, 1) := dk_177 (dk_at dksX3_laysOdds_9 8 rfl rfl)
abbrev cX3_whose : ByteArray := prog_14_method_72_code
def yX3_whose : MethodName := ⟨RX3, "whose", "(I)I"⟩
def dkwX3_whose_6 : List UInt8 := [154, 0, 7, 29, 167, 0, 13, 21, 4, 153, 0, 7, 4, 167, 0, 4, 3, 172]
abbrev dktX3_whose_6 : List UInt8 := dkwX3_whose_6 ++ []
def dkwX3_whose_5 : List UInt8 := [167, 0, 4, 29, 62, 42, 180, 1, 50, 55, 5, 42, 180, 1, 54, 55, 7, 132, 9, 1, 167, 255, 156, 27]
abbrev dktX3_whose_5 : List UInt8 := dkwX3_whose_5 ++ dktX3_whose_6
def dkwX3_whose_4 : List UInt8 := [180, 1, 54, 105, 148, 158, 0, 7, 4, 167, 0, 4, 3, 54, 4, 21, 4, 153, 0, 8, 21, 9]
abbrev dktX3_whose_4 : List UInt8 := dkwX3_whose_4 ++ dktX3_whose_5
def dkwX3_whose_3 : List UInt8 := [42, 180, 1, 54, 105, 148, 156, 0, 6, 167, 0, 52, 42, 180, 1, 50, 22, 7, 105, 22, 5, 42]
abbrev dktX3_whose_3 : List UInt8 := dkwX3_whose_3 ++ dktX3_whose_4
def dkwX3_whose_2 : List UInt8 := [21, 9, 28, 182, 1, 59, 42, 180, 1, 50, 9, 148, 153, 0, 73, 42, 180, 1, 50, 22, 7, 105, 22, 5]
abbrev dktX3_whose_2 : List UInt8 := dkwX3_whose_2 ++ dktX3_whose_3
def dkwX3_whose_1 : List UInt8 := [3, 54, 4, 9, 55, 5, 10, 55, 7, 3, 54, 9, 21, 9, 42, 180, 0, 7, 7, 46, 162, 0, 95, 42]
abbrev dktX3_whose_1 : List UInt8 := dkwX3_whose_1 ++ dktX3_whose_2
def dkwX3_whose_0 : List UInt8 := [42, 182, 0, 210, 61, 28, 2, 159, 0, 12, 27, 3, 4, 184, 0, 66, 154, 0, 6, 16, 254, 172, 2, 62]
abbrev dktX3_whose_0 : List UInt8 := dkwX3_whose_0 ++ dktX3_whose_1
theorem dksX3_whose_0 : cX3_whose.data.toList.drop 0 = dktX3_whose_0 := by decide +kernel
theorem dksX3_whose_1 : cX3_whose.data.toList.drop 24 = dktX3_whose_1 := dk_seg dksX3_whose_0 24 rfl rfl
theorem dksX3_whose_2 : cX3_whose.data.toList.drop 48 = dktX3_whose_2 := dk_seg dksX3_whose_1 24 rfl rfl
theorem dksX3_whose_3 : cX3_whose.data.toList.drop 72 = dktX3_whose_3 := dk_seg dksX3_whose_2 24 rfl rfl
theorem dksX3_whose_4 : cX3_whose.data.toList.drop 94 = dktX3_whose_4 := dk_seg dksX3_whose_3 22 rfl rfl
theorem dksX3_whose_5 : cX3_whose.data.toList.drop 116 = dktX3_whose_5 := dk_seg dksX3_whose_4 22 rfl rfl
theorem dksX3_whose_6 : cX3_whose.data.toList.drop 140 = dktX3_whose_6 := dk_seg dksX3_whose_5 24 rfl rfl
theorem dX3_whose_0 : decode cX3_whose 0 = .ok (.aload_n 0, 1) := dk_42 (dk_at dksX3_whose_0 0 rfl rfl)
theorem dX3_whose_1 : decode cX3_whose 1 = .ok (.invokevirtual 210, 3) := dk_182 0 210 (dk_at dksX3_whose_0 1 rfl rfl)
theorem dX3_whose_4 : decode cX3_whose 4 = .ok (.istore_n 2, 1) := dk_61 (dk_at dksX3_whose_0 4 rfl rfl)
theorem dX3_whose_5 : decode cX3_whose 5 = .ok (.iload_n 2, 1) := dk_28 (dk_at dksX3_whose_0 5 rfl rfl)
theorem dX3_whose_6 : decode cX3_whose 6 = .ok (.iconst (-1), 1) := dk_2 (dk_at dksX3_whose_0 6 rfl rfl)
theorem dX3_whose_7 : decode cX3_whose 7 = .ok (.if_icmp .eq 12, 3) := dk_159 0 12 (dk_at dksX3_whose_0 7 rfl rfl)
theorem dX3_whose_10 : decode cX3_whose 10 = .ok (.iload_n 1, 1) := dk_27 (dk_at dksX3_whose_0 10 rfl rfl)
theorem dX3_whose_11 : decode cX3_whose 11 = .ok (.iconst 0, 1) := dk_3 (dk_at dksX3_whose_0 11 rfl rfl)
theorem dX3_whose_12 : decode cX3_whose 12 = .ok (.iconst 1, 1) := dk_4 (dk_at dksX3_whose_0 12 rfl rfl)
theorem dX3_whose_13 : decode cX3_whose 13 = .ok (.invokestatic 66, 3) := dk_184 0 66 (dk_at dksX3_whose_0 13 rfl rfl)
theorem dX3_whose_16 : decode cX3_whose 16 = .ok (.ifCond .ne 6, 3) := dk_154 0 6 (dk_at dksX3_whose_0 16 rfl rfl)
theorem dX3_whose_19 : decode cX3_whose 19 = .ok (.bipush (-2), 2) := dk_16 254 (dk_at dksX3_whose_0 19 rfl rfl)
theorem dX3_whose_21 : decode cX3_whose 21 = .ok (.ireturn, 1) := dk_172 (dk_at dksX3_whose_0 21 rfl rfl)
theorem dX3_whose_22 : decode cX3_whose 22 = .ok (.iconst (-1), 1) := dk_2 (dk_at dksX3_whose_0 22 rfl rfl)
theorem dX3_whose_23 : decode cX3_whose 23 = .ok (.istore_n 3, 1) := dk_62 (dk_at dksX3_whose_0 23 rfl rfl)
theorem dX3_whose_24 : decode cX3_whose 24 = .ok (.iconst 0, 1) := dk_3 (dk_at dksX3_whose_1 0 rfl rfl)
theorem dX3_whose_25 : decode cX3_whose 25 = .ok (.istore 4, 2) := dk_54 4 (dk_at dksX3_whose_1 1 rfl rfl)
theorem dX3_whose_27 : decode cX3_whose 27 = .ok (.lconst 0, 1) := dk_9 (dk_at dksX3_whose_1 3 rfl rfl)
theorem dX3_whose_28 : decode cX3_whose 28 = .ok (.lstore 5, 2) := dk_55 5 (dk_at dksX3_whose_1 4 rfl rfl)
theorem dX3_whose_30 : decode cX3_whose 30 = .ok (.lconst 1, 1) := dk_10 (dk_at dksX3_whose_1 6 rfl rfl)
theorem dX3_whose_31 : decode cX3_whose 31 = .ok (.lstore 7, 2) := dk_55 7 (dk_at dksX3_whose_1 7 rfl rfl)
theorem dX3_whose_33 : decode cX3_whose 33 = .ok (.iconst 0, 1) := dk_3 (dk_at dksX3_whose_1 9 rfl rfl)
theorem dX3_whose_34 : decode cX3_whose 34 = .ok (.istore 9, 2) := dk_54 9 (dk_at dksX3_whose_1 10 rfl rfl)
theorem dX3_whose_36 : decode cX3_whose 36 = .ok (.iload 9, 2) := dk_21 9 (dk_at dksX3_whose_1 12 rfl rfl)
theorem dX3_whose_38 : decode cX3_whose 38 = .ok (.aload_n 0, 1) := dk_42 (dk_at dksX3_whose_1 14 rfl rfl)
theorem dX3_whose_39 : decode cX3_whose 39 = .ok (.getfield 7, 3) := dk_180 0 7 (dk_at dksX3_whose_1 15 rfl rfl)
theorem dX3_whose_42 : decode cX3_whose 42 = .ok (.iconst 4, 1) := dk_7 (dk_at dksX3_whose_1 18 rfl rfl)
theorem dX3_whose_43 : decode cX3_whose 43 = .ok (.iaload, 1) := dk_46 (dk_at dksX3_whose_1 19 rfl rfl)
theorem dX3_whose_44 : decode cX3_whose 44 = .ok (.if_icmp .ge 95, 3) := dk_162 0 95 (dk_at dksX3_whose_1 20 rfl rfl)
theorem dX3_whose_47 : decode cX3_whose 47 = .ok (.aload_n 0, 1) := dk_42 (dk_at dksX3_whose_1 23 rfl rfl)
theorem dX3_whose_48 : decode cX3_whose 48 = .ok (.iload 9, 2) := dk_21 9 (dk_at dksX3_whose_2 0 rfl rfl)
theorem dX3_whose_50 : decode cX3_whose 50 = .ok (.iload_n 2, 1) := dk_28 (dk_at dksX3_whose_2 2 rfl rfl)
theorem dX3_whose_51 : decode cX3_whose 51 = .ok (.invokevirtual 315, 3) := dk_182 1 59 (dk_at dksX3_whose_2 3 rfl rfl)
theorem dX3_whose_54 : decode cX3_whose 54 = .ok (.aload_n 0, 1) := dk_42 (dk_at dksX3_whose_2 6 rfl rfl)
theorem dX3_whose_55 : decode cX3_whose 55 = .ok (.getfield 306, 3) := dk_180 1 50 (dk_at dksX3_whose_2 7 rfl rfl)
theorem dX3_whose_58 : decode cX3_whose 58 = .ok (.lconst 0, 1) := dk_9 (dk_at dksX3_whose_2 10 rfl rfl)
theorem dX3_whose_59 : decode cX3_whose 59 = .ok (.lcmp, 1) := dk_148 (dk_at dksX3_whose_2 11 rfl rfl)
theorem dX3_whose_60 : decode cX3_whose 60 = .ok (.ifCond .eq 73, 3) := dk_153 0 73 (dk_at dksX3_whose_2 12 rfl rfl)
theorem dX3_whose_63 : decode cX3_whose 63 = .ok (.aload_n 0, 1) := dk_42 (dk_at dksX3_whose_2 15 rfl rfl)
theorem dX3_whose_64 : decode cX3_whose 64 = .ok (.getfield 306, 3) := dk_180 1 50 (dk_at dksX3_whose_2 16 rfl rfl)
theorem dX3_whose_67 : decode cX3_whose 67 = .ok (.lload 7, 2) := dk_22 7 (dk_at dksX3_whose_2 19 rfl rfl)
theorem dX3_whose_69 : decode cX3_whose 69 = .ok (.lmul, 1) := dk_105 (dk_at dksX3_whose_2 21 rfl rfl)
theorem dX3_whose_70 : decode cX3_whose 70 = .ok (.lload 5, 2) := dk_22 5 (dk_at dksX3_whose_2 22 rfl rfl)
theorem dX3_whose_72 : decode cX3_whose 72 = .ok (.aload_n 0, 1) := dk_42 (dk_at dksX3_whose_3 0 rfl rfl)
theorem dX3_whose_73 : decode cX3_whose 73 = .ok (.getfield 310, 3) := dk_180 1 54 (dk_at dksX3_whose_3 1 rfl rfl)
theorem dX3_whose_76 : decode cX3_whose 76 = .ok (.lmul, 1) := dk_105 (dk_at dksX3_whose_3 4 rfl rfl)
theorem dX3_whose_77 : decode cX3_whose 77 = .ok (.lcmp, 1) := dk_148 (dk_at dksX3_whose_3 5 rfl rfl)
theorem dX3_whose_78 : decode cX3_whose 78 = .ok (.ifCond .ge 6, 3) := dk_156 0 6 (dk_at dksX3_whose_3 6 rfl rfl)
theorem dX3_whose_81 : decode cX3_whose 81 = .ok (.goto 52, 3) := dk_167 0 52 (dk_at dksX3_whose_3 9 rfl rfl)
theorem dX3_whose_84 : decode cX3_whose 84 = .ok (.aload_n 0, 1) := dk_42 (dk_at dksX3_whose_3 12 rfl rfl)
theorem dX3_whose_85 : decode cX3_whose 85 = .ok (.getfield 306, 3) := dk_180 1 50 (dk_at dksX3_whose_3 13 rfl rfl)
theorem dX3_whose_88 : decode cX3_whose 88 = .ok (.lload 7, 2) := dk_22 7 (dk_at dksX3_whose_3 16 rfl rfl)
theorem dX3_whose_90 : decode cX3_whose 90 = .ok (.lmul, 1) := dk_105 (dk_at dksX3_whose_3 18 rfl rfl)
theorem dX3_whose_91 : decode cX3_whose 91 = .ok (.lload 5, 2) := dk_22 5 (dk_at dksX3_whose_3 19 rfl rfl)
theorem dX3_whose_93 : decode cX3_whose 93 = .ok (.aload_n 0, 1) := dk_42 (dk_at dksX3_whose_3 21 rfl rfl)
theorem dX3_whose_94 : decode cX3_whose 94 = .ok (.getfield 310, 3) := dk_180 1 54 (dk_at dksX3_whose_4 0 rfl rfl)
theorem dX3_whose_97 : decode cX3_whose 97 = .ok (.lmul, 1) := dk_105 (dk_at dksX3_whose_4 3 rfl rfl)
theorem dX3_whose_98 : decode cX3_whose 98 = .ok (.lcmp, 1) := dk_148 (dk_at dksX3_whose_4 4 rfl rfl)
theorem dX3_whose_99 : decode cX3_whose 99 = .ok (.ifCond .le 7, 3) := dk_158 0 7 (dk_at dksX3_whose_4 5 rfl rfl)
theorem dX3_whose_102 : decode cX3_whose 102 = .ok (.iconst 1, 1) := dk_4 (dk_at dksX3_whose_4 8 rfl rfl)
theorem dX3_whose_103 : decode cX3_whose 103 = .ok (.goto 4, 3) := dk_167 0 4 (dk_at dksX3_whose_4 9 rfl rfl)
theorem dX3_whose_106 : decode cX3_whose 106 = .ok (.iconst 0, 1) := dk_3 (dk_at dksX3_whose_4 12 rfl rfl)
theorem dX3_whose_107 : decode cX3_whose 107 = .ok (.istore 4, 2) := dk_54 4 (dk_at dksX3_whose_4 13 rfl rfl)
theorem dX3_whose_109 : decode cX3_whose 109 = .ok (.iload 4, 2) := dk_21 4 (dk_at dksX3_whose_4 15 rfl rfl)
theorem dX3_whose_111 : decode cX3_whose 111 = .ok (.ifCond .eq 8, 3) := dk_153 0 8 (dk_at dksX3_whose_4 17 rfl rfl)
theorem dX3_whose_114 : decode cX3_whose 114 = .ok (.iload 9, 2) := dk_21 9 (dk_at dksX3_whose_4 20 rfl rfl)
theorem dX3_whose_116 : decode cX3_whose 116 = .ok (.goto 4, 3) := dk_167 0 4 (dk_at dksX3_whose_5 0 rfl rfl)
theorem dX3_whose_119 : decode cX3_whose 119 = .ok (.iload_n 3, 1) := dk_29 (dk_at dksX3_whose_5 3 rfl rfl)
theorem dX3_whose_120 : decode cX3_whose 120 = .ok (.istore_n 3, 1) := dk_62 (dk_at dksX3_whose_5 4 rfl rfl)
theorem dX3_whose_121 : decode cX3_whose 121 = .ok (.aload_n 0, 1) := dk_42 (dk_at dksX3_whose_5 5 rfl rfl)
theorem dX3_whose_122 : decode cX3_whose 122 = .ok (.getfield 306, 3) := dk_180 1 50 (dk_at dksX3_whose_5 6 rfl rfl)
theorem dX3_whose_125 : decode cX3_whose 125 = .ok (.lstore 5, 2) := dk_55 5 (dk_at dksX3_whose_5 9 rfl rfl)
theorem dX3_whose_127 : decode cX3_whose 127 = .ok (.aload_n 0, 1) := dk_42 (dk_at dksX3_whose_5 11 rfl rfl)
theorem dX3_whose_128 : decode cX3_whose 128 = .ok (.getfield 310, 3) := dk_180 1 54 (dk_at dksX3_whose_5 12 rfl rfl)
theorem dX3_whose_131 : decode cX3_whose 131 = .ok (.lstore 7, 2) := dk_55 7 (dk_at dksX3_whose_5 15 rfl rfl)
theorem dX3_whose_133 : decode cX3_whose 133 = .ok (.iinc 9 1, 3) := dk_132 9 1 (dk_at dksX3_whose_5 17 rfl rfl)
theorem dX3_whose_136 : decode cX3_whose 136 = .ok (.goto (-100), 3) := dk_167 255 156 (dk_at dksX3_whose_5 20 rfl rfl)
theorem dX3_whose_139 : decode cX3_whose 139 = .ok (.iload_n 1, 1) := dk_27 (dk_at dksX3_whose_5 23 rfl rfl)
theorem dX3_whose_140 : decode cX3_whose 140 = .ok (.ifCond .ne 7, 3) := dk_154 0 7 (dk_at dksX3_whose_6 0 rfl rfl)
theorem dX3_whose_143 : decode cX3_whose 143 = .ok (.iload_n 3, 1) := dk_29 (dk_at dksX3_whose_6 3 rfl rfl)
theorem dX3_whose_144 : decode cX3_whose 144 = .ok (.goto 13, 3) := dk_167 0 13 (dk_at dksX3_whose_6 4 rfl rfl)
theorem dX3_whose_147 : decode cX3_whose 147 = .ok (.iload 4, 2) := dk_21 4 (dk_at dksX3_whose_6 7 rfl rfl)
theorem dX3_whose_149 : decode cX3_whose 149 = .ok (.ifCond .eq 7, 3) := dk_153 0 7 (dk_at dksX3_whose_6 9 rfl rfl)
theorem dX3_whose_152 : decode cX3_whose 152 = .ok (.iconst 1, 1) := dk_4 (dk_at dksX3_whose_6 12 rfl rfl)
theorem dX3_whose_153 : decode cX3_whose 153 = .ok (.goto 4, 3) := dk_167 0 4 (dk_at dksX3_whose_6 13 rfl rfl)
theorem dX3_whose_156 : decode cX3_whose 156 = .ok (.iconst 0, 1) := dk_3 (dk_at dksX3_whose_6 16 rfl rfl)
theorem dX3_whose_157 : decode cX3_whose 157 = .ok (.ireturn, 1) := dk_172 (dk_at dksX3_whose_6 17 rfl rfl)
abbrev cX3_owe : ByteArray := prog_14_method_73_code
def yX3_owe : MethodName := ⟨RX3, "owe", "(III)Z"⟩
def dkwX3_owe_2 : List UInt8 := [96, 28, 96, 92, 46, 29, 96, 79, 4, 172]
abbrev dktX3_owe_2 : List UInt8 := dkwX3_owe_2 ++ []
def dkwX3_owe_1 : List UInt8 := [19, 1, 62, 18, 219, 184, 0, 66, 154, 0, 5, 3, 172, 42, 180, 0, 7, 17, 0, 180, 16, 9, 27, 104]
abbrev dktX3_owe_1 : List UInt8 := dkwX3_owe_1 ++ dktX3_owe_2
def dkwX3_owe_0 : List UInt8 := [42, 27, 182, 0, 216, 153, 0, 28, 42, 28, 182, 0, 216, 153, 0, 20, 27, 28, 159, 0, 15, 29]
abbrev dktX3_owe_0 : List UInt8 := dkwX3_owe_0 ++ dktX3_owe_1
theorem dksX3_owe_0 : cX3_owe.data.toList.drop 0 = dktX3_owe_0 := by decide +kernel
theorem dksX3_owe_1 : cX3_owe.data.toList.drop 22 = dktX3_owe_1 := dk_seg dksX3_owe_0 22 rfl rfl
theorem dksX3_owe_2 : cX3_owe.data.toList.drop 46 = dktX3_owe_2 := dk_seg dksX3_owe_1 24 rfl rfl
theorem dX3_owe_0 : decode cX3_owe 0 = .ok (.aload_n 0, 1) := dk_42 (dk_at dksX3_owe_0 0 rfl rfl)
theorem dX3_owe_1 : decode cX3_owe 1 = .ok (.iload_n 1, 1) := dk_27 (dk_at dksX3_owe_0 1 rfl rfl)
theorem dX3_owe_2 : decode cX3_owe 2 = .ok (.invokevirtual 216, 3) := dk_182 0 216 (dk_at dksX3_owe_0 2 rfl rfl)
theorem dX3_owe_5 : decode cX3_owe 5 = .ok (.ifCond .eq 28, 3) := dk_153 0 28 (dk_at dksX3_owe_0 5 rfl rfl)
theorem dX3_owe_8 : decode cX3_owe 8 = .ok (.aload_n 0, 1) := dk_42 (dk_at dksX3_owe_0 8 rfl rfl)
theorem dX3_owe_9 : decode cX3_owe 9 = .ok (.iload_n 2, 1) := dk_28 (dk_at dksX3_owe_0 9 rfl rfl)
theorem dX3_owe_10 : decode cX3_owe 10 = .ok (.invokevirtual 216, 3) := dk_182 0 216 (dk_at dksX3_owe_0 10 rfl rfl)
theorem dX3_owe_13 : decode cX3_owe 13 = .ok (.ifCond .eq 20, 3) := dk_153 0 20 (dk_at dksX3_owe_0 13 rfl rfl)
theorem dX3_owe_16 : decode cX3_owe 16 = .ok (.iload_n 1, 1) := dk_27 (dk_at dksX3_owe_0 16 rfl rfl)
theorem dX3_owe_17 : decode cX3_owe 17 = .ok (.iload_n 2, 1) := dk_28 (dk_at dksX3_owe_0 17 rfl rfl)
theorem dX3_owe_18 : decode cX3_owe 18 = .ok (.if_icmp .eq 15, 3) := dk_159 0 15 (dk_at dksX3_owe_0 18 rfl rfl)
theorem dX3_owe_21 : decode cX3_owe 21 = .ok (.iload_n 3, 1) := dk_29 (dk_at dksX3_owe_0 21 rfl rfl)
theorem dX3_owe_22 : decode cX3_owe 22 = .ok (.ldc_w 318, 3) := dk_19 1 62 (dk_at dksX3_owe_1 0 rfl rfl)
theorem dX3_owe_25 : decode cX3_owe 25 = .ok (.ldc 219, 2) := dk_18 219 (dk_at dksX3_owe_1 3 rfl rfl)
theorem dX3_owe_27 : decode cX3_owe 27 = .ok (.invokestatic 66, 3) := dk_184 0 66 (dk_at dksX3_owe_1 5 rfl rfl)
theorem dX3_owe_30 : decode cX3_owe 30 = .ok (.ifCond .ne 5, 3) := dk_154 0 5 (dk_at dksX3_owe_1 8 rfl rfl)
theorem dX3_owe_33 : decode cX3_owe 33 = .ok (.iconst 0, 1) := dk_3 (dk_at dksX3_owe_1 11 rfl rfl)
theorem dX3_owe_34 : decode cX3_owe 34 = .ok (.ireturn, 1) := dk_172 (dk_at dksX3_owe_1 12 rfl rfl)
theorem dX3_owe_35 : decode cX3_owe 35 = .ok (.aload_n 0, 1) := dk_42 (dk_at dksX3_owe_1 13 rfl rfl)
theorem dX3_owe_36 : decode cX3_owe 36 = .ok (.getfield 7, 3) := dk_180 0 7 (dk_at dksX3_owe_1 14 rfl rfl)
theorem dX3_owe_39 : decode cX3_owe 39 = .ok (.sipush 180, 3) := dk_17 0 180 (dk_at dksX3_owe_1 17 rfl rfl)
theorem dX3_owe_42 : decode cX3_owe 42 = .ok (.bipush 9, 2) := dk_16 9 (dk_at dksX3_owe_1 20 rfl rfl)
theorem dX3_owe_44 : decode cX3_owe 44 = .ok (.iload_n 1, 1) := dk_27 (dk_at dksX3_owe_1 22 rfl rfl)
theorem dX3_owe_45 : decode cX3_owe 45 = .ok (.imul, 1) := dk_104 (dk_at dksX3_owe_1 23 rfl rfl)
theorem dX3_owe_46 : decode cX3_owe 46 = .ok (.iadd, 1) := dk_96 (dk_at dksX3_owe_2 0 rfl rfl)
theorem dX3_owe_47 : decode cX3_owe 47 = .ok (.iload_n 2, 1) := dk_28 (dk_at dksX3_owe_2 1 rfl rfl)
theorem dX3_owe_48 : decode cX3_owe 48 = .ok (.iadd, 1) := dk_96 (dk_at dksX3_owe_2 2 rfl rfl)
theorem dX3_owe_49 : decode cX3_owe 49 = .ok (.dup2, 1) := dk_92 (dk_at dksX3_owe_2 3 rfl rfl)
theorem dX3_owe_50 : decode cX3_owe 50 = .ok (.iaload, 1) := dk_46 (dk_at dksX3_owe_2 4 rfl rfl)
theorem dX3_owe_51 : decode cX3_owe 51 = .ok (.iload_n 3, 1) := dk_29 (dk_at dksX3_owe_2 5 rfl rfl)
theorem dX3_owe_52 : decode cX3_owe 52 = .ok (.iadd, 1) := dk_96 (dk_at dksX3_owe_2 6 rfl rfl)
theorem dX3_owe_53 : decode cX3_owe 53 = .ok (.iastore, 1) := dk_79 (dk_at dksX3_owe_2 7 rfl rfl)
theorem dX3_owe_54 : decode cX3_owe 54 = .ok (.iconst 1, 1) := dk_4 (dk_at dksX3_owe_2 8 rfl rfl)
theorem dX3_owe_55 : decode cX3_owe 55 = .ok (.ireturn, 1) := dk_172 (dk_at dksX3_owe_2 9 rfl rfl)
abbrev cX3_payments : ByteArray := prog_14_method_74_code
def yX3_payments : MethodName := ⟨RX3, "payments", "()I"⟩
def dkwX3_payments_5 : List UInt8 := [167, 255, 156, 27, 42, 180, 0, 63, 4, 27, 120, 4, 100, 46, 100, 172]
abbrev dktX3_payments_5 : List UInt8 := dkwX3_payments_5 ++ []
def dkwX3_payments_4 : List UInt8 := [167, 255, 195, 42, 180, 0, 63, 28, 21, 4, 29, 154, 0, 7, 4, 167, 0, 4, 3, 96, 79, 132, 2, 1]
abbrev dktX3_payments_4 : List UInt8 := dkwX3_payments_4 ++ dktX3_payments_5
def dkwX3_payments_3 : List UInt8 := [46, 54, 6, 21, 6, 21, 4, 164, 0, 8, 21, 6, 167, 0, 5, 21, 4, 54, 4, 132, 5, 1]
abbrev dktX3_payments_3 : List UInt8 := dkwX3_payments_3 ++ dktX3_payments_4
def dkwX3_payments_2 : List UInt8 := [167, 0, 43, 29, 42, 21, 5, 182, 0, 232, 96, 62, 42, 180, 0, 63, 28, 4, 21, 5, 120, 2, 130, 126]
abbrev dktX3_payments_2 : List UInt8 := dkwX3_payments_2 ++ dktX3_payments_3
def dkwX3_payments_1 : List UInt8 := [62, 3, 54, 4, 3, 54, 5, 21, 5, 27, 162, 0, 61, 28, 21, 5, 122, 4, 126, 154, 0, 6]
abbrev dktX3_payments_1 : List UInt8 := dkwX3_payments_1 ++ dktX3_payments_2
def dkwX3_payments_0 : List UInt8 := [42, 180, 0, 7, 7, 46, 60, 42, 180, 0, 63, 3, 3, 79, 4, 61, 28, 4, 27, 120, 162, 0, 99, 3]
abbrev dktX3_payments_0 : List UInt8 := dkwX3_payments_0 ++ dktX3_payments_1
theorem dksX3_payments_0 : cX3_payments.data.toList.drop 0 = dktX3_payments_0 := by decide +kernel
theorem dksX3_payments_1 : cX3_payments.data.toList.drop 24 = dktX3_payments_1 := dk_seg dksX3_payments_0 24 rfl rfl
theorem dksX3_payments_2 : cX3_payments.data.toList.drop 46 = dktX3_payments_2 := dk_seg dksX3_payments_1 22 rfl rfl
theorem dksX3_payments_3 : cX3_payments.data.toList.drop 70 = dktX3_payments_3 := dk_seg dksX3_payments_2 24 rfl rfl
theorem dksX3_payments_4 : cX3_payments.data.toList.drop 92 = dktX3_payments_4 := dk_seg dksX3_payments_3 22 rfl rfl
theorem dksX3_payments_5 : cX3_payments.data.toList.drop 116 = dktX3_payments_5 := dk_seg dksX3_payments_4 24 rfl rfl
theorem dX3_payments_0 : decode cX3_payments 0 = .ok (.aload_n 0, 1) := dk_42 (dk_at dksX3_payments_0 0 rfl rfl)
theorem dX3_payments_1 : decode cX3_payments 1 = .ok (.getfield 7, 3) := dk_180 0 7 (dk_at dksX3_payments_0 1 rfl rfl)
theorem dX3_payments_4 : decode cX3_payments 4 = .ok (.iconst 4, 1) := dk_7 (dk_at dksX3_payments_0 4 rfl rfl)
theorem dX3_payments_5 : decode cX3_payments 5 = .ok (.iaload, 1) := dk_46 (dk_at dksX3_payments_0 5 rfl rfl)
theorem dX3_payments_6 : decode cX3_payments 6 = .ok (.istore_n 1, 1) := dk_60 (dk_at dksX3_payments_0 6 rfl rfl)
theorem dX3_payments_7 : decode cX3_payments 7 = .ok (.aload_n 0, 1) := dk_42 (dk_at dksX3_payments_0 7 rfl rfl)
theorem dX3_payments_8 : decode cX3_payments 8 = .ok (.getfield 63, 3) := dk_180 0 63 (dk_at dksX3_payments_0 8 rfl rfl)
theorem dX3_payments_11 : decode cX3_payments 11 = .ok (.iconst 0, 1) := dk_3 (dk_at dksX3_payments_0 11 rfl rfl)
theorem dX3_payments_12 : decode cX3_payments 12 = .ok (.iconst 0, 1) := dk_3 (dk_at dksX3_payments_0 12 rfl rfl)
theorem dX3_payments_13 : decode cX3_payments 13 = .ok (.iastore, 1) := dk_79 (dk_at dksX3_payments_0 13 rfl rfl)
theorem dX3_payments_14 : decode cX3_payments 14 = .ok (.iconst 1, 1) := dk_4 (dk_at dksX3_payments_0 14 rfl rfl)
theorem dX3_payments_15 : decode cX3_payments 15 = .ok (.istore_n 2, 1) := dk_61 (dk_at dksX3_payments_0 15 rfl rfl)
theorem dX3_payments_16 : decode cX3_payments 16 = .ok (.iload_n 2, 1) := dk_28 (dk_at dksX3_payments_0 16 rfl rfl)
theorem dX3_payments_17 : decode cX3_payments 17 = .ok (.iconst 1, 1) := dk_4 (dk_at dksX3_payments_0 17 rfl rfl)
theorem dX3_payments_18 : decode cX3_payments 18 = .ok (.iload_n 1, 1) := dk_27 (dk_at dksX3_payments_0 18 rfl rfl)
theorem dX3_payments_19 : decode cX3_payments 19 = .ok (.ishl, 1) := dk_120 (dk_at dksX3_payments_0 19 rfl rfl)
theorem dX3_payments_20 : decode cX3_payments 20 = .ok (.if_icmp .ge 99, 3) := dk_162 0 99 (dk_at dksX3_payments_0 20 rfl rfl)
theorem dX3_payments_23 : decode cX3_payments 23 = .ok (.iconst 0, 1) := dk_3 (dk_at dksX3_payments_0 23 rfl rfl)
theorem dX3_payments_24 : decode cX3_payments 24 = .ok (.istore_n 3, 1) := dk_62 (dk_at dksX3_payments_1 0 rfl rfl)
theorem dX3_payments_25 : decode cX3_payments 25 = .ok (.iconst 0, 1) := dk_3 (dk_at dksX3_payments_1 1 rfl rfl)
theorem dX3_payments_26 : decode cX3_payments 26 = .ok (.istore 4, 2) := dk_54 4 (dk_at dksX3_payments_1 2 rfl rfl)
theorem dX3_payments_28 : decode cX3_payments 28 = .ok (.iconst 0, 1) := dk_3 (dk_at dksX3_payments_1 4 rfl rfl)
theorem dX3_payments_29 : decode cX3_payments 29 = .ok (.istore 5, 2) := dk_54 5 (dk_at dksX3_payments_1 5 rfl rfl)
theorem dX3_payments_31 : decode cX3_payments 31 = .ok (.iload 5, 2) := dk_21 5 (dk_at dksX3_payments_1 7 rfl rfl)
theorem dX3_payments_33 : decode cX3_payments 33 = .ok (.iload_n 1, 1) := dk_27 (dk_at dksX3_payments_1 9 rfl rfl)
theorem dX3_payments_34 : decode cX3_payments 34 = .ok (.if_icmp .ge 61, 3) := dk_162 0 61 (dk_at dksX3_payments_1 10 rfl rfl)
theorem dX3_payments_37 : decode cX3_payments 37 = .ok (.iload_n 2, 1) := dk_28 (dk_at dksX3_payments_1 13 rfl rfl)
theorem dX3_payments_38 : decode cX3_payments 38 = .ok (.iload 5, 2) := dk_21 5 (dk_at dksX3_payments_1 14 rfl rfl)
theorem dX3_payments_40 : decode cX3_payments 40 = .ok (.ishr, 1) := dk_122 (dk_at dksX3_payments_1 16 rfl rfl)
theorem dX3_payments_41 : decode cX3_payments 41 = .ok (.iconst 1, 1) := dk_4 (dk_at dksX3_payments_1 17 rfl rfl)
theorem dX3_payments_42 : decode cX3_payments 42 = .ok (.iand, 1) := dk_126 (dk_at dksX3_payments_1 18 rfl rfl)
theorem dX3_payments_43 : decode cX3_payments 43 = .ok (.ifCond .ne 6, 3) := dk_154 0 6 (dk_at dksX3_payments_1 19 rfl rfl)
theorem dX3_payments_46 : decode cX3_payments 46 = .ok (.goto 43, 3) := dk_167 0 43 (dk_at dksX3_payments_2 0 rfl rfl)
theorem dX3_payments_49 : decode cX3_payments 49 = .ok (.iload_n 3, 1) := dk_29 (dk_at dksX3_payments_2 3 rfl rfl)
theorem dX3_payments_50 : decode cX3_payments 50 = .ok (.aload_n 0, 1) := dk_42 (dk_at dksX3_payments_2 4 rfl rfl)
theorem dX3_payments_51 : decode cX3_payments 51 = .ok (.iload 5, 2) := dk_21 5 (dk_at dksX3_payments_2 5 rfl rfl)
theorem dX3_payments_53 : decode cX3_payments 53 = .ok (.invokevirtual 232, 3) := dk_182 0 232 (dk_at dksX3_payments_2 7 rfl rfl)
theorem dX3_payments_56 : decode cX3_payments 56 = .ok (.iadd, 1) := dk_96 (dk_at dksX3_payments_2 10 rfl rfl)
theorem dX3_payments_57 : decode cX3_payments 57 = .ok (.istore_n 3, 1) := dk_62 (dk_at dksX3_payments_2 11 rfl rfl)
theorem dX3_payments_58 : decode cX3_payments 58 = .ok (.aload_n 0, 1) := dk_42 (dk_at dksX3_payments_2 12 rfl rfl)
theorem dX3_payments_59 : decode cX3_payments 59 = .ok (.getfield 63, 3) := dk_180 0 63 (dk_at dksX3_payments_2 13 rfl rfl)
theorem dX3_payments_62 : decode cX3_payments 62 = .ok (.iload_n 2, 1) := dk_28 (dk_at dksX3_payments_2 16 rfl rfl)
theorem dX3_payments_63 : decode cX3_payments 63 = .ok (.iconst 1, 1) := dk_4 (dk_at dksX3_payments_2 17 rfl rfl)
theorem dX3_payments_64 : decode cX3_payments 64 = .ok (.iload 5, 2) := dk_21 5 (dk_at dksX3_payments_2 18 rfl rfl)
theorem dX3_payments_66 : decode cX3_payments 66 = .ok (.ishl, 1) := dk_120 (dk_at dksX3_payments_2 20 rfl rfl)
theorem dX3_payments_67 : decode cX3_payments 67 = .ok (.iconst (-1), 1) := dk_2 (dk_at dksX3_payments_2 21 rfl rfl)
theorem dX3_payments_68 : decode cX3_payments 68 = .ok (.ixor, 1) := dk_130 (dk_at dksX3_payments_2 22 rfl rfl)
theorem dX3_payments_69 : decode cX3_payments 69 = .ok (.iand, 1) := dk_126 (dk_at dksX3_payments_2 23 rfl rfl)
theorem dX3_payments_70 : decode cX3_payments 70 = .ok (.iaload, 1) := dk_46 (dk_at dksX3_payments_3 0 rfl rfl)
theorem dX3_payments_71 : decode cX3_payments 71 = .ok (.istore 6, 2) := dk_54 6 (dk_at dksX3_payments_3 1 rfl rfl)
theorem dX3_payments_73 : decode cX3_payments 73 = .ok (.iload 6, 2) := dk_21 6 (dk_at dksX3_payments_3 3 rfl rfl)
theorem dX3_payments_75 : decode cX3_payments 75 = .ok (.iload 4, 2) := dk_21 4 (dk_at dksX3_payments_3 5 rfl rfl)
theorem dX3_payments_77 : decode cX3_payments 77 = .ok (.if_icmp .le 8, 3) := dk_164 0 8 (dk_at dksX3_payments_3 7 rfl rfl)
theorem dX3_payments_80 : decode cX3_payments 80 = .ok (.iload 6, 2) := dk_21 6 (dk_at dksX3_payments_3 10 rfl rfl)
theorem dX3_payments_82 : decode cX3_payments 82 = .ok (.goto 5, 3) := dk_167 0 5 (dk_at dksX3_payments_3 12 rfl rfl)
theorem dX3_payments_85 : decode cX3_payments 85 = .ok (.iload 4, 2) := dk_21 4 (dk_at dksX3_payments_3 15 rfl rfl)
theorem dX3_payments_87 : decode cX3_payments 87 = .ok (.istore 4, 2) := dk_54 4 (dk_at dksX3_payments_3 17 rfl rfl)
theorem dX3_payments_89 : decode cX3_payments 89 = .ok (.iinc 5 1, 3) := dk_132 5 1 (dk_at dksX3_payments_3 19 rfl rfl)
theorem dX3_payments_92 : decode cX3_payments 92 = .ok (.goto (-61), 3) := dk_167 255 195 (dk_at dksX3_payments_4 0 rfl rfl)
theorem dX3_payments_95 : decode cX3_payments 95 = .ok (.aload_n 0, 1) := dk_42 (dk_at dksX3_payments_4 3 rfl rfl)
theorem dX3_payments_96 : decode cX3_payments 96 = .ok (.getfield 63, 3) := dk_180 0 63 (dk_at dksX3_payments_4 4 rfl rfl)
theorem dX3_payments_99 : decode cX3_payments 99 = .ok (.iload_n 2, 1) := dk_28 (dk_at dksX3_payments_4 7 rfl rfl)
theorem dX3_payments_100 : decode cX3_payments 100 = .ok (.iload 4, 2) := dk_21 4 (dk_at dksX3_payments_4 8 rfl rfl)
theorem dX3_payments_102 : decode cX3_payments 102 = .ok (.iload_n 3, 1) := dk_29 (dk_at dksX3_payments_4 10 rfl rfl)
theorem dX3_payments_103 : decode cX3_payments 103 = .ok (.ifCond .ne 7, 3) := dk_154 0 7 (dk_at dksX3_payments_4 11 rfl rfl)
theorem dX3_payments_106 : decode cX3_payments 106 = .ok (.iconst 1, 1) := dk_4 (dk_at dksX3_payments_4 14 rfl rfl)
theorem dX3_payments_107 : decode cX3_payments 107 = .ok (.goto 4, 3) := dk_167 0 4 (dk_at dksX3_payments_4 15 rfl rfl)
theorem dX3_payments_110 : decode cX3_payments 110 = .ok (.iconst 0, 1) := dk_3 (dk_at dksX3_payments_4 18 rfl rfl)
theorem dX3_payments_111 : decode cX3_payments 111 = .ok (.iadd, 1) := dk_96 (dk_at dksX3_payments_4 19 rfl rfl)
theorem dX3_payments_112 : decode cX3_payments 112 = .ok (.iastore, 1) := dk_79 (dk_at dksX3_payments_4 20 rfl rfl)
theorem dX3_payments_113 : decode cX3_payments 113 = .ok (.iinc 2 1, 3) := dk_132 2 1 (dk_at dksX3_payments_4 21 rfl rfl)
theorem dX3_payments_116 : decode cX3_payments 116 = .ok (.goto (-100), 3) := dk_167 255 156 (dk_at dksX3_payments_5 0 rfl rfl)
theorem dX3_payments_119 : decode cX3_payments 119 = .ok (.iload_n 1, 1) := dk_27 (dk_at dksX3_payments_5 3 rfl rfl)
theorem dX3_payments_120 : decode cX3_payments 120 = .ok (.aload_n 0, 1) := dk_42 (dk_at dksX3_payments_5 4 rfl rfl)
theorem dX3_payments_121 : decode cX3_payments 121 = .ok (.getfield 63, 3) := dk_180 0 63 (dk_at dksX3_payments_5 5 rfl rfl)
theorem dX3_payments_124 : decode cX3_payments 124 = .ok (.iconst 1, 1) := dk_4 (dk_at dksX3_payments_5 8 rfl rfl)
theorem dX3_payments_125 : decode cX3_payments 125 = .ok (.iload_n 1, 1) := dk_27 (dk_at dksX3_payments_5 9 rfl rfl)
theorem dX3_payments_126 : decode cX3_payments 126 = .ok (.ishl, 1) := dk_120 (dk_at dksX3_payments_5 10 rfl rfl)
theorem dX3_payments_127 : decode cX3_payments 127 = .ok (.iconst 1, 1) := dk_4 (dk_at dksX3_payments_5 11 rfl rfl)
theorem dX3_payments_128 : decode cX3_payments 128 = .ok (.isub, 1) := dk_100 (dk_at dksX3_payments_5 12 rfl rfl)
theorem dX3_payments_129 : decode cX3_payments 129 = .ok (.iaload, 1) := dk_46 (dk_at dksX3_payments_5 13 rfl rfl)
theorem dX3_payments_130 : decode cX3_payments 130 = .ok (.isub, 1) := dk_100 (dk_at dksX3_payments_5 14 rfl rfl)
theorem dX3_payments_131 : decode cX3_payments 131 = .ok (.ireturn, 1) := dk_172 (dk_at dksX3_payments_5 15 rfl rfl)
abbrev cX3_image : ByteArray := prog_14_method_75_code
def yX3_image : MethodName := ⟨RX3, "image", "(Z)Z"⟩
def dkwX3_image_3 : List UInt8 := [181, 1, 63, 4, 172]
abbrev dktX3_image_3 : List UInt8 := dkwX3_image_3 ++ []
def dkwX3_image_2 : List UInt8 := [180, 0, 13, 28, 46, 79, 132, 2, 1, 167, 255, 215, 27, 154, 0, 7, 42, 182, 0, 213, 42, 4]
abbrev dktX3_image_2 : List UInt8 := dkwX3_image_2 ++ dktX3_image_3
def dkwX3_image_1 : List UInt8 := [153, 0, 18, 42, 180, 0, 13, 28, 42, 180, 0, 7, 28, 46, 79, 167, 0, 15, 42, 180, 0, 7, 28, 42]
abbrev dktX3_image_1 : List UInt8 := dkwX3_image_1 ++ dktX3_image_2
def dkwX3_image_0 : List UInt8 := [27, 154, 0, 12, 42, 180, 1, 63, 154, 0, 5, 3, 172, 3, 61, 28, 17, 5, 200, 162, 0, 40, 27]
abbrev dktX3_image_0 : List UInt8 := dkwX3_image_0 ++ dktX3_image_1
theorem dksX3_image_0 : cX3_image.data.toList.drop 0 = dktX3_image_0 := by decide +kernel
theorem dksX3_image_1 : cX3_image.data.toList.drop 23 = dktX3_image_1 := dk_seg dksX3_image_0 23 rfl rfl
theorem dksX3_image_2 : cX3_image.data.toList.drop 47 = dktX3_image_2 := dk_seg dksX3_image_1 24 rfl rfl
theorem dksX3_image_3 : cX3_image.data.toList.drop 69 = dktX3_image_3 := dk_seg dksX3_image_2 22 rfl rfl
theorem dX3_image_0 : decode cX3_image 0 = .ok (.iload_n 1, 1) := dk_27 (dk_at dksX3_image_0 0 rfl rfl)
theorem dX3_image_1 : decode cX3_image 1 = .ok (.ifCond .ne 12, 3) := dk_154 0 12 (dk_at dksX3_image_0 1 rfl rfl)
theorem dX3_image_4 : decode cX3_image 4 = .ok (.aload_n 0, 1) := dk_42 (dk_at dksX3_image_0 4 rfl rfl)
theorem dX3_image_5 : decode cX3_image 5 = .ok (.getfield 319, 3) := dk_180 1 63 (dk_at dksX3_image_0 5 rfl rfl)
theorem dX3_image_8 : decode cX3_image 8 = .ok (.ifCond .ne 5, 3) := dk_154 0 5 (dk_at dksX3_image_0 8 rfl rfl)
theorem dX3_image_11 : decode cX3_image 11 = .ok (.iconst 0, 1) := dk_3 (dk_at dksX3_image_0 11 rfl rfl)
theorem dX3_image_12 : decode cX3_image 12 = .ok (.ireturn, 1) := dk_172 (dk_at dksX3_image_0 12 rfl rfl)
theorem dX3_image_13 : decode cX3_image 13 = .ok (.iconst 0, 1) := dk_3 (dk_at dksX3_image_0 13 rfl rfl)
theorem dX3_image_14 : decode cX3_image 14 = .ok (.istore_n 2, 1) := dk_61 (dk_at dksX3_image_0 14 rfl rfl)
theorem dX3_image_15 : decode cX3_image 15 = .ok (.iload_n 2, 1) := dk_28 (dk_at dksX3_image_0 15 rfl rfl)
theorem dX3_image_16 : decode cX3_image 16 = .ok (.sipush 1480, 3) := dk_17 5 200 (dk_at dksX3_image_0 16 rfl rfl)
theorem dX3_image_19 : decode cX3_image 19 = .ok (.if_icmp .ge 40, 3) := dk_162 0 40 (dk_at dksX3_image_0 19 rfl rfl)
theorem dX3_image_22 : decode cX3_image 22 = .ok (.iload_n 1, 1) := dk_27 (dk_at dksX3_image_0 22 rfl rfl)
theorem dX3_image_23 : decode cX3_image 23 = .ok (.ifCond .eq 18, 3) := dk_153 0 18 (dk_at dksX3_image_1 0 rfl rfl)
theorem dX3_image_26 : decode cX3_image 26 = .ok (.aload_n 0, 1) := dk_42 (dk_at dksX3_image_1 3 rfl rfl)
theorem dX3_image_27 : decode cX3_image 27 = .ok (.getfield 13, 3) := dk_180 0 13 (dk_at dksX3_image_1 4 rfl rfl)
theorem dX3_image_30 : decode cX3_image 30 = .ok (.iload_n 2, 1) := dk_28 (dk_at dksX3_image_1 7 rfl rfl)
theorem dX3_image_31 : decode cX3_image 31 = .ok (.aload_n 0, 1) := dk_42 (dk_at dksX3_image_1 8 rfl rfl)
theorem dX3_image_32 : decode cX3_image 32 = .ok (.getfield 7, 3) := dk_180 0 7 (dk_at dksX3_image_1 9 rfl rfl)
theorem dX3_image_35 : decode cX3_image 35 = .ok (.iload_n 2, 1) := dk_28 (dk_at dksX3_image_1 12 rfl rfl)
theorem dX3_image_36 : decode cX3_image 36 = .ok (.iaload, 1) := dk_46 (dk_at dksX3_image_1 13 rfl rfl)
theorem dX3_image_37 : decode cX3_image 37 = .ok (.iastore, 1) := dk_79 (dk_at dksX3_image_1 14 rfl rfl)
theorem dX3_image_38 : decode cX3_image 38 = .ok (.goto 15, 3) := dk_167 0 15 (dk_at dksX3_image_1 15 rfl rfl)
theorem dX3_image_41 : decode cX3_image 41 = .ok (.aload_n 0, 1) := dk_42 (dk_at dksX3_image_1 18 rfl rfl)
theorem dX3_image_42 : decode cX3_image 42 = .ok (.getfield 7, 3) := dk_180 0 7 (dk_at dksX3_image_1 19 rfl rfl)
theorem dX3_image_45 : decode cX3_image 45 = .ok (.iload_n 2, 1) := dk_28 (dk_at dksX3_image_1 22 rfl rfl)
theorem dX3_image_46 : decode cX3_image 46 = .ok (.aload_n 0, 1) := dk_42 (dk_at dksX3_image_1 23 rfl rfl)
theorem dX3_image_47 : decode cX3_image 47 = .ok (.getfield 13, 3) := dk_180 0 13 (dk_at dksX3_image_2 0 rfl rfl)
theorem dX3_image_50 : decode cX3_image 50 = .ok (.iload_n 2, 1) := dk_28 (dk_at dksX3_image_2 3 rfl rfl)
theorem dX3_image_51 : decode cX3_image 51 = .ok (.iaload, 1) := dk_46 (dk_at dksX3_image_2 4 rfl rfl)
theorem dX3_image_52 : decode cX3_image 52 = .ok (.iastore, 1) := dk_79 (dk_at dksX3_image_2 5 rfl rfl)
theorem dX3_image_53 : decode cX3_image 53 = .ok (.iinc 2 1, 3) := dk_132 2 1 (dk_at dksX3_image_2 6 rfl rfl)
theorem dX3_image_56 : decode cX3_image 56 = .ok (.goto (-41), 3) := dk_167 255 215 (dk_at dksX3_image_2 9 rfl rfl)
theorem dX3_image_59 : decode cX3_image 59 = .ok (.iload_n 1, 1) := dk_27 (dk_at dksX3_image_2 12 rfl rfl)
theorem dX3_image_60 : decode cX3_image 60 = .ok (.ifCond .ne 7, 3) := dk_154 0 7 (dk_at dksX3_image_2 13 rfl rfl)
theorem dX3_image_63 : decode cX3_image 63 = .ok (.aload_n 0, 1) := dk_42 (dk_at dksX3_image_2 16 rfl rfl)
theorem dX3_image_64 : decode cX3_image 64 = .ok (.invokevirtual 213, 3) := dk_182 0 213 (dk_at dksX3_image_2 17 rfl rfl)
theorem dX3_image_67 : decode cX3_image 67 = .ok (.aload_n 0, 1) := dk_42 (dk_at dksX3_image_2 20 rfl rfl)
theorem dX3_image_68 : decode cX3_image 68 = .ok (.iconst 1, 1) := dk_4 (dk_at dksX3_image_2 21 rfl rfl)
theorem dX3_image_69 : decode cX3_image 69 = .ok (.putfield 319, 3) := dk_181 1 63 (dk_at dksX3_image_3 0 rfl rfl)
theorem dX3_image_72 : decode cX3_image 72 = .ok (.iconst 1, 1) := dk_4 (dk_at dksX3_image_3 3 rfl rfl)
theorem dX3_image_73 : decode cX3_image 73 = .ok (.ireturn, 1) := dk_172 (dk_at dksX3_image_3 4 rfl rfl)
abbrev cX3_look : ByteArray := prog_14_method_76_code
def yX3_look : MethodName := ⟨RX3, "look", "(I)I"⟩
def dkwX3_look_5 : List UInt8 := [16, 10, 100, 46, 167, 0, 4, 2, 172]
abbrev dktX3_look_5 : List UInt8 := dkwX3_look_5 ++ []
def dkwX3_look_4 : List UInt8 := [180, 0, 7, 16, 8, 46, 172, 27, 16, 10, 16, 13, 184, 0, 66, 153, 0, 15, 42, 180, 0, 7, 27]
abbrev dktX3_look_4 : List UInt8 := dkwX3_look_4 ++ dktX3_look_5
def dkwX3_look_3 : List UInt8 := [180, 0, 7, 17, 2, 73, 46, 172, 42, 180, 0, 7, 17, 2, 78, 46, 172, 42, 180, 0, 70, 172, 42]
abbrev dktX3_look_3 : List UInt8 := dkwX3_look_3 ++ dktX3_look_4
def dkwX3_look_2 : List UInt8 := [42, 180, 0, 7, 7, 46, 172, 42, 180, 0, 7, 8, 46, 172, 42, 180, 0, 7, 16, 6, 46, 172, 42]
abbrev dktX3_look_2 : List UInt8 := dkwX3_look_2 ++ dktX3_look_3
def dkwX3_look_1 : List UInt8 := [170, 0, 0, 0, 0, 0, 96, 0, 0, 0, 0, 0, 0, 0, 6, 0, 0, 0, 43, 0, 0, 0, 50, 0, 0, 0, 57, 0, 0, 0, 65, 0, 0, 0, 74, 0, 0, 0, 83, 0, 0, 0, 88]
abbrev dktX3_look_1 : List UInt8 := dkwX3_look_1 ++ dktX3_look_2
def dkwX3_look_0 : List UInt8 := [27]
abbrev dktX3_look_0 : List UInt8 := dkwX3_look_0 ++ dktX3_look_1
theorem dksX3_look_0 : cX3_look.data.toList.drop 0 = dktX3_look_0 := by decide +kernel
theorem dksX3_look_1 : cX3_look.data.toList.drop 1 = dktX3_look_1 := dk_seg dksX3_look_0 1 rfl rfl
theorem dksX3_look_2 : cX3_look.data.toList.drop 44 = dktX3_look_2 := dk_seg dksX3_look_1 43 rfl rfl
theorem dksX3_look_3 : cX3_look.data.toList.drop 67 = dktX3_look_3 := dk_seg dksX3_look_2 23 rfl rfl
theorem dksX3_look_4 : cX3_look.data.toList.drop 90 = dktX3_look_4 := dk_seg dksX3_look_3 23 rfl rfl
theorem dksX3_look_5 : cX3_look.data.toList.drop 113 = dktX3_look_5 := dk_seg dksX3_look_4 23 rfl rfl
theorem dX3_look_0 : decode cX3_look 0 = .ok (.iload_n 1, 1) := dk_27 (dk_at dksX3_look_0 0 rfl rfl)
theorem dX3_look_1 : decode cX3_look 1 = .ok (.tableswitch 96 0 6 #[43, 50, 57, 65, 74, 83, 88], 43) := by decide +kernel
theorem dX3_look_44 : decode cX3_look 44 = .ok (.aload_n 0, 1) := dk_42 (dk_at dksX3_look_2 0 rfl rfl)
theorem dX3_look_45 : decode cX3_look 45 = .ok (.getfield 7, 3) := dk_180 0 7 (dk_at dksX3_look_2 1 rfl rfl)
theorem dX3_look_48 : decode cX3_look 48 = .ok (.iconst 4, 1) := dk_7 (dk_at dksX3_look_2 4 rfl rfl)
theorem dX3_look_49 : decode cX3_look 49 = .ok (.iaload, 1) := dk_46 (dk_at dksX3_look_2 5 rfl rfl)
theorem dX3_look_50 : decode cX3_look 50 = .ok (.ireturn, 1) := dk_172 (dk_at dksX3_look_2 6 rfl rfl)
theorem dX3_look_51 : decode cX3_look 51 = .ok (.aload_n 0, 1) := dk_42 (dk_at dksX3_look_2 7 rfl rfl)
theorem dX3_look_52 : decode cX3_look 52 = .ok (.getfield 7, 3) := dk_180 0 7 (dk_at dksX3_look_2 8 rfl rfl)
theorem dX3_look_55 : decode cX3_look 55 = .ok (.iconst 5, 1) := dk_8 (dk_at dksX3_look_2 11 rfl rfl)
theorem dX3_look_56 : decode cX3_look 56 = .ok (.iaload, 1) := dk_46 (dk_at dksX3_look_2 12 rfl rfl)
theorem dX3_look_57 : decode cX3_look 57 = .ok (.ireturn, 1) := dk_172 (dk_at dksX3_look_2 13 rfl rfl)
theorem dX3_look_58 : decode cX3_look 58 = .ok (.aload_n 0, 1) := dk_42 (dk_at dksX3_look_2 14 rfl rfl)
theorem dX3_look_59 : decode cX3_look 59 = .ok (.getfield 7, 3) := dk_180 0 7 (dk_at dksX3_look_2 15 rfl rfl)
theorem dX3_look_62 : decode cX3_look 62 = .ok (.bipush 6, 2) := dk_16 6 (dk_at dksX3_look_2 18 rfl rfl)
theorem dX3_look_64 : decode cX3_look 64 = .ok (.iaload, 1) := dk_46 (dk_at dksX3_look_2 20 rfl rfl)
theorem dX3_look_65 : decode cX3_look 65 = .ok (.ireturn, 1) := dk_172 (dk_at dksX3_look_2 21 rfl rfl)
theorem dX3_look_66 : decode cX3_look 66 = .ok (.aload_n 0, 1) := dk_42 (dk_at dksX3_look_2 22 rfl rfl)
theorem dX3_look_67 : decode cX3_look 67 = .ok (.getfield 7, 3) := dk_180 0 7 (dk_at dksX3_look_3 0 rfl rfl)
theorem dX3_look_70 : decode cX3_look 70 = .ok (.sipush 585, 3) := dk_17 2 73 (dk_at dksX3_look_3 3 rfl rfl)
theorem dX3_look_73 : decode cX3_look 73 = .ok (.iaload, 1) := dk_46 (dk_at dksX3_look_3 6 rfl rfl)
theorem dX3_look_74 : decode cX3_look 74 = .ok (.ireturn, 1) := dk_172 (dk_at dksX3_look_3 7 rfl rfl)
theorem dX3_look_75 : decode cX3_look 75 = .ok (.aload_n 0, 1) := dk_42 (dk_at dksX3_look_3 8 rfl rfl)
theorem dX3_look_76 : decode cX3_look 76 = .ok (.getfield 7, 3) := dk_180 0 7 (dk_at dksX3_look_3 9 rfl rfl)
theorem dX3_look_79 : decode cX3_look 79 = .ok (.sipush 590, 3) := dk_17 2 78 (dk_at dksX3_look_3 12 rfl rfl)
theorem dX3_look_82 : decode cX3_look 82 = .ok (.iaload, 1) := dk_46 (dk_at dksX3_look_3 15 rfl rfl)
theorem dX3_look_83 : decode cX3_look 83 = .ok (.ireturn, 1) := dk_172 (dk_at dksX3_look_3 16 rfl rfl)
theorem dX3_look_84 : decode cX3_look 84 = .ok (.aload_n 0, 1) := dk_42 (dk_at dksX3_look_3 17 rfl rfl)
theorem dX3_look_85 : decode cX3_look 85 = .ok (.getfield 70, 3) := dk_180 0 70 (dk_at dksX3_look_3 18 rfl rfl)
theorem dX3_look_88 : decode cX3_look 88 = .ok (.ireturn, 1) := dk_172 (dk_at dksX3_look_3 21 rfl rfl)
theorem dX3_look_89 : decode cX3_look 89 = .ok (.aload_n 0, 1) := dk_42 (dk_at dksX3_look_3 22 rfl rfl)
theorem dX3_look_90 : decode cX3_look 90 = .ok (.getfield 7, 3) := dk_180 0 7 (dk_at dksX3_look_4 0 rfl rfl)
theorem dX3_look_93 : decode cX3_look 93 = .ok (.bipush 8, 2) := dk_16 8 (dk_at dksX3_look_4 3 rfl rfl)
theorem dX3_look_95 : decode cX3_look 95 = .ok (.iaload, 1) := dk_46 (dk_at dksX3_look_4 5 rfl rfl)
theorem dX3_look_96 : decode cX3_look 96 = .ok (.ireturn, 1) := dk_172 (dk_at dksX3_look_4 6 rfl rfl)
theorem dX3_look_97 : decode cX3_look 97 = .ok (.iload_n 1, 1) := dk_27 (dk_at dksX3_look_4 7 rfl rfl)
theorem dX3_look_98 : decode cX3_look 98 = .ok (.bipush 10, 2) := dk_16 10 (dk_at dksX3_look_4 8 rfl rfl)
theorem dX3_look_100 : decode cX3_look 100 = .ok (.bipush 13, 2) := dk_16 13 (dk_at dksX3_look_4 10 rfl rfl)
theorem dX3_look_102 : decode cX3_look 102 = .ok (.invokestatic 66, 3) := dk_184 0 66 (dk_at dksX3_look_4 12 rfl rfl)
theorem dX3_look_105 : decode cX3_look 105 = .ok (.ifCond .eq 15, 3) := dk_153 0 15 (dk_at dksX3_look_4 15 rfl rfl)
theorem dX3_look_108 : decode cX3_look 108 = .ok (.aload_n 0, 1) := dk_42 (dk_at dksX3_look_4 18 rfl rfl)
theorem dX3_look_109 : decode cX3_look 109 = .ok (.getfield 7, 3) := dk_180 0 7 (dk_at dksX3_look_4 19 rfl rfl)
theorem dX3_look_112 : decode cX3_look 112 = .ok (.iload_n 1, 1) := dk_27 (dk_at dksX3_look_4 22 rfl rfl)
theorem dX3_look_113 : decode cX3_look 113 = .ok (.bipush 10, 2) := dk_16 10 (dk_at dksX3_look_5 0 rfl rfl)
theorem dX3_look_115 : decode cX3_look 115 = .ok (.isub, 1) := dk_100 (dk_at dksX3_look_5 2 rfl rfl)
theorem dX3_look_116 : decode cX3_look 116 = .ok (.iaload, 1) := dk_46 (dk_at dksX3_look_5 3 rfl rfl)
theorem dX3_look_117 : decode cX3_look 117 = .ok (.goto 4, 3) := dk_167 0 4 (dk_at dksX3_look_5 4 rfl rfl)
theorem dX3_look_120 : decode cX3_look 120 = .ok (.iconst (-1), 1) := dk_2 (dk_at dksX3_look_5 7 rfl rfl)
theorem dX3_look_121 : decode cX3_look 121 = .ok (.ireturn, 1) := dk_172 (dk_at dksX3_look_5 8 rfl rfl)
theorem q91 : (Jvm.Cond.initialized "DoughDebtsModel") ∈ lw_all := lw_g (lw_at lw_m1 4 rfl) rfl
theorem q1020 : (Jvm.Cond.instantiable "DoughDebtsModel" (36 : Nat)) ∈ lw_all := lw_g (lw_at lw_m4 213 rfl) rfl
theorem q1022 : (Jvm.Cond.instanceMethod ({ cls := "DoughDebtsModel", name := "<init>", desc := "()V" } : Jvm.MethodName)) ∈ lw_all := lw_g (lw_at lw_m4 215 rfl) rfl
theorem q1023 : (Jvm.Cond.code ({ cls := "DoughDebtsModel", name := "<init>", desc := "()V" } : Jvm.MethodName) prog_14_method_1_code (2 : Nat) (Option.none : Option Jvm.ClassFile.FieldType)) ∈ lw_all := lw_g (lw_at lw_m4 216 rfl) rfl
theorem q1024 : (Jvm.Cond.methodLink "DoughDebtsModel" (1 : Nat) ({ cls := "java/lang/Object", name := "<init>", desc := "()V" } : Jvm.MethodName)) ∈ lw_all := lw_g (lw_at lw_m4 217 rfl) rfl
theorem q1025 : (Jvm.Cond.fieldLink "DoughDebtsModel" (7 : Nat) "DoughDebtsModel" "w" "[I") ∈ lw_all := lw_g (lw_at lw_m4 218 rfl) rfl
theorem q1026 : (Jvm.Cond.fieldLink "DoughDebtsModel" (13 : Nat) "DoughDebtsModel" "kept" "[I") ∈ lw_all := lw_g (lw_at lw_m4 219 rfl) rfl
theorem q1027 : (Jvm.Cond.fieldLink "DoughDebtsModel" (16 : Nat) "DoughDebtsModel" "back" "[I") ∈ lw_all := lw_g (lw_at lw_m4 220 rfl) rfl
theorem q1028 : (Jvm.Cond.fieldLink "DoughDebtsModel" (70 : Nat) "DoughDebtsModel" "backMany" "I") ∈ lw_all := lw_g (lw_at lw_m4 221 rfl) rfl
theorem q1029 : (Jvm.Cond.fieldLink "DoughDebtsModel" (319 : Nat) "DoughDebtsModel" "hasImage" "Z") ∈ lw_all := lw_g (lw_at lw_m4 222 rfl) rfl
theorem q1030 : (Jvm.Cond.fieldLink "DoughDebtsModel" (19 : Nat) "DoughDebtsModel" "freshLine" "[I") ∈ lw_all := lw_g (lw_at lw_m4 223 rfl) rfl
theorem q1031 : (Jvm.Cond.fieldLink "DoughDebtsModel" (22 : Nat) "DoughDebtsModel" "freshStep" "[I") ∈ lw_all := lw_g (lw_at lw_m4 224 rfl) rfl
theorem q1032 : (Jvm.Cond.fieldLink "DoughDebtsModel" (25 : Nat) "DoughDebtsModel" "tape" "[I") ∈ lw_all := lw_g (lw_at lw_m4 225 rfl) rfl
theorem q1033 : (Jvm.Cond.fieldLink "DoughDebtsModel" (28 : Nat) "DoughDebtsModel" "pile" "[I") ∈ lw_all := lw_g (lw_at lw_m4 226 rfl) rfl
theorem q1034 : (Jvm.Cond.fieldLink "DoughDebtsModel" (31 : Nat) "DoughDebtsModel" "facts" "[I") ∈ lw_all := lw_g (lw_at lw_m4 227 rfl) rfl
theorem q1035 : (Jvm.Cond.fieldLink "DoughDebtsModel" (197 : Nat) "DoughDebtsModel" "lines" "I") ∈ lw_all := lw_g (lw_at lw_m4 228 rfl) rfl
theorem q1036 : (Jvm.Cond.fieldLink "DoughDebtsModel" (163 : Nat) "DoughDebtsModel" "steps" "I") ∈ lw_all := lw_g (lw_at lw_m4 229 rfl) rfl
theorem q1037 : (Jvm.Cond.fieldLink "DoughDebtsModel" (75 : Nat) "DoughDebtsModel" "taped" "I") ∈ lw_all := lw_g (lw_at lw_m4 230 rfl) rfl
theorem q1038 : (Jvm.Cond.fieldLink "DoughDebtsModel" (78 : Nat) "DoughDebtsModel" "at" "I") ∈ lw_all := lw_g (lw_at lw_m4 231 rfl) rfl
theorem q1039 : (Jvm.Cond.fieldLink "DoughDebtsModel" (135 : Nat) "DoughDebtsModel" "token" "I") ∈ lw_all := lw_g (lw_at lw_m4 232 rfl) rfl
theorem q1040 : (Jvm.Cond.fieldLink "DoughDebtsModel" (81 : Nat) "DoughDebtsModel" "tokenAt" "I") ∈ lw_all := lw_g (lw_at lw_m4 233 rfl) rfl
theorem q1041 : (Jvm.Cond.fieldLink "DoughDebtsModel" (148 : Nat) "DoughDebtsModel" "value" "I") ∈ lw_all := lw_g (lw_at lw_m4 234 rfl) rfl
theorem q1042 : (Jvm.Cond.fieldLink "DoughDebtsModel" (151 : Nat) "DoughDebtsModel" "wrong" "I") ∈ lw_all := lw_g (lw_at lw_m4 235 rfl) rfl
theorem q1043 : (Jvm.Cond.fieldLink "DoughDebtsModel" (154 : Nat) "DoughDebtsModel" "wrongAt" "I") ∈ lw_all := lw_g (lw_at lw_m4 236 rfl) rfl
theorem q1044 : (Jvm.Cond.fieldLink "DoughDebtsModel" (203 : Nat) "DoughDebtsModel" "faultKind" "I") ∈ lw_all := lw_g (lw_at lw_m4 237 rfl) rfl
theorem q1045 : (Jvm.Cond.fieldLink "DoughDebtsModel" (166 : Nat) "DoughDebtsModel" "depth" "I") ∈ lw_all := lw_g (lw_at lw_m4 238 rfl) rfl
theorem q1046 : (Jvm.Cond.fieldLink "DoughDebtsModel" (34 : Nat) "DoughDebtsModel" "faultPlace" "I") ∈ lw_all := lw_g (lw_at lw_m4 239 rfl) rfl
theorem q1047 : (Jvm.Cond.fieldLink "DoughDebtsModel" (38 : Nat) "DoughDebtsModel" "line" "[I") ∈ lw_all := lw_g (lw_at lw_m5 0 rfl) rfl
theorem q1048 : (Jvm.Cond.fieldLink "DoughDebtsModel" (41 : Nat) "DoughDebtsModel" "worths" "[I") ∈ lw_all := lw_g (lw_at lw_m5 1 rfl) rfl
theorem q1049 : (Jvm.Cond.fieldLink "DoughDebtsModel" (247 : Nat) "DoughDebtsModel" "heat" "I") ∈ lw_all := lw_g (lw_at lw_m5 2 rfl) rfl
theorem q1050 : (Jvm.Cond.fieldLink "DoughDebtsModel" (44 : Nat) "DoughDebtsModel" "tried" "[I") ∈ lw_all := lw_g (lw_at lw_m5 3 rfl) rfl
theorem q1051 : (Jvm.Cond.fieldLink "DoughDebtsModel" (47 : Nat) "DoughDebtsModel" "woods" "[I") ∈ lw_all := lw_g (lw_at lw_m5 4 rfl) rfl
theorem q1052 : (Jvm.Cond.fieldLink "DoughDebtsModel" (50 : Nat) "DoughDebtsModel" "firstRest" "[I") ∈ lw_all := lw_g (lw_at lw_m5 5 rfl) rfl
theorem q1053 : (Jvm.Cond.fieldLink "DoughDebtsModel" (53 : Nat) "DoughDebtsModel" "leastRow" "[I") ∈ lw_all := lw_g (lw_at lw_m5 6 rfl) rfl
theorem q1054 : (Jvm.Cond.fieldLink "DoughDebtsModel" (282 : Nat) "DoughDebtsModel" "rests" "I") ∈ lw_all := lw_g (lw_at lw_m5 7 rfl) rfl
theorem q1055 : (Jvm.Cond.fieldLink "DoughDebtsModel" (276 : Nat) "DoughDebtsModel" "leastWood" "I") ∈ lw_all := lw_g (lw_at lw_m5 8 rfl) rfl
theorem q1056 : (Jvm.Cond.fieldLink "DoughDebtsModel" (56 : Nat) "DoughDebtsModel" "rows" "[I") ∈ lw_all := lw_g (lw_at lw_m5 9 rfl) rfl
theorem q1057 : (Jvm.Cond.fieldLink "DoughDebtsModel" (59 : Nat) "DoughDebtsModel" "partOf" "[J") ∈ lw_all := lw_g (lw_at lw_m5 10 rfl) rfl
theorem q1058 : (Jvm.Cond.fieldLink "DoughDebtsModel" (306 : Nat) "DoughDebtsModel" "above" "J") ∈ lw_all := lw_g (lw_at lw_m5 11 rfl) rfl
theorem q1059 : (Jvm.Cond.fieldLink "DoughDebtsModel" (310 : Nat) "DoughDebtsModel" "below" "J") ∈ lw_all := lw_g (lw_at lw_m5 12 rfl) rfl
theorem q1060 : (Jvm.Cond.fieldLink "DoughDebtsModel" (63 : Nat) "DoughDebtsModel" "heaps" "[I") ∈ lw_all := lw_g (lw_at lw_m5 13 rfl) rfl
theorem q1061 : (Jvm.Cond.laysFinal "DoughDebtsModel" "DoughDebtsModel" "w" "[I") ∈ lw_all := lw_g (lw_at lw_m5 14 rfl) rfl
theorem q1062 : (Jvm.Cond.soleField "DoughDebtsModel" "w") ∈ lw_all := lw_g (lw_at lw_m5 15 rfl) rfl
theorem q1063 : (Jvm.Cond.laysFinal "DoughDebtsModel" "DoughDebtsModel" "kept" "[I") ∈ lw_all := lw_g (lw_at lw_m5 16 rfl) rfl
theorem q1064 : (Jvm.Cond.soleField "DoughDebtsModel" "kept") ∈ lw_all := lw_g (lw_at lw_m5 17 rfl) rfl
theorem q1065 : (Jvm.Cond.laysFinal "DoughDebtsModel" "DoughDebtsModel" "back" "[I") ∈ lw_all := lw_g (lw_at lw_m5 18 rfl) rfl
theorem q1066 : (Jvm.Cond.soleField "DoughDebtsModel" "back") ∈ lw_all := lw_g (lw_at lw_m5 19 rfl) rfl
theorem q1067 : (Jvm.Cond.lays "DoughDebtsModel" "DoughDebtsModel" "backMany" "I") ∈ lw_all := lw_g (lw_at lw_m5 20 rfl) rfl
theorem q1068 : (Jvm.Cond.soleField "DoughDebtsModel" "backMany") ∈ lw_all := lw_g (lw_at lw_m5 21 rfl) rfl
theorem q1069 : (Jvm.Cond.lays "DoughDebtsModel" "DoughDebtsModel" "hasImage" "Z") ∈ lw_all := lw_g (lw_at lw_m5 22 rfl) rfl
theorem q1070 : (Jvm.Cond.soleField "DoughDebtsModel" "hasImage") ∈ lw_all := lw_g (lw_at lw_m5 23 rfl) rfl
theorem q1071 : (Jvm.Cond.laysFinal "DoughDebtsModel" "DoughDebtsModel" "freshLine" "[I") ∈ lw_all := lw_g (lw_at lw_m5 24 rfl) rfl
theorem q1072 : (Jvm.Cond.soleField "DoughDebtsModel" "freshLine") ∈ lw_all := lw_g (lw_at lw_m5 25 rfl) rfl
theorem q1073 : (Jvm.Cond.laysFinal "DoughDebtsModel" "DoughDebtsModel" "freshStep" "[I") ∈ lw_all := lw_g (lw_at lw_m5 26 rfl) rfl
theorem q1074 : (Jvm.Cond.soleField "DoughDebtsModel" "freshStep") ∈ lw_all := lw_g (lw_at lw_m5 27 rfl) rfl
theorem q1075 : (Jvm.Cond.laysFinal "DoughDebtsModel" "DoughDebtsModel" "tape" "[I") ∈ lw_all := lw_g (lw_at lw_m5 28 rfl) rfl
theorem q1076 : (Jvm.Cond.soleField "DoughDebtsModel" "tape") ∈ lw_all := lw_g (lw_at lw_m5 29 rfl) rfl
theorem q1077 : (Jvm.Cond.laysFinal "DoughDebtsModel" "DoughDebtsModel" "pile" "[I") ∈ lw_all := lw_g (lw_at lw_m5 30 rfl) rfl
theorem q1078 : (Jvm.Cond.soleField "DoughDebtsModel" "pile") ∈ lw_all := lw_g (lw_at lw_m5 31 rfl) rfl
theorem q1079 : (Jvm.Cond.laysFinal "DoughDebtsModel" "DoughDebtsModel" "facts" "[I") ∈ lw_all := lw_g (lw_at lw_m5 32 rfl) rfl
theorem q1080 : (Jvm.Cond.soleField "DoughDebtsModel" "facts") ∈ lw_all := lw_g (lw_at lw_m5 33 rfl) rfl
theorem q1081 : (Jvm.Cond.lays "DoughDebtsModel" "DoughDebtsModel" "lines" "I") ∈ lw_all := lw_g (lw_at lw_m5 34 rfl) rfl
theorem q1082 : (Jvm.Cond.soleField "DoughDebtsModel" "lines") ∈ lw_all := lw_g (lw_at lw_m5 35 rfl) rfl
theorem q1083 : (Jvm.Cond.lays "DoughDebtsModel" "DoughDebtsModel" "steps" "I") ∈ lw_all := lw_g (lw_at lw_m5 36 rfl) rfl
theorem q1084 : (Jvm.Cond.soleField "DoughDebtsModel" "steps") ∈ lw_all := lw_g (lw_at lw_m5 37 rfl) rfl
theorem q1085 : (Jvm.Cond.lays "DoughDebtsModel" "DoughDebtsModel" "taped" "I") ∈ lw_all := lw_g (lw_at lw_m5 38 rfl) rfl
theorem q1086 : (Jvm.Cond.soleField "DoughDebtsModel" "taped") ∈ lw_all := lw_g (lw_at lw_m5 39 rfl) rfl
theorem q1087 : (Jvm.Cond.lays "DoughDebtsModel" "DoughDebtsModel" "at" "I") ∈ lw_all := lw_g (lw_at lw_m5 40 rfl) rfl
theorem q1088 : (Jvm.Cond.soleField "DoughDebtsModel" "at") ∈ lw_all := lw_g (lw_at lw_m5 41 rfl) rfl
theorem q1089 : (Jvm.Cond.lays "DoughDebtsModel" "DoughDebtsModel" "token" "I") ∈ lw_all := lw_g (lw_at lw_m5 42 rfl) rfl
theorem q1090 : (Jvm.Cond.soleField "DoughDebtsModel" "token") ∈ lw_all := lw_g (lw_at lw_m5 43 rfl) rfl
theorem q1091 : (Jvm.Cond.lays "DoughDebtsModel" "DoughDebtsModel" "tokenAt" "I") ∈ lw_all := lw_g (lw_at lw_m5 44 rfl) rfl
theorem q1092 : (Jvm.Cond.soleField "DoughDebtsModel" "tokenAt") ∈ lw_all := lw_g (lw_at lw_m5 45 rfl) rfl
theorem q1093 : (Jvm.Cond.lays "DoughDebtsModel" "DoughDebtsModel" "value" "I") ∈ lw_all := lw_g (lw_at lw_m5 46 rfl) rfl
theorem q1094 : (Jvm.Cond.soleField "DoughDebtsModel" "value") ∈ lw_all := lw_g (lw_at lw_m5 47 rfl) rfl
theorem q1095 : (Jvm.Cond.lays "DoughDebtsModel" "DoughDebtsModel" "wrong" "I") ∈ lw_all := lw_g (lw_at lw_m5 48 rfl) rfl
theorem q1096 : (Jvm.Cond.soleField "DoughDebtsModel" "wrong") ∈ lw_all := lw_g (lw_at lw_m5 49 rfl) rfl
theorem q1097 : (Jvm.Cond.lays "DoughDebtsModel" "DoughDebtsModel" "wrongAt" "I") ∈ lw_all := lw_g (lw_at lw_m5 50 rfl) rfl
theorem q1098 : (Jvm.Cond.soleField "DoughDebtsModel" "wrongAt") ∈ lw_all := lw_g (lw_at lw_m5 51 rfl) rfl
theorem q1099 : (Jvm.Cond.lays "DoughDebtsModel" "DoughDebtsModel" "faultKind" "I") ∈ lw_all := lw_g (lw_at lw_m5 52 rfl) rfl
theorem q1100 : (Jvm.Cond.soleField "DoughDebtsModel" "faultKind") ∈ lw_all := lw_g (lw_at lw_m5 53 rfl) rfl
theorem q1101 : (Jvm.Cond.lays "DoughDebtsModel" "DoughDebtsModel" "depth" "I") ∈ lw_all := lw_g (lw_at lw_m5 54 rfl) rfl
theorem q1102 : (Jvm.Cond.soleField "DoughDebtsModel" "depth") ∈ lw_all := lw_g (lw_at lw_m5 55 rfl) rfl
theorem q1103 : (Jvm.Cond.lays "DoughDebtsModel" "DoughDebtsModel" "faultPlace" "I") ∈ lw_all := lw_g (lw_at lw_m5 56 rfl) rfl
theorem q1104 : (Jvm.Cond.soleField "DoughDebtsModel" "faultPlace") ∈ lw_all := lw_g (lw_at lw_m5 57 rfl) rfl
theorem q1105 : (Jvm.Cond.laysFinal "DoughDebtsModel" "DoughDebtsModel" "line" "[I") ∈ lw_all := lw_g (lw_at lw_m5 58 rfl) rfl
theorem q1106 : (Jvm.Cond.soleField "DoughDebtsModel" "line") ∈ lw_all := lw_g (lw_at lw_m5 59 rfl) rfl
theorem q1107 : (Jvm.Cond.laysFinal "DoughDebtsModel" "DoughDebtsModel" "worths" "[I") ∈ lw_all := lw_g (lw_at lw_m5 60 rfl) rfl
theorem q1108 : (Jvm.Cond.soleField "DoughDebtsModel" "worths") ∈ lw_all := lw_g (lw_at lw_m5 61 rfl) rfl
theorem q1109 : (Jvm.Cond.lays "DoughDebtsModel" "DoughDebtsModel" "heat" "I") ∈ lw_all := lw_g (lw_at lw_m5 62 rfl) rfl
theorem q1110 : (Jvm.Cond.soleField "DoughDebtsModel" "heat") ∈ lw_all := lw_g (lw_at lw_m5 63 rfl) rfl
theorem q1111 : (Jvm.Cond.laysFinal "DoughDebtsModel" "DoughDebtsModel" "tried" "[I") ∈ lw_all := lw_g (lw_at lw_m5 64 rfl) rfl
theorem q1112 : (Jvm.Cond.soleField "DoughDebtsModel" "tried") ∈ lw_all := lw_g (lw_at lw_m5 65 rfl) rfl
theorem q1113 : (Jvm.Cond.laysFinal "DoughDebtsModel" "DoughDebtsModel" "woods" "[I") ∈ lw_all := lw_g (lw_at lw_m5 66 rfl) rfl
theorem q1114 : (Jvm.Cond.soleField "DoughDebtsModel" "woods") ∈ lw_all := lw_g (lw_at lw_m5 67 rfl) rfl
theorem q1115 : (Jvm.Cond.laysFinal "DoughDebtsModel" "DoughDebtsModel" "firstRest" "[I") ∈ lw_all := lw_g (lw_at lw_m5 68 rfl) rfl
theorem q1116 : (Jvm.Cond.soleField "DoughDebtsModel" "firstRest") ∈ lw_all := lw_g (lw_at lw_m5 69 rfl) rfl
theorem q1117 : (Jvm.Cond.laysFinal "DoughDebtsModel" "DoughDebtsModel" "leastRow" "[I") ∈ lw_all := lw_g (lw_at lw_m5 70 rfl) rfl
theorem q1118 : (Jvm.Cond.soleField "DoughDebtsModel" "leastRow") ∈ lw_all := lw_g (lw_at lw_m5 71 rfl) rfl
theorem q1119 : (Jvm.Cond.lays "DoughDebtsModel" "DoughDebtsModel" "rests" "I") ∈ lw_all := lw_g (lw_at lw_m5 72 rfl) rfl
theorem q1120 : (Jvm.Cond.soleField "DoughDebtsModel" "rests") ∈ lw_all := lw_g (lw_at lw_m5 73 rfl) rfl
theorem q1121 : (Jvm.Cond.lays "DoughDebtsModel" "DoughDebtsModel" "leastWood" "I") ∈ lw_all := lw_g (lw_at lw_m5 74 rfl) rfl
theorem q1122 : (Jvm.Cond.soleField "DoughDebtsModel" "leastWood") ∈ lw_all := lw_g (lw_at lw_m5 75 rfl) rfl
theorem q1123 : (Jvm.Cond.laysFinal "DoughDebtsModel" "DoughDebtsModel" "rows" "[I") ∈ lw_all := lw_g (lw_at lw_m5 76 rfl) rfl
theorem q1124 : (Jvm.Cond.soleField "DoughDebtsModel" "rows") ∈ lw_all := lw_g (lw_at lw_m5 77 rfl) rfl
theorem q1125 : (Jvm.Cond.laysFinal "DoughDebtsModel" "DoughDebtsModel" "partOf" "[J") ∈ lw_all := lw_g (lw_at lw_m5 78 rfl) rfl
theorem q1126 : (Jvm.Cond.soleField "DoughDebtsModel" "partOf") ∈ lw_all := lw_g (lw_at lw_m5 79 rfl) rfl
theorem q1127 : (Jvm.Cond.lays "DoughDebtsModel" "DoughDebtsModel" "above" "J") ∈ lw_all := lw_g (lw_at lw_m5 80 rfl) rfl
theorem q1128 : (Jvm.Cond.soleField "DoughDebtsModel" "above") ∈ lw_all := lw_g (lw_at lw_m5 81 rfl) rfl
theorem q1129 : (Jvm.Cond.lays "DoughDebtsModel" "DoughDebtsModel" "below" "J") ∈ lw_all := lw_g (lw_at lw_m5 82 rfl) rfl
theorem q1130 : (Jvm.Cond.soleField "DoughDebtsModel" "below") ∈ lw_all := lw_g (lw_at lw_m5 83 rfl) rfl
theorem q1131 : (Jvm.Cond.laysFinal "DoughDebtsModel" "DoughDebtsModel" "heaps" "[I") ∈ lw_all := lw_g (lw_at lw_m5 84 rfl) rfl
theorem q1132 : (Jvm.Cond.soleField "DoughDebtsModel" "heaps") ∈ lw_all := lw_g (lw_at lw_m5 85 rfl) rfl
theorem q1133 : (Jvm.Cond.superclass "DoughDebtsModel" "java/lang/Object") ∈ lw_all := lw_g (lw_at lw_m5 86 rfl) rfl
theorem q1135 : (Jvm.Cond.instanceMethod ({ cls := "DoughDebtsModel", name := "state", desc := "(I)I" } : Jvm.MethodName)) ∈ lw_all := lw_g (lw_at lw_m5 88 rfl) rfl
theorem q1136 : (Jvm.Cond.selects "DoughDebtsModel" ({ cls := "DoughDebtsModel", name := "state", desc := "(I)I" } : Jvm.MethodName) ({ cls := "DoughDebtsModel", name := "state", desc := "(I)I" } : Jvm.MethodName)) ∈ lw_all := lw_g (lw_at lw_m5 89 rfl) rfl
theorem q1137 : (Jvm.Cond.code ({ cls := "DoughDebtsModel", name := "state", desc := "(I)I" } : Jvm.MethodName) prog_14_method_7_code (3 : Nat) (Option.some Jvm.ClassFile.FieldType.int)) ∈ lw_all := lw_g (lw_at lw_m5 90 rfl) rfl
theorem q1139 : (Jvm.Cond.instanceMethod ({ cls := "DoughDebtsModel", name := "feed", desc := "(IIIII)I" } : Jvm.MethodName)) ∈ lw_all := lw_g (lw_at lw_m5 92 rfl) rfl
theorem q1140 : (Jvm.Cond.selects "DoughDebtsModel" ({ cls := "DoughDebtsModel", name := "feed", desc := "(IIIII)I" } : Jvm.MethodName) ({ cls := "DoughDebtsModel", name := "feed", desc := "(IIIII)I" } : Jvm.MethodName)) ∈ lw_all := lw_g (lw_at lw_m5 93 rfl) rfl
theorem q1141 : (Jvm.Cond.code ({ cls := "DoughDebtsModel", name := "feed", desc := "(IIIII)I" } : Jvm.MethodName) prog_14_method_9_code (8 : Nat) (Option.some Jvm.ClassFile.FieldType.int)) ∈ lw_all := lw_g (lw_at lw_m5 94 rfl) rfl
theorem q1143 : (Jvm.Cond.instanceMethod ({ cls := "DoughDebtsModel", name := "end", desc := "(I)Z" } : Jvm.MethodName)) ∈ lw_all := lw_g (lw_at lw_m5 96 rfl) rfl
theorem q1144 : (Jvm.Cond.selects "DoughDebtsModel" ({ cls := "DoughDebtsModel", name := "end", desc := "(I)Z" } : Jvm.MethodName) ({ cls := "DoughDebtsModel", name := "end", desc := "(I)Z" } : Jvm.MethodName)) ∈ lw_all := lw_g (lw_at lw_m5 97 rfl) rfl
theorem q1145 : (Jvm.Cond.code ({ cls := "DoughDebtsModel", name := "end", desc := "(I)Z" } : Jvm.MethodName) prog_14_method_10_code (2 : Nat) (Option.some Jvm.ClassFile.FieldType.boolean)) ∈ lw_all := lw_g (lw_at lw_m5 98 rfl) rfl
theorem q1146 : (Jvm.Cond.methodLink "DoughDebtsModel" (66 : Nat) ({ cls := "DoughDebtsModel", name := "isIn", desc := "(III)Z" } : Jvm.MethodName)) ∈ lw_all := lw_g (lw_at lw_m5 99 rfl) rfl
theorem q1147 : (Jvm.Cond.static ({ cls := "DoughDebtsModel", name := "isIn", desc := "(III)Z" } : Jvm.MethodName)) ∈ lw_all := lw_g (lw_at lw_m5 100 rfl) rfl
theorem q1148 : (Jvm.Cond.code ({ cls := "DoughDebtsModel", name := "isIn", desc := "(III)Z" } : Jvm.MethodName) prog_14_method_2_code (3 : Nat) (Option.some Jvm.ClassFile.FieldType.boolean)) ∈ lw_all := lw_g (lw_at lw_m5 101 rfl) rfl
theorem q1150 : (Jvm.Cond.instanceMethod ({ cls := "DoughDebtsModel", name := "text", desc := "()I" } : Jvm.MethodName)) ∈ lw_all := lw_g (lw_at lw_m5 103 rfl) rfl
theorem q1151 : (Jvm.Cond.selects "DoughDebtsModel" ({ cls := "DoughDebtsModel", name := "text", desc := "()I" } : Jvm.MethodName) ({ cls := "DoughDebtsModel", name := "text", desc := "()I" } : Jvm.MethodName)) ∈ lw_all := lw_g (lw_at lw_m5 104 rfl) rfl
theorem q1152 : (Jvm.Cond.code ({ cls := "DoughDebtsModel", name := "text", desc := "()I" } : Jvm.MethodName) prog_14_method_29_code (3 : Nat) (Option.some Jvm.ClassFile.FieldType.int)) ∈ lw_all := lw_g (lw_at lw_m5 105 rfl) rfl
theorem q1153 : (Jvm.Cond.methodLink "DoughDebtsModel" (160 : Nat) ({ cls := "DoughDebtsModel", name := "next0", desc := "()V" } : Jvm.MethodName)) ∈ lw_all := lw_g (lw_at lw_m5 106 rfl) rfl
theorem q1154 : (Jvm.Cond.privateMethod ({ cls := "DoughDebtsModel", name := "next0", desc := "()V" } : Jvm.MethodName)) ∈ lw_tbl := lw_at lw_m5 107 rfl
theorem q1155 : (Jvm.Cond.instanceMethod ({ cls := "DoughDebtsModel", name := "next0", desc := "()V" } : Jvm.MethodName)) ∈ lw_all := lw_g (lw_at lw_m5 108 rfl) rfl
theorem q1156 : (Jvm.Cond.code ({ cls := "DoughDebtsModel", name := "next0", desc := "()V" } : Jvm.MethodName) prog_14_method_17_code (3 : Nat) (Option.none : Option Jvm.ClassFile.FieldType)) ∈ lw_all := lw_g (lw_at lw_m5 109 rfl) rfl
theorem q1157 : (Jvm.Cond.methodLink "DoughDebtsModel" (131 : Nat) ({ cls := "DoughDebtsModel", name := "see", desc := "(I)I" } : Jvm.MethodName)) ∈ lw_all := lw_g (lw_at lw_m5 110 rfl) rfl
theorem q1158 : (Jvm.Cond.privateMethod ({ cls := "DoughDebtsModel", name := "see", desc := "(I)I" } : Jvm.MethodName)) ∈ lw_tbl := lw_at lw_m5 111 rfl
theorem q1159 : (Jvm.Cond.instanceMethod ({ cls := "DoughDebtsModel", name := "see", desc := "(I)I" } : Jvm.MethodName)) ∈ lw_all := lw_g (lw_at lw_m5 112 rfl) rfl
theorem q1160 : (Jvm.Cond.code ({ cls := "DoughDebtsModel", name := "see", desc := "(I)I" } : Jvm.MethodName) prog_14_method_11_code (2 : Nat) (Option.some Jvm.ClassFile.FieldType.int)) ∈ lw_all := lw_g (lw_at lw_m5 113 rfl) rfl
theorem q1161 : (Jvm.Cond.methodLink "DoughDebtsModel" (138 : Nat) ({ cls := "DoughDebtsModel", name := "isLetter", desc := "(I)Z" } : Jvm.MethodName)) ∈ lw_all := lw_g (lw_at lw_m5 114 rfl) rfl
theorem q1162 : (Jvm.Cond.static ({ cls := "DoughDebtsModel", name := "isLetter", desc := "(I)Z" } : Jvm.MethodName)) ∈ lw_all := lw_g (lw_at lw_m5 115 rfl) rfl
theorem q1163 : (Jvm.Cond.code ({ cls := "DoughDebtsModel", name := "isLetter", desc := "(I)Z" } : Jvm.MethodName) prog_14_method_12_code (1 : Nat) (Option.some Jvm.ClassFile.FieldType.boolean)) ∈ lw_all := lw_g (lw_at lw_m5 116 rfl) rfl
theorem q1164 : (Jvm.Cond.methodLink "DoughDebtsModel" (142 : Nat) ({ cls := "DoughDebtsModel", name := "word", desc := "()I" } : Jvm.MethodName)) ∈ lw_all := lw_g (lw_at lw_m5 117 rfl) rfl
theorem q1165 : (Jvm.Cond.privateMethod ({ cls := "DoughDebtsModel", name := "word", desc := "()I" } : Jvm.MethodName)) ∈ lw_tbl := lw_at lw_m5 118 rfl
theorem q1166 : (Jvm.Cond.instanceMethod ({ cls := "DoughDebtsModel", name := "word", desc := "()I" } : Jvm.MethodName)) ∈ lw_all := lw_g (lw_at lw_m5 119 rfl) rfl
theorem q1167 : (Jvm.Cond.code ({ cls := "DoughDebtsModel", name := "word", desc := "()I" } : Jvm.MethodName) prog_14_method_16_code (1 : Nat) (Option.some Jvm.ClassFile.FieldType.int)) ∈ lw_all := lw_g (lw_at lw_m5 120 rfl) rfl
theorem q1168 : (Jvm.Cond.stringRef "DoughDebtsModel" (118 : Nat) "when") ∈ lw_tbl := lw_at lw_m5 121 rfl
theorem q1169 : (Jvm.Cond.methodLink "DoughDebtsModel" (96 : Nat) ({ cls := "DoughDebtsModel", name := "is", desc := "(Ljava/lang/String;)Z" } : Jvm.MethodName)) ∈ lw_all := lw_g (lw_at lw_m5 122 rfl) rfl
theorem q1170 : (Jvm.Cond.privateMethod ({ cls := "DoughDebtsModel", name := "is", desc := "(Ljava/lang/String;)Z" } : Jvm.MethodName)) ∈ lw_tbl := lw_at lw_m5 123 rfl
theorem q1171 : (Jvm.Cond.instanceMethod ({ cls := "DoughDebtsModel", name := "is", desc := "(Ljava/lang/String;)Z" } : Jvm.MethodName)) ∈ lw_all := lw_g (lw_at lw_m5 124 rfl) rfl
theorem q1172 : (Jvm.Cond.code ({ cls := "DoughDebtsModel", name := "is", desc := "(Ljava/lang/String;)Z" } : Jvm.MethodName) prog_14_method_14_code (4 : Nat) (Option.some Jvm.ClassFile.FieldType.boolean)) ∈ lw_all := lw_g (lw_at lw_m5 125 rfl) rfl
theorem q1173 : (Jvm.Cond.methodLink "DoughDebtsModel" (84 : Nat) ({ cls := "java/lang/String", name := "length", desc := "()I" } : Jvm.MethodName)) ∈ lw_all := lw_g (lw_at lw_m5 126 rfl) rfl
theorem q1174 : (Jvm.Cond.methodLink "DoughDebtsModel" (90 : Nat) ({ cls := "java/lang/String", name := "charAt", desc := "(I)C" } : Jvm.MethodName)) ∈ lw_all := lw_g (lw_at lw_m5 127 rfl) rfl
theorem q1175 : (Jvm.Cond.stringRef "DoughDebtsModel" (120 : Nat) "or") ∈ lw_tbl := lw_at lw_m5 128 rfl
theorem q1176 : (Jvm.Cond.stringRef "DoughDebtsModel" (122 : Nat) "and") ∈ lw_tbl := lw_at lw_m5 129 rfl
theorem q1177 : (Jvm.Cond.stringRef "DoughDebtsModel" (124 : Nat) "not") ∈ lw_tbl := lw_at lw_m5 130 rfl
theorem q1178 : (Jvm.Cond.stringRef "DoughDebtsModel" (126 : Nat) "worth") ∈ lw_tbl := lw_at lw_m5 131 rfl
theorem q1179 : (Jvm.Cond.methodLink "DoughDebtsModel" (128 : Nat) ({ cls := "DoughDebtsModel", name := "nameWord", desc := "()I" } : Jvm.MethodName)) ∈ lw_all := lw_g (lw_at lw_m5 132 rfl) rfl
theorem q1180 : (Jvm.Cond.privateMethod ({ cls := "DoughDebtsModel", name := "nameWord", desc := "()I" } : Jvm.MethodName)) ∈ lw_tbl := lw_at lw_m5 133 rfl
theorem q1181 : (Jvm.Cond.instanceMethod ({ cls := "DoughDebtsModel", name := "nameWord", desc := "()I" } : Jvm.MethodName)) ∈ lw_all := lw_g (lw_at lw_m5 134 rfl) rfl
theorem q1182 : (Jvm.Cond.code ({ cls := "DoughDebtsModel", name := "nameWord", desc := "()I" } : Jvm.MethodName) prog_14_method_15_code (1 : Nat) (Option.some Jvm.ClassFile.FieldType.int)) ∈ lw_all := lw_g (lw_at lw_m5 135 rfl) rfl
theorem q1183 : (Jvm.Cond.stringRef "DoughDebtsModel" (94 : Nat) "size") ∈ lw_tbl := lw_at lw_m5 136 rfl
theorem q1184 : (Jvm.Cond.stringRef "DoughDebtsModel" (100 : Nat) "need") ∈ lw_tbl := lw_at lw_m5 137 rfl
theorem q1185 : (Jvm.Cond.stringRef "DoughDebtsModel" (102 : Nat) "dough") ∈ lw_tbl := lw_at lw_m5 138 rfl
theorem q1186 : (Jvm.Cond.stringRef "DoughDebtsModel" (104 : Nat) "bread") ∈ lw_tbl := lw_at lw_m5 139 rfl
theorem q1187 : (Jvm.Cond.stringRef "DoughDebtsModel" (106 : Nat) "wood") ∈ lw_tbl := lw_at lw_m5 140 rfl
theorem q1188 : (Jvm.Cond.stringRef "DoughDebtsModel" (108 : Nat) "first") ∈ lw_tbl := lw_at lw_m5 141 rfl
theorem q1189 : (Jvm.Cond.stringRef "DoughDebtsModel" (110 : Nat) "sour") ∈ lw_tbl := lw_at lw_m5 142 rfl
theorem q1190 : (Jvm.Cond.stringRef "DoughDebtsModel" (112 : Nat) "house") ∈ lw_tbl := lw_at lw_m5 143 rfl
theorem q1191 : (Jvm.Cond.stringRef "DoughDebtsModel" (114 : Nat) "day") ∈ lw_tbl := lw_at lw_m5 144 rfl
theorem q1192 : (Jvm.Cond.stringRef "DoughDebtsModel" (116 : Nat) "owes") ∈ lw_tbl := lw_at lw_m5 145 rfl
theorem q1193 : (Jvm.Cond.methodLink "DoughDebtsModel" (145 : Nat) ({ cls := "DoughDebtsModel", name := "isDigit", desc := "(I)Z" } : Jvm.MethodName)) ∈ lw_all := lw_g (lw_at lw_m5 146 rfl) rfl
theorem q1194 : (Jvm.Cond.static ({ cls := "DoughDebtsModel", name := "isDigit", desc := "(I)Z" } : Jvm.MethodName)) ∈ lw_all := lw_g (lw_at lw_m5 147 rfl) rfl
theorem q1195 : (Jvm.Cond.code ({ cls := "DoughDebtsModel", name := "isDigit", desc := "(I)Z" } : Jvm.MethodName) prog_14_method_13_code (1 : Nat) (Option.some Jvm.ClassFile.FieldType.boolean)) ∈ lw_all := lw_g (lw_at lw_m5 148 rfl) rfl
theorem q1196 : (Jvm.Cond.methodLink "DoughDebtsModel" (200 : Nat) ({ cls := "DoughDebtsModel", name := "aLine", desc := "()Z" } : Jvm.MethodName)) ∈ lw_all := lw_g (lw_at lw_m5 149 rfl) rfl
theorem q1197 : (Jvm.Cond.privateMethod ({ cls := "DoughDebtsModel", name := "aLine", desc := "()Z" } : Jvm.MethodName)) ∈ lw_tbl := lw_at lw_m5 150 rfl
theorem q1198 : (Jvm.Cond.instanceMethod ({ cls := "DoughDebtsModel", name := "aLine", desc := "()Z" } : Jvm.MethodName)) ∈ lw_all := lw_g (lw_at lw_m5 151 rfl) rfl
theorem q1199 : (Jvm.Cond.code ({ cls := "DoughDebtsModel", name := "aLine", desc := "()Z" } : Jvm.MethodName) prog_14_method_28_code (1 : Nat) (Option.some Jvm.ClassFile.FieldType.boolean)) ∈ lw_all := lw_g (lw_at lw_m5 152 rfl) rfl
theorem q1200 : (Jvm.Cond.methodLink "DoughDebtsModel" (157 : Nat) ({ cls := "DoughDebtsModel", name := "bad", desc := "(I)Z" } : Jvm.MethodName)) ∈ lw_all := lw_g (lw_at lw_m5 153 rfl) rfl
theorem q1201 : (Jvm.Cond.privateMethod ({ cls := "DoughDebtsModel", name := "bad", desc := "(I)Z" } : Jvm.MethodName)) ∈ lw_tbl := lw_at lw_m5 154 rfl
theorem q1202 : (Jvm.Cond.instanceMethod ({ cls := "DoughDebtsModel", name := "bad", desc := "(I)Z" } : Jvm.MethodName)) ∈ lw_all := lw_g (lw_at lw_m5 155 rfl) rfl
theorem q1203 : (Jvm.Cond.code ({ cls := "DoughDebtsModel", name := "bad", desc := "(I)Z" } : Jvm.MethodName) prog_14_method_18_code (2 : Nat) (Option.some Jvm.ClassFile.FieldType.boolean)) ∈ lw_all := lw_g (lw_at lw_m5 156 rfl) rfl
theorem q1204 : (Jvm.Cond.methodLink "DoughDebtsModel" (194 : Nat) ({ cls := "DoughDebtsModel", name := "sumUp", desc := "()Z" } : Jvm.MethodName)) ∈ lw_all := lw_g (lw_at lw_m5 157 rfl) rfl
theorem q1205 : (Jvm.Cond.privateMethod ({ cls := "DoughDebtsModel", name := "sumUp", desc := "()Z" } : Jvm.MethodName)) ∈ lw_tbl := lw_at lw_m5 158 rfl
theorem q1206 : (Jvm.Cond.instanceMethod ({ cls := "DoughDebtsModel", name := "sumUp", desc := "()Z" } : Jvm.MethodName)) ∈ lw_all := lw_g (lw_at lw_m5 159 rfl) rfl
theorem q1207 : (Jvm.Cond.code ({ cls := "DoughDebtsModel", name := "sumUp", desc := "()Z" } : Jvm.MethodName) prog_14_method_22_code (2 : Nat) (Option.some Jvm.ClassFile.FieldType.boolean)) ∈ lw_all := lw_g (lw_at lw_m5 160 rfl) rfl
theorem q1208 : (Jvm.Cond.methodLink "DoughDebtsModel" (169 : Nat) ({ cls := "DoughDebtsModel", name := "product", desc := "()Z" } : Jvm.MethodName)) ∈ lw_all := lw_g (lw_at lw_m5 161 rfl) rfl
theorem q1209 : (Jvm.Cond.privateMethod ({ cls := "DoughDebtsModel", name := "product", desc := "()Z" } : Jvm.MethodName)) ∈ lw_tbl := lw_at lw_m5 162 rfl
theorem q1210 : (Jvm.Cond.instanceMethod ({ cls := "DoughDebtsModel", name := "product", desc := "()Z" } : Jvm.MethodName)) ∈ lw_all := lw_g (lw_at lw_m5 163 rfl) rfl
theorem q1211 : (Jvm.Cond.code ({ cls := "DoughDebtsModel", name := "product", desc := "()Z" } : Jvm.MethodName) prog_14_method_23_code (3 : Nat) (Option.some Jvm.ClassFile.FieldType.boolean)) ∈ lw_all := lw_g (lw_at lw_m5 164 rfl) rfl
theorem q1212 : (Jvm.Cond.methodLink "DoughDebtsModel" (177 : Nat) ({ cls := "DoughDebtsModel", name := "unit", desc := "()Z" } : Jvm.MethodName)) ∈ lw_all := lw_g (lw_at lw_m5 165 rfl) rfl
theorem q1213 : (Jvm.Cond.privateMethod ({ cls := "DoughDebtsModel", name := "unit", desc := "()Z" } : Jvm.MethodName)) ∈ lw_tbl := lw_at lw_m5 166 rfl
theorem q1214 : (Jvm.Cond.instanceMethod ({ cls := "DoughDebtsModel", name := "unit", desc := "()Z" } : Jvm.MethodName)) ∈ lw_all := lw_g (lw_at lw_m5 167 rfl) rfl
theorem q1215 : (Jvm.Cond.code ({ cls := "DoughDebtsModel", name := "unit", desc := "()Z" } : Jvm.MethodName) prog_14_method_24_code (2 : Nat) (Option.some Jvm.ClassFile.FieldType.boolean)) ∈ lw_all := lw_g (lw_at lw_m5 168 rfl) rfl
theorem q1216 : (Jvm.Cond.methodLink "DoughDebtsModel" (173 : Nat) ({ cls := "DoughDebtsModel", name := "lay", desc := "(II)V" } : Jvm.MethodName)) ∈ lw_all := lw_g (lw_at lw_m5 169 rfl) rfl
theorem q1217 : (Jvm.Cond.privateMethod ({ cls := "DoughDebtsModel", name := "lay", desc := "(II)V" } : Jvm.MethodName)) ∈ lw_tbl := lw_at lw_m5 170 rfl
theorem q1218 : (Jvm.Cond.instanceMethod ({ cls := "DoughDebtsModel", name := "lay", desc := "(II)V" } : Jvm.MethodName)) ∈ lw_all := lw_g (lw_at lw_m5 171 rfl) rfl
theorem q1219 : (Jvm.Cond.code ({ cls := "DoughDebtsModel", name := "lay", desc := "(II)V" } : Jvm.MethodName) prog_14_method_20_code (3 : Nat) (Option.none : Option Jvm.ClassFile.FieldType)) ∈ lw_all := lw_g (lw_at lw_m5 172 rfl) rfl
theorem q1220 : (Jvm.Cond.methodLink "DoughDebtsModel" (189 : Nat) ({ cls := "DoughDebtsModel", name := "any", desc := "()Z" } : Jvm.MethodName)) ∈ lw_all := lw_g (lw_at lw_m5 173 rfl) rfl
theorem q1221 : (Jvm.Cond.privateMethod ({ cls := "DoughDebtsModel", name := "any", desc := "()Z" } : Jvm.MethodName)) ∈ lw_tbl := lw_at lw_m5 174 rfl
theorem q1222 : (Jvm.Cond.instanceMethod ({ cls := "DoughDebtsModel", name := "any", desc := "()Z" } : Jvm.MethodName)) ∈ lw_all := lw_g (lw_at lw_m5 175 rfl) rfl
theorem q1223 : (Jvm.Cond.code ({ cls := "DoughDebtsModel", name := "any", desc := "()Z" } : Jvm.MethodName) prog_14_method_25_code (1 : Nat) (Option.some Jvm.ClassFile.FieldType.boolean)) ∈ lw_all := lw_g (lw_at lw_m5 176 rfl) rfl
theorem q1224 : (Jvm.Cond.methodLink "DoughDebtsModel" (180 : Nat) ({ cls := "DoughDebtsModel", name := "every", desc := "()Z" } : Jvm.MethodName)) ∈ lw_all := lw_g (lw_at lw_m5 177 rfl) rfl
theorem q1225 : (Jvm.Cond.privateMethod ({ cls := "DoughDebtsModel", name := "every", desc := "()Z" } : Jvm.MethodName)) ∈ lw_tbl := lw_at lw_m5 178 rfl
theorem q1226 : (Jvm.Cond.instanceMethod ({ cls := "DoughDebtsModel", name := "every", desc := "()Z" } : Jvm.MethodName)) ∈ lw_all := lw_g (lw_at lw_m5 179 rfl) rfl
theorem q1227 : (Jvm.Cond.code ({ cls := "DoughDebtsModel", name := "every", desc := "()Z" } : Jvm.MethodName) prog_14_method_26_code (1 : Nat) (Option.some Jvm.ClassFile.FieldType.boolean)) ∈ lw_all := lw_g (lw_at lw_m5 180 rfl) rfl
theorem q1228 : (Jvm.Cond.methodLink "DoughDebtsModel" (183 : Nat) ({ cls := "DoughDebtsModel", name := "oneTest", desc := "()Z" } : Jvm.MethodName)) ∈ lw_all := lw_g (lw_at lw_m5 181 rfl) rfl
theorem q1229 : (Jvm.Cond.privateMethod ({ cls := "DoughDebtsModel", name := "oneTest", desc := "()Z" } : Jvm.MethodName)) ∈ lw_tbl := lw_at lw_m5 182 rfl
theorem q1230 : (Jvm.Cond.instanceMethod ({ cls := "DoughDebtsModel", name := "oneTest", desc := "()Z" } : Jvm.MethodName)) ∈ lw_all := lw_g (lw_at lw_m5 183 rfl) rfl
theorem q1231 : (Jvm.Cond.code ({ cls := "DoughDebtsModel", name := "oneTest", desc := "()Z" } : Jvm.MethodName) prog_14_method_27_code (2 : Nat) (Option.some Jvm.ClassFile.FieldType.boolean)) ∈ lw_all := lw_g (lw_at lw_m5 184 rfl) rfl
theorem q1232 : (Jvm.Cond.methodLink "DoughDebtsModel" (186 : Nat) ({ cls := "DoughDebtsModel", name := "opens", desc := "()Z" } : Jvm.MethodName)) ∈ lw_all := lw_g (lw_at lw_m5 185 rfl) rfl
theorem q1233 : (Jvm.Cond.privateMethod ({ cls := "DoughDebtsModel", name := "opens", desc := "()Z" } : Jvm.MethodName)) ∈ lw_tbl := lw_at lw_m5 186 rfl
theorem q1234 : (Jvm.Cond.instanceMethod ({ cls := "DoughDebtsModel", name := "opens", desc := "()Z" } : Jvm.MethodName)) ∈ lw_all := lw_g (lw_at lw_m5 187 rfl) rfl
theorem q1235 : (Jvm.Cond.code ({ cls := "DoughDebtsModel", name := "opens", desc := "()Z" } : Jvm.MethodName) prog_14_method_21_code (1 : Nat) (Option.some Jvm.ClassFile.FieldType.boolean)) ∈ lw_all := lw_g (lw_at lw_m5 188 rfl) rfl
theorem q1236 : (Jvm.Cond.methodLink "DoughDebtsModel" (192 : Nat) ({ cls := "DoughDebtsModel", name := "need", desc := "(I)Z" } : Jvm.MethodName)) ∈ lw_all := lw_g (lw_at lw_m5 189 rfl) rfl
theorem q1237 : (Jvm.Cond.privateMethod ({ cls := "DoughDebtsModel", name := "need", desc := "(I)Z" } : Jvm.MethodName)) ∈ lw_tbl := lw_at lw_m5 190 rfl
theorem q1238 : (Jvm.Cond.instanceMethod ({ cls := "DoughDebtsModel", name := "need", desc := "(I)Z" } : Jvm.MethodName)) ∈ lw_all := lw_g (lw_at lw_m5 191 rfl) rfl
theorem q1239 : (Jvm.Cond.code ({ cls := "DoughDebtsModel", name := "need", desc := "(I)Z" } : Jvm.MethodName) prog_14_method_19_code (2 : Nat) (Option.some Jvm.ClassFile.FieldType.boolean)) ∈ lw_all := lw_g (lw_at lw_m5 192 rfl) rfl
theorem q1241 : (Jvm.Cond.instanceMethod ({ cls := "DoughDebtsModel", name := "fault", desc := "(I)I" } : Jvm.MethodName)) ∈ lw_all := lw_g (lw_at lw_m5 194 rfl) rfl
theorem q1242 : (Jvm.Cond.selects "DoughDebtsModel" ({ cls := "DoughDebtsModel", name := "fault", desc := "(I)I" } : Jvm.MethodName) ({ cls := "DoughDebtsModel", name := "fault", desc := "(I)I" } : Jvm.MethodName)) ∈ lw_all := lw_g (lw_at lw_m5 195 rfl) rfl
theorem q1243 : (Jvm.Cond.code ({ cls := "DoughDebtsModel", name := "fault", desc := "(I)I" } : Jvm.MethodName) prog_14_method_30_code (2 : Nat) (Option.some Jvm.ClassFile.FieldType.int)) ∈ lw_all := lw_g (lw_at lw_m5 196 rfl) rfl
theorem q1245 : (Jvm.Cond.instanceMethod ({ cls := "DoughDebtsModel", name := "house", desc := "(III)I" } : Jvm.MethodName)) ∈ lw_all := lw_g (lw_at lw_m5 198 rfl) rfl
theorem q1246 : (Jvm.Cond.selects "DoughDebtsModel" ({ cls := "DoughDebtsModel", name := "house", desc := "(III)I" } : Jvm.MethodName) ({ cls := "DoughDebtsModel", name := "house", desc := "(III)I" } : Jvm.MethodName)) ∈ lw_all := lw_g (lw_at lw_m5 199 rfl) rfl
theorem q1247 : (Jvm.Cond.code ({ cls := "DoughDebtsModel", name := "house", desc := "(III)I" } : Jvm.MethodName) prog_14_method_34_code (7 : Nat) (Option.some Jvm.ClassFile.FieldType.int)) ∈ lw_all := lw_g (lw_at lw_m5 200 rfl) rfl
theorem q1248 : (Jvm.Cond.methodLink "DoughDebtsModel" (210 : Nat) ({ cls := "DoughDebtsModel", name := "takesRow", desc := "()I" } : Jvm.MethodName)) ∈ lw_all := lw_g (lw_at lw_m5 201 rfl) rfl
theorem q1249 : (Jvm.Cond.privateMethod ({ cls := "DoughDebtsModel", name := "takesRow", desc := "()I" } : Jvm.MethodName)) ∈ lw_tbl := lw_at lw_m5 202 rfl
theorem q1250 : (Jvm.Cond.instanceMethod ({ cls := "DoughDebtsModel", name := "takesRow", desc := "()I" } : Jvm.MethodName)) ∈ lw_all := lw_g (lw_at lw_m5 203 rfl) rfl
theorem q1251 : (Jvm.Cond.code ({ cls := "DoughDebtsModel", name := "takesRow", desc := "()I" } : Jvm.MethodName) prog_14_method_33_code (3 : Nat) (Option.some Jvm.ClassFile.FieldType.int)) ∈ lw_all := lw_g (lw_at lw_m5 204 rfl) rfl
theorem q1252 : (Jvm.Cond.methodLink "DoughDebtsModel" (213 : Nat) ({ cls := "DoughDebtsModel", name := "forgets", desc := "()V" } : Jvm.MethodName)) ∈ lw_all := lw_g (lw_at lw_m5 205 rfl) rfl
theorem q1253 : (Jvm.Cond.privateMethod ({ cls := "DoughDebtsModel", name := "forgets", desc := "()V" } : Jvm.MethodName)) ∈ lw_tbl := lw_at lw_m5 206 rfl
theorem q1254 : (Jvm.Cond.instanceMethod ({ cls := "DoughDebtsModel", name := "forgets", desc := "()V" } : Jvm.MethodName)) ∈ lw_all := lw_g (lw_at lw_m5 207 rfl) rfl
theorem q1255 : (Jvm.Cond.code ({ cls := "DoughDebtsModel", name := "forgets", desc := "()V" } : Jvm.MethodName) prog_14_method_6_code (1 : Nat) (Option.none : Option Jvm.ClassFile.FieldType)) ∈ lw_all := lw_g (lw_at lw_m5 208 rfl) rfl
theorem q1257 : (Jvm.Cond.instanceMethod ({ cls := "DoughDebtsModel", name := "give", desc := "(II)Z" } : Jvm.MethodName)) ∈ lw_all := lw_g (lw_at lw_m5 210 rfl) rfl
theorem q1258 : (Jvm.Cond.selects "DoughDebtsModel" ({ cls := "DoughDebtsModel", name := "give", desc := "(II)Z" } : Jvm.MethodName) ({ cls := "DoughDebtsModel", name := "give", desc := "(II)Z" } : Jvm.MethodName)) ∈ lw_all := lw_g (lw_at lw_m5 211 rfl) rfl
theorem q1259 : (Jvm.Cond.code ({ cls := "DoughDebtsModel", name := "give", desc := "(II)Z" } : Jvm.MethodName) prog_14_method_35_code (3 : Nat) (Option.some Jvm.ClassFile.FieldType.boolean)) ∈ lw_all := lw_g (lw_at lw_m5 212 rfl) rfl
theorem q1260 : (Jvm.Cond.methodLink "DoughDebtsModel" (216 : Nat) ({ cls := "DoughDebtsModel", name := "isHouse", desc := "(I)Z" } : Jvm.MethodName)) ∈ lw_all := lw_g (lw_at lw_m5 213 rfl) rfl
theorem q1261 : (Jvm.Cond.privateMethod ({ cls := "DoughDebtsModel", name := "isHouse", desc := "(I)Z" } : Jvm.MethodName)) ∈ lw_tbl := lw_at lw_m5 214 rfl
theorem q1262 : (Jvm.Cond.instanceMethod ({ cls := "DoughDebtsModel", name := "isHouse", desc := "(I)Z" } : Jvm.MethodName)) ∈ lw_all := lw_g (lw_at lw_m5 215 rfl) rfl
theorem q1263 : (Jvm.Cond.code ({ cls := "DoughDebtsModel", name := "isHouse", desc := "(I)Z" } : Jvm.MethodName) prog_14_method_3_code (2 : Nat) (Option.some Jvm.ClassFile.FieldType.boolean)) ∈ lw_all := lw_g (lw_at lw_m5 216 rfl) rfl
theorem q1264 : (Jvm.Cond.constant "DoughDebtsModel" (219 : Nat) (99999 : Int32)) ∈ lw_all := lw_g (lw_at lw_m5 217 rfl) rfl
theorem q1265 : (Jvm.Cond.methodLink "DoughDebtsModel" (220 : Nat) ({ cls := "DoughDebtsModel", name := "own", desc := "(II)I" } : Jvm.MethodName)) ∈ lw_all := lw_g (lw_at lw_m5 218 rfl) rfl
theorem q1266 : (Jvm.Cond.privateMethod ({ cls := "DoughDebtsModel", name := "own", desc := "(II)I" } : Jvm.MethodName)) ∈ lw_tbl := lw_at lw_m5 219 rfl
theorem q1267 : (Jvm.Cond.instanceMethod ({ cls := "DoughDebtsModel", name := "own", desc := "(II)I" } : Jvm.MethodName)) ∈ lw_all := lw_g (lw_at lw_m5 220 rfl) rfl
theorem q1268 : (Jvm.Cond.code ({ cls := "DoughDebtsModel", name := "own", desc := "(II)I" } : Jvm.MethodName) prog_14_method_4_code (3 : Nat) (Option.some Jvm.ClassFile.FieldType.int)) ∈ lw_all := lw_g (lw_at lw_m5 221 rfl) rfl
theorem q1269 : (Jvm.Cond.constant "DoughDebtsModel" (224 : Nat) (999999 : Int32)) ∈ lw_all := lw_g (lw_at lw_m5 222 rfl) rfl
theorem q1270 : (Jvm.Cond.methodLink "DoughDebtsModel" (225 : Nat) ({ cls := "DoughDebtsModel", name := "adds", desc := "(III)V" } : Jvm.MethodName)) ∈ lw_all := lw_g (lw_at lw_m5 223 rfl) rfl
theorem q1271 : (Jvm.Cond.privateMethod ({ cls := "DoughDebtsModel", name := "adds", desc := "(III)V" } : Jvm.MethodName)) ∈ lw_tbl := lw_at lw_m5 224 rfl
theorem q1272 : (Jvm.Cond.instanceMethod ({ cls := "DoughDebtsModel", name := "adds", desc := "(III)V" } : Jvm.MethodName)) ∈ lw_all := lw_g (lw_at lw_m5 225 rfl) rfl
theorem q1273 : (Jvm.Cond.code ({ cls := "DoughDebtsModel", name := "adds", desc := "(III)V" } : Jvm.MethodName) prog_14_method_5_code (4 : Nat) (Option.none : Option Jvm.ClassFile.FieldType)) ∈ lw_all := lw_g (lw_at lw_m5 226 rfl) rfl
theorem q1275 : (Jvm.Cond.instanceMethod ({ cls := "DoughDebtsModel", name := "set", desc := "(II)Z" } : Jvm.MethodName)) ∈ lw_all := lw_g (lw_at lw_m5 228 rfl) rfl
theorem q1276 : (Jvm.Cond.selects "DoughDebtsModel" ({ cls := "DoughDebtsModel", name := "set", desc := "(II)Z" } : Jvm.MethodName) ({ cls := "DoughDebtsModel", name := "set", desc := "(II)Z" } : Jvm.MethodName)) ∈ lw_all := lw_g (lw_at lw_m5 229 rfl) rfl
theorem q1277 : (Jvm.Cond.code ({ cls := "DoughDebtsModel", name := "set", desc := "(II)Z" } : Jvm.MethodName) prog_14_method_36_code (3 : Nat) (Option.some Jvm.ClassFile.FieldType.boolean)) ∈ lw_all := lw_g (lw_at lw_m5 230 rfl) rfl
theorem q1279 : (Jvm.Cond.instanceMethod ({ cls := "DoughDebtsModel", name := "order", desc := "(I)I" } : Jvm.MethodName)) ∈ lw_all := lw_g (lw_at lw_m5 232 rfl) rfl
theorem q1280 : (Jvm.Cond.selects "DoughDebtsModel" ({ cls := "DoughDebtsModel", name := "order", desc := "(I)I" } : Jvm.MethodName) ({ cls := "DoughDebtsModel", name := "order", desc := "(I)I" } : Jvm.MethodName)) ∈ lw_all := lw_g (lw_at lw_m5 233 rfl) rfl
theorem q1281 : (Jvm.Cond.code ({ cls := "DoughDebtsModel", name := "order", desc := "(I)I" } : Jvm.MethodName) prog_14_method_41_code (2 : Nat) (Option.some Jvm.ClassFile.FieldType.int)) ∈ lw_all := lw_g (lw_at lw_m5 234 rfl) rfl
theorem q1282 : (Jvm.Cond.methodLink "DoughDebtsModel" (240 : Nat) ({ cls := "DoughDebtsModel", name := "laysOrder", desc := "(Z)V" } : Jvm.MethodName)) ∈ lw_all := lw_g (lw_at lw_m5 235 rfl) rfl
theorem q1283 : (Jvm.Cond.privateMethod ({ cls := "DoughDebtsModel", name := "laysOrder", desc := "(Z)V" } : Jvm.MethodName)) ∈ lw_tbl := lw_at lw_m5 236 rfl
theorem q1284 : (Jvm.Cond.instanceMethod ({ cls := "DoughDebtsModel", name := "laysOrder", desc := "(Z)V" } : Jvm.MethodName)) ∈ lw_all := lw_g (lw_at lw_m5 237 rfl) rfl
theorem q1285 : (Jvm.Cond.code ({ cls := "DoughDebtsModel", name := "laysOrder", desc := "(Z)V" } : Jvm.MethodName) prog_14_method_40_code (6 : Nat) (Option.none : Option Jvm.ClassFile.FieldType)) ∈ lw_all := lw_g (lw_at lw_m5 238 rfl) rfl
theorem q1286 : (Jvm.Cond.methodLink "DoughDebtsModel" (238 : Nat) ({ cls := "DoughDebtsModel", name := "worth", desc := "(I)I" } : Jvm.MethodName)) ∈ lw_all := lw_g (lw_at lw_m5 239 rfl) rfl
theorem q1287 : (Jvm.Cond.privateMethod ({ cls := "DoughDebtsModel", name := "worth", desc := "(I)I" } : Jvm.MethodName)) ∈ lw_tbl := lw_at lw_m6 0 rfl
theorem q1288 : (Jvm.Cond.instanceMethod ({ cls := "DoughDebtsModel", name := "worth", desc := "(I)I" } : Jvm.MethodName)) ∈ lw_all := lw_g (lw_at lw_m6 1 rfl) rfl
theorem q1289 : (Jvm.Cond.code ({ cls := "DoughDebtsModel", name := "worth", desc := "(I)I" } : Jvm.MethodName) prog_14_method_39_code (3 : Nat) (Option.some Jvm.ClassFile.FieldType.int)) ∈ lw_all := lw_g (lw_at lw_m6 2 rfl) rfl
theorem q1290 : (Jvm.Cond.methodLink "DoughDebtsModel" (232 : Nat) ({ cls := "DoughDebtsModel", name := "net", desc := "(I)I" } : Jvm.MethodName)) ∈ lw_all := lw_g (lw_at lw_m6 3 rfl) rfl
theorem q1291 : (Jvm.Cond.privateMethod ({ cls := "DoughDebtsModel", name := "net", desc := "(I)I" } : Jvm.MethodName)) ∈ lw_tbl := lw_at lw_m6 4 rfl
theorem q1292 : (Jvm.Cond.instanceMethod ({ cls := "DoughDebtsModel", name := "net", desc := "(I)I" } : Jvm.MethodName)) ∈ lw_all := lw_g (lw_at lw_m6 5 rfl) rfl
theorem q1293 : (Jvm.Cond.code ({ cls := "DoughDebtsModel", name := "net", desc := "(I)I" } : Jvm.MethodName) prog_14_method_38_code (4 : Nat) (Option.some Jvm.ClassFile.FieldType.int)) ∈ lw_all := lw_g (lw_at lw_m6 6 rfl) rfl
theorem q1294 : (Jvm.Cond.methodLink "DoughDebtsModel" (229 : Nat) ({ cls := "DoughDebtsModel", name := "debt", desc := "(II)I" } : Jvm.MethodName)) ∈ lw_all := lw_g (lw_at lw_m6 7 rfl) rfl
theorem q1295 : (Jvm.Cond.privateMethod ({ cls := "DoughDebtsModel", name := "debt", desc := "(II)I" } : Jvm.MethodName)) ∈ lw_tbl := lw_at lw_m6 8 rfl
theorem q1296 : (Jvm.Cond.instanceMethod ({ cls := "DoughDebtsModel", name := "debt", desc := "(II)I" } : Jvm.MethodName)) ∈ lw_all := lw_g (lw_at lw_m6 9 rfl) rfl
theorem q1297 : (Jvm.Cond.code ({ cls := "DoughDebtsModel", name := "debt", desc := "(II)I" } : Jvm.MethodName) prog_14_method_37_code (3 : Nat) (Option.some Jvm.ClassFile.FieldType.int)) ∈ lw_all := lw_g (lw_at lw_m6 10 rfl) rfl
theorem q1298 : (Jvm.Cond.methodLink "DoughDebtsModel" (235 : Nat) ({ cls := "DoughDebtsModel", name := "comesTo", desc := "(II)I" } : Jvm.MethodName)) ∈ lw_all := lw_g (lw_at lw_m6 11 rfl) rfl
theorem q1299 : (Jvm.Cond.privateMethod ({ cls := "DoughDebtsModel", name := "comesTo", desc := "(II)I" } : Jvm.MethodName)) ∈ lw_tbl := lw_at lw_m6 12 rfl
theorem q1300 : (Jvm.Cond.instanceMethod ({ cls := "DoughDebtsModel", name := "comesTo", desc := "(II)I" } : Jvm.MethodName)) ∈ lw_all := lw_g (lw_at lw_m6 13 rfl) rfl
theorem q1301 : (Jvm.Cond.code ({ cls := "DoughDebtsModel", name := "comesTo", desc := "(II)I" } : Jvm.MethodName) prog_14_method_32_code (7 : Nat) (Option.some Jvm.ClassFile.FieldType.int)) ∈ lw_all := lw_g (lw_at lw_m6 14 rfl) rfl
theorem q1302 : (Jvm.Cond.methodLink "DoughDebtsModel" (206 : Nat) ({ cls := "DoughDebtsModel", name := "both", desc := "(III)I" } : Jvm.MethodName)) ∈ lw_all := lw_g (lw_at lw_m6 15 rfl) rfl
theorem q1303 : (Jvm.Cond.static ({ cls := "DoughDebtsModel", name := "both", desc := "(III)I" } : Jvm.MethodName)) ∈ lw_all := lw_g (lw_at lw_m6 16 rfl) rfl
theorem q1304 : (Jvm.Cond.code ({ cls := "DoughDebtsModel", name := "both", desc := "(III)I" } : Jvm.MethodName) prog_14_method_31_code (3 : Nat) (Option.some Jvm.ClassFile.FieldType.int)) ∈ lw_all := lw_g (lw_at lw_m6 17 rfl) rfl
theorem q1306 : (Jvm.Cond.instanceMethod ({ cls := "DoughDebtsModel", name := "days", desc := "(I)I" } : Jvm.MethodName)) ∈ lw_all := lw_g (lw_at lw_m6 19 rfl) rfl
theorem q1307 : (Jvm.Cond.selects "DoughDebtsModel" ({ cls := "DoughDebtsModel", name := "days", desc := "(I)I" } : Jvm.MethodName) ({ cls := "DoughDebtsModel", name := "days", desc := "(I)I" } : Jvm.MethodName)) ∈ lw_all := lw_g (lw_at lw_m6 20 rfl) rfl
theorem q1308 : (Jvm.Cond.code ({ cls := "DoughDebtsModel", name := "days", desc := "(I)I" } : Jvm.MethodName) prog_14_method_45_code (5 : Nat) (Option.some Jvm.ClassFile.FieldType.int)) ∈ lw_all := lw_g (lw_at lw_m6 21 rfl) rfl
theorem q1309 : (Jvm.Cond.methodLink "DoughDebtsModel" (256 : Nat) ({ cls := "DoughDebtsModel", name := "aDay", desc := "()I" } : Jvm.MethodName)) ∈ lw_all := lw_g (lw_at lw_m6 22 rfl) rfl
theorem q1310 : (Jvm.Cond.privateMethod ({ cls := "DoughDebtsModel", name := "aDay", desc := "()I" } : Jvm.MethodName)) ∈ lw_tbl := lw_at lw_m6 23 rfl
theorem q1311 : (Jvm.Cond.instanceMethod ({ cls := "DoughDebtsModel", name := "aDay", desc := "()I" } : Jvm.MethodName)) ∈ lw_all := lw_g (lw_at lw_m6 24 rfl) rfl
theorem q1312 : (Jvm.Cond.code ({ cls := "DoughDebtsModel", name := "aDay", desc := "()I" } : Jvm.MethodName) prog_14_method_44_code (8 : Nat) (Option.some Jvm.ClassFile.FieldType.int)) ∈ lw_all := lw_g (lw_at lw_m6 25 rfl) rfl
theorem q1313 : (Jvm.Cond.methodLink "DoughDebtsModel" (250 : Nat) ({ cls := "DoughDebtsModel", name := "draw", desc := "(I)I" } : Jvm.MethodName)) ∈ lw_all := lw_g (lw_at lw_m6 26 rfl) rfl
theorem q1314 : (Jvm.Cond.privateMethod ({ cls := "DoughDebtsModel", name := "draw", desc := "(I)I" } : Jvm.MethodName)) ∈ lw_tbl := lw_at lw_m6 27 rfl
theorem q1315 : (Jvm.Cond.instanceMethod ({ cls := "DoughDebtsModel", name := "draw", desc := "(I)I" } : Jvm.MethodName)) ∈ lw_all := lw_g (lw_at lw_m6 28 rfl) rfl
theorem q1316 : (Jvm.Cond.code ({ cls := "DoughDebtsModel", name := "draw", desc := "(I)I" } : Jvm.MethodName) prog_14_method_8_code (2 : Nat) (Option.some Jvm.ClassFile.FieldType.int)) ∈ lw_all := lw_g (lw_at lw_m6 29 rfl) rfl
theorem q1317 : (Jvm.Cond.constant "DoughDebtsModel" (73 : Nat) (1664525 : Int32)) ∈ lw_all := lw_g (lw_at lw_m6 30 rfl) rfl
theorem q1318 : (Jvm.Cond.constant "DoughDebtsModel" (74 : Nat) (1013904223 : Int32)) ∈ lw_all := lw_g (lw_at lw_m6 31 rfl) rfl
theorem q1319 : (Jvm.Cond.methodLink "DoughDebtsModel" (244 : Nat) ({ cls := "DoughDebtsModel", name := "loaf", desc := "(I)I" } : Jvm.MethodName)) ∈ lw_all := lw_g (lw_at lw_m6 32 rfl) rfl
theorem q1320 : (Jvm.Cond.privateMethod ({ cls := "DoughDebtsModel", name := "loaf", desc := "(I)I" } : Jvm.MethodName)) ∈ lw_tbl := lw_at lw_m6 33 rfl
theorem q1321 : (Jvm.Cond.instanceMethod ({ cls := "DoughDebtsModel", name := "loaf", desc := "(I)I" } : Jvm.MethodName)) ∈ lw_all := lw_g (lw_at lw_m6 34 rfl) rfl
theorem q1322 : (Jvm.Cond.code ({ cls := "DoughDebtsModel", name := "loaf", desc := "(I)I" } : Jvm.MethodName) prog_14_method_42_code (2 : Nat) (Option.some Jvm.ClassFile.FieldType.int)) ∈ lw_all := lw_g (lw_at lw_m6 35 rfl) rfl
theorem q1323 : (Jvm.Cond.methodLink "DoughDebtsModel" (253 : Nat) ({ cls := "DoughDebtsModel", name := "heats", desc := "(I)I" } : Jvm.MethodName)) ∈ lw_all := lw_g (lw_at lw_m6 36 rfl) rfl
theorem q1324 : (Jvm.Cond.privateMethod ({ cls := "DoughDebtsModel", name := "heats", desc := "(I)I" } : Jvm.MethodName)) ∈ lw_tbl := lw_at lw_m6 37 rfl
theorem q1325 : (Jvm.Cond.instanceMethod ({ cls := "DoughDebtsModel", name := "heats", desc := "(I)I" } : Jvm.MethodName)) ∈ lw_all := lw_g (lw_at lw_m6 38 rfl) rfl
theorem q1326 : (Jvm.Cond.code ({ cls := "DoughDebtsModel", name := "heats", desc := "(I)I" } : Jvm.MethodName) prog_14_method_43_code (3 : Nat) (Option.some Jvm.ClassFile.FieldType.int)) ∈ lw_all := lw_g (lw_at lw_m6 39 rfl) rfl
theorem q1328 : (Jvm.Cond.instanceMethod ({ cls := "DoughDebtsModel", name := "undo", desc := "()Z" } : Jvm.MethodName)) ∈ lw_all := lw_g (lw_at lw_m6 41 rfl) rfl
theorem q1329 : (Jvm.Cond.selects "DoughDebtsModel" ({ cls := "DoughDebtsModel", name := "undo", desc := "()Z" } : Jvm.MethodName) ({ cls := "DoughDebtsModel", name := "undo", desc := "()Z" } : Jvm.MethodName)) ∈ lw_all := lw_g (lw_at lw_m6 42 rfl) rfl
theorem q1330 : (Jvm.Cond.code ({ cls := "DoughDebtsModel", name := "undo", desc := "()Z" } : Jvm.MethodName) prog_14_method_46_code (2 : Nat) (Option.some Jvm.ClassFile.FieldType.boolean)) ∈ lw_all := lw_g (lw_at lw_m6 43 rfl) rfl
theorem q1332 : (Jvm.Cond.instanceMethod ({ cls := "DoughDebtsModel", name := "of", desc := "(II)I" } : Jvm.MethodName)) ∈ lw_all := lw_g (lw_at lw_m6 45 rfl) rfl
theorem q1333 : (Jvm.Cond.selects "DoughDebtsModel" ({ cls := "DoughDebtsModel", name := "of", desc := "(II)I" } : Jvm.MethodName) ({ cls := "DoughDebtsModel", name := "of", desc := "(II)I" } : Jvm.MethodName)) ∈ lw_all := lw_g (lw_at lw_m6 46 rfl) rfl
theorem q1334 : (Jvm.Cond.code ({ cls := "DoughDebtsModel", name := "of", desc := "(II)I" } : Jvm.MethodName) prog_14_method_47_code (3 : Nat) (Option.some Jvm.ClassFile.FieldType.int)) ∈ lw_all := lw_g (lw_at lw_m6 47 rfl) rfl
theorem q1335 : (Jvm.Cond.constant "DoughDebtsModel" (259 : Nat) (-1000000000 : Int32)) ∈ lw_all := lw_g (lw_at lw_m6 48 rfl) rfl
theorem q1337 : (Jvm.Cond.instanceMethod ({ cls := "DoughDebtsModel", name := "book", desc := "(I)I" } : Jvm.MethodName)) ∈ lw_all := lw_g (lw_at lw_m6 50 rfl) rfl
theorem q1338 : (Jvm.Cond.selects "DoughDebtsModel" ({ cls := "DoughDebtsModel", name := "book", desc := "(I)I" } : Jvm.MethodName) ({ cls := "DoughDebtsModel", name := "book", desc := "(I)I" } : Jvm.MethodName)) ∈ lw_all := lw_g (lw_at lw_m6 51 rfl) rfl
theorem q1339 : (Jvm.Cond.code ({ cls := "DoughDebtsModel", name := "book", desc := "(I)I" } : Jvm.MethodName) prog_14_method_48_code (2 : Nat) (Option.some Jvm.ClassFile.FieldType.int)) ∈ lw_all := lw_g (lw_at lw_m6 52 rfl) rfl
theorem q1341 : (Jvm.Cond.instanceMethod ({ cls := "DoughDebtsModel", name := "gain", desc := "(I)I" } : Jvm.MethodName)) ∈ lw_all := lw_g (lw_at lw_m6 54 rfl) rfl
theorem q1342 : (Jvm.Cond.selects "DoughDebtsModel" ({ cls := "DoughDebtsModel", name := "gain", desc := "(I)I" } : Jvm.MethodName) ({ cls := "DoughDebtsModel", name := "gain", desc := "(I)I" } : Jvm.MethodName)) ∈ lw_all := lw_g (lw_at lw_m6 55 rfl) rfl
theorem q1343 : (Jvm.Cond.code ({ cls := "DoughDebtsModel", name := "gain", desc := "(I)I" } : Jvm.MethodName) prog_14_method_51_code (7 : Nat) (Option.some Jvm.ClassFile.FieldType.int)) ∈ lw_all := lw_g (lw_at lw_m6 56 rfl) rfl
theorem q1344 : (Jvm.Cond.methodLink "DoughDebtsModel" (260 : Nat) ({ cls := "DoughDebtsModel", name := "bakes", desc := "()I" } : Jvm.MethodName)) ∈ lw_all := lw_g (lw_at lw_m6 57 rfl) rfl
theorem q1345 : (Jvm.Cond.privateMethod ({ cls := "DoughDebtsModel", name := "bakes", desc := "()I" } : Jvm.MethodName)) ∈ lw_tbl := lw_at lw_m6 58 rfl
theorem q1346 : (Jvm.Cond.instanceMethod ({ cls := "DoughDebtsModel", name := "bakes", desc := "()I" } : Jvm.MethodName)) ∈ lw_all := lw_g (lw_at lw_m6 59 rfl) rfl
theorem q1347 : (Jvm.Cond.code ({ cls := "DoughDebtsModel", name := "bakes", desc := "()I" } : Jvm.MethodName) prog_14_method_49_code (3 : Nat) (Option.some Jvm.ClassFile.FieldType.int)) ∈ lw_all := lw_g (lw_at lw_m6 60 rfl) rfl
theorem q1348 : (Jvm.Cond.methodLink "DoughDebtsModel" (263 : Nat) ({ cls := "DoughDebtsModel", name := "gainAt", desc := "(I)I" } : Jvm.MethodName)) ∈ lw_all := lw_g (lw_at lw_m6 61 rfl) rfl
theorem q1349 : (Jvm.Cond.privateMethod ({ cls := "DoughDebtsModel", name := "gainAt", desc := "(I)I" } : Jvm.MethodName)) ∈ lw_tbl := lw_at lw_m6 62 rfl
theorem q1350 : (Jvm.Cond.instanceMethod ({ cls := "DoughDebtsModel", name := "gainAt", desc := "(I)I" } : Jvm.MethodName)) ∈ lw_all := lw_g (lw_at lw_m6 63 rfl) rfl
theorem q1351 : (Jvm.Cond.code ({ cls := "DoughDebtsModel", name := "gainAt", desc := "(I)I" } : Jvm.MethodName) prog_14_method_50_code (3 : Nat) (Option.some Jvm.ClassFile.FieldType.int)) ∈ lw_all := lw_g (lw_at lw_m6 64 rfl) rfl
theorem q1353 : (Jvm.Cond.instanceMethod ({ cls := "DoughDebtsModel", name := "orders", desc := "(I)I" } : Jvm.MethodName)) ∈ lw_all := lw_g (lw_at lw_m6 66 rfl) rfl
theorem q1354 : (Jvm.Cond.selects "DoughDebtsModel" ({ cls := "DoughDebtsModel", name := "orders", desc := "(I)I" } : Jvm.MethodName) ({ cls := "DoughDebtsModel", name := "orders", desc := "(I)I" } : Jvm.MethodName)) ∈ lw_all := lw_g (lw_at lw_m6 67 rfl) rfl
theorem q1355 : (Jvm.Cond.code ({ cls := "DoughDebtsModel", name := "orders", desc := "(I)I" } : Jvm.MethodName) prog_14_method_57_code (2 : Nat) (Option.some Jvm.ClassFile.FieldType.int)) ∈ lw_all := lw_g (lw_at lw_m6 68 rfl) rfl
theorem q1356 : (Jvm.Cond.methodLink "DoughDebtsModel" (285 : Nat) ({ cls := "DoughDebtsModel", name := "isTold", desc := "(I)Z" } : Jvm.MethodName)) ∈ lw_all := lw_g (lw_at lw_m6 69 rfl) rfl
theorem q1357 : (Jvm.Cond.privateMethod ({ cls := "DoughDebtsModel", name := "isTold", desc := "(I)Z" } : Jvm.MethodName)) ∈ lw_tbl := lw_at lw_m6 70 rfl
theorem q1358 : (Jvm.Cond.instanceMethod ({ cls := "DoughDebtsModel", name := "isTold", desc := "(I)Z" } : Jvm.MethodName)) ∈ lw_all := lw_g (lw_at lw_m6 71 rfl) rfl
theorem q1359 : (Jvm.Cond.code ({ cls := "DoughDebtsModel", name := "isTold", desc := "(I)Z" } : Jvm.MethodName) prog_14_method_56_code (2 : Nat) (Option.some Jvm.ClassFile.FieldType.boolean)) ∈ lw_all := lw_g (lw_at lw_m6 72 rfl) rfl
theorem q1360 : (Jvm.Cond.methodLink "DoughDebtsModel" (273 : Nat) ({ cls := "DoughDebtsModel", name := "goesThrough", desc := "(II)V" } : Jvm.MethodName)) ∈ lw_all := lw_g (lw_at lw_m6 73 rfl) rfl
theorem q1361 : (Jvm.Cond.privateMethod ({ cls := "DoughDebtsModel", name := "goesThrough", desc := "(II)V" } : Jvm.MethodName)) ∈ lw_tbl := lw_at lw_m6 74 rfl
theorem q1362 : (Jvm.Cond.instanceMethod ({ cls := "DoughDebtsModel", name := "goesThrough", desc := "(II)V" } : Jvm.MethodName)) ∈ lw_all := lw_g (lw_at lw_m6 75 rfl) rfl
theorem q1363 : (Jvm.Cond.code ({ cls := "DoughDebtsModel", name := "goesThrough", desc := "(II)V" } : Jvm.MethodName) prog_14_method_55_code (6 : Nat) (Option.none : Option Jvm.ClassFile.FieldType)) ∈ lw_all := lw_g (lw_at lw_m6 76 rfl) rfl
theorem q1364 : (Jvm.Cond.methodLink "DoughDebtsModel" (279 : Nat) ({ cls := "DoughDebtsModel", name := "firstChange", desc := "()I" } : Jvm.MethodName)) ∈ lw_all := lw_g (lw_at lw_m6 77 rfl) rfl
theorem q1365 : (Jvm.Cond.privateMethod ({ cls := "DoughDebtsModel", name := "firstChange", desc := "()I" } : Jvm.MethodName)) ∈ lw_tbl := lw_at lw_m6 78 rfl
theorem q1366 : (Jvm.Cond.instanceMethod ({ cls := "DoughDebtsModel", name := "firstChange", desc := "()I" } : Jvm.MethodName)) ∈ lw_all := lw_g (lw_at lw_m6 79 rfl) rfl
theorem q1367 : (Jvm.Cond.code ({ cls := "DoughDebtsModel", name := "firstChange", desc := "()I" } : Jvm.MethodName) prog_14_method_54_code (2 : Nat) (Option.some Jvm.ClassFile.FieldType.int)) ∈ lw_all := lw_g (lw_at lw_m6 80 rfl) rfl
theorem q1368 : (Jvm.Cond.methodLink "DoughDebtsModel" (270 : Nat) ({ cls := "DoughDebtsModel", name := "wouldChange", desc := "(I)Z" } : Jvm.MethodName)) ∈ lw_all := lw_g (lw_at lw_m6 81 rfl) rfl
theorem q1369 : (Jvm.Cond.privateMethod ({ cls := "DoughDebtsModel", name := "wouldChange", desc := "(I)Z" } : Jvm.MethodName)) ∈ lw_tbl := lw_at lw_m6 82 rfl
theorem q1370 : (Jvm.Cond.instanceMethod ({ cls := "DoughDebtsModel", name := "wouldChange", desc := "(I)Z" } : Jvm.MethodName)) ∈ lw_all := lw_g (lw_at lw_m6 83 rfl) rfl
theorem q1371 : (Jvm.Cond.code ({ cls := "DoughDebtsModel", name := "wouldChange", desc := "(I)Z" } : Jvm.MethodName) prog_14_method_53_code (5 : Nat) (Option.some Jvm.ClassFile.FieldType.boolean)) ∈ lw_all := lw_g (lw_at lw_m6 84 rfl) rfl
theorem q1372 : (Jvm.Cond.methodLink "DoughDebtsModel" (266 : Nat) ({ cls := "DoughDebtsModel", name := "exchanges", desc := "(I)V" } : Jvm.MethodName)) ∈ lw_all := lw_g (lw_at lw_m6 85 rfl) rfl
theorem q1373 : (Jvm.Cond.privateMethod ({ cls := "DoughDebtsModel", name := "exchanges", desc := "(I)V" } : Jvm.MethodName)) ∈ lw_tbl := lw_at lw_m6 86 rfl
theorem q1374 : (Jvm.Cond.instanceMethod ({ cls := "DoughDebtsModel", name := "exchanges", desc := "(I)V" } : Jvm.MethodName)) ∈ lw_all := lw_g (lw_at lw_m6 87 rfl) rfl
theorem q1375 : (Jvm.Cond.code ({ cls := "DoughDebtsModel", name := "exchanges", desc := "(I)V" } : Jvm.MethodName) prog_14_method_52_code (3 : Nat) (Option.none : Option Jvm.ClassFile.FieldType)) ∈ lw_all := lw_g (lw_at lw_m6 88 rfl) rfl
theorem q1377 : (Jvm.Cond.instanceMethod ({ cls := "DoughDebtsModel", name := "least", desc := "(I)I" } : Jvm.MethodName)) ∈ lw_all := lw_g (lw_at lw_m6 90 rfl) rfl
theorem q1378 : (Jvm.Cond.selects "DoughDebtsModel" ({ cls := "DoughDebtsModel", name := "least", desc := "(I)I" } : Jvm.MethodName) ({ cls := "DoughDebtsModel", name := "least", desc := "(I)I" } : Jvm.MethodName)) ∈ lw_all := lw_g (lw_at lw_m6 91 rfl) rfl
theorem q1379 : (Jvm.Cond.code ({ cls := "DoughDebtsModel", name := "least", desc := "(I)I" } : Jvm.MethodName) prog_14_method_58_code (2 : Nat) (Option.some Jvm.ClassFile.FieldType.int)) ∈ lw_all := lw_g (lw_at lw_m6 92 rfl) rfl
theorem q1381 : (Jvm.Cond.instanceMethod ({ cls := "DoughDebtsModel", name := "round", desc := "(I)I" } : Jvm.MethodName)) ∈ lw_all := lw_g (lw_at lw_m6 94 rfl) rfl
theorem q1382 : (Jvm.Cond.selects "DoughDebtsModel" ({ cls := "DoughDebtsModel", name := "round", desc := "(I)I" } : Jvm.MethodName) ({ cls := "DoughDebtsModel", name := "round", desc := "(I)I" } : Jvm.MethodName)) ∈ lw_all := lw_g (lw_at lw_m6 95 rfl) rfl
theorem q1383 : (Jvm.Cond.code ({ cls := "DoughDebtsModel", name := "round", desc := "(I)I" } : Jvm.MethodName) prog_14_method_60_code (4 : Nat) (Option.some Jvm.ClassFile.FieldType.int)) ∈ lw_all := lw_g (lw_at lw_m6 96 rfl) rfl
theorem q1384 : (Jvm.Cond.methodLink "DoughDebtsModel" (288 : Nat) ({ cls := "DoughDebtsModel", name := "isRow", desc := "(I)Z" } : Jvm.MethodName)) ∈ lw_all := lw_g (lw_at lw_m6 97 rfl) rfl
theorem q1385 : (Jvm.Cond.privateMethod ({ cls := "DoughDebtsModel", name := "isRow", desc := "(I)Z" } : Jvm.MethodName)) ∈ lw_tbl := lw_at lw_m6 98 rfl
theorem q1386 : (Jvm.Cond.instanceMethod ({ cls := "DoughDebtsModel", name := "isRow", desc := "(I)Z" } : Jvm.MethodName)) ∈ lw_all := lw_g (lw_at lw_m6 99 rfl) rfl
theorem q1387 : (Jvm.Cond.code ({ cls := "DoughDebtsModel", name := "isRow", desc := "(I)Z" } : Jvm.MethodName) prog_14_method_59_code (3 : Nat) (Option.some Jvm.ClassFile.FieldType.boolean)) ∈ lw_all := lw_g (lw_at lw_m6 100 rfl) rfl
theorem q1389 : (Jvm.Cond.instanceMethod ({ cls := "DoughDebtsModel", name := "leaven", desc := "(II)I" } : Jvm.MethodName)) ∈ lw_all := lw_g (lw_at lw_m6 102 rfl) rfl
theorem q1390 : (Jvm.Cond.selects "DoughDebtsModel" ({ cls := "DoughDebtsModel", name := "leaven", desc := "(II)I" } : Jvm.MethodName) ({ cls := "DoughDebtsModel", name := "leaven", desc := "(II)I" } : Jvm.MethodName)) ∈ lw_all := lw_g (lw_at lw_m6 103 rfl) rfl
theorem q1391 : (Jvm.Cond.code ({ cls := "DoughDebtsModel", name := "leaven", desc := "(II)I" } : Jvm.MethodName) prog_14_method_63_code (5 : Nat) (Option.some Jvm.ClassFile.FieldType.int)) ∈ lw_all := lw_g (lw_at lw_m6 104 rfl) rfl
theorem q1392 : (Jvm.Cond.methodLink "DoughDebtsModel" (291 : Nat) ({ cls := "DoughDebtsModel", name := "isLeaven", desc := "(I)Z" } : Jvm.MethodName)) ∈ lw_all := lw_g (lw_at lw_m6 105 rfl) rfl
theorem q1393 : (Jvm.Cond.privateMethod ({ cls := "DoughDebtsModel", name := "isLeaven", desc := "(I)Z" } : Jvm.MethodName)) ∈ lw_tbl := lw_at lw_m6 106 rfl
theorem q1394 : (Jvm.Cond.instanceMethod ({ cls := "DoughDebtsModel", name := "isLeaven", desc := "(I)Z" } : Jvm.MethodName)) ∈ lw_all := lw_g (lw_at lw_m6 107 rfl) rfl
theorem q1395 : (Jvm.Cond.code ({ cls := "DoughDebtsModel", name := "isLeaven", desc := "(I)Z" } : Jvm.MethodName) prog_14_method_61_code (2 : Nat) (Option.some Jvm.ClassFile.FieldType.boolean)) ∈ lw_all := lw_g (lw_at lw_m6 108 rfl) rfl
theorem q1396 : (Jvm.Cond.methodLink "DoughDebtsModel" (294 : Nat) ({ cls := "DoughDebtsModel", name := "ofLeaven", desc := "(II)I" } : Jvm.MethodName)) ∈ lw_all := lw_g (lw_at lw_m6 109 rfl) rfl
theorem q1397 : (Jvm.Cond.privateMethod ({ cls := "DoughDebtsModel", name := "ofLeaven", desc := "(II)I" } : Jvm.MethodName)) ∈ lw_tbl := lw_at lw_m6 110 rfl
theorem q1398 : (Jvm.Cond.instanceMethod ({ cls := "DoughDebtsModel", name := "ofLeaven", desc := "(II)I" } : Jvm.MethodName)) ∈ lw_all := lw_g (lw_at lw_m6 111 rfl) rfl
theorem q1399 : (Jvm.Cond.code ({ cls := "DoughDebtsModel", name := "ofLeaven", desc := "(II)I" } : Jvm.MethodName) prog_14_method_62_code (3 : Nat) (Option.some Jvm.ClassFile.FieldType.int)) ∈ lw_all := lw_g (lw_at lw_m6 112 rfl) rfl
theorem q1401 : (Jvm.Cond.instanceMethod ({ cls := "DoughDebtsModel", name := "part", desc := "(III)I" } : Jvm.MethodName)) ∈ lw_all := lw_g (lw_at lw_m6 114 rfl) rfl
theorem q1402 : (Jvm.Cond.selects "DoughDebtsModel" ({ cls := "DoughDebtsModel", name := "part", desc := "(III)I" } : Jvm.MethodName) ({ cls := "DoughDebtsModel", name := "part", desc := "(III)I" } : Jvm.MethodName)) ∈ lw_all := lw_g (lw_at lw_m6 115 rfl) rfl
theorem q1403 : (Jvm.Cond.code ({ cls := "DoughDebtsModel", name := "part", desc := "(III)I" } : Jvm.MethodName) prog_14_method_65_code (8 : Nat) (Option.some Jvm.ClassFile.FieldType.int)) ∈ lw_all := lw_g (lw_at lw_m6 116 rfl) rfl
theorem q1404 : (Jvm.Cond.methodLink "DoughDebtsModel" (297 : Nat) ({ cls := "DoughDebtsModel", name := "laysParts", desc := "(I)V" } : Jvm.MethodName)) ∈ lw_all := lw_g (lw_at lw_m6 117 rfl) rfl
theorem q1405 : (Jvm.Cond.privateMethod ({ cls := "DoughDebtsModel", name := "laysParts", desc := "(I)V" } : Jvm.MethodName)) ∈ lw_tbl := lw_at lw_m6 118 rfl
theorem q1406 : (Jvm.Cond.instanceMethod ({ cls := "DoughDebtsModel", name := "laysParts", desc := "(I)V" } : Jvm.MethodName)) ∈ lw_all := lw_g (lw_at lw_m6 119 rfl) rfl
theorem q1407 : (Jvm.Cond.code ({ cls := "DoughDebtsModel", name := "laysParts", desc := "(I)V" } : Jvm.MethodName) prog_14_method_64_code (6 : Nat) (Option.none : Option Jvm.ClassFile.FieldType)) ∈ lw_all := lw_g (lw_at lw_m6 120 rfl) rfl
theorem q1408 : (Jvm.Cond.constantLong "DoughDebtsModel" (300 : Nat) (2 : Int64)) ∈ lw_all := lw_g (lw_at lw_m6 121 rfl) rfl
theorem q1410 : (Jvm.Cond.instanceMethod ({ cls := "DoughDebtsModel", name := "led", desc := "(II)I" } : Jvm.MethodName)) ∈ lw_all := lw_g (lw_at lw_m6 123 rfl) rfl
theorem q1411 : (Jvm.Cond.selects "DoughDebtsModel" ({ cls := "DoughDebtsModel", name := "led", desc := "(II)I" } : Jvm.MethodName) ({ cls := "DoughDebtsModel", name := "led", desc := "(II)I" } : Jvm.MethodName)) ∈ lw_all := lw_g (lw_at lw_m6 124 rfl) rfl
theorem q1412 : (Jvm.Cond.code ({ cls := "DoughDebtsModel", name := "led", desc := "(II)I" } : Jvm.MethodName) prog_14_method_67_code (3 : Nat) (Option.some Jvm.ClassFile.FieldType.int)) ∈ lw_all := lw_g (lw_at lw_m6 125 rfl) rfl
theorem q1413 : (Jvm.Cond.methodLink "DoughDebtsModel" (302 : Nat) ({ cls := "DoughDebtsModel", name := "isLed", desc := "(II)Z" } : Jvm.MethodName)) ∈ lw_all := lw_g (lw_at lw_m6 126 rfl) rfl
theorem q1414 : (Jvm.Cond.privateMethod ({ cls := "DoughDebtsModel", name := "isLed", desc := "(II)Z" } : Jvm.MethodName)) ∈ lw_tbl := lw_at lw_m6 127 rfl
theorem q1415 : (Jvm.Cond.instanceMethod ({ cls := "DoughDebtsModel", name := "isLed", desc := "(II)Z" } : Jvm.MethodName)) ∈ lw_all := lw_g (lw_at lw_m6 128 rfl) rfl
theorem q1416 : (Jvm.Cond.code ({ cls := "DoughDebtsModel", name := "isLed", desc := "(II)Z" } : Jvm.MethodName) prog_14_method_66_code (3 : Nat) (Option.some Jvm.ClassFile.FieldType.boolean)) ∈ lw_all := lw_g (lw_at lw_m6 129 rfl) rfl
theorem q1418 : (Jvm.Cond.instanceMethod ({ cls := "DoughDebtsModel", name := "lent", desc := "(II)I" } : Jvm.MethodName)) ∈ lw_all := lw_g (lw_at lw_m6 131 rfl) rfl
theorem q1419 : (Jvm.Cond.selects "DoughDebtsModel" ({ cls := "DoughDebtsModel", name := "lent", desc := "(II)I" } : Jvm.MethodName) ({ cls := "DoughDebtsModel", name := "lent", desc := "(II)I" } : Jvm.MethodName)) ∈ lw_all := lw_g (lw_at lw_m6 132 rfl) rfl
theorem q1420 : (Jvm.Cond.code ({ cls := "DoughDebtsModel", name := "lent", desc := "(II)I" } : Jvm.MethodName) prog_14_method_68_code (6 : Nat) (Option.some Jvm.ClassFile.FieldType.int)) ∈ lw_all := lw_g (lw_at lw_m6 133 rfl) rfl
theorem q1422 : (Jvm.Cond.instanceMethod ({ cls := "DoughDebtsModel", name := "rise", desc := "(III)Z" } : Jvm.MethodName)) ∈ lw_all := lw_g (lw_at lw_m6 135 rfl) rfl
theorem q1423 : (Jvm.Cond.selects "DoughDebtsModel" ({ cls := "DoughDebtsModel", name := "rise", desc := "(III)Z" } : Jvm.MethodName) ({ cls := "DoughDebtsModel", name := "rise", desc := "(III)Z" } : Jvm.MethodName)) ∈ lw_all := lw_g (lw_at lw_m6 136 rfl) rfl
theorem q1424 : (Jvm.Cond.code ({ cls := "DoughDebtsModel", name := "rise", desc := "(III)Z" } : Jvm.MethodName) prog_14_method_69_code (4 : Nat) (Option.some Jvm.ClassFile.FieldType.boolean)) ∈ lw_all := lw_g (lw_at lw_m6 137 rfl) rfl
theorem q1426 : (Jvm.Cond.instanceMethod ({ cls := "DoughDebtsModel", name := "odds", desc := "(II)J" } : Jvm.MethodName)) ∈ lw_all := lw_g (lw_at lw_m6 139 rfl) rfl
theorem q1427 : (Jvm.Cond.selects "DoughDebtsModel" ({ cls := "DoughDebtsModel", name := "odds", desc := "(II)J" } : Jvm.MethodName) ({ cls := "DoughDebtsModel", name := "odds", desc := "(II)J" } : Jvm.MethodName)) ∈ lw_all := lw_g (lw_at lw_m6 140 rfl) rfl
theorem q1428 : (Jvm.Cond.code ({ cls := "DoughDebtsModel", name := "odds", desc := "(II)J" } : Jvm.MethodName) prog_14_method_71_code (4 : Nat) (Option.some Jvm.ClassFile.FieldType.long)) ∈ lw_all := lw_g (lw_at lw_m6 141 rfl) rfl
theorem q1429 : (Jvm.Cond.constantLong "DoughDebtsModel" (313 : Nat) (-1 : Int64)) ∈ lw_all := lw_g (lw_at lw_m6 142 rfl) rfl
theorem q1430 : (Jvm.Cond.methodLink "DoughDebtsModel" (315 : Nat) ({ cls := "DoughDebtsModel", name := "laysOdds", desc := "(II)V" } : Jvm.MethodName)) ∈ lw_all := lw_g (lw_at lw_m6 143 rfl) rfl
theorem q1431 : (Jvm.Cond.privateMethod ({ cls := "DoughDebtsModel", name := "laysOdds", desc := "(II)V" } : Jvm.MethodName)) ∈ lw_tbl := lw_at lw_m6 144 rfl
theorem q1432 : (Jvm.Cond.instanceMethod ({ cls := "DoughDebtsModel", name := "laysOdds", desc := "(II)V" } : Jvm.MethodName)) ∈ lw_all := lw_g (lw_at lw_m6 145 rfl) rfl
theorem q1433 : (Jvm.Cond.code ({ cls := "DoughDebtsModel", name := "laysOdds", desc := "(II)V" } : Jvm.MethodName) prog_14_method_70_code (9 : Nat) (Option.none : Option Jvm.ClassFile.FieldType)) ∈ lw_all := lw_g (lw_at lw_m6 146 rfl) rfl
theorem q1435 : (Jvm.Cond.instanceMethod ({ cls := "DoughDebtsModel", name := "whose", desc := "(I)I" } : Jvm.MethodName)) ∈ lw_all := lw_g (lw_at lw_m6 148 rfl) rfl
theorem q1436 : (Jvm.Cond.selects "DoughDebtsModel" ({ cls := "DoughDebtsModel", name := "whose", desc := "(I)I" } : Jvm.MethodName) ({ cls := "DoughDebtsModel", name := "whose", desc := "(I)I" } : Jvm.MethodName)) ∈ lw_all := lw_g (lw_at lw_m6 149 rfl) rfl
theorem q1437 : (Jvm.Cond.code ({ cls := "DoughDebtsModel", name := "whose", desc := "(I)I" } : Jvm.MethodName) prog_14_method_72_code (10 : Nat) (Option.some Jvm.ClassFile.FieldType.int)) ∈ lw_all := lw_g (lw_at lw_m6 150 rfl) rfl
theorem q1439 : (Jvm.Cond.instanceMethod ({ cls := "DoughDebtsModel", name := "owe", desc := "(III)Z" } : Jvm.MethodName)) ∈ lw_all := lw_g (lw_at lw_m6 152 rfl) rfl
theorem q1440 : (Jvm.Cond.selects "DoughDebtsModel" ({ cls := "DoughDebtsModel", name := "owe", desc := "(III)Z" } : Jvm.MethodName) ({ cls := "DoughDebtsModel", name := "owe", desc := "(III)Z" } : Jvm.MethodName)) ∈ lw_all := lw_g (lw_at lw_m6 153 rfl) rfl
theorem q1441 : (Jvm.Cond.code ({ cls := "DoughDebtsModel", name := "owe", desc := "(III)Z" } : Jvm.MethodName) prog_14_method_73_code (4 : Nat) (Option.some Jvm.ClassFile.FieldType.boolean)) ∈ lw_all := lw_g (lw_at lw_m6 154 rfl) rfl
theorem q1442 : (Jvm.Cond.constant "DoughDebtsModel" (318 : Nat) (-99999 : Int32)) ∈ lw_all := lw_g (lw_at lw_m6 155 rfl) rfl
theorem q1444 : (Jvm.Cond.instanceMethod ({ cls := "DoughDebtsModel", name := "payments", desc := "()I" } : Jvm.MethodName)) ∈ lw_all := lw_g (lw_at lw_m6 157 rfl) rfl
theorem q1445 : (Jvm.Cond.selects "DoughDebtsModel" ({ cls := "DoughDebtsModel", name := "payments", desc := "()I" } : Jvm.MethodName) ({ cls := "DoughDebtsModel", name := "payments", desc := "()I" } : Jvm.MethodName)) ∈ lw_all := lw_g (lw_at lw_m6 158 rfl) rfl
theorem q1446 : (Jvm.Cond.code ({ cls := "DoughDebtsModel", name := "payments", desc := "()I" } : Jvm.MethodName) prog_14_method_74_code (7 : Nat) (Option.some Jvm.ClassFile.FieldType.int)) ∈ lw_all := lw_g (lw_at lw_m6 159 rfl) rfl
theorem q1448 : (Jvm.Cond.instanceMethod ({ cls := "DoughDebtsModel", name := "image", desc := "(Z)Z" } : Jvm.MethodName)) ∈ lw_all := lw_g (lw_at lw_m6 161 rfl) rfl
theorem q1449 : (Jvm.Cond.selects "DoughDebtsModel" ({ cls := "DoughDebtsModel", name := "image", desc := "(Z)Z" } : Jvm.MethodName) ({ cls := "DoughDebtsModel", name := "image", desc := "(Z)Z" } : Jvm.MethodName)) ∈ lw_all := lw_g (lw_at lw_m6 162 rfl) rfl
theorem q1450 : (Jvm.Cond.code ({ cls := "DoughDebtsModel", name := "image", desc := "(Z)Z" } : Jvm.MethodName) prog_14_method_75_code (3 : Nat) (Option.some Jvm.ClassFile.FieldType.boolean)) ∈ lw_all := lw_g (lw_at lw_m6 163 rfl) rfl
theorem q1452 : (Jvm.Cond.instanceMethod ({ cls := "DoughDebtsModel", name := "look", desc := "(I)I" } : Jvm.MethodName)) ∈ lw_all := lw_g (lw_at lw_m6 165 rfl) rfl
theorem q1453 : (Jvm.Cond.selects "DoughDebtsModel" ({ cls := "DoughDebtsModel", name := "look", desc := "(I)I" } : Jvm.MethodName) ({ cls := "DoughDebtsModel", name := "look", desc := "(I)I" } : Jvm.MethodName)) ∈ lw_all := lw_g (lw_at lw_m6 166 rfl) rfl
theorem q1454 : (Jvm.Cond.code ({ cls := "DoughDebtsModel", name := "look", desc := "(I)I" } : Jvm.MethodName) prog_14_method_76_code (2 : Nat) (Option.some Jvm.ClassFile.FieldType.int)) ∈ lw_all := lw_g (lw_at lw_m6 167 rfl) rfl
theorem in_X3 : ∀ w ∈ wsX30, w ∈ lw_all := lw_in wsX30 [1061, 1063, 1065, 1067, 1069, 1071, 1073, 1075, 1077, 1079, 1081, 1083, 1085, 1087, 1089, 1091, 1093, 1095, 1097, 1099, 1101, 1103, 1105, 1107, 1109, 1111, 1113, 1115, 1117, 1119, 1121, 1123, 1125, 1127, 1129, 1131] (by decide +kernel) (by decide +kernel)
