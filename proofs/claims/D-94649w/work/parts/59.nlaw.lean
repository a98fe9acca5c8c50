/-! the law's own entry -/
set_option maxRecDepth 100000
abbrev cL_law : ByteArray := code
def dkwL_law_37 : List UInt8 := [4, 96, 46, 182, 0, 135, 159, 0, 5, 3, 172, 132, 3, 6, 167, 252, 58, 4, 172]
abbrev dktL_law_37 : List UInt8 := dkwL_law_37 ++ []
def dkwL_law_36 : List UInt8 := [167, 0, 4, 3, 182, 0, 131, 159, 0, 28, 3, 172, 43, 42, 29, 4, 96, 46, 182, 0, 132, 44, 42, 29]
abbrev dktL_law_36 : List UInt8 := dkwL_law_36 ++ dktL_law_37
def dkwL_law_35 : List UInt8 := [4, 96, 46, 153, 0, 7, 4, 167, 0, 4, 3, 182, 0, 127, 44, 42, 29, 4, 96, 46, 153, 0, 7, 4]
abbrev dktL_law_35 : List UInt8 := dkwL_law_35 ++ dktL_law_36
def dkwL_law_34 : List UInt8 := [182, 0, 121, 159, 0, 80, 3, 172, 43, 182, 0, 122, 44, 182, 0, 126, 159, 0, 67, 3, 172, 43, 42, 29]
abbrev dktL_law_34 : List UInt8 := dkwL_law_34 ++ dktL_law_35
def dkwL_law_33 : List UInt8 := [29, 5, 96, 46, 42, 29, 6, 96, 46, 182, 0, 117, 159, 0, 93, 3, 172, 43, 182, 0, 118, 44]
abbrev dktL_law_33 : List UInt8 := dkwL_law_33 ++ dktL_law_34
def dkwL_law_32 : List UInt8 := [29, 4, 96, 46, 42, 29, 5, 96, 46, 42, 29, 6, 96, 46, 182, 0, 114, 44, 42, 29, 4, 96, 46, 42]
abbrev dktL_law_32 : List UInt8 := dkwL_law_32 ++ dktL_law_33
def dkwL_law_31 : List UInt8 := [42, 29, 4, 96, 46, 182, 0, 110, 44, 42, 29, 4, 96, 46, 182, 0, 113, 159, 0, 136, 3, 172, 43, 42]
abbrev dktL_law_31 : List UInt8 := dkwL_law_31 ++ dktL_law_32
def dkwL_law_30 : List UInt8 := [182, 0, 105, 44, 42, 29, 4, 96, 46, 42, 29, 5, 96, 46, 182, 0, 109, 148, 153, 0, 159, 3, 172, 43]
abbrev dktL_law_30 : List UInt8 := dkwL_law_30 ++ dktL_law_31
def dkwL_law_29 : List UInt8 := [29, 6, 96, 46, 182, 0, 104, 159, 0, 193, 3, 172, 43, 42, 29, 4, 96, 46, 42, 29, 5, 96, 46]
abbrev dktL_law_29 : List UInt8 := dkwL_law_29 ++ dktL_law_30
def dkwL_law_28 : List UInt8 := [29, 5, 96, 46, 42, 29, 6, 96, 46, 182, 0, 100, 44, 42, 29, 4, 96, 46, 42, 29, 5, 96, 46, 42]
abbrev dktL_law_28 : List UInt8 := dkwL_law_28 ++ dktL_law_29
def dkwL_law_27 : List UInt8 := [29, 4, 96, 46, 42, 29, 5, 96, 46, 182, 0, 99, 159, 0, 236, 3, 172, 43, 42, 29, 4, 96, 46, 42]
abbrev dktL_law_27 : List UInt8 := dkwL_law_27 ++ dktL_law_28
def dkwL_law_26 : List UInt8 := [182, 0, 95, 159, 1, 13, 3, 172, 43, 42, 29, 4, 96, 46, 42, 29, 5, 96, 46, 182, 0, 96, 44, 42]
abbrev dktL_law_26 : List UInt8 := dkwL_law_26 ++ dktL_law_27
def dkwL_law_25 : List UInt8 := [4, 96, 46, 42, 29, 5, 96, 46, 182, 0, 92, 44, 42, 29, 4, 96, 46, 42, 29, 5, 96, 46]
abbrev dktL_law_25 : List UInt8 := dkwL_law_25 ++ dktL_law_26
def dkwL_law_24 : List UInt8 := [4, 96, 46, 42, 29, 5, 96, 46, 42, 29, 6, 96, 46, 182, 0, 91, 159, 1, 46, 3, 172, 43, 42, 29]
abbrev dktL_law_24 : List UInt8 := dkwL_law_24 ++ dktL_law_25
def dkwL_law_23 : List UInt8 := [3, 172, 43, 42, 29, 4, 96, 46, 42, 29, 5, 96, 46, 42, 29, 6, 96, 46, 182, 0, 88, 44, 42, 29]
abbrev dktL_law_23 : List UInt8 := dkwL_law_23 ++ dktL_law_24
def dkwL_law_22 : List UInt8 := [29, 5, 96, 46, 182, 0, 84, 44, 42, 29, 4, 96, 46, 42, 29, 5, 96, 46, 182, 0, 87, 159, 1, 89]
abbrev dktL_law_22 : List UInt8 := dkwL_law_22 ++ dktL_law_23
def dkwL_law_21 : List UInt8 := [182, 0, 80, 44, 42, 29, 4, 96, 46, 182, 0, 83, 159, 1, 122, 3, 172, 43, 42, 29, 4, 96, 46, 42]
abbrev dktL_law_21 : List UInt8 := dkwL_law_21 ++ dktL_law_22
def dkwL_law_20 : List UInt8 := [46, 182, 0, 76, 44, 42, 29, 4, 96, 46, 182, 0, 79, 159, 1, 145, 3, 172, 43, 42, 29, 4, 96, 46]
abbrev dktL_law_20 : List UInt8 := dkwL_law_20 ++ dktL_law_21
def dkwL_law_19 : List UInt8 := [96, 46, 182, 0, 72, 44, 42, 29, 4, 96, 46, 182, 0, 75, 159, 1, 168, 3, 172, 43, 42, 29, 4, 96]
abbrev dktL_law_19 : List UInt8 := dkwL_law_19 ++ dktL_law_20
def dkwL_law_18 : List UInt8 := [4, 96, 46, 182, 0, 68, 44, 42, 29, 4, 96, 46, 182, 0, 71, 159, 1, 191, 3, 172, 43, 42, 29, 4]
abbrev dktL_law_18 : List UInt8 := dkwL_law_18 ++ dktL_law_19
def dkwL_law_17 : List UInt8 := [29, 4, 96, 46, 182, 0, 64, 44, 42, 29, 4, 96, 46, 182, 0, 67, 159, 1, 214, 3, 172, 43, 42, 29]
abbrev dktL_law_17 : List UInt8 := dkwL_law_17 ++ dktL_law_18
def dkwL_law_16 : List UInt8 := [182, 0, 59, 44, 42, 29, 4, 96, 46, 42, 29, 5, 96, 46, 182, 0, 63, 159, 1, 237, 3, 172, 43, 42]
abbrev dktL_law_16 : List UInt8 := dkwL_law_16 ++ dktL_law_17
def dkwL_law_15 : List UInt8 := [29, 4, 96, 46, 182, 0, 58, 159, 2, 14, 3, 172, 43, 42, 29, 4, 96, 46, 42, 29, 5, 96, 46]
abbrev dktL_law_15 : List UInt8 := dkwL_law_15 ++ dktL_law_16
def dkwL_law_14 : List UInt8 := [42, 29, 4, 96, 46, 182, 0, 54, 159, 2, 37, 3, 172, 43, 42, 29, 4, 96, 46, 182, 0, 55, 44, 42]
abbrev dktL_law_14 : List UInt8 := dkwL_law_14 ++ dktL_law_15
def dkwL_law_13 : List UInt8 := [44, 42, 29, 4, 96, 46, 182, 0, 50, 159, 2, 60, 3, 172, 43, 42, 29, 4, 96, 46, 182, 0, 51, 44]
abbrev dktL_law_13 : List UInt8 := dkwL_law_13 ++ dktL_law_14
def dkwL_law_12 : List UInt8 := [3, 172, 43, 182, 0, 42, 44, 182, 0, 46, 159, 2, 83, 3, 172, 43, 42, 29, 4, 96, 46, 182, 0, 47]
abbrev dktL_law_12 : List UInt8 := dkwL_law_12 ++ dktL_law_13
def dkwL_law_11 : List UInt8 := [29, 5, 96, 46, 182, 0, 38, 44, 42, 29, 4, 96, 46, 42, 29, 5, 96, 46, 182, 0, 41, 159, 2, 96]
abbrev dktL_law_11 : List UInt8 := dkwL_law_11 ++ dktL_law_12
def dkwL_law_10 : List UInt8 := [29, 4, 96, 46, 42, 29, 5, 96, 46, 182, 0, 37, 159, 2, 129, 3, 172, 43, 42, 29, 4, 96, 46, 42]
abbrev dktL_law_10 : List UInt8 := dkwL_law_10 ++ dktL_law_11
def dkwL_law_9 : List UInt8 := [182, 0, 32, 159, 2, 162, 3, 172, 43, 42, 29, 4, 96, 46, 42, 29, 5, 96, 46, 182, 0, 33, 44, 42]
abbrev dktL_law_9 : List UInt8 := dkwL_law_9 ++ dktL_law_10
def dkwL_law_8 : List UInt8 := [42, 29, 6, 96, 46, 182, 0, 28, 44, 42, 29, 4, 96, 46, 42, 29, 5, 96, 46, 42, 29, 6, 96, 46]
abbrev dktL_law_8 : List UInt8 := dkwL_law_8 ++ dktL_law_9
def dkwL_law_7 : List UInt8 := [42, 29, 4, 96, 46, 182, 0, 27, 159, 2, 205, 3, 172, 43, 42, 29, 4, 96, 46, 42, 29, 5, 96, 46]
abbrev dktL_law_7 : List UInt8 := dkwL_law_7 ++ dktL_law_8
def dkwL_law_6 : List UInt8 := [46, 42, 29, 8, 96, 46, 182, 0, 22, 159, 2, 228, 3, 172, 43, 42, 29, 4, 96, 46, 182, 0, 23, 44]
abbrev dktL_law_6 : List UInt8 := dkwL_law_6 ++ dktL_law_7
def dkwL_law_5 : List UInt8 := [46, 182, 0, 18, 44, 42, 29, 4, 96, 46, 42, 29, 5, 96, 46, 42, 29, 6, 96, 46, 42, 29, 7, 96]
abbrev dktL_law_5 : List UInt8 := dkwL_law_5 ++ dktL_law_6
def dkwL_law_4 : List UInt8 := [42, 29, 4, 96, 46, 42, 29, 5, 96, 46, 42, 29, 6, 96, 46, 42, 29, 7, 96, 46, 42, 29, 8, 96]
abbrev dktL_law_4 : List UInt8 := dkwL_law_4 ++ dktL_law_5
def dkwL_law_3 : List UInt8 := [43, 42, 29, 4, 96, 46, 182, 0, 13, 44, 42, 29, 4, 96, 46, 182, 0, 17, 159, 3, 35, 3, 172, 43]
abbrev dktL_law_3 : List UInt8 := dkwL_law_3 ++ dktL_law_4
def dkwL_law_2 : List UInt8 := [170, 0, 0, 0, 0, 3, 180, 0, 0, 0, 0, 0, 0, 0, 27, 0, 0, 0, 127, 0, 0, 0, 150, 0, 0, 0, 213, 0, 0, 0, 236, 0, 0, 1, 23, 0, 0, 1, 56, 0, 0, 1, 89, 0, 0, 1, 102, 0, 0, 1, 125, 0, 0, 1, 148, 0, 0, 1, 171, 0, 0, 1, 204, 0, 0, 1, 227, 0, 0, 1, 250, 0, 0, 2, 17, 0, 0, 2, 40, 0, 0, 2, 63, 0, 0, 2, 96, 0, 0, 2, 139, 0, 0, 2, 172, 0, 0, 2, 205, 0, 0, 2, 248, 0, 0, 3, 26, 0, 0, 3, 49, 0, 0, 3, 92, 0, 0, 3, 105, 0, 0, 3, 118, 0, 0, 3, 157]
abbrev dktL_law_2 : List UInt8 := dkwL_law_2 ++ dktL_law_3
def dkwL_law_1 : List UInt8 := [163, 3, 195, 42, 29, 46, 16, 31, 126]
abbrev dktL_law_1 : List UInt8 := dkwL_law_1 ++ dktL_law_2
def dkwL_law_0 : List UInt8 := [187, 0, 7, 89, 183, 0, 9, 76, 187, 0, 10, 89, 183, 0, 12, 77, 3, 62, 29, 42, 190, 16, 6, 100]
abbrev dktL_law_0 : List UInt8 := dkwL_law_0 ++ dktL_law_1
theorem dksL_law_0 : cL_law.data.toList.drop 0 = dktL_law_0 := by decide +kernel
theorem dksL_law_1 : cL_law.data.toList.drop 24 = dktL_law_1 := dk_seg dksL_law_0 24 rfl rfl
theorem dksL_law_2 : cL_law.data.toList.drop 33 = dktL_law_2 := dk_seg dksL_law_1 9 rfl rfl
theorem dksL_law_3 : cL_law.data.toList.drop 160 = dktL_law_3 := dk_seg dksL_law_2 127 rfl rfl
theorem dksL_law_4 : cL_law.data.toList.drop 184 = dktL_law_4 := dk_seg dksL_law_3 24 rfl rfl
theorem dksL_law_5 : cL_law.data.toList.drop 208 = dktL_law_5 := dk_seg dksL_law_4 24 rfl rfl
theorem dksL_law_6 : cL_law.data.toList.drop 232 = dktL_law_6 := dk_seg dksL_law_5 24 rfl rfl
theorem dksL_law_7 : cL_law.data.toList.drop 256 = dktL_law_7 := dk_seg dksL_law_6 24 rfl rfl
theorem dksL_law_8 : cL_law.data.toList.drop 280 = dktL_law_8 := dk_seg dksL_law_7 24 rfl rfl
theorem dksL_law_9 : cL_law.data.toList.drop 304 = dktL_law_9 := dk_seg dksL_law_8 24 rfl rfl
theorem dksL_law_10 : cL_law.data.toList.drop 328 = dktL_law_10 := dk_seg dksL_law_9 24 rfl rfl
theorem dksL_law_11 : cL_law.data.toList.drop 352 = dktL_law_11 := dk_seg dksL_law_10 24 rfl rfl
theorem dksL_law_12 : cL_law.data.toList.drop 376 = dktL_law_12 := dk_seg dksL_law_11 24 rfl rfl
theorem dksL_law_13 : cL_law.data.toList.drop 400 = dktL_law_13 := dk_seg dksL_law_12 24 rfl rfl
theorem dksL_law_14 : cL_law.data.toList.drop 424 = dktL_law_14 := dk_seg dksL_law_13 24 rfl rfl
theorem dksL_law_15 : cL_law.data.toList.drop 448 = dktL_law_15 := dk_seg dksL_law_14 24 rfl rfl
theorem dksL_law_16 : cL_law.data.toList.drop 471 = dktL_law_16 := dk_seg dksL_law_15 23 rfl rfl
theorem dksL_law_17 : cL_law.data.toList.drop 495 = dktL_law_17 := dk_seg dksL_law_16 24 rfl rfl
theorem dksL_law_18 : cL_law.data.toList.drop 519 = dktL_law_18 := dk_seg dksL_law_17 24 rfl rfl
theorem dksL_law_19 : cL_law.data.toList.drop 543 = dktL_law_19 := dk_seg dksL_law_18 24 rfl rfl
theorem dksL_law_20 : cL_law.data.toList.drop 567 = dktL_law_20 := dk_seg dksL_law_19 24 rfl rfl
theorem dksL_law_21 : cL_law.data.toList.drop 591 = dktL_law_21 := dk_seg dksL_law_20 24 rfl rfl
theorem dksL_law_22 : cL_law.data.toList.drop 615 = dktL_law_22 := dk_seg dksL_law_21 24 rfl rfl
theorem dksL_law_23 : cL_law.data.toList.drop 639 = dktL_law_23 := dk_seg dksL_law_22 24 rfl rfl
theorem dksL_law_24 : cL_law.data.toList.drop 663 = dktL_law_24 := dk_seg dksL_law_23 24 rfl rfl
theorem dksL_law_25 : cL_law.data.toList.drop 687 = dktL_law_25 := dk_seg dksL_law_24 24 rfl rfl
theorem dksL_law_26 : cL_law.data.toList.drop 709 = dktL_law_26 := dk_seg dksL_law_25 22 rfl rfl
theorem dksL_law_27 : cL_law.data.toList.drop 733 = dktL_law_27 := dk_seg dksL_law_26 24 rfl rfl
theorem dksL_law_28 : cL_law.data.toList.drop 757 = dktL_law_28 := dk_seg dksL_law_27 24 rfl rfl
theorem dksL_law_29 : cL_law.data.toList.drop 781 = dktL_law_29 := dk_seg dksL_law_28 24 rfl rfl
theorem dksL_law_30 : cL_law.data.toList.drop 804 = dktL_law_30 := dk_seg dksL_law_29 23 rfl rfl
theorem dksL_law_31 : cL_law.data.toList.drop 828 = dktL_law_31 := dk_seg dksL_law_30 24 rfl rfl
theorem dksL_law_32 : cL_law.data.toList.drop 852 = dktL_law_32 := dk_seg dksL_law_31 24 rfl rfl
theorem dksL_law_33 : cL_law.data.toList.drop 876 = dktL_law_33 := dk_seg dksL_law_32 24 rfl rfl
theorem dksL_law_34 : cL_law.data.toList.drop 898 = dktL_law_34 := dk_seg dksL_law_33 22 rfl rfl
theorem dksL_law_35 : cL_law.data.toList.drop 922 = dktL_law_35 := dk_seg dksL_law_34 24 rfl rfl
theorem dksL_law_36 : cL_law.data.toList.drop 946 = dktL_law_36 := dk_seg dksL_law_35 24 rfl rfl
theorem dksL_law_37 : cL_law.data.toList.drop 970 = dktL_law_37 := dk_seg dksL_law_36 24 rfl rfl
theorem dL_law_0 : decode cL_law 0 = .ok (.new 7, 3) := dk_187 0 7 (dk_at dksL_law_0 0 rfl rfl)
theorem dL_law_3 : decode cL_law 3 = .ok (.dup, 1) := dk_89 (dk_at dksL_law_0 3 rfl rfl)
theorem dL_law_4 : decode cL_law 4 = .ok (.invokespecial 9, 3) := dk_183 0 9 (dk_at dksL_law_0 4 rfl rfl)
theorem dL_law_7 : decode cL_law 7 = .ok (.astore_n 1, 1) := dk_76 (dk_at dksL_law_0 7 rfl rfl)
theorem dL_law_8 : decode cL_law 8 = .ok (.new 10, 3) := dk_187 0 10 (dk_at dksL_law_0 8 rfl rfl)
theorem dL_law_11 : decode cL_law 11 = .ok (.dup, 1) := dk_89 (dk_at dksL_law_0 11 rfl rfl)
theorem dL_law_12 : decode cL_law 12 = .ok (.invokespecial 12, 3) := dk_183 0 12 (dk_at dksL_law_0 12 rfl rfl)
theorem dL_law_15 : decode cL_law 15 = .ok (.astore_n 2, 1) := dk_77 (dk_at dksL_law_0 15 rfl rfl)
theorem dL_law_16 : decode cL_law 16 = .ok (.iconst 0, 1) := dk_3 (dk_at dksL_law_0 16 rfl rfl)
theorem dL_law_17 : decode cL_law 17 = .ok (.istore_n 3, 1) := dk_62 (dk_at dksL_law_0 17 rfl rfl)
theorem dL_law_18 : decode cL_law 18 = .ok (.iload_n 3, 1) := dk_29 (dk_at dksL_law_0 18 rfl rfl)
theorem dL_law_19 : decode cL_law 19 = .ok (.aload_n 0, 1) := dk_42 (dk_at dksL_law_0 19 rfl rfl)
theorem dL_law_20 : decode cL_law 20 = .ok (.arraylength, 1) := dk_190 (dk_at dksL_law_0 20 rfl rfl)
theorem dL_law_21 : decode cL_law 21 = .ok (.bipush 6, 2) := dk_16 6 (dk_at dksL_law_0 21 rfl rfl)
theorem dL_law_23 : decode cL_law 23 = .ok (.isub, 1) := dk_100 (dk_at dksL_law_0 23 rfl rfl)
theorem dL_law_24 : decode cL_law 24 = .ok (.if_icmp .gt 963, 3) := dk_163 3 195 (dk_at dksL_law_1 0 rfl rfl)
theorem dL_law_27 : decode cL_law 27 = .ok (.aload_n 0, 1) := dk_42 (dk_at dksL_law_1 3 rfl rfl)
theorem dL_law_28 : decode cL_law 28 = .ok (.iload_n 3, 1) := dk_29 (dk_at dksL_law_1 4 rfl rfl)
theorem dL_law_29 : decode cL_law 29 = .ok (.iaload, 1) := dk_46 (dk_at dksL_law_1 5 rfl rfl)
theorem dL_law_30 : decode cL_law 30 = .ok (.bipush 31, 2) := dk_16 31 (dk_at dksL_law_1 6 rfl rfl)
theorem dL_law_32 : decode cL_law 32 = .ok (.iand, 1) := dk_126 (dk_at dksL_law_1 8 rfl rfl)
theorem dL_law_33 : decode cL_law 33 = .ok (.tableswitch 948 0 27 #[127, 150, 213, 236, 279, 312, 345, 358, 381, 404, 427, 460, 483, 506, 529, 552, 575, 608, 651, 684, 717, 760, 794, 817, 860, 873, 886, 925], 127) := by decide +kernel
theorem dL_law_160 : decode cL_law 160 = .ok (.aload_n 1, 1) := dk_43 (dk_at dksL_law_3 0 rfl rfl)
theorem dL_law_161 : decode cL_law 161 = .ok (.aload_n 0, 1) := dk_42 (dk_at dksL_law_3 1 rfl rfl)
theorem dL_law_162 : decode cL_law 162 = .ok (.iload_n 3, 1) := dk_29 (dk_at dksL_law_3 2 rfl rfl)
theorem dL_law_163 : decode cL_law 163 = .ok (.iconst 1, 1) := dk_4 (dk_at dksL_law_3 3 rfl rfl)
theorem dL_law_164 : decode cL_law 164 = .ok (.iadd, 1) := dk_96 (dk_at dksL_law_3 4 rfl rfl)
theorem dL_law_165 : decode cL_law 165 = .ok (.iaload, 1) := dk_46 (dk_at dksL_law_3 5 rfl rfl)
theorem dL_law_166 : decode cL_law 166 = .ok (.invokevirtual 13, 3) := dk_182 0 13 (dk_at dksL_law_3 6 rfl rfl)
theorem dL_law_169 : decode cL_law 169 = .ok (.aload_n 2, 1) := dk_44 (dk_at dksL_law_3 9 rfl rfl)
theorem dL_law_170 : decode cL_law 170 = .ok (.aload_n 0, 1) := dk_42 (dk_at dksL_law_3 10 rfl rfl)
theorem dL_law_171 : decode cL_law 171 = .ok (.iload_n 3, 1) := dk_29 (dk_at dksL_law_3 11 rfl rfl)
theorem dL_law_172 : decode cL_law 172 = .ok (.iconst 1, 1) := dk_4 (dk_at dksL_law_3 12 rfl rfl)
theorem dL_law_173 : decode cL_law 173 = .ok (.iadd, 1) := dk_96 (dk_at dksL_law_3 13 rfl rfl)
theorem dL_law_174 : decode cL_law 174 = .ok (.iaload, 1) := dk_46 (dk_at dksL_law_3 14 rfl rfl)
theorem dL_law_175 : decode cL_law 175 = .ok (.invokevirtual 17, 3) := dk_182 0 17 (dk_at dksL_law_3 15 rfl rfl)
theorem dL_law_178 : decode cL_law 178 = .ok (.if_icmp .eq 803, 3) := dk_159 3 35 (dk_at dksL_law_3 18 rfl rfl)
theorem dL_law_181 : decode cL_law 181 = .ok (.iconst 0, 1) := dk_3 (dk_at dksL_law_3 21 rfl rfl)
theorem dL_law_182 : decode cL_law 182 = .ok (.ireturn, 1) := dk_172 (dk_at dksL_law_3 22 rfl rfl)
theorem dL_law_183 : decode cL_law 183 = .ok (.aload_n 1, 1) := dk_43 (dk_at dksL_law_3 23 rfl rfl)
theorem dL_law_184 : decode cL_law 184 = .ok (.aload_n 0, 1) := dk_42 (dk_at dksL_law_4 0 rfl rfl)
theorem dL_law_185 : decode cL_law 185 = .ok (.iload_n 3, 1) := dk_29 (dk_at dksL_law_4 1 rfl rfl)
theorem dL_law_186 : decode cL_law 186 = .ok (.iconst 1, 1) := dk_4 (dk_at dksL_law_4 2 rfl rfl)
theorem dL_law_187 : decode cL_law 187 = .ok (.iadd, 1) := dk_96 (dk_at dksL_law_4 3 rfl rfl)
theorem dL_law_188 : decode cL_law 188 = .ok (.iaload, 1) := dk_46 (dk_at dksL_law_4 4 rfl rfl)
theorem dL_law_189 : decode cL_law 189 = .ok (.aload_n 0, 1) := dk_42 (dk_at dksL_law_4 5 rfl rfl)
theorem dL_law_190 : decode cL_law 190 = .ok (.iload_n 3, 1) := dk_29 (dk_at dksL_law_4 6 rfl rfl)
theorem dL_law_191 : decode cL_law 191 = .ok (.iconst 2, 1) := dk_5 (dk_at dksL_law_4 7 rfl rfl)
theorem dL_law_192 : decode cL_law 192 = .ok (.iadd, 1) := dk_96 (dk_at dksL_law_4 8 rfl rfl)
theorem dL_law_193 : decode cL_law 193 = .ok (.iaload, 1) := dk_46 (dk_at dksL_law_4 9 rfl rfl)
theorem dL_law_194 : decode cL_law 194 = .ok (.aload_n 0, 1) := dk_42 (dk_at dksL_law_4 10 rfl rfl)
theorem dL_law_195 : decode cL_law 195 = .ok (.iload_n 3, 1) := dk_29 (dk_at dksL_law_4 11 rfl rfl)
theorem dL_law_196 : decode cL_law 196 = .ok (.iconst 3, 1) := dk_6 (dk_at dksL_law_4 12 rfl rfl)
theorem dL_law_197 : decode cL_law 197 = .ok (.iadd, 1) := dk_96 (dk_at dksL_law_4 13 rfl rfl)
theorem dL_law_198 : decode cL_law 198 = .ok (.iaload, 1) := dk_46 (dk_at dksL_law_4 14 rfl rfl)
theorem dL_law_199 : decode cL_law 199 = .ok (.aload_n 0, 1) := dk_42 (dk_at dksL_law_4 15 rfl rfl)
theorem dL_law_200 : decode cL_law 200 = .ok (.iload_n 3, 1) := dk_29 (dk_at dksL_law_4 16 rfl rfl)
theorem dL_law_201 : decode cL_law 201 = .ok (.iconst 4, 1) := dk_7 (dk_at dksL_law_4 17 rfl rfl)
theorem dL_law_202 : decode cL_law 202 = .ok (.iadd, 1) := dk_96 (dk_at dksL_law_4 18 rfl rfl)
theorem dL_law_203 : decode cL_law 203 = .ok (.iaload, 1) := dk_46 (dk_at dksL_law_4 19 rfl rfl)
theorem dL_law_204 : decode cL_law 204 = .ok (.aload_n 0, 1) := dk_42 (dk_at dksL_law_4 20 rfl rfl)
theorem dL_law_205 : decode cL_law 205 = .ok (.iload_n 3, 1) := dk_29 (dk_at dksL_law_4 21 rfl rfl)
theorem dL_law_206 : decode cL_law 206 = .ok (.iconst 5, 1) := dk_8 (dk_at dksL_law_4 22 rfl rfl)
theorem dL_law_207 : decode cL_law 207 = .ok (.iadd, 1) := dk_96 (dk_at dksL_law_4 23 rfl rfl)
theorem dL_law_208 : decode cL_law 208 = .ok (.iaload, 1) := dk_46 (dk_at dksL_law_5 0 rfl rfl)
theorem dL_law_209 : decode cL_law 209 = .ok (.invokevirtual 18, 3) := dk_182 0 18 (dk_at dksL_law_5 1 rfl rfl)
theorem dL_law_212 : decode cL_law 212 = .ok (.aload_n 2, 1) := dk_44 (dk_at dksL_law_5 4 rfl rfl)
theorem dL_law_213 : decode cL_law 213 = .ok (.aload_n 0, 1) := dk_42 (dk_at dksL_law_5 5 rfl rfl)
theorem dL_law_214 : decode cL_law 214 = .ok (.iload_n 3, 1) := dk_29 (dk_at dksL_law_5 6 rfl rfl)
theorem dL_law_215 : decode cL_law 215 = .ok (.iconst 1, 1) := dk_4 (dk_at dksL_law_5 7 rfl rfl)
theorem dL_law_216 : decode cL_law 216 = .ok (.iadd, 1) := dk_96 (dk_at dksL_law_5 8 rfl rfl)
theorem dL_law_217 : decode cL_law 217 = .ok (.iaload, 1) := dk_46 (dk_at dksL_law_5 9 rfl rfl)
theorem dL_law_218 : decode cL_law 218 = .ok (.aload_n 0, 1) := dk_42 (dk_at dksL_law_5 10 rfl rfl)
theorem dL_law_219 : decode cL_law 219 = .ok (.iload_n 3, 1) := dk_29 (dk_at dksL_law_5 11 rfl rfl)
theorem dL_law_220 : decode cL_law 220 = .ok (.iconst 2, 1) := dk_5 (dk_at dksL_law_5 12 rfl rfl)
theorem dL_law_221 : decode cL_law 221 = .ok (.iadd, 1) := dk_96 (dk_at dksL_law_5 13 rfl rfl)
theorem dL_law_222 : decode cL_law 222 = .ok (.iaload, 1) := dk_46 (dk_at dksL_law_5 14 rfl rfl)
theorem dL_law_223 : decode cL_law 223 = .ok (.aload_n 0, 1) := dk_42 (dk_at dksL_law_5 15 rfl rfl)
theorem dL_law_224 : decode cL_law 224 = .ok (.iload_n 3, 1) := dk_29 (dk_at dksL_law_5 16 rfl rfl)
theorem dL_law_225 : decode cL_law 225 = .ok (.iconst 3, 1) := dk_6 (dk_at dksL_law_5 17 rfl rfl)
theorem dL_law_226 : decode cL_law 226 = .ok (.iadd, 1) := dk_96 (dk_at dksL_law_5 18 rfl rfl)
theorem dL_law_227 : decode cL_law 227 = .ok (.iaload, 1) := dk_46 (dk_at dksL_law_5 19 rfl rfl)
theorem dL_law_228 : decode cL_law 228 = .ok (.aload_n 0, 1) := dk_42 (dk_at dksL_law_5 20 rfl rfl)
theorem dL_law_229 : decode cL_law 229 = .ok (.iload_n 3, 1) := dk_29 (dk_at dksL_law_5 21 rfl rfl)
theorem dL_law_230 : decode cL_law 230 = .ok (.iconst 4, 1) := dk_7 (dk_at dksL_law_5 22 rfl rfl)
theorem dL_law_231 : decode cL_law 231 = .ok (.iadd, 1) := dk_96 (dk_at dksL_law_5 23 rfl rfl)
theorem dL_law_232 : decode cL_law 232 = .ok (.iaload, 1) := dk_46 (dk_at dksL_law_6 0 rfl rfl)
theorem dL_law_233 : decode cL_law 233 = .ok (.aload_n 0, 1) := dk_42 (dk_at dksL_law_6 1 rfl rfl)
theorem dL_law_234 : decode cL_law 234 = .ok (.iload_n 3, 1) := dk_29 (dk_at dksL_law_6 2 rfl rfl)
theorem dL_law_235 : decode cL_law 235 = .ok (.iconst 5, 1) := dk_8 (dk_at dksL_law_6 3 rfl rfl)
theorem dL_law_236 : decode cL_law 236 = .ok (.iadd, 1) := dk_96 (dk_at dksL_law_6 4 rfl rfl)
theorem dL_law_237 : decode cL_law 237 = .ok (.iaload, 1) := dk_46 (dk_at dksL_law_6 5 rfl rfl)
theorem dL_law_238 : decode cL_law 238 = .ok (.invokevirtual 22, 3) := dk_182 0 22 (dk_at dksL_law_6 6 rfl rfl)
theorem dL_law_241 : decode cL_law 241 = .ok (.if_icmp .eq 740, 3) := dk_159 2 228 (dk_at dksL_law_6 9 rfl rfl)
theorem dL_law_244 : decode cL_law 244 = .ok (.iconst 0, 1) := dk_3 (dk_at dksL_law_6 12 rfl rfl)
theorem dL_law_245 : decode cL_law 245 = .ok (.ireturn, 1) := dk_172 (dk_at dksL_law_6 13 rfl rfl)
theorem dL_law_246 : decode cL_law 246 = .ok (.aload_n 1, 1) := dk_43 (dk_at dksL_law_6 14 rfl rfl)
theorem dL_law_247 : decode cL_law 247 = .ok (.aload_n 0, 1) := dk_42 (dk_at dksL_law_6 15 rfl rfl)
theorem dL_law_248 : decode cL_law 248 = .ok (.iload_n 3, 1) := dk_29 (dk_at dksL_law_6 16 rfl rfl)
theorem dL_law_249 : decode cL_law 249 = .ok (.iconst 1, 1) := dk_4 (dk_at dksL_law_6 17 rfl rfl)
theorem dL_law_250 : decode cL_law 250 = .ok (.iadd, 1) := dk_96 (dk_at dksL_law_6 18 rfl rfl)
theorem dL_law_251 : decode cL_law 251 = .ok (.iaload, 1) := dk_46 (dk_at dksL_law_6 19 rfl rfl)
theorem dL_law_252 : decode cL_law 252 = .ok (.invokevirtual 23, 3) := dk_182 0 23 (dk_at dksL_law_6 20 rfl rfl)
theorem dL_law_255 : decode cL_law 255 = .ok (.aload_n 2, 1) := dk_44 (dk_at dksL_law_6 23 rfl rfl)
theorem dL_law_256 : decode cL_law 256 = .ok (.aload_n 0, 1) := dk_42 (dk_at dksL_law_7 0 rfl rfl)
theorem dL_law_257 : decode cL_law 257 = .ok (.iload_n 3, 1) := dk_29 (dk_at dksL_law_7 1 rfl rfl)
theorem dL_law_258 : decode cL_law 258 = .ok (.iconst 1, 1) := dk_4 (dk_at dksL_law_7 2 rfl rfl)
theorem dL_law_259 : decode cL_law 259 = .ok (.iadd, 1) := dk_96 (dk_at dksL_law_7 3 rfl rfl)
theorem dL_law_260 : decode cL_law 260 = .ok (.iaload, 1) := dk_46 (dk_at dksL_law_7 4 rfl rfl)
theorem dL_law_261 : decode cL_law 261 = .ok (.invokevirtual 27, 3) := dk_182 0 27 (dk_at dksL_law_7 5 rfl rfl)
theorem dL_law_264 : decode cL_law 264 = .ok (.if_icmp .eq 717, 3) := dk_159 2 205 (dk_at dksL_law_7 8 rfl rfl)
theorem dL_law_267 : decode cL_law 267 = .ok (.iconst 0, 1) := dk_3 (dk_at dksL_law_7 11 rfl rfl)
theorem dL_law_268 : decode cL_law 268 = .ok (.ireturn, 1) := dk_172 (dk_at dksL_law_7 12 rfl rfl)
theorem dL_law_269 : decode cL_law 269 = .ok (.aload_n 1, 1) := dk_43 (dk_at dksL_law_7 13 rfl rfl)
theorem dL_law_270 : decode cL_law 270 = .ok (.aload_n 0, 1) := dk_42 (dk_at dksL_law_7 14 rfl rfl)
theorem dL_law_271 : decode cL_law 271 = .ok (.iload_n 3, 1) := dk_29 (dk_at dksL_law_7 15 rfl rfl)
theorem dL_law_272 : decode cL_law 272 = .ok (.iconst 1, 1) := dk_4 (dk_at dksL_law_7 16 rfl rfl)
theorem dL_law_273 : decode cL_law 273 = .ok (.iadd, 1) := dk_96 (dk_at dksL_law_7 17 rfl rfl)
theorem dL_law_274 : decode cL_law 274 = .ok (.iaload, 1) := dk_46 (dk_at dksL_law_7 18 rfl rfl)
theorem dL_law_275 : decode cL_law 275 = .ok (.aload_n 0, 1) := dk_42 (dk_at dksL_law_7 19 rfl rfl)
theorem dL_law_276 : decode cL_law 276 = .ok (.iload_n 3, 1) := dk_29 (dk_at dksL_law_7 20 rfl rfl)
theorem dL_law_277 : decode cL_law 277 = .ok (.iconst 2, 1) := dk_5 (dk_at dksL_law_7 21 rfl rfl)
theorem dL_law_278 : decode cL_law 278 = .ok (.iadd, 1) := dk_96 (dk_at dksL_law_7 22 rfl rfl)
theorem dL_law_279 : decode cL_law 279 = .ok (.iaload, 1) := dk_46 (dk_at dksL_law_7 23 rfl rfl)
theorem dL_law_280 : decode cL_law 280 = .ok (.aload_n 0, 1) := dk_42 (dk_at dksL_law_8 0 rfl rfl)
theorem dL_law_281 : decode cL_law 281 = .ok (.iload_n 3, 1) := dk_29 (dk_at dksL_law_8 1 rfl rfl)
theorem dL_law_282 : decode cL_law 282 = .ok (.iconst 3, 1) := dk_6 (dk_at dksL_law_8 2 rfl rfl)
theorem dL_law_283 : decode cL_law 283 = .ok (.iadd, 1) := dk_96 (dk_at dksL_law_8 3 rfl rfl)
theorem dL_law_284 : decode cL_law 284 = .ok (.iaload, 1) := dk_46 (dk_at dksL_law_8 4 rfl rfl)
theorem dL_law_285 : decode cL_law 285 = .ok (.invokevirtual 28, 3) := dk_182 0 28 (dk_at dksL_law_8 5 rfl rfl)
theorem dL_law_288 : decode cL_law 288 = .ok (.aload_n 2, 1) := dk_44 (dk_at dksL_law_8 8 rfl rfl)
theorem dL_law_289 : decode cL_law 289 = .ok (.aload_n 0, 1) := dk_42 (dk_at dksL_law_8 9 rfl rfl)
theorem dL_law_290 : decode cL_law 290 = .ok (.iload_n 3, 1) := dk_29 (dk_at dksL_law_8 10 rfl rfl)
theorem dL_law_291 : decode cL_law 291 = .ok (.iconst 1, 1) := dk_4 (dk_at dksL_law_8 11 rfl rfl)
theorem dL_law_292 : decode cL_law 292 = .ok (.iadd, 1) := dk_96 (dk_at dksL_law_8 12 rfl rfl)
theorem dL_law_293 : decode cL_law 293 = .ok (.iaload, 1) := dk_46 (dk_at dksL_law_8 13 rfl rfl)
theorem dL_law_294 : decode cL_law 294 = .ok (.aload_n 0, 1) := dk_42 (dk_at dksL_law_8 14 rfl rfl)
theorem dL_law_295 : decode cL_law 295 = .ok (.iload_n 3, 1) := dk_29 (dk_at dksL_law_8 15 rfl rfl)
theorem dL_law_296 : decode cL_law 296 = .ok (.iconst 2, 1) := dk_5 (dk_at dksL_law_8 16 rfl rfl)
theorem dL_law_297 : decode cL_law 297 = .ok (.iadd, 1) := dk_96 (dk_at dksL_law_8 17 rfl rfl)
theorem dL_law_298 : decode cL_law 298 = .ok (.iaload, 1) := dk_46 (dk_at dksL_law_8 18 rfl rfl)
theorem dL_law_299 : decode cL_law 299 = .ok (.aload_n 0, 1) := dk_42 (dk_at dksL_law_8 19 rfl rfl)
theorem dL_law_300 : decode cL_law 300 = .ok (.iload_n 3, 1) := dk_29 (dk_at dksL_law_8 20 rfl rfl)
theorem dL_law_301 : decode cL_law 301 = .ok (.iconst 3, 1) := dk_6 (dk_at dksL_law_8 21 rfl rfl)
theorem dL_law_302 : decode cL_law 302 = .ok (.iadd, 1) := dk_96 (dk_at dksL_law_8 22 rfl rfl)
theorem dL_law_303 : decode cL_law 303 = .ok (.iaload, 1) := dk_46 (dk_at dksL_law_8 23 rfl rfl)
theorem dL_law_304 : decode cL_law 304 = .ok (.invokevirtual 32, 3) := dk_182 0 32 (dk_at dksL_law_9 0 rfl rfl)
theorem dL_law_307 : decode cL_law 307 = .ok (.if_icmp .eq 674, 3) := dk_159 2 162 (dk_at dksL_law_9 3 rfl rfl)
theorem dL_law_310 : decode cL_law 310 = .ok (.iconst 0, 1) := dk_3 (dk_at dksL_law_9 6 rfl rfl)
theorem dL_law_311 : decode cL_law 311 = .ok (.ireturn, 1) := dk_172 (dk_at dksL_law_9 7 rfl rfl)
theorem dL_law_312 : decode cL_law 312 = .ok (.aload_n 1, 1) := dk_43 (dk_at dksL_law_9 8 rfl rfl)
theorem dL_law_313 : decode cL_law 313 = .ok (.aload_n 0, 1) := dk_42 (dk_at dksL_law_9 9 rfl rfl)
theorem dL_law_314 : decode cL_law 314 = .ok (.iload_n 3, 1) := dk_29 (dk_at dksL_law_9 10 rfl rfl)
theorem dL_law_315 : decode cL_law 315 = .ok (.iconst 1, 1) := dk_4 (dk_at dksL_law_9 11 rfl rfl)
theorem dL_law_316 : decode cL_law 316 = .ok (.iadd, 1) := dk_96 (dk_at dksL_law_9 12 rfl rfl)
theorem dL_law_317 : decode cL_law 317 = .ok (.iaload, 1) := dk_46 (dk_at dksL_law_9 13 rfl rfl)
theorem dL_law_318 : decode cL_law 318 = .ok (.aload_n 0, 1) := dk_42 (dk_at dksL_law_9 14 rfl rfl)
theorem dL_law_319 : decode cL_law 319 = .ok (.iload_n 3, 1) := dk_29 (dk_at dksL_law_9 15 rfl rfl)
theorem dL_law_320 : decode cL_law 320 = .ok (.iconst 2, 1) := dk_5 (dk_at dksL_law_9 16 rfl rfl)
theorem dL_law_321 : decode cL_law 321 = .ok (.iadd, 1) := dk_96 (dk_at dksL_law_9 17 rfl rfl)
theorem dL_law_322 : decode cL_law 322 = .ok (.iaload, 1) := dk_46 (dk_at dksL_law_9 18 rfl rfl)
theorem dL_law_323 : decode cL_law 323 = .ok (.invokevirtual 33, 3) := dk_182 0 33 (dk_at dksL_law_9 19 rfl rfl)
theorem dL_law_326 : decode cL_law 326 = .ok (.aload_n 2, 1) := dk_44 (dk_at dksL_law_9 22 rfl rfl)
theorem dL_law_327 : decode cL_law 327 = .ok (.aload_n 0, 1) := dk_42 (dk_at dksL_law_9 23 rfl rfl)
theorem dL_law_328 : decode cL_law 328 = .ok (.iload_n 3, 1) := dk_29 (dk_at dksL_law_10 0 rfl rfl)
theorem dL_law_329 : decode cL_law 329 = .ok (.iconst 1, 1) := dk_4 (dk_at dksL_law_10 1 rfl rfl)
theorem dL_law_330 : decode cL_law 330 = .ok (.iadd, 1) := dk_96 (dk_at dksL_law_10 2 rfl rfl)
theorem dL_law_331 : decode cL_law 331 = .ok (.iaload, 1) := dk_46 (dk_at dksL_law_10 3 rfl rfl)
theorem dL_law_332 : decode cL_law 332 = .ok (.aload_n 0, 1) := dk_42 (dk_at dksL_law_10 4 rfl rfl)
theorem dL_law_333 : decode cL_law 333 = .ok (.iload_n 3, 1) := dk_29 (dk_at dksL_law_10 5 rfl rfl)
theorem dL_law_334 : decode cL_law 334 = .ok (.iconst 2, 1) := dk_5 (dk_at dksL_law_10 6 rfl rfl)
theorem dL_law_335 : decode cL_law 335 = .ok (.iadd, 1) := dk_96 (dk_at dksL_law_10 7 rfl rfl)
theorem dL_law_336 : decode cL_law 336 = .ok (.iaload, 1) := dk_46 (dk_at dksL_law_10 8 rfl rfl)
theorem dL_law_337 : decode cL_law 337 = .ok (.invokevirtual 37, 3) := dk_182 0 37 (dk_at dksL_law_10 9 rfl rfl)
theorem dL_law_340 : decode cL_law 340 = .ok (.if_icmp .eq 641, 3) := dk_159 2 129 (dk_at dksL_law_10 12 rfl rfl)
theorem dL_law_343 : decode cL_law 343 = .ok (.iconst 0, 1) := dk_3 (dk_at dksL_law_10 15 rfl rfl)
theorem dL_law_344 : decode cL_law 344 = .ok (.ireturn, 1) := dk_172 (dk_at dksL_law_10 16 rfl rfl)
theorem dL_law_345 : decode cL_law 345 = .ok (.aload_n 1, 1) := dk_43 (dk_at dksL_law_10 17 rfl rfl)
theorem dL_law_346 : decode cL_law 346 = .ok (.aload_n 0, 1) := dk_42 (dk_at dksL_law_10 18 rfl rfl)
theorem dL_law_347 : decode cL_law 347 = .ok (.iload_n 3, 1) := dk_29 (dk_at dksL_law_10 19 rfl rfl)
theorem dL_law_348 : decode cL_law 348 = .ok (.iconst 1, 1) := dk_4 (dk_at dksL_law_10 20 rfl rfl)
theorem dL_law_349 : decode cL_law 349 = .ok (.iadd, 1) := dk_96 (dk_at dksL_law_10 21 rfl rfl)
theorem dL_law_350 : decode cL_law 350 = .ok (.iaload, 1) := dk_46 (dk_at dksL_law_10 22 rfl rfl)
theorem dL_law_351 : decode cL_law 351 = .ok (.aload_n 0, 1) := dk_42 (dk_at dksL_law_10 23 rfl rfl)
theorem dL_law_352 : decode cL_law 352 = .ok (.iload_n 3, 1) := dk_29 (dk_at dksL_law_11 0 rfl rfl)
theorem dL_law_353 : decode cL_law 353 = .ok (.iconst 2, 1) := dk_5 (dk_at dksL_law_11 1 rfl rfl)
theorem dL_law_354 : decode cL_law 354 = .ok (.iadd, 1) := dk_96 (dk_at dksL_law_11 2 rfl rfl)
theorem dL_law_355 : decode cL_law 355 = .ok (.iaload, 1) := dk_46 (dk_at dksL_law_11 3 rfl rfl)
theorem dL_law_356 : decode cL_law 356 = .ok (.invokevirtual 38, 3) := dk_182 0 38 (dk_at dksL_law_11 4 rfl rfl)
theorem dL_law_359 : decode cL_law 359 = .ok (.aload_n 2, 1) := dk_44 (dk_at dksL_law_11 7 rfl rfl)
theorem dL_law_360 : decode cL_law 360 = .ok (.aload_n 0, 1) := dk_42 (dk_at dksL_law_11 8 rfl rfl)
theorem dL_law_361 : decode cL_law 361 = .ok (.iload_n 3, 1) := dk_29 (dk_at dksL_law_11 9 rfl rfl)
theorem dL_law_362 : decode cL_law 362 = .ok (.iconst 1, 1) := dk_4 (dk_at dksL_law_11 10 rfl rfl)
theorem dL_law_363 : decode cL_law 363 = .ok (.iadd, 1) := dk_96 (dk_at dksL_law_11 11 rfl rfl)
theorem dL_law_364 : decode cL_law 364 = .ok (.iaload, 1) := dk_46 (dk_at dksL_law_11 12 rfl rfl)
theorem dL_law_365 : decode cL_law 365 = .ok (.aload_n 0, 1) := dk_42 (dk_at dksL_law_11 13 rfl rfl)
theorem dL_law_366 : decode cL_law 366 = .ok (.iload_n 3, 1) := dk_29 (dk_at dksL_law_11 14 rfl rfl)
theorem dL_law_367 : decode cL_law 367 = .ok (.iconst 2, 1) := dk_5 (dk_at dksL_law_11 15 rfl rfl)
theorem dL_law_368 : decode cL_law 368 = .ok (.iadd, 1) := dk_96 (dk_at dksL_law_11 16 rfl rfl)
theorem dL_law_369 : decode cL_law 369 = .ok (.iaload, 1) := dk_46 (dk_at dksL_law_11 17 rfl rfl)
theorem dL_law_370 : decode cL_law 370 = .ok (.invokevirtual 41, 3) := dk_182 0 41 (dk_at dksL_law_11 18 rfl rfl)
theorem dL_law_373 : decode cL_law 373 = .ok (.if_icmp .eq 608, 3) := dk_159 2 96 (dk_at dksL_law_11 21 rfl rfl)
theorem dL_law_376 : decode cL_law 376 = .ok (.iconst 0, 1) := dk_3 (dk_at dksL_law_12 0 rfl rfl)
theorem dL_law_377 : decode cL_law 377 = .ok (.ireturn, 1) := dk_172 (dk_at dksL_law_12 1 rfl rfl)
theorem dL_law_378 : decode cL_law 378 = .ok (.aload_n 1, 1) := dk_43 (dk_at dksL_law_12 2 rfl rfl)
theorem dL_law_379 : decode cL_law 379 = .ok (.invokevirtual 42, 3) := dk_182 0 42 (dk_at dksL_law_12 3 rfl rfl)
theorem dL_law_382 : decode cL_law 382 = .ok (.aload_n 2, 1) := dk_44 (dk_at dksL_law_12 6 rfl rfl)
theorem dL_law_383 : decode cL_law 383 = .ok (.invokevirtual 46, 3) := dk_182 0 46 (dk_at dksL_law_12 7 rfl rfl)
theorem dL_law_386 : decode cL_law 386 = .ok (.if_icmp .eq 595, 3) := dk_159 2 83 (dk_at dksL_law_12 10 rfl rfl)
theorem dL_law_389 : decode cL_law 389 = .ok (.iconst 0, 1) := dk_3 (dk_at dksL_law_12 13 rfl rfl)
theorem dL_law_390 : decode cL_law 390 = .ok (.ireturn, 1) := dk_172 (dk_at dksL_law_12 14 rfl rfl)
theorem dL_law_391 : decode cL_law 391 = .ok (.aload_n 1, 1) := dk_43 (dk_at dksL_law_12 15 rfl rfl)
theorem dL_law_392 : decode cL_law 392 = .ok (.aload_n 0, 1) := dk_42 (dk_at dksL_law_12 16 rfl rfl)
theorem dL_law_393 : decode cL_law 393 = .ok (.iload_n 3, 1) := dk_29 (dk_at dksL_law_12 17 rfl rfl)
theorem dL_law_394 : decode cL_law 394 = .ok (.iconst 1, 1) := dk_4 (dk_at dksL_law_12 18 rfl rfl)
theorem dL_law_395 : decode cL_law 395 = .ok (.iadd, 1) := dk_96 (dk_at dksL_law_12 19 rfl rfl)
theorem dL_law_396 : decode cL_law 396 = .ok (.iaload, 1) := dk_46 (dk_at dksL_law_12 20 rfl rfl)
theorem dL_law_397 : decode cL_law 397 = .ok (.invokevirtual 47, 3) := dk_182 0 47 (dk_at dksL_law_12 21 rfl rfl)
theorem dL_law_400 : decode cL_law 400 = .ok (.aload_n 2, 1) := dk_44 (dk_at dksL_law_13 0 rfl rfl)
theorem dL_law_401 : decode cL_law 401 = .ok (.aload_n 0, 1) := dk_42 (dk_at dksL_law_13 1 rfl rfl)
theorem dL_law_402 : decode cL_law 402 = .ok (.iload_n 3, 1) := dk_29 (dk_at dksL_law_13 2 rfl rfl)
theorem dL_law_403 : decode cL_law 403 = .ok (.iconst 1, 1) := dk_4 (dk_at dksL_law_13 3 rfl rfl)
theorem dL_law_404 : decode cL_law 404 = .ok (.iadd, 1) := dk_96 (dk_at dksL_law_13 4 rfl rfl)
theorem dL_law_405 : decode cL_law 405 = .ok (.iaload, 1) := dk_46 (dk_at dksL_law_13 5 rfl rfl)
theorem dL_law_406 : decode cL_law 406 = .ok (.invokevirtual 50, 3) := dk_182 0 50 (dk_at dksL_law_13 6 rfl rfl)
theorem dL_law_409 : decode cL_law 409 = .ok (.if_icmp .eq 572, 3) := dk_159 2 60 (dk_at dksL_law_13 9 rfl rfl)
theorem dL_law_412 : decode cL_law 412 = .ok (.iconst 0, 1) := dk_3 (dk_at dksL_law_13 12 rfl rfl)
theorem dL_law_413 : decode cL_law 413 = .ok (.ireturn, 1) := dk_172 (dk_at dksL_law_13 13 rfl rfl)
theorem dL_law_414 : decode cL_law 414 = .ok (.aload_n 1, 1) := dk_43 (dk_at dksL_law_13 14 rfl rfl)
theorem dL_law_415 : decode cL_law 415 = .ok (.aload_n 0, 1) := dk_42 (dk_at dksL_law_13 15 rfl rfl)
theorem dL_law_416 : decode cL_law 416 = .ok (.iload_n 3, 1) := dk_29 (dk_at dksL_law_13 16 rfl rfl)
theorem dL_law_417 : decode cL_law 417 = .ok (.iconst 1, 1) := dk_4 (dk_at dksL_law_13 17 rfl rfl)
theorem dL_law_418 : decode cL_law 418 = .ok (.iadd, 1) := dk_96 (dk_at dksL_law_13 18 rfl rfl)
theorem dL_law_419 : decode cL_law 419 = .ok (.iaload, 1) := dk_46 (dk_at dksL_law_13 19 rfl rfl)
theorem dL_law_420 : decode cL_law 420 = .ok (.invokevirtual 51, 3) := dk_182 0 51 (dk_at dksL_law_13 20 rfl rfl)
theorem dL_law_423 : decode cL_law 423 = .ok (.aload_n 2, 1) := dk_44 (dk_at dksL_law_13 23 rfl rfl)
theorem dL_law_424 : decode cL_law 424 = .ok (.aload_n 0, 1) := dk_42 (dk_at dksL_law_14 0 rfl rfl)
theorem dL_law_425 : decode cL_law 425 = .ok (.iload_n 3, 1) := dk_29 (dk_at dksL_law_14 1 rfl rfl)
theorem dL_law_426 : decode cL_law 426 = .ok (.iconst 1, 1) := dk_4 (dk_at dksL_law_14 2 rfl rfl)
theorem dL_law_427 : decode cL_law 427 = .ok (.iadd, 1) := dk_96 (dk_at dksL_law_14 3 rfl rfl)
theorem dL_law_428 : decode cL_law 428 = .ok (.iaload, 1) := dk_46 (dk_at dksL_law_14 4 rfl rfl)
theorem dL_law_429 : decode cL_law 429 = .ok (.invokevirtual 54, 3) := dk_182 0 54 (dk_at dksL_law_14 5 rfl rfl)
theorem dL_law_432 : decode cL_law 432 = .ok (.if_icmp .eq 549, 3) := dk_159 2 37 (dk_at dksL_law_14 8 rfl rfl)
theorem dL_law_435 : decode cL_law 435 = .ok (.iconst 0, 1) := dk_3 (dk_at dksL_law_14 11 rfl rfl)
theorem dL_law_436 : decode cL_law 436 = .ok (.ireturn, 1) := dk_172 (dk_at dksL_law_14 12 rfl rfl)
theorem dL_law_437 : decode cL_law 437 = .ok (.aload_n 1, 1) := dk_43 (dk_at dksL_law_14 13 rfl rfl)
theorem dL_law_438 : decode cL_law 438 = .ok (.aload_n 0, 1) := dk_42 (dk_at dksL_law_14 14 rfl rfl)
theorem dL_law_439 : decode cL_law 439 = .ok (.iload_n 3, 1) := dk_29 (dk_at dksL_law_14 15 rfl rfl)
theorem dL_law_440 : decode cL_law 440 = .ok (.iconst 1, 1) := dk_4 (dk_at dksL_law_14 16 rfl rfl)
theorem dL_law_441 : decode cL_law 441 = .ok (.iadd, 1) := dk_96 (dk_at dksL_law_14 17 rfl rfl)
theorem dL_law_442 : decode cL_law 442 = .ok (.iaload, 1) := dk_46 (dk_at dksL_law_14 18 rfl rfl)
theorem dL_law_443 : decode cL_law 443 = .ok (.invokevirtual 55, 3) := dk_182 0 55 (dk_at dksL_law_14 19 rfl rfl)
theorem dL_law_446 : decode cL_law 446 = .ok (.aload_n 2, 1) := dk_44 (dk_at dksL_law_14 22 rfl rfl)
theorem dL_law_447 : decode cL_law 447 = .ok (.aload_n 0, 1) := dk_42 (dk_at dksL_law_14 23 rfl rfl)
theorem dL_law_448 : decode cL_law 448 = .ok (.iload_n 3, 1) := dk_29 (dk_at dksL_law_15 0 rfl rfl)
theorem dL_law_449 : decode cL_law 449 = .ok (.iconst 1, 1) := dk_4 (dk_at dksL_law_15 1 rfl rfl)
theorem dL_law_450 : decode cL_law 450 = .ok (.iadd, 1) := dk_96 (dk_at dksL_law_15 2 rfl rfl)
theorem dL_law_451 : decode cL_law 451 = .ok (.iaload, 1) := dk_46 (dk_at dksL_law_15 3 rfl rfl)
theorem dL_law_452 : decode cL_law 452 = .ok (.invokevirtual 58, 3) := dk_182 0 58 (dk_at dksL_law_15 4 rfl rfl)
theorem dL_law_455 : decode cL_law 455 = .ok (.if_icmp .eq 526, 3) := dk_159 2 14 (dk_at dksL_law_15 7 rfl rfl)
theorem dL_law_458 : decode cL_law 458 = .ok (.iconst 0, 1) := dk_3 (dk_at dksL_law_15 10 rfl rfl)
theorem dL_law_459 : decode cL_law 459 = .ok (.ireturn, 1) := dk_172 (dk_at dksL_law_15 11 rfl rfl)
theorem dL_law_460 : decode cL_law 460 = .ok (.aload_n 1, 1) := dk_43 (dk_at dksL_law_15 12 rfl rfl)
theorem dL_law_461 : decode cL_law 461 = .ok (.aload_n 0, 1) := dk_42 (dk_at dksL_law_15 13 rfl rfl)
theorem dL_law_462 : decode cL_law 462 = .ok (.iload_n 3, 1) := dk_29 (dk_at dksL_law_15 14 rfl rfl)
theorem dL_law_463 : decode cL_law 463 = .ok (.iconst 1, 1) := dk_4 (dk_at dksL_law_15 15 rfl rfl)
theorem dL_law_464 : decode cL_law 464 = .ok (.iadd, 1) := dk_96 (dk_at dksL_law_15 16 rfl rfl)
theorem dL_law_465 : decode cL_law 465 = .ok (.iaload, 1) := dk_46 (dk_at dksL_law_15 17 rfl rfl)
theorem dL_law_466 : decode cL_law 466 = .ok (.aload_n 0, 1) := dk_42 (dk_at dksL_law_15 18 rfl rfl)
theorem dL_law_467 : decode cL_law 467 = .ok (.iload_n 3, 1) := dk_29 (dk_at dksL_law_15 19 rfl rfl)
theorem dL_law_468 : decode cL_law 468 = .ok (.iconst 2, 1) := dk_5 (dk_at dksL_law_15 20 rfl rfl)
theorem dL_law_469 : decode cL_law 469 = .ok (.iadd, 1) := dk_96 (dk_at dksL_law_15 21 rfl rfl)
theorem dL_law_470 : decode cL_law 470 = .ok (.iaload, 1) := dk_46 (dk_at dksL_law_15 22 rfl rfl)
theorem dL_law_471 : decode cL_law 471 = .ok (.invokevirtual 59, 3) := dk_182 0 59 (dk_at dksL_law_16 0 rfl rfl)
theorem dL_law_474 : decode cL_law 474 = .ok (.aload_n 2, 1) := dk_44 (dk_at dksL_law_16 3 rfl rfl)
theorem dL_law_475 : decode cL_law 475 = .ok (.aload_n 0, 1) := dk_42 (dk_at dksL_law_16 4 rfl rfl)
theorem dL_law_476 : decode cL_law 476 = .ok (.iload_n 3, 1) := dk_29 (dk_at dksL_law_16 5 rfl rfl)
theorem dL_law_477 : decode cL_law 477 = .ok (.iconst 1, 1) := dk_4 (dk_at dksL_law_16 6 rfl rfl)
theorem dL_law_478 : decode cL_law 478 = .ok (.iadd, 1) := dk_96 (dk_at dksL_law_16 7 rfl rfl)
theorem dL_law_479 : decode cL_law 479 = .ok (.iaload, 1) := dk_46 (dk_at dksL_law_16 8 rfl rfl)
theorem dL_law_480 : decode cL_law 480 = .ok (.aload_n 0, 1) := dk_42 (dk_at dksL_law_16 9 rfl rfl)
theorem dL_law_481 : decode cL_law 481 = .ok (.iload_n 3, 1) := dk_29 (dk_at dksL_law_16 10 rfl rfl)
theorem dL_law_482 : decode cL_law 482 = .ok (.iconst 2, 1) := dk_5 (dk_at dksL_law_16 11 rfl rfl)
theorem dL_law_483 : decode cL_law 483 = .ok (.iadd, 1) := dk_96 (dk_at dksL_law_16 12 rfl rfl)
theorem dL_law_484 : decode cL_law 484 = .ok (.iaload, 1) := dk_46 (dk_at dksL_law_16 13 rfl rfl)
theorem dL_law_485 : decode cL_law 485 = .ok (.invokevirtual 63, 3) := dk_182 0 63 (dk_at dksL_law_16 14 rfl rfl)
theorem dL_law_488 : decode cL_law 488 = .ok (.if_icmp .eq 493, 3) := dk_159 1 237 (dk_at dksL_law_16 17 rfl rfl)
theorem dL_law_491 : decode cL_law 491 = .ok (.iconst 0, 1) := dk_3 (dk_at dksL_law_16 20 rfl rfl)
theorem dL_law_492 : decode cL_law 492 = .ok (.ireturn, 1) := dk_172 (dk_at dksL_law_16 21 rfl rfl)
theorem dL_law_493 : decode cL_law 493 = .ok (.aload_n 1, 1) := dk_43 (dk_at dksL_law_16 22 rfl rfl)
theorem dL_law_494 : decode cL_law 494 = .ok (.aload_n 0, 1) := dk_42 (dk_at dksL_law_16 23 rfl rfl)
theorem dL_law_495 : decode cL_law 495 = .ok (.iload_n 3, 1) := dk_29 (dk_at dksL_law_17 0 rfl rfl)
theorem dL_law_496 : decode cL_law 496 = .ok (.iconst 1, 1) := dk_4 (dk_at dksL_law_17 1 rfl rfl)
theorem dL_law_497 : decode cL_law 497 = .ok (.iadd, 1) := dk_96 (dk_at dksL_law_17 2 rfl rfl)
theorem dL_law_498 : decode cL_law 498 = .ok (.iaload, 1) := dk_46 (dk_at dksL_law_17 3 rfl rfl)
theorem dL_law_499 : decode cL_law 499 = .ok (.invokevirtual 64, 3) := dk_182 0 64 (dk_at dksL_law_17 4 rfl rfl)
theorem dL_law_502 : decode cL_law 502 = .ok (.aload_n 2, 1) := dk_44 (dk_at dksL_law_17 7 rfl rfl)
theorem dL_law_503 : decode cL_law 503 = .ok (.aload_n 0, 1) := dk_42 (dk_at dksL_law_17 8 rfl rfl)
theorem dL_law_504 : decode cL_law 504 = .ok (.iload_n 3, 1) := dk_29 (dk_at dksL_law_17 9 rfl rfl)
theorem dL_law_505 : decode cL_law 505 = .ok (.iconst 1, 1) := dk_4 (dk_at dksL_law_17 10 rfl rfl)
theorem dL_law_506 : decode cL_law 506 = .ok (.iadd, 1) := dk_96 (dk_at dksL_law_17 11 rfl rfl)
theorem dL_law_507 : decode cL_law 507 = .ok (.iaload, 1) := dk_46 (dk_at dksL_law_17 12 rfl rfl)
theorem dL_law_508 : decode cL_law 508 = .ok (.invokevirtual 67, 3) := dk_182 0 67 (dk_at dksL_law_17 13 rfl rfl)
theorem dL_law_511 : decode cL_law 511 = .ok (.if_icmp .eq 470, 3) := dk_159 1 214 (dk_at dksL_law_17 16 rfl rfl)
theorem dL_law_514 : decode cL_law 514 = .ok (.iconst 0, 1) := dk_3 (dk_at dksL_law_17 19 rfl rfl)
theorem dL_law_515 : decode cL_law 515 = .ok (.ireturn, 1) := dk_172 (dk_at dksL_law_17 20 rfl rfl)
theorem dL_law_516 : decode cL_law 516 = .ok (.aload_n 1, 1) := dk_43 (dk_at dksL_law_17 21 rfl rfl)
theorem dL_law_517 : decode cL_law 517 = .ok (.aload_n 0, 1) := dk_42 (dk_at dksL_law_17 22 rfl rfl)
theorem dL_law_518 : decode cL_law 518 = .ok (.iload_n 3, 1) := dk_29 (dk_at dksL_law_17 23 rfl rfl)
theorem dL_law_519 : decode cL_law 519 = .ok (.iconst 1, 1) := dk_4 (dk_at dksL_law_18 0 rfl rfl)
theorem dL_law_520 : decode cL_law 520 = .ok (.iadd, 1) := dk_96 (dk_at dksL_law_18 1 rfl rfl)
theorem dL_law_521 : decode cL_law 521 = .ok (.iaload, 1) := dk_46 (dk_at dksL_law_18 2 rfl rfl)
theorem dL_law_522 : decode cL_law 522 = .ok (.invokevirtual 68, 3) := dk_182 0 68 (dk_at dksL_law_18 3 rfl rfl)
theorem dL_law_525 : decode cL_law 525 = .ok (.aload_n 2, 1) := dk_44 (dk_at dksL_law_18 6 rfl rfl)
theorem dL_law_526 : decode cL_law 526 = .ok (.aload_n 0, 1) := dk_42 (dk_at dksL_law_18 7 rfl rfl)
theorem dL_law_527 : decode cL_law 527 = .ok (.iload_n 3, 1) := dk_29 (dk_at dksL_law_18 8 rfl rfl)
theorem dL_law_528 : decode cL_law 528 = .ok (.iconst 1, 1) := dk_4 (dk_at dksL_law_18 9 rfl rfl)
theorem dL_law_529 : decode cL_law 529 = .ok (.iadd, 1) := dk_96 (dk_at dksL_law_18 10 rfl rfl)
theorem dL_law_530 : decode cL_law 530 = .ok (.iaload, 1) := dk_46 (dk_at dksL_law_18 11 rfl rfl)
theorem dL_law_531 : decode cL_law 531 = .ok (.invokevirtual 71, 3) := dk_182 0 71 (dk_at dksL_law_18 12 rfl rfl)
theorem dL_law_534 : decode cL_law 534 = .ok (.if_icmp .eq 447, 3) := dk_159 1 191 (dk_at dksL_law_18 15 rfl rfl)
theorem dL_law_537 : decode cL_law 537 = .ok (.iconst 0, 1) := dk_3 (dk_at dksL_law_18 18 rfl rfl)
theorem dL_law_538 : decode cL_law 538 = .ok (.ireturn, 1) := dk_172 (dk_at dksL_law_18 19 rfl rfl)
theorem dL_law_539 : decode cL_law 539 = .ok (.aload_n 1, 1) := dk_43 (dk_at dksL_law_18 20 rfl rfl)
theorem dL_law_540 : decode cL_law 540 = .ok (.aload_n 0, 1) := dk_42 (dk_at dksL_law_18 21 rfl rfl)
theorem dL_law_541 : decode cL_law 541 = .ok (.iload_n 3, 1) := dk_29 (dk_at dksL_law_18 22 rfl rfl)
theorem dL_law_542 : decode cL_law 542 = .ok (.iconst 1, 1) := dk_4 (dk_at dksL_law_18 23 rfl rfl)
theorem dL_law_543 : decode cL_law 543 = .ok (.iadd, 1) := dk_96 (dk_at dksL_law_19 0 rfl rfl)
theorem dL_law_544 : decode cL_law 544 = .ok (.iaload, 1) := dk_46 (dk_at dksL_law_19 1 rfl rfl)
theorem dL_law_545 : decode cL_law 545 = .ok (.invokevirtual 72, 3) := dk_182 0 72 (dk_at dksL_law_19 2 rfl rfl)
theorem dL_law_548 : decode cL_law 548 = .ok (.aload_n 2, 1) := dk_44 (dk_at dksL_law_19 5 rfl rfl)
theorem dL_law_549 : decode cL_law 549 = .ok (.aload_n 0, 1) := dk_42 (dk_at dksL_law_19 6 rfl rfl)
theorem dL_law_550 : decode cL_law 550 = .ok (.iload_n 3, 1) := dk_29 (dk_at dksL_law_19 7 rfl rfl)
theorem dL_law_551 : decode cL_law 551 = .ok (.iconst 1, 1) := dk_4 (dk_at dksL_law_19 8 rfl rfl)
theorem dL_law_552 : decode cL_law 552 = .ok (.iadd, 1) := dk_96 (dk_at dksL_law_19 9 rfl rfl)
theorem dL_law_553 : decode cL_law 553 = .ok (.iaload, 1) := dk_46 (dk_at dksL_law_19 10 rfl rfl)
theorem dL_law_554 : decode cL_law 554 = .ok (.invokevirtual 75, 3) := dk_182 0 75 (dk_at dksL_law_19 11 rfl rfl)
theorem dL_law_557 : decode cL_law 557 = .ok (.if_icmp .eq 424, 3) := dk_159 1 168 (dk_at dksL_law_19 14 rfl rfl)
theorem dL_law_560 : decode cL_law 560 = .ok (.iconst 0, 1) := dk_3 (dk_at dksL_law_19 17 rfl rfl)
theorem dL_law_561 : decode cL_law 561 = .ok (.ireturn, 1) := dk_172 (dk_at dksL_law_19 18 rfl rfl)
theorem dL_law_562 : decode cL_law 562 = .ok (.aload_n 1, 1) := dk_43 (dk_at dksL_law_19 19 rfl rfl)
theorem dL_law_563 : decode cL_law 563 = .ok (.aload_n 0, 1) := dk_42 (dk_at dksL_law_19 20 rfl rfl)
theorem dL_law_564 : decode cL_law 564 = .ok (.iload_n 3, 1) := dk_29 (dk_at dksL_law_19 21 rfl rfl)
theorem dL_law_565 : decode cL_law 565 = .ok (.iconst 1, 1) := dk_4 (dk_at dksL_law_19 22 rfl rfl)
theorem dL_law_566 : decode cL_law 566 = .ok (.iadd, 1) := dk_96 (dk_at dksL_law_19 23 rfl rfl)
theorem dL_law_567 : decode cL_law 567 = .ok (.iaload, 1) := dk_46 (dk_at dksL_law_20 0 rfl rfl)
theorem dL_law_568 : decode cL_law 568 = .ok (.invokevirtual 76, 3) := dk_182 0 76 (dk_at dksL_law_20 1 rfl rfl)
theorem dL_law_571 : decode cL_law 571 = .ok (.aload_n 2, 1) := dk_44 (dk_at dksL_law_20 4 rfl rfl)
theorem dL_law_572 : decode cL_law 572 = .ok (.aload_n 0, 1) := dk_42 (dk_at dksL_law_20 5 rfl rfl)
theorem dL_law_573 : decode cL_law 573 = .ok (.iload_n 3, 1) := dk_29 (dk_at dksL_law_20 6 rfl rfl)
theorem dL_law_574 : decode cL_law 574 = .ok (.iconst 1, 1) := dk_4 (dk_at dksL_law_20 7 rfl rfl)
theorem dL_law_575 : decode cL_law 575 = .ok (.iadd, 1) := dk_96 (dk_at dksL_law_20 8 rfl rfl)
theorem dL_law_576 : decode cL_law 576 = .ok (.iaload, 1) := dk_46 (dk_at dksL_law_20 9 rfl rfl)
theorem dL_law_577 : decode cL_law 577 = .ok (.invokevirtual 79, 3) := dk_182 0 79 (dk_at dksL_law_20 10 rfl rfl)
theorem dL_law_580 : decode cL_law 580 = .ok (.if_icmp .eq 401, 3) := dk_159 1 145 (dk_at dksL_law_20 13 rfl rfl)
theorem dL_law_583 : decode cL_law 583 = .ok (.iconst 0, 1) := dk_3 (dk_at dksL_law_20 16 rfl rfl)
theorem dL_law_584 : decode cL_law 584 = .ok (.ireturn, 1) := dk_172 (dk_at dksL_law_20 17 rfl rfl)
theorem dL_law_585 : decode cL_law 585 = .ok (.aload_n 1, 1) := dk_43 (dk_at dksL_law_20 18 rfl rfl)
theorem dL_law_586 : decode cL_law 586 = .ok (.aload_n 0, 1) := dk_42 (dk_at dksL_law_20 19 rfl rfl)
theorem dL_law_587 : decode cL_law 587 = .ok (.iload_n 3, 1) := dk_29 (dk_at dksL_law_20 20 rfl rfl)
theorem dL_law_588 : decode cL_law 588 = .ok (.iconst 1, 1) := dk_4 (dk_at dksL_law_20 21 rfl rfl)
theorem dL_law_589 : decode cL_law 589 = .ok (.iadd, 1) := dk_96 (dk_at dksL_law_20 22 rfl rfl)
theorem dL_law_590 : decode cL_law 590 = .ok (.iaload, 1) := dk_46 (dk_at dksL_law_20 23 rfl rfl)
theorem dL_law_591 : decode cL_law 591 = .ok (.invokevirtual 80, 3) := dk_182 0 80 (dk_at dksL_law_21 0 rfl rfl)
theorem dL_law_594 : decode cL_law 594 = .ok (.aload_n 2, 1) := dk_44 (dk_at dksL_law_21 3 rfl rfl)
theorem dL_law_595 : decode cL_law 595 = .ok (.aload_n 0, 1) := dk_42 (dk_at dksL_law_21 4 rfl rfl)
theorem dL_law_596 : decode cL_law 596 = .ok (.iload_n 3, 1) := dk_29 (dk_at dksL_law_21 5 rfl rfl)
theorem dL_law_597 : decode cL_law 597 = .ok (.iconst 1, 1) := dk_4 (dk_at dksL_law_21 6 rfl rfl)
theorem dL_law_598 : decode cL_law 598 = .ok (.iadd, 1) := dk_96 (dk_at dksL_law_21 7 rfl rfl)
theorem dL_law_599 : decode cL_law 599 = .ok (.iaload, 1) := dk_46 (dk_at dksL_law_21 8 rfl rfl)
theorem dL_law_600 : decode cL_law 600 = .ok (.invokevirtual 83, 3) := dk_182 0 83 (dk_at dksL_law_21 9 rfl rfl)
theorem dL_law_603 : decode cL_law 603 = .ok (.if_icmp .eq 378, 3) := dk_159 1 122 (dk_at dksL_law_21 12 rfl rfl)
theorem dL_law_606 : decode cL_law 606 = .ok (.iconst 0, 1) := dk_3 (dk_at dksL_law_21 15 rfl rfl)
theorem dL_law_607 : decode cL_law 607 = .ok (.ireturn, 1) := dk_172 (dk_at dksL_law_21 16 rfl rfl)
theorem dL_law_608 : decode cL_law 608 = .ok (.aload_n 1, 1) := dk_43 (dk_at dksL_law_21 17 rfl rfl)
theorem dL_law_609 : decode cL_law 609 = .ok (.aload_n 0, 1) := dk_42 (dk_at dksL_law_21 18 rfl rfl)
theorem dL_law_610 : decode cL_law 610 = .ok (.iload_n 3, 1) := dk_29 (dk_at dksL_law_21 19 rfl rfl)
theorem dL_law_611 : decode cL_law 611 = .ok (.iconst 1, 1) := dk_4 (dk_at dksL_law_21 20 rfl rfl)
theorem dL_law_612 : decode cL_law 612 = .ok (.iadd, 1) := dk_96 (dk_at dksL_law_21 21 rfl rfl)
theorem dL_law_613 : decode cL_law 613 = .ok (.iaload, 1) := dk_46 (dk_at dksL_law_21 22 rfl rfl)
theorem dL_law_614 : decode cL_law 614 = .ok (.aload_n 0, 1) := dk_42 (dk_at dksL_law_21 23 rfl rfl)
theorem dL_law_615 : decode cL_law 615 = .ok (.iload_n 3, 1) := dk_29 (dk_at dksL_law_22 0 rfl rfl)
theorem dL_law_616 : decode cL_law 616 = .ok (.iconst 2, 1) := dk_5 (dk_at dksL_law_22 1 rfl rfl)
theorem dL_law_617 : decode cL_law 617 = .ok (.iadd, 1) := dk_96 (dk_at dksL_law_22 2 rfl rfl)
theorem dL_law_618 : decode cL_law 618 = .ok (.iaload, 1) := dk_46 (dk_at dksL_law_22 3 rfl rfl)
theorem dL_law_619 : decode cL_law 619 = .ok (.invokevirtual 84, 3) := dk_182 0 84 (dk_at dksL_law_22 4 rfl rfl)
theorem dL_law_622 : decode cL_law 622 = .ok (.aload_n 2, 1) := dk_44 (dk_at dksL_law_22 7 rfl rfl)
theorem dL_law_623 : decode cL_law 623 = .ok (.aload_n 0, 1) := dk_42 (dk_at dksL_law_22 8 rfl rfl)
theorem dL_law_624 : decode cL_law 624 = .ok (.iload_n 3, 1) := dk_29 (dk_at dksL_law_22 9 rfl rfl)
theorem dL_law_625 : decode cL_law 625 = .ok (.iconst 1, 1) := dk_4 (dk_at dksL_law_22 10 rfl rfl)
theorem dL_law_626 : decode cL_law 626 = .ok (.iadd, 1) := dk_96 (dk_at dksL_law_22 11 rfl rfl)
theorem dL_law_627 : decode cL_law 627 = .ok (.iaload, 1) := dk_46 (dk_at dksL_law_22 12 rfl rfl)
theorem dL_law_628 : decode cL_law 628 = .ok (.aload_n 0, 1) := dk_42 (dk_at dksL_law_22 13 rfl rfl)
theorem dL_law_629 : decode cL_law 629 = .ok (.iload_n 3, 1) := dk_29 (dk_at dksL_law_22 14 rfl rfl)
theorem dL_law_630 : decode cL_law 630 = .ok (.iconst 2, 1) := dk_5 (dk_at dksL_law_22 15 rfl rfl)
theorem dL_law_631 : decode cL_law 631 = .ok (.iadd, 1) := dk_96 (dk_at dksL_law_22 16 rfl rfl)
theorem dL_law_632 : decode cL_law 632 = .ok (.iaload, 1) := dk_46 (dk_at dksL_law_22 17 rfl rfl)
theorem dL_law_633 : decode cL_law 633 = .ok (.invokevirtual 87, 3) := dk_182 0 87 (dk_at dksL_law_22 18 rfl rfl)
theorem dL_law_636 : decode cL_law 636 = .ok (.if_icmp .eq 345, 3) := dk_159 1 89 (dk_at dksL_law_22 21 rfl rfl)
theorem dL_law_639 : decode cL_law 639 = .ok (.iconst 0, 1) := dk_3 (dk_at dksL_law_23 0 rfl rfl)
theorem dL_law_640 : decode cL_law 640 = .ok (.ireturn, 1) := dk_172 (dk_at dksL_law_23 1 rfl rfl)
theorem dL_law_641 : decode cL_law 641 = .ok (.aload_n 1, 1) := dk_43 (dk_at dksL_law_23 2 rfl rfl)
theorem dL_law_642 : decode cL_law 642 = .ok (.aload_n 0, 1) := dk_42 (dk_at dksL_law_23 3 rfl rfl)
theorem dL_law_643 : decode cL_law 643 = .ok (.iload_n 3, 1) := dk_29 (dk_at dksL_law_23 4 rfl rfl)
theorem dL_law_644 : decode cL_law 644 = .ok (.iconst 1, 1) := dk_4 (dk_at dksL_law_23 5 rfl rfl)
theorem dL_law_645 : decode cL_law 645 = .ok (.iadd, 1) := dk_96 (dk_at dksL_law_23 6 rfl rfl)
theorem dL_law_646 : decode cL_law 646 = .ok (.iaload, 1) := dk_46 (dk_at dksL_law_23 7 rfl rfl)
theorem dL_law_647 : decode cL_law 647 = .ok (.aload_n 0, 1) := dk_42 (dk_at dksL_law_23 8 rfl rfl)
theorem dL_law_648 : decode cL_law 648 = .ok (.iload_n 3, 1) := dk_29 (dk_at dksL_law_23 9 rfl rfl)
theorem dL_law_649 : decode cL_law 649 = .ok (.iconst 2, 1) := dk_5 (dk_at dksL_law_23 10 rfl rfl)
theorem dL_law_650 : decode cL_law 650 = .ok (.iadd, 1) := dk_96 (dk_at dksL_law_23 11 rfl rfl)
theorem dL_law_651 : decode cL_law 651 = .ok (.iaload, 1) := dk_46 (dk_at dksL_law_23 12 rfl rfl)
theorem dL_law_652 : decode cL_law 652 = .ok (.aload_n 0, 1) := dk_42 (dk_at dksL_law_23 13 rfl rfl)
theorem dL_law_653 : decode cL_law 653 = .ok (.iload_n 3, 1) := dk_29 (dk_at dksL_law_23 14 rfl rfl)
theorem dL_law_654 : decode cL_law 654 = .ok (.iconst 3, 1) := dk_6 (dk_at dksL_law_23 15 rfl rfl)
theorem dL_law_655 : decode cL_law 655 = .ok (.iadd, 1) := dk_96 (dk_at dksL_law_23 16 rfl rfl)
theorem dL_law_656 : decode cL_law 656 = .ok (.iaload, 1) := dk_46 (dk_at dksL_law_23 17 rfl rfl)
theorem dL_law_657 : decode cL_law 657 = .ok (.invokevirtual 88, 3) := dk_182 0 88 (dk_at dksL_law_23 18 rfl rfl)
theorem dL_law_660 : decode cL_law 660 = .ok (.aload_n 2, 1) := dk_44 (dk_at dksL_law_23 21 rfl rfl)
theorem dL_law_661 : decode cL_law 661 = .ok (.aload_n 0, 1) := dk_42 (dk_at dksL_law_23 22 rfl rfl)
theorem dL_law_662 : decode cL_law 662 = .ok (.iload_n 3, 1) := dk_29 (dk_at dksL_law_23 23 rfl rfl)
theorem dL_law_663 : decode cL_law 663 = .ok (.iconst 1, 1) := dk_4 (dk_at dksL_law_24 0 rfl rfl)
theorem dL_law_664 : decode cL_law 664 = .ok (.iadd, 1) := dk_96 (dk_at dksL_law_24 1 rfl rfl)
theorem dL_law_665 : decode cL_law 665 = .ok (.iaload, 1) := dk_46 (dk_at dksL_law_24 2 rfl rfl)
theorem dL_law_666 : decode cL_law 666 = .ok (.aload_n 0, 1) := dk_42 (dk_at dksL_law_24 3 rfl rfl)
theorem dL_law_667 : decode cL_law 667 = .ok (.iload_n 3, 1) := dk_29 (dk_at dksL_law_24 4 rfl rfl)
theorem dL_law_668 : decode cL_law 668 = .ok (.iconst 2, 1) := dk_5 (dk_at dksL_law_24 5 rfl rfl)
theorem dL_law_669 : decode cL_law 669 = .ok (.iadd, 1) := dk_96 (dk_at dksL_law_24 6 rfl rfl)
theorem dL_law_670 : decode cL_law 670 = .ok (.iaload, 1) := dk_46 (dk_at dksL_law_24 7 rfl rfl)
theorem dL_law_671 : decode cL_law 671 = .ok (.aload_n 0, 1) := dk_42 (dk_at dksL_law_24 8 rfl rfl)
theorem dL_law_672 : decode cL_law 672 = .ok (.iload_n 3, 1) := dk_29 (dk_at dksL_law_24 9 rfl rfl)
theorem dL_law_673 : decode cL_law 673 = .ok (.iconst 3, 1) := dk_6 (dk_at dksL_law_24 10 rfl rfl)
theorem dL_law_674 : decode cL_law 674 = .ok (.iadd, 1) := dk_96 (dk_at dksL_law_24 11 rfl rfl)
theorem dL_law_675 : decode cL_law 675 = .ok (.iaload, 1) := dk_46 (dk_at dksL_law_24 12 rfl rfl)
theorem dL_law_676 : decode cL_law 676 = .ok (.invokevirtual 91, 3) := dk_182 0 91 (dk_at dksL_law_24 13 rfl rfl)
theorem dL_law_679 : decode cL_law 679 = .ok (.if_icmp .eq 302, 3) := dk_159 1 46 (dk_at dksL_law_24 16 rfl rfl)
theorem dL_law_682 : decode cL_law 682 = .ok (.iconst 0, 1) := dk_3 (dk_at dksL_law_24 19 rfl rfl)
theorem dL_law_683 : decode cL_law 683 = .ok (.ireturn, 1) := dk_172 (dk_at dksL_law_24 20 rfl rfl)
theorem dL_law_684 : decode cL_law 684 = .ok (.aload_n 1, 1) := dk_43 (dk_at dksL_law_24 21 rfl rfl)
theorem dL_law_685 : decode cL_law 685 = .ok (.aload_n 0, 1) := dk_42 (dk_at dksL_law_24 22 rfl rfl)
theorem dL_law_686 : decode cL_law 686 = .ok (.iload_n 3, 1) := dk_29 (dk_at dksL_law_24 23 rfl rfl)
theorem dL_law_687 : decode cL_law 687 = .ok (.iconst 1, 1) := dk_4 (dk_at dksL_law_25 0 rfl rfl)
theorem dL_law_688 : decode cL_law 688 = .ok (.iadd, 1) := dk_96 (dk_at dksL_law_25 1 rfl rfl)
theorem dL_law_689 : decode cL_law 689 = .ok (.iaload, 1) := dk_46 (dk_at dksL_law_25 2 rfl rfl)
theorem dL_law_690 : decode cL_law 690 = .ok (.aload_n 0, 1) := dk_42 (dk_at dksL_law_25 3 rfl rfl)
theorem dL_law_691 : decode cL_law 691 = .ok (.iload_n 3, 1) := dk_29 (dk_at dksL_law_25 4 rfl rfl)
theorem dL_law_692 : decode cL_law 692 = .ok (.iconst 2, 1) := dk_5 (dk_at dksL_law_25 5 rfl rfl)
theorem dL_law_693 : decode cL_law 693 = .ok (.iadd, 1) := dk_96 (dk_at dksL_law_25 6 rfl rfl)
theorem dL_law_694 : decode cL_law 694 = .ok (.iaload, 1) := dk_46 (dk_at dksL_law_25 7 rfl rfl)
theorem dL_law_695 : decode cL_law 695 = .ok (.invokevirtual 92, 3) := dk_182 0 92 (dk_at dksL_law_25 8 rfl rfl)
theorem dL_law_698 : decode cL_law 698 = .ok (.aload_n 2, 1) := dk_44 (dk_at dksL_law_25 11 rfl rfl)
theorem dL_law_699 : decode cL_law 699 = .ok (.aload_n 0, 1) := dk_42 (dk_at dksL_law_25 12 rfl rfl)
theorem dL_law_700 : decode cL_law 700 = .ok (.iload_n 3, 1) := dk_29 (dk_at dksL_law_25 13 rfl rfl)
theorem dL_law_701 : decode cL_law 701 = .ok (.iconst 1, 1) := dk_4 (dk_at dksL_law_25 14 rfl rfl)
theorem dL_law_702 : decode cL_law 702 = .ok (.iadd, 1) := dk_96 (dk_at dksL_law_25 15 rfl rfl)
theorem dL_law_703 : decode cL_law 703 = .ok (.iaload, 1) := dk_46 (dk_at dksL_law_25 16 rfl rfl)
theorem dL_law_704 : decode cL_law 704 = .ok (.aload_n 0, 1) := dk_42 (dk_at dksL_law_25 17 rfl rfl)
theorem dL_law_705 : decode cL_law 705 = .ok (.iload_n 3, 1) := dk_29 (dk_at dksL_law_25 18 rfl rfl)
theorem dL_law_706 : decode cL_law 706 = .ok (.iconst 2, 1) := dk_5 (dk_at dksL_law_25 19 rfl rfl)
theorem dL_law_707 : decode cL_law 707 = .ok (.iadd, 1) := dk_96 (dk_at dksL_law_25 20 rfl rfl)
theorem dL_law_708 : decode cL_law 708 = .ok (.iaload, 1) := dk_46 (dk_at dksL_law_25 21 rfl rfl)
theorem dL_law_709 : decode cL_law 709 = .ok (.invokevirtual 95, 3) := dk_182 0 95 (dk_at dksL_law_26 0 rfl rfl)
theorem dL_law_712 : decode cL_law 712 = .ok (.if_icmp .eq 269, 3) := dk_159 1 13 (dk_at dksL_law_26 3 rfl rfl)
theorem dL_law_715 : decode cL_law 715 = .ok (.iconst 0, 1) := dk_3 (dk_at dksL_law_26 6 rfl rfl)
theorem dL_law_716 : decode cL_law 716 = .ok (.ireturn, 1) := dk_172 (dk_at dksL_law_26 7 rfl rfl)
theorem dL_law_717 : decode cL_law 717 = .ok (.aload_n 1, 1) := dk_43 (dk_at dksL_law_26 8 rfl rfl)
theorem dL_law_718 : decode cL_law 718 = .ok (.aload_n 0, 1) := dk_42 (dk_at dksL_law_26 9 rfl rfl)
theorem dL_law_719 : decode cL_law 719 = .ok (.iload_n 3, 1) := dk_29 (dk_at dksL_law_26 10 rfl rfl)
theorem dL_law_720 : decode cL_law 720 = .ok (.iconst 1, 1) := dk_4 (dk_at dksL_law_26 11 rfl rfl)
theorem dL_law_721 : decode cL_law 721 = .ok (.iadd, 1) := dk_96 (dk_at dksL_law_26 12 rfl rfl)
theorem dL_law_722 : decode cL_law 722 = .ok (.iaload, 1) := dk_46 (dk_at dksL_law_26 13 rfl rfl)
theorem dL_law_723 : decode cL_law 723 = .ok (.aload_n 0, 1) := dk_42 (dk_at dksL_law_26 14 rfl rfl)
theorem dL_law_724 : decode cL_law 724 = .ok (.iload_n 3, 1) := dk_29 (dk_at dksL_law_26 15 rfl rfl)
theorem dL_law_725 : decode cL_law 725 = .ok (.iconst 2, 1) := dk_5 (dk_at dksL_law_26 16 rfl rfl)
theorem dL_law_726 : decode cL_law 726 = .ok (.iadd, 1) := dk_96 (dk_at dksL_law_26 17 rfl rfl)
theorem dL_law_727 : decode cL_law 727 = .ok (.iaload, 1) := dk_46 (dk_at dksL_law_26 18 rfl rfl)
theorem dL_law_728 : decode cL_law 728 = .ok (.invokevirtual 96, 3) := dk_182 0 96 (dk_at dksL_law_26 19 rfl rfl)
theorem dL_law_731 : decode cL_law 731 = .ok (.aload_n 2, 1) := dk_44 (dk_at dksL_law_26 22 rfl rfl)
theorem dL_law_732 : decode cL_law 732 = .ok (.aload_n 0, 1) := dk_42 (dk_at dksL_law_26 23 rfl rfl)
theorem dL_law_733 : decode cL_law 733 = .ok (.iload_n 3, 1) := dk_29 (dk_at dksL_law_27 0 rfl rfl)
theorem dL_law_734 : decode cL_law 734 = .ok (.iconst 1, 1) := dk_4 (dk_at dksL_law_27 1 rfl rfl)
theorem dL_law_735 : decode cL_law 735 = .ok (.iadd, 1) := dk_96 (dk_at dksL_law_27 2 rfl rfl)
theorem dL_law_736 : decode cL_law 736 = .ok (.iaload, 1) := dk_46 (dk_at dksL_law_27 3 rfl rfl)
theorem dL_law_737 : decode cL_law 737 = .ok (.aload_n 0, 1) := dk_42 (dk_at dksL_law_27 4 rfl rfl)
theorem dL_law_738 : decode cL_law 738 = .ok (.iload_n 3, 1) := dk_29 (dk_at dksL_law_27 5 rfl rfl)
theorem dL_law_739 : decode cL_law 739 = .ok (.iconst 2, 1) := dk_5 (dk_at dksL_law_27 6 rfl rfl)
theorem dL_law_740 : decode cL_law 740 = .ok (.iadd, 1) := dk_96 (dk_at dksL_law_27 7 rfl rfl)
theorem dL_law_741 : decode cL_law 741 = .ok (.iaload, 1) := dk_46 (dk_at dksL_law_27 8 rfl rfl)
theorem dL_law_742 : decode cL_law 742 = .ok (.invokevirtual 99, 3) := dk_182 0 99 (dk_at dksL_law_27 9 rfl rfl)
theorem dL_law_745 : decode cL_law 745 = .ok (.if_icmp .eq 236, 3) := dk_159 0 236 (dk_at dksL_law_27 12 rfl rfl)
theorem dL_law_748 : decode cL_law 748 = .ok (.iconst 0, 1) := dk_3 (dk_at dksL_law_27 15 rfl rfl)
theorem dL_law_749 : decode cL_law 749 = .ok (.ireturn, 1) := dk_172 (dk_at dksL_law_27 16 rfl rfl)
theorem dL_law_750 : decode cL_law 750 = .ok (.aload_n 1, 1) := dk_43 (dk_at dksL_law_27 17 rfl rfl)
theorem dL_law_751 : decode cL_law 751 = .ok (.aload_n 0, 1) := dk_42 (dk_at dksL_law_27 18 rfl rfl)
theorem dL_law_752 : decode cL_law 752 = .ok (.iload_n 3, 1) := dk_29 (dk_at dksL_law_27 19 rfl rfl)
theorem dL_law_753 : decode cL_law 753 = .ok (.iconst 1, 1) := dk_4 (dk_at dksL_law_27 20 rfl rfl)
theorem dL_law_754 : decode cL_law 754 = .ok (.iadd, 1) := dk_96 (dk_at dksL_law_27 21 rfl rfl)
theorem dL_law_755 : decode cL_law 755 = .ok (.iaload, 1) := dk_46 (dk_at dksL_law_27 22 rfl rfl)
theorem dL_law_756 : decode cL_law 756 = .ok (.aload_n 0, 1) := dk_42 (dk_at dksL_law_27 23 rfl rfl)
theorem dL_law_757 : decode cL_law 757 = .ok (.iload_n 3, 1) := dk_29 (dk_at dksL_law_28 0 rfl rfl)
theorem dL_law_758 : decode cL_law 758 = .ok (.iconst 2, 1) := dk_5 (dk_at dksL_law_28 1 rfl rfl)
theorem dL_law_759 : decode cL_law 759 = .ok (.iadd, 1) := dk_96 (dk_at dksL_law_28 2 rfl rfl)
theorem dL_law_760 : decode cL_law 760 = .ok (.iaload, 1) := dk_46 (dk_at dksL_law_28 3 rfl rfl)
theorem dL_law_761 : decode cL_law 761 = .ok (.aload_n 0, 1) := dk_42 (dk_at dksL_law_28 4 rfl rfl)
theorem dL_law_762 : decode cL_law 762 = .ok (.iload_n 3, 1) := dk_29 (dk_at dksL_law_28 5 rfl rfl)
theorem dL_law_763 : decode cL_law 763 = .ok (.iconst 3, 1) := dk_6 (dk_at dksL_law_28 6 rfl rfl)
theorem dL_law_764 : decode cL_law 764 = .ok (.iadd, 1) := dk_96 (dk_at dksL_law_28 7 rfl rfl)
theorem dL_law_765 : decode cL_law 765 = .ok (.iaload, 1) := dk_46 (dk_at dksL_law_28 8 rfl rfl)
theorem dL_law_766 : decode cL_law 766 = .ok (.invokevirtual 100, 3) := dk_182 0 100 (dk_at dksL_law_28 9 rfl rfl)
theorem dL_law_769 : decode cL_law 769 = .ok (.aload_n 2, 1) := dk_44 (dk_at dksL_law_28 12 rfl rfl)
theorem dL_law_770 : decode cL_law 770 = .ok (.aload_n 0, 1) := dk_42 (dk_at dksL_law_28 13 rfl rfl)
theorem dL_law_771 : decode cL_law 771 = .ok (.iload_n 3, 1) := dk_29 (dk_at dksL_law_28 14 rfl rfl)
theorem dL_law_772 : decode cL_law 772 = .ok (.iconst 1, 1) := dk_4 (dk_at dksL_law_28 15 rfl rfl)
theorem dL_law_773 : decode cL_law 773 = .ok (.iadd, 1) := dk_96 (dk_at dksL_law_28 16 rfl rfl)
theorem dL_law_774 : decode cL_law 774 = .ok (.iaload, 1) := dk_46 (dk_at dksL_law_28 17 rfl rfl)
theorem dL_law_775 : decode cL_law 775 = .ok (.aload_n 0, 1) := dk_42 (dk_at dksL_law_28 18 rfl rfl)
theorem dL_law_776 : decode cL_law 776 = .ok (.iload_n 3, 1) := dk_29 (dk_at dksL_law_28 19 rfl rfl)
theorem dL_law_777 : decode cL_law 777 = .ok (.iconst 2, 1) := dk_5 (dk_at dksL_law_28 20 rfl rfl)
theorem dL_law_778 : decode cL_law 778 = .ok (.iadd, 1) := dk_96 (dk_at dksL_law_28 21 rfl rfl)
theorem dL_law_779 : decode cL_law 779 = .ok (.iaload, 1) := dk_46 (dk_at dksL_law_28 22 rfl rfl)
theorem dL_law_780 : decode cL_law 780 = .ok (.aload_n 0, 1) := dk_42 (dk_at dksL_law_28 23 rfl rfl)
theorem dL_law_781 : decode cL_law 781 = .ok (.iload_n 3, 1) := dk_29 (dk_at dksL_law_29 0 rfl rfl)
theorem dL_law_782 : decode cL_law 782 = .ok (.iconst 3, 1) := dk_6 (dk_at dksL_law_29 1 rfl rfl)
theorem dL_law_783 : decode cL_law 783 = .ok (.iadd, 1) := dk_96 (dk_at dksL_law_29 2 rfl rfl)
theorem dL_law_784 : decode cL_law 784 = .ok (.iaload, 1) := dk_46 (dk_at dksL_law_29 3 rfl rfl)
theorem dL_law_785 : decode cL_law 785 = .ok (.invokevirtual 104, 3) := dk_182 0 104 (dk_at dksL_law_29 4 rfl rfl)
theorem dL_law_788 : decode cL_law 788 = .ok (.if_icmp .eq 193, 3) := dk_159 0 193 (dk_at dksL_law_29 7 rfl rfl)
theorem dL_law_791 : decode cL_law 791 = .ok (.iconst 0, 1) := dk_3 (dk_at dksL_law_29 10 rfl rfl)
theorem dL_law_792 : decode cL_law 792 = .ok (.ireturn, 1) := dk_172 (dk_at dksL_law_29 11 rfl rfl)
theorem dL_law_793 : decode cL_law 793 = .ok (.aload_n 1, 1) := dk_43 (dk_at dksL_law_29 12 rfl rfl)
theorem dL_law_794 : decode cL_law 794 = .ok (.aload_n 0, 1) := dk_42 (dk_at dksL_law_29 13 rfl rfl)
theorem dL_law_795 : decode cL_law 795 = .ok (.iload_n 3, 1) := dk_29 (dk_at dksL_law_29 14 rfl rfl)
theorem dL_law_796 : decode cL_law 796 = .ok (.iconst 1, 1) := dk_4 (dk_at dksL_law_29 15 rfl rfl)
theorem dL_law_797 : decode cL_law 797 = .ok (.iadd, 1) := dk_96 (dk_at dksL_law_29 16 rfl rfl)
theorem dL_law_798 : decode cL_law 798 = .ok (.iaload, 1) := dk_46 (dk_at dksL_law_29 17 rfl rfl)
theorem dL_law_799 : decode cL_law 799 = .ok (.aload_n 0, 1) := dk_42 (dk_at dksL_law_29 18 rfl rfl)
theorem dL_law_800 : decode cL_law 800 = .ok (.iload_n 3, 1) := dk_29 (dk_at dksL_law_29 19 rfl rfl)
theorem dL_law_801 : decode cL_law 801 = .ok (.iconst 2, 1) := dk_5 (dk_at dksL_law_29 20 rfl rfl)
theorem dL_law_802 : decode cL_law 802 = .ok (.iadd, 1) := dk_96 (dk_at dksL_law_29 21 rfl rfl)
theorem dL_law_803 : decode cL_law 803 = .ok (.iaload, 1) := dk_46 (dk_at dksL_law_29 22 rfl rfl)
theorem dL_law_804 : decode cL_law 804 = .ok (.invokevirtual 105, 3) := dk_182 0 105 (dk_at dksL_law_30 0 rfl rfl)
theorem dL_law_807 : decode cL_law 807 = .ok (.aload_n 2, 1) := dk_44 (dk_at dksL_law_30 3 rfl rfl)
theorem dL_law_808 : decode cL_law 808 = .ok (.aload_n 0, 1) := dk_42 (dk_at dksL_law_30 4 rfl rfl)
theorem dL_law_809 : decode cL_law 809 = .ok (.iload_n 3, 1) := dk_29 (dk_at dksL_law_30 5 rfl rfl)
theorem dL_law_810 : decode cL_law 810 = .ok (.iconst 1, 1) := dk_4 (dk_at dksL_law_30 6 rfl rfl)
theorem dL_law_811 : decode cL_law 811 = .ok (.iadd, 1) := dk_96 (dk_at dksL_law_30 7 rfl rfl)
theorem dL_law_812 : decode cL_law 812 = .ok (.iaload, 1) := dk_46 (dk_at dksL_law_30 8 rfl rfl)
theorem dL_law_813 : decode cL_law 813 = .ok (.aload_n 0, 1) := dk_42 (dk_at dksL_law_30 9 rfl rfl)
theorem dL_law_814 : decode cL_law 814 = .ok (.iload_n 3, 1) := dk_29 (dk_at dksL_law_30 10 rfl rfl)
theorem dL_law_815 : decode cL_law 815 = .ok (.iconst 2, 1) := dk_5 (dk_at dksL_law_30 11 rfl rfl)
theorem dL_law_816 : decode cL_law 816 = .ok (.iadd, 1) := dk_96 (dk_at dksL_law_30 12 rfl rfl)
theorem dL_law_817 : decode cL_law 817 = .ok (.iaload, 1) := dk_46 (dk_at dksL_law_30 13 rfl rfl)
theorem dL_law_818 : decode cL_law 818 = .ok (.invokevirtual 109, 3) := dk_182 0 109 (dk_at dksL_law_30 14 rfl rfl)
theorem dL_law_821 : decode cL_law 821 = .ok (.lcmp, 1) := dk_148 (dk_at dksL_law_30 17 rfl rfl)
theorem dL_law_822 : decode cL_law 822 = .ok (.ifCond .eq 159, 3) := dk_153 0 159 (dk_at dksL_law_30 18 rfl rfl)
theorem dL_law_825 : decode cL_law 825 = .ok (.iconst 0, 1) := dk_3 (dk_at dksL_law_30 21 rfl rfl)
theorem dL_law_826 : decode cL_law 826 = .ok (.ireturn, 1) := dk_172 (dk_at dksL_law_30 22 rfl rfl)
theorem dL_law_827 : decode cL_law 827 = .ok (.aload_n 1, 1) := dk_43 (dk_at dksL_law_30 23 rfl rfl)
theorem dL_law_828 : decode cL_law 828 = .ok (.aload_n 0, 1) := dk_42 (dk_at dksL_law_31 0 rfl rfl)
theorem dL_law_829 : decode cL_law 829 = .ok (.iload_n 3, 1) := dk_29 (dk_at dksL_law_31 1 rfl rfl)
theorem dL_law_830 : decode cL_law 830 = .ok (.iconst 1, 1) := dk_4 (dk_at dksL_law_31 2 rfl rfl)
theorem dL_law_831 : decode cL_law 831 = .ok (.iadd, 1) := dk_96 (dk_at dksL_law_31 3 rfl rfl)
theorem dL_law_832 : decode cL_law 832 = .ok (.iaload, 1) := dk_46 (dk_at dksL_law_31 4 rfl rfl)
theorem dL_law_833 : decode cL_law 833 = .ok (.invokevirtual 110, 3) := dk_182 0 110 (dk_at dksL_law_31 5 rfl rfl)
theorem dL_law_836 : decode cL_law 836 = .ok (.aload_n 2, 1) := dk_44 (dk_at dksL_law_31 8 rfl rfl)
theorem dL_law_837 : decode cL_law 837 = .ok (.aload_n 0, 1) := dk_42 (dk_at dksL_law_31 9 rfl rfl)
theorem dL_law_838 : decode cL_law 838 = .ok (.iload_n 3, 1) := dk_29 (dk_at dksL_law_31 10 rfl rfl)
theorem dL_law_839 : decode cL_law 839 = .ok (.iconst 1, 1) := dk_4 (dk_at dksL_law_31 11 rfl rfl)
theorem dL_law_840 : decode cL_law 840 = .ok (.iadd, 1) := dk_96 (dk_at dksL_law_31 12 rfl rfl)
theorem dL_law_841 : decode cL_law 841 = .ok (.iaload, 1) := dk_46 (dk_at dksL_law_31 13 rfl rfl)
theorem dL_law_842 : decode cL_law 842 = .ok (.invokevirtual 113, 3) := dk_182 0 113 (dk_at dksL_law_31 14 rfl rfl)
theorem dL_law_845 : decode cL_law 845 = .ok (.if_icmp .eq 136, 3) := dk_159 0 136 (dk_at dksL_law_31 17 rfl rfl)
theorem dL_law_848 : decode cL_law 848 = .ok (.iconst 0, 1) := dk_3 (dk_at dksL_law_31 20 rfl rfl)
theorem dL_law_849 : decode cL_law 849 = .ok (.ireturn, 1) := dk_172 (dk_at dksL_law_31 21 rfl rfl)
theorem dL_law_850 : decode cL_law 850 = .ok (.aload_n 1, 1) := dk_43 (dk_at dksL_law_31 22 rfl rfl)
theorem dL_law_851 : decode cL_law 851 = .ok (.aload_n 0, 1) := dk_42 (dk_at dksL_law_31 23 rfl rfl)
theorem dL_law_852 : decode cL_law 852 = .ok (.iload_n 3, 1) := dk_29 (dk_at dksL_law_32 0 rfl rfl)
theorem dL_law_853 : decode cL_law 853 = .ok (.iconst 1, 1) := dk_4 (dk_at dksL_law_32 1 rfl rfl)
theorem dL_law_854 : decode cL_law 854 = .ok (.iadd, 1) := dk_96 (dk_at dksL_law_32 2 rfl rfl)
theorem dL_law_855 : decode cL_law 855 = .ok (.iaload, 1) := dk_46 (dk_at dksL_law_32 3 rfl rfl)
theorem dL_law_856 : decode cL_law 856 = .ok (.aload_n 0, 1) := dk_42 (dk_at dksL_law_32 4 rfl rfl)
theorem dL_law_857 : decode cL_law 857 = .ok (.iload_n 3, 1) := dk_29 (dk_at dksL_law_32 5 rfl rfl)
theorem dL_law_858 : decode cL_law 858 = .ok (.iconst 2, 1) := dk_5 (dk_at dksL_law_32 6 rfl rfl)
theorem dL_law_859 : decode cL_law 859 = .ok (.iadd, 1) := dk_96 (dk_at dksL_law_32 7 rfl rfl)
theorem dL_law_860 : decode cL_law 860 = .ok (.iaload, 1) := dk_46 (dk_at dksL_law_32 8 rfl rfl)
theorem dL_law_861 : decode cL_law 861 = .ok (.aload_n 0, 1) := dk_42 (dk_at dksL_law_32 9 rfl rfl)
theorem dL_law_862 : decode cL_law 862 = .ok (.iload_n 3, 1) := dk_29 (dk_at dksL_law_32 10 rfl rfl)
theorem dL_law_863 : decode cL_law 863 = .ok (.iconst 3, 1) := dk_6 (dk_at dksL_law_32 11 rfl rfl)
theorem dL_law_864 : decode cL_law 864 = .ok (.iadd, 1) := dk_96 (dk_at dksL_law_32 12 rfl rfl)
theorem dL_law_865 : decode cL_law 865 = .ok (.iaload, 1) := dk_46 (dk_at dksL_law_32 13 rfl rfl)
theorem dL_law_866 : decode cL_law 866 = .ok (.invokevirtual 114, 3) := dk_182 0 114 (dk_at dksL_law_32 14 rfl rfl)
theorem dL_law_869 : decode cL_law 869 = .ok (.aload_n 2, 1) := dk_44 (dk_at dksL_law_32 17 rfl rfl)
theorem dL_law_870 : decode cL_law 870 = .ok (.aload_n 0, 1) := dk_42 (dk_at dksL_law_32 18 rfl rfl)
theorem dL_law_871 : decode cL_law 871 = .ok (.iload_n 3, 1) := dk_29 (dk_at dksL_law_32 19 rfl rfl)
theorem dL_law_872 : decode cL_law 872 = .ok (.iconst 1, 1) := dk_4 (dk_at dksL_law_32 20 rfl rfl)
theorem dL_law_873 : decode cL_law 873 = .ok (.iadd, 1) := dk_96 (dk_at dksL_law_32 21 rfl rfl)
theorem dL_law_874 : decode cL_law 874 = .ok (.iaload, 1) := dk_46 (dk_at dksL_law_32 22 rfl rfl)
theorem dL_law_875 : decode cL_law 875 = .ok (.aload_n 0, 1) := dk_42 (dk_at dksL_law_32 23 rfl rfl)
theorem dL_law_876 : decode cL_law 876 = .ok (.iload_n 3, 1) := dk_29 (dk_at dksL_law_33 0 rfl rfl)
theorem dL_law_877 : decode cL_law 877 = .ok (.iconst 2, 1) := dk_5 (dk_at dksL_law_33 1 rfl rfl)
theorem dL_law_878 : decode cL_law 878 = .ok (.iadd, 1) := dk_96 (dk_at dksL_law_33 2 rfl rfl)
theorem dL_law_879 : decode cL_law 879 = .ok (.iaload, 1) := dk_46 (dk_at dksL_law_33 3 rfl rfl)
theorem dL_law_880 : decode cL_law 880 = .ok (.aload_n 0, 1) := dk_42 (dk_at dksL_law_33 4 rfl rfl)
theorem dL_law_881 : decode cL_law 881 = .ok (.iload_n 3, 1) := dk_29 (dk_at dksL_law_33 5 rfl rfl)
theorem dL_law_882 : decode cL_law 882 = .ok (.iconst 3, 1) := dk_6 (dk_at dksL_law_33 6 rfl rfl)
theorem dL_law_883 : decode cL_law 883 = .ok (.iadd, 1) := dk_96 (dk_at dksL_law_33 7 rfl rfl)
theorem dL_law_884 : decode cL_law 884 = .ok (.iaload, 1) := dk_46 (dk_at dksL_law_33 8 rfl rfl)
theorem dL_law_885 : decode cL_law 885 = .ok (.invokevirtual 117, 3) := dk_182 0 117 (dk_at dksL_law_33 9 rfl rfl)
theorem dL_law_888 : decode cL_law 888 = .ok (.if_icmp .eq 93, 3) := dk_159 0 93 (dk_at dksL_law_33 12 rfl rfl)
theorem dL_law_891 : decode cL_law 891 = .ok (.iconst 0, 1) := dk_3 (dk_at dksL_law_33 15 rfl rfl)
theorem dL_law_892 : decode cL_law 892 = .ok (.ireturn, 1) := dk_172 (dk_at dksL_law_33 16 rfl rfl)
theorem dL_law_893 : decode cL_law 893 = .ok (.aload_n 1, 1) := dk_43 (dk_at dksL_law_33 17 rfl rfl)
theorem dL_law_894 : decode cL_law 894 = .ok (.invokevirtual 118, 3) := dk_182 0 118 (dk_at dksL_law_33 18 rfl rfl)
theorem dL_law_897 : decode cL_law 897 = .ok (.aload_n 2, 1) := dk_44 (dk_at dksL_law_33 21 rfl rfl)
theorem dL_law_898 : decode cL_law 898 = .ok (.invokevirtual 121, 3) := dk_182 0 121 (dk_at dksL_law_34 0 rfl rfl)
theorem dL_law_901 : decode cL_law 901 = .ok (.if_icmp .eq 80, 3) := dk_159 0 80 (dk_at dksL_law_34 3 rfl rfl)
theorem dL_law_904 : decode cL_law 904 = .ok (.iconst 0, 1) := dk_3 (dk_at dksL_law_34 6 rfl rfl)
theorem dL_law_905 : decode cL_law 905 = .ok (.ireturn, 1) := dk_172 (dk_at dksL_law_34 7 rfl rfl)
theorem dL_law_906 : decode cL_law 906 = .ok (.aload_n 1, 1) := dk_43 (dk_at dksL_law_34 8 rfl rfl)
theorem dL_law_907 : decode cL_law 907 = .ok (.invokevirtual 122, 3) := dk_182 0 122 (dk_at dksL_law_34 9 rfl rfl)
theorem dL_law_910 : decode cL_law 910 = .ok (.aload_n 2, 1) := dk_44 (dk_at dksL_law_34 12 rfl rfl)
theorem dL_law_911 : decode cL_law 911 = .ok (.invokevirtual 126, 3) := dk_182 0 126 (dk_at dksL_law_34 13 rfl rfl)
theorem dL_law_914 : decode cL_law 914 = .ok (.if_icmp .eq 67, 3) := dk_159 0 67 (dk_at dksL_law_34 16 rfl rfl)
theorem dL_law_917 : decode cL_law 917 = .ok (.iconst 0, 1) := dk_3 (dk_at dksL_law_34 19 rfl rfl)
theorem dL_law_918 : decode cL_law 918 = .ok (.ireturn, 1) := dk_172 (dk_at dksL_law_34 20 rfl rfl)
theorem dL_law_919 : decode cL_law 919 = .ok (.aload_n 1, 1) := dk_43 (dk_at dksL_law_34 21 rfl rfl)
theorem dL_law_920 : decode cL_law 920 = .ok (.aload_n 0, 1) := dk_42 (dk_at dksL_law_34 22 rfl rfl)
theorem dL_law_921 : decode cL_law 921 = .ok (.iload_n 3, 1) := dk_29 (dk_at dksL_law_34 23 rfl rfl)
theorem dL_law_922 : decode cL_law 922 = .ok (.iconst 1, 1) := dk_4 (dk_at dksL_law_35 0 rfl rfl)
theorem dL_law_923 : decode cL_law 923 = .ok (.iadd, 1) := dk_96 (dk_at dksL_law_35 1 rfl rfl)
theorem dL_law_924 : decode cL_law 924 = .ok (.iaload, 1) := dk_46 (dk_at dksL_law_35 2 rfl rfl)
theorem dL_law_925 : decode cL_law 925 = .ok (.ifCond .eq 7, 3) := dk_153 0 7 (dk_at dksL_law_35 3 rfl rfl)
theorem dL_law_928 : decode cL_law 928 = .ok (.iconst 1, 1) := dk_4 (dk_at dksL_law_35 6 rfl rfl)
theorem dL_law_929 : decode cL_law 929 = .ok (.goto 4, 3) := dk_167 0 4 (dk_at dksL_law_35 7 rfl rfl)
theorem dL_law_932 : decode cL_law 932 = .ok (.iconst 0, 1) := dk_3 (dk_at dksL_law_35 10 rfl rfl)
theorem dL_law_933 : decode cL_law 933 = .ok (.invokevirtual 127, 3) := dk_182 0 127 (dk_at dksL_law_35 11 rfl rfl)
theorem dL_law_936 : decode cL_law 936 = .ok (.aload_n 2, 1) := dk_44 (dk_at dksL_law_35 14 rfl rfl)
theorem dL_law_937 : decode cL_law 937 = .ok (.aload_n 0, 1) := dk_42 (dk_at dksL_law_35 15 rfl rfl)
theorem dL_law_938 : decode cL_law 938 = .ok (.iload_n 3, 1) := dk_29 (dk_at dksL_law_35 16 rfl rfl)
theorem dL_law_939 : decode cL_law 939 = .ok (.iconst 1, 1) := dk_4 (dk_at dksL_law_35 17 rfl rfl)
theorem dL_law_940 : decode cL_law 940 = .ok (.iadd, 1) := dk_96 (dk_at dksL_law_35 18 rfl rfl)
theorem dL_law_941 : decode cL_law 941 = .ok (.iaload, 1) := dk_46 (dk_at dksL_law_35 19 rfl rfl)
theorem dL_law_942 : decode cL_law 942 = .ok (.ifCond .eq 7, 3) := dk_153 0 7 (dk_at dksL_law_35 20 rfl rfl)
theorem dL_law_945 : decode cL_law 945 = .ok (.iconst 1, 1) := dk_4 (dk_at dksL_law_35 23 rfl rfl)
theorem dL_law_946 : decode cL_law 946 = .ok (.goto 4, 3) := dk_167 0 4 (dk_at dksL_law_36 0 rfl rfl)
theorem dL_law_949 : decode cL_law 949 = .ok (.iconst 0, 1) := dk_3 (dk_at dksL_law_36 3 rfl rfl)
theorem dL_law_950 : decode cL_law 950 = .ok (.invokevirtual 131, 3) := dk_182 0 131 (dk_at dksL_law_36 4 rfl rfl)
theorem dL_law_953 : decode cL_law 953 = .ok (.if_icmp .eq 28, 3) := dk_159 0 28 (dk_at dksL_law_36 7 rfl rfl)
theorem dL_law_956 : decode cL_law 956 = .ok (.iconst 0, 1) := dk_3 (dk_at dksL_law_36 10 rfl rfl)
theorem dL_law_957 : decode cL_law 957 = .ok (.ireturn, 1) := dk_172 (dk_at dksL_law_36 11 rfl rfl)
theorem dL_law_958 : decode cL_law 958 = .ok (.aload_n 1, 1) := dk_43 (dk_at dksL_law_36 12 rfl rfl)
theorem dL_law_959 : decode cL_law 959 = .ok (.aload_n 0, 1) := dk_42 (dk_at dksL_law_36 13 rfl rfl)
theorem dL_law_960 : decode cL_law 960 = .ok (.iload_n 3, 1) := dk_29 (dk_at dksL_law_36 14 rfl rfl)
theorem dL_law_961 : decode cL_law 961 = .ok (.iconst 1, 1) := dk_4 (dk_at dksL_law_36 15 rfl rfl)
theorem dL_law_962 : decode cL_law 962 = .ok (.iadd, 1) := dk_96 (dk_at dksL_law_36 16 rfl rfl)
theorem dL_law_963 : decode cL_law 963 = .ok (.iaload, 1) := dk_46 (dk_at dksL_law_36 17 rfl rfl)
theorem dL_law_964 : decode cL_law 964 = .ok (.invokevirtual 132, 3) := dk_182 0 132 (dk_at dksL_law_36 18 rfl rfl)
theorem dL_law_967 : decode cL_law 967 = .ok (.aload_n 2, 1) := dk_44 (dk_at dksL_law_36 21 rfl rfl)
theorem dL_law_968 : decode cL_law 968 = .ok (.aload_n 0, 1) := dk_42 (dk_at dksL_law_36 22 rfl rfl)
theorem dL_law_969 : decode cL_law 969 = .ok (.iload_n 3, 1) := dk_29 (dk_at dksL_law_36 23 rfl rfl)
theorem dL_law_970 : decode cL_law 970 = .ok (.iconst 1, 1) := dk_4 (dk_at dksL_law_37 0 rfl rfl)
theorem dL_law_971 : decode cL_law 971 = .ok (.iadd, 1) := dk_96 (dk_at dksL_law_37 1 rfl rfl)
theorem dL_law_972 : decode cL_law 972 = .ok (.iaload, 1) := dk_46 (dk_at dksL_law_37 2 rfl rfl)
theorem dL_law_973 : decode cL_law 973 = .ok (.invokevirtual 135, 3) := dk_182 0 135 (dk_at dksL_law_37 3 rfl rfl)
theorem dL_law_976 : decode cL_law 976 = .ok (.if_icmp .eq 5, 3) := dk_159 0 5 (dk_at dksL_law_37 6 rfl rfl)
theorem dL_law_979 : decode cL_law 979 = .ok (.iconst 0, 1) := dk_3 (dk_at dksL_law_37 9 rfl rfl)
theorem dL_law_980 : decode cL_law 980 = .ok (.ireturn, 1) := dk_172 (dk_at dksL_law_37 10 rfl rfl)
theorem dL_law_981 : decode cL_law 981 = .ok (.iinc 3 6, 3) := dk_132 3 6 (dk_at dksL_law_37 11 rfl rfl)
theorem dL_law_984 : decode cL_law 984 = .ok (.goto (-966), 3) := dk_167 252 58 (dk_at dksL_law_37 14 rfl rfl)
theorem dL_law_987 : decode cL_law 987 = .ok (.iconst 1, 1) := dk_4 (dk_at dksL_law_37 17 rfl rfl)
theorem dL_law_988 : decode cL_law 988 = .ok (.ireturn, 1) := dk_172 (dk_at dksL_law_37 18 rfl rfl)
theorem q87 : (Jvm.Cond.initialized "DoughDebtsLaw") ∈ lw_all := lw_g (lw_at lw_m1 0 rfl) rfl
set_option maxRecDepth 100000
theorem q113 : (Jvm.Cond.classLink "DoughDebtsLaw" (7 : Nat) "DoughDebts") ∈ lw_all := lw_g (lw_at lw_m1 26 rfl) rfl
theorem q115 : (Jvm.Cond.methodLink "DoughDebtsLaw" (9 : Nat) ({ cls := "DoughDebts", name := "<init>", desc := "()V" } : Jvm.MethodName)) ∈ lw_all := lw_g (lw_at lw_m1 28 rfl) rfl
theorem q369 : (Jvm.Cond.methodLink "DoughDebtsLaw" (18 : Nat) ({ cls := "DoughDebts", name := "feed", desc := "(IIIII)I" } : Jvm.MethodName)) ∈ lw_all := lw_g (lw_at lw_m2 42 rfl) rfl
theorem q377 : (Jvm.Cond.methodLink "DoughDebtsLaw" (23 : Nat) ({ cls := "DoughDebts", name := "end", desc := "(I)Z" } : Jvm.MethodName)) ∈ lw_all := lw_g (lw_at lw_m2 50 rfl) rfl
theorem q384 : (Jvm.Cond.methodLink "DoughDebtsLaw" (42 : Nat) ({ cls := "DoughDebts", name := "text", desc := "()I" } : Jvm.MethodName)) ∈ lw_all := lw_g (lw_at lw_m2 57 rfl) rfl
theorem q694 : (Jvm.Cond.methodLink "DoughDebtsLaw" (47 : Nat) ({ cls := "DoughDebts", name := "fault", desc := "(I)I" } : Jvm.MethodName)) ∈ lw_all := lw_g (lw_at lw_m3 127 rfl) rfl
theorem q698 : (Jvm.Cond.methodLink "DoughDebtsLaw" (13 : Nat) ({ cls := "DoughDebts", name := "state", desc := "(I)I" } : Jvm.MethodName)) ∈ lw_all := lw_g (lw_at lw_m3 131 rfl) rfl
theorem q702 : (Jvm.Cond.methodLink "DoughDebtsLaw" (122 : Nat) ({ cls := "DoughDebts", name := "undo", desc := "()Z" } : Jvm.MethodName)) ∈ lw_all := lw_g (lw_at lw_m3 135 rfl) rfl
theorem q716 : (Jvm.Cond.methodLink "DoughDebtsLaw" (28 : Nat) ({ cls := "DoughDebts", name := "house", desc := "(III)I" } : Jvm.MethodName)) ∈ lw_all := lw_g (lw_at lw_m3 149 rfl) rfl
theorem q762 : (Jvm.Cond.methodLink "DoughDebtsLaw" (33 : Nat) ({ cls := "DoughDebts", name := "give", desc := "(II)Z" } : Jvm.MethodName)) ∈ lw_all := lw_g (lw_at lw_m3 195 rfl) rfl
theorem q771 : (Jvm.Cond.methodLink "DoughDebtsLaw" (38 : Nat) ({ cls := "DoughDebts", name := "set", desc := "(II)Z" } : Jvm.MethodName)) ∈ lw_all := lw_g (lw_at lw_m3 204 rfl) rfl
theorem q775 : (Jvm.Cond.methodLink "DoughDebtsLaw" (51 : Nat) ({ cls := "DoughDebts", name := "order", desc := "(I)I" } : Jvm.MethodName)) ∈ lw_all := lw_g (lw_at lw_m3 208 rfl) rfl
theorem q817 : (Jvm.Cond.methodLink "DoughDebtsLaw" (55 : Nat) ({ cls := "DoughDebts", name := "days", desc := "(I)I" } : Jvm.MethodName)) ∈ lw_all := lw_g (lw_at lw_m4 10 rfl) rfl
theorem q849 : (Jvm.Cond.methodLink "DoughDebtsLaw" (64 : Nat) ({ cls := "DoughDebts", name := "book", desc := "(I)I" } : Jvm.MethodName)) ∈ lw_all := lw_g (lw_at lw_m4 42 rfl) rfl
theorem q853 : (Jvm.Cond.methodLink "DoughDebtsLaw" (59 : Nat) ({ cls := "DoughDebts", name := "of", desc := "(II)I" } : Jvm.MethodName)) ∈ lw_all := lw_g (lw_at lw_m4 46 rfl) rfl
theorem q858 : (Jvm.Cond.methodLink "DoughDebtsLaw" (68 : Nat) ({ cls := "DoughDebts", name := "gain", desc := "(I)I" } : Jvm.MethodName)) ∈ lw_all := lw_g (lw_at lw_m4 51 rfl) rfl
theorem q870 : (Jvm.Cond.methodLink "DoughDebtsLaw" (72 : Nat) ({ cls := "DoughDebts", name := "orders", desc := "(I)I" } : Jvm.MethodName)) ∈ lw_all := lw_g (lw_at lw_m4 63 rfl) rfl
theorem q897 : (Jvm.Cond.methodLink "DoughDebtsLaw" (80 : Nat) ({ cls := "DoughDebts", name := "least", desc := "(I)I" } : Jvm.MethodName)) ∈ lw_all := lw_g (lw_at lw_m4 90 rfl) rfl
theorem q901 : (Jvm.Cond.methodLink "DoughDebtsLaw" (76 : Nat) ({ cls := "DoughDebts", name := "round", desc := "(I)I" } : Jvm.MethodName)) ∈ lw_all := lw_g (lw_at lw_m4 94 rfl) rfl
theorem q909 : (Jvm.Cond.methodLink "DoughDebtsLaw" (84 : Nat) ({ cls := "DoughDebts", name := "leaven", desc := "(II)I" } : Jvm.MethodName)) ∈ lw_all := lw_g (lw_at lw_m4 102 rfl) rfl
theorem q939 : (Jvm.Cond.methodLink "DoughDebtsLaw" (88 : Nat) ({ cls := "DoughDebts", name := "part", desc := "(III)I" } : Jvm.MethodName)) ∈ lw_all := lw_g (lw_at lw_m4 132 rfl) rfl
theorem q952 : (Jvm.Cond.methodLink "DoughDebtsLaw" (92 : Nat) ({ cls := "DoughDebts", name := "lent", desc := "(II)I" } : Jvm.MethodName)) ∈ lw_all := lw_g (lw_at lw_m4 145 rfl) rfl
theorem q970 : (Jvm.Cond.methodLink "DoughDebtsLaw" (96 : Nat) ({ cls := "DoughDebts", name := "led", desc := "(II)I" } : Jvm.MethodName)) ∈ lw_all := lw_g (lw_at lw_m4 163 rfl) rfl
theorem q974 : (Jvm.Cond.methodLink "DoughDebtsLaw" (100 : Nat) ({ cls := "DoughDebts", name := "rise", desc := "(III)Z" } : Jvm.MethodName)) ∈ lw_all := lw_g (lw_at lw_m4 167 rfl) rfl
theorem q978 : (Jvm.Cond.methodLink "DoughDebtsLaw" (105 : Nat) ({ cls := "DoughDebts", name := "odds", desc := "(II)J" } : Jvm.MethodName)) ∈ lw_all := lw_g (lw_at lw_m4 171 rfl) rfl
theorem q991 : (Jvm.Cond.methodLink "DoughDebtsLaw" (110 : Nat) ({ cls := "DoughDebts", name := "whose", desc := "(I)I" } : Jvm.MethodName)) ∈ lw_all := lw_g (lw_at lw_m4 184 rfl) rfl
theorem q995 : (Jvm.Cond.methodLink "DoughDebtsLaw" (114 : Nat) ({ cls := "DoughDebts", name := "owe", desc := "(III)Z" } : Jvm.MethodName)) ∈ lw_all := lw_g (lw_at lw_m4 188 rfl) rfl
theorem q1000 : (Jvm.Cond.methodLink "DoughDebtsLaw" (118 : Nat) ({ cls := "DoughDebts", name := "payments", desc := "()I" } : Jvm.MethodName)) ∈ lw_all := lw_g (lw_at lw_m4 193 rfl) rfl
theorem q1008 : (Jvm.Cond.methodLink "DoughDebtsLaw" (127 : Nat) ({ cls := "DoughDebts", name := "image", desc := "(Z)Z" } : Jvm.MethodName)) ∈ lw_all := lw_g (lw_at lw_m4 201 rfl) rfl
theorem q1015 : (Jvm.Cond.methodLink "DoughDebtsLaw" (132 : Nat) ({ cls := "DoughDebts", name := "look", desc := "(I)I" } : Jvm.MethodName)) ∈ lw_all := lw_g (lw_at lw_m4 208 rfl) rfl
theorem q1019 : (Jvm.Cond.classLink "DoughDebtsLaw" (10 : Nat) "DoughDebtsModel") ∈ lw_all := lw_g (lw_at lw_m4 212 rfl) rfl
theorem q1021 : (Jvm.Cond.methodLink "DoughDebtsLaw" (12 : Nat) ({ cls := "DoughDebtsModel", name := "<init>", desc := "()V" } : Jvm.MethodName)) ∈ lw_all := lw_g (lw_at lw_m4 214 rfl) rfl
theorem q1134 : (Jvm.Cond.methodLink "DoughDebtsLaw" (17 : Nat) ({ cls := "DoughDebtsModel", name := "state", desc := "(I)I" } : Jvm.MethodName)) ∈ lw_all := lw_g (lw_at lw_m5 87 rfl) rfl
theorem q1138 : (Jvm.Cond.methodLink "DoughDebtsLaw" (22 : Nat) ({ cls := "DoughDebtsModel", name := "feed", desc := "(IIIII)I" } : Jvm.MethodName)) ∈ lw_all := lw_g (lw_at lw_m5 91 rfl) rfl
theorem q1142 : (Jvm.Cond.methodLink "DoughDebtsLaw" (27 : Nat) ({ cls := "DoughDebtsModel", name := "end", desc := "(I)Z" } : Jvm.MethodName)) ∈ lw_all := lw_g (lw_at lw_m5 95 rfl) rfl
theorem q1149 : (Jvm.Cond.methodLink "DoughDebtsLaw" (46 : Nat) ({ cls := "DoughDebtsModel", name := "text", desc := "()I" } : Jvm.MethodName)) ∈ lw_all := lw_g (lw_at lw_m5 102 rfl) rfl
theorem q1240 : (Jvm.Cond.methodLink "DoughDebtsLaw" (50 : Nat) ({ cls := "DoughDebtsModel", name := "fault", desc := "(I)I" } : Jvm.MethodName)) ∈ lw_all := lw_g (lw_at lw_m5 193 rfl) rfl
theorem q1244 : (Jvm.Cond.methodLink "DoughDebtsLaw" (32 : Nat) ({ cls := "DoughDebtsModel", name := "house", desc := "(III)I" } : Jvm.MethodName)) ∈ lw_all := lw_g (lw_at lw_m5 197 rfl) rfl
theorem q1256 : (Jvm.Cond.methodLink "DoughDebtsLaw" (37 : Nat) ({ cls := "DoughDebtsModel", name := "give", desc := "(II)Z" } : Jvm.MethodName)) ∈ lw_all := lw_g (lw_at lw_m5 209 rfl) rfl
theorem q1274 : (Jvm.Cond.methodLink "DoughDebtsLaw" (41 : Nat) ({ cls := "DoughDebtsModel", name := "set", desc := "(II)Z" } : Jvm.MethodName)) ∈ lw_all := lw_g (lw_at lw_m5 227 rfl) rfl
theorem q1278 : (Jvm.Cond.methodLink "DoughDebtsLaw" (54 : Nat) ({ cls := "DoughDebtsModel", name := "order", desc := "(I)I" } : Jvm.MethodName)) ∈ lw_all := lw_g (lw_at lw_m5 231 rfl) rfl
theorem q1305 : (Jvm.Cond.methodLink "DoughDebtsLaw" (58 : Nat) ({ cls := "DoughDebtsModel", name := "days", desc := "(I)I" } : Jvm.MethodName)) ∈ lw_all := lw_g (lw_at lw_m6 18 rfl) rfl
theorem q1327 : (Jvm.Cond.methodLink "DoughDebtsLaw" (126 : Nat) ({ cls := "DoughDebtsModel", name := "undo", desc := "()Z" } : Jvm.MethodName)) ∈ lw_all := lw_g (lw_at lw_m6 40 rfl) rfl
theorem q1331 : (Jvm.Cond.methodLink "DoughDebtsLaw" (63 : Nat) ({ cls := "DoughDebtsModel", name := "of", desc := "(II)I" } : Jvm.MethodName)) ∈ lw_all := lw_g (lw_at lw_m6 44 rfl) rfl
theorem q1336 : (Jvm.Cond.methodLink "DoughDebtsLaw" (67 : Nat) ({ cls := "DoughDebtsModel", name := "book", desc := "(I)I" } : Jvm.MethodName)) ∈ lw_all := lw_g (lw_at lw_m6 49 rfl) rfl
theorem q1340 : (Jvm.Cond.methodLink "DoughDebtsLaw" (71 : Nat) ({ cls := "DoughDebtsModel", name := "gain", desc := "(I)I" } : Jvm.MethodName)) ∈ lw_all := lw_g (lw_at lw_m6 53 rfl) rfl
theorem q1352 : (Jvm.Cond.methodLink "DoughDebtsLaw" (75 : Nat) ({ cls := "DoughDebtsModel", name := "orders", desc := "(I)I" } : Jvm.MethodName)) ∈ lw_all := lw_g (lw_at lw_m6 65 rfl) rfl
theorem q1376 : (Jvm.Cond.methodLink "DoughDebtsLaw" (83 : Nat) ({ cls := "DoughDebtsModel", name := "least", desc := "(I)I" } : Jvm.MethodName)) ∈ lw_all := lw_g (lw_at lw_m6 89 rfl) rfl
theorem q1380 : (Jvm.Cond.methodLink "DoughDebtsLaw" (79 : Nat) ({ cls := "DoughDebtsModel", name := "round", desc := "(I)I" } : Jvm.MethodName)) ∈ lw_all := lw_g (lw_at lw_m6 93 rfl) rfl
theorem q1388 : (Jvm.Cond.methodLink "DoughDebtsLaw" (87 : Nat) ({ cls := "DoughDebtsModel", name := "leaven", desc := "(II)I" } : Jvm.MethodName)) ∈ lw_all := lw_g (lw_at lw_m6 101 rfl) rfl
theorem q1400 : (Jvm.Cond.methodLink "DoughDebtsLaw" (91 : Nat) ({ cls := "DoughDebtsModel", name := "part", desc := "(III)I" } : Jvm.MethodName)) ∈ lw_all := lw_g (lw_at lw_m6 113 rfl) rfl
theorem q1409 : (Jvm.Cond.methodLink "DoughDebtsLaw" (99 : Nat) ({ cls := "DoughDebtsModel", name := "led", desc := "(II)I" } : Jvm.MethodName)) ∈ lw_all := lw_g (lw_at lw_m6 122 rfl) rfl
theorem q1417 : (Jvm.Cond.methodLink "DoughDebtsLaw" (95 : Nat) ({ cls := "DoughDebtsModel", name := "lent", desc := "(II)I" } : Jvm.MethodName)) ∈ lw_all := lw_g (lw_at lw_m6 130 rfl) rfl
theorem q1421 : (Jvm.Cond.methodLink "DoughDebtsLaw" (104 : Nat) ({ cls := "DoughDebtsModel", name := "rise", desc := "(III)Z" } : Jvm.MethodName)) ∈ lw_all := lw_g (lw_at lw_m6 134 rfl) rfl
theorem q1425 : (Jvm.Cond.methodLink "DoughDebtsLaw" (109 : Nat) ({ cls := "DoughDebtsModel", name := "odds", desc := "(II)J" } : Jvm.MethodName)) ∈ lw_all := lw_g (lw_at lw_m6 138 rfl) rfl
theorem q1434 : (Jvm.Cond.methodLink "DoughDebtsLaw" (113 : Nat) ({ cls := "DoughDebtsModel", name := "whose", desc := "(I)I" } : Jvm.MethodName)) ∈ lw_all := lw_g (lw_at lw_m6 147 rfl) rfl
theorem q1438 : (Jvm.Cond.methodLink "DoughDebtsLaw" (117 : Nat) ({ cls := "DoughDebtsModel", name := "owe", desc := "(III)Z" } : Jvm.MethodName)) ∈ lw_all := lw_g (lw_at lw_m6 151 rfl) rfl
theorem q1443 : (Jvm.Cond.methodLink "DoughDebtsLaw" (121 : Nat) ({ cls := "DoughDebtsModel", name := "payments", desc := "()I" } : Jvm.MethodName)) ∈ lw_all := lw_g (lw_at lw_m6 156 rfl) rfl
theorem q1447 : (Jvm.Cond.methodLink "DoughDebtsLaw" (131 : Nat) ({ cls := "DoughDebtsModel", name := "image", desc := "(Z)Z" } : Jvm.MethodName)) ∈ lw_all := lw_g (lw_at lw_m6 160 rfl) rfl
theorem q1451 : (Jvm.Cond.methodLink "DoughDebtsLaw" (135 : Nat) ({ cls := "DoughDebtsModel", name := "look", desc := "(I)I" } : Jvm.MethodName)) ∈ lw_all := lw_g (lw_at lw_m6 164 rfl) rfl
