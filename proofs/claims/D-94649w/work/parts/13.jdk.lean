/-! the JDK's methods that are reached, over any config (printed by gen/jdk.py) -/
set_option maxRecDepth 100000
set_option maxHeartbeats 4000000
theorem pn_J2 : plainName RJ2 = true := by decide +kernel
theorem pn_J3 : plainName RJ3 = true := by decide +kernel
theorem pn_J9 : plainName RJ9 = true := by decide +kernel
theorem mdJ2_length : yJ2_length.cls = RJ2 ∧ yJ2_length.cls ≠ "java/lang/invoke/MethodHandle" ∧ yJ2_length.cls ≠ "java/lang/invoke/VarHandle" ∧ (parseMethodDescriptor yJ2_length.desc).map (fun d => d.parameters.length) = some 0 := by decide +kernel
theorem mdJ2_coder : yJ2_coder.cls = RJ2 ∧ yJ2_coder.cls ≠ "java/lang/invoke/MethodHandle" ∧ yJ2_coder.cls ≠ "java/lang/invoke/VarHandle" ∧ (parseMethodDescriptor yJ2_coder.desc).map (fun d => d.parameters.length) = some 0 := by decide +kernel
theorem mdJ2_charAt : yJ2_charAt.cls = RJ2 ∧ yJ2_charAt.cls ≠ "java/lang/invoke/MethodHandle" ∧ yJ2_charAt.cls ≠ "java/lang/invoke/VarHandle" ∧ (parseMethodDescriptor yJ2_charAt.desc).map (fun d => d.parameters.length) = some 1 := by decide +kernel
theorem mdJ2_isLatin1 : yJ2_isLatin1.cls = RJ2 ∧ yJ2_isLatin1.cls ≠ "java/lang/invoke/MethodHandle" ∧ yJ2_isLatin1.cls ≠ "java/lang/invoke/VarHandle" ∧ (parseMethodDescriptor yJ2_isLatin1.desc).map (fun d => d.parameters.length) = some 0 := by decide +kernel
theorem msJ2_checkIndex : yJ2_checkIndex.cls ≠ "java/lang/invoke/MethodHandle" ∧ yJ2_checkIndex.cls ≠ "java/lang/invoke/VarHandle" ∧ (parseMethodDescriptor yJ2_checkIndex.desc).map (fun d => d.parameters.length) = some 2 := by decide +kernel
theorem mdJ2_indexOf : yJ2_indexOf.cls = RJ2 ∧ yJ2_indexOf.cls ≠ "java/lang/invoke/MethodHandle" ∧ yJ2_indexOf.cls ≠ "java/lang/invoke/VarHandle" ∧ (parseMethodDescriptor yJ2_indexOf.desc).map (fun d => d.parameters.length) = some 1 := by decide +kernel
theorem mdJ2_indexOf_2 : yJ2_indexOf_2.cls = RJ2 ∧ yJ2_indexOf_2.cls ≠ "java/lang/invoke/MethodHandle" ∧ yJ2_indexOf_2.cls ≠ "java/lang/invoke/VarHandle" ∧ (parseMethodDescriptor yJ2_indexOf_2.desc).map (fun d => d.parameters.length) = some 2 := by decide +kernel
theorem msJ2_checkBoundsBeginEnd : yJ2_checkBoundsBeginEnd.cls ≠ "java/lang/invoke/MethodHandle" ∧ yJ2_checkBoundsBeginEnd.cls ≠ "java/lang/invoke/VarHandle" ∧ (parseMethodDescriptor yJ2_checkBoundsBeginEnd.desc).map (fun d => d.parameters.length) = some 3 := by decide +kernel
theorem msJ3_charAt : yJ3_charAt.cls ≠ "java/lang/invoke/MethodHandle" ∧ yJ3_charAt.cls ≠ "java/lang/invoke/VarHandle" ∧ (parseMethodDescriptor yJ3_charAt.desc).map (fun d => d.parameters.length) = some 2 := by decide +kernel
theorem msJ3_indexOf : yJ3_indexOf.cls ≠ "java/lang/invoke/MethodHandle" ∧ yJ3_indexOf.cls ≠ "java/lang/invoke/VarHandle" ∧ (parseMethodDescriptor yJ3_indexOf.desc).map (fun d => d.parameters.length) = some 4 := by decide +kernel
theorem msJ3_canEncode : yJ3_canEncode.cls ≠ "java/lang/invoke/MethodHandle" ∧ yJ3_canEncode.cls ≠ "java/lang/invoke/VarHandle" ∧ (parseMethodDescriptor yJ3_canEncode.desc).map (fun d => d.parameters.length) = some 1 := by decide +kernel
theorem msJ3_indexOfChar : yJ3_indexOfChar.cls ≠ "java/lang/invoke/MethodHandle" ∧ yJ3_indexOfChar.cls ≠ "java/lang/invoke/VarHandle" ∧ (parseMethodDescriptor yJ3_indexOfChar.desc).map (fun d => d.parameters.length) = some 4 := by decide +kernel
theorem msJ4_checkIndex : yJ4_checkIndex.cls ≠ "java/lang/invoke/MethodHandle" ∧ yJ4_checkIndex.cls ≠ "java/lang/invoke/VarHandle" ∧ (parseMethodDescriptor yJ4_checkIndex.desc).map (fun d => d.parameters.length) = some 3 := by decide +kernel
theorem msJ4_checkFromToIndex : yJ4_checkFromToIndex.cls ≠ "java/lang/invoke/MethodHandle" ∧ yJ4_checkFromToIndex.cls ≠ "java/lang/invoke/VarHandle" ∧ (parseMethodDescriptor yJ4_checkFromToIndex.desc).map (fun d => d.parameters.length) = some 4 := by decide +kernel
theorem msJ9_numberOfTrailingZeros : yJ9_numberOfTrailingZeros.cls ≠ "java/lang/invoke/MethodHandle" ∧ yJ9_numberOfTrailingZeros.cls ≠ "java/lang/invoke/VarHandle" ∧ (parseMethodDescriptor yJ9_numberOfTrailingZeros.desc).map (fun d => d.parameters.length) = some 1 := by decide +kernel
theorem msJ9_bitCount : yJ9_bitCount.cls ≠ "java/lang/invoke/MethodHandle" ∧ yJ9_bitCount.cls ≠ "java/lang/invoke/VarHandle" ∧ (parseMethodDescriptor yJ9_bitCount.desc).map (fun d => d.parameters.length) = some 1 := by decide +kernel
theorem kb_16 : (Int8.ofInt 16).toInt32 = (16 : Int32) := by decide
theorem kb_32 : (Int8.ofInt 32).toInt32 = (32 : Int32) := by decide
theorem kb_63 : (Int8.ofInt 63).toInt32 = (63 : Int32) := by decide
theorem kb_8 : (Int8.ofInt 8).toInt32 = (8 : Int32) := by decide
theorem kc_0 : Int32.ofInt 0 = (0 : Int32) := by decide
theorem kc_1 : Int32.ofInt 1 = (1 : Int32) := by decide
theorem kc_16 : Int32.ofInt 16 = (16 : Int32) := by decide
theorem kc_2 : Int32.ofInt 2 = (2 : Int32) := by decide
theorem kc_4 : Int32.ofInt 4 = (4 : Int32) := by decide
theorem kc_8 : Int32.ofInt 8 = (8 : Int32) := by decide
theorem kc_m1 : Int32.ofInt (-1) = (-1 : Int32) := by decide
theorem ks_255 : (Int16.ofInt 255).toInt32 = (255 : Int32) := by decide
theorem ks_256 : (Int16.ofInt 256).toInt32 = (256 : Int32) := by decide
def jw_coder (n : Nat) (s : Sto) (th : Nat) : Option (Int32 × Sto) :=
  if (1 : Int32) = 0 then
    gd (decide (i2b (1 : Int32) = (1 : Int32))) <|
    some ((1 : Int32), s)
  else
    gd (decide (th < 16)) <|
    gd (decide (i2b (0 : Int32) = (0 : Int32))) <|
    some ((0 : Int32), s)
theorem w_jw_coder {cf : Cfg} {l : Launch} {n : Nat} {s sF : Sto} {th : Nat} {rF : Int32} (hf : jw_coder n s th = some (rF, sF)) : Ct cf l yJ2_coder cJ2_coder 1 (some .byte) { frames := 1, cells := 0, slots := 0, locals := 12 } (fun g => [.ref (g.2.2.2.1 th)]) s sF (fun _ => some (.int rF)) := by
  refine Ct_of pn_J2 (fun g => Nat.le_of_ble_eq_true rfl) (fun g A X C E hX => ?_)
  rw [jw_coder] at hf
  show TG cf g A 1 X 0 0 s 0 [(0, .ref (g.2.2.2.1 th))] []
  refine g_getCS C dJ2_coder_0 ?_
  refine g_if_eq 13 C dJ2_coder_3 rfl (fun c1 => ?_) (fun c1 => ?_)
  · replace hf := if_t c1 hf
    refine g_iconst C dJ2_coder_13 kc_1 ?_
    refine gd_n hf (fun c2 hf => ?_)
    exact g_iret C E (i2b_nar c2) (re_i hf) (re_s hf) ⟨Nat.zero_le _, Nat.zero_le _⟩ dJ2_coder_14
  · replace hf := if_f c1 hf
    refine g_aload_n C dJ2_coder_6 0 rfl ?_
    refine gd_n hf (fun c3 hf => ?_)
    refine g_getKc C c3 dJ2_coder_7 ?_
    refine g_goto 14 C dJ2_coder_10 rfl ?_
    refine gd_n hf (fun c4 hf => ?_)
    exact g_iret C E (i2b_nar c4) (re_i hf) (re_s hf) ⟨Nat.zero_le _, Nat.zero_le _⟩ dJ2_coder_14
def jw_length (n : Nat) (s : Sto) (th : Nat) : Option (Int32 × Sto) :=
  gd (decide (th < 16)) <|
  gd (decide (th < 16)) <|
  gd (decide (th < 16)) <|
  bd (jw_coder n s th) fun r3 s4 =>
  some ((ishr (sLen th) r3), s4)
theorem w_jw_length {cf : Cfg} {l : Launch} {n : Nat} {s sF : Sto} {th : Nat} {rF : Int32} (hf : jw_length n s th = some (rF, sF)) : Ct cf l yJ2_length cJ2_length 1 (some .int) { frames := 2, cells := 0, slots := 0, locals := 32 } (fun g => [.ref (g.2.2.2.1 th)]) s sF (fun _ => some (.int rF)) := by
  refine Ct_of pn_J2 (fun g => Nat.le_of_ble_eq_true rfl) (fun g A X C E hX => ?_)
  rw [jw_length] at hf
  show TG cf g A 1 X 0 0 s 0 [(0, .ref (g.2.2.2.1 th))] []
  refine g_aload_n C dJ2_length_0 0 rfl ?_
  refine gd_n hf (fun c1 hf => ?_)
  refine g_getKv C c1 dJ2_length_1 ?_
  refine gd_n hf (fun c2 hf => ?_)
  refine g_Blen C c2 dJ2_length_4 ?_
  refine g_aload_n C dJ2_length_5 0 rfl ?_
  refine gd_n hf (fun c6 hf => ?_)
  refine bd_n hf (fun r3 s4 h5 hf => ?_)
  refine g_callK0 (As := []) (rest := [.int (sLen th)]) (stk := [.int r3, .int (sLen th)]) C (w_jw_coder h5) hX (of_decide_eq_true c6) rfl q422 q423 q424 q98 q425 mdJ2_coder rfl ⟨Nat.le_of_ble_eq_true rfl, Nat.le_of_ble_eq_true rfl⟩ (Nat.le_of_ble_eq_true rfl) dJ2_length_6 rfl ?_
  refine g_ishr C dJ2_length_9 ?_
  exact g_iret C E rfl (re_i hf) (re_s hf) ⟨Nat.zero_le _, Nat.zero_le _⟩ dJ2_length_10
def jw_isLatin1 (n : Nat) (s : Sto) (th : Nat) : Option (Bool × Sto) :=
  if (1 : Int32) = 0 then
    some (false, s)
  else
    gd (decide (th < 16)) <|
    if (0 : Int32) = 0 then
      some (true, s)
    else
      some (false, s)
theorem w_jw_isLatin1 {cf : Cfg} {l : Launch} {n : Nat} {s sF : Sto} {th : Nat} {rF : Bool} (hf : jw_isLatin1 n s th = some (rF, sF)) : Ct cf l yJ2_isLatin1 cJ2_isLatin1 1 (some .boolean) { frames := 1, cells := 0, slots := 0, locals := 12 } (fun g => [.ref (g.2.2.2.1 th)]) s sF (fun _ => some (.int (bI rF))) := by
  refine Ct_of pn_J2 (fun g => Nat.le_of_ble_eq_true rfl) (fun g A X C E hX => ?_)
  rw [jw_isLatin1] at hf
  show TG cf g A 1 X 0 0 s 0 [(0, .ref (g.2.2.2.1 th))] []
  refine g_getCS C dJ2_isLatin1_0 ?_
  refine g_if_eq 17 C dJ2_isLatin1_3 rfl (fun c1 => ?_) (fun c1 => ?_)
  · replace hf := if_t c1 hf
    refine g_iconst C dJ2_isLatin1_17 kc_0 ?_
    exact g_iret (v := bI false) C E (bI_nar _) (re_z hf) (re_s hf) ⟨Nat.zero_le _, Nat.zero_le _⟩ dJ2_isLatin1_18
  · replace hf := if_f c1 hf
    refine g_aload_n C dJ2_isLatin1_6 0 rfl ?_
    refine gd_n hf (fun c2 hf => ?_)
    refine g_getKc C c2 dJ2_isLatin1_7 ?_
    refine g_if_ne 17 C dJ2_isLatin1_10 rfl (fun c3 => ?_) (fun c3 => ?_)
    · replace hf := if_t c3 hf
      refine g_iconst C dJ2_isLatin1_13 kc_1 ?_
      refine g_goto 18 C dJ2_isLatin1_14 rfl ?_
      exact g_iret (v := bI true) C E (bI_nar _) (re_z hf) (re_s hf) ⟨Nat.zero_le _, Nat.zero_le _⟩ dJ2_isLatin1_18
    · replace hf := if_f c3 hf
      refine g_iconst C dJ2_isLatin1_17 kc_0 ?_
      exact g_iret (v := bI false) C E (bI_nar _) (re_z hf) (re_s hf) ⟨Nat.zero_le _, Nat.zero_le _⟩ dJ2_isLatin1_18
def jw_checkIndex (n : Nat) (s : Sto) (a1 : Int32) (a2 : Int32) : Option (Unit × Sto) :=
  gd (!decide (a1 < 0) && decide (a1 < a2)) <|
  some ((), s)
theorem w_jw_checkIndex {cf : Cfg} {l : Launch} {n : Nat} {s sF : Sto} {a1 : Int32} {a2 : Int32} {rF : Unit} (hf : jw_checkIndex n s a1 a2 = some (rF, sF)) : Ct cf l yJ2_checkIndex cJ2_checkIndex 2 none { frames := 2, cells := 0, slots := 0, locals := 34 } (fun g => [.int a1, .int a2]) s sF (fun _ => none) := by
  refine Ct_of pn_J2 (fun g => Nat.le_of_ble_eq_true rfl) (fun g A X C E hX => ?_)
  rw [jw_checkIndex] at hf
  show TG cf g A 2 X 0 0 s 0 [(0, .int a1), (1, .int a2)] []
  refine g_iload_n C dJ2_checkIndex_0 0 rfl ?_
  refine g_iload_n C dJ2_checkIndex_1 1 rfl ?_
  refine g_getSI C dJ2_checkIndex_2 (fun r1 => ?_)
  refine gd_n hf (fun c2 hf => ?_)
  refine g_callS0 (As := [.int a1, .int a2, va_rf r1]) (rest := []) (stk := [.int a1]) C (w_checkIndexP c2) hX rfl q444 q445 q100 q446 msJ4_checkIndex rfl ⟨Nat.le_of_ble_eq_true rfl, Nat.le_of_ble_eq_true rfl⟩ (Nat.le_of_ble_eq_true rfl) dJ2_checkIndex_5 rfl ?_
  refine g_pop C dJ2_checkIndex_8 rfl ?_
  exact g_vret C E rfl (re_s hf) ⟨Nat.zero_le _, Nat.zero_le _⟩ dJ2_checkIndex_9
def jw_L_charAt (n : Nat) (s : Sto) (a1 : Nat) (a2 : Int32) : Option (Int32 × Sto) :=
  gd (decide (a1 < 16)) <|
  bd (jw_checkIndex n s a2 (sLen a1)) fun r2 s3 =>
  gd (decide (a1 < 16)) <|
  gd (inb a2 (kLen.getD a1 0)) <|
  gd (decide (i2c (i2c ((sBt a1 a2) &&& (255 : Int32))) = (i2c ((sBt a1 a2) &&& (255 : Int32))))) <|
  some ((i2c ((sBt a1 a2) &&& (255 : Int32))), s3)
theorem w_jw_L_charAt {cf : Cfg} {l : Launch} {n : Nat} {s sF : Sto} {a1 : Nat} {a2 : Int32} {rF : Int32} (hf : jw_L_charAt n s a1 a2 = some (rF, sF)) : Ct cf l yJ3_charAt cJ3_charAt 2 (some .char) { frames := 3, cells := 0, slots := 0, locals := 55 } (fun g => [.ref (g.2.2.2.2.1 a1), .int a2]) s sF (fun _ => some (.int rF)) := by
  refine Ct_of pn_J3 (fun g => Nat.le_of_ble_eq_true rfl) (fun g A X C E hX => ?_)
  rw [jw_L_charAt] at hf
  show TG cf g A 2 X 0 0 s 0 [(0, .ref (g.2.2.2.2.1 a1)), (1, .int a2)] []
  refine g_iload_n C dJ3_charAt_0 1 rfl ?_
  refine g_aload_n C dJ3_charAt_1 0 rfl ?_
  refine gd_n hf (fun c1 hf => ?_)
  refine g_Blen C c1 dJ3_charAt_2 ?_
  refine bd_n hf (fun r2 s3 h4 hf => ?_)
  refine g_callS0 (As := [.int a2, .int (sLen a1)]) (rest := []) (stk := []) C (w_jw_checkIndex h4) hX rfl q439 q440 q98 q441 msJ2_checkIndex rfl ⟨Nat.le_of_ble_eq_true rfl, Nat.le_of_ble_eq_true rfl⟩ (Nat.le_of_ble_eq_true rfl) dJ3_charAt_3 rfl ?_
  refine g_aload_n C dJ3_charAt_6 0 rfl ?_
  refine g_iload_n C dJ3_charAt_7 1 rfl ?_
  refine gd_n hf (fun c5 hf => ?_)
  refine gd_n hf (fun c6 hf => ?_)
  refine g_Bald C c5 c6 dJ3_charAt_8 ?_
  refine g_sipush C dJ3_charAt_9 ks_255 ?_
  refine g_iand C dJ3_charAt_12 ?_
  refine g_i2c C dJ3_charAt_13 ?_
  refine gd_n hf (fun c7 hf => ?_)
  exact g_iret C E (i2c_nar c7) (re_i hf) (re_s hf) ⟨Nat.zero_le _, Nat.zero_le _⟩ dJ3_charAt_14
def jw_charAt (n : Nat) (s : Sto) (th : Nat) (a1 : Int32) : Option (Int32 × Sto) :=
  gd (decide (th < 16)) <|
  bd (jw_isLatin1 n s th) fun r1 s2 =>
  if r1 = true then
    gd (decide (th < 16)) <|
    bd (jw_L_charAt n s2 th a1) fun r7 s8 =>
    gd (decide (i2c r7 = r7)) <|
    some (r7, s8)
  else
    gd (decide (th < 16)) <|
    none
theorem w_jw_charAt {cf : Cfg} {l : Launch} {n : Nat} {s sF : Sto} {th : Nat} {a1 : Int32} {rF : Int32} (hf : jw_charAt n s th a1 = some (rF, sF)) : Ct cf l yJ2_charAt cJ2_charAt 2 (some .char) { frames := 4, cells := 0, slots := 0, locals := 76 } (fun g => [.ref (g.2.2.2.1 th), .int a1]) s sF (fun _ => some (.int rF)) := by
  refine Ct_of pn_J2 (fun g => Nat.le_of_ble_eq_true rfl) (fun g A X C E hX => ?_)
  rw [jw_charAt] at hf
  show TG cf g A 2 X 0 0 s 0 [(0, .ref (g.2.2.2.1 th)), (1, .int a1)] []
  refine g_aload_n C dJ2_charAt_0 0 rfl ?_
  refine gd_n hf (fun c4 hf => ?_)
  refine bd_n hf (fun r1 s2 h3 hf => ?_)
  refine g_callK0 (As := []) (rest := []) (stk := [.int (bI r1)]) C (w_jw_isLatin1 h3) hX (of_decide_eq_true c4) rfl q432 q433 q434 q98 q435 mdJ2_isLatin1 rfl ⟨Nat.le_of_ble_eq_true rfl, Nat.le_of_ble_eq_true rfl⟩ (Nat.le_of_ble_eq_true rfl) dJ2_charAt_1 rfl ?_
  refine g_ifZ_eq 16 C dJ2_charAt_4 rfl (fun c5 => ?_) (fun c5 => ?_)
  · replace hf := if_t c5 hf
    refine g_aload_n C dJ2_charAt_7 0 rfl ?_
    refine gd_n hf (fun c6 hf => ?_)
    refine g_getKv C c6 dJ2_charAt_8 ?_
    refine g_iload_n C dJ2_charAt_11 1 rfl ?_
    refine bd_n hf (fun r7 s8 h9 hf => ?_)
    refine g_callS0 (As := [.ref (g.2.2.2.2.1 th), .int a1]) (rest := []) (stk := [.int r7]) C (w_jw_L_charAt h9) hX rfl q436 q437 q99 q438 msJ3_charAt rfl ⟨Nat.le_of_ble_eq_true rfl, Nat.le_of_ble_eq_true rfl⟩ (Nat.le_of_ble_eq_true rfl) dJ2_charAt_12 rfl ?_
    refine gd_n hf (fun c10 hf => ?_)
    exact g_iret C E (i2c_nar c10) (re_i hf) (re_s hf) ⟨Nat.zero_le _, Nat.zero_le _⟩ dJ2_charAt_15
  · replace hf := if_f c5 hf
    refine g_aload_n C dJ2_charAt_16 0 rfl ?_
    refine gd_n hf (fun c11 hf => ?_)
    refine g_getKv C c11 dJ2_charAt_17 ?_
    refine g_iload_n C dJ2_charAt_20 1 rfl ?_
    cases hf
def jw_L_canEncode (n : Nat) (s : Sto) (a1 : Int32) : Option (Bool × Sto) :=
  if a1 < 0 then
    some (false, s)
  else
    if (255 : Int32) < a1 then
      some (false, s)
    else
      some (true, s)
theorem w_jw_L_canEncode {cf : Cfg} {l : Launch} {n : Nat} {s sF : Sto} {a1 : Int32} {rF : Bool} (hf : jw_L_canEncode n s a1 = some (rF, sF)) : Ct cf l yJ3_canEncode cJ3_canEncode 1 (some .boolean) { frames := 1, cells := 0, slots := 0, locals := 12 } (fun g => [.int a1]) s sF (fun _ => some (.int (bI rF))) := by
  refine Ct_of pn_J3 (fun g => Nat.le_of_ble_eq_true rfl) (fun g A X C E hX => ?_)
  rw [jw_L_canEncode] at hf
  show TG cf g A 1 X 0 0 s 0 [(0, .int a1)] []
  refine g_iload_n C dJ3_canEncode_0 0 rfl ?_
  refine g_if_lt 15 C dJ3_canEncode_1 rfl (fun c1 => ?_) (fun c1 => ?_)
  · replace hf := if_t c1 hf
    refine g_iconst C dJ3_canEncode_15 kc_0 ?_
    exact g_iret (v := bI false) C E (bI_nar _) (re_z hf) (re_s hf) ⟨Nat.zero_le _, Nat.zero_le _⟩ dJ3_canEncode_16
  · replace hf := if_f c1 hf
    refine g_iload_n C dJ3_canEncode_4 0 rfl ?_
    refine g_sipush C dJ3_canEncode_5 ks_255 ?_
    refine g_icmp_gt 15 C dJ3_canEncode_8 rfl (fun c2 => ?_) (fun c2 => ?_)
    · replace hf := if_t c2 hf
      refine g_iconst C dJ3_canEncode_15 kc_0 ?_
      exact g_iret (v := bI false) C E (bI_nar _) (re_z hf) (re_s hf) ⟨Nat.zero_le _, Nat.zero_le _⟩ dJ3_canEncode_16
    · replace hf := if_f c2 hf
      refine g_iconst C dJ3_canEncode_11 kc_1 ?_
      refine g_goto 16 C dJ3_canEncode_12 rfl ?_
      exact g_iret (v := bI true) C E (bI_nar _) (re_z hf) (re_s hf) ⟨Nat.zero_le _, Nat.zero_le _⟩ dJ3_canEncode_16
def jw_L_indexOfChar_L7 (n : Nat) (v3 : Nat) (v4 : Int32) (v5 : Int32) : Nat → Sto → Int32 → Option (Int32 × Sto)
  | 0, _, _ => none
  | k + 1, s2, v6 =>
    if v4 ≤ v6 then
      some ((-1 : Int32), s2)
    else
      gd (decide (v3 < 16)) <|
      gd (inb v6 (kLen.getD v3 0)) <|
      if (sBt v3 v6) = v5 then
        some (v6, s2)
      else
        jw_L_indexOfChar_L7 n v3 v4 v5 k s2 (v6 + (1 : Int32))
def jw_L_indexOfChar (n : Nat) (s : Sto) (a1 : Nat) (a2 : Int32) (a3 : Int32) (a4 : Int32) : Option (Int32 × Sto) :=
  vl (i2b a2) fun v1 =>
  jw_L_indexOfChar_L7 n a1 a4 v1
      n s a3
theorem w_jw_L_indexOfChar_L7 {cf : Cfg} {l : Launch} {n : Nat} {v3 : Nat} {v4 : Int32} {v5 : Int32} {g : Gam} {A : Nat → Prop} {X : FX} {si sF : Sto} {rF : Int32} (C : CX cf g A 6 X cJ3_indexOfChar RJ3 (some .int) 1 12) (E : EX cf g A X si sF (some (.int rF)) 0 0) (hX : X.2.1 = l) : ∀ (k : Nat) (s2 : Sto) (v6 : Int32), jw_L_indexOfChar_L7 n v3 v4 v5 k s2 v6 = some (rF, sF) → TG cf g A 6 X 0 0 s2 7 [(0, .ref (g.2.2.2.2.1 v3)), (3, .int v4), (4, .int v5), (5, .int v6)] [] := by
  intro k
  induction k with
  | zero => intro s2 v6 hf; rw [jw_L_indexOfChar_L7] at hf; cases hf
  | succ k ih =>
    intro s2 v6 hf
    rw [jw_L_indexOfChar_L7] at hf
    refine g_iload C dJ3_indexOfChar_7 3 rfl ?_
    refine g_iload_n C dJ3_indexOfChar_9 1 rfl ?_
    refine g_icmp_ge 31 C dJ3_indexOfChar_10 rfl (fun c7 => ?_) (fun c7 => ?_)
    · replace hf := if_t c7 hf
      refine g_iconst C dJ3_indexOfChar_31 kc_m1 ?_
      exact g_iret C E rfl (re_i hf) (re_s hf) ⟨Nat.zero_le _, Nat.zero_le _⟩ dJ3_indexOfChar_32
    · replace hf := if_f c7 hf
      refine g_aload_n C dJ3_indexOfChar_13 0 rfl ?_
      refine g_iload C dJ3_indexOfChar_14 3 rfl ?_
      refine gd_n hf (fun c8 hf => ?_)
      refine gd_n hf (fun c9 hf => ?_)
      refine g_Bald C c8 c9 dJ3_indexOfChar_16 ?_
      refine g_iload C dJ3_indexOfChar_17 2 rfl ?_
      refine g_icmp_ne 25 C dJ3_indexOfChar_19 rfl (fun c10 => ?_) (fun c10 => ?_)
      · replace hf := if_t c10 hf
        refine g_iload C dJ3_indexOfChar_22 3 rfl ?_
        exact g_iret C E rfl (re_i hf) (re_s hf) ⟨Nat.zero_le _, Nat.zero_le _⟩ dJ3_indexOfChar_24
      · replace hf := if_f c10 hf
        refine g_iinc (q := 3) (lv' := [(5, .int (v6 + (1 : Int32))), (0, .ref (g.2.2.2.2.1 v3)), (3, .int v4), (4, .int v5)]) C dJ3_indexOfChar_25 rfl kc_1 (by decide) rfl ?_
        refine g_goto 7 C dJ3_indexOfChar_28 rfl ?_
        exact g_sub [1, 2, 3, 0] rfl (ih _ _ hf)
theorem w_jw_L_indexOfChar {cf : Cfg} {l : Launch} {n : Nat} {s sF : Sto} {a1 : Nat} {a2 : Int32} {a3 : Int32} {a4 : Int32} {rF : Int32} (hf : jw_L_indexOfChar n s a1 a2 a3 a4 = some (rF, sF)) : Ct cf l yJ3_indexOfChar cJ3_indexOfChar 6 (some .int) { frames := 1, cells := 0, slots := 0, locals := 12 } (fun g => [.ref (g.2.2.2.2.1 a1), .int a2, .int a3, .int a4]) s sF (fun _ => some (.int rF)) := by
  refine Ct_of pn_J3 (fun g => Nat.le_of_ble_eq_true rfl) (fun g A X C E hX => ?_)
  rw [jw_L_indexOfChar] at hf
  show TG cf g A 6 X 0 0 s 0 [(0, .ref (g.2.2.2.2.1 a1)), (1, .int a2), (2, .int a3), (3, .int a4)] []
  refine g_iload_n C dJ3_indexOfChar_0 1 rfl ?_
  refine g_i2b C dJ3_indexOfChar_1 ?_
  refine vl_n hf (fun v1 hv1 hf => ?_)
  refine g_istore (i := 4) (lv' := [(4, .int v1), (0, .ref (g.2.2.2.2.1 a1)), (1, .int a2), (2, .int a3), (3, .int a4)]) C dJ3_indexOfChar_2 hv1 (by decide) rfl ?_
  refine g_iload_n C dJ3_indexOfChar_4 3 rfl ?_
  refine g_istore (i := 5) (lv' := [(5, .int a3), (4, .int v1), (0, .ref (g.2.2.2.2.1 a1)), (1, .int a2), (2, .int a3), (3, .int a4)]) C dJ3_indexOfChar_5 rfl (by decide) rfl ?_
  refine g_sub [2, 5, 1, 0] rfl (w_jw_L_indexOfChar_L7 C E hX _ _ _ hf)
def jw_L_indexOf (n : Nat) (s : Sto) (a1 : Nat) (a2 : Int32) (a3 : Int32) (a4 : Int32) : Option (Int32 × Sto) :=
  bd (jw_L_canEncode n s a2) fun r1 s2 =>
  if r1 = true then
    vl (mmax a3 (0 : Int32)) fun v5 =>
    gd (decide (a1 < 16)) <|
    vl (mmin a4 (sLen a1)) fun v7 =>
    if v5 < v7 then
      bd (jw_L_indexOfChar n s2 a1 a2 v5 v7) fun r9 s10 =>
      some (r9, s10)
    else
      some ((-1 : Int32), s2)
  else
    some ((-1 : Int32), s2)
theorem w_jw_L_indexOf {cf : Cfg} {l : Launch} {n : Nat} {s sF : Sto} {a1 : Nat} {a2 : Int32} {a3 : Int32} {a4 : Int32} {rF : Int32} (hf : jw_L_indexOf n s a1 a2 a3 a4 = some (rF, sF)) : Ct cf l yJ3_indexOf cJ3_indexOf 4 (some .int) { frames := 2, cells := 0, slots := 0, locals := 40 } (fun g => [.ref (g.2.2.2.2.1 a1), .int a2, .int a3, .int a4]) s sF (fun _ => some (.int rF)) := by
  refine Ct_of pn_J3 (fun g => Nat.le_of_ble_eq_true rfl) (fun g A X C E hX => ?_)
  rw [jw_L_indexOf] at hf
  show TG cf g A 4 X 0 0 s 0 [(0, .ref (g.2.2.2.2.1 a1)), (1, .int a2), (2, .int a3), (3, .int a4)] []
  refine g_iload_n C dJ3_indexOf_0 1 rfl ?_
  refine bd_n hf (fun r1 s2 h3 hf => ?_)
  refine g_callS0 (As := [.int a2]) (rest := []) (stk := [.int (bI r1)]) C (w_jw_L_canEncode h3) hX rfl q488 q489 q99 q490 msJ3_canEncode rfl ⟨Nat.le_of_ble_eq_true rfl, Nat.le_of_ble_eq_true rfl⟩ (Nat.le_of_ble_eq_true rfl) dJ3_indexOf_1 rfl ?_
  refine g_ifZ_ne 9 C dJ3_indexOf_4 rfl (fun c4 => ?_) (fun c4 => ?_)
  · replace hf := if_t c4 hf
    refine g_iload_n C dJ3_indexOf_9 2 rfl ?_
    refine g_iconst C dJ3_indexOf_10 kc_0 ?_
    refine g_mmax C q491 (Nat.le_of_ble_eq_true rfl) (Nat.le_of_ble_eq_true rfl) (Nat.le_of_ble_eq_true rfl) ⟨Nat.zero_le _, Nat.zero_le _⟩ dJ3_indexOf_11 ?_
    refine vl_n hf (fun v5 hv5 hf => ?_)
    refine g_istore_n (i := 2) (lv' := [(2, .int v5), (0, .ref (g.2.2.2.2.1 a1)), (1, .int a2), (3, .int a4)]) C dJ3_indexOf_14 rfl hv5 (by decide) rfl ?_
    refine g_iload_n C dJ3_indexOf_15 3 rfl ?_
    refine g_aload_n C dJ3_indexOf_16 1 rfl ?_
    refine gd_n hf (fun c6 hf => ?_)
    refine g_Blen C c6 dJ3_indexOf_17 ?_
    refine g_mmin C q494 (Nat.le_of_ble_eq_true rfl) (Nat.le_of_ble_eq_true rfl) (Nat.le_of_ble_eq_true rfl) ⟨Nat.zero_le _, Nat.zero_le _⟩ dJ3_indexOf_18 ?_
    refine vl_n hf (fun v7 hv7 hf => ?_)
    refine g_istore_n (i := 3) (lv' := [(3, .int v7), (2, .int v5), (0, .ref (g.2.2.2.2.1 a1)), (1, .int a2)]) C dJ3_indexOf_21 rfl hv7 (by decide) rfl ?_
    refine g_iload_n C dJ3_indexOf_22 1 rfl ?_
    refine g_iload_n C dJ3_indexOf_23 0 rfl ?_
    refine g_icmp_lt 29 C dJ3_indexOf_24 rfl (fun c8 => ?_) (fun c8 => ?_)
    · replace hf := if_t c8 hf
      refine g_aload_n C dJ3_indexOf_29 2 rfl ?_
      refine g_iload_n C dJ3_indexOf_30 3 rfl ?_
      refine g_iload_n C dJ3_indexOf_31 1 rfl ?_
      refine g_iload_n C dJ3_indexOf_32 0 rfl ?_
      refine bd_n hf (fun r9 s10 h11 hf => ?_)
      refine g_callS0 (As := [.ref (g.2.2.2.2.1 a1), .int a2, .int v5, .int v7]) (rest := []) (stk := [.int r9]) C (w_jw_L_indexOfChar h11) hX rfl q495 q496 q99 q497 msJ3_indexOfChar rfl ⟨Nat.le_of_ble_eq_true rfl, Nat.le_of_ble_eq_true rfl⟩ (Nat.le_of_ble_eq_true rfl) dJ3_indexOf_33 rfl ?_
      exact g_iret C E rfl (re_i hf) (re_s hf) ⟨Nat.zero_le _, Nat.zero_le _⟩ dJ3_indexOf_36
    · replace hf := if_f c8 hf
      refine g_iconst C dJ3_indexOf_27 kc_m1 ?_
      exact g_iret C E rfl (re_i hf) (re_s hf) ⟨Nat.zero_le _, Nat.zero_le _⟩ dJ3_indexOf_28
  · replace hf := if_f c4 hf
    refine g_iconst C dJ3_indexOf_7 kc_m1 ?_
    exact g_iret C E rfl (re_i hf) (re_s hf) ⟨Nat.zero_le _, Nat.zero_le _⟩ dJ3_indexOf_8
def jw_indexOf2 (n : Nat) (s : Sto) (th : Nat) (a1 : Int32) (a2 : Int32) : Option (Int32 × Sto) :=
  gd (decide (th < 16)) <|
  bd (jw_isLatin1 n s th) fun r1 s2 =>
  if r1 = true then
    gd (decide (th < 16)) <|
    bd (jw_length n s2 th) fun r7 s8 =>
    bd (jw_L_indexOf n s8 th a1 a2 r7) fun r10 s11 =>
    some (r10, s11)
  else
    gd (decide (th < 16)) <|
    bd (jw_length n s2 th) fun r14 s15 =>
    none
theorem w_jw_indexOf2 {cf : Cfg} {l : Launch} {n : Nat} {s sF : Sto} {th : Nat} {a1 : Int32} {a2 : Int32} {rF : Int32} (hf : jw_indexOf2 n s th a1 a2 = some (rF, sF)) : Ct cf l yJ2_indexOf_2 cJ2_indexOf_2 3 (some .int) { frames := 3, cells := 0, slots := 0, locals := 63 } (fun g => [.ref (g.2.2.2.1 th), .int a1, .int a2]) s sF (fun _ => some (.int rF)) := by
  refine Ct_of pn_J2 (fun g => Nat.le_of_ble_eq_true rfl) (fun g A X C E hX => ?_)
  rw [jw_indexOf2] at hf
  show TG cf g A 3 X 0 0 s 0 [(0, .ref (g.2.2.2.1 th)), (1, .int a1), (2, .int a2)] []
  refine g_aload_n C dJ2_indexOf_2_0 0 rfl ?_
  refine gd_n hf (fun c4 hf => ?_)
  refine bd_n hf (fun r1 s2 h3 hf => ?_)
  refine g_callK0 (As := []) (rest := []) (stk := [.int (bI r1)]) C (w_jw_isLatin1 h3) hX (of_decide_eq_true c4) rfl q432 q433 q434 q98 q435 mdJ2_isLatin1 rfl ⟨Nat.le_of_ble_eq_true rfl, Nat.le_of_ble_eq_true rfl⟩ (Nat.le_of_ble_eq_true rfl) dJ2_indexOf_2_1 rfl ?_
  refine g_ifZ_eq 23 C dJ2_indexOf_2_4 rfl (fun c5 => ?_) (fun c5 => ?_)
  · replace hf := if_t c5 hf
    refine g_aload_n C dJ2_indexOf_2_7 0 rfl ?_
    refine gd_n hf (fun c6 hf => ?_)
    refine g_getKv C c6 dJ2_indexOf_2_8 ?_
    refine g_iload_n C dJ2_indexOf_2_11 1 rfl ?_
    refine g_iload_n C dJ2_indexOf_2_12 2 rfl ?_
    refine g_aload_n C dJ2_indexOf_2_13 0 rfl ?_
    refine bd_n hf (fun r7 s8 h9 hf => ?_)
    refine g_callK0 (As := []) (rest := [.int a2, .int a1, .ref (g.2.2.2.2.1 th)]) (stk := [.int r7, .int a2, .int a1, .ref (g.2.2.2.2.1 th)]) C (w_jw_length h9) hX (of_decide_eq_true c4) rfl q484 q419 q420 q98 q421 mdJ2_length rfl ⟨Nat.le_of_ble_eq_true rfl, Nat.le_of_ble_eq_true rfl⟩ (Nat.le_of_ble_eq_true rfl) dJ2_indexOf_2_14 rfl ?_
    refine bd_n hf (fun r10 s11 h12 hf => ?_)
    refine g_callS0 (As := [.ref (g.2.2.2.2.1 th), .int a1, .int a2, .int r7]) (rest := []) (stk := [.int r10]) C (w_jw_L_indexOf h12) hX rfl q485 q486 q99 q487 msJ3_indexOf rfl ⟨Nat.le_of_ble_eq_true rfl, Nat.le_of_ble_eq_true rfl⟩ (Nat.le_of_ble_eq_true rfl) dJ2_indexOf_2_17 rfl ?_
    refine g_goto 36 C dJ2_indexOf_2_20 rfl ?_
    exact g_iret C E rfl (re_i hf) (re_s hf) ⟨Nat.zero_le _, Nat.zero_le _⟩ dJ2_indexOf_2_36
  · replace hf := if_f c5 hf
    refine g_aload_n C dJ2_indexOf_2_23 0 rfl ?_
    refine gd_n hf (fun c13 hf => ?_)
    refine g_getKv C c13 dJ2_indexOf_2_24 ?_
    refine g_iload_n C dJ2_indexOf_2_27 1 rfl ?_
    refine g_iload_n C dJ2_indexOf_2_28 2 rfl ?_
    refine g_aload_n C dJ2_indexOf_2_29 0 rfl ?_
    refine bd_n hf (fun r14 s15 h16 hf => ?_)
    refine g_callK0 (As := []) (rest := [.int a2, .int a1, .ref (g.2.2.2.2.1 th)]) (stk := [.int r14, .int a2, .int a1, .ref (g.2.2.2.2.1 th)]) C (w_jw_length h16) hX (of_decide_eq_true c4) rfl q484 q419 q420 q98 q421 mdJ2_length rfl ⟨Nat.le_of_ble_eq_true rfl, Nat.le_of_ble_eq_true rfl⟩ (Nat.le_of_ble_eq_true rfl) dJ2_indexOf_2_30 rfl ?_
    cases hf
def jw_indexOf (n : Nat) (s : Sto) (th : Nat) (a1 : Int32) : Option (Int32 × Sto) :=
  gd (decide (th < 16)) <|
  bd (jw_indexOf2 n s th a1 (0 : Int32)) fun r1 s2 =>
  some (r1, s2)
theorem w_jw_indexOf {cf : Cfg} {l : Launch} {n : Nat} {s sF : Sto} {th : Nat} {a1 : Int32} {rF : Int32} (hf : jw_indexOf n s th a1 = some (rF, sF)) : Ct cf l yJ2_indexOf cJ2_indexOf 2 (some .int) { frames := 4, cells := 0, slots := 0, locals := 85 } (fun g => [.ref (g.2.2.2.1 th), .int a1]) s sF (fun _ => some (.int rF)) := by
  refine Ct_of pn_J2 (fun g => Nat.le_of_ble_eq_true rfl) (fun g A X C E hX => ?_)
  rw [jw_indexOf] at hf
  show TG cf g A 2 X 0 0 s 0 [(0, .ref (g.2.2.2.1 th)), (1, .int a1)] []
  refine g_aload_n C dJ2_indexOf_0 0 rfl ?_
  refine g_iload_n C dJ2_indexOf_1 1 rfl ?_
  refine g_iconst C dJ2_indexOf_2 kc_0 ?_
  refine gd_n hf (fun c4 hf => ?_)
  refine bd_n hf (fun r1 s2 h3 hf => ?_)
  refine g_callK0 (As := [.int a1, .int (0 : Int32)]) (rest := []) (stk := [.int r1]) C (w_jw_indexOf2 h3) hX (of_decide_eq_true c4) rfl q480 q481 q482 q98 q483 mdJ2_indexOf_2 rfl ⟨Nat.le_of_ble_eq_true rfl, Nat.le_of_ble_eq_true rfl⟩ (Nat.le_of_ble_eq_true rfl) dJ2_indexOf_3 rfl ?_
  exact g_iret C E rfl (re_i hf) (re_s hf) ⟨Nat.zero_le _, Nat.zero_le _⟩ dJ2_indexOf_6
def jw_I_bitCount (n : Nat) (s : Sto) (a1 : Int32) : Option (Int32 × Sto) :=
  vl (a1 - ((iushr a1 (1 : Int32)) &&& (1431655765 : Int32))) fun v1 =>
  vl ((v1 &&& (858993459 : Int32)) + ((iushr v1 (2 : Int32)) &&& (858993459 : Int32))) fun v2 =>
  vl ((v2 + (iushr v2 (4 : Int32))) &&& (252645135 : Int32)) fun v3 =>
  vl (v3 + (iushr v3 (8 : Int32))) fun v4 =>
  vl (v4 + (iushr v4 (16 : Int32))) fun v5 =>
  some ((v5 &&& (63 : Int32)), s)
theorem w_jw_I_bitCount {cf : Cfg} {l : Launch} {n : Nat} {s sF : Sto} {a1 : Int32} {rF : Int32} (hf : jw_I_bitCount n s a1 = some (rF, sF)) : Ct cf l yJ9_bitCount cJ9_bitCount 1 (some .int) { frames := 1, cells := 0, slots := 0, locals := 12 } (fun g => [.int a1]) s sF (fun _ => some (.int rF)) := by
  refine Ct_of pn_J9 (fun g => Nat.le_of_ble_eq_true rfl) (fun g A X C E hX => ?_)
  rw [jw_I_bitCount] at hf
  show TG cf g A 1 X 0 0 s 0 [(0, .int a1)] []
  refine g_iload_n C dJ9_bitCount_0 0 rfl ?_
  refine g_iload_n C dJ9_bitCount_1 0 rfl ?_
  refine g_iconst C dJ9_bitCount_2 kc_1 ?_
  refine g_iushr C dJ9_bitCount_3 ?_
  refine g_ldcw C dJ9_bitCount_4 q967 ?_
  refine g_iand C dJ9_bitCount_7 ?_
  refine g_isub C dJ9_bitCount_8 ?_
  refine vl_n hf (fun v1 hv1 hf => ?_)
  refine g_istore_n (i := 0) (lv' := [(0, .int v1)]) C dJ9_bitCount_9 rfl hv1 (by decide) rfl ?_
  refine g_iload_n C dJ9_bitCount_10 0 rfl ?_
  refine g_ldcw C dJ9_bitCount_11 q968 ?_
  refine g_iand C dJ9_bitCount_14 ?_
  refine g_iload_n C dJ9_bitCount_15 0 rfl ?_
  refine g_iconst C dJ9_bitCount_16 kc_2 ?_
  refine g_iushr C dJ9_bitCount_17 ?_
  refine g_ldcw C dJ9_bitCount_18 q968 ?_
  refine g_iand C dJ9_bitCount_21 ?_
  refine g_iadd C dJ9_bitCount_22 ?_
  refine vl_n hf (fun v2 hv2 hf => ?_)
  refine g_istore_n (i := 0) (lv' := [(0, .int v2)]) C dJ9_bitCount_23 rfl hv2 (by decide) rfl ?_
  refine g_iload_n C dJ9_bitCount_24 0 rfl ?_
  refine g_iload_n C dJ9_bitCount_25 0 rfl ?_
  refine g_iconst C dJ9_bitCount_26 kc_4 ?_
  refine g_iushr C dJ9_bitCount_27 ?_
  refine g_iadd C dJ9_bitCount_28 ?_
  refine g_ldcw C dJ9_bitCount_29 q969 ?_
  refine g_iand C dJ9_bitCount_32 ?_
  refine vl_n hf (fun v3 hv3 hf => ?_)
  refine g_istore_n (i := 0) (lv' := [(0, .int v3)]) C dJ9_bitCount_33 rfl hv3 (by decide) rfl ?_
  refine g_iload_n C dJ9_bitCount_34 0 rfl ?_
  refine g_iload_n C dJ9_bitCount_35 0 rfl ?_
  refine g_bipush C dJ9_bitCount_36 kb_8 ?_
  refine g_iushr C dJ9_bitCount_38 ?_
  refine g_iadd C dJ9_bitCount_39 ?_
  refine vl_n hf (fun v4 hv4 hf => ?_)
  refine g_istore_n (i := 0) (lv' := [(0, .int v4)]) C dJ9_bitCount_40 rfl hv4 (by decide) rfl ?_
  refine g_iload_n C dJ9_bitCount_41 0 rfl ?_
  refine g_iload_n C dJ9_bitCount_42 0 rfl ?_
  refine g_bipush C dJ9_bitCount_43 kb_16 ?_
  refine g_iushr C dJ9_bitCount_45 ?_
  refine g_iadd C dJ9_bitCount_46 ?_
  refine vl_n hf (fun v5 hv5 hf => ?_)
  refine g_istore_n (i := 0) (lv' := [(0, .int v5)]) C dJ9_bitCount_47 rfl hv5 (by decide) rfl ?_
  refine g_iload_n C dJ9_bitCount_48 0 rfl ?_
  refine g_bipush C dJ9_bitCount_49 kb_63 ?_
  refine g_iand C dJ9_bitCount_51 ?_
  exact g_iret C E rfl (re_i hf) (re_s hf) ⟨Nat.zero_le _, Nat.zero_le _⟩ dJ9_bitCount_52
def jw_I_numberOfTrailingZeros (n : Nat) (s : Sto) (a1 : Int32) : Option (Int32 × Sto) :=
  vl ((a1 ^^^ (-1 : Int32)) &&& (a1 - (1 : Int32))) fun v1 =>
  if 0 < v1 then
    vl (fun (v3 : Int32) (v4 : Int32) =>
      vl (fun (v6 : Int32) (v7 : Int32) =>
        vl (fun (v9 : Int32) (v10 : Int32) =>
          if v9 ≤ (4 : Int32) then
            some ((v10 + (iushr v9 (1 : Int32))), s)
          else
            vl (iushr v9 (2 : Int32)) fun v13 =>
            some (((v10 + (2 : Int32)) + (iushr v13 (1 : Int32))), s)) fun j11 =>
        if v6 ≤ (16 : Int32) then
          j11 v6 v7
        else
          vl (iushr v6 (4 : Int32)) fun v15 =>
          j11 v15 (v7 + (4 : Int32))) fun j8 =>
      if v3 ≤ (256 : Int32) then
        j8 v3 v4
      else
        vl (iushr v3 (8 : Int32)) fun v17 =>
        j8 v17 (v4 + (8 : Int32))) fun j5 =>
    if v1 ≤ (65536 : Int32) then
      j5 v1 (1 : Int32)
    else
      vl (iushr v1 (16 : Int32)) fun v19 =>
      j5 v19 ((1 : Int32) + (16 : Int32))
  else
    some ((v1 &&& (32 : Int32)), s)
theorem w_jw_I_numberOfTrailingZeros {cf : Cfg} {l : Launch} {n : Nat} {s sF : Sto} {a1 : Int32} {rF : Int32} (hf : jw_I_numberOfTrailingZeros n s a1 = some (rF, sF)) : Ct cf l yJ9_numberOfTrailingZeros cJ9_numberOfTrailingZeros 2 (some .int) { frames := 1, cells := 0, slots := 0, locals := 12 } (fun g => [.int a1]) s sF (fun _ => some (.int rF)) := by
  refine Ct_of pn_J9 (fun g => Nat.le_of_ble_eq_true rfl) (fun g A X C E hX => ?_)
  rw [jw_I_numberOfTrailingZeros] at hf
  show TG cf g A 2 X 0 0 s 0 [(0, .int a1)] []
  refine g_iload_n C dJ9_numberOfTrailingZeros_0 0 rfl ?_
  refine g_iconst C dJ9_numberOfTrailingZeros_1 kc_m1 ?_
  refine g_ixor C dJ9_numberOfTrailingZeros_2 ?_
  refine g_iload_n C dJ9_numberOfTrailingZeros_3 0 rfl ?_
  refine g_iconst C dJ9_numberOfTrailingZeros_4 kc_1 ?_
  refine g_isub C dJ9_numberOfTrailingZeros_5 ?_
  refine g_iand C dJ9_numberOfTrailingZeros_6 ?_
  refine vl_n hf (fun v1 hv1 hf => ?_)
  refine g_istore_n (i := 0) (lv' := [(0, .int v1)]) C dJ9_numberOfTrailingZeros_7 rfl hv1 (by decide) rfl ?_
  refine g_iload_n C dJ9_numberOfTrailingZeros_8 0 rfl ?_
  refine g_if_gt 17 C dJ9_numberOfTrailingZeros_9 rfl (fun c2 => ?_) (fun c2 => ?_)
  · replace hf := if_t c2 hf
    refine g_iconst C dJ9_numberOfTrailingZeros_17 kc_1 ?_
    refine g_istore_n (i := 1) (lv' := [(1, .int (1 : Int32)), (0, .int v1)]) C dJ9_numberOfTrailingZeros_18 rfl rfl (by decide) rfl ?_
    refine g_iload_n C dJ9_numberOfTrailingZeros_19 1 rfl ?_
    refine g_ldcw C dJ9_numberOfTrailingZeros_20 q885 ?_
    refine vl_n hf (fun j5 hj5 hf => ?_)
    have Hj5 : ∀ (v3 : Int32) (v4 : Int32), j5 v3 v4 = some (rF, sF) → TG cf g A 2 X 0 0 s 34 [(0, .int v3), (1, .int v4)] [] := by
      clear hf; subst hj5
      intro v3 v4 hf
      refine g_iload_n C dJ9_numberOfTrailingZeros_34 0 rfl ?_
      refine g_sipush C dJ9_numberOfTrailingZeros_35 ks_256 ?_
      refine vl_n hf (fun j8 hj8 hf => ?_)
      have Hj8 : ∀ (v6 : Int32) (v7 : Int32), j8 v6 v7 = some (rF, sF) → TG cf g A 2 X 0 0 s 49 [(0, .int v6), (1, .int v7)] [] := by
        clear hf; subst hj8
        intro v6 v7 hf
        refine g_iload_n C dJ9_numberOfTrailingZeros_49 0 rfl ?_
        refine g_bipush C dJ9_numberOfTrailingZeros_50 kb_16 ?_
        refine vl_n hf (fun j11 hj11 hf => ?_)
        have Hj11 : ∀ (v9 : Int32) (v10 : Int32), j11 v9 v10 = some (rF, sF) → TG cf g A 2 X 0 0 s 62 [(0, .int v9), (1, .int v10)] [] := by
          clear hf; subst hj11
          intro v9 v10 hf
          refine g_iload_n C dJ9_numberOfTrailingZeros_62 0 rfl ?_
          refine g_iconst C dJ9_numberOfTrailingZeros_63 kc_4 ?_
          refine g_icmp_le 74 C dJ9_numberOfTrailingZeros_64 rfl (fun c12 => ?_) (fun c12 => ?_)
          · replace hf := if_t c12 hf
            refine g_iload_n C dJ9_numberOfTrailingZeros_74 1 rfl ?_
            refine g_iload_n C dJ9_numberOfTrailingZeros_75 0 rfl ?_
            refine g_iconst C dJ9_numberOfTrailingZeros_76 kc_1 ?_
            refine g_iushr C dJ9_numberOfTrailingZeros_77 ?_
            refine g_iadd C dJ9_numberOfTrailingZeros_78 ?_
            exact g_iret C E rfl (re_i hf) (re_s hf) ⟨Nat.zero_le _, Nat.zero_le _⟩ dJ9_numberOfTrailingZeros_79
          · replace hf := if_f c12 hf
            refine g_iinc (q := 1) (lv' := [(1, .int (v10 + (2 : Int32))), (0, .int v9)]) C dJ9_numberOfTrailingZeros_67 rfl kc_2 (by decide) rfl ?_
            refine g_iload_n C dJ9_numberOfTrailingZeros_70 1 rfl ?_
            refine g_iconst C dJ9_numberOfTrailingZeros_71 kc_2 ?_
            refine g_iushr C dJ9_numberOfTrailingZeros_72 ?_
            refine vl_n hf (fun v13 hv13 hf => ?_)
            refine g_istore_n (i := 0) (lv' := [(0, .int v13), (1, .int (v10 + (2 : Int32)))]) C dJ9_numberOfTrailingZeros_73 rfl hv13 (by decide) rfl ?_
            refine g_iload_n C dJ9_numberOfTrailingZeros_74 1 rfl ?_
            refine g_iload_n C dJ9_numberOfTrailingZeros_75 0 rfl ?_
            refine g_iconst C dJ9_numberOfTrailingZeros_76 kc_1 ?_
            refine g_iushr C dJ9_numberOfTrailingZeros_77 ?_
            refine g_iadd C dJ9_numberOfTrailingZeros_78 ?_
            exact g_iret C E rfl (re_i hf) (re_s hf) ⟨Nat.zero_le _, Nat.zero_le _⟩ dJ9_numberOfTrailingZeros_79
        clear hj11
        refine g_icmp_le 62 C dJ9_numberOfTrailingZeros_52 rfl (fun c14 => ?_) (fun c14 => ?_)
        · replace hf := if_t c14 hf
          exact g_sub [0, 1] rfl (Hj11 _ _ hf)
        · replace hf := if_f c14 hf
          refine g_iinc (q := 1) (lv' := [(1, .int (v7 + (4 : Int32))), (0, .int v6)]) C dJ9_numberOfTrailingZeros_55 rfl kc_4 (by decide) rfl ?_
          refine g_iload_n C dJ9_numberOfTrailingZeros_58 1 rfl ?_
          refine g_iconst C dJ9_numberOfTrailingZeros_59 kc_4 ?_
          refine g_iushr C dJ9_numberOfTrailingZeros_60 ?_
          refine vl_n hf (fun v15 hv15 hf => ?_)
          refine g_istore_n (i := 0) (lv' := [(0, .int v15), (1, .int (v7 + (4 : Int32)))]) C dJ9_numberOfTrailingZeros_61 rfl hv15 (by decide) rfl ?_
          exact g_sub [0, 1] rfl (Hj11 _ _ hf)
      clear hj8
      refine g_icmp_le 49 C dJ9_numberOfTrailingZeros_38 rfl (fun c16 => ?_) (fun c16 => ?_)
      · replace hf := if_t c16 hf
        exact g_sub [0, 1] rfl (Hj8 _ _ hf)
      · replace hf := if_f c16 hf
        refine g_iinc (q := 1) (lv' := [(1, .int (v4 + (8 : Int32))), (0, .int v3)]) C dJ9_numberOfTrailingZeros_41 rfl kc_8 (by decide) rfl ?_
        refine g_iload_n C dJ9_numberOfTrailingZeros_44 1 rfl ?_
        refine g_bipush C dJ9_numberOfTrailingZeros_45 kb_8 ?_
        refine g_iushr C dJ9_numberOfTrailingZeros_47 ?_
        refine vl_n hf (fun v17 hv17 hf => ?_)
        refine g_istore_n (i := 0) (lv' := [(0, .int v17), (1, .int (v4 + (8 : Int32)))]) C dJ9_numberOfTrailingZeros_48 rfl hv17 (by decide) rfl ?_
        exact g_sub [0, 1] rfl (Hj8 _ _ hf)
    clear hj5
    refine g_icmp_le 34 C dJ9_numberOfTrailingZeros_23 rfl (fun c18 => ?_) (fun c18 => ?_)
    · replace hf := if_t c18 hf
      exact g_sub [1, 0] rfl (Hj5 _ _ hf)
    · replace hf := if_f c18 hf
      refine g_iinc (q := 0) (lv' := [(1, .int ((1 : Int32) + (16 : Int32))), (0, .int v1)]) C dJ9_numberOfTrailingZeros_26 rfl kc_16 (by decide) rfl ?_
      refine g_iload_n C dJ9_numberOfTrailingZeros_29 1 rfl ?_
      refine g_bipush C dJ9_numberOfTrailingZeros_30 kb_16 ?_
      refine g_iushr C dJ9_numberOfTrailingZeros_32 ?_
      refine vl_n hf (fun v19 hv19 hf => ?_)
      refine g_istore_n (i := 0) (lv' := [(0, .int v19), (1, .int ((1 : Int32) + (16 : Int32)))]) C dJ9_numberOfTrailingZeros_33 rfl hv19 (by decide) rfl ?_
      exact g_sub [0, 1] rfl (Hj5 _ _ hf)
  · replace hf := if_f c2 hf
    refine g_iload_n C dJ9_numberOfTrailingZeros_12 0 rfl ?_
    refine g_bipush C dJ9_numberOfTrailingZeros_13 kb_32 ?_
    refine g_iand C dJ9_numberOfTrailingZeros_15 ?_
    exact g_iret C E rfl (re_i hf) (re_s hf) ⟨Nat.zero_le _, Nat.zero_le _⟩ dJ9_numberOfTrailingZeros_16
