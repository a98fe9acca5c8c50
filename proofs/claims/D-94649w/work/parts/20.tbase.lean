/-! THE TWIN's world: codes of its arrays; facts of its fields, methods, constants -/
set_option maxRecDepth 100000
def tTb : Nat → Nat × Nat × Nat := fun k => match k with
  | 0 => (4, 0, 0)
  | 1 => (0, 1480, 0)
  | 2 => (0, 1480, 0)
  | 3 => (0, 1440, 0)
  | 4 => (0, 48, 0)
  | 5 => (0, 820, 0)
  | 6 => (0, 400, 0)
  | 7 => (0, 420, 0)
  | 8 => (0, 11, 0)
  | 9 => (0, 9, 0)
  | 10 => (0, 9, 0)
  | 11 => (0, 9, 0)
  | 12 => (0, 9, 0)
  | 13 => (0, 9, 0)
  | 14 => (0, 9, 0)
  | 15 => (0, 1809, 0)
  | 16 => (2, 60, 0)
  | 17 => (0, 512, 0)
  | _ => (0, 0, 0)
def tFd : Nat → List Nat := fun k => match k with
  | 0 => [2, 2, 2, 0, 0, 2, 2, 2, 2, 2, 0, 0, 0, 0, 0, 0, 0, 0, 0, 0, 0, 0, 2, 2, 0, 2, 2, 2, 2, 0, 0, 2, 2, 1, 1, 2]
  | _ => []
def tTgt : Nat → Nat → Nat := fun k j => match j with
  | 0 => 1
  | 1 => 2
  | 2 => 3
  | 5 => 4
  | 6 => 5
  | 7 => 6
  | 8 => 7
  | 9 => 8
  | 22 => 9
  | 23 => 10
  | 25 => 11
  | 26 => 12
  | 27 => 13
  | 28 => 14
  | 31 => 15
  | 32 => 16
  | 35 => 17
  | _ => 0
def tCfg : Cfg := (18, tTb, tFd, tTgt, [(RX3, TX3, 36)], [.int, .int, .long])
theorem oT0 : OO tCfg 0 0 := ⟨by decide, 0, rfl⟩
theorem aT1 : AO tCfg 1 0 1480 := ⟨by decide, 0, rfl⟩
theorem aT2 : AO tCfg 2 0 1480 := ⟨by decide, 0, rfl⟩
theorem aT3 : AO tCfg 3 0 1440 := ⟨by decide, 0, rfl⟩
theorem aT4 : AO tCfg 4 0 48 := ⟨by decide, 0, rfl⟩
theorem aT5 : AO tCfg 5 0 820 := ⟨by decide, 0, rfl⟩
theorem aT6 : AO tCfg 6 0 400 := ⟨by decide, 0, rfl⟩
theorem aT7 : AO tCfg 7 0 420 := ⟨by decide, 0, rfl⟩
theorem aT8 : AO tCfg 8 0 11 := ⟨by decide, 0, rfl⟩
theorem aT9 : AO tCfg 9 0 9 := ⟨by decide, 0, rfl⟩
theorem aT10 : AO tCfg 10 0 9 := ⟨by decide, 0, rfl⟩
theorem aT11 : AO tCfg 11 0 9 := ⟨by decide, 0, rfl⟩
theorem aT12 : AO tCfg 12 0 9 := ⟨by decide, 0, rfl⟩
theorem aT13 : AO tCfg 13 0 9 := ⟨by decide, 0, rfl⟩
theorem aT14 : AO tCfg 14 0 9 := ⟨by decide, 0, rfl⟩
theorem aT15 : AO tCfg 15 0 1809 := ⟨by decide, 0, rfl⟩
theorem aT16 : AO tCfg 16 2 60 := ⟨by decide, 0, rfl⟩
theorem aT17 : AO tCfg 17 0 512 := ⟨by decide, 0, rfl⟩
theorem fX3_7 : FO tCfg RX3 7 0 0 2 := ⟨RX3, TX3, 36, rfl, rfl, by decide, in_X3, q1025, trivial⟩
theorem fX3_13 : FO tCfg RX3 13 0 1 2 := ⟨RX3, TX3, 36, rfl, rfl, by decide, in_X3, q1026, trivial⟩
theorem fX3_16 : FO tCfg RX3 16 0 2 2 := ⟨RX3, TX3, 36, rfl, rfl, by decide, in_X3, q1027, trivial⟩
theorem fX3_19 : FO tCfg RX3 19 0 5 2 := ⟨RX3, TX3, 36, rfl, rfl, by decide, in_X3, q1030, trivial⟩
theorem fX3_22 : FO tCfg RX3 22 0 6 2 := ⟨RX3, TX3, 36, rfl, rfl, by decide, in_X3, q1031, trivial⟩
theorem fX3_25 : FO tCfg RX3 25 0 7 2 := ⟨RX3, TX3, 36, rfl, rfl, by decide, in_X3, q1032, trivial⟩
theorem fX3_28 : FO tCfg RX3 28 0 8 2 := ⟨RX3, TX3, 36, rfl, rfl, by decide, in_X3, q1033, trivial⟩
theorem fX3_31 : FO tCfg RX3 31 0 9 2 := ⟨RX3, TX3, 36, rfl, rfl, by decide, in_X3, q1034, trivial⟩
theorem fX3_34 : FO tCfg RX3 34 0 21 0 := ⟨RX3, TX3, 36, rfl, rfl, by decide, in_X3, q1046, trivial⟩
theorem pX3_34 : PO tCfg RX3 34 0 21 0 .int := ⟨RX3, TX3, 36, rfl, rfl, by decide, in_X3, q1046, trivial, rfl, rfl, tyX3, tyX3_ok, nmX3⟩
theorem fX3_38 : FO tCfg RX3 38 0 22 2 := ⟨RX3, TX3, 36, rfl, rfl, by decide, in_X3, q1047, trivial⟩
theorem fX3_41 : FO tCfg RX3 41 0 23 2 := ⟨RX3, TX3, 36, rfl, rfl, by decide, in_X3, q1048, trivial⟩
theorem fX3_44 : FO tCfg RX3 44 0 25 2 := ⟨RX3, TX3, 36, rfl, rfl, by decide, in_X3, q1050, trivial⟩
theorem fX3_47 : FO tCfg RX3 47 0 26 2 := ⟨RX3, TX3, 36, rfl, rfl, by decide, in_X3, q1051, trivial⟩
theorem fX3_50 : FO tCfg RX3 50 0 27 2 := ⟨RX3, TX3, 36, rfl, rfl, by decide, in_X3, q1052, trivial⟩
theorem fX3_53 : FO tCfg RX3 53 0 28 2 := ⟨RX3, TX3, 36, rfl, rfl, by decide, in_X3, q1053, trivial⟩
theorem fX3_56 : FO tCfg RX3 56 0 31 2 := ⟨RX3, TX3, 36, rfl, rfl, by decide, in_X3, q1056, trivial⟩
theorem fX3_59 : FO tCfg RX3 59 0 32 2 := ⟨RX3, TX3, 36, rfl, rfl, by decide, in_X3, q1057, trivial⟩
theorem fX3_63 : FO tCfg RX3 63 0 35 2 := ⟨RX3, TX3, 36, rfl, rfl, by decide, in_X3, q1060, trivial⟩
theorem fX3_70 : FO tCfg RX3 70 0 3 0 := ⟨RX3, TX3, 36, rfl, rfl, by decide, in_X3, q1028, trivial⟩
theorem pX3_70 : PO tCfg RX3 70 0 3 0 .int := ⟨RX3, TX3, 36, rfl, rfl, by decide, in_X3, q1028, trivial, rfl, rfl, tyX3, tyX3_ok, nmX3⟩
theorem fX3_75 : FO tCfg RX3 75 0 12 0 := ⟨RX3, TX3, 36, rfl, rfl, by decide, in_X3, q1037, trivial⟩
theorem pX3_75 : PO tCfg RX3 75 0 12 0 .int := ⟨RX3, TX3, 36, rfl, rfl, by decide, in_X3, q1037, trivial, rfl, rfl, tyX3, tyX3_ok, nmX3⟩
theorem fX3_78 : FO tCfg RX3 78 0 13 0 := ⟨RX3, TX3, 36, rfl, rfl, by decide, in_X3, q1038, trivial⟩
theorem pX3_78 : PO tCfg RX3 78 0 13 0 .int := ⟨RX3, TX3, 36, rfl, rfl, by decide, in_X3, q1038, trivial, rfl, rfl, tyX3, tyX3_ok, nmX3⟩
theorem fX3_81 : FO tCfg RX3 81 0 15 0 := ⟨RX3, TX3, 36, rfl, rfl, by decide, in_X3, q1040, trivial⟩
theorem pX3_81 : PO tCfg RX3 81 0 15 0 .int := ⟨RX3, TX3, 36, rfl, rfl, by decide, in_X3, q1040, trivial, rfl, rfl, tyX3, tyX3_ok, nmX3⟩
theorem fX3_135 : FO tCfg RX3 135 0 14 0 := ⟨RX3, TX3, 36, rfl, rfl, by decide, in_X3, q1039, trivial⟩
theorem pX3_135 : PO tCfg RX3 135 0 14 0 .int := ⟨RX3, TX3, 36, rfl, rfl, by decide, in_X3, q1039, trivial, rfl, rfl, tyX3, tyX3_ok, nmX3⟩
theorem fX3_148 : FO tCfg RX3 148 0 16 0 := ⟨RX3, TX3, 36, rfl, rfl, by decide, in_X3, q1041, trivial⟩
theorem pX3_148 : PO tCfg RX3 148 0 16 0 .int := ⟨RX3, TX3, 36, rfl, rfl, by decide, in_X3, q1041, trivial, rfl, rfl, tyX3, tyX3_ok, nmX3⟩
theorem fX3_151 : FO tCfg RX3 151 0 17 0 := ⟨RX3, TX3, 36, rfl, rfl, by decide, in_X3, q1042, trivial⟩
theorem pX3_151 : PO tCfg RX3 151 0 17 0 .int := ⟨RX3, TX3, 36, rfl, rfl, by decide, in_X3, q1042, trivial, rfl, rfl, tyX3, tyX3_ok, nmX3⟩
theorem fX3_154 : FO tCfg RX3 154 0 18 0 := ⟨RX3, TX3, 36, rfl, rfl, by decide, in_X3, q1043, trivial⟩
theorem pX3_154 : PO tCfg RX3 154 0 18 0 .int := ⟨RX3, TX3, 36, rfl, rfl, by decide, in_X3, q1043, trivial, rfl, rfl, tyX3, tyX3_ok, nmX3⟩
theorem fX3_163 : FO tCfg RX3 163 0 11 0 := ⟨RX3, TX3, 36, rfl, rfl, by decide, in_X3, q1036, trivial⟩
theorem pX3_163 : PO tCfg RX3 163 0 11 0 .int := ⟨RX3, TX3, 36, rfl, rfl, by decide, in_X3, q1036, trivial, rfl, rfl, tyX3, tyX3_ok, nmX3⟩
theorem fX3_166 : FO tCfg RX3 166 0 20 0 := ⟨RX3, TX3, 36, rfl, rfl, by decide, in_X3, q1045, trivial⟩
theorem pX3_166 : PO tCfg RX3 166 0 20 0 .int := ⟨RX3, TX3, 36, rfl, rfl, by decide, in_X3, q1045, trivial, rfl, rfl, tyX3, tyX3_ok, nmX3⟩
theorem fX3_197 : FO tCfg RX3 197 0 10 0 := ⟨RX3, TX3, 36, rfl, rfl, by decide, in_X3, q1035, trivial⟩
theorem pX3_197 : PO tCfg RX3 197 0 10 0 .int := ⟨RX3, TX3, 36, rfl, rfl, by decide, in_X3, q1035, trivial, rfl, rfl, tyX3, tyX3_ok, nmX3⟩
theorem fX3_203 : FO tCfg RX3 203 0 19 0 := ⟨RX3, TX3, 36, rfl, rfl, by decide, in_X3, q1044, trivial⟩
theorem pX3_203 : PO tCfg RX3 203 0 19 0 .int := ⟨RX3, TX3, 36, rfl, rfl, by decide, in_X3, q1044, trivial, rfl, rfl, tyX3, tyX3_ok, nmX3⟩
theorem fX3_247 : FO tCfg RX3 247 0 24 0 := ⟨RX3, TX3, 36, rfl, rfl, by decide, in_X3, q1049, trivial⟩
theorem pX3_247 : PO tCfg RX3 247 0 24 0 .int := ⟨RX3, TX3, 36, rfl, rfl, by decide, in_X3, q1049, trivial, rfl, rfl, tyX3, tyX3_ok, nmX3⟩
theorem fX3_276 : FO tCfg RX3 276 0 30 0 := ⟨RX3, TX3, 36, rfl, rfl, by decide, in_X3, q1055, trivial⟩
theorem pX3_276 : PO tCfg RX3 276 0 30 0 .int := ⟨RX3, TX3, 36, rfl, rfl, by decide, in_X3, q1055, trivial, rfl, rfl, tyX3, tyX3_ok, nmX3⟩
theorem fX3_282 : FO tCfg RX3 282 0 29 0 := ⟨RX3, TX3, 36, rfl, rfl, by decide, in_X3, q1054, trivial⟩
theorem pX3_282 : PO tCfg RX3 282 0 29 0 .int := ⟨RX3, TX3, 36, rfl, rfl, by decide, in_X3, q1054, trivial, rfl, rfl, tyX3, tyX3_ok, nmX3⟩
theorem fX3_306 : FO tCfg RX3 306 0 33 1 := ⟨RX3, TX3, 36, rfl, rfl, by decide, in_X3, q1058, trivial⟩
theorem pX3_306 : PO tCfg RX3 306 0 33 1 .long := ⟨RX3, TX3, 36, rfl, rfl, by decide, in_X3, q1058, trivial, rfl, rfl, tyX3, tyX3_ok, nmX3⟩
theorem fX3_310 : FO tCfg RX3 310 0 34 1 := ⟨RX3, TX3, 36, rfl, rfl, by decide, in_X3, q1059, trivial⟩
theorem pX3_310 : PO tCfg RX3 310 0 34 1 .long := ⟨RX3, TX3, 36, rfl, rfl, by decide, in_X3, q1059, trivial, rfl, rfl, tyX3, tyX3_ok, nmX3⟩
theorem fX3_319 : FO tCfg RX3 319 0 4 0 := ⟨RX3, TX3, 36, rfl, rfl, by decide, in_X3, q1029, trivial⟩
theorem pX3_319 : PO tCfg RX3 319 0 4 0 .boolean := ⟨RX3, TX3, 36, rfl, rfl, by decide, in_X3, q1029, trivial, rfl, rfl, tyX3, tyX3_ok, nmX3⟩
theorem pn_X3 : plainName RX3 = true := by decide +kernel
theorem mdX3_init : yX3_init.cls = RX3 ∧ yX3_init.cls ≠ "java/lang/invoke/MethodHandle" ∧ yX3_init.cls ≠ "java/lang/invoke/VarHandle" ∧ (parseMethodDescriptor yX3_init.desc).map (fun d => d.parameters.length) = some 0 := by decide +kernel
theorem mdX3_state : yX3_state.cls = RX3 ∧ yX3_state.cls ≠ "java/lang/invoke/MethodHandle" ∧ yX3_state.cls ≠ "java/lang/invoke/VarHandle" ∧ (parseMethodDescriptor yX3_state.desc).map (fun d => d.parameters.length) = some 1 := by decide +kernel
theorem mdX3_feed : yX3_feed.cls = RX3 ∧ yX3_feed.cls ≠ "java/lang/invoke/MethodHandle" ∧ yX3_feed.cls ≠ "java/lang/invoke/VarHandle" ∧ (parseMethodDescriptor yX3_feed.desc).map (fun d => d.parameters.length) = some 5 := by decide +kernel
theorem mdX3_end : yX3_end.cls = RX3 ∧ yX3_end.cls ≠ "java/lang/invoke/MethodHandle" ∧ yX3_end.cls ≠ "java/lang/invoke/VarHandle" ∧ (parseMethodDescriptor yX3_end.desc).map (fun d => d.parameters.length) = some 1 := by decide +kernel
theorem msX3_isIn : yX3_isIn.cls ≠ "java/lang/invoke/MethodHandle" ∧ yX3_isIn.cls ≠ "java/lang/invoke/VarHandle" ∧ (parseMethodDescriptor yX3_isIn.desc).map (fun d => d.parameters.length) = some 3 := by decide +kernel
theorem mdX3_text : yX3_text.cls = RX3 ∧ yX3_text.cls ≠ "java/lang/invoke/MethodHandle" ∧ yX3_text.cls ≠ "java/lang/invoke/VarHandle" ∧ (parseMethodDescriptor yX3_text.desc).map (fun d => d.parameters.length) = some 0 := by decide +kernel
theorem mdX3_next0 : yX3_next0.cls = RX3 ∧ yX3_next0.cls ≠ "java/lang/invoke/MethodHandle" ∧ yX3_next0.cls ≠ "java/lang/invoke/VarHandle" ∧ (parseMethodDescriptor yX3_next0.desc).map (fun d => d.parameters.length) = some 0 := by decide +kernel
theorem mdX3_see : yX3_see.cls = RX3 ∧ yX3_see.cls ≠ "java/lang/invoke/MethodHandle" ∧ yX3_see.cls ≠ "java/lang/invoke/VarHandle" ∧ (parseMethodDescriptor yX3_see.desc).map (fun d => d.parameters.length) = some 1 := by decide +kernel
theorem msX3_isLetter : yX3_isLetter.cls ≠ "java/lang/invoke/MethodHandle" ∧ yX3_isLetter.cls ≠ "java/lang/invoke/VarHandle" ∧ (parseMethodDescriptor yX3_isLetter.desc).map (fun d => d.parameters.length) = some 1 := by decide +kernel
theorem mdX3_word : yX3_word.cls = RX3 ∧ yX3_word.cls ≠ "java/lang/invoke/MethodHandle" ∧ yX3_word.cls ≠ "java/lang/invoke/VarHandle" ∧ (parseMethodDescriptor yX3_word.desc).map (fun d => d.parameters.length) = some 0 := by decide +kernel
theorem mdX3_is : yX3_is.cls = RX3 ∧ yX3_is.cls ≠ "java/lang/invoke/MethodHandle" ∧ yX3_is.cls ≠ "java/lang/invoke/VarHandle" ∧ (parseMethodDescriptor yX3_is.desc).map (fun d => d.parameters.length) = some 1 := by decide +kernel
theorem mdX3_nameWord : yX3_nameWord.cls = RX3 ∧ yX3_nameWord.cls ≠ "java/lang/invoke/MethodHandle" ∧ yX3_nameWord.cls ≠ "java/lang/invoke/VarHandle" ∧ (parseMethodDescriptor yX3_nameWord.desc).map (fun d => d.parameters.length) = some 0 := by decide +kernel
theorem msX3_isDigit : yX3_isDigit.cls ≠ "java/lang/invoke/MethodHandle" ∧ yX3_isDigit.cls ≠ "java/lang/invoke/VarHandle" ∧ (parseMethodDescriptor yX3_isDigit.desc).map (fun d => d.parameters.length) = some 1 := by decide +kernel
theorem mdX3_aLine : yX3_aLine.cls = RX3 ∧ yX3_aLine.cls ≠ "java/lang/invoke/MethodHandle" ∧ yX3_aLine.cls ≠ "java/lang/invoke/VarHandle" ∧ (parseMethodDescriptor yX3_aLine.desc).map (fun d => d.parameters.length) = some 0 := by decide +kernel
theorem mdX3_bad : yX3_bad.cls = RX3 ∧ yX3_bad.cls ≠ "java/lang/invoke/MethodHandle" ∧ yX3_bad.cls ≠ "java/lang/invoke/VarHandle" ∧ (parseMethodDescriptor yX3_bad.desc).map (fun d => d.parameters.length) = some 1 := by decide +kernel
theorem mdX3_sumUp : yX3_sumUp.cls = RX3 ∧ yX3_sumUp.cls ≠ "java/lang/invoke/MethodHandle" ∧ yX3_sumUp.cls ≠ "java/lang/invoke/VarHandle" ∧ (parseMethodDescriptor yX3_sumUp.desc).map (fun d => d.parameters.length) = some 0 := by decide +kernel
theorem mdX3_product : yX3_product.cls = RX3 ∧ yX3_product.cls ≠ "java/lang/invoke/MethodHandle" ∧ yX3_product.cls ≠ "java/lang/invoke/VarHandle" ∧ (parseMethodDescriptor yX3_product.desc).map (fun d => d.parameters.length) = some 0 := by decide +kernel
theorem mdX3_unit : yX3_unit.cls = RX3 ∧ yX3_unit.cls ≠ "java/lang/invoke/MethodHandle" ∧ yX3_unit.cls ≠ "java/lang/invoke/VarHandle" ∧ (parseMethodDescriptor yX3_unit.desc).map (fun d => d.parameters.length) = some 0 := by decide +kernel
theorem mdX3_lay : yX3_lay.cls = RX3 ∧ yX3_lay.cls ≠ "java/lang/invoke/MethodHandle" ∧ yX3_lay.cls ≠ "java/lang/invoke/VarHandle" ∧ (parseMethodDescriptor yX3_lay.desc).map (fun d => d.parameters.length) = some 2 := by decide +kernel
theorem mdX3_any : yX3_any.cls = RX3 ∧ yX3_any.cls ≠ "java/lang/invoke/MethodHandle" ∧ yX3_any.cls ≠ "java/lang/invoke/VarHandle" ∧ (parseMethodDescriptor yX3_any.desc).map (fun d => d.parameters.length) = some 0 := by decide +kernel
theorem mdX3_every : yX3_every.cls = RX3 ∧ yX3_every.cls ≠ "java/lang/invoke/MethodHandle" ∧ yX3_every.cls ≠ "java/lang/invoke/VarHandle" ∧ (parseMethodDescriptor yX3_every.desc).map (fun d => d.parameters.length) = some 0 := by decide +kernel
theorem mdX3_oneTest : yX3_oneTest.cls = RX3 ∧ yX3_oneTest.cls ≠ "java/lang/invoke/MethodHandle" ∧ yX3_oneTest.cls ≠ "java/lang/invoke/VarHandle" ∧ (parseMethodDescriptor yX3_oneTest.desc).map (fun d => d.parameters.length) = some 0 := by decide +kernel
theorem mdX3_opens : yX3_opens.cls = RX3 ∧ yX3_opens.cls ≠ "java/lang/invoke/MethodHandle" ∧ yX3_opens.cls ≠ "java/lang/invoke/VarHandle" ∧ (parseMethodDescriptor yX3_opens.desc).map (fun d => d.parameters.length) = some 0 := by decide +kernel
theorem mdX3_need : yX3_need.cls = RX3 ∧ yX3_need.cls ≠ "java/lang/invoke/MethodHandle" ∧ yX3_need.cls ≠ "java/lang/invoke/VarHandle" ∧ (parseMethodDescriptor yX3_need.desc).map (fun d => d.parameters.length) = some 1 := by decide +kernel
theorem mdX3_fault : yX3_fault.cls = RX3 ∧ yX3_fault.cls ≠ "java/lang/invoke/MethodHandle" ∧ yX3_fault.cls ≠ "java/lang/invoke/VarHandle" ∧ (parseMethodDescriptor yX3_fault.desc).map (fun d => d.parameters.length) = some 1 := by decide +kernel
theorem mdX3_house : yX3_house.cls = RX3 ∧ yX3_house.cls ≠ "java/lang/invoke/MethodHandle" ∧ yX3_house.cls ≠ "java/lang/invoke/VarHandle" ∧ (parseMethodDescriptor yX3_house.desc).map (fun d => d.parameters.length) = some 3 := by decide +kernel
theorem mdX3_takesRow : yX3_takesRow.cls = RX3 ∧ yX3_takesRow.cls ≠ "java/lang/invoke/MethodHandle" ∧ yX3_takesRow.cls ≠ "java/lang/invoke/VarHandle" ∧ (parseMethodDescriptor yX3_takesRow.desc).map (fun d => d.parameters.length) = some 0 := by decide +kernel
theorem mdX3_forgets : yX3_forgets.cls = RX3 ∧ yX3_forgets.cls ≠ "java/lang/invoke/MethodHandle" ∧ yX3_forgets.cls ≠ "java/lang/invoke/VarHandle" ∧ (parseMethodDescriptor yX3_forgets.desc).map (fun d => d.parameters.length) = some 0 := by decide +kernel
theorem mdX3_give : yX3_give.cls = RX3 ∧ yX3_give.cls ≠ "java/lang/invoke/MethodHandle" ∧ yX3_give.cls ≠ "java/lang/invoke/VarHandle" ∧ (parseMethodDescriptor yX3_give.desc).map (fun d => d.parameters.length) = some 2 := by decide +kernel
theorem mdX3_isHouse : yX3_isHouse.cls = RX3 ∧ yX3_isHouse.cls ≠ "java/lang/invoke/MethodHandle" ∧ yX3_isHouse.cls ≠ "java/lang/invoke/VarHandle" ∧ (parseMethodDescriptor yX3_isHouse.desc).map (fun d => d.parameters.length) = some 1 := by decide +kernel
theorem mdX3_own : yX3_own.cls = RX3 ∧ yX3_own.cls ≠ "java/lang/invoke/MethodHandle" ∧ yX3_own.cls ≠ "java/lang/invoke/VarHandle" ∧ (parseMethodDescriptor yX3_own.desc).map (fun d => d.parameters.length) = some 2 := by decide +kernel
theorem mdX3_adds : yX3_adds.cls = RX3 ∧ yX3_adds.cls ≠ "java/lang/invoke/MethodHandle" ∧ yX3_adds.cls ≠ "java/lang/invoke/VarHandle" ∧ (parseMethodDescriptor yX3_adds.desc).map (fun d => d.parameters.length) = some 3 := by decide +kernel
theorem mdX3_set : yX3_set.cls = RX3 ∧ yX3_set.cls ≠ "java/lang/invoke/MethodHandle" ∧ yX3_set.cls ≠ "java/lang/invoke/VarHandle" ∧ (parseMethodDescriptor yX3_set.desc).map (fun d => d.parameters.length) = some 2 := by decide +kernel
theorem mdX3_order : yX3_order.cls = RX3 ∧ yX3_order.cls ≠ "java/lang/invoke/MethodHandle" ∧ yX3_order.cls ≠ "java/lang/invoke/VarHandle" ∧ (parseMethodDescriptor yX3_order.desc).map (fun d => d.parameters.length) = some 1 := by decide +kernel
theorem mdX3_laysOrder : yX3_laysOrder.cls = RX3 ∧ yX3_laysOrder.cls ≠ "java/lang/invoke/MethodHandle" ∧ yX3_laysOrder.cls ≠ "java/lang/invoke/VarHandle" ∧ (parseMethodDescriptor yX3_laysOrder.desc).map (fun d => d.parameters.length) = some 1 := by decide +kernel
theorem mdX3_worth : yX3_worth.cls = RX3 ∧ yX3_worth.cls ≠ "java/lang/invoke/MethodHandle" ∧ yX3_worth.cls ≠ "java/lang/invoke/VarHandle" ∧ (parseMethodDescriptor yX3_worth.desc).map (fun d => d.parameters.length) = some 1 := by decide +kernel
theorem mdX3_net : yX3_net.cls = RX3 ∧ yX3_net.cls ≠ "java/lang/invoke/MethodHandle" ∧ yX3_net.cls ≠ "java/lang/invoke/VarHandle" ∧ (parseMethodDescriptor yX3_net.desc).map (fun d => d.parameters.length) = some 1 := by decide +kernel
theorem mdX3_debt : yX3_debt.cls = RX3 ∧ yX3_debt.cls ≠ "java/lang/invoke/MethodHandle" ∧ yX3_debt.cls ≠ "java/lang/invoke/VarHandle" ∧ (parseMethodDescriptor yX3_debt.desc).map (fun d => d.parameters.length) = some 2 := by decide +kernel
theorem mdX3_comesTo : yX3_comesTo.cls = RX3 ∧ yX3_comesTo.cls ≠ "java/lang/invoke/MethodHandle" ∧ yX3_comesTo.cls ≠ "java/lang/invoke/VarHandle" ∧ (parseMethodDescriptor yX3_comesTo.desc).map (fun d => d.parameters.length) = some 2 := by decide +kernel
theorem msX3_both : yX3_both.cls ≠ "java/lang/invoke/MethodHandle" ∧ yX3_both.cls ≠ "java/lang/invoke/VarHandle" ∧ (parseMethodDescriptor yX3_both.desc).map (fun d => d.parameters.length) = some 3 := by decide +kernel
theorem mdX3_days : yX3_days.cls = RX3 ∧ yX3_days.cls ≠ "java/lang/invoke/MethodHandle" ∧ yX3_days.cls ≠ "java/lang/invoke/VarHandle" ∧ (parseMethodDescriptor yX3_days.desc).map (fun d => d.parameters.length) = some 1 := by decide +kernel
theorem mdX3_aDay : yX3_aDay.cls = RX3 ∧ yX3_aDay.cls ≠ "java/lang/invoke/MethodHandle" ∧ yX3_aDay.cls ≠ "java/lang/invoke/VarHandle" ∧ (parseMethodDescriptor yX3_aDay.desc).map (fun d => d.parameters.length) = some 0 := by decide +kernel
theorem mdX3_draw : yX3_draw.cls = RX3 ∧ yX3_draw.cls ≠ "java/lang/invoke/MethodHandle" ∧ yX3_draw.cls ≠ "java/lang/invoke/VarHandle" ∧ (parseMethodDescriptor yX3_draw.desc).map (fun d => d.parameters.length) = some 1 := by decide +kernel
theorem mdX3_loaf : yX3_loaf.cls = RX3 ∧ yX3_loaf.cls ≠ "java/lang/invoke/MethodHandle" ∧ yX3_loaf.cls ≠ "java/lang/invoke/VarHandle" ∧ (parseMethodDescriptor yX3_loaf.desc).map (fun d => d.parameters.length) = some 1 := by decide +kernel
theorem mdX3_heats : yX3_heats.cls = RX3 ∧ yX3_heats.cls ≠ "java/lang/invoke/MethodHandle" ∧ yX3_heats.cls ≠ "java/lang/invoke/VarHandle" ∧ (parseMethodDescriptor yX3_heats.desc).map (fun d => d.parameters.length) = some 1 := by decide +kernel
theorem mdX3_undo : yX3_undo.cls = RX3 ∧ yX3_undo.cls ≠ "java/lang/invoke/MethodHandle" ∧ yX3_undo.cls ≠ "java/lang/invoke/VarHandle" ∧ (parseMethodDescriptor yX3_undo.desc).map (fun d => d.parameters.length) = some 0 := by decide +kernel
theorem mdX3_of : yX3_of.cls = RX3 ∧ yX3_of.cls ≠ "java/lang/invoke/MethodHandle" ∧ yX3_of.cls ≠ "java/lang/invoke/VarHandle" ∧ (parseMethodDescriptor yX3_of.desc).map (fun d => d.parameters.length) = some 2 := by decide +kernel
theorem mdX3_book : yX3_book.cls = RX3 ∧ yX3_book.cls ≠ "java/lang/invoke/MethodHandle" ∧ yX3_book.cls ≠ "java/lang/invoke/VarHandle" ∧ (parseMethodDescriptor yX3_book.desc).map (fun d => d.parameters.length) = some 1 := by decide +kernel
theorem mdX3_gain : yX3_gain.cls = RX3 ∧ yX3_gain.cls ≠ "java/lang/invoke/MethodHandle" ∧ yX3_gain.cls ≠ "java/lang/invoke/VarHandle" ∧ (parseMethodDescriptor yX3_gain.desc).map (fun d => d.parameters.length) = some 1 := by decide +kernel
theorem mdX3_bakes : yX3_bakes.cls = RX3 ∧ yX3_bakes.cls ≠ "java/lang/invoke/MethodHandle" ∧ yX3_bakes.cls ≠ "java/lang/invoke/VarHandle" ∧ (parseMethodDescriptor yX3_bakes.desc).map (fun d => d.parameters.length) = some 0 := by decide +kernel
theorem mdX3_gainAt : yX3_gainAt.cls = RX3 ∧ yX3_gainAt.cls ≠ "java/lang/invoke/MethodHandle" ∧ yX3_gainAt.cls ≠ "java/lang/invoke/VarHandle" ∧ (parseMethodDescriptor yX3_gainAt.desc).map (fun d => d.parameters.length) = some 1 := by decide +kernel
theorem mdX3_orders : yX3_orders.cls = RX3 ∧ yX3_orders.cls ≠ "java/lang/invoke/MethodHandle" ∧ yX3_orders.cls ≠ "java/lang/invoke/VarHandle" ∧ (parseMethodDescriptor yX3_orders.desc).map (fun d => d.parameters.length) = some 1 := by decide +kernel
theorem mdX3_isTold : yX3_isTold.cls = RX3 ∧ yX3_isTold.cls ≠ "java/lang/invoke/MethodHandle" ∧ yX3_isTold.cls ≠ "java/lang/invoke/VarHandle" ∧ (parseMethodDescriptor yX3_isTold.desc).map (fun d => d.parameters.length) = some 1 := by decide +kernel
theorem mdX3_goesThrough : yX3_goesThrough.cls = RX3 ∧ yX3_goesThrough.cls ≠ "java/lang/invoke/MethodHandle" ∧ yX3_goesThrough.cls ≠ "java/lang/invoke/VarHandle" ∧ (parseMethodDescriptor yX3_goesThrough.desc).map (fun d => d.parameters.length) = some 2 := by decide +kernel
theorem mdX3_firstChange : yX3_firstChange.cls = RX3 ∧ yX3_firstChange.cls ≠ "java/lang/invoke/MethodHandle" ∧ yX3_firstChange.cls ≠ "java/lang/invoke/VarHandle" ∧ (parseMethodDescriptor yX3_firstChange.desc).map (fun d => d.parameters.length) = some 0 := by decide +kernel
theorem mdX3_wouldChange : yX3_wouldChange.cls = RX3 ∧ yX3_wouldChange.cls ≠ "java/lang/invoke/MethodHandle" ∧ yX3_wouldChange.cls ≠ "java/lang/invoke/VarHandle" ∧ (parseMethodDescriptor yX3_wouldChange.desc).map (fun d => d.parameters.length) = some 1 := by decide +kernel
theorem mdX3_exchanges : yX3_exchanges.cls = RX3 ∧ yX3_exchanges.cls ≠ "java/lang/invoke/MethodHandle" ∧ yX3_exchanges.cls ≠ "java/lang/invoke/VarHandle" ∧ (parseMethodDescriptor yX3_exchanges.desc).map (fun d => d.parameters.length) = some 1 := by decide +kernel
theorem mdX3_least : yX3_least.cls = RX3 ∧ yX3_least.cls ≠ "java/lang/invoke/MethodHandle" ∧ yX3_least.cls ≠ "java/lang/invoke/VarHandle" ∧ (parseMethodDescriptor yX3_least.desc).map (fun d => d.parameters.length) = some 1 := by decide +kernel
theorem mdX3_round : yX3_round.cls = RX3 ∧ yX3_round.cls ≠ "java/lang/invoke/MethodHandle" ∧ yX3_round.cls ≠ "java/lang/invoke/VarHandle" ∧ (parseMethodDescriptor yX3_round.desc).map (fun d => d.parameters.length) = some 1 := by decide +kernel
theorem mdX3_isRow : yX3_isRow.cls = RX3 ∧ yX3_isRow.cls ≠ "java/lang/invoke/MethodHandle" ∧ yX3_isRow.cls ≠ "java/lang/invoke/VarHandle" ∧ (parseMethodDescriptor yX3_isRow.desc).map (fun d => d.parameters.length) = some 1 := by decide +kernel
theorem mdX3_leaven : yX3_leaven.cls = RX3 ∧ yX3_leaven.cls ≠ "java/lang/invoke/MethodHandle" ∧ yX3_leaven.cls ≠ "java/lang/invoke/VarHandle" ∧ (parseMethodDescriptor yX3_leaven.desc).map (fun d => d.parameters.length) = some 2 := by decide +kernel
theorem mdX3_isLeaven : yX3_isLeaven.cls = RX3 ∧ yX3_isLeaven.cls ≠ "java/lang/invoke/MethodHandle" ∧ yX3_isLeaven.cls ≠ "java/lang/invoke/VarHandle" ∧ (parseMethodDescriptor yX3_isLeaven.desc).map (fun d => d.parameters.length) = some 1 := by decide +kernel
theorem mdX3_ofLeaven : yX3_ofLeaven.cls = RX3 ∧ yX3_ofLeaven.cls ≠ "java/lang/invoke/MethodHandle" ∧ yX3_ofLeaven.cls ≠ "java/lang/invoke/VarHandle" ∧ (parseMethodDescriptor yX3_ofLeaven.desc).map (fun d => d.parameters.length) = some 2 := by decide +kernel
theorem mdX3_part : yX3_part.cls = RX3 ∧ yX3_part.cls ≠ "java/lang/invoke/MethodHandle" ∧ yX3_part.cls ≠ "java/lang/invoke/VarHandle" ∧ (parseMethodDescriptor yX3_part.desc).map (fun d => d.parameters.length) = some 3 := by decide +kernel
theorem mdX3_laysParts : yX3_laysParts.cls = RX3 ∧ yX3_laysParts.cls ≠ "java/lang/invoke/MethodHandle" ∧ yX3_laysParts.cls ≠ "java/lang/invoke/VarHandle" ∧ (parseMethodDescriptor yX3_laysParts.desc).map (fun d => d.parameters.length) = some 1 := by decide +kernel
theorem mdX3_led : yX3_led.cls = RX3 ∧ yX3_led.cls ≠ "java/lang/invoke/MethodHandle" ∧ yX3_led.cls ≠ "java/lang/invoke/VarHandle" ∧ (parseMethodDescriptor yX3_led.desc).map (fun d => d.parameters.length) = some 2 := by decide +kernel
theorem mdX3_isLed : yX3_isLed.cls = RX3 ∧ yX3_isLed.cls ≠ "java/lang/invoke/MethodHandle" ∧ yX3_isLed.cls ≠ "java/lang/invoke/VarHandle" ∧ (parseMethodDescriptor yX3_isLed.desc).map (fun d => d.parameters.length) = some 2 := by decide +kernel
theorem mdX3_lent : yX3_lent.cls = RX3 ∧ yX3_lent.cls ≠ "java/lang/invoke/MethodHandle" ∧ yX3_lent.cls ≠ "java/lang/invoke/VarHandle" ∧ (parseMethodDescriptor yX3_lent.desc).map (fun d => d.parameters.length) = some 2 := by decide +kernel
theorem mdX3_rise : yX3_rise.cls = RX3 ∧ yX3_rise.cls ≠ "java/lang/invoke/MethodHandle" ∧ yX3_rise.cls ≠ "java/lang/invoke/VarHandle" ∧ (parseMethodDescriptor yX3_rise.desc).map (fun d => d.parameters.length) = some 3 := by decide +kernel
theorem mdX3_odds : yX3_odds.cls = RX3 ∧ yX3_odds.cls ≠ "java/lang/invoke/MethodHandle" ∧ yX3_odds.cls ≠ "java/lang/invoke/VarHandle" ∧ (parseMethodDescriptor yX3_odds.desc).map (fun d => d.parameters.length) = some 2 := by decide +kernel
theorem mdX3_laysOdds : yX3_laysOdds.cls = RX3 ∧ yX3_laysOdds.cls ≠ "java/lang/invoke/MethodHandle" ∧ yX3_laysOdds.cls ≠ "java/lang/invoke/VarHandle" ∧ (parseMethodDescriptor yX3_laysOdds.desc).map (fun d => d.parameters.length) = some 2 := by decide +kernel
theorem mdX3_whose : yX3_whose.cls = RX3 ∧ yX3_whose.cls ≠ "java/lang/invoke/MethodHandle" ∧ yX3_whose.cls ≠ "java/lang/invoke/VarHandle" ∧ (parseMethodDescriptor yX3_whose.desc).map (fun d => d.parameters.length) = some 1 := by decide +kernel
theorem mdX3_owe : yX3_owe.cls = RX3 ∧ yX3_owe.cls ≠ "java/lang/invoke/MethodHandle" ∧ yX3_owe.cls ≠ "java/lang/invoke/VarHandle" ∧ (parseMethodDescriptor yX3_owe.desc).map (fun d => d.parameters.length) = some 3 := by decide +kernel
theorem mdX3_payments : yX3_payments.cls = RX3 ∧ yX3_payments.cls ≠ "java/lang/invoke/MethodHandle" ∧ yX3_payments.cls ≠ "java/lang/invoke/VarHandle" ∧ (parseMethodDescriptor yX3_payments.desc).map (fun d => d.parameters.length) = some 0 := by decide +kernel
theorem mdX3_image : yX3_image.cls = RX3 ∧ yX3_image.cls ≠ "java/lang/invoke/MethodHandle" ∧ yX3_image.cls ≠ "java/lang/invoke/VarHandle" ∧ (parseMethodDescriptor yX3_image.desc).map (fun d => d.parameters.length) = some 1 := by decide +kernel
theorem mdX3_look : yX3_look.cls = RX3 ∧ yX3_look.cls ≠ "java/lang/invoke/MethodHandle" ∧ yX3_look.cls ≠ "java/lang/invoke/VarHandle" ∧ (parseMethodDescriptor yX3_look.desc).map (fun d => d.parameters.length) = some 1 := by decide +kernel
theorem kb_10 : (Int8.ofInt 10).toInt32 = (10 : Int32) := by decide
theorem kb_100 : (Int8.ofInt 100).toInt32 = (100 : Int32) := by decide
theorem kb_104 : (Int8.ofInt 104).toInt32 = (104 : Int32) := by decide
theorem kb_12 : (Int8.ofInt 12).toInt32 = (12 : Int32) := by decide
theorem kb_122 : (Int8.ofInt 122).toInt32 = (122 : Int32) := by decide
theorem kb_13 : (Int8.ofInt 13).toInt32 = (13 : Int32) := by decide
theorem kb_14 : (Int8.ofInt 14).toInt32 = (14 : Int32) := by decide
theorem kb_15 : (Int8.ofInt 15).toInt32 = (15 : Int32) := by decide
theorem kb_17 : (Int8.ofInt 17).toInt32 = (17 : Int32) := by decide
theorem kb_18 : (Int8.ofInt 18).toInt32 = (18 : Int32) := by decide
theorem kb_19 : (Int8.ofInt 19).toInt32 = (19 : Int32) := by decide
theorem kb_20 : (Int8.ofInt 20).toInt32 = (20 : Int32) := by decide
theorem kb_21 : (Int8.ofInt 21).toInt32 = (21 : Int32) := by decide
theorem kb_22 : (Int8.ofInt 22).toInt32 = (22 : Int32) := by decide
theorem kb_24 : (Int8.ofInt 24).toInt32 = (24 : Int32) := by decide
theorem kb_30 : (Int8.ofInt 30).toInt32 = (30 : Int32) := by decide
theorem kb_40 : (Int8.ofInt 40).toInt32 = (40 : Int32) := by decide
theorem kb_41 : (Int8.ofInt 41).toInt32 = (41 : Int32) := by decide
theorem kb_42 : (Int8.ofInt 42).toInt32 = (42 : Int32) := by decide
theorem kb_43 : (Int8.ofInt 43).toInt32 = (43 : Int32) := by decide
theorem kb_44 : (Int8.ofInt 44).toInt32 = (44 : Int32) := by decide
theorem kb_45 : (Int8.ofInt 45).toInt32 = (45 : Int32) := by decide
theorem kb_46 : (Int8.ofInt 46).toInt32 = (46 : Int32) := by decide
theorem kb_47 : (Int8.ofInt 47).toInt32 = (47 : Int32) := by decide
theorem kb_48 : (Int8.ofInt 48).toInt32 = (48 : Int32) := by decide
theorem kb_49 : (Int8.ofInt 49).toInt32 = (49 : Int32) := by decide
theorem kb_50 : (Int8.ofInt 50).toInt32 = (50 : Int32) := by decide
theorem kb_57 : (Int8.ofInt 57).toInt32 = (57 : Int32) := by decide
theorem kb_59 : (Int8.ofInt 59).toInt32 = (59 : Int32) := by decide
theorem kb_6 : (Int8.ofInt 6).toInt32 = (6 : Int32) := by decide
theorem kb_60 : (Int8.ofInt 60).toInt32 = (60 : Int32) := by decide
theorem kb_61 : (Int8.ofInt 61).toInt32 = (61 : Int32) := by decide
theorem kb_62 : (Int8.ofInt 62).toInt32 = (62 : Int32) := by decide
theorem kb_65 : (Int8.ofInt 65).toInt32 = (65 : Int32) := by decide
theorem kb_7 : (Int8.ofInt 7).toInt32 = (7 : Int32) := by decide
theorem kb_9 : (Int8.ofInt 9).toInt32 = (9 : Int32) := by decide
theorem kb_90 : (Int8.ofInt 90).toInt32 = (90 : Int32) := by decide
theorem kb_97 : (Int8.ofInt 97).toInt32 = (97 : Int32) := by decide
theorem kb_99 : (Int8.ofInt 99).toInt32 = (99 : Int32) := by decide
theorem kb_m2 : (Int8.ofInt (-2)).toInt32 = (-2 : Int32) := by decide
theorem kc_3 : Int32.ofInt 3 = (3 : Int32) := by decide
theorem kc_5 : Int32.ofInt 5 = (5 : Int32) := by decide
theorem kl_0 : Int64.ofNat ((0 : Fin 2) : Nat) = (0 : Int64) := by decide
theorem kl_1 : Int64.ofNat ((1 : Fin 2) : Nat) = (1 : Int64) := by decide
theorem ks_1260 : (Int16.ofInt 1260).toInt32 = (1260 : Int32) := by decide
theorem ks_140 : (Int16.ofInt 140).toInt32 = (140 : Int32) := by decide
theorem ks_141 : (Int16.ofInt 141).toInt32 = (141 : Int32) := by decide
theorem ks_142 : (Int16.ofInt 142).toInt32 = (142 : Int32) := by decide
theorem ks_143 : (Int16.ofInt 143).toInt32 = (143 : Int32) := by decide
theorem ks_145 : (Int16.ofInt 145).toInt32 = (145 : Int32) := by decide
theorem ks_147 : (Int16.ofInt 147).toInt32 = (147 : Int32) := by decide
theorem ks_1480 : (Int16.ofInt 1480).toInt32 = (1480 : Int32) := by decide
theorem ks_159 : (Int16.ofInt 159).toInt32 = (159 : Int32) := by decide
theorem ks_160 : (Int16.ofInt 160).toInt32 = (160 : Int32) := by decide
theorem ks_161 : (Int16.ofInt 161).toInt32 = (161 : Int32) := by decide
theorem ks_162 : (Int16.ofInt 162).toInt32 = (162 : Int32) := by decide
theorem ks_170 : (Int16.ofInt 170).toInt32 = (170 : Int32) := by decide
theorem ks_180 : (Int16.ofInt 180).toInt32 = (180 : Int32) := by decide
theorem ks_200 : (Int16.ofInt 200).toInt32 = (200 : Int32) := by decide
theorem ks_270 : (Int16.ofInt 270).toInt32 = (270 : Int32) := by decide
theorem ks_340 : (Int16.ofInt 340).toInt32 = (340 : Int32) := by decide
theorem ks_400 : (Int16.ofInt 400).toInt32 = (400 : Int32) := by decide
theorem ks_585 : (Int16.ofInt 585).toInt32 = (585 : Int32) := by decide
theorem ks_590 : (Int16.ofInt 590).toInt32 = (590 : Int32) := by decide
theorem ks_600 : (Int16.ofInt 600).toInt32 = (600 : Int32) := by decide
theorem ks_620 : (Int16.ofInt 620).toInt32 = (620 : Int32) := by decide
theorem ks_640 : (Int16.ofInt 640).toInt32 = (640 : Int32) := by decide
theorem ks_660 : (Int16.ofInt 660).toInt32 = (660 : Int32) := by decide
theorem ks_999 : (Int16.ofInt 999).toInt32 = (999 : Int32) := by decide
theorem ks_9999 : (Int16.ofInt 9999).toInt32 = (9999 : Int32) := by decide
