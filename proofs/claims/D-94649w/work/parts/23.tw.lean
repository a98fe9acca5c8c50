/-! THE TWIN's methods: pure functions out of the bytecode, and their walks (printed by gen/twin.py) -/
set_option maxRecDepth 100000
set_option maxHeartbeats 4000000
def tw_isLed (n : Nat) (s : Sto) (a1 : Int32) (a2 : Int32) : Option (Bool × Sto) :=
  bd (tw_laysParts n s a2) fun r1 s2 =>
  gd (inb a1 60) <|
  if (lg_cmp (rdL s2 16 a1) (0 : Int64)) ≤ 0 then
    some (false, s2)
  else
    some (true, s2)
theorem w_tw_isLed {l : Launch} {n : Nat} {s sF : Sto} {a1 : Int32} {a2 : Int32} {rF : Bool} (hf : tw_isLed n s a1 a2 = some (rF, sF)) : Ct tCfg l yX3_isLed cX3_isLed 3 (some .boolean) { frames := 3, cells := 0, slots := 0, locals := 59 } (fun g => [.ref (g.1 0), .int a1, .int a2]) s sF (fun _ => some (.int (bI rF))) := by
  refine Ct_of pn_X3 (fun g => Nat.le_of_ble_eq_true rfl) (fun g A X C E hX => ?_)
  rw [tw_isLed] at hf
  show TG tCfg g A 3 X 0 0 s 0 [(0, .ref (g.1 0)), (1, .int a1), (2, .int a2)] []
  refine g_aload_n C dX3_isLed_0 0 rfl ?_
  refine g_iload_n C dX3_isLed_1 2 rfl ?_
  refine bd_n hf (fun r1 s2 h3 hf => ?_)
  refine g_callV0 (As := [.int a2]) (rest := []) (stk := []) C (w_tw_laysParts h3) hX oT0 rfl rfl q1404 q1406 qs84 q91 q1407 mdX3_laysParts rfl ⟨Nat.le_of_ble_eq_true rfl, Nat.le_of_ble_eq_true rfl⟩ (Nat.le_of_ble_eq_true rfl) dX3_isLed_2 rfl ?_
  refine g_aload_n C dX3_isLed_5 0 rfl ?_
  refine g_getS 16 C oT0 fX3_59 rfl dX3_isLed_6 ?_
  refine g_iload_n C dX3_isLed_9 1 rfl ?_
  refine gd_n hf (fun c4 hf => ?_)
  refine g_lald C aT16 rfl c4 dX3_isLed_10 ?_
  refine g_lconst C dX3_isLed_11 kl_0 ?_
  refine g_lcmp C dX3_isLed_12 ?_
  refine g_if_le 20 C dX3_isLed_13 rfl (fun c5 => ?_) (fun c5 => ?_)
  · replace hf := if_t c5 hf
    refine g_iconst C dX3_isLed_20 kc_0 ?_
    exact g_iret (v := bI false) C E (bI_nar _) (re_z hf) (re_s hf) ⟨Nat.zero_le _, Nat.zero_le _⟩ dX3_isLed_21
  · replace hf := if_f c5 hf
    refine g_iconst C dX3_isLed_16 kc_1 ?_
    refine g_goto 21 C dX3_isLed_17 rfl ?_
    exact g_iret (v := bI true) C E (bI_nar _) (re_z hf) (re_s hf) ⟨Nat.zero_le _, Nat.zero_le _⟩ dX3_isLed_21
def tw_led (n : Nat) (s : Sto) (a1 : Int32) (a2 : Int32) : Option (Int32 × Sto) :=
  bd (tw_isLeaven n s a1) fun r1 s2 =>
  if r1 = true then
    bd (tw_isLeaven n s2 a2) fun r5 s6 =>
    if r5 = true then
      bd (tw_isLed n s6 a1 a2) fun r9 s10 =>
      if r9 = true then
        some ((1 : Int32), s10)
      else
        some ((0 : Int32), s10)
    else
      some ((-1 : Int32), s6)
  else
    some ((-1 : Int32), s2)
theorem w_tw_led {l : Launch} {n : Nat} {s sF : Sto} {a1 : Int32} {a2 : Int32} {rF : Int32} (hf : tw_led n s a1 a2 = some (rF, sF)) : Ct tCfg l yX3_led cX3_led 3 (some .int) { frames := 4, cells := 0, slots := 0, locals := 81 } (fun g => [.ref (g.1 0), .int a1, .int a2]) s sF (fun _ => some (.int rF)) := by
  refine Ct_of pn_X3 (fun g => Nat.le_of_ble_eq_true rfl) (fun g A X C E hX => ?_)
  rw [tw_led] at hf
  show TG tCfg g A 3 X 0 0 s 0 [(0, .ref (g.1 0)), (1, .int a1), (2, .int a2)] []
  refine g_aload_n C dX3_led_0 0 rfl ?_
  refine g_iload_n C dX3_led_1 1 rfl ?_
  refine bd_n hf (fun r1 s2 h3 hf => ?_)
  refine g_callV0 (As := [.int a1]) (rest := []) (stk := [.int (bI r1)]) C (w_tw_isLeaven h3) hX oT0 rfl rfl q1392 q1394 qs82 q91 q1395 mdX3_isLeaven rfl ⟨Nat.le_of_ble_eq_true rfl, Nat.le_of_ble_eq_true rfl⟩ (Nat.le_of_ble_eq_true rfl) dX3_led_2 rfl ?_
  refine g_ifZ_eq 16 C dX3_led_5 rfl (fun c4 => ?_) (fun c4 => ?_)
  · replace hf := if_t c4 hf
    refine g_aload_n C dX3_led_8 0 rfl ?_
    refine g_iload_n C dX3_led_9 2 rfl ?_
    refine bd_n hf (fun r5 s6 h7 hf => ?_)
    refine g_callV0 (As := [.int a2]) (rest := []) (stk := [.int (bI r5)]) C (w_tw_isLeaven h7) hX oT0 rfl rfl q1392 q1394 qs82 q91 q1395 mdX3_isLeaven rfl ⟨Nat.le_of_ble_eq_true rfl, Nat.le_of_ble_eq_true rfl⟩ (Nat.le_of_ble_eq_true rfl) dX3_led_10 rfl ?_
    refine g_ifZ_ne 20 C dX3_led_13 rfl (fun c8 => ?_) (fun c8 => ?_)
    · replace hf := if_t c8 hf
      refine g_aload_n C dX3_led_20 0 rfl ?_
      refine g_iload_n C dX3_led_21 1 rfl ?_
      refine g_iload_n C dX3_led_22 2 rfl ?_
      refine bd_n hf (fun r9 s10 h11 hf => ?_)
      refine g_callV0 (As := [.int a1, .int a2]) (rest := []) (stk := [.int (bI r9)]) C (w_tw_isLed h11) hX oT0 rfl rfl q1413 q1415 qs85 q91 q1416 mdX3_isLed rfl ⟨Nat.le_of_ble_eq_true rfl, Nat.le_of_ble_eq_true rfl⟩ (Nat.le_of_ble_eq_true rfl) dX3_led_23 rfl ?_
      refine g_ifZ_eq 33 C dX3_led_26 rfl (fun c12 => ?_) (fun c12 => ?_)
      · replace hf := if_t c12 hf
        refine g_iconst C dX3_led_29 kc_1 ?_
        refine g_goto 34 C dX3_led_30 rfl ?_
        exact g_iret C E rfl (re_i hf) (re_s hf) ⟨Nat.zero_le _, Nat.zero_le _⟩ dX3_led_34
      · replace hf := if_f c12 hf
        refine g_iconst C dX3_led_33 kc_0 ?_
        exact g_iret C E rfl (re_i hf) (re_s hf) ⟨Nat.zero_le _, Nat.zero_le _⟩ dX3_led_34
    · replace hf := if_f c8 hf
      refine g_iconst C dX3_led_16 kc_m1 ?_
      refine g_goto 34 C dX3_led_17 rfl ?_
      exact g_iret C E rfl (re_i hf) (re_s hf) ⟨Nat.zero_le _, Nat.zero_le _⟩ dX3_led_34
  · replace hf := if_f c4 hf
    refine g_iconst C dX3_led_16 kc_m1 ?_
    refine g_goto 34 C dX3_led_17 rfl ?_
    exact g_iret C E rfl (re_i hf) (re_s hf) ⟨Nat.zero_le _, Nat.zero_le _⟩ dX3_led_34
def tw_lent_L53 (n : Nat) (v12 : Int32) (k17 : Sto → Int32 → Option (Int32 × Sto)) : Nat → Sto → Int32 → Int32 → Option (Int32 × Sto)
  | 0, _, _, _ => none
  | k + 1, s11, v13, v14 =>
    if v12 < v14 then
      k17 s11 v13
    else
      bd (tw_ofLeaven n s11 v14 (0 : Int32)) fun r19 s20 =>
      vl (fun (s22 : Sto) (v23 : Int32) =>
        tw_lent_L53 n v12 k17 k s22 v23 (v14 + (1 : Int32))) fun j24 =>
      if r19 = (-1 : Int32) then
        bd (tw_isLed n s20 v12 v14) fun r26 s27 =>
        if r26 = true then
          bd (tw_ofLeaven n s27 v14 (2 : Int32)) fun r30 s31 =>
          vl (v13 ||| (ishl (1 : Int32) r30)) fun v33 =>
          j24 s31 v33
        else
          j24 s27 v13
      else
        j24 s20 v13
def tw_lent_L104 (n : Nat) (v35 : Int32) : Nat → Sto → Int32 → Int32 → Option (Int32 × Sto)
  | 0, _, _, _ => none
  | k + 1, s34, v36, v37 =>
    if (9 : Int32) ≤ v37 then
      some (v36, s34)
    else
      vl (v36 + ((ishr v35 v37) &&& (1 : Int32))) fun v39 =>
      tw_lent_L104 n v35 k s34 v39 (v37 + (1 : Int32))
def tw_lent (n : Nat) (s : Sto) (a1 : Int32) (a2 : Int32) : Option (Int32 × Sto) :=
  bd (tw_isLeaven n s a1) fun r1 s2 =>
  if r1 = true then
    bd (tw_isIn n s2 a2 (0 : Int32) (4 : Int32)) fun r5 s6 =>
    if r5 = true then
      if (2 : Int32) ≤ a2 then
        if (4 : Int32) ≤ a2 then
          tw_lent_L53 n a1
              (fun (s15 : Sto) (v16 : Int32) =>
                tw_lent_L104 n v16
                    n s15 (0 : Int32) (0 : Int32))
              n s6 (0 : Int32) (0 : Int32)
        else
          bd (tw_ofLeaven n s6 a1 (a2 - (2 : Int32))) fun r40 s41 =>
          some (r40, s41)
      else
        bd (tw_ofLeaven n s6 a1 ((3 : Int32) - a2)) fun r43 s44 =>
        some (r43, s44)
    else
      some ((-2 : Int32), s6)
  else
    some ((-2 : Int32), s2)
theorem w_tw_lent_L53  {l : Launch} {n : Nat} {v12 : Int32} {k17 : Sto → Int32 → Option (Int32 × Sto)} {g : Gam} {A : Nat → Prop} {X : FX} {si sF : Sto} {rF : Int32} (C : CX tCfg g A 6 X cX3_lent RX3 (some .int) 4 81) (E : EX tCfg g A X si sF (some (.int rF)) 0 0) (hX : X.2.1 = l) (Hk17 : ∀ (s15 : Sto) (v16 : Int32), k17 s15 v16 = some (rF, sF) → TG tCfg g A 6 X 0 0 s15 98 [(3, .int v16)] []) : ∀ (k : Nat) (s11 : Sto) (v13 : Int32) (v14 : Int32), tw_lent_L53 n v12 k17 k s11 v13 v14 = some (rF, sF) → TG tCfg g A 6 X 0 0 s11 53 [(0, .ref (g.1 0)), (1, .int v12), (3, .int v13), (4, .int v14)] [] := by
  intro k
  induction k with
  | zero => intro s11 v13 v14 hf; rw [tw_lent_L53] at hf; cases hf
  | succ k ih =>
    intro s11 v13 v14 hf
    rw [tw_lent_L53] at hf
    refine g_iload C dX3_lent_53 3 rfl ?_
    refine g_iload_n C dX3_lent_55 1 rfl ?_
    refine g_icmp_gt 98 C dX3_lent_56 rfl (fun c18 => ?_) (fun c18 => ?_)
    · replace hf := if_t c18 hf
      exact g_sub [2] rfl (Hk17 _ _ hf)
    · replace hf := if_f c18 hf
      refine g_aload_n C dX3_lent_59 0 rfl ?_
      refine g_iload C dX3_lent_60 3 rfl ?_
      refine g_iconst C dX3_lent_62 kc_0 ?_
      refine bd_n hf (fun r19 s20 h21 hf => ?_)
      refine g_callV0 (As := [.int v14, .int (0 : Int32)]) (rest := []) (stk := [.int r19]) C (w_tw_ofLeaven h21) hX oT0 rfl rfl q1396 q1398 qs83 q91 q1399 mdX3_ofLeaven rfl ⟨Nat.le_of_ble_eq_true rfl, Nat.le_of_ble_eq_true rfl⟩ (Nat.le_of_ble_eq_true rfl) dX3_lent_63 rfl ?_
      refine g_iconst C dX3_lent_66 kc_m1 ?_
      refine vl_n hf (fun j24 hj24 hf => ?_)
      have Hj24 : ∀ (s22 : Sto) (v23 : Int32), j24 s22 v23 = some (rF, sF) → TG tCfg g A 6 X 0 0 s22 92 [(0, .ref (g.1 0)), (1, .int v12), (3, .int v23), (4, .int v14)] [] := by
        clear hf; subst hj24
        intro s22 v23 hf
        refine g_iinc (q := 3) (lv' := [(4, .int (v14 + (1 : Int32))), (0, .ref (g.1 0)), (1, .int v12), (3, .int v23)]) C dX3_lent_92 rfl kc_1 (by decide) rfl ?_
        refine g_goto 53 C dX3_lent_95 rfl ?_
        exact g_sub [1, 2, 3, 0] rfl (ih _ _ _ hf)
      clear hj24
      refine g_icmp_ne 92 C dX3_lent_67 rfl (fun c25 => ?_) (fun c25 => ?_)
      · replace hf := if_t c25 hf
        refine g_aload_n C dX3_lent_70 0 rfl ?_
        refine g_iload_n C dX3_lent_71 1 rfl ?_
        refine g_iload C dX3_lent_72 3 rfl ?_
        refine bd_n hf (fun r26 s27 h28 hf => ?_)
        refine g_callV0 (As := [.int v12, .int v14]) (rest := []) (stk := [.int (bI r26)]) C (w_tw_isLed h28) hX oT0 rfl rfl q1413 q1415 qs85 q91 q1416 mdX3_isLed rfl ⟨Nat.le_of_ble_eq_true rfl, Nat.le_of_ble_eq_true rfl⟩ (Nat.le_of_ble_eq_true rfl) dX3_lent_74 rfl ?_
        refine g_ifZ_eq 92 C dX3_lent_77 rfl (fun c29 => ?_) (fun c29 => ?_)
        · replace hf := if_t c29 hf
          refine g_iload_n C dX3_lent_80 2 rfl ?_
          refine g_iconst C dX3_lent_81 kc_1 ?_
          refine g_aload_n C dX3_lent_82 0 rfl ?_
          refine g_iload C dX3_lent_83 3 rfl ?_
          refine g_iconst C dX3_lent_85 kc_2 ?_
          refine bd_n hf (fun r30 s31 h32 hf => ?_)
          refine g_callV0 (As := [.int v14, .int (2 : Int32)]) (rest := [.int (1 : Int32), .int v13]) (stk := [.int r30, .int (1 : Int32), .int v13]) C (w_tw_ofLeaven h32) hX oT0 rfl rfl q1396 q1398 qs83 q91 q1399 mdX3_ofLeaven rfl ⟨Nat.le_of_ble_eq_true rfl, Nat.le_of_ble_eq_true rfl⟩ (Nat.le_of_ble_eq_true rfl) dX3_lent_86 rfl ?_
          refine g_ishl C dX3_lent_89 ?_
          refine g_ior C dX3_lent_90 ?_
          refine vl_n hf (fun v33 hv33 hf => ?_)
          refine g_istore_n (i := 3) (lv' := [(3, .int v33), (0, .ref (g.1 0)), (1, .int v12), (4, .int v14)]) C dX3_lent_91 rfl hv33 (by decide) rfl ?_
          exact g_sub [1, 2, 0, 3] rfl (Hj24 _ _ hf)
        · replace hf := if_f c29 hf
          exact g_sub [0, 1, 2, 3] rfl (Hj24 _ _ hf)
      · replace hf := if_f c25 hf
        exact g_sub [0, 1, 2, 3] rfl (Hj24 _ _ hf)
theorem w_tw_lent_L104  {l : Launch} {n : Nat} {v35 : Int32} {g : Gam} {A : Nat → Prop} {X : FX} {si sF : Sto} {rF : Int32} (C : CX tCfg g A 6 X cX3_lent RX3 (some .int) 4 81) (E : EX tCfg g A X si sF (some (.int rF)) 0 0) (hX : X.2.1 = l) : ∀ (k : Nat) (s34 : Sto) (v36 : Int32) (v37 : Int32), tw_lent_L104 n v35 k s34 v36 v37 = some (rF, sF) → TG tCfg g A 6 X 0 0 s34 104 [(3, .int v35), (4, .int v36), (5, .int v37)] [] := by
  intro k
  induction k with
  | zero => intro s34 v36 v37 hf; rw [tw_lent_L104] at hf; cases hf
  | succ k ih =>
    intro s34 v36 v37 hf
    rw [tw_lent_L104] at hf
    refine g_iload C dX3_lent_104 2 rfl ?_
    refine g_bipush C dX3_lent_106 kb_9 ?_
    refine g_icmp_ge 128 C dX3_lent_108 rfl (fun c38 => ?_) (fun c38 => ?_)
    · replace hf := if_t c38 hf
      refine g_iload C dX3_lent_128 1 rfl ?_
      exact g_iret C E rfl (re_i hf) (re_s hf) ⟨Nat.zero_le _, Nat.zero_le _⟩ dX3_lent_130
    · replace hf := if_f c38 hf
      refine g_iload C dX3_lent_111 1 rfl ?_
      refine g_iload_n C dX3_lent_113 0 rfl ?_
      refine g_iload C dX3_lent_114 2 rfl ?_
      refine g_ishr C dX3_lent_116 ?_
      refine g_iconst C dX3_lent_117 kc_1 ?_
      refine g_iand C dX3_lent_118 ?_
      refine g_iadd C dX3_lent_119 ?_
      refine vl_n hf (fun v39 hv39 hf => ?_)
      refine g_istore (i := 4) (lv' := [(4, .int v39), (3, .int v35), (5, .int v37)]) C dX3_lent_120 hv39 (by decide) rfl ?_
      refine g_iinc (q := 2) (lv' := [(5, .int (v37 + (1 : Int32))), (4, .int v39), (3, .int v35)]) C dX3_lent_122 rfl kc_1 (by decide) rfl ?_
      refine g_goto 104 C dX3_lent_125 rfl ?_
      exact g_sub [2, 1, 0] rfl (ih _ _ _ hf)
theorem w_tw_lent {l : Launch} {n : Nat} {s sF : Sto} {a1 : Int32} {a2 : Int32} {rF : Int32} (hf : tw_lent n s a1 a2 = some (rF, sF)) : Ct tCfg l yX3_lent cX3_lent 6 (some .int) { frames := 4, cells := 0, slots := 0, locals := 81 } (fun g => [.ref (g.1 0), .int a1, .int a2]) s sF (fun _ => some (.int rF)) := by
  refine Ct_of pn_X3 (fun g => Nat.le_of_ble_eq_true rfl) (fun g A X C E hX => ?_)
  rw [tw_lent] at hf
  show TG tCfg g A 6 X 0 0 s 0 [(0, .ref (g.1 0)), (1, .int a1), (2, .int a2)] []
  refine g_aload_n C dX3_lent_0 0 rfl ?_
  refine g_iload_n C dX3_lent_1 1 rfl ?_
  refine bd_n hf (fun r1 s2 h3 hf => ?_)
  refine g_callV0 (As := [.int a1]) (rest := []) (stk := [.int (bI r1)]) C (w_tw_isLeaven h3) hX oT0 rfl rfl q1392 q1394 qs82 q91 q1395 mdX3_isLeaven rfl ⟨Nat.le_of_ble_eq_true rfl, Nat.le_of_ble_eq_true rfl⟩ (Nat.le_of_ble_eq_true rfl) dX3_lent_2 rfl ?_
  refine g_ifZ_eq 17 C dX3_lent_5 rfl (fun c4 => ?_) (fun c4 => ?_)
  · replace hf := if_t c4 hf
    refine g_iload_n C dX3_lent_8 2 rfl ?_
    refine g_iconst C dX3_lent_9 kc_0 ?_
    refine g_iconst C dX3_lent_10 kc_4 ?_
    refine bd_n hf (fun r5 s6 h7 hf => ?_)
    refine g_callS0 (As := [.int a2, .int (0 : Int32), .int (4 : Int32)]) (rest := []) (stk := [.int (bI r5)]) C (w_tw_isIn h7) hX rfl q1146 q1147 q91 q1148 msX3_isIn rfl ⟨Nat.le_of_ble_eq_true rfl, Nat.le_of_ble_eq_true rfl⟩ (Nat.le_of_ble_eq_true rfl) dX3_lent_11 rfl ?_
    refine g_ifZ_ne 20 C dX3_lent_14 rfl (fun c8 => ?_) (fun c8 => ?_)
    · replace hf := if_t c8 hf
      refine g_iload_n C dX3_lent_20 2 rfl ?_
      refine g_iconst C dX3_lent_21 kc_2 ?_
      refine g_icmp_ge 34 C dX3_lent_22 rfl (fun c9 => ?_) (fun c9 => ?_)
      · replace hf := if_t c9 hf
        refine g_iload_n C dX3_lent_34 2 rfl ?_
        refine g_iconst C dX3_lent_35 kc_4 ?_
        refine g_icmp_ge 48 C dX3_lent_36 rfl (fun c10 => ?_) (fun c10 => ?_)
        · replace hf := if_t c10 hf
          refine g_iconst C dX3_lent_48 kc_0 ?_
          refine g_istore_n (i := 3) (lv' := [(3, .int (0 : Int32)), (0, .ref (g.1 0)), (1, .int a1), (2, .int a2)]) C dX3_lent_49 rfl rfl (by decide) rfl ?_
          refine g_iconst C dX3_lent_50 kc_0 ?_
          refine g_istore (i := 4) (lv' := [(4, .int (0 : Int32)), (3, .int (0 : Int32)), (0, .ref (g.1 0)), (1, .int a1), (2, .int a2)]) C dX3_lent_51 rfl (by decide) rfl ?_
          refine g_sub [2, 3, 1, 0] rfl (w_tw_lent_L53 C E hX (fun s15 v16 hf => ?_) _ _ _ _ hf)
          refine g_iconst C dX3_lent_98 kc_0 ?_
          refine g_istore (i := 4) (lv' := [(4, .int (0 : Int32)), (3, .int v16)]) C dX3_lent_99 rfl (by decide) rfl ?_
          refine g_iconst C dX3_lent_101 kc_0 ?_
          refine g_istore (i := 5) (lv' := [(5, .int (0 : Int32)), (4, .int (0 : Int32)), (3, .int v16)]) C dX3_lent_102 rfl (by decide) rfl ?_
          refine g_sub [2, 1, 0] rfl (w_tw_lent_L104 C E hX _ _ _ _ hf)
        · replace hf := if_f c10 hf
          refine g_aload_n C dX3_lent_39 0 rfl ?_
          refine g_iload_n C dX3_lent_40 1 rfl ?_
          refine g_iload_n C dX3_lent_41 2 rfl ?_
          refine g_iconst C dX3_lent_42 kc_2 ?_
          refine g_isub C dX3_lent_43 ?_
          refine bd_n hf (fun r40 s41 h42 hf => ?_)
          refine g_callV0 (As := [.int a1, .int (a2 - (2 : Int32))]) (rest := []) (stk := [.int r40]) C (w_tw_ofLeaven h42) hX oT0 rfl rfl q1396 q1398 qs83 q91 q1399 mdX3_ofLeaven rfl ⟨Nat.le_of_ble_eq_true rfl, Nat.le_of_ble_eq_true rfl⟩ (Nat.le_of_ble_eq_true rfl) dX3_lent_44 rfl ?_
          exact g_iret C E rfl (re_i hf) (re_s hf) ⟨Nat.zero_le _, Nat.zero_le _⟩ dX3_lent_47
      · replace hf := if_f c9 hf
        refine g_aload_n C dX3_lent_25 0 rfl ?_
        refine g_iload_n C dX3_lent_26 1 rfl ?_
        refine g_iconst C dX3_lent_27 kc_3 ?_
        refine g_iload_n C dX3_lent_28 2 rfl ?_
        refine g_isub C dX3_lent_29 ?_
        refine bd_n hf (fun r43 s44 h45 hf => ?_)
        refine g_callV0 (As := [.int a1, .int ((3 : Int32) - a2)]) (rest := []) (stk := [.int r43]) C (w_tw_ofLeaven h45) hX oT0 rfl rfl q1396 q1398 qs83 q91 q1399 mdX3_ofLeaven rfl ⟨Nat.le_of_ble_eq_true rfl, Nat.le_of_ble_eq_true rfl⟩ (Nat.le_of_ble_eq_true rfl) dX3_lent_30 rfl ?_
        exact g_iret C E rfl (re_i hf) (re_s hf) ⟨Nat.zero_le _, Nat.zero_le _⟩ dX3_lent_33
    · replace hf := if_f c8 hf
      refine g_bipush C dX3_lent_17 kb_m2 ?_
      exact g_iret C E rfl (re_i hf) (re_s hf) ⟨Nat.zero_le _, Nat.zero_le _⟩ dX3_lent_19
  · replace hf := if_f c4 hf
    refine g_bipush C dX3_lent_17 kb_m2 ?_
    exact g_iret C E rfl (re_i hf) (re_s hf) ⟨Nat.zero_le _, Nat.zero_le _⟩ dX3_lent_19
def tw_rise (n : Nat) (s : Sto) (a1 : Int32) (a2 : Int32) (a3 : Int32) : Option (Bool × Sto) :=
  bd (tw_isIn n s a1 (0 : Int32) (7 : Int32)) fun r1 s2 =>
  if r1 = true then
    bd (tw_isIn n s2 a2 (0 : Int32) (7 : Int32)) fun r5 s6 =>
    if r5 = true then
      bd (tw_isIn n s6 a3 (0 : Int32) (9 : Int32)) fun r9 s10 =>
      if r9 = true then
        gd (inb (((270 : Int32) + ((8 : Int32) * a1)) + a2) 1480) <|
        vl (wr s10 1 (((270 : Int32) + ((8 : Int32) * a1)) + a2) a3) fun s14 =>
        some (true, s14)
      else
        some (false, s10)
    else
      some (false, s6)
  else
    some (false, s2)
theorem w_tw_rise {l : Launch} {n : Nat} {s sF : Sto} {a1 : Int32} {a2 : Int32} {a3 : Int32} {rF : Bool} (hf : tw_rise n s a1 a2 a3 = some (rF, sF)) : Ct tCfg l yX3_rise cX3_rise 4 (some .boolean) { frames := 2, cells := 0, slots := 0, locals := 34 } (fun g => [.ref (g.1 0), .int a1, .int a2, .int a3]) s sF (fun _ => some (.int (bI rF))) := by
  refine Ct_of pn_X3 (fun g => Nat.le_of_ble_eq_true rfl) (fun g A X C E hX => ?_)
  rw [tw_rise] at hf
  show TG tCfg g A 4 X 0 0 s 0 [(0, .ref (g.1 0)), (1, .int a1), (2, .int a2), (3, .int a3)] []
  refine g_iload_n C dX3_rise_0 1 rfl ?_
  refine g_iconst C dX3_rise_1 kc_0 ?_
  refine g_bipush C dX3_rise_2 kb_7 ?_
  refine bd_n hf (fun r1 s2 h3 hf => ?_)
  refine g_callS0 (As := [.int a1, .int (0 : Int32), .int (7 : Int32)]) (rest := []) (stk := [.int (bI r1)]) C (w_tw_isIn h3) hX rfl q1146 q1147 q91 q1148 msX3_isIn rfl ⟨Nat.le_of_ble_eq_true rfl, Nat.le_of_ble_eq_true rfl⟩ (Nat.le_of_ble_eq_true rfl) dX3_rise_4 rfl ?_
  refine g_ifZ_eq 30 C dX3_rise_7 rfl (fun c4 => ?_) (fun c4 => ?_)
  · replace hf := if_t c4 hf
    refine g_iload_n C dX3_rise_10 2 rfl ?_
    refine g_iconst C dX3_rise_11 kc_0 ?_
    refine g_bipush C dX3_rise_12 kb_7 ?_
    refine bd_n hf (fun r5 s6 h7 hf => ?_)
    refine g_callS0 (As := [.int a2, .int (0 : Int32), .int (7 : Int32)]) (rest := []) (stk := [.int (bI r5)]) C (w_tw_isIn h7) hX rfl q1146 q1147 q91 q1148 msX3_isIn rfl ⟨Nat.le_of_ble_eq_true rfl, Nat.le_of_ble_eq_true rfl⟩ (Nat.le_of_ble_eq_true rfl) dX3_rise_14 rfl ?_
    refine g_ifZ_eq 30 C dX3_rise_17 rfl (fun c8 => ?_) (fun c8 => ?_)
    · replace hf := if_t c8 hf
      refine g_iload_n C dX3_rise_20 3 rfl ?_
      refine g_iconst C dX3_rise_21 kc_0 ?_
      refine g_bipush C dX3_rise_22 kb_9 ?_
      refine bd_n hf (fun r9 s10 h11 hf => ?_)
      refine g_callS0 (As := [.int a3, .int (0 : Int32), .int (9 : Int32)]) (rest := []) (stk := [.int (bI r9)]) C (w_tw_isIn h11) hX rfl q1146 q1147 q91 q1148 msX3_isIn rfl ⟨Nat.le_of_ble_eq_true rfl, Nat.le_of_ble_eq_true rfl⟩ (Nat.le_of_ble_eq_true rfl) dX3_rise_24 rfl ?_
      refine g_ifZ_ne 32 C dX3_rise_27 rfl (fun c12 => ?_) (fun c12 => ?_)
      · replace hf := if_t c12 hf
        refine g_aload_n C dX3_rise_32 0 rfl ?_
        refine g_getS 1 C oT0 fX3_7 rfl dX3_rise_33 ?_
        refine g_sipush C dX3_rise_36 ks_270 ?_
        refine g_bipush C dX3_rise_39 kb_8 ?_
        refine g_iload_n C dX3_rise_41 1 rfl ?_
        refine g_imul C dX3_rise_42 ?_
        refine g_iadd C dX3_rise_43 ?_
        refine g_iload_n C dX3_rise_44 2 rfl ?_
        refine g_iadd C dX3_rise_45 ?_
        refine g_iload_n C dX3_rise_46 3 rfl ?_
        refine gd_n hf (fun c13 hf => ?_)
        refine vl_n hf (fun s14 hs14 hf => ?_)
        refine g_iast C aT1 rfl c13 hs14 dX3_rise_47 ?_
        refine g_iconst C dX3_rise_48 kc_1 ?_
        exact g_iret (v := bI true) C E (bI_nar _) (re_z hf) (re_s hf) ⟨Nat.zero_le _, Nat.zero_le _⟩ dX3_rise_49
      · replace hf := if_f c12 hf
        refine g_iconst C dX3_rise_30 kc_0 ?_
        exact g_iret (v := bI false) C E (bI_nar _) (re_z hf) (re_s hf) ⟨Nat.zero_le _, Nat.zero_le _⟩ dX3_rise_31
    · replace hf := if_f c8 hf
      refine g_iconst C dX3_rise_30 kc_0 ?_
      exact g_iret (v := bI false) C E (bI_nar _) (re_z hf) (re_s hf) ⟨Nat.zero_le _, Nat.zero_le _⟩ dX3_rise_31
  · replace hf := if_f c4 hf
    refine g_iconst C dX3_rise_30 kc_0 ?_
    exact g_iret (v := bI false) C E (bI_nar _) (re_z hf) (re_s hf) ⟨Nat.zero_le _, Nat.zero_le _⟩ dX3_rise_31
def tw_laysOdds_L58 (n : Nat) (v20 : Int32) (v21 : Int32) (v22 : Int32) (v23 : Int32) (k28 : Sto → Int32 → Option (Unit × Sto)) : Nat → Sto → Int32 → Int32 → Option (Unit × Sto)
  | 0, _, _, _ => none
  | k + 1, s19, v24, v25 =>
    if (8 : Int32) ≤ v25 then
      k28 s19 v24
    else
      gd (inb (((270 : Int32) + ((8 : Int32) * v23)) + v25) 1480) <|
      vl (v24 + (rd s19 1 (((270 : Int32) + ((8 : Int32) * v23)) + v25))) fun v31 =>
      tw_laysOdds_L58 n v20 v21 v22 v23 k28 k s19 v31 (v25 + (1 : Int32))
def tw_laysOdds_L27 (n : Nat) (v9 : Int32) (v10 : Int32) (k13 : Sto → Option (Unit × Sto)) : Nat → Sto → Int32 → Option (Unit × Sto)
  | 0, _, _ => none
  | k + 1, s8, v11 =>
    if v10 ≤ v11 then
      k13 s8
    else
      if (lg_cmp (s8.2.1 0 33) (0 : Int64)) ≤ 0 then
        k13 s8
      else
        bd (tw_own n s8 v9 ((10 : Int32) + v11)) fun r16 s17 =>
        tw_laysOdds_L58 n v9 v10 v11 r16
            (fun (s26 : Sto) (v27 : Int32) =>
              gd (inb v11 400) <|
              gd (inb ((((270 : Int32) + ((8 : Int32) * r16)) + (rd s26 6 v11)) - (97 : Int32)) 1480) <|
              vl (sL s26 0 33 ((s26.2.1 0 33) * (Int32.toInt64 (rd s26 1 ((((270 : Int32) + ((8 : Int32) * r16)) + (rd s26 6 v11)) - (97 : Int32)))))) fun s34 =>
              vl (sL s34 0 34 ((s34.2.1 0 34) * (Int32.toInt64 v27))) fun s35 =>
              tw_laysOdds_L27 n v9 v10 k13 k s35 (v11 + (1 : Int32)))
            n s17 (0 : Int32) (0 : Int32)
def tw_laysOdds_L170 (n : Nat) (k45 : Sto → Int64 → Option (Unit × Sto)) : Nat → Sto → Int64 → Int64 → Option (Unit × Sto)
  | 0, _, _, _ => none
  | k + 1, s40, v41, v42 =>
    if (lg_cmp v42 (0 : Int64)) ≤ 0 then
      k45 s40 v41
    else
      gd (decide (¬ v42 = 0)) <|
      vl (lrem v41 v42) fun v48 =>
      tw_laysOdds_L170 n k45 k s40 v42 v48
def tw_laysOdds (n : Nat) (s : Sto) (a1 : Int32) (a2 : Int32) : Option (Unit × Sto) :=
  bd (tw_own n s a1 (9 : Int32)) fun r1 s2 =>
  vl (fun (t4 : Int64) =>
    vl (sL s2 0 33 t4) fun s6 =>
    vl (sL s6 0 34 (1 : Int64)) fun s7 =>
    tw_laysOdds_L27 n a1 a2
        (fun (s12 : Sto) =>
          vl (fun (s36 : Sto) =>
            vl (s36.2.1 0 33) fun v38 =>
            vl (s36.2.1 0 34) fun v39 =>
            tw_laysOdds_L170 n
                (fun (s43 : Sto) (v44 : Int64) =>
                  gd (decide (¬ v44 = 0)) <|
                  vl (sL s43 0 33 ((s43.2.1 0 33) / v44)) fun s50 =>
                  vl (sL s50 0 34 ((s50.2.1 0 34) / v44)) fun s51 =>
                  some ((), s51))
                n s36 v38 v39) fun j37 =>
          if (lg_cmp (s12.2.1 0 33) (0 : Int64)) = 0 then
            vl (sL s12 0 34 (1 : Int64)) fun s53 =>
            j37 s53
          else
            j37 s12)
        n s7 (0 : Int32)) fun j5 =>
  if r1 = a2 then
    j5 (1 : Int64)
  else
    j5 (0 : Int64)
theorem w_tw_laysOdds_L58  {l : Launch} {n : Nat} {v20 : Int32} {v21 : Int32} {v22 : Int32} {v23 : Int32} {k28 : Sto → Int32 → Option (Unit × Sto)} {g : Gam} {A : Nat → Prop} {X : FX} {si sF : Sto} {rF : Unit} (C : CX tCfg g A 9 X cX3_laysOdds RX3 none 2 34) (E : EX tCfg g A X si sF none 0 0) (hX : X.2.1 = l) (Hk28 : ∀ (s26 : Sto) (v27 : Int32), k28 s26 v27 = some (rF, sF) → TG tCfg g A 9 X 0 0 s26 93 [(0, .ref (g.1 0)), (1, .int v20), (2, .int v21), (3, .int v22), (4, .int v23), (5, .int v27)] []) : ∀ (k : Nat) (s19 : Sto) (v24 : Int32) (v25 : Int32), tw_laysOdds_L58 n v20 v21 v22 v23 k28 k s19 v24 v25 = some (rF, sF) → TG tCfg g A 9 X 0 0 s19 58 [(0, .ref (g.1 0)), (1, .int v20), (2, .int v21), (3, .int v22), (4, .int v23), (5, .int v24), (6, .int v25)] [] := by
  intro k
  induction k with
  | zero => intro s19 v24 v25 hf; rw [tw_laysOdds_L58] at hf; cases hf
  | succ k ih =>
    intro s19 v24 v25 hf
    rw [tw_laysOdds_L58] at hf
    refine g_iload C dX3_laysOdds_58 6 rfl ?_
    refine g_bipush C dX3_laysOdds_60 kb_8 ?_
    refine g_icmp_ge 93 C dX3_laysOdds_62 rfl (fun c29 => ?_) (fun c29 => ?_)
    · replace hf := if_t c29 hf
      exact g_sub [0, 1, 2, 3, 4, 5] rfl (Hk28 _ _ hf)
    · replace hf := if_f c29 hf
      refine g_iload C dX3_laysOdds_65 5 rfl ?_
      refine g_aload_n C dX3_laysOdds_67 0 rfl ?_
      refine g_getS 1 C oT0 fX3_7 rfl dX3_laysOdds_68 ?_
      refine g_sipush C dX3_laysOdds_71 ks_270 ?_
      refine g_bipush C dX3_laysOdds_74 kb_8 ?_
      refine g_iload C dX3_laysOdds_76 4 rfl ?_
      refine g_imul C dX3_laysOdds_78 ?_
      refine g_iadd C dX3_laysOdds_79 ?_
      refine g_iload C dX3_laysOdds_80 6 rfl ?_
      refine g_iadd C dX3_laysOdds_82 ?_
      refine gd_n hf (fun c30 hf => ?_)
      refine g_iald C aT1 rfl c30 dX3_laysOdds_83 ?_
      refine g_iadd C dX3_laysOdds_84 ?_
      refine vl_n hf (fun v31 hv31 hf => ?_)
      refine g_istore (i := 5) (lv' := [(5, .int v31), (0, .ref (g.1 0)), (1, .int v20), (2, .int v21), (3, .int v22), (4, .int v23), (6, .int v25)]) C dX3_laysOdds_85 hv31 (by decide) rfl ?_
      refine g_iinc (q := 6) (lv' := [(6, .int (v25 + (1 : Int32))), (5, .int v31), (0, .ref (g.1 0)), (1, .int v20), (2, .int v21), (3, .int v22), (4, .int v23)]) C dX3_laysOdds_87 rfl kc_1 (by decide) rfl ?_
      refine g_goto 58 C dX3_laysOdds_90 rfl ?_
      exact g_sub [2, 3, 4, 5, 6, 1, 0] rfl (ih _ _ _ hf)
theorem w_tw_laysOdds_L27  {l : Launch} {n : Nat} {v9 : Int32} {v10 : Int32} {k13 : Sto → Option (Unit × Sto)} {g : Gam} {A : Nat → Prop} {X : FX} {si sF : Sto} {rF : Unit} (C : CX tCfg g A 9 X cX3_laysOdds RX3 none 2 34) (E : EX tCfg g A X si sF none 0 0) (hX : X.2.1 = l) (Hk13 : ∀ (s12 : Sto), k13 s12 = some (rF, sF) → TG tCfg g A 9 X 0 0 s12 145 [(0, .ref (g.1 0))] []) : ∀ (k : Nat) (s8 : Sto) (v11 : Int32), tw_laysOdds_L27 n v9 v10 k13 k s8 v11 = some (rF, sF) → TG tCfg g A 9 X 0 0 s8 27 [(0, .ref (g.1 0)), (1, .int v9), (2, .int v10), (3, .int v11)] [] := by
  intro k
  induction k with
  | zero => intro s8 v11 hf; rw [tw_laysOdds_L27] at hf; cases hf
  | succ k ih =>
    intro s8 v11 hf
    rw [tw_laysOdds_L27] at hf
    refine g_iload_n C dX3_laysOdds_27 3 rfl ?_
    refine g_iload_n C dX3_laysOdds_28 2 rfl ?_
    refine g_icmp_ge 145 C dX3_laysOdds_29 rfl (fun c14 => ?_) (fun c14 => ?_)
    · replace hf := if_t c14 hf
      exact g_sub [0] rfl (Hk13 _ hf)
    · replace hf := if_f c14 hf
      refine g_aload_n C dX3_laysOdds_32 0 rfl ?_
      refine g_getJ C oT0 fX3_306 dX3_laysOdds_33 ?_
      refine g_lconst C dX3_laysOdds_36 kl_0 ?_
      refine g_lcmp C dX3_laysOdds_37 ?_
      refine g_if_le 145 C dX3_laysOdds_38 rfl (fun c15 => ?_) (fun c15 => ?_)
      · replace hf := if_t c15 hf
        exact g_sub [0] rfl (Hk13 _ hf)
      · replace hf := if_f c15 hf
        refine g_aload_n C dX3_laysOdds_41 0 rfl ?_
        refine g_iload_n C dX3_laysOdds_42 1 rfl ?_
        refine g_bipush C dX3_laysOdds_43 kb_10 ?_
        refine g_iload_n C dX3_laysOdds_45 3 rfl ?_
        refine g_iadd C dX3_laysOdds_46 ?_
        refine bd_n hf (fun r16 s17 h18 hf => ?_)
        refine g_callV0 (As := [.int v9, .int ((10 : Int32) + v11)]) (rest := []) (stk := [.int r16]) C (w_tw_own h18) hX oT0 rfl rfl q1265 q1267 qs63 q91 q1268 mdX3_own rfl ⟨Nat.le_of_ble_eq_true rfl, Nat.le_of_ble_eq_true rfl⟩ (Nat.le_of_ble_eq_true rfl) dX3_laysOdds_47 rfl ?_
        refine g_istore (i := 4) (lv' := [(4, .int r16), (0, .ref (g.1 0)), (1, .int v9), (2, .int v10), (3, .int v11)]) C dX3_laysOdds_50 rfl (by decide) rfl ?_
        refine g_iconst C dX3_laysOdds_52 kc_0 ?_
        refine g_istore (i := 5) (lv' := [(5, .int (0 : Int32)), (4, .int r16), (0, .ref (g.1 0)), (1, .int v9), (2, .int v10), (3, .int v11)]) C dX3_laysOdds_53 rfl (by decide) rfl ?_
        refine g_iconst C dX3_laysOdds_55 kc_0 ?_
        refine g_istore (i := 6) (lv' := [(6, .int (0 : Int32)), (5, .int (0 : Int32)), (4, .int r16), (0, .ref (g.1 0)), (1, .int v9), (2, .int v10), (3, .int v11)]) C dX3_laysOdds_56 rfl (by decide) rfl ?_
        refine g_sub [3, 4, 5, 6, 2, 1, 0] rfl (w_tw_laysOdds_L58 C E hX (fun s26 v27 hf => ?_) _ _ _ _ hf)
        refine g_aload_n C dX3_laysOdds_93 0 rfl ?_
        refine g_dup C dX3_laysOdds_94 rfl ?_
        refine g_getJ C oT0 fX3_306 dX3_laysOdds_95 ?_
        refine g_aload_n C dX3_laysOdds_98 0 rfl ?_
        refine g_getS 1 C oT0 fX3_7 rfl dX3_laysOdds_99 ?_
        refine g_sipush C dX3_laysOdds_102 ks_270 ?_
        refine g_bipush C dX3_laysOdds_105 kb_8 ?_
        refine g_iload C dX3_laysOdds_107 4 rfl ?_
        refine g_imul C dX3_laysOdds_109 ?_
        refine g_iadd C dX3_laysOdds_110 ?_
        refine g_aload_n C dX3_laysOdds_111 0 rfl ?_
        refine g_getS 6 C oT0 fX3_25 rfl dX3_laysOdds_112 ?_
        refine g_iload_n C dX3_laysOdds_115 3 rfl ?_
        refine gd_n hf (fun c32 hf => ?_)
        refine g_iald C aT6 rfl c32 dX3_laysOdds_116 ?_
        refine g_iadd C dX3_laysOdds_117 ?_
        refine g_bipush C dX3_laysOdds_118 kb_97 ?_
        refine g_isub C dX3_laysOdds_120 ?_
        refine gd_n hf (fun c33 hf => ?_)
        refine g_iald C aT1 rfl c33 dX3_laysOdds_121 ?_
        refine g_i2l C dX3_laysOdds_122 ?_
        refine g_lmul C dX3_laysOdds_123 ?_
        refine vl_n hf (fun s34 hs34 hf => ?_)
        refine g_putJ C oT0 pX3_306 hs34 dX3_laysOdds_124 ?_
        refine g_aload_n C dX3_laysOdds_127 0 rfl ?_
        refine g_dup C dX3_laysOdds_128 rfl ?_
        refine g_getJ C oT0 fX3_310 dX3_laysOdds_129 ?_
        refine g_iload C dX3_laysOdds_132 5 rfl ?_
        refine g_i2l C dX3_laysOdds_134 ?_
        refine g_lmul C dX3_laysOdds_135 ?_
        refine vl_n hf (fun s35 hs35 hf => ?_)
        refine g_putJ C oT0 pX3_310 hs35 dX3_laysOdds_136 ?_
        refine g_iinc (q := 3) (lv' := [(3, .int (v11 + (1 : Int32))), (0, .ref (g.1 0)), (1, .int v9), (2, .int v10), (4, .int r16), (5, .int v27)]) C dX3_laysOdds_139 rfl kc_1 (by decide) rfl ?_
        refine g_goto 27 C dX3_laysOdds_142 rfl ?_
        exact g_sub [1, 2, 3, 0] rfl (ih _ _ hf)
theorem w_tw_laysOdds_L170  {l : Launch} {n : Nat} {k45 : Sto → Int64 → Option (Unit × Sto)} {g : Gam} {A : Nat → Prop} {X : FX} {si sF : Sto} {rF : Unit} (C : CX tCfg g A 9 X cX3_laysOdds RX3 none 2 34) (E : EX tCfg g A X si sF none 0 0) (hX : X.2.1 = l) (Hk45 : ∀ (s43 : Sto) (v44 : Int64), k45 s43 v44 = some (rF, sF) → TG tCfg g A 9 X 0 0 s43 193 [(0, .ref (g.1 0)), (3, .long v44)] []) : ∀ (k : Nat) (s40 : Sto) (v41 : Int64) (v42 : Int64), tw_laysOdds_L170 n k45 k s40 v41 v42 = some (rF, sF) → TG tCfg g A 9 X 0 0 s40 170 [(0, .ref (g.1 0)), (3, .long v41), (5, .long v42)] [] := by
  intro k
  induction k with
  | zero => intro s40 v41 v42 hf; rw [tw_laysOdds_L170] at hf; cases hf
  | succ k ih =>
    intro s40 v41 v42 hf
    rw [tw_laysOdds_L170] at hf
    refine g_lload C dX3_laysOdds_170 2 rfl ?_
    refine g_lconst C dX3_laysOdds_172 kl_0 ?_
    refine g_lcmp C dX3_laysOdds_173 ?_
    refine g_if_le 193 C dX3_laysOdds_174 rfl (fun c46 => ?_) (fun c46 => ?_)
    · replace hf := if_t c46 hf
      exact g_sub [0, 1] rfl (Hk45 _ _ hf)
    · replace hf := if_f c46 hf
      refine g_lload_n C dX3_laysOdds_177 1 rfl ?_
      refine g_lload C dX3_laysOdds_178 2 rfl ?_
      refine gd_n hf (fun c47 hf => ?_)
      refine g_lrem C dX3_laysOdds_180 c47 ?_
      refine vl_n hf (fun v48 hv48 hf => ?_)
      refine g_lstore (i := 7) (lv' := [(7, .long v48), (0, .ref (g.1 0)), (3, .long v41), (5, .long v42)]) C dX3_laysOdds_181 hv48 (by decide) rfl ?_
      refine g_lload C dX3_laysOdds_183 3 rfl ?_
      refine g_lstore_n (i := 3) (lv' := [(3, .long v42), (7, .long v48), (0, .ref (g.1 0)), (5, .long v42)]) C dX3_laysOdds_185 rfl rfl (by decide) rfl ?_
      refine g_lload C dX3_laysOdds_186 1 rfl ?_
      refine g_lstore (i := 5) (lv' := [(5, .long v48), (3, .long v42), (7, .long v48), (0, .ref (g.1 0))]) C dX3_laysOdds_188 rfl (by decide) rfl ?_
      refine g_goto 170 C dX3_laysOdds_190 rfl ?_
      exact g_sub [3, 1, 0] rfl (ih _ _ _ hf)
theorem w_tw_laysOdds {l : Launch} {n : Nat} {s sF : Sto} {a1 : Int32} {a2 : Int32} {rF : Unit} (hf : tw_laysOdds n s a1 a2 = some (rF, sF)) : Ct tCfg l yX3_laysOdds cX3_laysOdds 9 none { frames := 2, cells := 0, slots := 0, locals := 34 } (fun g => [.ref (g.1 0), .int a1, .int a2]) s sF (fun _ => none) := by
  refine Ct_of pn_X3 (fun g => Nat.le_of_ble_eq_true rfl) (fun g A X C E hX => ?_)
  rw [tw_laysOdds] at hf
  show TG tCfg g A 9 X 0 0 s 0 [(0, .ref (g.1 0)), (1, .int a1), (2, .int a2)] []
  refine g_aload_n C dX3_laysOdds_0 0 rfl ?_
  refine g_aload_n C dX3_laysOdds_1 0 rfl ?_
  refine g_iload_n C dX3_laysOdds_2 1 rfl ?_
  refine g_bipush C dX3_laysOdds_3 kb_9 ?_
  refine bd_n hf (fun r1 s2 h3 hf => ?_)
  refine g_callV0 (As := [.int a1, .int (9 : Int32)]) (rest := [.ref (g.1 0)]) (stk := [.int r1, .ref (g.1 0)]) C (w_tw_own h3) hX oT0 rfl rfl q1265 q1267 qs63 q91 q1268 mdX3_own rfl ⟨Nat.le_of_ble_eq_true rfl, Nat.le_of_ble_eq_true rfl⟩ (Nat.le_of_ble_eq_true rfl) dX3_laysOdds_5 rfl ?_
  refine g_iload_n C dX3_laysOdds_8 2 rfl ?_
  refine vl_n hf (fun j5 hj5 hf => ?_)
  have Hj5 : ∀ (t4 : Int64), j5 t4 = some (rF, sF) → TG tCfg g A 9 X 0 0 s2 17 [(0, .ref (g.1 0)), (1, .int a1), (2, .int a2)] [.long t4, .ref (g.1 0)] := by
    clear hf; subst hj5
    intro t4 hf
    refine vl_n hf (fun s6 hs6 hf => ?_)
    refine g_putJ C oT0 pX3_306 hs6 dX3_laysOdds_17 ?_
    refine g_aload_n C dX3_laysOdds_20 0 rfl ?_
    refine g_lconst C dX3_laysOdds_21 kl_1 ?_
    refine vl_n hf (fun s7 hs7 hf => ?_)
    refine g_putJ C oT0 pX3_310 hs7 dX3_laysOdds_22 ?_
    refine g_iconst C dX3_laysOdds_25 kc_0 ?_
    refine g_istore_n (i := 3) (lv' := [(3, .int (0 : Int32)), (0, .ref (g.1 0)), (1, .int a1), (2, .int a2)]) C dX3_laysOdds_26 rfl rfl (by decide) rfl ?_
    refine g_sub [1, 2, 3, 0] rfl (w_tw_laysOdds_L27 C E hX (fun s12 hf => ?_) _ _ _ hf)
    refine g_aload_n C dX3_laysOdds_145 0 rfl ?_
    refine g_getJ C oT0 fX3_306 dX3_laysOdds_146 ?_
    refine g_lconst C dX3_laysOdds_149 kl_0 ?_
    refine g_lcmp C dX3_laysOdds_150 ?_
    refine vl_n hf (fun j37 hj37 hf => ?_)
    have Hj37 : ∀ (s36 : Sto), j37 s36 = some (rF, sF) → TG tCfg g A 9 X 0 0 s36 159 [(0, .ref (g.1 0))] [] := by
      clear hf; subst hj37
      intro s36 hf
      refine g_aload_n C dX3_laysOdds_159 0 rfl ?_
      refine g_getJ C oT0 fX3_306 dX3_laysOdds_160 ?_
      refine vl_n hf (fun v38 hv38 hf => ?_)
      refine g_lstore_n (i := 3) (lv' := [(3, .long v38), (0, .ref (g.1 0))]) C dX3_laysOdds_163 rfl hv38 (by decide) rfl ?_
      refine g_aload_n C dX3_laysOdds_164 1 rfl ?_
      refine g_getJ C oT0 fX3_310 dX3_laysOdds_165 ?_
      refine vl_n hf (fun v39 hv39 hf => ?_)
      refine g_lstore (i := 5) (lv' := [(5, .long v39), (3, .long v38), (0, .ref (g.1 0))]) C dX3_laysOdds_168 hv39 (by decide) rfl ?_
      refine g_sub [2, 1, 0] rfl (w_tw_laysOdds_L170 C E hX (fun s43 v44 hf => ?_) _ _ _ _ hf)
      refine g_aload_n C dX3_laysOdds_193 0 rfl ?_
      refine g_dup C dX3_laysOdds_194 rfl ?_
      refine g_getJ C oT0 fX3_306 dX3_laysOdds_195 ?_
      refine g_lload_n C dX3_laysOdds_198 1 rfl ?_
      refine gd_n hf (fun c49 hf => ?_)
      refine g_ldiv C dX3_laysOdds_199 c49 ?_
      refine vl_n hf (fun s50 hs50 hf => ?_)
      refine g_putJ C oT0 pX3_306 hs50 dX3_laysOdds_200 ?_
      refine g_aload_n C dX3_laysOdds_203 0 rfl ?_
      refine g_dup C dX3_laysOdds_204 rfl ?_
      refine g_getJ C oT0 fX3_310 dX3_laysOdds_205 ?_
      refine g_lload_n C dX3_laysOdds_208 1 rfl ?_
      refine g_ldiv C dX3_laysOdds_209 c49 ?_
      refine vl_n hf (fun s51 hs51 hf => ?_)
      refine g_putJ C oT0 pX3_310 hs51 dX3_laysOdds_210 ?_
      exact g_vret C E rfl (re_s hf) ⟨Nat.zero_le _, Nat.zero_le _⟩ dX3_laysOdds_213
    clear hj37
    refine g_if_ne 159 C dX3_laysOdds_151 rfl (fun c52 => ?_) (fun c52 => ?_)
    · replace hf := if_t c52 hf
      refine g_aload_n C dX3_laysOdds_154 0 rfl ?_
      refine g_lconst C dX3_laysOdds_155 kl_1 ?_
      refine vl_n hf (fun s53 hs53 hf => ?_)
      refine g_putJ C oT0 pX3_310 hs53 dX3_laysOdds_156 ?_
      exact g_sub [0] rfl (Hj37 _ hf)
    · replace hf := if_f c52 hf
      exact g_sub [0] rfl (Hj37 _ hf)
  clear hj5
  refine g_icmp_ne 16 C dX3_laysOdds_9 rfl (fun c54 => ?_) (fun c54 => ?_)
  · replace hf := if_t c54 hf
    refine g_lconst C dX3_laysOdds_12 kl_1 ?_
    refine g_goto 17 C dX3_laysOdds_13 rfl ?_
    exact g_sub [0, 1, 2] rfl (Hj5 _ hf)
  · replace hf := if_f c54 hf
    refine g_lconst C dX3_laysOdds_16 kl_0 ?_
    exact g_sub [0, 1, 2] rfl (Hj5 _ hf)
def tw_odds (n : Nat) (s : Sto) (a1 : Int32) (a2 : Int32) : Option (Int64 × Sto) :=
  bd (tw_takesRow n s) fun r1 s2 =>
  if r1 = (-1 : Int32) then
    some ((-1 : Int64), s2)
  else
    bd (tw_isHouse n s2 a1) fun r5 s6 =>
    if r5 = true then
      bd (tw_isIn n s6 a2 (0 : Int32) (1 : Int32)) fun r9 s10 =>
      if r9 = true then
        bd (tw_laysOdds n s10 a1 r1) fun r13 s14 =>
        if a2 = 0 then
          some ((s14.2.1 0 33), s14)
        else
          some ((s14.2.1 0 34), s14)
      else
        some ((-1 : Int64), s10)
    else
      some ((-1 : Int64), s6)
theorem w_tw_odds {l : Launch} {n : Nat} {s sF : Sto} {a1 : Int32} {a2 : Int32} {rF : Int64} (hf : tw_odds n s a1 a2 = some (rF, sF)) : Ct tCfg l yX3_odds cX3_odds 4 (some .long) { frames := 3, cells := 0, slots := 0, locals := 62 } (fun g => [.ref (g.1 0), .int a1, .int a2]) s sF (fun _ => some (.long rF)) := by
  refine Ct_of pn_X3 (fun g => Nat.le_of_ble_eq_true rfl) (fun g A X C E hX => ?_)
  rw [tw_odds] at hf
  show TG tCfg g A 4 X 0 0 s 0 [(0, .ref (g.1 0)), (1, .int a1), (2, .int a2)] []
  refine g_aload_n C dX3_odds_0 0 rfl ?_
  refine bd_n hf (fun r1 s2 h3 hf => ?_)
  refine g_callV0 (As := []) (rest := []) (stk := [.int r1]) C (w_tw_takesRow h3) hX oT0 rfl rfl q1248 q1250 qs60 q91 q1251 mdX3_takesRow rfl ⟨Nat.le_of_ble_eq_true rfl, Nat.le_of_ble_eq_true rfl⟩ (Nat.le_of_ble_eq_true rfl) dX3_odds_1 rfl ?_
  refine g_istore_n (i := 3) (lv' := [(3, .int r1), (0, .ref (g.1 0)), (1, .int a1), (2, .int a2)]) C dX3_odds_4 rfl rfl (by decide) rfl ?_
  refine g_iload_n C dX3_odds_5 0 rfl ?_
  refine g_iconst C dX3_odds_6 kc_m1 ?_
  refine g_icmp_eq 27 C dX3_odds_7 rfl (fun c4 => ?_) (fun c4 => ?_)
  · replace hf := if_t c4 hf
    refine g_ldc2 C dX3_odds_27 q1429 ?_
    exact g_lret C E (re_l hf) (re_s hf) ⟨Nat.zero_le _, Nat.zero_le _⟩ dX3_odds_30
  · replace hf := if_f c4 hf
    refine g_aload_n C dX3_odds_10 1 rfl ?_
    refine g_iload_n C dX3_odds_11 2 rfl ?_
    refine bd_n hf (fun r5 s6 h7 hf => ?_)
    refine g_callV0 (As := [.int a1]) (rest := []) (stk := [.int (bI r5)]) C (w_tw_isHouse h7) hX oT0 rfl rfl q1260 q1262 qs62 q91 q1263 mdX3_isHouse rfl ⟨Nat.le_of_ble_eq_true rfl, Nat.le_of_ble_eq_true rfl⟩ (Nat.le_of_ble_eq_true rfl) dX3_odds_12 rfl ?_
    refine g_ifZ_eq 27 C dX3_odds_15 rfl (fun c8 => ?_) (fun c8 => ?_)
    · replace hf := if_t c8 hf
      refine g_iload_n C dX3_odds_18 3 rfl ?_
      refine g_iconst C dX3_odds_19 kc_0 ?_
      refine g_iconst C dX3_odds_20 kc_1 ?_
      refine bd_n hf (fun r9 s10 h11 hf => ?_)
      refine g_callS0 (As := [.int a2, .int (0 : Int32), .int (1 : Int32)]) (rest := []) (stk := [.int (bI r9)]) C (w_tw_isIn h11) hX rfl q1146 q1147 q91 q1148 msX3_isIn rfl ⟨Nat.le_of_ble_eq_true rfl, Nat.le_of_ble_eq_true rfl⟩ (Nat.le_of_ble_eq_true rfl) dX3_odds_21 rfl ?_
      refine g_ifZ_ne 31 C dX3_odds_24 rfl (fun c12 => ?_) (fun c12 => ?_)
      · replace hf := if_t c12 hf
        refine g_aload_n C dX3_odds_31 1 rfl ?_
        refine g_iload_n C dX3_odds_32 2 rfl ?_
        refine g_iload_n C dX3_odds_33 0 rfl ?_
        refine bd_n hf (fun r13 s14 h15 hf => ?_)
        refine g_callV0 (As := [.int a1, .int r1]) (rest := []) (stk := []) C (w_tw_laysOdds h15) hX oT0 rfl rfl q1430 q1432 qs86 q91 q1433 mdX3_laysOdds rfl ⟨Nat.le_of_ble_eq_true rfl, Nat.le_of_ble_eq_true rfl⟩ (Nat.le_of_ble_eq_true rfl) dX3_odds_34 rfl ?_
        refine g_iload_n C dX3_odds_37 3 rfl ?_
        refine g_if_ne 48 C dX3_odds_38 rfl (fun c16 => ?_) (fun c16 => ?_)
        · replace hf := if_t c16 hf
          refine g_aload_n C dX3_odds_41 1 rfl ?_
          refine g_getJ C oT0 fX3_306 dX3_odds_42 ?_
          refine g_goto 52 C dX3_odds_45 rfl ?_
          exact g_lret C E (re_l hf) (re_s hf) ⟨Nat.zero_le _, Nat.zero_le _⟩ dX3_odds_52
        · replace hf := if_f c16 hf
          refine g_aload_n C dX3_odds_48 1 rfl ?_
          refine g_getJ C oT0 fX3_310 dX3_odds_49 ?_
          exact g_lret C E (re_l hf) (re_s hf) ⟨Nat.zero_le _, Nat.zero_le _⟩ dX3_odds_52
      · replace hf := if_f c12 hf
        refine g_ldc2 C dX3_odds_27 q1429 ?_
        exact g_lret C E (re_l hf) (re_s hf) ⟨Nat.zero_le _, Nat.zero_le _⟩ dX3_odds_30
    · replace hf := if_f c8 hf
      refine g_ldc2 C dX3_odds_27 q1429 ?_
      exact g_lret C E (re_l hf) (re_s hf) ⟨Nat.zero_le _, Nat.zero_le _⟩ dX3_odds_30
def tw_whose_L36 (n : Nat) (v10 : Int32) (v11 : Int32) (k20 : Sto → Int32 → Bool → Option (Int32 × Sto)) : Nat → Sto → Int32 → Bool → Int64 → Int64 → Int32 → Option (Int32 × Sto)
  | 0, _, _, _, _, _, _ => none
  | k + 1, s9, v12, v13, v14, v15, v16 =>
    gd (inb (4 : Int32) 1480) <|
    if (rd s9 1 (4 : Int32)) ≤ v16 then
      k20 s9 v12 v13
    else
      bd (tw_laysOdds n s9 v16 v11) fun r23 s24 =>
      vl (fun (v26 : Int32) (v27 : Bool) (v28 : Int64) (v29 : Int64) =>
        tw_whose_L36 n v10 v11 k20 k s24 v26 v27 v28 v29 (v16 + (1 : Int32))) fun j30 =>
      if (lg_cmp (s24.2.1 0 33) (0 : Int64)) = 0 then
        j30 v12 v13 v14 v15
      else
        if 0 ≤ (lg_cmp ((s24.2.1 0 33) * v15) (v14 * (s24.2.1 0 34))) then
          vl (fun (t33 : Bool) =>
            vl (fun (t35 : Int32) =>
              vl (s24.2.1 0 33) fun v37 =>
              vl (s24.2.1 0 34) fun v38 =>
              j30 t35 t33 v37 v38) fun j36 =>
            if t33 = true then
              j36 v16
            else
              j36 v12) fun j34 =>
          if (lg_cmp ((s24.2.1 0 33) * v15) (v14 * (s24.2.1 0 34))) ≤ 0 then
            j34 false
          else
            j34 true
        else
          j30 v12 v13 v14 v15
def tw_whose (n : Nat) (s : Sto) (a1 : Int32) : Option (Int32 × Sto) :=
  bd (tw_takesRow n s) fun r1 s2 =>
  if r1 = (-1 : Int32) then
    some ((-2 : Int32), s2)
  else
    bd (tw_isIn n s2 a1 (0 : Int32) (1 : Int32)) fun r5 s6 =>
    if r5 = true then
      tw_whose_L36 n a1 r1
          (fun (s17 : Sto) (v18 : Int32) (v19 : Bool) =>
            if a1 = 0 then
              some (v18, s17)
            else
              if v19 = true then
                some ((1 : Int32), s17)
              else
                some ((0 : Int32), s17))
          n s6 (-1 : Int32) false (0 : Int64) (1 : Int64) (0 : Int32)
    else
      some ((-2 : Int32), s6)
theorem w_tw_whose_L36  {l : Launch} {n : Nat} {v10 : Int32} {v11 : Int32} {k20 : Sto → Int32 → Bool → Option (Int32 × Sto)} {g : Gam} {A : Nat → Prop} {X : FX} {si sF : Sto} {rF : Int32} (C : CX tCfg g A 10 X cX3_whose RX3 (some .int) 3 62) (E : EX tCfg g A X si sF (some (.int rF)) 0 0) (hX : X.2.1 = l) (Hk20 : ∀ (s17 : Sto) (v18 : Int32) (v19 : Bool), k20 s17 v18 v19 = some (rF, sF) → TG tCfg g A 10 X 0 0 s17 139 [(1, .int v10), (3, .int v18), (4, .int (bI v19))] []) : ∀ (k : Nat) (s9 : Sto) (v12 : Int32) (v13 : Bool) (v14 : Int64) (v15 : Int64) (v16 : Int32), tw_whose_L36 n v10 v11 k20 k s9 v12 v13 v14 v15 v16 = some (rF, sF) → TG tCfg g A 10 X 0 0 s9 36 [(0, .ref (g.1 0)), (1, .int v10), (2, .int v11), (3, .int v12), (4, .int (bI v13)), (5, .long v14), (7, .long v15), (9, .int v16)] [] := by
  intro k
  induction k with
  | zero => intro s9 v12 v13 v14 v15 v16 hf; rw [tw_whose_L36] at hf; cases hf
  | succ k ih =>
    intro s9 v12 v13 v14 v15 v16 hf
    rw [tw_whose_L36] at hf
    refine g_iload C dX3_whose_36 7 rfl ?_
    refine g_aload_n C dX3_whose_38 0 rfl ?_
    refine g_getS 1 C oT0 fX3_7 rfl dX3_whose_39 ?_
    refine g_iconst C dX3_whose_42 kc_4 ?_
    refine gd_n hf (fun c21 hf => ?_)
    refine g_iald C aT1 rfl c21 dX3_whose_43 ?_
    refine g_icmp_ge 139 C dX3_whose_44 rfl (fun c22 => ?_) (fun c22 => ?_)
    · replace hf := if_t c22 hf
      exact g_sub [1, 3, 4] rfl (Hk20 _ _ _ hf)
    · replace hf := if_f c22 hf
      refine g_aload_n C dX3_whose_47 0 rfl ?_
      refine g_iload C dX3_whose_48 7 rfl ?_
      refine g_iload_n C dX3_whose_50 2 rfl ?_
      refine bd_n hf (fun r23 s24 h25 hf => ?_)
      refine g_callV0 (As := [.int v16, .int v11]) (rest := []) (stk := []) C (w_tw_laysOdds h25) hX oT0 rfl rfl q1430 q1432 qs86 q91 q1433 mdX3_laysOdds rfl ⟨Nat.le_of_ble_eq_true rfl, Nat.le_of_ble_eq_true rfl⟩ (Nat.le_of_ble_eq_true rfl) dX3_whose_51 rfl ?_
      refine g_aload_n C dX3_whose_54 0 rfl ?_
      refine g_getJ C oT0 fX3_306 dX3_whose_55 ?_
      refine g_lconst C dX3_whose_58 kl_0 ?_
      refine g_lcmp C dX3_whose_59 ?_
      refine vl_n hf (fun j30 hj30 hf => ?_)
      have Hj30 : ∀ (v26 : Int32) (v27 : Bool) (v28 : Int64) (v29 : Int64), j30 v26 v27 v28 v29 = some (rF, sF) → TG tCfg g A 10 X 0 0 s24 133 [(0, .ref (g.1 0)), (1, .int v10), (2, .int v11), (3, .int v26), (4, .int (bI v27)), (5, .long v28), (7, .long v29), (9, .int v16)] [] := by
        clear hf; subst hj30
        intro v26 v27 v28 v29 hf
        refine g_iinc (q := 7) (lv' := [(9, .int (v16 + (1 : Int32))), (0, .ref (g.1 0)), (1, .int v10), (2, .int v11), (3, .int v26), (4, .int (bI v27)), (5, .long v28), (7, .long v29)]) C dX3_whose_133 rfl kc_1 (by decide) rfl ?_
        refine g_goto 36 C dX3_whose_136 rfl ?_
        exact g_sub [1, 2, 3, 4, 5, 6, 7, 0] rfl (ih _ _ _ _ _ _ hf)
      clear hj30
      refine g_if_eq 133 C dX3_whose_60 rfl (fun c31 => ?_) (fun c31 => ?_)
      · replace hf := if_t c31 hf
        exact g_sub [0, 1, 2, 3, 4, 5, 6, 7] rfl (Hj30 _ _ _ _ hf)
      · replace hf := if_f c31 hf
        refine g_aload_n C dX3_whose_63 0 rfl ?_
        refine g_getJ C oT0 fX3_306 dX3_whose_64 ?_
        refine g_lload C dX3_whose_67 6 rfl ?_
        refine g_lmul C dX3_whose_69 ?_
        refine g_lload C dX3_whose_70 5 rfl ?_
        refine g_aload_n C dX3_whose_72 0 rfl ?_
        refine g_getJ C oT0 fX3_310 dX3_whose_73 ?_
        refine g_lmul C dX3_whose_76 ?_
        refine g_lcmp C dX3_whose_77 ?_
        refine g_if_ge 84 C dX3_whose_78 rfl (fun c32 => ?_) (fun c32 => ?_)
        · replace hf := if_t c32 hf
          refine g_aload_n C dX3_whose_84 0 rfl ?_
          refine g_getJ C oT0 fX3_306 dX3_whose_85 ?_
          refine g_lload C dX3_whose_88 6 rfl ?_
          refine g_lmul C dX3_whose_90 ?_
          refine g_lload C dX3_whose_91 5 rfl ?_
          refine g_aload_n C dX3_whose_93 0 rfl ?_
          refine g_getJ C oT0 fX3_310 dX3_whose_94 ?_
          refine g_lmul C dX3_whose_97 ?_
          refine g_lcmp C dX3_whose_98 ?_
          refine vl_n hf (fun j34 hj34 hf => ?_)
          have Hj34 : ∀ (t33 : Bool), j34 t33 = some (rF, sF) → TG tCfg g A 10 X 0 0 s24 107 [(0, .ref (g.1 0)), (1, .int v10), (2, .int v11), (3, .int v12), (9, .int v16)] [.int (bI t33)] := by
            clear hf; subst hj34
            intro t33 hf
            refine g_istore (i := 4) (lv' := [(4, .int (bI t33)), (0, .ref (g.1 0)), (1, .int v10), (2, .int v11), (3, .int v12), (9, .int v16)]) C dX3_whose_107 rfl (by decide) rfl ?_
            refine g_iload C dX3_whose_109 0 rfl ?_
            refine vl_n hf (fun j36 hj36 hf => ?_)
            have Hj36 : ∀ (t35 : Int32), j36 t35 = some (rF, sF) → TG tCfg g A 10 X 0 0 s24 120 [(0, .ref (g.1 0)), (1, .int v10), (2, .int v11), (4, .int (bI t33)), (9, .int v16)] [.int t35] := by
              clear hf; subst hj36
              intro t35 hf
              refine g_istore_n (i := 3) (lv' := [(3, .int t35), (0, .ref (g.1 0)), (1, .int v10), (2, .int v11), (4, .int (bI t33)), (9, .int v16)]) C dX3_whose_120 rfl rfl (by decide) rfl ?_
              refine g_aload_n C dX3_whose_121 1 rfl ?_
              refine g_getJ C oT0 fX3_306 dX3_whose_122 ?_
              refine vl_n hf (fun v37 hv37 hf => ?_)
              refine g_lstore (i := 5) (lv' := [(5, .long v37), (3, .int t35), (0, .ref (g.1 0)), (1, .int v10), (2, .int v11), (4, .int (bI t33)), (9, .int v16)]) C dX3_whose_125 hv37 (by decide) rfl ?_
              refine g_aload_n C dX3_whose_127 2 rfl ?_
              refine g_getJ C oT0 fX3_310 dX3_whose_128 ?_
              refine vl_n hf (fun v38 hv38 hf => ?_)
              refine g_lstore (i := 7) (lv' := [(7, .long v38), (5, .long v37), (3, .int t35), (0, .ref (g.1 0)), (1, .int v10), (2, .int v11), (4, .int (bI t33)), (9, .int v16)]) C dX3_whose_131 hv38 (by decide) rfl ?_
              exact g_sub [3, 4, 5, 2, 6, 1, 0, 7] rfl (Hj30 _ _ _ _ hf)
            clear hj36
            refine g_ifZ_eq 119 C dX3_whose_111 rfl (fun c39 => ?_) (fun c39 => ?_)
            · replace hf := if_t c39 hf
              refine g_iload C dX3_whose_114 5 rfl ?_
              refine g_goto 120 C dX3_whose_116 rfl ?_
              exact g_sub [1, 2, 3, 0, 5] rfl (Hj36 _ hf)
            · replace hf := if_f c39 hf
              refine g_iload_n C dX3_whose_119 4 rfl ?_
              exact g_sub [1, 2, 3, 0, 5] rfl (Hj36 _ hf)
          clear hj34
          refine g_if_le 106 C dX3_whose_99 rfl (fun c40 => ?_) (fun c40 => ?_)
          · replace hf := if_t c40 hf
            refine g_iconst C dX3_whose_106 kc_0 ?_
            exact g_sub [0, 1, 2, 3, 7] rfl (Hj34 _ hf)
          · replace hf := if_f c40 hf
            refine g_iconst C dX3_whose_102 kc_1 ?_
            refine g_goto 107 C dX3_whose_103 rfl ?_
            exact g_sub [0, 1, 2, 3, 7] rfl (Hj34 _ hf)
        · replace hf := if_f c32 hf
          refine g_goto 133 C dX3_whose_81 rfl ?_
          exact g_sub [0, 1, 2, 3, 4, 5, 6, 7] rfl (Hj30 _ _ _ _ hf)
theorem w_tw_whose {l : Launch} {n : Nat} {s sF : Sto} {a1 : Int32} {rF : Int32} (hf : tw_whose n s a1 = some (rF, sF)) : Ct tCfg l yX3_whose cX3_whose 10 (some .int) { frames := 3, cells := 0, slots := 0, locals := 62 } (fun g => [.ref (g.1 0), .int a1]) s sF (fun _ => some (.int rF)) := by
  refine Ct_of pn_X3 (fun g => Nat.le_of_ble_eq_true rfl) (fun g A X C E hX => ?_)
  rw [tw_whose] at hf
  show TG tCfg g A 10 X 0 0 s 0 [(0, .ref (g.1 0)), (1, .int a1)] []
  refine g_aload_n C dX3_whose_0 0 rfl ?_
  refine bd_n hf (fun r1 s2 h3 hf => ?_)
  refine g_callV0 (As := []) (rest := []) (stk := [.int r1]) C (w_tw_takesRow h3) hX oT0 rfl rfl q1248 q1250 qs60 q91 q1251 mdX3_takesRow rfl ⟨Nat.le_of_ble_eq_true rfl, Nat.le_of_ble_eq_true rfl⟩ (Nat.le_of_ble_eq_true rfl) dX3_whose_1 rfl ?_
  refine g_istore_n (i := 2) (lv' := [(2, .int r1), (0, .ref (g.1 0)), (1, .int a1)]) C dX3_whose_4 rfl rfl (by decide) rfl ?_
  refine g_iload_n C dX3_whose_5 0 rfl ?_
  refine g_iconst C dX3_whose_6 kc_m1 ?_
  refine g_icmp_eq 19 C dX3_whose_7 rfl (fun c4 => ?_) (fun c4 => ?_)
  · replace hf := if_t c4 hf
    refine g_bipush C dX3_whose_19 kb_m2 ?_
    exact g_iret C E rfl (re_i hf) (re_s hf) ⟨Nat.zero_le _, Nat.zero_le _⟩ dX3_whose_21
  · replace hf := if_f c4 hf
    refine g_iload_n C dX3_whose_10 2 rfl ?_
    refine g_iconst C dX3_whose_11 kc_0 ?_
    refine g_iconst C dX3_whose_12 kc_1 ?_
    refine bd_n hf (fun r5 s6 h7 hf => ?_)
    refine g_callS0 (As := [.int a1, .int (0 : Int32), .int (1 : Int32)]) (rest := []) (stk := [.int (bI r5)]) C (w_tw_isIn h7) hX rfl q1146 q1147 q91 q1148 msX3_isIn rfl ⟨Nat.le_of_ble_eq_true rfl, Nat.le_of_ble_eq_true rfl⟩ (Nat.le_of_ble_eq_true rfl) dX3_whose_13 rfl ?_
    refine g_ifZ_ne 22 C dX3_whose_16 rfl (fun c8 => ?_) (fun c8 => ?_)
    · replace hf := if_t c8 hf
      refine g_iconst C dX3_whose_22 kc_m1 ?_
      refine g_istore_n (i := 3) (lv' := [(3, .int (-1 : Int32)), (2, .int r1), (0, .ref (g.1 0)), (1, .int a1)]) C dX3_whose_23 rfl rfl (by decide) rfl ?_
      refine g_iconst C dX3_whose_24 kc_0 ?_
      refine g_istore (i := 4) (lv' := [(4, .int (0 : Int32)), (3, .int (-1 : Int32)), (2, .int r1), (0, .ref (g.1 0)), (1, .int a1)]) C dX3_whose_25 rfl (by decide) rfl ?_
      refine g_lconst C dX3_whose_27 kl_0 ?_
      refine g_lstore (i := 5) (lv' := [(5, .long (0 : Int64)), (4, .int (0 : Int32)), (3, .int (-1 : Int32)), (2, .int r1), (0, .ref (g.1 0)), (1, .int a1)]) C dX3_whose_28 rfl (by decide) rfl ?_
      refine g_lconst C dX3_whose_30 kl_1 ?_
      refine g_lstore (i := 7) (lv' := [(7, .long (1 : Int64)), (5, .long (0 : Int64)), (4, .int (0 : Int32)), (3, .int (-1 : Int32)), (2, .int r1), (0, .ref (g.1 0)), (1, .int a1)]) C dX3_whose_31 rfl (by decide) rfl ?_
      refine g_iconst C dX3_whose_33 kc_0 ?_
      refine g_istore (i := 9) (lv' := [(9, .int (0 : Int32)), (7, .long (1 : Int64)), (5, .long (0 : Int64)), (4, .int (0 : Int32)), (3, .int (-1 : Int32)), (2, .int r1), (0, .ref (g.1 0)), (1, .int a1)]) C dX3_whose_34 rfl (by decide) rfl ?_
      refine g_sub [6, 7, 5, 4, 3, 2, 1, 0] rfl (w_tw_whose_L36 C E hX (fun s17 v18 v19 hf => ?_) _ _ _ _ _ _ _ hf)
      refine g_iload_n C dX3_whose_139 0 rfl ?_
      refine g_if_ne 147 C dX3_whose_140 rfl (fun c41 => ?_) (fun c41 => ?_)
      · replace hf := if_t c41 hf
        refine g_iload_n C dX3_whose_143 1 rfl ?_
        refine g_goto 157 C dX3_whose_144 rfl ?_
        exact g_iret C E rfl (re_i hf) (re_s hf) ⟨Nat.zero_le _, Nat.zero_le _⟩ dX3_whose_157
      · replace hf := if_f c41 hf
        refine g_iload C dX3_whose_147 2 rfl ?_
        refine g_ifZ_eq 156 C dX3_whose_149 rfl (fun c42 => ?_) (fun c42 => ?_)
        · replace hf := if_t c42 hf
          refine g_iconst C dX3_whose_152 kc_1 ?_
          refine g_goto 157 C dX3_whose_153 rfl ?_
          exact g_iret C E rfl (re_i hf) (re_s hf) ⟨Nat.zero_le _, Nat.zero_le _⟩ dX3_whose_157
        · replace hf := if_f c42 hf
          refine g_iconst C dX3_whose_156 kc_0 ?_
          exact g_iret C E rfl (re_i hf) (re_s hf) ⟨Nat.zero_le _, Nat.zero_le _⟩ dX3_whose_157
    · replace hf := if_f c8 hf
      refine g_bipush C dX3_whose_19 kb_m2 ?_
      exact g_iret C E rfl (re_i hf) (re_s hf) ⟨Nat.zero_le _, Nat.zero_le _⟩ dX3_whose_21
def tw_owe (n : Nat) (s : Sto) (a1 : Int32) (a2 : Int32) (a3 : Int32) : Option (Bool × Sto) :=
  bd (tw_isHouse n s a1) fun r1 s2 =>
  if r1 = true then
    bd (tw_isHouse n s2 a2) fun r5 s6 =>
    if r5 = true then
      if a1 = a2 then
        some (false, s6)
      else
        bd (tw_isIn n s6 a3 (-99999 : Int32) (99999 : Int32)) fun r10 s11 =>
        if r10 = true then
          gd (inb (((180 : Int32) + ((9 : Int32) * a1)) + a2) 1480) <|
          vl (wr s11 1 (((180 : Int32) + ((9 : Int32) * a1)) + a2) ((rd s11 1 (((180 : Int32) + ((9 : Int32) * a1)) + a2)) + a3)) fun s15 =>
          some (true, s15)
        else
          some (false, s11)
    else
      some (false, s6)
  else
    some (false, s2)
theorem w_tw_owe {l : Launch} {n : Nat} {s sF : Sto} {a1 : Int32} {a2 : Int32} {a3 : Int32} {rF : Bool} (hf : tw_owe n s a1 a2 a3 = some (rF, sF)) : Ct tCfg l yX3_owe cX3_owe 4 (some .boolean) { frames := 3, cells := 0, slots := 0, locals := 55 } (fun g => [.ref (g.1 0), .int a1, .int a2, .int a3]) s sF (fun _ => some (.int (bI rF))) := by
  refine Ct_of pn_X3 (fun g => Nat.le_of_ble_eq_true rfl) (fun g A X C E hX => ?_)
  rw [tw_owe] at hf
  show TG tCfg g A 4 X 0 0 s 0 [(0, .ref (g.1 0)), (1, .int a1), (2, .int a2), (3, .int a3)] []
  refine g_aload_n C dX3_owe_0 0 rfl ?_
  refine g_iload_n C dX3_owe_1 1 rfl ?_
  refine bd_n hf (fun r1 s2 h3 hf => ?_)
  refine g_callV0 (As := [.int a1]) (rest := []) (stk := [.int (bI r1)]) C (w_tw_isHouse h3) hX oT0 rfl rfl q1260 q1262 qs62 q91 q1263 mdX3_isHouse rfl ⟨Nat.le_of_ble_eq_true rfl, Nat.le_of_ble_eq_true rfl⟩ (Nat.le_of_ble_eq_true rfl) dX3_owe_2 rfl ?_
  refine g_ifZ_eq 33 C dX3_owe_5 rfl (fun c4 => ?_) (fun c4 => ?_)
  · replace hf := if_t c4 hf
    refine g_aload_n C dX3_owe_8 0 rfl ?_
    refine g_iload_n C dX3_owe_9 2 rfl ?_
    refine bd_n hf (fun r5 s6 h7 hf => ?_)
    refine g_callV0 (As := [.int a2]) (rest := []) (stk := [.int (bI r5)]) C (w_tw_isHouse h7) hX oT0 rfl rfl q1260 q1262 qs62 q91 q1263 mdX3_isHouse rfl ⟨Nat.le_of_ble_eq_true rfl, Nat.le_of_ble_eq_true rfl⟩ (Nat.le_of_ble_eq_true rfl) dX3_owe_10 rfl ?_
    refine g_ifZ_eq 33 C dX3_owe_13 rfl (fun c8 => ?_) (fun c8 => ?_)
    · replace hf := if_t c8 hf
      refine g_iload_n C dX3_owe_16 1 rfl ?_
      refine g_iload_n C dX3_owe_17 2 rfl ?_
      refine g_icmp_eq 33 C dX3_owe_18 rfl (fun c9 => ?_) (fun c9 => ?_)
      · replace hf := if_t c9 hf
        refine g_iconst C dX3_owe_33 kc_0 ?_
        exact g_iret (v := bI false) C E (bI_nar _) (re_z hf) (re_s hf) ⟨Nat.zero_le _, Nat.zero_le _⟩ dX3_owe_34
      · replace hf := if_f c9 hf
        refine g_iload_n C dX3_owe_21 3 rfl ?_
        refine g_ldcw C dX3_owe_22 q1442 ?_
        refine g_ldc C dX3_owe_25 q1264 ?_
        refine bd_n hf (fun r10 s11 h12 hf => ?_)
        refine g_callS0 (As := [.int a3, .int (-99999 : Int32), .int (99999 : Int32)]) (rest := []) (stk := [.int (bI r10)]) C (w_tw_isIn h12) hX rfl q1146 q1147 q91 q1148 msX3_isIn rfl ⟨Nat.le_of_ble_eq_true rfl, Nat.le_of_ble_eq_true rfl⟩ (Nat.le_of_ble_eq_true rfl) dX3_owe_27 rfl ?_
        refine g_ifZ_ne 35 C dX3_owe_30 rfl (fun c13 => ?_) (fun c13 => ?_)
        · replace hf := if_t c13 hf
          refine g_aload_n C dX3_owe_35 0 rfl ?_
          refine g_getS 1 C oT0 fX3_7 rfl dX3_owe_36 ?_
          refine g_sipush C dX3_owe_39 ks_180 ?_
          refine g_bipush C dX3_owe_42 kb_9 ?_
          refine g_iload_n C dX3_owe_44 1 rfl ?_
          refine g_imul C dX3_owe_45 ?_
          refine g_iadd C dX3_owe_46 ?_
          refine g_iload_n C dX3_owe_47 2 rfl ?_
          refine g_iadd C dX3_owe_48 ?_
          refine g_dup2 C dX3_owe_49 rfl rfl ?_
          refine gd_n hf (fun c14 hf => ?_)
          refine g_iald C aT1 rfl c14 dX3_owe_50 ?_
          refine g_iload_n C dX3_owe_51 3 rfl ?_
          refine g_iadd C dX3_owe_52 ?_
          refine vl_n hf (fun s15 hs15 hf => ?_)
          refine g_iast C aT1 rfl c14 hs15 dX3_owe_53 ?_
          refine g_iconst C dX3_owe_54 kc_1 ?_
          exact g_iret (v := bI true) C E (bI_nar _) (re_z hf) (re_s hf) ⟨Nat.zero_le _, Nat.zero_le _⟩ dX3_owe_55
        · replace hf := if_f c13 hf
          refine g_iconst C dX3_owe_33 kc_0 ?_
          exact g_iret (v := bI false) C E (bI_nar _) (re_z hf) (re_s hf) ⟨Nat.zero_le _, Nat.zero_le _⟩ dX3_owe_34
    · replace hf := if_f c8 hf
      refine g_iconst C dX3_owe_33 kc_0 ?_
      exact g_iret (v := bI false) C E (bI_nar _) (re_z hf) (re_s hf) ⟨Nat.zero_le _, Nat.zero_le _⟩ dX3_owe_34
  · replace hf := if_f c4 hf
    refine g_iconst C dX3_owe_33 kc_0 ?_
    exact g_iret (v := bI false) C E (bI_nar _) (re_z hf) (re_s hf) ⟨Nat.zero_le _, Nat.zero_le _⟩ dX3_owe_34
def tw_payments_L31 (n : Nat) (v12 : Int32) (v13 : Int32) (k20 : Sto → Int32 → Int32 → Option (Int32 × Sto)) : Nat → Sto → Int32 → Int32 → Int32 → Option (Int32 × Sto)
  | 0, _, _, _, _ => none
  | k + 1, s11, v14, v15, v16 =>
    if v12 ≤ v16 then
      k20 s11 v14 v15
    else
      vl (fun (s22 : Sto) (v23 : Int32) (v24 : Int32) =>
        tw_payments_L31 n v12 v13 k20 k s22 v23 v24 (v16 + (1 : Int32))) fun j25 =>
      if ((ishr v13 v16) &&& (1 : Int32)) = 0 then
        j25 s11 v14 v15
      else
        bd (tw_net n s11 v16) fun r27 s28 =>
        vl (v14 + r27) fun v30 =>
        gd (inb (v13 &&& ((ishl (1 : Int32) v16) ^^^ (-1 : Int32))) 512) <|
        vl (rd s28 17 (v13 &&& ((ishl (1 : Int32) v16) ^^^ (-1 : Int32)))) fun v32 =>
        vl (fun (t33 : Int32) =>
          j25 s28 v30 t33) fun j34 =>
        if v32 ≤ v15 then
          j34 v15
        else
          j34 v32
def tw_payments_L16 (n : Nat) (v6 : Int32) (k9 : Sto → Option (Int32 × Sto)) : Nat → Sto → Int32 → Option (Int32 × Sto)
  | 0, _, _ => none
  | k + 1, s5, v7 =>
    if (ishl (1 : Int32) v6) ≤ v7 then
      k9 s5
    else
      tw_payments_L31 n v6 v7
          (fun (s17 : Sto) (v18 : Int32) (v19 : Int32) =>
            vl (fun (t36 : Bool) =>
              gd (inb v7 512) <|
              vl (wr s17 17 v7 (v19 + (bI t36))) fun s39 =>
              tw_payments_L16 n v6 k9 k s39 (v7 + (1 : Int32))) fun j37 =>
            if v18 = 0 then
              j37 true
            else
              j37 false)
          n s5 (0 : Int32) (0 : Int32) (0 : Int32)
def tw_payments (n : Nat) (s : Sto) : Option (Int32 × Sto) :=
  gd (inb (4 : Int32) 1480) <|
  vl (rd s 1 (4 : Int32)) fun v2 =>
  gd (inb (0 : Int32) 512) <|
  vl (wr s 17 (0 : Int32) (0 : Int32)) fun s4 =>
  tw_payments_L16 n v2
      (fun (s8 : Sto) =>
        gd (inb ((ishl (1 : Int32) v2) - (1 : Int32)) 512) <|
        some ((v2 - (rd s8 17 ((ishl (1 : Int32) v2) - (1 : Int32)))), s8))
      n s4 (1 : Int32)
theorem w_tw_payments_L31  {l : Launch} {n : Nat} {v12 : Int32} {v13 : Int32} {k20 : Sto → Int32 → Int32 → Option (Int32 × Sto)} {g : Gam} {A : Nat → Prop} {X : FX} {si sF : Sto} {rF : Int32} (C : CX tCfg g A 7 X cX3_payments RX3 (some .int) 3 57) (E : EX tCfg g A X si sF (some (.int rF)) 0 0) (hX : X.2.1 = l) (Hk20 : ∀ (s17 : Sto) (v18 : Int32) (v19 : Int32), k20 s17 v18 v19 = some (rF, sF) → TG tCfg g A 7 X 0 0 s17 95 [(0, .ref (g.1 0)), (1, .int v12), (2, .int v13), (3, .int v18), (4, .int v19)] []) : ∀ (k : Nat) (s11 : Sto) (v14 : Int32) (v15 : Int32) (v16 : Int32), tw_payments_L31 n v12 v13 k20 k s11 v14 v15 v16 = some (rF, sF) → TG tCfg g A 7 X 0 0 s11 31 [(0, .ref (g.1 0)), (1, .int v12), (2, .int v13), (3, .int v14), (4, .int v15), (5, .int v16)] [] := by
  intro k
  induction k with
  | zero => intro s11 v14 v15 v16 hf; rw [tw_payments_L31] at hf; cases hf
  | succ k ih =>
    intro s11 v14 v15 v16 hf
    rw [tw_payments_L31] at hf
    refine g_iload C dX3_payments_31 5 rfl ?_
    refine g_iload_n C dX3_payments_33 1 rfl ?_
    refine g_icmp_ge 95 C dX3_payments_34 rfl (fun c21 => ?_) (fun c21 => ?_)
    · replace hf := if_t c21 hf
      exact g_sub [0, 1, 2, 3, 4] rfl (Hk20 _ _ _ hf)
    · replace hf := if_f c21 hf
      refine g_iload_n C dX3_payments_37 2 rfl ?_
      refine g_iload C dX3_payments_38 5 rfl ?_
      refine g_ishr C dX3_payments_40 ?_
      refine g_iconst C dX3_payments_41 kc_1 ?_
      refine g_iand C dX3_payments_42 ?_
      refine vl_n hf (fun j25 hj25 hf => ?_)
      have Hj25 : ∀ (s22 : Sto) (v23 : Int32) (v24 : Int32), j25 s22 v23 v24 = some (rF, sF) → TG tCfg g A 7 X 0 0 s22 89 [(0, .ref (g.1 0)), (1, .int v12), (2, .int v13), (3, .int v23), (4, .int v24), (5, .int v16)] [] := by
        clear hf; subst hj25
        intro s22 v23 v24 hf
        refine g_iinc (q := 5) (lv' := [(5, .int (v16 + (1 : Int32))), (0, .ref (g.1 0)), (1, .int v12), (2, .int v13), (3, .int v23), (4, .int v24)]) C dX3_payments_89 rfl kc_1 (by decide) rfl ?_
        refine g_goto 31 C dX3_payments_92 rfl ?_
        exact g_sub [1, 2, 3, 4, 5, 0] rfl (ih _ _ _ _ hf)
      clear hj25
      refine g_if_ne 49 C dX3_payments_43 rfl (fun c26 => ?_) (fun c26 => ?_)
      · replace hf := if_t c26 hf
        refine g_goto 89 C dX3_payments_46 rfl ?_
        exact g_sub [0, 1, 2, 3, 4, 5] rfl (Hj25 _ _ _ hf)
      · replace hf := if_f c26 hf
        refine g_iload_n C dX3_payments_49 3 rfl ?_
        refine g_aload_n C dX3_payments_50 0 rfl ?_
        refine g_iload C dX3_payments_51 5 rfl ?_
        refine bd_n hf (fun r27 s28 h29 hf => ?_)
        refine g_callV0 (As := [.int v16]) (rest := [.int v14]) (stk := [.int r27, .int v14]) C (w_tw_net h29) hX oT0 rfl rfl q1290 q1292 qs67 q91 q1293 mdX3_net rfl ⟨Nat.le_of_ble_eq_true rfl, Nat.le_of_ble_eq_true rfl⟩ (Nat.le_of_ble_eq_true rfl) dX3_payments_53 rfl ?_
        refine g_iadd C dX3_payments_56 ?_
        refine vl_n hf (fun v30 hv30 hf => ?_)
        refine g_istore_n (i := 3) (lv' := [(3, .int v30), (0, .ref (g.1 0)), (1, .int v12), (2, .int v13), (4, .int v15), (5, .int v16)]) C dX3_payments_57 rfl hv30 (by decide) rfl ?_
        refine g_aload_n C dX3_payments_58 1 rfl ?_
        refine g_getS 17 C oT0 fX3_63 rfl dX3_payments_59 ?_
        refine g_iload_n C dX3_payments_62 3 rfl ?_
        refine g_iconst C dX3_payments_63 kc_1 ?_
        refine g_iload C dX3_payments_64 5 rfl ?_
        refine g_ishl C dX3_payments_66 ?_
        refine g_iconst C dX3_payments_67 kc_m1 ?_
        refine g_ixor C dX3_payments_68 ?_
        refine g_iand C dX3_payments_69 ?_
        refine gd_n hf (fun c31 hf => ?_)
        refine g_iald C aT17 rfl c31 dX3_payments_70 ?_
        refine vl_n hf (fun v32 hv32 hf => ?_)
        refine g_istore (i := 6) (lv' := [(6, .int v32), (3, .int v30), (0, .ref (g.1 0)), (1, .int v12), (2, .int v13), (4, .int v15), (5, .int v16)]) C dX3_payments_71 hv32 (by decide) rfl ?_
        refine g_iload C dX3_payments_73 0 rfl ?_
        refine g_iload C dX3_payments_75 5 rfl ?_
        refine vl_n hf (fun j34 hj34 hf => ?_)
        have Hj34 : ∀ (t33 : Int32), j34 t33 = some (rF, sF) → TG tCfg g A 7 X 0 0 s28 87 [(0, .ref (g.1 0)), (1, .int v12), (2, .int v13), (3, .int v30), (5, .int v16)] [.int t33] := by
          clear hf; subst hj34
          intro t33 hf
          refine g_istore (i := 4) (lv' := [(4, .int t33), (0, .ref (g.1 0)), (1, .int v12), (2, .int v13), (3, .int v30), (5, .int v16)]) C dX3_payments_87 rfl (by decide) rfl ?_
          exact g_sub [1, 2, 3, 4, 0, 5] rfl (Hj25 _ _ _ hf)
        clear hj34
        refine g_icmp_le 85 C dX3_payments_77 rfl (fun c35 => ?_) (fun c35 => ?_)
        · replace hf := if_t c35 hf
          refine g_iload C dX3_payments_85 5 rfl ?_
          exact g_sub [2, 3, 4, 1, 6] rfl (Hj34 _ hf)
        · replace hf := if_f c35 hf
          refine g_iload C dX3_payments_80 0 rfl ?_
          refine g_goto 87 C dX3_payments_82 rfl ?_
          exact g_sub [2, 3, 4, 1, 6] rfl (Hj34 _ hf)
theorem w_tw_payments_L16  {l : Launch} {n : Nat} {v6 : Int32} {k9 : Sto → Option (Int32 × Sto)} {g : Gam} {A : Nat → Prop} {X : FX} {si sF : Sto} {rF : Int32} (C : CX tCfg g A 7 X cX3_payments RX3 (some .int) 3 57) (E : EX tCfg g A X si sF (some (.int rF)) 0 0) (hX : X.2.1 = l) (Hk9 : ∀ (s8 : Sto), k9 s8 = some (rF, sF) → TG tCfg g A 7 X 0 0 s8 119 [(0, .ref (g.1 0)), (1, .int v6)] []) : ∀ (k : Nat) (s5 : Sto) (v7 : Int32), tw_payments_L16 n v6 k9 k s5 v7 = some (rF, sF) → TG tCfg g A 7 X 0 0 s5 16 [(0, .ref (g.1 0)), (1, .int v6), (2, .int v7)] [] := by
  intro k
  induction k with
  | zero => intro s5 v7 hf; rw [tw_payments_L16] at hf; cases hf
  | succ k ih =>
    intro s5 v7 hf
    rw [tw_payments_L16] at hf
    refine g_iload_n C dX3_payments_16 2 rfl ?_
    refine g_iconst C dX3_payments_17 kc_1 ?_
    refine g_iload_n C dX3_payments_18 1 rfl ?_
    refine g_ishl C dX3_payments_19 ?_
    refine g_icmp_ge 119 C dX3_payments_20 rfl (fun c10 => ?_) (fun c10 => ?_)
    · replace hf := if_t c10 hf
      exact g_sub [0, 1] rfl (Hk9 _ hf)
    · replace hf := if_f c10 hf
      refine g_iconst C dX3_payments_23 kc_0 ?_
      refine g_istore_n (i := 3) (lv' := [(3, .int (0 : Int32)), (0, .ref (g.1 0)), (1, .int v6), (2, .int v7)]) C dX3_payments_24 rfl rfl (by decide) rfl ?_
      refine g_iconst C dX3_payments_25 kc_0 ?_
      refine g_istore (i := 4) (lv' := [(4, .int (0 : Int32)), (3, .int (0 : Int32)), (0, .ref (g.1 0)), (1, .int v6), (2, .int v7)]) C dX3_payments_26 rfl (by decide) rfl ?_
      refine g_iconst C dX3_payments_28 kc_0 ?_
      refine g_istore (i := 5) (lv' := [(5, .int (0 : Int32)), (4, .int (0 : Int32)), (3, .int (0 : Int32)), (0, .ref (g.1 0)), (1, .int v6), (2, .int v7)]) C dX3_payments_29 rfl (by decide) rfl ?_
      refine g_sub [3, 4, 5, 2, 1, 0] rfl (w_tw_payments_L31 C E hX (fun s17 v18 v19 hf => ?_) _ _ _ _ _ hf)
      refine g_aload_n C dX3_payments_95 0 rfl ?_
      refine g_getS 17 C oT0 fX3_63 rfl dX3_payments_96 ?_
      refine g_iload_n C dX3_payments_99 2 rfl ?_
      refine g_iload C dX3_payments_100 4 rfl ?_
      refine g_iload_n C dX3_payments_102 3 rfl ?_
      refine vl_n hf (fun j37 hj37 hf => ?_)
      have Hj37 : ∀ (t36 : Bool), j37 t36 = some (rF, sF) → TG tCfg g A 7 X 0 0 s17 111 [(0, .ref (g.1 0)), (1, .int v6), (2, .int v7)] [.int (bI t36), .int v19, .int v7, .ref (g.1 17)] := by
        clear hf; subst hj37
        intro t36 hf
        refine g_iadd C dX3_payments_111 ?_
        refine gd_n hf (fun c38 hf => ?_)
        refine vl_n hf (fun s39 hs39 hf => ?_)
        refine g_iast C aT17 rfl c38 hs39 dX3_payments_112 ?_
        refine g_iinc (q := 2) (lv' := [(2, .int (v7 + (1 : Int32))), (0, .ref (g.1 0)), (1, .int v6)]) C dX3_payments_113 rfl kc_1 (by decide) rfl ?_
        refine g_goto 16 C dX3_payments_116 rfl ?_
        exact g_sub [1, 2, 0] rfl (ih _ _ hf)
      clear hj37
      refine g_if_ne 110 C dX3_payments_103 rfl (fun c40 => ?_) (fun c40 => ?_)
      · replace hf := if_t c40 hf
        refine g_iconst C dX3_payments_106 kc_1 ?_
        refine g_goto 111 C dX3_payments_107 rfl ?_
        exact g_sub [0, 1, 2] rfl (Hj37 _ hf)
      · replace hf := if_f c40 hf
        refine g_iconst C dX3_payments_110 kc_0 ?_
        exact g_sub [0, 1, 2] rfl (Hj37 _ hf)
theorem w_tw_payments {l : Launch} {n : Nat} {s sF : Sto} {rF : Int32} (hf : tw_payments n s  = some (rF, sF)) : Ct tCfg l yX3_payments cX3_payments 7 (some .int) { frames := 3, cells := 0, slots := 0, locals := 57 } (fun g => [.ref (g.1 0)]) s sF (fun _ => some (.int rF)) := by
  refine Ct_of pn_X3 (fun g => Nat.le_of_ble_eq_true rfl) (fun g A X C E hX => ?_)
  rw [tw_payments] at hf
  show TG tCfg g A 7 X 0 0 s 0 [(0, .ref (g.1 0))] []
  refine g_aload_n C dX3_payments_0 0 rfl ?_
  refine g_getS 1 C oT0 fX3_7 rfl dX3_payments_1 ?_
  refine g_iconst C dX3_payments_4 kc_4 ?_
  refine gd_n hf (fun c1 hf => ?_)
  refine g_iald C aT1 rfl c1 dX3_payments_5 ?_
  refine vl_n hf (fun v2 hv2 hf => ?_)
  refine g_istore_n (i := 1) (lv' := [(1, .int v2), (0, .ref (g.1 0))]) C dX3_payments_6 rfl hv2 (by decide) rfl ?_
  refine g_aload_n C dX3_payments_7 1 rfl ?_
  refine g_getS 17 C oT0 fX3_63 rfl dX3_payments_8 ?_
  refine g_iconst C dX3_payments_11 kc_0 ?_
  refine g_iconst C dX3_payments_12 kc_0 ?_
  refine gd_n hf (fun c3 hf => ?_)
  refine vl_n hf (fun s4 hs4 hf => ?_)
  refine g_iast C aT17 rfl c3 hs4 dX3_payments_13 ?_
  refine g_iconst C dX3_payments_14 kc_1 ?_
  refine g_istore_n (i := 2) (lv' := [(2, .int (1 : Int32)), (1, .int v2), (0, .ref (g.1 0))]) C dX3_payments_15 rfl rfl (by decide) rfl ?_
  refine g_sub [2, 1, 0] rfl (w_tw_payments_L16 C E hX (fun s8 hf => ?_) _ _ _ hf)
  refine g_iload_n C dX3_payments_119 1 rfl ?_
  refine g_aload_n C dX3_payments_120 0 rfl ?_
  refine g_getS 17 C oT0 fX3_63 rfl dX3_payments_121 ?_
  refine g_iconst C dX3_payments_124 kc_1 ?_
  refine g_iload_n C dX3_payments_125 1 rfl ?_
  refine g_ishl C dX3_payments_126 ?_
  refine g_iconst C dX3_payments_127 kc_1 ?_
  refine g_isub C dX3_payments_128 ?_
  refine gd_n hf (fun c41 hf => ?_)
  refine g_iald C aT17 rfl c41 dX3_payments_129 ?_
  refine g_isub C dX3_payments_130 ?_
  exact g_iret C E rfl (re_i hf) (re_s hf) ⟨Nat.zero_le _, Nat.zero_le _⟩ dX3_payments_131
def tw_image_L15 (n : Nat) (v3 : Bool) (k6 : Sto → Option (Bool × Sto)) : Nat → Sto → Int32 → Option (Bool × Sto)
  | 0, _, _ => none
  | k + 1, s2, v4 =>
    if (1480 : Int32) ≤ v4 then
      k6 s2
    else
      vl (fun (s8 : Sto) =>
        tw_image_L15 n v3 k6 k s8 (v4 + (1 : Int32))) fun j9 =>
      if v3 = true then
        gd (inb v4 1480) <|
        vl (wr s2 2 v4 (rd s2 1 v4)) fun s12 =>
        j9 s12
      else
        gd (inb v4 1480) <|
        vl (wr s2 1 v4 (rd s2 2 v4)) fun s14 =>
        j9 s14
def tw_image (n : Nat) (s : Sto) (a1 : Bool) : Option (Bool × Sto) :=
  vl (fun (_ : Unit) =>
    tw_image_L15 n a1
        (fun (s5 : Sto) =>
          if a1 = true then
            vl (sI s5 0 4 (1 : Int32)) fun s16 =>
            some (true, s16)
          else
            bd (tw_forgets n s5) fun r17 s18 =>
            vl (sI s18 0 4 (1 : Int32)) fun s20 =>
            some (true, s20))
        n s (0 : Int32)) fun j1 =>
  if a1 = true then
    j1 ()
  else
    if (s.1 0 4) = 0 then
      some (false, s)
    else
      j1 ()
theorem w_tw_image_L15  {l : Launch} {n : Nat} {v3 : Bool} {k6 : Sto → Option (Bool × Sto)} {g : Gam} {A : Nat → Prop} {X : FX} {si sF : Sto} {rF : Bool} (C : CX tCfg g A 3 X cX3_image RX3 (some .boolean) 2 32) (E : EX tCfg g A X si sF (some (.int (bI rF))) 0 0) (hX : X.2.1 = l) (Hk6 : ∀ (s5 : Sto), k6 s5 = some (rF, sF) → TG tCfg g A 3 X 0 0 s5 59 [(0, .ref (g.1 0)), (1, .int (bI v3))] []) : ∀ (k : Nat) (s2 : Sto) (v4 : Int32), tw_image_L15 n v3 k6 k s2 v4 = some (rF, sF) → TG tCfg g A 3 X 0 0 s2 15 [(0, .ref (g.1 0)), (1, .int (bI v3)), (2, .int v4)] [] := by
  intro k
  induction k with
  | zero => intro s2 v4 hf; rw [tw_image_L15] at hf; cases hf
  | succ k ih =>
    intro s2 v4 hf
    rw [tw_image_L15] at hf
    refine g_iload_n C dX3_image_15 2 rfl ?_
    refine g_sipush C dX3_image_16 ks_1480 ?_
    refine g_icmp_ge 59 C dX3_image_19 rfl (fun c7 => ?_) (fun c7 => ?_)
    · replace hf := if_t c7 hf
      exact g_sub [0, 1] rfl (Hk6 _ hf)
    · replace hf := if_f c7 hf
      refine g_iload_n C dX3_image_22 1 rfl ?_
      refine vl_n hf (fun j9 hj9 hf => ?_)
      have Hj9 : ∀ (s8 : Sto), j9 s8 = some (rF, sF) → TG tCfg g A 3 X 0 0 s8 53 [(0, .ref (g.1 0)), (1, .int (bI v3)), (2, .int v4)] [] := by
        clear hf; subst hj9
        intro s8 hf
        refine g_iinc (q := 2) (lv' := [(2, .int (v4 + (1 : Int32))), (0, .ref (g.1 0)), (1, .int (bI v3))]) C dX3_image_53 rfl kc_1 (by decide) rfl ?_
        refine g_goto 15 C dX3_image_56 rfl ?_
        exact g_sub [1, 2, 0] rfl (ih _ _ hf)
      clear hj9
      refine g_ifZ_eq 41 C dX3_image_23 rfl (fun c10 => ?_) (fun c10 => ?_)
      · replace hf := if_t c10 hf
        refine g_aload_n C dX3_image_26 0 rfl ?_
        refine g_getS 2 C oT0 fX3_13 rfl dX3_image_27 ?_
        refine g_iload_n C dX3_image_30 2 rfl ?_
        refine g_aload_n C dX3_image_31 0 rfl ?_
        refine g_getS 1 C oT0 fX3_7 rfl dX3_image_32 ?_
        refine g_iload_n C dX3_image_35 2 rfl ?_
        refine gd_n hf (fun c11 hf => ?_)
        refine g_iald C aT1 rfl c11 dX3_image_36 ?_
        refine vl_n hf (fun s12 hs12 hf => ?_)
        refine g_iast C aT2 rfl c11 hs12 dX3_image_37 ?_
        refine g_goto 53 C dX3_image_38 rfl ?_
        exact g_sub [0, 1, 2] rfl (Hj9 _ hf)
      · replace hf := if_f c10 hf
        refine g_aload_n C dX3_image_41 0 rfl ?_
        refine g_getS 1 C oT0 fX3_7 rfl dX3_image_42 ?_
        refine g_iload_n C dX3_image_45 2 rfl ?_
        refine g_aload_n C dX3_image_46 0 rfl ?_
        refine g_getS 2 C oT0 fX3_13 rfl dX3_image_47 ?_
        refine g_iload_n C dX3_image_50 2 rfl ?_
        refine gd_n hf (fun c13 hf => ?_)
        refine g_iald C aT2 rfl c13 dX3_image_51 ?_
        refine vl_n hf (fun s14 hs14 hf => ?_)
        refine g_iast C aT1 rfl c13 hs14 dX3_image_52 ?_
        exact g_sub [0, 1, 2] rfl (Hj9 _ hf)
theorem w_tw_image {l : Launch} {n : Nat} {s sF : Sto} {a1 : Bool} {rF : Bool} (hf : tw_image n s a1 = some (rF, sF)) : Ct tCfg l yX3_image cX3_image 3 (some .boolean) { frames := 2, cells := 0, slots := 0, locals := 32 } (fun g => [.ref (g.1 0), .int (bI a1)]) s sF (fun _ => some (.int (bI rF))) := by
  refine Ct_of pn_X3 (fun g => Nat.le_of_ble_eq_true rfl) (fun g A X C E hX => ?_)
  rw [tw_image] at hf
  show TG tCfg g A 3 X 0 0 s 0 [(0, .ref (g.1 0)), (1, .int (bI a1))] []
  refine g_iload_n C dX3_image_0 1 rfl ?_
  refine vl_n hf (fun j1 hj1 hf => ?_)
  have Hj1 : ∀ (u : Unit), j1 u = some (rF, sF) → TG tCfg g A 3 X 0 0 s 13 [(0, .ref (g.1 0)), (1, .int (bI a1))] [] := by
    clear hf; subst hj1
    intro u hf
    refine g_iconst C dX3_image_13 kc_0 ?_
    refine g_istore_n (i := 2) (lv' := [(2, .int (0 : Int32)), (0, .ref (g.1 0)), (1, .int (bI a1))]) C dX3_image_14 rfl rfl (by decide) rfl ?_
    refine g_sub [1, 2, 0] rfl (w_tw_image_L15 C E hX (fun s5 hf => ?_) _ _ _ hf)
    refine g_iload_n C dX3_image_59 1 rfl ?_
    refine g_ifZ_ne 67 C dX3_image_60 rfl (fun c15 => ?_) (fun c15 => ?_)
    · replace hf := if_t c15 hf
      refine g_aload_n C dX3_image_67 0 rfl ?_
      refine g_iconst C dX3_image_68 kc_1 ?_
      refine vl_n hf (fun s16 hs16 hf => ?_)
      refine g_putI C oT0 pX3_319 (by decide) (by decide) hs16 dX3_image_69 ?_
      refine g_iconst C dX3_image_72 kc_1 ?_
      exact g_iret (v := bI true) C E (bI_nar _) (re_z hf) (re_s hf) ⟨Nat.zero_le _, Nat.zero_le _⟩ dX3_image_73
    · replace hf := if_f c15 hf
      refine g_aload_n C dX3_image_63 0 rfl ?_
      refine bd_n hf (fun r17 s18 h19 hf => ?_)
      refine g_callV0 (As := []) (rest := []) (stk := []) C (w_tw_forgets h19) hX oT0 rfl rfl q1252 q1254 qs61 q91 q1255 mdX3_forgets rfl ⟨Nat.le_of_ble_eq_true rfl, Nat.le_of_ble_eq_true rfl⟩ (Nat.le_of_ble_eq_true rfl) dX3_image_64 rfl ?_
      refine g_aload_n C dX3_image_67 0 rfl ?_
      refine g_iconst C dX3_image_68 kc_1 ?_
      refine vl_n hf (fun s20 hs20 hf => ?_)
      refine g_putI C oT0 pX3_319 (by decide) (by decide) hs20 dX3_image_69 ?_
      refine g_iconst C dX3_image_72 kc_1 ?_
      exact g_iret (v := bI true) C E (bI_nar _) (re_z hf) (re_s hf) ⟨Nat.zero_le _, Nat.zero_le _⟩ dX3_image_73
  clear hj1
  refine g_ifZ_ne 13 C dX3_image_1 rfl (fun c21 => ?_) (fun c21 => ?_)
  · replace hf := if_t c21 hf
    exact g_sub [0, 1] rfl (Hj1 _ hf)
  · replace hf := if_f c21 hf
    refine g_aload_n C dX3_image_4 0 rfl ?_
    refine g_getI C oT0 fX3_319 dX3_image_5 ?_
    refine g_if_ne 13 C dX3_image_8 rfl (fun c22 => ?_) (fun c22 => ?_)
    · replace hf := if_t c22 hf
      refine g_iconst C dX3_image_11 kc_0 ?_
      exact g_iret (v := bI false) C E (bI_nar _) (re_z hf) (re_s hf) ⟨Nat.zero_le _, Nat.zero_le _⟩ dX3_image_12
    · replace hf := if_f c22 hf
      exact g_sub [0, 1] rfl (Hj1 _ hf)
def tw_look (n : Nat) (s : Sto) (a1 : Int32) : Option (Int32 × Sto) :=
  if a1 = (0 : Int32) then
    gd (inb (4 : Int32) 1480) <|
    some ((rd s 1 (4 : Int32)), s)
  else
    if a1 = (1 : Int32) then
      gd (inb (5 : Int32) 1480) <|
      some ((rd s 1 (5 : Int32)), s)
    else
      if a1 = (2 : Int32) then
        gd (inb (6 : Int32) 1480) <|
        some ((rd s 1 (6 : Int32)), s)
      else
        if a1 = (3 : Int32) then
          gd (inb (585 : Int32) 1480) <|
          some ((rd s 1 (585 : Int32)), s)
        else
          if a1 = (4 : Int32) then
            gd (inb (590 : Int32) 1480) <|
            some ((rd s 1 (590 : Int32)), s)
          else
            if a1 = (5 : Int32) then
              some ((s.1 0 3), s)
            else
              if a1 = (6 : Int32) then
                gd (inb (8 : Int32) 1480) <|
                some ((rd s 1 (8 : Int32)), s)
              else
                bd (tw_isIn n s a1 (10 : Int32) (13 : Int32)) fun r14 s15 =>
                if r14 = true then
                  gd (inb (a1 - (10 : Int32)) 1480) <|
                  some ((rd s15 1 (a1 - (10 : Int32))), s15)
                else
                  some ((-1 : Int32), s15)
theorem w_tw_look {l : Launch} {n : Nat} {s sF : Sto} {a1 : Int32} {rF : Int32} (hf : tw_look n s a1 = some (rF, sF)) : Ct tCfg l yX3_look cX3_look 2 (some .int) { frames := 2, cells := 0, slots := 0, locals := 34 } (fun g => [.ref (g.1 0), .int a1]) s sF (fun _ => some (.int rF)) := by
  refine Ct_of pn_X3 (fun g => Nat.le_of_ble_eq_true rfl) (fun g A X C E hX => ?_)
  rw [tw_look] at hf
  show TG tCfg g A 2 X 0 0 s 0 [(0, .ref (g.1 0)), (1, .int a1)] []
  refine g_iload_n C dX3_look_0 1 rfl ?_
  by_cases c1 : a1 = (0 : Int32)
  · replace hf := if_t c1 hf
    refine g_tableIn 0 44 C dX3_look_1 c1 (by decide) (by decide) rfl rfl ?_
    refine g_aload_n C dX3_look_44 0 rfl ?_
    refine g_getS 1 C oT0 fX3_7 rfl dX3_look_45 ?_
    refine g_iconst C dX3_look_48 kc_4 ?_
    refine gd_n hf (fun c8 hf => ?_)
    refine g_iald C aT1 rfl c8 dX3_look_49 ?_
    exact g_iret C E rfl (re_i hf) (re_s hf) ⟨Nat.zero_le _, Nat.zero_le _⟩ dX3_look_50
  replace hf := if_f c1 hf
  by_cases c2 : a1 = (1 : Int32)
  · replace hf := if_t c2 hf
    refine g_tableIn 1 51 C dX3_look_1 c2 (by decide) (by decide) rfl rfl ?_
    refine g_aload_n C dX3_look_51 0 rfl ?_
    refine g_getS 1 C oT0 fX3_7 rfl dX3_look_52 ?_
    refine g_iconst C dX3_look_55 kc_5 ?_
    refine gd_n hf (fun c9 hf => ?_)
    refine g_iald C aT1 rfl c9 dX3_look_56 ?_
    exact g_iret C E rfl (re_i hf) (re_s hf) ⟨Nat.zero_le _, Nat.zero_le _⟩ dX3_look_57
  replace hf := if_f c2 hf
  by_cases c3 : a1 = (2 : Int32)
  · replace hf := if_t c3 hf
    refine g_tableIn 2 58 C dX3_look_1 c3 (by decide) (by decide) rfl rfl ?_
    refine g_aload_n C dX3_look_58 0 rfl ?_
    refine g_getS 1 C oT0 fX3_7 rfl dX3_look_59 ?_
    refine g_bipush C dX3_look_62 kb_6 ?_
    refine gd_n hf (fun c10 hf => ?_)
    refine g_iald C aT1 rfl c10 dX3_look_64 ?_
    exact g_iret C E rfl (re_i hf) (re_s hf) ⟨Nat.zero_le _, Nat.zero_le _⟩ dX3_look_65
  replace hf := if_f c3 hf
  by_cases c4 : a1 = (3 : Int32)
  · replace hf := if_t c4 hf
    refine g_tableIn 3 66 C dX3_look_1 c4 (by decide) (by decide) rfl rfl ?_
    refine g_aload_n C dX3_look_66 0 rfl ?_
    refine g_getS 1 C oT0 fX3_7 rfl dX3_look_67 ?_
    refine g_sipush C dX3_look_70 ks_585 ?_
    refine gd_n hf (fun c11 hf => ?_)
    refine g_iald C aT1 rfl c11 dX3_look_73 ?_
    exact g_iret C E rfl (re_i hf) (re_s hf) ⟨Nat.zero_le _, Nat.zero_le _⟩ dX3_look_74
  replace hf := if_f c4 hf
  by_cases c5 : a1 = (4 : Int32)
  · replace hf := if_t c5 hf
    refine g_tableIn 4 75 C dX3_look_1 c5 (by decide) (by decide) rfl rfl ?_
    refine g_aload_n C dX3_look_75 0 rfl ?_
    refine g_getS 1 C oT0 fX3_7 rfl dX3_look_76 ?_
    refine g_sipush C dX3_look_79 ks_590 ?_
    refine gd_n hf (fun c12 hf => ?_)
    refine g_iald C aT1 rfl c12 dX3_look_82 ?_
    exact g_iret C E rfl (re_i hf) (re_s hf) ⟨Nat.zero_le _, Nat.zero_le _⟩ dX3_look_83
  replace hf := if_f c5 hf
  by_cases c6 : a1 = (5 : Int32)
  · replace hf := if_t c6 hf
    refine g_tableIn 5 84 C dX3_look_1 c6 (by decide) (by decide) rfl rfl ?_
    refine g_aload_n C dX3_look_84 0 rfl ?_
    refine g_getI C oT0 fX3_70 dX3_look_85 ?_
    exact g_iret C E rfl (re_i hf) (re_s hf) ⟨Nat.zero_le _, Nat.zero_le _⟩ dX3_look_88
  replace hf := if_f c6 hf
  by_cases c7 : a1 = (6 : Int32)
  · replace hf := if_t c7 hf
    refine g_tableIn 6 89 C dX3_look_1 c7 (by decide) (by decide) rfl rfl ?_
    refine g_aload_n C dX3_look_89 0 rfl ?_
    refine g_getS 1 C oT0 fX3_7 rfl dX3_look_90 ?_
    refine g_bipush C dX3_look_93 kb_8 ?_
    refine gd_n hf (fun c13 hf => ?_)
    refine g_iald C aT1 rfl c13 dX3_look_95 ?_
    exact g_iret C E rfl (re_i hf) (re_s hf) ⟨Nat.zero_le _, Nat.zero_le _⟩ dX3_look_96
  replace hf := if_f c7 hf
  refine g_tableD 97 C dX3_look_1 (sw_d [(0 : Int32), (1 : Int32), (2 : Int32), (3 : Int32), (4 : Int32), (5 : Int32), (6 : Int32)] (List.forall_mem_cons.mpr ⟨c1, (List.forall_mem_cons.mpr ⟨c2, (List.forall_mem_cons.mpr ⟨c3, (List.forall_mem_cons.mpr ⟨c4, (List.forall_mem_cons.mpr ⟨c5, (List.forall_mem_cons.mpr ⟨c6, (List.forall_mem_cons.mpr ⟨c7, (fun _ h => absurd h List.not_mem_nil)⟩)⟩)⟩)⟩)⟩)⟩)⟩) (by decide +kernel) (by decide)) rfl ?_
  refine g_iload_n C dX3_look_97 1 rfl ?_
  refine g_bipush C dX3_look_98 kb_10 ?_
  refine g_bipush C dX3_look_100 kb_13 ?_
  refine bd_n hf (fun r14 s15 h16 hf => ?_)
  refine g_callS0 (As := [.int a1, .int (10 : Int32), .int (13 : Int32)]) (rest := []) (stk := [.int (bI r14)]) C (w_tw_isIn h16) hX rfl q1146 q1147 q91 q1148 msX3_isIn rfl ⟨Nat.le_of_ble_eq_true rfl, Nat.le_of_ble_eq_true rfl⟩ (Nat.le_of_ble_eq_true rfl) dX3_look_102 rfl ?_
  refine g_ifZ_eq 120 C dX3_look_105 rfl (fun c17 => ?_) (fun c17 => ?_)
  · replace hf := if_t c17 hf
    refine g_aload_n C dX3_look_108 0 rfl ?_
    refine g_getS 1 C oT0 fX3_7 rfl dX3_look_109 ?_
    refine g_iload_n C dX3_look_112 1 rfl ?_
    refine g_bipush C dX3_look_113 kb_10 ?_
    refine g_isub C dX3_look_115 ?_
    refine gd_n hf (fun c18 hf => ?_)
    refine g_iald C aT1 rfl c18 dX3_look_116 ?_
    refine g_goto 121 C dX3_look_117 rfl ?_
    exact g_iret C E rfl (re_i hf) (re_s hf) ⟨Nat.zero_le _, Nat.zero_le _⟩ dX3_look_121
  · replace hf := if_f c17 hf
    refine g_iconst C dX3_look_120 kc_m1 ?_
    exact g_iret C E rfl (re_i hf) (re_s hf) ⟨Nat.zero_le _, Nat.zero_le _⟩ dX3_look_121
def tw_is_L24 (n : Nat) (v8 : Nat) : Nat → Sto → Bool → Int32 → Option (Bool × Sto)
  | 0, _, _, _ => none
  | k + 1, s7, v9, v10 =>
    gd (decide (v8 < 16)) <|
    bd (jw_length n s7 v8) fun r11 s12 =>
    if r11 ≤ v10 then
      some (v9, s12)
    else
      if v9 = true then
        gd (inb ((s12.1 0 15) + v10) 400) <|
        bd (jw_charAt n s12 v8 v10) fun r18 s19 =>
        vl (fun (t21 : Bool) =>
          tw_is_L24 n v8 k s19 t21 (v10 + (1 : Int32))) fun j22 =>
        if (rd s12 6 ((s12.1 0 15) + v10)) = r18 then
          j22 true
        else
          j22 false
      else
        some (v9, s12)
def tw_is (n : Nat) (s : Sto) (a1 : Nat) : Option (Bool × Sto) :=
  gd (decide (a1 < 16)) <|
  bd (jw_length n s a1) fun r1 s2 =>
  vl (fun (t5 : Bool) =>
    tw_is_L24 n a1
        n s2 t5 (0 : Int32)) fun j6 =>
  if ((s.1 0 13) - (s.1 0 15)) = r1 then
    j6 true
  else
    j6 false
theorem w_tw_is_L24  {l : Launch} {n : Nat} {v8 : Nat} {g : Gam} {A : Nat → Prop} {X : FX} {si sF : Sto} {rF : Bool} (C : CX tCfg g A 4 X cX3_is RX3 (some .boolean) 5 97) (E : EX tCfg g A X si sF (some (.int (bI rF))) 0 0) (hX : X.2.1 = l) : ∀ (k : Nat) (s7 : Sto) (v9 : Bool) (v10 : Int32), tw_is_L24 n v8 k s7 v9 v10 = some (rF, sF) → TG tCfg g A 4 X 0 0 s7 24 [(0, .ref (g.1 0)), (1, .ref (g.2.2.2.1 v8)), (2, .int (bI v9)), (3, .int v10)] [] := by
  intro k
  induction k with
  | zero => intro s7 v9 v10 hf; rw [tw_is_L24] at hf; cases hf
  | succ k ih =>
    intro s7 v9 v10 hf
    rw [tw_is_L24] at hf
    refine g_iload_n C dX3_is_24 3 rfl ?_
    refine g_aload_n C dX3_is_25 1 rfl ?_
    refine gd_n hf (fun c14 hf => ?_)
    refine bd_n hf (fun r11 s12 h13 hf => ?_)
    refine g_callK0 (As := []) (rest := [.int v10]) (stk := [.int r11, .int v10]) C (w_jw_length h13) hX (of_decide_eq_true c14) rfl q1173 q419 q420 q98 q421 mdJ2_length rfl ⟨Nat.le_of_ble_eq_true rfl, Nat.le_of_ble_eq_true rfl⟩ (Nat.le_of_ble_eq_true rfl) dX3_is_26 rfl ?_
    refine g_icmp_ge 67 C dX3_is_29 rfl (fun c15 => ?_) (fun c15 => ?_)
    · replace hf := if_t c15 hf
      refine g_iload_n C dX3_is_67 2 rfl ?_
      exact g_iret (v := bI v9) C E (bI_nar _) (re_z hf) (re_s hf) ⟨Nat.zero_le _, Nat.zero_le _⟩ dX3_is_68
    · replace hf := if_f c15 hf
      refine g_iload_n C dX3_is_32 2 rfl ?_
      refine g_ifZ_eq 67 C dX3_is_33 rfl (fun c16 => ?_) (fun c16 => ?_)
      · replace hf := if_t c16 hf
        refine g_aload_n C dX3_is_36 0 rfl ?_
        refine g_getS 6 C oT0 fX3_25 rfl dX3_is_37 ?_
        refine g_aload_n C dX3_is_40 0 rfl ?_
        refine g_getI C oT0 fX3_81 dX3_is_41 ?_
        refine g_iload_n C dX3_is_44 3 rfl ?_
        refine g_iadd C dX3_is_45 ?_
        refine gd_n hf (fun c17 hf => ?_)
        refine g_iald C aT6 rfl c17 dX3_is_46 ?_
        refine g_aload_n C dX3_is_47 1 rfl ?_
        refine g_iload_n C dX3_is_48 3 rfl ?_
        refine bd_n hf (fun r18 s19 h20 hf => ?_)
        refine g_callK0 (As := [.int v10]) (rest := [.int (rd s12 6 ((s12.1 0 15) + v10))]) (stk := [.int r18, .int (rd s12 6 ((s12.1 0 15) + v10))]) C (w_jw_charAt h20) hX (of_decide_eq_true c14) rfl q1174 q429 q430 q98 q431 mdJ2_charAt rfl ⟨Nat.le_of_ble_eq_true rfl, Nat.le_of_ble_eq_true rfl⟩ (Nat.le_of_ble_eq_true rfl) dX3_is_49 rfl ?_
        refine vl_n hf (fun j22 hj22 hf => ?_)
        have Hj22 : ∀ (t21 : Bool), j22 t21 = some (rF, sF) → TG tCfg g A 4 X 0 0 s19 60 [(0, .ref (g.1 0)), (1, .ref (g.2.2.2.1 v8)), (3, .int v10)] [.int (bI t21)] := by
          clear hf; subst hj22
          intro t21 hf
          refine g_istore_n (i := 2) (lv' := [(2, .int (bI t21)), (0, .ref (g.1 0)), (1, .ref (g.2.2.2.1 v8)), (3, .int v10)]) C dX3_is_60 rfl rfl (by decide) rfl ?_
          refine g_iinc (q := 3) (lv' := [(3, .int (v10 + (1 : Int32))), (2, .int (bI t21)), (0, .ref (g.1 0)), (1, .ref (g.2.2.2.1 v8))]) C dX3_is_61 rfl kc_1 (by decide) rfl ?_
          refine g_goto 24 C dX3_is_64 rfl ?_
          exact g_sub [2, 3, 1, 0] rfl (ih _ _ _ hf)
        clear hj22
        refine g_icmp_ne 59 C dX3_is_52 rfl (fun c23 => ?_) (fun c23 => ?_)
        · replace hf := if_t c23 hf
          refine g_iconst C dX3_is_55 kc_1 ?_
          refine g_goto 60 C dX3_is_56 rfl ?_
          exact g_sub [0, 1, 3] rfl (Hj22 _ hf)
        · replace hf := if_f c23 hf
          refine g_iconst C dX3_is_59 kc_0 ?_
          exact g_sub [0, 1, 3] rfl (Hj22 _ hf)
      · replace hf := if_f c16 hf
        refine g_iload_n C dX3_is_67 2 rfl ?_
        exact g_iret (v := bI v9) C E (bI_nar _) (re_z hf) (re_s hf) ⟨Nat.zero_le _, Nat.zero_le _⟩ dX3_is_68
theorem w_tw_is {l : Launch} {n : Nat} {s sF : Sto} {a1 : Nat} {rF : Bool} (hf : tw_is n s a1 = some (rF, sF)) : Ct tCfg l yX3_is cX3_is 4 (some .boolean) { frames := 5, cells := 0, slots := 0, locals := 97 } (fun g => [.ref (g.1 0), .ref (g.2.2.2.1 a1)]) s sF (fun _ => some (.int (bI rF))) := by
  refine Ct_of pn_X3 (fun g => Nat.le_of_ble_eq_true rfl) (fun g A X C E hX => ?_)
  rw [tw_is] at hf
  show TG tCfg g A 4 X 0 0 s 0 [(0, .ref (g.1 0)), (1, .ref (g.2.2.2.1 a1))] []
  refine g_aload_n C dX3_is_0 0 rfl ?_
  refine g_getI C oT0 fX3_78 dX3_is_1 ?_
  refine g_aload_n C dX3_is_4 0 rfl ?_
  refine g_getI C oT0 fX3_81 dX3_is_5 ?_
  refine g_isub C dX3_is_8 ?_
  refine g_aload_n C dX3_is_9 1 rfl ?_
  refine gd_n hf (fun c4 hf => ?_)
  refine bd_n hf (fun r1 s2 h3 hf => ?_)
  refine g_callK0 (As := []) (rest := [.int ((s.1 0 13) - (s.1 0 15))]) (stk := [.int r1, .int ((s.1 0 13) - (s.1 0 15))]) C (w_jw_length h3) hX (of_decide_eq_true c4) rfl q1173 q419 q420 q98 q421 mdJ2_length rfl ⟨Nat.le_of_ble_eq_true rfl, Nat.le_of_ble_eq_true rfl⟩ (Nat.le_of_ble_eq_true rfl) dX3_is_10 rfl ?_
  refine vl_n hf (fun j6 hj6 hf => ?_)
  have Hj6 : ∀ (t5 : Bool), j6 t5 = some (rF, sF) → TG tCfg g A 4 X 0 0 s2 21 [(0, .ref (g.1 0)), (1, .ref (g.2.2.2.1 a1))] [.int (bI t5)] := by
    clear hf; subst hj6
    intro t5 hf
    refine g_istore_n (i := 2) (lv' := [(2, .int (bI t5)), (0, .ref (g.1 0)), (1, .ref (g.2.2.2.1 a1))]) C dX3_is_21 rfl rfl (by decide) rfl ?_
    refine g_iconst C dX3_is_22 kc_0 ?_
    refine g_istore_n (i := 3) (lv' := [(3, .int (0 : Int32)), (2, .int (bI t5)), (0, .ref (g.1 0)), (1, .ref (g.2.2.2.1 a1))]) C dX3_is_23 rfl rfl (by decide) rfl ?_
    refine g_sub [2, 3, 1, 0] rfl (w_tw_is_L24 C E hX _ _ _ _ hf)
  clear hj6
  refine g_icmp_ne 20 C dX3_is_13 rfl (fun c24 => ?_) (fun c24 => ?_)
  · replace hf := if_t c24 hf
    refine g_iconst C dX3_is_16 kc_1 ?_
    refine g_goto 21 C dX3_is_17 rfl ?_
    exact g_sub [0, 1] rfl (Hj6 _ hf)
  · replace hf := if_f c24 hf
    refine g_iconst C dX3_is_20 kc_0 ?_
    exact g_sub [0, 1] rfl (Hj6 _ hf)
def tw_nameWord (n : Nat) (s : Sto) : Option (Int32 × Sto) :=
  bd (tw_is n s 1) fun r1 s2 =>
  if r1 = true then
    some ((41 : Int32), s2)
  else
    bd (tw_is n s2 2) fun r5 s6 =>
    if r5 = true then
      some ((42 : Int32), s6)
    else
      bd (tw_is n s6 3) fun r9 s10 =>
      if r9 = true then
        some ((43 : Int32), s10)
      else
        bd (tw_is n s10 4) fun r13 s14 =>
        if r13 = true then
          some ((44 : Int32), s14)
        else
          bd (tw_is n s14 5) fun r17 s18 =>
          if r17 = true then
            some ((45 : Int32), s18)
          else
            bd (tw_is n s18 6) fun r21 s22 =>
            if r21 = true then
              some ((46 : Int32), s22)
            else
              bd (tw_is n s22 7) fun r25 s26 =>
              if r25 = true then
                some ((47 : Int32), s26)
              else
                bd (tw_is n s26 8) fun r29 s30 =>
                if r29 = true then
                  some ((48 : Int32), s30)
                else
                  bd (tw_is n s30 9) fun r33 s34 =>
                  if r33 = true then
                    some ((49 : Int32), s34)
                  else
                    bd (tw_is n s34 10) fun r37 s38 =>
                    if r37 = true then
                      some ((50 : Int32), s38)
                    else
                      some ((1 : Int32), s38)
theorem w_tw_nameWord {l : Launch} {n : Nat} {s sF : Sto} {rF : Int32} (hf : tw_nameWord n s  = some (rF, sF)) : Ct tCfg l yX3_nameWord cX3_nameWord 1 (some .int) { frames := 6, cells := 0, slots := 0, locals := 120 } (fun g => [.ref (g.1 0)]) s sF (fun _ => some (.int rF)) := by
  refine Ct_of pn_X3 (fun g => Nat.le_of_ble_eq_true rfl) (fun g A X C E hX => ?_)
  rw [tw_nameWord] at hf
  show TG tCfg g A 1 X 0 0 s 0 [(0, .ref (g.1 0))] []
  refine g_aload_n C dX3_nameWord_0 0 rfl ?_
  refine g_ldcS (tx := "size") C (List.mem_of_getElem? (i := 21) rfl) dX3_nameWord_1 ?_
  refine bd_n hf (fun r1 s2 h3 hf => ?_)
  refine g_callV0 (As := [.ref (g.2.2.2.1 1)]) (rest := []) (stk := [.int (bI r1)]) C (w_tw_is h3) hX oT0 rfl rfl q1169 q1171 qs47 q91 q1172 mdX3_is rfl ⟨Nat.le_of_ble_eq_true rfl, Nat.le_of_ble_eq_true rfl⟩ (Nat.le_of_ble_eq_true rfl) dX3_nameWord_3 rfl ?_
  refine g_ifZ_eq 12 C dX3_nameWord_6 rfl (fun c4 => ?_) (fun c4 => ?_)
  · replace hf := if_t c4 hf
    refine g_bipush C dX3_nameWord_9 kb_41 ?_
    exact g_iret C E rfl (re_i hf) (re_s hf) ⟨Nat.zero_le _, Nat.zero_le _⟩ dX3_nameWord_11
  · replace hf := if_f c4 hf
    refine g_aload_n C dX3_nameWord_12 0 rfl ?_
    refine g_ldcS (tx := "need") C (List.mem_of_getElem? (i := 22) rfl) dX3_nameWord_13 ?_
    refine bd_n hf (fun r5 s6 h7 hf => ?_)
    refine g_callV0 (As := [.ref (g.2.2.2.1 2)]) (rest := []) (stk := [.int (bI r5)]) C (w_tw_is h7) hX oT0 rfl rfl q1169 q1171 qs47 q91 q1172 mdX3_is rfl ⟨Nat.le_of_ble_eq_true rfl, Nat.le_of_ble_eq_true rfl⟩ (Nat.le_of_ble_eq_true rfl) dX3_nameWord_15 rfl ?_
    refine g_ifZ_eq 24 C dX3_nameWord_18 rfl (fun c8 => ?_) (fun c8 => ?_)
    · replace hf := if_t c8 hf
      refine g_bipush C dX3_nameWord_21 kb_42 ?_
      exact g_iret C E rfl (re_i hf) (re_s hf) ⟨Nat.zero_le _, Nat.zero_le _⟩ dX3_nameWord_23
    · replace hf := if_f c8 hf
      refine g_aload_n C dX3_nameWord_24 0 rfl ?_
      refine g_ldcS (tx := "dough") C (List.mem_of_getElem? (i := 23) rfl) dX3_nameWord_25 ?_
      refine bd_n hf (fun r9 s10 h11 hf => ?_)
      refine g_callV0 (As := [.ref (g.2.2.2.1 3)]) (rest := []) (stk := [.int (bI r9)]) C (w_tw_is h11) hX oT0 rfl rfl q1169 q1171 qs47 q91 q1172 mdX3_is rfl ⟨Nat.le_of_ble_eq_true rfl, Nat.le_of_ble_eq_true rfl⟩ (Nat.le_of_ble_eq_true rfl) dX3_nameWord_27 rfl ?_
      refine g_ifZ_eq 36 C dX3_nameWord_30 rfl (fun c12 => ?_) (fun c12 => ?_)
      · replace hf := if_t c12 hf
        refine g_bipush C dX3_nameWord_33 kb_43 ?_
        exact g_iret C E rfl (re_i hf) (re_s hf) ⟨Nat.zero_le _, Nat.zero_le _⟩ dX3_nameWord_35
      · replace hf := if_f c12 hf
        refine g_aload_n C dX3_nameWord_36 0 rfl ?_
        refine g_ldcS (tx := "bread") C (List.mem_of_getElem? (i := 24) rfl) dX3_nameWord_37 ?_
        refine bd_n hf (fun r13 s14 h15 hf => ?_)
        refine g_callV0 (As := [.ref (g.2.2.2.1 4)]) (rest := []) (stk := [.int (bI r13)]) C (w_tw_is h15) hX oT0 rfl rfl q1169 q1171 qs47 q91 q1172 mdX3_is rfl ⟨Nat.le_of_ble_eq_true rfl, Nat.le_of_ble_eq_true rfl⟩ (Nat.le_of_ble_eq_true rfl) dX3_nameWord_39 rfl ?_
        refine g_ifZ_eq 48 C dX3_nameWord_42 rfl (fun c16 => ?_) (fun c16 => ?_)
        · replace hf := if_t c16 hf
          refine g_bipush C dX3_nameWord_45 kb_44 ?_
          exact g_iret C E rfl (re_i hf) (re_s hf) ⟨Nat.zero_le _, Nat.zero_le _⟩ dX3_nameWord_47
        · replace hf := if_f c16 hf
          refine g_aload_n C dX3_nameWord_48 0 rfl ?_
          refine g_ldcS (tx := "wood") C (List.mem_of_getElem? (i := 25) rfl) dX3_nameWord_49 ?_
          refine bd_n hf (fun r17 s18 h19 hf => ?_)
          refine g_callV0 (As := [.ref (g.2.2.2.1 5)]) (rest := []) (stk := [.int (bI r17)]) C (w_tw_is h19) hX oT0 rfl rfl q1169 q1171 qs47 q91 q1172 mdX3_is rfl ⟨Nat.le_of_ble_eq_true rfl, Nat.le_of_ble_eq_true rfl⟩ (Nat.le_of_ble_eq_true rfl) dX3_nameWord_51 rfl ?_
          refine g_ifZ_eq 60 C dX3_nameWord_54 rfl (fun c20 => ?_) (fun c20 => ?_)
          · replace hf := if_t c20 hf
            refine g_bipush C dX3_nameWord_57 kb_45 ?_
            exact g_iret C E rfl (re_i hf) (re_s hf) ⟨Nat.zero_le _, Nat.zero_le _⟩ dX3_nameWord_59
          · replace hf := if_f c20 hf
            refine g_aload_n C dX3_nameWord_60 0 rfl ?_
            refine g_ldcS (tx := "first") C (List.mem_of_getElem? (i := 26) rfl) dX3_nameWord_61 ?_
            refine bd_n hf (fun r21 s22 h23 hf => ?_)
            refine g_callV0 (As := [.ref (g.2.2.2.1 6)]) (rest := []) (stk := [.int (bI r21)]) C (w_tw_is h23) hX oT0 rfl rfl q1169 q1171 qs47 q91 q1172 mdX3_is rfl ⟨Nat.le_of_ble_eq_true rfl, Nat.le_of_ble_eq_true rfl⟩ (Nat.le_of_ble_eq_true rfl) dX3_nameWord_63 rfl ?_
            refine g_ifZ_eq 72 C dX3_nameWord_66 rfl (fun c24 => ?_) (fun c24 => ?_)
            · replace hf := if_t c24 hf
              refine g_bipush C dX3_nameWord_69 kb_46 ?_
              exact g_iret C E rfl (re_i hf) (re_s hf) ⟨Nat.zero_le _, Nat.zero_le _⟩ dX3_nameWord_71
            · replace hf := if_f c24 hf
              refine g_aload_n C dX3_nameWord_72 0 rfl ?_
              refine g_ldcS (tx := "sour") C (List.mem_of_getElem? (i := 27) rfl) dX3_nameWord_73 ?_
              refine bd_n hf (fun r25 s26 h27 hf => ?_)
              refine g_callV0 (As := [.ref (g.2.2.2.1 7)]) (rest := []) (stk := [.int (bI r25)]) C (w_tw_is h27) hX oT0 rfl rfl q1169 q1171 qs47 q91 q1172 mdX3_is rfl ⟨Nat.le_of_ble_eq_true rfl, Nat.le_of_ble_eq_true rfl⟩ (Nat.le_of_ble_eq_true rfl) dX3_nameWord_75 rfl ?_
              refine g_ifZ_eq 84 C dX3_nameWord_78 rfl (fun c28 => ?_) (fun c28 => ?_)
              · replace hf := if_t c28 hf
                refine g_bipush C dX3_nameWord_81 kb_47 ?_
                exact g_iret C E rfl (re_i hf) (re_s hf) ⟨Nat.zero_le _, Nat.zero_le _⟩ dX3_nameWord_83
              · replace hf := if_f c28 hf
                refine g_aload_n C dX3_nameWord_84 0 rfl ?_
                refine g_ldcS (tx := "house") C (List.mem_of_getElem? (i := 28) rfl) dX3_nameWord_85 ?_
                refine bd_n hf (fun r29 s30 h31 hf => ?_)
                refine g_callV0 (As := [.ref (g.2.2.2.1 8)]) (rest := []) (stk := [.int (bI r29)]) C (w_tw_is h31) hX oT0 rfl rfl q1169 q1171 qs47 q91 q1172 mdX3_is rfl ⟨Nat.le_of_ble_eq_true rfl, Nat.le_of_ble_eq_true rfl⟩ (Nat.le_of_ble_eq_true rfl) dX3_nameWord_87 rfl ?_
                refine g_ifZ_eq 96 C dX3_nameWord_90 rfl (fun c32 => ?_) (fun c32 => ?_)
                · replace hf := if_t c32 hf
                  refine g_bipush C dX3_nameWord_93 kb_48 ?_
                  exact g_iret C E rfl (re_i hf) (re_s hf) ⟨Nat.zero_le _, Nat.zero_le _⟩ dX3_nameWord_95
                · replace hf := if_f c32 hf
                  refine g_aload_n C dX3_nameWord_96 0 rfl ?_
                  refine g_ldcS (tx := "day") C (List.mem_of_getElem? (i := 29) rfl) dX3_nameWord_97 ?_
                  refine bd_n hf (fun r33 s34 h35 hf => ?_)
                  refine g_callV0 (As := [.ref (g.2.2.2.1 9)]) (rest := []) (stk := [.int (bI r33)]) C (w_tw_is h35) hX oT0 rfl rfl q1169 q1171 qs47 q91 q1172 mdX3_is rfl ⟨Nat.le_of_ble_eq_true rfl, Nat.le_of_ble_eq_true rfl⟩ (Nat.le_of_ble_eq_true rfl) dX3_nameWord_99 rfl ?_
                  refine g_ifZ_eq 108 C dX3_nameWord_102 rfl (fun c36 => ?_) (fun c36 => ?_)
                  · replace hf := if_t c36 hf
                    refine g_bipush C dX3_nameWord_105 kb_49 ?_
                    exact g_iret C E rfl (re_i hf) (re_s hf) ⟨Nat.zero_le _, Nat.zero_le _⟩ dX3_nameWord_107
                  · replace hf := if_f c36 hf
                    refine g_aload_n C dX3_nameWord_108 0 rfl ?_
                    refine g_ldcS (tx := "owes") C (List.mem_of_getElem? (i := 30) rfl) dX3_nameWord_109 ?_
                    refine bd_n hf (fun r37 s38 h39 hf => ?_)
                    refine g_callV0 (As := [.ref (g.2.2.2.1 10)]) (rest := []) (stk := [.int (bI r37)]) C (w_tw_is h39) hX oT0 rfl rfl q1169 q1171 qs47 q91 q1172 mdX3_is rfl ⟨Nat.le_of_ble_eq_true rfl, Nat.le_of_ble_eq_true rfl⟩ (Nat.le_of_ble_eq_true rfl) dX3_nameWord_111 rfl ?_
                    refine g_ifZ_eq 122 C dX3_nameWord_114 rfl (fun c40 => ?_) (fun c40 => ?_)
                    · replace hf := if_t c40 hf
                      refine g_bipush C dX3_nameWord_117 kb_50 ?_
                      refine g_goto 123 C dX3_nameWord_119 rfl ?_
                      exact g_iret C E rfl (re_i hf) (re_s hf) ⟨Nat.zero_le _, Nat.zero_le _⟩ dX3_nameWord_123
                    · replace hf := if_f c40 hf
                      refine g_iconst C dX3_nameWord_122 kc_1 ?_
                      exact g_iret C E rfl (re_i hf) (re_s hf) ⟨Nat.zero_le _, Nat.zero_le _⟩ dX3_nameWord_123
def tw_word (n : Nat) (s : Sto) : Option (Int32 × Sto) :=
  bd (tw_is n s 11) fun r1 s2 =>
  if r1 = true then
    some ((3 : Int32), s2)
  else
    bd (tw_is n s2 12) fun r5 s6 =>
    if r5 = true then
      some ((4 : Int32), s6)
    else
      bd (tw_is n s6 13) fun r9 s10 =>
      if r9 = true then
        some ((5 : Int32), s10)
      else
        bd (tw_is n s10 14) fun r13 s14 =>
        if r13 = true then
          some ((6 : Int32), s14)
        else
          bd (tw_is n s14 0) fun r17 s18 =>
          if r17 = true then
            some ((20 : Int32), s18)
          else
            bd (tw_nameWord n s18) fun r21 s22 =>
            some (r21, s22)
theorem w_tw_word {l : Launch} {n : Nat} {s sF : Sto} {rF : Int32} (hf : tw_word n s  = some (rF, sF)) : Ct tCfg l yX3_word cX3_word 1 (some .int) { frames := 7, cells := 0, slots := 0, locals := 140 } (fun g => [.ref (g.1 0)]) s sF (fun _ => some (.int rF)) := by
  refine Ct_of pn_X3 (fun g => Nat.le_of_ble_eq_true rfl) (fun g A X C E hX => ?_)
  rw [tw_word] at hf
  show TG tCfg g A 1 X 0 0 s 0 [(0, .ref (g.1 0))] []
  refine g_aload_n C dX3_word_0 0 rfl ?_
  refine g_ldcS (tx := "when") C (List.mem_of_getElem? (i := 16) rfl) dX3_word_1 ?_
  refine bd_n hf (fun r1 s2 h3 hf => ?_)
  refine g_callV0 (As := [.ref (g.2.2.2.1 11)]) (rest := []) (stk := [.int (bI r1)]) C (w_tw_is h3) hX oT0 rfl rfl q1169 q1171 qs47 q91 q1172 mdX3_is rfl ⟨Nat.le_of_ble_eq_true rfl, Nat.le_of_ble_eq_true rfl⟩ (Nat.le_of_ble_eq_true rfl) dX3_word_3 rfl ?_
  refine g_ifZ_eq 11 C dX3_word_6 rfl (fun c4 => ?_) (fun c4 => ?_)
  · replace hf := if_t c4 hf
    refine g_iconst C dX3_word_9 kc_3 ?_
    exact g_iret C E rfl (re_i hf) (re_s hf) ⟨Nat.zero_le _, Nat.zero_le _⟩ dX3_word_10
  · replace hf := if_f c4 hf
    refine g_aload_n C dX3_word_11 0 rfl ?_
    refine g_ldcS (tx := "or") C (List.mem_of_getElem? (i := 17) rfl) dX3_word_12 ?_
    refine bd_n hf (fun r5 s6 h7 hf => ?_)
    refine g_callV0 (As := [.ref (g.2.2.2.1 12)]) (rest := []) (stk := [.int (bI r5)]) C (w_tw_is h7) hX oT0 rfl rfl q1169 q1171 qs47 q91 q1172 mdX3_is rfl ⟨Nat.le_of_ble_eq_true rfl, Nat.le_of_ble_eq_true rfl⟩ (Nat.le_of_ble_eq_true rfl) dX3_word_14 rfl ?_
    refine g_ifZ_eq 22 C dX3_word_17 rfl (fun c8 => ?_) (fun c8 => ?_)
    · replace hf := if_t c8 hf
      refine g_iconst C dX3_word_20 kc_4 ?_
      exact g_iret C E rfl (re_i hf) (re_s hf) ⟨Nat.zero_le _, Nat.zero_le _⟩ dX3_word_21
    · replace hf := if_f c8 hf
      refine g_aload_n C dX3_word_22 0 rfl ?_
      refine g_ldcS (tx := "and") C (List.mem_of_getElem? (i := 18) rfl) dX3_word_23 ?_
      refine bd_n hf (fun r9 s10 h11 hf => ?_)
      refine g_callV0 (As := [.ref (g.2.2.2.1 13)]) (rest := []) (stk := [.int (bI r9)]) C (w_tw_is h11) hX oT0 rfl rfl q1169 q1171 qs47 q91 q1172 mdX3_is rfl ⟨Nat.le_of_ble_eq_true rfl, Nat.le_of_ble_eq_true rfl⟩ (Nat.le_of_ble_eq_true rfl) dX3_word_25 rfl ?_
      refine g_ifZ_eq 33 C dX3_word_28 rfl (fun c12 => ?_) (fun c12 => ?_)
      · replace hf := if_t c12 hf
        refine g_iconst C dX3_word_31 kc_5 ?_
        exact g_iret C E rfl (re_i hf) (re_s hf) ⟨Nat.zero_le _, Nat.zero_le _⟩ dX3_word_32
      · replace hf := if_f c12 hf
        refine g_aload_n C dX3_word_33 0 rfl ?_
        refine g_ldcS (tx := "not") C (List.mem_of_getElem? (i := 19) rfl) dX3_word_34 ?_
        refine bd_n hf (fun r13 s14 h15 hf => ?_)
        refine g_callV0 (As := [.ref (g.2.2.2.1 14)]) (rest := []) (stk := [.int (bI r13)]) C (w_tw_is h15) hX oT0 rfl rfl q1169 q1171 qs47 q91 q1172 mdX3_is rfl ⟨Nat.le_of_ble_eq_true rfl, Nat.le_of_ble_eq_true rfl⟩ (Nat.le_of_ble_eq_true rfl) dX3_word_36 rfl ?_
        refine g_ifZ_eq 45 C dX3_word_39 rfl (fun c16 => ?_) (fun c16 => ?_)
        · replace hf := if_t c16 hf
          refine g_bipush C dX3_word_42 kb_6 ?_
          exact g_iret C E rfl (re_i hf) (re_s hf) ⟨Nat.zero_le _, Nat.zero_le _⟩ dX3_word_44
        · replace hf := if_f c16 hf
          refine g_aload_n C dX3_word_45 0 rfl ?_
          refine g_ldcS (tx := "worth") C (List.mem_of_getElem? (i := 20) rfl) dX3_word_46 ?_
          refine bd_n hf (fun r17 s18 h19 hf => ?_)
          refine g_callV0 (As := [.ref (g.2.2.2.1 0)]) (rest := []) (stk := [.int (bI r17)]) C (w_tw_is h19) hX oT0 rfl rfl q1169 q1171 qs47 q91 q1172 mdX3_is rfl ⟨Nat.le_of_ble_eq_true rfl, Nat.le_of_ble_eq_true rfl⟩ (Nat.le_of_ble_eq_true rfl) dX3_word_48 rfl ?_
          refine g_ifZ_eq 59 C dX3_word_51 rfl (fun c20 => ?_) (fun c20 => ?_)
          · replace hf := if_t c20 hf
            refine g_bipush C dX3_word_54 kb_20 ?_
            refine g_goto 63 C dX3_word_56 rfl ?_
            exact g_iret C E rfl (re_i hf) (re_s hf) ⟨Nat.zero_le _, Nat.zero_le _⟩ dX3_word_63
          · replace hf := if_f c20 hf
            refine g_aload_n C dX3_word_59 0 rfl ?_
            refine bd_n hf (fun r21 s22 h23 hf => ?_)
            refine g_callV0 (As := []) (rest := []) (stk := [.int r21]) C (w_tw_nameWord h23) hX oT0 rfl rfl q1179 q1181 qs48 q91 q1182 mdX3_nameWord rfl ⟨Nat.le_of_ble_eq_true rfl, Nat.le_of_ble_eq_true rfl⟩ (Nat.le_of_ble_eq_true rfl) dX3_word_60 rfl ?_
            exact g_iret C E rfl (re_i hf) (re_s hf) ⟨Nat.zero_le _, Nat.zero_le _⟩ dX3_word_63
def tw_next0_L0 (n : Nat) (k3 : Sto → Option (Unit × Sto)) : Nat → Sto → Option (Unit × Sto)
  | 0, _ => none
  | k + 1, s1 =>
    bd (tw_see n s1 (s1.1 0 13)) fun r4 s5 =>
    vl (fun (s7 : Sto) =>
      vl (sI s7 0 13 ((s7.1 0 13) + (1 : Int32))) fun s9 =>
      tw_next0_L0 n k3 k s9) fun j8 =>
    if r4 = (32 : Int32) then
      j8 s5
    else
      bd (tw_see n s5 (s5.1 0 13)) fun r11 s12 =>
      if r11 = (10 : Int32) then
        j8 s12
      else
        k3 s12
def tw_next0_L76 (n : Nat) : Nat → Sto → Option (Unit × Sto)
  | 0, _ => none
  | k + 1, s25 =>
    bd (tw_see n s25 (s25.1 0 13)) fun r26 s27 =>
    bd (tw_isLetter n s27 r26) fun r29 s30 =>
    if r29 = true then
      vl (sI s30 0 13 ((s30.1 0 13) + (1 : Int32))) fun s33 =>
      tw_next0_L76 n k s33
    else
      bd (tw_word n s30) fun r34 s35 =>
      vl (sI s35 0 14 r34) fun s37 =>
      some ((), s37)
def tw_next0_L126 (n : Nat) (k45 : Sto → Option (Unit × Sto)) : Nat → Sto → Option (Unit × Sto)
  | 0, _ => none
  | k + 1, s43 =>
    bd (tw_see n s43 (s43.1 0 13)) fun r46 s47 =>
    bd (tw_isDigit n s47 r46) fun r49 s50 =>
    if r49 = true then
      vl (fun (s53 : Sto) =>
        vl (sI s53 0 13 ((s53.1 0 13) + (1 : Int32))) fun s55 =>
        tw_next0_L126 n k45 k s55) fun j54 =>
      if ((s50.1 0 15) + (4 : Int32)) ≤ (s50.1 0 13) then
        j54 s50
      else
        bd (tw_see n s50 (s50.1 0 13)) fun r57 s58 =>
        vl (sI s58 0 16 ((((10 : Int32) * (s50.1 0 16)) + r57) - (48 : Int32))) fun s60 =>
        j54 s60
    else
      k45 s50
def tw_next0 (n : Nat) (s : Sto) : Option (Unit × Sto) :=
  tw_next0_L0 n
      (fun (s2 : Sto) =>
        vl (sI s2 0 15 (s2.1 0 13)) fun s15 =>
        bd (tw_see n s15 (s15.1 0 13)) fun r16 s17 =>
        if r16 = (-1 : Int32) then
          vl (sI s17 0 14 (0 : Int32)) fun s20 =>
          some ((), s20)
        else
          bd (tw_isLetter n s17 r16) fun r21 s22 =>
          if r21 = true then
            tw_next0_L76 n
                n s22
          else
            bd (tw_isDigit n s22 r16) fun r38 s39 =>
            if r38 = true then
              vl (sI s39 0 16 (0 : Int32)) fun s42 =>
              tw_next0_L126 n
                  (fun (s44 : Sto) =>
                    if (5 : Int32) ≤ ((s44.1 0 13) - (s44.1 0 15)) then
                      vl (sI s44 0 14 (1 : Int32)) fun s62 =>
                      some ((), s62)
                    else
                      vl (sI s44 0 14 (2 : Int32)) fun s63 =>
                      some ((), s63))
                  n s42
            else
              vl (sI s39 0 13 ((s39.1 0 13) + (1 : Int32))) fun s64 =>
              vl (fun (t65 : Bool) =>
                if t65 = true then
                  vl (sI s64 0 14 ((100 : Int32) + r16)) fun s68 =>
                  some ((), s68)
                else
                  vl (sI s64 0 14 (1 : Int32)) fun s69 =>
                  some ((), s69)) fun j66 =>
              vl (fun (_ : Unit) =>
                j66 true) fun j70 =>
              if r16 = (59 : Int32) then
                j70 ()
              else
                if r16 = (43 : Int32) then
                  j70 ()
                else
                  if r16 = (45 : Int32) then
                    j70 ()
                  else
                    if r16 = (42 : Int32) then
                      j70 ()
                    else
                      if r16 = (47 : Int32) then
                        j70 ()
                      else
                        if r16 = (40 : Int32) then
                          j70 ()
                        else
                          if r16 = (41 : Int32) then
                            j70 ()
                          else
                            if r16 = (60 : Int32) then
                              j70 ()
                            else
                              if r16 = (61 : Int32) then
                                j70 ()
                              else
                                if r16 = (62 : Int32) then
                                  j70 ()
                                else
                                  j66 false)
      n s
theorem w_tw_next0_L0  {l : Launch} {n : Nat} {k3 : Sto → Option (Unit × Sto)} {g : Gam} {A : Nat → Prop} {X : FX} {si sF : Sto} {rF : Unit} (C : CX tCfg g A 3 X cX3_next0 RX3 none 8 160) (E : EX tCfg g A X si sF none 0 0) (hX : X.2.1 = l) (Hk3 : ∀ (s2 : Sto), k3 s2 = some (rF, sF) → TG tCfg g A 3 X 0 0 s2 39 [(0, .ref (g.1 0))] []) : ∀ (k : Nat) (s1 : Sto), tw_next0_L0 n k3 k s1 = some (rF, sF) → TG tCfg g A 3 X 0 0 s1 0 [(0, .ref (g.1 0))] [] := by
  intro k
  induction k with
  | zero => intro s1 hf; rw [tw_next0_L0] at hf; cases hf
  | succ k ih =>
    intro s1 hf
    rw [tw_next0_L0] at hf
    refine g_aload_n C dX3_next0_0 0 rfl ?_
    refine g_aload_n C dX3_next0_1 0 rfl ?_
    refine g_getI C oT0 fX3_78 dX3_next0_2 ?_
    refine bd_n hf (fun r4 s5 h6 hf => ?_)
    refine g_callV0 (As := [.int (s1.1 0 13)]) (rest := []) (stk := [.int r4]) C (w_tw_see h6) hX oT0 rfl rfl q1157 q1159 qs45 q91 q1160 mdX3_see rfl ⟨Nat.le_of_ble_eq_true rfl, Nat.le_of_ble_eq_true rfl⟩ (Nat.le_of_ble_eq_true rfl) dX3_next0_5 rfl ?_
    refine g_bipush C dX3_next0_8 kb_32 ?_
    refine vl_n hf (fun j8 hj8 hf => ?_)
    have Hj8 : ∀ (s7 : Sto), j8 s7 = some (rF, sF) → TG tCfg g A 3 X 0 0 s7 26 [(0, .ref (g.1 0))] [] := by
      clear hf; subst hj8
      intro s7 hf
      refine g_aload_n C dX3_next0_26 0 rfl ?_
      refine g_dup C dX3_next0_27 rfl ?_
      refine g_getI C oT0 fX3_78 dX3_next0_28 ?_
      refine g_iconst C dX3_next0_31 kc_1 ?_
      refine g_iadd C dX3_next0_32 ?_
      refine vl_n hf (fun s9 hs9 hf => ?_)
      refine g_putI C oT0 pX3_78 rfl rfl hs9 dX3_next0_33 ?_
      refine g_goto 0 C dX3_next0_36 rfl ?_
      exact g_sub [0] rfl (ih _ hf)
    clear hj8
    refine g_icmp_eq 26 C dX3_next0_10 rfl (fun c10 => ?_) (fun c10 => ?_)
    · replace hf := if_t c10 hf
      exact g_sub [0] rfl (Hj8 _ hf)
    · replace hf := if_f c10 hf
      refine g_aload_n C dX3_next0_13 0 rfl ?_
      refine g_aload_n C dX3_next0_14 0 rfl ?_
      refine g_getI C oT0 fX3_78 dX3_next0_15 ?_
      refine bd_n hf (fun r11 s12 h13 hf => ?_)
      refine g_callV0 (As := [.int (s5.1 0 13)]) (rest := []) (stk := [.int r11]) C (w_tw_see h13) hX oT0 rfl rfl q1157 q1159 qs45 q91 q1160 mdX3_see rfl ⟨Nat.le_of_ble_eq_true rfl, Nat.le_of_ble_eq_true rfl⟩ (Nat.le_of_ble_eq_true rfl) dX3_next0_18 rfl ?_
      refine g_bipush C dX3_next0_21 kb_10 ?_
      refine g_icmp_ne 39 C dX3_next0_23 rfl (fun c14 => ?_) (fun c14 => ?_)
      · replace hf := if_t c14 hf
        exact g_sub [0] rfl (Hj8 _ hf)
      · replace hf := if_f c14 hf
        exact g_sub [0] rfl (Hk3 _ hf)
theorem w_tw_next0_L76  {l : Launch} {n : Nat} {g : Gam} {A : Nat → Prop} {X : FX} {si sF : Sto} {rF : Unit} (C : CX tCfg g A 3 X cX3_next0 RX3 none 8 160) (E : EX tCfg g A X si sF none 0 0) (hX : X.2.1 = l) : ∀ (k : Nat) (s25 : Sto), tw_next0_L76 n k s25 = some (rF, sF) → TG tCfg g A 3 X 0 0 s25 76 [(0, .ref (g.1 0))] [] := by
  intro k
  induction k with
  | zero => intro s25 hf; rw [tw_next0_L76] at hf; cases hf
  | succ k ih =>
    intro s25 hf
    rw [tw_next0_L76] at hf
    refine g_aload_n C dX3_next0_76 0 rfl ?_
    refine g_aload_n C dX3_next0_77 0 rfl ?_
    refine g_getI C oT0 fX3_78 dX3_next0_78 ?_
    refine bd_n hf (fun r26 s27 h28 hf => ?_)
    refine g_callV0 (As := [.int (s25.1 0 13)]) (rest := []) (stk := [.int r26]) C (w_tw_see h28) hX oT0 rfl rfl q1157 q1159 qs45 q91 q1160 mdX3_see rfl ⟨Nat.le_of_ble_eq_true rfl, Nat.le_of_ble_eq_true rfl⟩ (Nat.le_of_ble_eq_true rfl) dX3_next0_81 rfl ?_
    refine bd_n hf (fun r29 s30 h31 hf => ?_)
    refine g_callS0 (As := [.int r26]) (rest := []) (stk := [.int (bI r29)]) C (w_tw_isLetter h31) hX rfl q1161 q1162 q91 q1163 msX3_isLetter rfl ⟨Nat.le_of_ble_eq_true rfl, Nat.le_of_ble_eq_true rfl⟩ (Nat.le_of_ble_eq_true rfl) dX3_next0_84 rfl ?_
    refine g_ifZ_eq 103 C dX3_next0_87 rfl (fun c32 => ?_) (fun c32 => ?_)
    · replace hf := if_t c32 hf
      refine g_aload_n C dX3_next0_90 0 rfl ?_
      refine g_dup C dX3_next0_91 rfl ?_
      refine g_getI C oT0 fX3_78 dX3_next0_92 ?_
      refine g_iconst C dX3_next0_95 kc_1 ?_
      refine g_iadd C dX3_next0_96 ?_
      refine vl_n hf (fun s33 hs33 hf => ?_)
      refine g_putI C oT0 pX3_78 rfl rfl hs33 dX3_next0_97 ?_
      refine g_goto 76 C dX3_next0_100 rfl ?_
      exact g_sub [0] rfl (ih _ hf)
    · replace hf := if_f c32 hf
      refine g_aload_n C dX3_next0_103 0 rfl ?_
      refine g_aload_n C dX3_next0_104 0 rfl ?_
      refine bd_n hf (fun r34 s35 h36 hf => ?_)
      refine g_callV0 (As := []) (rest := [.ref (g.1 0)]) (stk := [.int r34, .ref (g.1 0)]) C (w_tw_word h36) hX oT0 rfl rfl q1164 q1166 qs46 q91 q1167 mdX3_word rfl ⟨Nat.le_of_ble_eq_true rfl, Nat.le_of_ble_eq_true rfl⟩ (Nat.le_of_ble_eq_true rfl) dX3_next0_105 rfl ?_
      refine vl_n hf (fun s37 hs37 hf => ?_)
      refine g_putI C oT0 pX3_135 rfl rfl hs37 dX3_next0_108 ?_
      refine g_goto 306 C dX3_next0_111 rfl ?_
      exact g_vret C E rfl (re_s hf) ⟨Nat.zero_le _, Nat.zero_le _⟩ dX3_next0_306
theorem w_tw_next0_L126  {l : Launch} {n : Nat} {k45 : Sto → Option (Unit × Sto)} {g : Gam} {A : Nat → Prop} {X : FX} {si sF : Sto} {rF : Unit} (C : CX tCfg g A 3 X cX3_next0 RX3 none 8 160) (E : EX tCfg g A X si sF none 0 0) (hX : X.2.1 = l) (Hk45 : ∀ (s44 : Sto), k45 s44 = some (rF, sF) → TG tCfg g A 3 X 0 0 s44 189 [(0, .ref (g.1 0))] []) : ∀ (k : Nat) (s43 : Sto), tw_next0_L126 n k45 k s43 = some (rF, sF) → TG tCfg g A 3 X 0 0 s43 126 [(0, .ref (g.1 0))] [] := by
  intro k
  induction k with
  | zero => intro s43 hf; rw [tw_next0_L126] at hf; cases hf
  | succ k ih =>
    intro s43 hf
    rw [tw_next0_L126] at hf
    refine g_aload_n C dX3_next0_126 0 rfl ?_
    refine g_aload_n C dX3_next0_127 0 rfl ?_
    refine g_getI C oT0 fX3_78 dX3_next0_128 ?_
    refine bd_n hf (fun r46 s47 h48 hf => ?_)
    refine g_callV0 (As := [.int (s43.1 0 13)]) (rest := []) (stk := [.int r46]) C (w_tw_see h48) hX oT0 rfl rfl q1157 q1159 qs45 q91 q1160 mdX3_see rfl ⟨Nat.le_of_ble_eq_true rfl, Nat.le_of_ble_eq_true rfl⟩ (Nat.le_of_ble_eq_true rfl) dX3_next0_131 rfl ?_
    refine bd_n hf (fun r49 s50 h51 hf => ?_)
    refine g_callS0 (As := [.int r46]) (rest := []) (stk := [.int (bI r49)]) C (w_tw_isDigit h51) hX rfl q1193 q1194 q91 q1195 msX3_isDigit rfl ⟨Nat.le_of_ble_eq_true rfl, Nat.le_of_ble_eq_true rfl⟩ (Nat.le_of_ble_eq_true rfl) dX3_next0_134 rfl ?_
    refine g_ifZ_eq 189 C dX3_next0_137 rfl (fun c52 => ?_) (fun c52 => ?_)
    · replace hf := if_t c52 hf
      refine g_aload_n C dX3_next0_140 0 rfl ?_
      refine g_getI C oT0 fX3_78 dX3_next0_141 ?_
      refine g_aload_n C dX3_next0_144 0 rfl ?_
      refine g_getI C oT0 fX3_81 dX3_next0_145 ?_
      refine g_iconst C dX3_next0_148 kc_4 ?_
      refine g_iadd C dX3_next0_149 ?_
      refine vl_n hf (fun j54 hj54 hf => ?_)
      have Hj54 : ∀ (s53 : Sto), j54 s53 = some (rF, sF) → TG tCfg g A 3 X 0 0 s53 176 [(0, .ref (g.1 0))] [] := by
        clear hf; subst hj54
        intro s53 hf
        refine g_aload_n C dX3_next0_176 0 rfl ?_
        refine g_dup C dX3_next0_177 rfl ?_
        refine g_getI C oT0 fX3_78 dX3_next0_178 ?_
        refine g_iconst C dX3_next0_181 kc_1 ?_
        refine g_iadd C dX3_next0_182 ?_
        refine vl_n hf (fun s55 hs55 hf => ?_)
        refine g_putI C oT0 pX3_78 rfl rfl hs55 dX3_next0_183 ?_
        refine g_goto 126 C dX3_next0_186 rfl ?_
        exact g_sub [0] rfl (ih _ hf)
      clear hj54
      refine g_icmp_ge 176 C dX3_next0_150 rfl (fun c56 => ?_) (fun c56 => ?_)
      · replace hf := if_t c56 hf
        exact g_sub [0] rfl (Hj54 _ hf)
      · replace hf := if_f c56 hf
        refine g_aload_n C dX3_next0_153 0 rfl ?_
        refine g_bipush C dX3_next0_154 kb_10 ?_
        refine g_aload_n C dX3_next0_156 0 rfl ?_
        refine g_getI C oT0 fX3_148 dX3_next0_157 ?_
        refine g_imul C dX3_next0_160 ?_
        refine g_aload_n C dX3_next0_161 0 rfl ?_
        refine g_aload_n C dX3_next0_162 0 rfl ?_
        refine g_getI C oT0 fX3_78 dX3_next0_163 ?_
        refine bd_n hf (fun r57 s58 h59 hf => ?_)
        refine g_callV0 (As := [.int (s50.1 0 13)]) (rest := [.int ((10 : Int32) * (s50.1 0 16)), .ref (g.1 0)]) (stk := [.int r57, .int ((10 : Int32) * (s50.1 0 16)), .ref (g.1 0)]) C (w_tw_see h59) hX oT0 rfl rfl q1157 q1159 qs45 q91 q1160 mdX3_see rfl ⟨Nat.le_of_ble_eq_true rfl, Nat.le_of_ble_eq_true rfl⟩ (Nat.le_of_ble_eq_true rfl) dX3_next0_166 rfl ?_
        refine g_iadd C dX3_next0_169 ?_
        refine g_bipush C dX3_next0_170 kb_48 ?_
        refine g_isub C dX3_next0_172 ?_
        refine vl_n hf (fun s60 hs60 hf => ?_)
        refine g_putI C oT0 pX3_148 rfl rfl hs60 dX3_next0_173 ?_
        exact g_sub [0] rfl (Hj54 _ hf)
    · replace hf := if_f c52 hf
      exact g_sub [0] rfl (Hk45 _ hf)
theorem w_tw_next0 {l : Launch} {n : Nat} {s sF : Sto} {rF : Unit} (hf : tw_next0 n s  = some (rF, sF)) : Ct tCfg l yX3_next0 cX3_next0 3 none { frames := 8, cells := 0, slots := 0, locals := 160 } (fun g => [.ref (g.1 0)]) s sF (fun _ => none) := by
  refine Ct_of pn_X3 (fun g => Nat.le_of_ble_eq_true rfl) (fun g A X C E hX => ?_)
  rw [tw_next0] at hf
  show TG tCfg g A 3 X 0 0 s 0 [(0, .ref (g.1 0))] []
  refine g_sub [0] rfl (w_tw_next0_L0 C E hX (fun s2 hf => ?_) _ _ hf)
  refine g_aload_n C dX3_next0_39 0 rfl ?_
  refine g_aload_n C dX3_next0_40 0 rfl ?_
  refine g_getI C oT0 fX3_78 dX3_next0_41 ?_
  refine vl_n hf (fun s15 hs15 hf => ?_)
  refine g_putI C oT0 pX3_81 rfl rfl hs15 dX3_next0_44 ?_
  refine g_aload_n C dX3_next0_47 0 rfl ?_
  refine g_aload_n C dX3_next0_48 0 rfl ?_
  refine g_getI C oT0 fX3_78 dX3_next0_49 ?_
  refine bd_n hf (fun r16 s17 h18 hf => ?_)
  refine g_callV0 (As := [.int (s15.1 0 13)]) (rest := []) (stk := [.int r16]) C (w_tw_see h18) hX oT0 rfl rfl q1157 q1159 qs45 q91 q1160 mdX3_see rfl ⟨Nat.le_of_ble_eq_true rfl, Nat.le_of_ble_eq_true rfl⟩ (Nat.le_of_ble_eq_true rfl) dX3_next0_52 rfl ?_
  refine g_istore_n (i := 1) (lv' := [(1, .int r16), (0, .ref (g.1 0))]) C dX3_next0_55 rfl rfl (by decide) rfl ?_
  refine g_iload_n C dX3_next0_56 0 rfl ?_
  refine g_iconst C dX3_next0_57 kc_m1 ?_
  refine g_icmp_ne 69 C dX3_next0_58 rfl (fun c19 => ?_) (fun c19 => ?_)
  · replace hf := if_t c19 hf
    refine g_aload_n C dX3_next0_61 1 rfl ?_
    refine g_iconst C dX3_next0_62 kc_0 ?_
    refine vl_n hf (fun s20 hs20 hf => ?_)
    refine g_putI C oT0 pX3_135 rfl rfl hs20 dX3_next0_63 ?_
    refine g_goto 306 C dX3_next0_66 rfl ?_
    exact g_vret C E rfl (re_s hf) ⟨Nat.zero_le _, Nat.zero_le _⟩ dX3_next0_306
  · replace hf := if_f c19 hf
    refine g_iload_n C dX3_next0_69 0 rfl ?_
    refine bd_n hf (fun r21 s22 h23 hf => ?_)
    refine g_callS0 (As := [.int r16]) (rest := []) (stk := [.int (bI r21)]) C (w_tw_isLetter h23) hX rfl q1161 q1162 q91 q1163 msX3_isLetter rfl ⟨Nat.le_of_ble_eq_true rfl, Nat.le_of_ble_eq_true rfl⟩ (Nat.le_of_ble_eq_true rfl) dX3_next0_70 rfl ?_
    refine g_ifZ_eq 114 C dX3_next0_73 rfl (fun c24 => ?_) (fun c24 => ?_)
    · replace hf := if_t c24 hf
      refine g_sub [1] rfl (w_tw_next0_L76 C E hX _ _ hf)
    · replace hf := if_f c24 hf
      refine g_iload_n C dX3_next0_114 0 rfl ?_
      refine bd_n hf (fun r38 s39 h40 hf => ?_)
      refine g_callS0 (As := [.int r16]) (rest := []) (stk := [.int (bI r38)]) C (w_tw_isDigit h40) hX rfl q1193 q1194 q91 q1195 msX3_isDigit rfl ⟨Nat.le_of_ble_eq_true rfl, Nat.le_of_ble_eq_true rfl⟩ (Nat.le_of_ble_eq_true rfl) dX3_next0_115 rfl ?_
      refine g_ifZ_eq 214 C dX3_next0_118 rfl (fun c41 => ?_) (fun c41 => ?_)
      · replace hf := if_t c41 hf
        refine g_aload_n C dX3_next0_121 1 rfl ?_
        refine g_iconst C dX3_next0_122 kc_0 ?_
        refine vl_n hf (fun s42 hs42 hf => ?_)
        refine g_putI C oT0 pX3_148 rfl rfl hs42 dX3_next0_123 ?_
        refine g_sub [1] rfl (w_tw_next0_L126 C E hX (fun s44 hf => ?_) _ _ hf)
        refine g_aload_n C dX3_next0_189 0 rfl ?_
        refine g_aload_n C dX3_next0_190 0 rfl ?_
        refine g_getI C oT0 fX3_78 dX3_next0_191 ?_
        refine g_aload_n C dX3_next0_194 0 rfl ?_
        refine g_getI C oT0 fX3_81 dX3_next0_195 ?_
        refine g_isub C dX3_next0_198 ?_
        refine g_iconst C dX3_next0_199 kc_5 ?_
        refine g_icmp_ge 207 C dX3_next0_200 rfl (fun c61 => ?_) (fun c61 => ?_)
        · replace hf := if_t c61 hf
          refine g_iconst C dX3_next0_207 kc_1 ?_
          refine vl_n hf (fun s62 hs62 hf => ?_)
          refine g_putI C oT0 pX3_135 rfl rfl hs62 dX3_next0_208 ?_
          refine g_goto 306 C dX3_next0_211 rfl ?_
          exact g_vret C E rfl (re_s hf) ⟨Nat.zero_le _, Nat.zero_le _⟩ dX3_next0_306
        · replace hf := if_f c61 hf
          refine g_iconst C dX3_next0_203 kc_2 ?_
          refine g_goto 208 C dX3_next0_204 rfl ?_
          refine vl_n hf (fun s63 hs63 hf => ?_)
          refine g_putI C oT0 pX3_135 rfl rfl hs63 dX3_next0_208 ?_
          refine g_goto 306 C dX3_next0_211 rfl ?_
          exact g_vret C E rfl (re_s hf) ⟨Nat.zero_le _, Nat.zero_le _⟩ dX3_next0_306
      · replace hf := if_f c41 hf
        refine g_aload_n C dX3_next0_214 1 rfl ?_
        refine g_dup C dX3_next0_215 rfl ?_
        refine g_getI C oT0 fX3_78 dX3_next0_216 ?_
        refine g_iconst C dX3_next0_219 kc_1 ?_
        refine g_iadd C dX3_next0_220 ?_
        refine vl_n hf (fun s64 hs64 hf => ?_)
        refine g_putI C oT0 pX3_78 rfl rfl hs64 dX3_next0_221 ?_
        refine g_iload_n C dX3_next0_224 0 rfl ?_
        refine g_bipush C dX3_next0_225 kb_59 ?_
        refine vl_n hf (fun j66 hj66 hf => ?_)
        have Hj66 : ∀ (t65 : Bool), j66 t65 = some (rF, sF) → TG tCfg g A 3 X 0 0 s64 289 [(0, .ref (g.1 0)), (1, .int r16)] [.int (bI t65)] := by
          clear hf; subst hj66
          intro t65 hf
          refine g_istore_n (i := 2) (lv' := [(2, .int (bI t65)), (0, .ref (g.1 0)), (1, .int r16)]) C dX3_next0_289 rfl rfl (by decide) rfl ?_
          refine g_aload_n C dX3_next0_290 1 rfl ?_
          refine g_iload_n C dX3_next0_291 0 rfl ?_
          refine g_ifZ_eq 302 C dX3_next0_292 rfl (fun c67 => ?_) (fun c67 => ?_)
          · replace hf := if_t c67 hf
            refine g_bipush C dX3_next0_295 kb_100 ?_
            refine g_iload_n C dX3_next0_297 2 rfl ?_
            refine g_iadd C dX3_next0_298 ?_
            refine g_goto 303 C dX3_next0_299 rfl ?_
            refine vl_n hf (fun s68 hs68 hf => ?_)
            refine g_putI C oT0 pX3_135 rfl rfl hs68 dX3_next0_303 ?_
            exact g_vret C E rfl (re_s hf) ⟨Nat.zero_le _, Nat.zero_le _⟩ dX3_next0_306
          · replace hf := if_f c67 hf
            refine g_iconst C dX3_next0_302 kc_1 ?_
            refine vl_n hf (fun s69 hs69 hf => ?_)
            refine g_putI C oT0 pX3_135 rfl rfl hs69 dX3_next0_303 ?_
            exact g_vret C E rfl (re_s hf) ⟨Nat.zero_le _, Nat.zero_le _⟩ dX3_next0_306
        clear hj66
        refine vl_n hf (fun j70 hj70 hf => ?_)
        have Hj70 : ∀ (u : Unit), j70 u = some (rF, sF) → TG tCfg g A 3 X 0 0 s64 284 [(0, .ref (g.1 0)), (1, .int r16)] [] := by
          clear hf; subst hj70
          intro u hf
          refine g_iconst C dX3_next0_284 kc_1 ?_
          refine g_goto 289 C dX3_next0_285 rfl ?_
          exact g_sub [0, 1] rfl (Hj66 _ hf)
        clear hj70
        refine g_icmp_eq 284 C dX3_next0_227 rfl (fun c71 => ?_) (fun c71 => ?_)
        · replace hf := if_t c71 hf
          exact g_sub [1, 0] rfl (Hj70 _ hf)
        · replace hf := if_f c71 hf
          refine g_iload_n C dX3_next0_230 0 rfl ?_
          refine g_bipush C dX3_next0_231 kb_43 ?_
          refine g_icmp_eq 284 C dX3_next0_233 rfl (fun c72 => ?_) (fun c72 => ?_)
          · replace hf := if_t c72 hf
            exact g_sub [1, 0] rfl (Hj70 _ hf)
          · replace hf := if_f c72 hf
            refine g_iload_n C dX3_next0_236 0 rfl ?_
            refine g_bipush C dX3_next0_237 kb_45 ?_
            refine g_icmp_eq 284 C dX3_next0_239 rfl (fun c73 => ?_) (fun c73 => ?_)
            · replace hf := if_t c73 hf
              exact g_sub [1, 0] rfl (Hj70 _ hf)
            · replace hf := if_f c73 hf
              refine g_iload_n C dX3_next0_242 0 rfl ?_
              refine g_bipush C dX3_next0_243 kb_42 ?_
              refine g_icmp_eq 284 C dX3_next0_245 rfl (fun c74 => ?_) (fun c74 => ?_)
              · replace hf := if_t c74 hf
                exact g_sub [1, 0] rfl (Hj70 _ hf)
              · replace hf := if_f c74 hf
                refine g_iload_n C dX3_next0_248 0 rfl ?_
                refine g_bipush C dX3_next0_249 kb_47 ?_
                refine g_icmp_eq 284 C dX3_next0_251 rfl (fun c75 => ?_) (fun c75 => ?_)
                · replace hf := if_t c75 hf
                  exact g_sub [1, 0] rfl (Hj70 _ hf)
                · replace hf := if_f c75 hf
                  refine g_iload_n C dX3_next0_254 0 rfl ?_
                  refine g_bipush C dX3_next0_255 kb_40 ?_
                  refine g_icmp_eq 284 C dX3_next0_257 rfl (fun c76 => ?_) (fun c76 => ?_)
                  · replace hf := if_t c76 hf
                    exact g_sub [1, 0] rfl (Hj70 _ hf)
                  · replace hf := if_f c76 hf
                    refine g_iload_n C dX3_next0_260 0 rfl ?_
                    refine g_bipush C dX3_next0_261 kb_41 ?_
                    refine g_icmp_eq 284 C dX3_next0_263 rfl (fun c77 => ?_) (fun c77 => ?_)
                    · replace hf := if_t c77 hf
                      exact g_sub [1, 0] rfl (Hj70 _ hf)
                    · replace hf := if_f c77 hf
                      refine g_iload_n C dX3_next0_266 0 rfl ?_
                      refine g_bipush C dX3_next0_267 kb_60 ?_
                      refine g_icmp_eq 284 C dX3_next0_269 rfl (fun c78 => ?_) (fun c78 => ?_)
                      · replace hf := if_t c78 hf
                        exact g_sub [1, 0] rfl (Hj70 _ hf)
                      · replace hf := if_f c78 hf
                        refine g_iload_n C dX3_next0_272 0 rfl ?_
                        refine g_bipush C dX3_next0_273 kb_61 ?_
                        refine g_icmp_eq 284 C dX3_next0_275 rfl (fun c79 => ?_) (fun c79 => ?_)
                        · replace hf := if_t c79 hf
                          exact g_sub [1, 0] rfl (Hj70 _ hf)
                        · replace hf := if_f c79 hf
                          refine g_iload_n C dX3_next0_278 0 rfl ?_
                          refine g_bipush C dX3_next0_279 kb_62 ?_
                          refine g_icmp_ne 288 C dX3_next0_281 rfl (fun c80 => ?_) (fun c80 => ?_)
                          · replace hf := if_t c80 hf
                            exact g_sub [1, 0] rfl (Hj70 _ hf)
                          · replace hf := if_f c80 hf
                            refine g_iconst C dX3_next0_288 kc_0 ?_
                            exact g_sub [1, 0] rfl (Hj66 _ hf)
def tw_need (n : Nat) (s : Sto) (a1 : Int32) : Option (Bool × Sto) :=
  if (s.1 0 14) = a1 then
    bd (tw_next0 n s) fun r2 s3 =>
    some (true, s3)
  else
    bd (tw_bad n s (1 : Int32)) fun r5 s6 =>
    some (r5, s6)
theorem w_tw_need {l : Launch} {n : Nat} {s sF : Sto} {a1 : Int32} {rF : Bool} (hf : tw_need n s a1 = some (rF, sF)) : Ct tCfg l yX3_need cX3_need 2 (some .boolean) { frames := 9, cells := 0, slots := 0, locals := 182 } (fun g => [.ref (g.1 0), .int a1]) s sF (fun _ => some (.int (bI rF))) := by
  refine Ct_of pn_X3 (fun g => Nat.le_of_ble_eq_true rfl) (fun g A X C E hX => ?_)
  rw [tw_need] at hf
  show TG tCfg g A 2 X 0 0 s 0 [(0, .ref (g.1 0)), (1, .int a1)] []
  refine g_aload_n C dX3_need_0 0 rfl ?_
  refine g_getI C oT0 fX3_135 dX3_need_1 ?_
  refine g_iload_n C dX3_need_4 1 rfl ?_
  refine g_icmp_eq 14 C dX3_need_5 rfl (fun c1 => ?_) (fun c1 => ?_)
  · replace hf := if_t c1 hf
    refine g_aload_n C dX3_need_14 0 rfl ?_
    refine bd_n hf (fun r2 s3 h4 hf => ?_)
    refine g_callV0 (As := []) (rest := []) (stk := []) C (w_tw_next0 h4) hX oT0 rfl rfl q1153 q1155 qs44 q91 q1156 mdX3_next0 rfl ⟨Nat.le_of_ble_eq_true rfl, Nat.le_of_ble_eq_true rfl⟩ (Nat.le_of_ble_eq_true rfl) dX3_need_15 rfl ?_
    refine g_iconst C dX3_need_18 kc_1 ?_
    exact g_iret (v := bI true) C E (bI_nar _) (re_z hf) (re_s hf) ⟨Nat.zero_le _, Nat.zero_le _⟩ dX3_need_19
  · replace hf := if_f c1 hf
    refine g_aload_n C dX3_need_8 0 rfl ?_
    refine g_iconst C dX3_need_9 kc_1 ?_
    refine bd_n hf (fun r5 s6 h7 hf => ?_)
    refine g_callV0 (As := [.int (1 : Int32)]) (rest := []) (stk := [.int (bI r5)]) C (w_tw_bad h7) hX oT0 rfl rfl q1200 q1202 qs50 q91 q1203 mdX3_bad rfl ⟨Nat.le_of_ble_eq_true rfl, Nat.le_of_ble_eq_true rfl⟩ (Nat.le_of_ble_eq_true rfl) dX3_need_10 rfl ?_
    exact g_iret (v := bI r5) C E (bI_nar _) (re_z hf) (re_s hf) ⟨Nat.zero_le _, Nat.zero_le _⟩ dX3_need_13
def tw_opens (n : Nat) (s : Sto) : Option (Bool × Sto) :=
  if (s.1 0 20) = (8 : Int32) then
    bd (tw_bad n s (3 : Int32)) fun r2 s3 =>
    some (r2, s3)
  else
    vl (sI s 0 20 ((s.1 0 20) + (1 : Int32))) fun s5 =>
    bd (tw_next0 n s5) fun r6 s7 =>
    some (true, s7)
theorem w_tw_opens {l : Launch} {n : Nat} {s sF : Sto} {rF : Bool} (hf : tw_opens n s  = some (rF, sF)) : Ct tCfg l yX3_opens cX3_opens 1 (some .boolean) { frames := 9, cells := 0, slots := 0, locals := 182 } (fun g => [.ref (g.1 0)]) s sF (fun _ => some (.int (bI rF))) := by
  refine Ct_of pn_X3 (fun g => Nat.le_of_ble_eq_true rfl) (fun g A X C E hX => ?_)
  rw [tw_opens] at hf
  show TG tCfg g A 1 X 0 0 s 0 [(0, .ref (g.1 0))] []
  refine g_aload_n C dX3_opens_0 0 rfl ?_
  refine g_getI C oT0 fX3_166 dX3_opens_1 ?_
  refine g_bipush C dX3_opens_4 kb_8 ?_
  refine g_icmp_ne 15 C dX3_opens_6 rfl (fun c1 => ?_) (fun c1 => ?_)
  · replace hf := if_t c1 hf
    refine g_aload_n C dX3_opens_9 0 rfl ?_
    refine g_iconst C dX3_opens_10 kc_3 ?_
    refine bd_n hf (fun r2 s3 h4 hf => ?_)
    refine g_callV0 (As := [.int (3 : Int32)]) (rest := []) (stk := [.int (bI r2)]) C (w_tw_bad h4) hX oT0 rfl rfl q1200 q1202 qs50 q91 q1203 mdX3_bad rfl ⟨Nat.le_of_ble_eq_true rfl, Nat.le_of_ble_eq_true rfl⟩ (Nat.le_of_ble_eq_true rfl) dX3_opens_11 rfl ?_
    exact g_iret (v := bI r2) C E (bI_nar _) (re_z hf) (re_s hf) ⟨Nat.zero_le _, Nat.zero_le _⟩ dX3_opens_14
  · replace hf := if_f c1 hf
    refine g_aload_n C dX3_opens_15 0 rfl ?_
    refine g_dup C dX3_opens_16 rfl ?_
    refine g_getI C oT0 fX3_166 dX3_opens_17 ?_
    refine g_iconst C dX3_opens_20 kc_1 ?_
    refine g_iadd C dX3_opens_21 ?_
    refine vl_n hf (fun s5 hs5 hf => ?_)
    refine g_putI C oT0 pX3_166 rfl rfl hs5 dX3_opens_22 ?_
    refine g_aload_n C dX3_opens_25 0 rfl ?_
    refine bd_n hf (fun r6 s7 h8 hf => ?_)
    refine g_callV0 (As := []) (rest := []) (stk := []) C (w_tw_next0 h8) hX oT0 rfl rfl q1153 q1155 qs44 q91 q1156 mdX3_next0 rfl ⟨Nat.le_of_ble_eq_true rfl, Nat.le_of_ble_eq_true rfl⟩ (Nat.le_of_ble_eq_true rfl) dX3_opens_26 rfl ?_
    refine g_iconst C dX3_opens_29 kc_1 ?_
    exact g_iret (v := bI true) C E (bI_nar _) (re_z hf) (re_s hf) ⟨Nat.zero_le _, Nat.zero_le _⟩ dX3_opens_30
def tw_unit (n : Nat) (s : Sto) : Option (Bool × Sto) :=
  bd (tw_isIn n s (s.1 0 14) (41 : Int32) (50 : Int32)) fun r1 s2 =>
  vl (fun (_ : Unit) =>
    if r1 = true then
      bd (tw_lay n s2 ((s2.1 0 14) - (40 : Int32)) (s2.1 0 16)) fun r6 s7 =>
      bd (tw_next0 n s7) fun r9 s10 =>
      some (true, s10)
    else
      bd (tw_lay n s2 (0 : Int32) (s2.1 0 16)) fun r12 s13 =>
      bd (tw_next0 n s13) fun r15 s16 =>
      some (true, s16)) fun j4 =>
  if (s2.1 0 14) = (2 : Int32) then
    j4 ()
  else
    if r1 = true then
      j4 ()
    else
      bd (tw_bad n s2 (1 : Int32)) fun r20 s21 =>
      some (r20, s21)
theorem w_tw_unit {l : Launch} {n : Nat} {s sF : Sto} {rF : Bool} (hf : tw_unit n s  = some (rF, sF)) : Ct tCfg l yX3_unit cX3_unit 2 (some .boolean) { frames := 9, cells := 0, slots := 0, locals := 182 } (fun g => [.ref (g.1 0)]) s sF (fun _ => some (.int (bI rF))) := by
  refine Ct_of pn_X3 (fun g => Nat.le_of_ble_eq_true rfl) (fun g A X C E hX => ?_)
  rw [tw_unit] at hf
  show TG tCfg g A 2 X 0 0 s 0 [(0, .ref (g.1 0))] []
  refine g_aload_n C dX3_unit_0 0 rfl ?_
  refine g_getI C oT0 fX3_135 dX3_unit_1 ?_
  refine g_bipush C dX3_unit_4 kb_41 ?_
  refine g_bipush C dX3_unit_6 kb_50 ?_
  refine bd_n hf (fun r1 s2 h3 hf => ?_)
  refine g_callS0 (As := [.int (s.1 0 14), .int (41 : Int32), .int (50 : Int32)]) (rest := []) (stk := [.int (bI r1)]) C (w_tw_isIn h3) hX rfl q1146 q1147 q91 q1148 msX3_isIn rfl ⟨Nat.le_of_ble_eq_true rfl, Nat.le_of_ble_eq_true rfl⟩ (Nat.le_of_ble_eq_true rfl) dX3_unit_8 rfl ?_
  refine g_istore_n (i := 1) (lv' := [(1, .int (bI r1)), (0, .ref (g.1 0))]) C dX3_unit_11 rfl rfl (by decide) rfl ?_
  refine g_aload_n C dX3_unit_12 1 rfl ?_
  refine g_getI C oT0 fX3_135 dX3_unit_13 ?_
  refine g_iconst C dX3_unit_16 kc_2 ?_
  refine vl_n hf (fun j4 hj4 hf => ?_)
  have Hj4 : ∀ (u : Unit), j4 u = some (rF, sF) → TG tCfg g A 2 X 0 0 s2 30 [(0, .ref (g.1 0)), (1, .int (bI r1))] [] := by
    clear hf; subst hj4
    intro u hf
    refine g_aload_n C dX3_unit_30 0 rfl ?_
    refine g_iload_n C dX3_unit_31 1 rfl ?_
    refine g_ifZ_eq 45 C dX3_unit_32 rfl (fun c5 => ?_) (fun c5 => ?_)
    · replace hf := if_t c5 hf
      refine g_aload_n C dX3_unit_35 0 rfl ?_
      refine g_getI C oT0 fX3_135 dX3_unit_36 ?_
      refine g_bipush C dX3_unit_39 kb_40 ?_
      refine g_isub C dX3_unit_41 ?_
      refine g_goto 46 C dX3_unit_42 rfl ?_
      refine g_aload_n C dX3_unit_46 0 rfl ?_
      refine g_getI C oT0 fX3_148 dX3_unit_47 ?_
      refine bd_n hf (fun r6 s7 h8 hf => ?_)
      refine g_callV0 (As := [.int ((s2.1 0 14) - (40 : Int32)), .int (s2.1 0 16)]) (rest := []) (stk := []) C (w_tw_lay h8) hX oT0 rfl rfl q1216 q1218 qs54 q91 q1219 mdX3_lay rfl ⟨Nat.le_of_ble_eq_true rfl, Nat.le_of_ble_eq_true rfl⟩ (Nat.le_of_ble_eq_true rfl) dX3_unit_50 rfl ?_
      refine g_aload_n C dX3_unit_53 0 rfl ?_
      refine bd_n hf (fun r9 s10 h11 hf => ?_)
      refine g_callV0 (As := []) (rest := []) (stk := []) C (w_tw_next0 h11) hX oT0 rfl rfl q1153 q1155 qs44 q91 q1156 mdX3_next0 rfl ⟨Nat.le_of_ble_eq_true rfl, Nat.le_of_ble_eq_true rfl⟩ (Nat.le_of_ble_eq_true rfl) dX3_unit_54 rfl ?_
      refine g_iconst C dX3_unit_57 kc_1 ?_
      exact g_iret (v := bI true) C E (bI_nar _) (re_z hf) (re_s hf) ⟨Nat.zero_le _, Nat.zero_le _⟩ dX3_unit_58
    · replace hf := if_f c5 hf
      refine g_iconst C dX3_unit_45 kc_0 ?_
      refine g_aload_n C dX3_unit_46 0 rfl ?_
      refine g_getI C oT0 fX3_148 dX3_unit_47 ?_
      refine bd_n hf (fun r12 s13 h14 hf => ?_)
      refine g_callV0 (As := [.int (0 : Int32), .int (s2.1 0 16)]) (rest := []) (stk := []) C (w_tw_lay h14) hX oT0 rfl rfl q1216 q1218 qs54 q91 q1219 mdX3_lay rfl ⟨Nat.le_of_ble_eq_true rfl, Nat.le_of_ble_eq_true rfl⟩ (Nat.le_of_ble_eq_true rfl) dX3_unit_50 rfl ?_
      refine g_aload_n C dX3_unit_53 0 rfl ?_
      refine bd_n hf (fun r15 s16 h17 hf => ?_)
      refine g_callV0 (As := []) (rest := []) (stk := []) C (w_tw_next0 h17) hX oT0 rfl rfl q1153 q1155 qs44 q91 q1156 mdX3_next0 rfl ⟨Nat.le_of_ble_eq_true rfl, Nat.le_of_ble_eq_true rfl⟩ (Nat.le_of_ble_eq_true rfl) dX3_unit_54 rfl ?_
      refine g_iconst C dX3_unit_57 kc_1 ?_
      exact g_iret (v := bI true) C E (bI_nar _) (re_z hf) (re_s hf) ⟨Nat.zero_le _, Nat.zero_le _⟩ dX3_unit_58
  clear hj4
  refine g_icmp_eq 30 C dX3_unit_17 rfl (fun c18 => ?_) (fun c18 => ?_)
  · replace hf := if_t c18 hf
    exact g_sub [1, 0] rfl (Hj4 _ hf)
  · replace hf := if_f c18 hf
    refine g_iload_n C dX3_unit_20 0 rfl ?_
    refine g_ifZ_ne 30 C dX3_unit_21 rfl (fun c19 => ?_) (fun c19 => ?_)
    · replace hf := if_t c19 hf
      exact g_sub [1, 0] rfl (Hj4 _ hf)
    · replace hf := if_f c19 hf
      refine g_aload_n C dX3_unit_24 1 rfl ?_
      refine g_iconst C dX3_unit_25 kc_1 ?_
      refine bd_n hf (fun r20 s21 h22 hf => ?_)
      refine g_callV0 (As := [.int (1 : Int32)]) (rest := []) (stk := [.int (bI r20)]) C (w_tw_bad h22) hX oT0 rfl rfl q1200 q1202 qs50 q91 q1203 mdX3_bad rfl ⟨Nat.le_of_ble_eq_true rfl, Nat.le_of_ble_eq_true rfl⟩ (Nat.le_of_ble_eq_true rfl) dX3_unit_26 rfl ?_
      exact g_iret (v := bI r20) C E (bI_nar _) (re_z hf) (re_s hf) ⟨Nat.zero_le _, Nat.zero_le _⟩ dX3_unit_29
