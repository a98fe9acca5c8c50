/-! THE COMPONENT's methods: pure functions out of the bytecode, and their walks (printed by gen/comp.py) -/
set_option maxRecDepth 100000
set_option maxHeartbeats 4000000
def xw_isIn (n : Nat) (s : Sto) (a1 : Int32) (a2 : Int32) (a3 : Int32) : Option (Bool × Sto) :=
  if a1 < a2 then
    some (false, s)
  else
    if a3 < a1 then
      some (false, s)
    else
      some (true, s)
theorem w_xw_isIn {l : Launch} {n : Nat} {s sF : Sto} {a1 : Int32} {a2 : Int32} {a3 : Int32} {rF : Bool} (hf : xw_isIn n s a1 a2 a3 = some (rF, sF)) : Ct xCfg l yX0_isIn cX0_isIn 3 (some .boolean) { frames := 1, cells := 0, slots := 0, locals := 12 } (fun g => [.int a1, .int a2, .int a3]) s sF (fun _ => some (.int (bI rF))) := by
  refine Ct_of pn_X0 (fun g => Nat.le_of_ble_eq_true rfl) (fun g A X C E hX => ?_)
  rw [xw_isIn] at hf
  show TG xCfg g A 3 X 0 0 s 0 [(0, .int a1), (1, .int a2), (2, .int a3)] []
  refine g_iload_n C dX0_isIn_0 0 rfl ?_
  refine g_iload_n C dX0_isIn_1 1 rfl ?_
  refine g_icmp_lt 14 C dX0_isIn_2 rfl (fun c1 => ?_) (fun c1 => ?_)
  · replace hf := if_t c1 hf
    refine g_iconst C dX0_isIn_14 kc_0 ?_
    exact g_iret (v := bI false) C E (bI_nar _) (re_z hf) (re_s hf) ⟨Nat.zero_le _, Nat.zero_le _⟩ dX0_isIn_15
  · replace hf := if_f c1 hf
    refine g_iload_n C dX0_isIn_5 0 rfl ?_
    refine g_iload_n C dX0_isIn_6 2 rfl ?_
    refine g_icmp_gt 14 C dX0_isIn_7 rfl (fun c2 => ?_) (fun c2 => ?_)
    · replace hf := if_t c2 hf
      refine g_iconst C dX0_isIn_14 kc_0 ?_
      exact g_iret (v := bI false) C E (bI_nar _) (re_z hf) (re_s hf) ⟨Nat.zero_le _, Nat.zero_le _⟩ dX0_isIn_15
    · replace hf := if_f c2 hf
      refine g_iconst C dX0_isIn_10 kc_1 ?_
      refine g_goto 15 C dX0_isIn_11 rfl ?_
      exact g_iret (v := bI true) C E (bI_nar _) (re_z hf) (re_s hf) ⟨Nat.zero_le _, Nat.zero_le _⟩ dX0_isIn_15
def xw_common_L6 (n : Nat) : Nat → Sto → Int64 → Int64 → Option (Int64 × Sto)
  | 0, _, _, _ => none
  | k + 1, s1, v2, v3 =>
    if (lg_cmp v3 (0 : Int64)) = 0 then
      some (v2, s1)
    else
      gd (decide (¬ v3 = 0)) <|
      vl (lrem v2 v3) fun v6 =>
      xw_common_L6 n k s1 v3 v6
def xw_common (n : Nat) (s : Sto) (a1 : Int64) (a2 : Int64) : Option (Int64 × Sto) :=
  xw_common_L6 n
      n s a1 a2
theorem w_xw_common_L6  {l : Launch} {n : Nat} {g : Gam} {A : Nat → Prop} {X : FX} {si sF : Sto} {rF : Int64} (C : CX xCfg g A 10 X cX0_common RX0 (some .long) 1 12) (E : EX xCfg g A X si sF (some (.long rF)) 0 0) (hX : X.2.1 = l) : ∀ (k : Nat) (s1 : Sto) (v2 : Int64) (v3 : Int64), xw_common_L6 n k s1 v2 v3 = some (rF, sF) → TG xCfg g A 10 X 0 0 s1 6 [(4, .long v2), (6, .long v3)] [] := by
  intro k
  induction k with
  | zero => intro s1 v2 v3 hf; rw [xw_common_L6] at hf; cases hf
  | succ k ih =>
    intro s1 v2 v3 hf
    rw [xw_common_L6] at hf
    refine g_lload C dX0_common_6 1 rfl ?_
    refine g_lconst C dX0_common_8 kl_0 ?_
    refine g_lcmp C dX0_common_9 ?_
    refine g_if_eq 31 C dX0_common_10 rfl (fun c4 => ?_) (fun c4 => ?_)
    · replace hf := if_t c4 hf
      refine g_lload C dX0_common_31 0 rfl ?_
      exact g_lret C E (re_l hf) (re_s hf) ⟨Nat.zero_le _, Nat.zero_le _⟩ dX0_common_33
    · replace hf := if_f c4 hf
      refine g_lload C dX0_common_13 0 rfl ?_
      refine g_lload C dX0_common_15 1 rfl ?_
      refine gd_n hf (fun c5 hf => ?_)
      refine g_lrem C dX0_common_17 c5 ?_
      refine vl_n hf (fun v6 hv6 hf => ?_)
      refine g_lstore (i := 8) (lv' := [(8, .long v6), (4, .long v2), (6, .long v3)]) C dX0_common_18 hv6 (by decide) rfl ?_
      refine g_lload C dX0_common_20 2 rfl ?_
      refine g_lstore (i := 4) (lv' := [(4, .long v3), (8, .long v6), (6, .long v3)]) C dX0_common_22 rfl (by decide) rfl ?_
      refine g_lload C dX0_common_24 1 rfl ?_
      refine g_lstore (i := 6) (lv' := [(6, .long v6), (4, .long v3), (8, .long v6)]) C dX0_common_26 rfl (by decide) rfl ?_
      refine g_goto 6 C dX0_common_28 rfl ?_
      exact g_sub [1, 0] rfl (ih _ _ _ hf)
theorem w_xw_common {l : Launch} {n : Nat} {s sF : Sto} {a1 : Int64} {a2 : Int64} {rF : Int64} (hf : xw_common n s a1 a2 = some (rF, sF)) : Ct xCfg l yX0_common cX0_common 10 (some .long) { frames := 1, cells := 0, slots := 0, locals := 12 } (fun g => [.long a1, .long a2]) s sF (fun _ => some (.long rF)) := by
  refine Ct_of pn_X0 (fun g => Nat.le_of_ble_eq_true rfl) (fun g A X C E hX => ?_)
  rw [xw_common] at hf
  show TG xCfg g A 10 X 0 0 s 0 [(0, .long a1), (2, .long a2)] []
  refine g_lload_n C dX0_common_0 0 rfl ?_
  refine g_lstore (i := 4) (lv' := [(4, .long a1), (0, .long a1), (2, .long a2)]) C dX0_common_1 rfl (by decide) rfl ?_
  refine g_lload_n C dX0_common_3 2 rfl ?_
  refine g_lstore (i := 6) (lv' := [(6, .long a2), (4, .long a1), (0, .long a1), (2, .long a2)]) C dX0_common_4 rfl (by decide) rfl ?_
  refine g_sub [1, 0] rfl (w_xw_common_L6 C E hX _ _ _ _ hf)
def xw_puts_L3 (n : Nat) (v2 : Int32) : Nat → Sto → Int32 → Option (Unit × Sto)
  | 0, _, _ => none
  | k + 1, s1, v3 =>
    if v3 < 0 then
      some ((), s1)
    else
      gd (inb (s1.1 0 1) 400) <|
      vl (wr s1 1 (s1.1 0 1) (i2b (i2b (ishr v2 v3)))) fun s6 =>
      vl (sI s6 0 1 ((s6.1 0 1) + (1 : Int32))) fun s7 =>
      xw_puts_L3 n v2 k s7 (v3 + (-8 : Int32))
def xw_puts (n : Nat) (s : Sto) (a1 : Int32) : Option (Unit × Sto) :=
  xw_puts_L3 n a1
      n s (24 : Int32)
theorem w_xw_puts_L3  {l : Launch} {n : Nat} {v2 : Int32} {g : Gam} {A : Nat → Prop} {X : FX} {si sF : Sto} {rF : Unit} (C : CX xCfg g A 3 X cX0_puts RX0 none 1 12) (E : EX xCfg g A X si sF none 0 0) (hX : X.2.1 = l) : ∀ (k : Nat) (s1 : Sto) (v3 : Int32), xw_puts_L3 n v2 k s1 v3 = some (rF, sF) → TG xCfg g A 3 X 0 0 s1 3 [(0, .ref (g.1 0)), (1, .int v2), (2, .int v3)] [] := by
  intro k
  induction k with
  | zero => intro s1 v3 hf; rw [xw_puts_L3] at hf; cases hf
  | succ k ih =>
    intro s1 v3 hf
    rw [xw_puts_L3] at hf
    refine g_iload_n C dX0_puts_3 2 rfl ?_
    refine g_if_lt 36 C dX0_puts_4 rfl (fun c4 => ?_) (fun c4 => ?_)
    · replace hf := if_t c4 hf
      exact g_vret C E rfl (re_s hf) ⟨Nat.zero_le _, Nat.zero_le _⟩ dX0_puts_36
    · replace hf := if_f c4 hf
      refine g_aload_n C dX0_puts_7 0 rfl ?_
      refine g_getS 1 C oX0 fX0_9 rfl dX0_puts_8 ?_
      refine g_aload_n C dX0_puts_11 0 rfl ?_
      refine g_getI C oX0 fX0_153 dX0_puts_12 ?_
      refine g_iload_n C dX0_puts_15 1 rfl ?_
      refine g_iload_n C dX0_puts_16 2 rfl ?_
      refine g_ishr C dX0_puts_17 ?_
      refine g_i2b C dX0_puts_18 ?_
      refine gd_n hf (fun c5 hf => ?_)
      refine vl_n hf (fun s6 hs6 hf => ?_)
      refine g_bast C aX1 rfl c5 hs6 dX0_puts_19 ?_
      refine g_aload_n C dX0_puts_20 0 rfl ?_
      refine g_dup C dX0_puts_21 rfl ?_
      refine g_getI C oX0 fX0_153 dX0_puts_22 ?_
      refine g_iconst C dX0_puts_25 kc_1 ?_
      refine g_iadd C dX0_puts_26 ?_
      refine vl_n hf (fun s7 hs7 hf => ?_)
      refine g_putI C oX0 pX0_153 rfl rfl hs7 dX0_puts_27 ?_
      refine g_iinc (q := 2) (lv' := [(2, .int (v3 + (-8 : Int32))), (0, .ref (g.1 0)), (1, .int v2)]) C dX0_puts_30 rfl kc_m8 (by decide) rfl ?_
      refine g_goto 3 C dX0_puts_33 rfl ?_
      exact g_sub [1, 2, 0] rfl (ih _ _ hf)
theorem w_xw_puts {l : Launch} {n : Nat} {s sF : Sto} {a1 : Int32} {rF : Unit} (hf : xw_puts n s a1 = some (rF, sF)) : Ct xCfg l yX0_puts cX0_puts 3 none { frames := 1, cells := 0, slots := 0, locals := 12 } (fun g => [.ref (g.1 0), .int a1]) s sF (fun _ => none) := by
  refine Ct_of pn_X0 (fun g => Nat.le_of_ble_eq_true rfl) (fun g A X C E hX => ?_)
  rw [xw_puts] at hf
  show TG xCfg g A 3 X 0 0 s 0 [(0, .ref (g.1 0)), (1, .int a1)] []
  refine g_bipush C dX0_puts_0 kb_24 ?_
  refine g_istore_n (i := 2) (lv' := [(2, .int (24 : Int32)), (0, .ref (g.1 0)), (1, .int a1)]) C dX0_puts_2 rfl rfl (by decide) rfl ?_
  refine g_sub [1, 2, 0] rfl (w_xw_puts_L3 C E hX _ _ _ hf)
def xw_feed (n : Nat) (s : Sto) (a1 : Int32) (a2 : Int32) (a3 : Int32) (a4 : Int32) (a5 : Int32) : Option (Int32 × Sto) :=
  if ((s.1 0 1) + (20 : Int32)) ≤ (400 : Int32) then
    bd (xw_puts n s a1) fun r2 s3 =>
    bd (xw_puts n s3 a2) fun r5 s6 =>
    bd (xw_puts n s6 a3) fun r8 s9 =>
    bd (xw_puts n s9 a4) fun r11 s12 =>
    bd (xw_puts n s12 a5) fun r14 s15 =>
    some ((s15.1 0 1), s15)
  else
    some ((-1 : Int32), s)
theorem w_xw_feed {l : Launch} {n : Nat} {s sF : Sto} {a1 : Int32} {a2 : Int32} {a3 : Int32} {a4 : Int32} {a5 : Int32} {rF : Int32} (hf : xw_feed n s a1 a2 a3 a4 a5 = some (rF, sF)) : Ct xCfg l yX0_feed cX0_feed 6 (some .int) { frames := 2, cells := 0, slots := 0, locals := 34 } (fun g => [.ref (g.1 0), .int a1, .int a2, .int a3, .int a4, .int a5]) s sF (fun _ => some (.int rF)) := by
  refine Ct_of pn_X0 (fun g => Nat.le_of_ble_eq_true rfl) (fun g A X C E hX => ?_)
  rw [xw_feed] at hf
  show TG xCfg g A 6 X 0 0 s 0 [(0, .ref (g.1 0)), (1, .int a1), (2, .int a2), (3, .int a3), (4, .int a4), (5, .int a5)] []
  refine g_aload_n C dX0_feed_0 0 rfl ?_
  refine g_getI C oX0 fX0_153 dX0_feed_1 ?_
  refine g_bipush C dX0_feed_4 kb_20 ?_
  refine g_iadd C dX0_feed_6 ?_
  refine g_sipush C dX0_feed_7 ks_400 ?_
  refine g_icmp_le 15 C dX0_feed_10 rfl (fun c1 => ?_) (fun c1 => ?_)
  · replace hf := if_t c1 hf
    refine g_aload_n C dX0_feed_15 0 rfl ?_
    refine g_iload_n C dX0_feed_16 1 rfl ?_
    refine bd_n hf (fun r2 s3 h4 hf => ?_)
    refine g_callV0 (As := [.int a1]) (rest := []) (stk := []) C (w_xw_puts h4) hX oX0 rfl rfl q373 q375 qs0 q88 q376 mdX0_puts rfl ⟨Nat.le_of_ble_eq_true rfl, Nat.le_of_ble_eq_true rfl⟩ (Nat.le_of_ble_eq_true rfl) dX0_feed_17 rfl ?_
    refine g_aload_n C dX0_feed_20 0 rfl ?_
    refine g_iload_n C dX0_feed_21 2 rfl ?_
    refine bd_n hf (fun r5 s6 h7 hf => ?_)
    refine g_callV0 (As := [.int a2]) (rest := []) (stk := []) C (w_xw_puts h7) hX oX0 rfl rfl q373 q375 qs0 q88 q376 mdX0_puts rfl ⟨Nat.le_of_ble_eq_true rfl, Nat.le_of_ble_eq_true rfl⟩ (Nat.le_of_ble_eq_true rfl) dX0_feed_22 rfl ?_
    refine g_aload_n C dX0_feed_25 0 rfl ?_
    refine g_iload_n C dX0_feed_26 3 rfl ?_
    refine bd_n hf (fun r8 s9 h10 hf => ?_)
    refine g_callV0 (As := [.int a3]) (rest := []) (stk := []) C (w_xw_puts h10) hX oX0 rfl rfl q373 q375 qs0 q88 q376 mdX0_puts rfl ⟨Nat.le_of_ble_eq_true rfl, Nat.le_of_ble_eq_true rfl⟩ (Nat.le_of_ble_eq_true rfl) dX0_feed_27 rfl ?_
    refine g_aload_n C dX0_feed_30 0 rfl ?_
    refine g_iload C dX0_feed_31 4 rfl ?_
    refine bd_n hf (fun r11 s12 h13 hf => ?_)
    refine g_callV0 (As := [.int a4]) (rest := []) (stk := []) C (w_xw_puts h13) hX oX0 rfl rfl q373 q375 qs0 q88 q376 mdX0_puts rfl ⟨Nat.le_of_ble_eq_true rfl, Nat.le_of_ble_eq_true rfl⟩ (Nat.le_of_ble_eq_true rfl) dX0_feed_33 rfl ?_
    refine g_aload_n C dX0_feed_36 0 rfl ?_
    refine g_iload C dX0_feed_37 5 rfl ?_
    refine bd_n hf (fun r14 s15 h16 hf => ?_)
    refine g_callV0 (As := [.int a5]) (rest := []) (stk := []) C (w_xw_puts h16) hX oX0 rfl rfl q373 q375 qs0 q88 q376 mdX0_puts rfl ⟨Nat.le_of_ble_eq_true rfl, Nat.le_of_ble_eq_true rfl⟩ (Nat.le_of_ble_eq_true rfl) dX0_feed_39 rfl ?_
    refine g_aload_n C dX0_feed_42 0 rfl ?_
    refine g_getI C oX0 fX0_153 dX0_feed_43 ?_
    exact g_iret C E rfl (re_i hf) (re_s hf) ⟨Nat.zero_le _, Nat.zero_le _⟩ dX0_feed_46
  · replace hf := if_f c1 hf
    refine g_iconst C dX0_feed_13 kc_m1 ?_
    exact g_iret C E rfl (re_i hf) (re_s hf) ⟨Nat.zero_le _, Nat.zero_le _⟩ dX0_feed_14
def xw_end (n : Nat) (s : Sto) (a1 : Int32) : Option (Bool × Sto) :=
  bd (xw_isIn n s a1 (0 : Int32) (s.1 0 1)) fun r1 s2 =>
  if r1 = true then
    vl (sI s2 0 1 a1) fun s5 =>
    some (true, s5)
  else
    some (false, s2)
theorem w_xw_end {l : Launch} {n : Nat} {s sF : Sto} {a1 : Int32} {rF : Bool} (hf : xw_end n s a1 = some (rF, sF)) : Ct xCfg l yX0_end cX0_end 2 (some .boolean) { frames := 2, cells := 0, slots := 0, locals := 34 } (fun g => [.ref (g.1 0), .int a1]) s sF (fun _ => some (.int (bI rF))) := by
  refine Ct_of pn_X0 (fun g => Nat.le_of_ble_eq_true rfl) (fun g A X C E hX => ?_)
  rw [xw_end] at hf
  show TG xCfg g A 2 X 0 0 s 0 [(0, .ref (g.1 0)), (1, .int a1)] []
  refine g_iload_n C dX0_end_0 1 rfl ?_
  refine g_iconst C dX0_end_1 kc_0 ?_
  refine g_aload_n C dX0_end_2 0 rfl ?_
  refine g_getI C oX0 fX0_153 dX0_end_3 ?_
  refine bd_n hf (fun r1 s2 h3 hf => ?_)
  refine g_callS0 (As := [.int a1, .int (0 : Int32), .int (s.1 0 1)]) (rest := []) (stk := [.int (bI r1)]) C (w_xw_isIn h3) hX rfl q381 q382 q88 q383 msX0_isIn rfl ⟨Nat.le_of_ble_eq_true rfl, Nat.le_of_ble_eq_true rfl⟩ (Nat.le_of_ble_eq_true rfl) dX0_end_6 rfl ?_
  refine g_ifZ_ne 14 C dX0_end_9 rfl (fun c4 => ?_) (fun c4 => ?_)
  · replace hf := if_t c4 hf
    refine g_aload_n C dX0_end_14 0 rfl ?_
    refine g_iload_n C dX0_end_15 1 rfl ?_
    refine vl_n hf (fun s5 hs5 hf => ?_)
    refine g_putI C oX0 pX0_153 rfl rfl hs5 dX0_end_16 ?_
    refine g_iconst C dX0_end_19 kc_1 ?_
    exact g_iret (v := bI true) C E (bI_nar _) (re_z hf) (re_s hf) ⟨Nat.zero_le _, Nat.zero_le _⟩ dX0_end_20
  · replace hf := if_f c4 hf
    refine g_iconst C dX0_end_12 kc_0 ?_
    exact g_iret (v := bI false) C E (bI_nar _) (re_z hf) (re_s hf) ⟨Nat.zero_le _, Nat.zero_le _⟩ dX0_end_13
def xw_raw (n : Nat) (s : Sto) (a1 : Int32) : Option (Int32 × Sto) :=
  if (s.1 0 1) ≤ a1 then
    some ((-1 : Int32), s)
  else
    gd (inb a1 400) <|
    some (((rd s 1 a1) &&& (255 : Int32)), s)
theorem w_xw_raw {l : Launch} {n : Nat} {s sF : Sto} {a1 : Int32} {rF : Int32} (hf : xw_raw n s a1 = some (rF, sF)) : Ct xCfg l yX0_raw cX0_raw 2 (some .int) { frames := 1, cells := 0, slots := 0, locals := 12 } (fun g => [.ref (g.1 0), .int a1]) s sF (fun _ => some (.int rF)) := by
  refine Ct_of pn_X0 (fun g => Nat.le_of_ble_eq_true rfl) (fun g A X C E hX => ?_)
  rw [xw_raw] at hf
  show TG xCfg g A 2 X 0 0 s 0 [(0, .ref (g.1 0)), (1, .int a1)] []
  refine g_iload_n C dX0_raw_0 1 rfl ?_
  refine g_aload_n C dX0_raw_1 0 rfl ?_
  refine g_getI C oX0 fX0_153 dX0_raw_2 ?_
  refine g_icmp_ge 21 C dX0_raw_5 rfl (fun c1 => ?_) (fun c1 => ?_)
  · replace hf := if_t c1 hf
    refine g_iconst C dX0_raw_21 kc_m1 ?_
    exact g_iret C E rfl (re_i hf) (re_s hf) ⟨Nat.zero_le _, Nat.zero_le _⟩ dX0_raw_22
  · replace hf := if_f c1 hf
    refine g_aload_n C dX0_raw_8 0 rfl ?_
    refine g_getS 1 C oX0 fX0_9 rfl dX0_raw_9 ?_
    refine g_iload_n C dX0_raw_12 1 rfl ?_
    refine gd_n hf (fun c2 hf => ?_)
    refine g_bald C aX1 rfl c2 dX0_raw_13 ?_
    refine g_sipush C dX0_raw_14 ks_255 ?_
    refine g_iand C dX0_raw_17 ?_
    refine g_goto 22 C dX0_raw_18 rfl ?_
    exact g_iret C E rfl (re_i hf) (re_s hf) ⟨Nat.zero_le _, Nat.zero_le _⟩ dX0_raw_22
def xw_isLetter (n : Nat) (s : Sto) (a1 : Int32) : Option (Bool × Sto) :=
  bd (xw_isIn n s a1 (97 : Int32) (122 : Int32)) fun r1 s2 =>
  if r1 = true then
    some (true, s2)
  else
    bd (xw_isIn n s2 a1 (65 : Int32) (90 : Int32)) fun r5 s6 =>
    if r5 = true then
      some (true, s6)
    else
      some (false, s6)
theorem w_xw_isLetter {l : Launch} {n : Nat} {s sF : Sto} {a1 : Int32} {rF : Bool} (hf : xw_isLetter n s a1 = some (rF, sF)) : Ct xCfg l yX0_isLetter cX0_isLetter 1 (some .boolean) { frames := 2, cells := 0, slots := 0, locals := 34 } (fun g => [.int a1]) s sF (fun _ => some (.int (bI rF))) := by
  refine Ct_of pn_X0 (fun g => Nat.le_of_ble_eq_true rfl) (fun g A X C E hX => ?_)
  rw [xw_isLetter] at hf
  show TG xCfg g A 1 X 0 0 s 0 [(0, .int a1)] []
  refine g_iload_n C dX0_isLetter_0 0 rfl ?_
  refine g_bipush C dX0_isLetter_1 kb_97 ?_
  refine g_bipush C dX0_isLetter_3 kb_122 ?_
  refine bd_n hf (fun r1 s2 h3 hf => ?_)
  refine g_callS0 (As := [.int a1, .int (97 : Int32), .int (122 : Int32)]) (rest := []) (stk := [.int (bI r1)]) C (w_xw_isIn h3) hX rfl q381 q382 q88 q383 msX0_isIn rfl ⟨Nat.le_of_ble_eq_true rfl, Nat.le_of_ble_eq_true rfl⟩ (Nat.le_of_ble_eq_true rfl) dX0_isLetter_5 rfl ?_
  refine g_ifZ_ne 22 C dX0_isLetter_8 rfl (fun c4 => ?_) (fun c4 => ?_)
  · replace hf := if_t c4 hf
    refine g_iconst C dX0_isLetter_22 kc_1 ?_
    refine g_goto 27 C dX0_isLetter_23 rfl ?_
    exact g_iret (v := bI true) C E (bI_nar _) (re_z hf) (re_s hf) ⟨Nat.zero_le _, Nat.zero_le _⟩ dX0_isLetter_27
  · replace hf := if_f c4 hf
    refine g_iload_n C dX0_isLetter_11 0 rfl ?_
    refine g_bipush C dX0_isLetter_12 kb_65 ?_
    refine g_bipush C dX0_isLetter_14 kb_90 ?_
    refine bd_n hf (fun r5 s6 h7 hf => ?_)
    refine g_callS0 (As := [.int a1, .int (65 : Int32), .int (90 : Int32)]) (rest := []) (stk := [.int (bI r5)]) C (w_xw_isIn h7) hX rfl q381 q382 q88 q383 msX0_isIn rfl ⟨Nat.le_of_ble_eq_true rfl, Nat.le_of_ble_eq_true rfl⟩ (Nat.le_of_ble_eq_true rfl) dX0_isLetter_16 rfl ?_
    refine g_ifZ_eq 26 C dX0_isLetter_19 rfl (fun c8 => ?_) (fun c8 => ?_)
    · replace hf := if_t c8 hf
      refine g_iconst C dX0_isLetter_22 kc_1 ?_
      refine g_goto 27 C dX0_isLetter_23 rfl ?_
      exact g_iret (v := bI true) C E (bI_nar _) (re_z hf) (re_s hf) ⟨Nat.zero_le _, Nat.zero_le _⟩ dX0_isLetter_27
    · replace hf := if_f c8 hf
      refine g_iconst C dX0_isLetter_26 kc_0 ?_
      exact g_iret (v := bI false) C E (bI_nar _) (re_z hf) (re_s hf) ⟨Nat.zero_le _, Nat.zero_le _⟩ dX0_isLetter_27
def xw_isDigit (n : Nat) (s : Sto) (a1 : Int32) : Option (Bool × Sto) :=
  bd (xw_isIn n s a1 (48 : Int32) (57 : Int32)) fun r1 s2 =>
  some (r1, s2)
theorem w_xw_isDigit {l : Launch} {n : Nat} {s sF : Sto} {a1 : Int32} {rF : Bool} (hf : xw_isDigit n s a1 = some (rF, sF)) : Ct xCfg l yX0_isDigit cX0_isDigit 1 (some .boolean) { frames := 2, cells := 0, slots := 0, locals := 34 } (fun g => [.int a1]) s sF (fun _ => some (.int (bI rF))) := by
  refine Ct_of pn_X0 (fun g => Nat.le_of_ble_eq_true rfl) (fun g A X C E hX => ?_)
  rw [xw_isDigit] at hf
  show TG xCfg g A 1 X 0 0 s 0 [(0, .int a1)] []
  refine g_iload_n C dX0_isDigit_0 0 rfl ?_
  refine g_bipush C dX0_isDigit_1 kb_48 ?_
  refine g_bipush C dX0_isDigit_3 kb_57 ?_
  refine bd_n hf (fun r1 s2 h3 hf => ?_)
  refine g_callS0 (As := [.int a1, .int (48 : Int32), .int (57 : Int32)]) (rest := []) (stk := [.int (bI r1)]) C (w_xw_isIn h3) hX rfl q381 q382 q88 q383 msX0_isIn rfl ⟨Nat.le_of_ble_eq_true rfl, Nat.le_of_ble_eq_true rfl⟩ (Nat.le_of_ble_eq_true rfl) dX0_isDigit_5 rfl ?_
  exact g_iret (v := bI r1) C E (bI_nar _) (re_z hf) (re_s hf) ⟨Nat.zero_le _, Nat.zero_le _⟩ dX0_isDigit_8
def xw_spells_L20 (n : Nat) (v7 : Nat) : Nat → Sto → Int32 → Option (Bool × Sto)
  | 0, _, _ => none
  | k + 1, s6, v8 =>
    gd (decide (v7 < 16)) <|
    bd (jw_length n s6 v7) fun r9 s10 =>
    if r9 ≤ v8 then
      some (true, s10)
    else
      bd (xw_raw n s10 ((s10.1 0 7) + v8)) fun r14 s15 =>
      bd (jw_charAt n s15 v7 v8) fun r17 s18 =>
      if r14 = r17 then
        xw_spells_L20 n v7 k s18 (v8 + (1 : Int32))
      else
        some (false, s18)
def xw_spells (n : Nat) (s : Sto) (a1 : Nat) : Option (Bool × Sto) :=
  gd (decide (a1 < 16)) <|
  bd (jw_length n s a1) fun r1 s2 =>
  if r1 = ((s2.1 0 6) - (s2.1 0 7)) then
    xw_spells_L20 n a1
        n s2 (0 : Int32)
  else
    some (false, s2)
theorem w_xw_spells_L20  {l : Launch} {n : Nat} {v7 : Nat} {g : Gam} {A : Nat → Prop} {X : FX} {si sF : Sto} {rF : Bool} (C : CX xCfg g A 3 X cX0_spells RX0 (some .boolean) 5 97) (E : EX xCfg g A X si sF (some (.int (bI rF))) 0 0) (hX : X.2.1 = l) : ∀ (k : Nat) (s6 : Sto) (v8 : Int32), xw_spells_L20 n v7 k s6 v8 = some (rF, sF) → TG xCfg g A 3 X 0 0 s6 20 [(0, .ref (g.1 0)), (1, .ref (g.2.2.2.1 v7)), (2, .int v8)] [] := by
  intro k
  induction k with
  | zero => intro s6 v8 hf; rw [xw_spells_L20] at hf; cases hf
  | succ k ih =>
    intro s6 v8 hf
    rw [xw_spells_L20] at hf
    refine g_iload_n C dX0_spells_20 2 rfl ?_
    refine g_aload_n C dX0_spells_21 1 rfl ?_
    refine gd_n hf (fun c12 hf => ?_)
    refine bd_n hf (fun r9 s10 h11 hf => ?_)
    refine g_callK0 (As := []) (rest := [.int v8]) (stk := [.int r9, .int v8]) C (w_jw_length h11) hX (of_decide_eq_true c12) rfl q418 q419 q420 q98 q421 mdJ2_length rfl ⟨Nat.le_of_ble_eq_true rfl, Nat.le_of_ble_eq_true rfl⟩ (Nat.le_of_ble_eq_true rfl) dX0_spells_22 rfl ?_
    refine g_icmp_ge 54 C dX0_spells_25 rfl (fun c13 => ?_) (fun c13 => ?_)
    · replace hf := if_t c13 hf
      refine g_iconst C dX0_spells_54 kc_1 ?_
      exact g_iret (v := bI true) C E (bI_nar _) (re_z hf) (re_s hf) ⟨Nat.zero_le _, Nat.zero_le _⟩ dX0_spells_55
    · replace hf := if_f c13 hf
      refine g_aload_n C dX0_spells_28 0 rfl ?_
      refine g_aload_n C dX0_spells_29 0 rfl ?_
      refine g_getI C oX0 fX0_171 dX0_spells_30 ?_
      refine g_iload_n C dX0_spells_33 2 rfl ?_
      refine g_iadd C dX0_spells_34 ?_
      refine bd_n hf (fun r14 s15 h16 hf => ?_)
      refine g_callV0 (As := [.int ((s10.1 0 7) + v8)]) (rest := []) (stk := [.int r14]) C (w_xw_raw h16) hX oX0 rfl rfl q397 q399 qs3 q88 q400 mdX0_raw rfl ⟨Nat.le_of_ble_eq_true rfl, Nat.le_of_ble_eq_true rfl⟩ (Nat.le_of_ble_eq_true rfl) dX0_spells_35 rfl ?_
      refine g_aload_n C dX0_spells_38 1 rfl ?_
      refine g_iload_n C dX0_spells_39 2 rfl ?_
      refine bd_n hf (fun r17 s18 h19 hf => ?_)
      refine g_callK0 (As := [.int v8]) (rest := [.int r14]) (stk := [.int r17, .int r14]) C (w_jw_charAt h19) hX (of_decide_eq_true c12) rfl q428 q429 q430 q98 q431 mdJ2_charAt rfl ⟨Nat.le_of_ble_eq_true rfl, Nat.le_of_ble_eq_true rfl⟩ (Nat.le_of_ble_eq_true rfl) dX0_spells_40 rfl ?_
      refine g_icmp_eq 48 C dX0_spells_43 rfl (fun c20 => ?_) (fun c20 => ?_)
      · replace hf := if_t c20 hf
        refine g_iinc (q := 2) (lv' := [(2, .int (v8 + (1 : Int32))), (0, .ref (g.1 0)), (1, .ref (g.2.2.2.1 v7))]) C dX0_spells_48 rfl kc_1 (by decide) rfl ?_
        refine g_goto 20 C dX0_spells_51 rfl ?_
        exact g_sub [1, 2, 0] rfl (ih _ _ hf)
      · replace hf := if_f c20 hf
        refine g_iconst C dX0_spells_46 kc_0 ?_
        exact g_iret (v := bI false) C E (bI_nar _) (re_z hf) (re_s hf) ⟨Nat.zero_le _, Nat.zero_le _⟩ dX0_spells_47
theorem w_xw_spells {l : Launch} {n : Nat} {s sF : Sto} {a1 : Nat} {rF : Bool} (hf : xw_spells n s a1 = some (rF, sF)) : Ct xCfg l yX0_spells cX0_spells 3 (some .boolean) { frames := 5, cells := 0, slots := 0, locals := 97 } (fun g => [.ref (g.1 0), .ref (g.2.2.2.1 a1)]) s sF (fun _ => some (.int (bI rF))) := by
  refine Ct_of pn_X0 (fun g => Nat.le_of_ble_eq_true rfl) (fun g A X C E hX => ?_)
  rw [xw_spells] at hf
  show TG xCfg g A 3 X 0 0 s 0 [(0, .ref (g.1 0)), (1, .ref (g.2.2.2.1 a1))] []
  refine g_aload_n C dX0_spells_0 1 rfl ?_
  refine gd_n hf (fun c4 hf => ?_)
  refine bd_n hf (fun r1 s2 h3 hf => ?_)
  refine g_callK0 (As := []) (rest := []) (stk := [.int r1]) C (w_jw_length h3) hX (of_decide_eq_true c4) rfl q418 q419 q420 q98 q421 mdJ2_length rfl ⟨Nat.le_of_ble_eq_true rfl, Nat.le_of_ble_eq_true rfl⟩ (Nat.le_of_ble_eq_true rfl) dX0_spells_1 rfl ?_
  refine g_aload_n C dX0_spells_4 0 rfl ?_
  refine g_getI C oX0 fX0_168 dX0_spells_5 ?_
  refine g_aload_n C dX0_spells_8 0 rfl ?_
  refine g_getI C oX0 fX0_171 dX0_spells_9 ?_
  refine g_isub C dX0_spells_12 ?_
  refine g_icmp_eq 18 C dX0_spells_13 rfl (fun c5 => ?_) (fun c5 => ?_)
  · replace hf := if_t c5 hf
    refine g_iconst C dX0_spells_18 kc_0 ?_
    refine g_istore_n (i := 2) (lv' := [(2, .int (0 : Int32)), (0, .ref (g.1 0)), (1, .ref (g.2.2.2.1 a1))]) C dX0_spells_19 rfl rfl (by decide) rfl ?_
    refine g_sub [1, 2, 0] rfl (w_xw_spells_L20 C E hX _ _ _ hf)
  · replace hf := if_f c5 hf
    refine g_iconst C dX0_spells_16 kc_0 ?_
    exact g_iret (v := bI false) C E (bI_nar _) (re_z hf) (re_s hf) ⟨Nat.zero_le _, Nat.zero_le _⟩ dX0_spells_17
def xw_wordOf_L2 (n : Nat) (v2 : Nat) : Nat → Sto → Int32 → Option (Int32 × Sto)
  | 0, _, _ => none
  | k + 1, s1, v3 =>
    gd (isA xCfg v2 6) <|
    if (Int32.ofNat (xlen xCfg v2)) ≤ v3 then
      some ((-1 : Int32), s1)
    else
      gd (eOk (s1.1 0 5)) <|
      if (s1.1 0 5) = (Int32.ofNat (2 + 1)) then
        gd (inb v3 (xlen xCfg v2)) <|
        bd (xw_spells n s1 ((xext xCfg v2) + (v3).toNatClampNeg)) fun r9 s10 =>
        if r9 = true then
          some (v3, s10)
        else
          xw_wordOf_L2 n v2 k s10 (v3 + (1 : Int32))
      else
        some ((-1 : Int32), s1)
def xw_wordOf (n : Nat) (s : Sto) (a1 : Nat) : Option (Int32 × Sto) :=
  xw_wordOf_L2 n a1
      n s (0 : Int32)
theorem w_xw_wordOf_L2  {l : Launch} {n : Nat} {v2 : Nat} {g : Gam} {A : Nat → Prop} {X : FX} {si sF : Sto} {rF : Int32} (C : CX xCfg g A 3 X cX0_wordOf RX0 (some .int) 6 119) (E : EX xCfg g A X si sF (some (.int rF)) 0 0) (hX : X.2.1 = l) : ∀ (k : Nat) (s1 : Sto) (v3 : Int32), xw_wordOf_L2 n v2 k s1 v3 = some (rF, sF) → TG xCfg g A 3 X 0 0 s1 2 [(0, .ref (g.1 0)), (1, .ref (g.1 v2)), (2, .int v3)] [] := by
  intro k
  induction k with
  | zero => intro s1 v3 hf; rw [xw_wordOf_L2] at hf; cases hf
  | succ k ih =>
    intro s1 v3 hf
    rw [xw_wordOf_L2] at hf
    refine g_iload_n C dX0_wordOf_2 2 rfl ?_
    refine g_aload_n C dX0_wordOf_3 1 rfl ?_
    refine gd_n hf (fun c4 hf => ?_)
    refine g_alen6 C (isA_r c4) rfl rfl dX0_wordOf_4 ?_
    refine g_icmp_ge 36 C dX0_wordOf_5 rfl (fun c5 => ?_) (fun c5 => ?_)
    · replace hf := if_t c5 hf
      refine g_iconst C dX0_wordOf_36 kc_m1 ?_
      exact g_iret C E rfl (re_i hf) (re_s hf) ⟨Nat.zero_le _, Nat.zero_le _⟩ dX0_wordOf_37
    · replace hf := if_f c5 hf
      refine g_aload_n C dX0_wordOf_8 0 rfl ?_
      refine g_getEf C oX0 fX0_182 dX0_wordOf_9 ?_
      refine g_getE (i := 2) C (by decide) rfl q408 dX0_wordOf_12 ?_
      refine gd_n hf (fun c6 hf => ?_)
      refine g_acmpE_ne 36 C c6 (by decide) dX0_wordOf_15 rfl (fun c7 => ?_) (fun c7 => ?_)
      · replace hf := if_t c7 hf
        refine g_aload_n C dX0_wordOf_18 0 rfl ?_
        refine g_aload_n C dX0_wordOf_19 1 rfl ?_
        refine g_iload_n C dX0_wordOf_20 2 rfl ?_
        refine gd_n hf (fun c8 hf => ?_)
        refine g_aald6 C (isA_r c4) rfl c8 dX0_wordOf_21 ?_
        refine bd_n hf (fun r9 s10 h11 hf => ?_)
        refine g_callV0 (As := [.ref (g.2.2.2.1 ((xext xCfg v2) + (v3).toNatClampNeg))]) (rest := []) (stk := [.int (bI r9)]) C (w_xw_spells h11) hX oX0 rfl rfl q414 q416 qs5 q88 q417 mdX0_spells rfl ⟨Nat.le_of_ble_eq_true rfl, Nat.le_of_ble_eq_true rfl⟩ (Nat.le_of_ble_eq_true rfl) dX0_wordOf_22 rfl ?_
        refine g_ifZ_eq 30 C dX0_wordOf_25 rfl (fun c12 => ?_) (fun c12 => ?_)
        · replace hf := if_t c12 hf
          refine g_iload_n C dX0_wordOf_28 2 rfl ?_
          exact g_iret C E rfl (re_i hf) (re_s hf) ⟨Nat.zero_le _, Nat.zero_le _⟩ dX0_wordOf_29
        · replace hf := if_f c12 hf
          refine g_iinc (q := 2) (lv' := [(2, .int (v3 + (1 : Int32))), (0, .ref (g.1 0)), (1, .ref (g.1 v2))]) C dX0_wordOf_30 rfl kc_1 (by decide) rfl ?_
          refine g_goto 2 C dX0_wordOf_33 rfl ?_
          exact g_sub [1, 2, 0] rfl (ih _ _ hf)
      · replace hf := if_f c7 hf
        refine g_iconst C dX0_wordOf_36 kc_m1 ?_
        exact g_iret C E rfl (re_i hf) (re_s hf) ⟨Nat.zero_le _, Nat.zero_le _⟩ dX0_wordOf_37
theorem w_xw_wordOf {l : Launch} {n : Nat} {s sF : Sto} {a1 : Nat} {rF : Int32} (hf : xw_wordOf n s a1 = some (rF, sF)) : Ct xCfg l yX0_wordOf cX0_wordOf 3 (some .int) { frames := 6, cells := 0, slots := 0, locals := 119 } (fun g => [.ref (g.1 0), .ref (g.1 a1)]) s sF (fun _ => some (.int rF)) := by
  refine Ct_of pn_X0 (fun g => Nat.le_of_ble_eq_true rfl) (fun g A X C E hX => ?_)
  rw [xw_wordOf] at hf
  show TG xCfg g A 3 X 0 0 s 0 [(0, .ref (g.1 0)), (1, .ref (g.1 a1))] []
  refine g_iconst C dX0_wordOf_0 kc_0 ?_
  refine g_istore_n (i := 2) (lv' := [(2, .int (0 : Int32)), (0, .ref (g.1 0)), (1, .ref (g.1 a1))]) C dX0_wordOf_1 rfl rfl (by decide) rfl ?_
  refine g_sub [1, 2, 0] rfl (w_xw_wordOf_L2 C E hX _ _ _ hf)
def xw_isWord (n : Nat) (s : Sto) (a1 : Nat) : Option (Bool × Sto) :=
  gd (eOk (s.1 0 5)) <|
  if (s.1 0 5) = (Int32.ofNat (2 + 1)) then
    bd (xw_spells n s a1) fun r3 s4 =>
    if r3 = true then
      some (true, s4)
    else
      some (false, s4)
  else
    some (false, s)
theorem w_xw_isWord {l : Launch} {n : Nat} {s sF : Sto} {a1 : Nat} {rF : Bool} (hf : xw_isWord n s a1 = some (rF, sF)) : Ct xCfg l yX0_isWord cX0_isWord 2 (some .boolean) { frames := 6, cells := 0, slots := 0, locals := 119 } (fun g => [.ref (g.1 0), .ref (g.2.2.2.1 a1)]) s sF (fun _ => some (.int (bI rF))) := by
  refine Ct_of pn_X0 (fun g => Nat.le_of_ble_eq_true rfl) (fun g A X C E hX => ?_)
  rw [xw_isWord] at hf
  show TG xCfg g A 2 X 0 0 s 0 [(0, .ref (g.1 0)), (1, .ref (g.2.2.2.1 a1))] []
  refine g_aload_n C dX0_isWord_0 0 rfl ?_
  refine g_getEf C oX0 fX0_182 dX0_isWord_1 ?_
  refine g_getE (i := 2) C (by decide) rfl q408 dX0_isWord_4 ?_
  refine gd_n hf (fun c1 hf => ?_)
  refine g_acmpE_ne 22 C c1 (by decide) dX0_isWord_7 rfl (fun c2 => ?_) (fun c2 => ?_)
  · replace hf := if_t c2 hf
    refine g_aload_n C dX0_isWord_10 0 rfl ?_
    refine g_aload_n C dX0_isWord_11 1 rfl ?_
    refine bd_n hf (fun r3 s4 h5 hf => ?_)
    refine g_callV0 (As := [.ref (g.2.2.2.1 a1)]) (rest := []) (stk := [.int (bI r3)]) C (w_xw_spells h5) hX oX0 rfl rfl q414 q416 qs5 q88 q417 mdX0_spells rfl ⟨Nat.le_of_ble_eq_true rfl, Nat.le_of_ble_eq_true rfl⟩ (Nat.le_of_ble_eq_true rfl) dX0_isWord_12 rfl ?_
    refine g_ifZ_eq 22 C dX0_isWord_15 rfl (fun c6 => ?_) (fun c6 => ?_)
    · replace hf := if_t c6 hf
      refine g_iconst C dX0_isWord_18 kc_1 ?_
      refine g_goto 23 C dX0_isWord_19 rfl ?_
      exact g_iret (v := bI true) C E (bI_nar _) (re_z hf) (re_s hf) ⟨Nat.zero_le _, Nat.zero_le _⟩ dX0_isWord_23
    · replace hf := if_f c6 hf
      refine g_iconst C dX0_isWord_22 kc_0 ?_
      exact g_iret (v := bI false) C E (bI_nar _) (re_z hf) (re_s hf) ⟨Nat.zero_le _, Nat.zero_le _⟩ dX0_isWord_23
  · replace hf := if_f c2 hf
    refine g_iconst C dX0_isWord_22 kc_0 ?_
    exact g_iret (v := bI false) C E (bI_nar _) (re_z hf) (re_s hf) ⟨Nat.zero_le _, Nat.zero_le _⟩ dX0_isWord_23
def xw_isSign (n : Nat) (s : Sto) (a1 : Int32) : Option (Bool × Sto) :=
  gd (eOk (s.1 0 5)) <|
  if (s.1 0 5) = (Int32.ofNat (4 + 1)) then
    if (s.1 0 8) = a1 then
      some (true, s)
    else
      some (false, s)
  else
    some (false, s)
theorem w_xw_isSign {l : Launch} {n : Nat} {s sF : Sto} {a1 : Int32} {rF : Bool} (hf : xw_isSign n s a1 = some (rF, sF)) : Ct xCfg l yX0_isSign cX0_isSign 2 (some .boolean) { frames := 1, cells := 0, slots := 0, locals := 12 } (fun g => [.ref (g.1 0), .int a1]) s sF (fun _ => some (.int (bI rF))) := by
  refine Ct_of pn_X0 (fun g => Nat.le_of_ble_eq_true rfl) (fun g A X C E hX => ?_)
  rw [xw_isSign] at hf
  show TG xCfg g A 2 X 0 0 s 0 [(0, .ref (g.1 0)), (1, .int a1)] []
  refine g_aload_n C dX0_isSign_0 0 rfl ?_
  refine g_getEf C oX0 fX0_182 dX0_isSign_1 ?_
  refine g_getE (i := 4) C (by decide) rfl q533 dX0_isSign_4 ?_
  refine gd_n hf (fun c1 hf => ?_)
  refine g_acmpE_ne 22 C c1 (by decide) dX0_isSign_7 rfl (fun c2 => ?_) (fun c2 => ?_)
  · replace hf := if_t c2 hf
    refine g_aload_n C dX0_isSign_10 0 rfl ?_
    refine g_getI C oX0 fX0_198 dX0_isSign_11 ?_
    refine g_iload_n C dX0_isSign_14 1 rfl ?_
    refine g_icmp_ne 22 C dX0_isSign_15 rfl (fun c3 => ?_) (fun c3 => ?_)
    · replace hf := if_t c3 hf
      refine g_iconst C dX0_isSign_18 kc_1 ?_
      refine g_goto 23 C dX0_isSign_19 rfl ?_
      exact g_iret (v := bI true) C E (bI_nar _) (re_z hf) (re_s hf) ⟨Nat.zero_le _, Nat.zero_le _⟩ dX0_isSign_23
    · replace hf := if_f c3 hf
      refine g_iconst C dX0_isSign_22 kc_0 ?_
      exact g_iret (v := bI false) C E (bI_nar _) (re_z hf) (re_s hf) ⟨Nat.zero_le _, Nat.zero_le _⟩ dX0_isSign_23
  · replace hf := if_f c2 hf
    refine g_iconst C dX0_isSign_22 kc_0 ?_
    exact g_iret (v := bI false) C E (bI_nar _) (re_z hf) (re_s hf) ⟨Nat.zero_le _, Nat.zero_le _⟩ dX0_isSign_23
def xw_readNext_L0 (n : Nat) (k3 : Sto → Option (Unit × Sto)) : Nat → Sto → Option (Unit × Sto)
  | 0, _ => none
  | k + 1, s1 =>
    bd (xw_raw n s1 (s1.1 0 6)) fun r4 s5 =>
    vl (fun (s7 : Sto) =>
      vl (sI s7 0 6 ((s7.1 0 6) + (1 : Int32))) fun s9 =>
      xw_readNext_L0 n k3 k s9) fun j8 =>
    if r4 = (32 : Int32) then
      j8 s5
    else
      bd (xw_raw n s5 (s5.1 0 6)) fun r11 s12 =>
      if r11 = (10 : Int32) then
        j8 s12
      else
        k3 s12
def xw_readNext_L97 (n : Nat) (k30 : Sto → Option (Unit × Sto)) : Nat → Sto → Option (Unit × Sto)
  | 0, _ => none
  | k + 1, s28 =>
    bd (xw_raw n s28 (s28.1 0 6)) fun r31 s32 =>
    bd (xw_isLetter n s32 r31) fun r34 s35 =>
    if r34 = true then
      vl (sI s35 0 6 ((s35.1 0 6) + (1 : Int32))) fun s38 =>
      xw_readNext_L97 n k30 k s38
    else
      k30 s35
def xw_readNext_L192 (n : Nat) (k60 : Sto → Option (Unit × Sto)) : Nat → Sto → Option (Unit × Sto)
  | 0, _ => none
  | k + 1, s58 =>
    bd (xw_raw n s58 (s58.1 0 6)) fun r61 s62 =>
    bd (xw_isDigit n s62 r61) fun r64 s65 =>
    if r64 = true then
      bd (xw_raw n s65 (s65.1 0 6)) fun r68 s69 =>
      vl (sI s69 0 8 (mmin (99999 : Int32) ((((10 : Int32) * (s65.1 0 8)) + r68) - (48 : Int32)))) fun s71 =>
      vl (sI s71 0 6 ((s71.1 0 6) + (1 : Int32))) fun s72 =>
      xw_readNext_L192 n k60 k s72
    else
      k60 s65
def xw_readNext (n : Nat) (s : Sto) : Option (Unit × Sto) :=
  xw_readNext_L0 n
      (fun (s2 : Sto) =>
        vl (sI s2 0 7 (s2.1 0 6)) fun s15 =>
        bd (xw_raw n s15 (s15.1 0 6)) fun r16 s17 =>
        vl (fun (t19 : Int32) =>
          vl (sI s17 0 5 t19) fun s21 =>
          if r16 = (-1 : Int32) then
            some ((), s21)
          else
            vl (sI s21 0 6 ((s21.1 0 6) + (1 : Int32))) fun s23 =>
            bd (xw_isLetter n s23 r16) fun r24 s25 =>
            if r24 = true then
              xw_readNext_L97 n
                  (fun (s29 : Sto) =>
                    vl (sI s29 0 5 (Int32.ofNat (2 + 1))) fun s39 =>
                    bd (xw_wordOf n s39 2) fun r40 s41 =>
                    if r40 = (-1 : Int32) then
                      bd (xw_wordOf n s41 3) fun r44 s45 =>
                      if r44 = (-1 : Int32) then
                        bd (xw_wordOf n s45 4) fun r48 s49 =>
                        if r48 = (-1 : Int32) then
                          vl (sI s49 0 5 (Int32.ofNat (1 + 1))) fun s52 =>
                          some ((), s52)
                        else
                          some ((), s49)
                      else
                        some ((), s45)
                    else
                      some ((), s41))
                  n s25
            else
              bd (xw_isDigit n s25 r16) fun r53 s54 =>
              if r53 = true then
                vl (sI s54 0 8 (r16 - (48 : Int32))) fun s57 =>
                xw_readNext_L192 n
                    (fun (s59 : Sto) =>
                      if (4 : Int32) < ((s59.1 0 6) - (s59.1 0 7)) then
                        some ((), s59)
                      else
                        vl (sI s59 0 5 (Int32.ofNat (3 + 1))) fun s74 =>
                        some ((), s74))
                    n s57
              else
                gd (decide (15 < 16)) <|
                bd (jw_indexOf n s54 15 r16) fun r75 s76 =>
                if r75 < 0 then
                  some ((), s76)
                else
                  vl (sI s76 0 5 (Int32.ofNat (4 + 1))) fun s80 =>
                  vl (sI s80 0 8 r16) fun s81 =>
                  some ((), s81)) fun j20 =>
        if r16 = (-1 : Int32) then
          j20 (Int32.ofNat (0 + 1))
        else
          j20 (Int32.ofNat (1 + 1)))
      n s
theorem w_xw_readNext_L0  {l : Launch} {n : Nat} {k3 : Sto → Option (Unit × Sto)} {g : Gam} {A : Nat → Prop} {X : FX} {si sF : Sto} {rF : Unit} (C : CX xCfg g A 2 X cX0_readNext RX0 none 7 141) (E : EX xCfg g A X si sF none 0 0) (hX : X.2.1 = l) (Hk3 : ∀ (s2 : Sto), k3 s2 = some (rF, sF) → TG xCfg g A 2 X 0 0 s2 39 [(0, .ref (g.1 0))] []) : ∀ (k : Nat) (s1 : Sto), xw_readNext_L0 n k3 k s1 = some (rF, sF) → TG xCfg g A 2 X 0 0 s1 0 [(0, .ref (g.1 0))] [] := by
  intro k
  induction k with
  | zero => intro s1 hf; rw [xw_readNext_L0] at hf; cases hf
  | succ k ih =>
    intro s1 hf
    rw [xw_readNext_L0] at hf
    refine g_aload_n C dX0_readNext_0 0 rfl ?_
    refine g_aload_n C dX0_readNext_1 0 rfl ?_
    refine g_getI C oX0 fX0_168 dX0_readNext_2 ?_
    refine bd_n hf (fun r4 s5 h6 hf => ?_)
    refine g_callV0 (As := [.int (s1.1 0 6)]) (rest := []) (stk := [.int r4]) C (w_xw_raw h6) hX oX0 rfl rfl q397 q399 qs3 q88 q400 mdX0_raw rfl ⟨Nat.le_of_ble_eq_true rfl, Nat.le_of_ble_eq_true rfl⟩ (Nat.le_of_ble_eq_true rfl) dX0_readNext_5 rfl ?_
    refine g_bipush C dX0_readNext_8 kb_32 ?_
    refine vl_n hf (fun j8 hj8 hf => ?_)
    have Hj8 : ∀ (s7 : Sto), j8 s7 = some (rF, sF) → TG xCfg g A 2 X 0 0 s7 26 [(0, .ref (g.1 0))] [] := by
      clear hf; subst hj8
      intro s7 hf
      refine g_aload_n C dX0_readNext_26 0 rfl ?_
      refine g_dup C dX0_readNext_27 rfl ?_
      refine g_getI C oX0 fX0_168 dX0_readNext_28 ?_
      refine g_iconst C dX0_readNext_31 kc_1 ?_
      refine g_iadd C dX0_readNext_32 ?_
      refine vl_n hf (fun s9 hs9 hf => ?_)
      refine g_putI C oX0 pX0_168 rfl rfl hs9 dX0_readNext_33 ?_
      refine g_goto 0 C dX0_readNext_36 rfl ?_
      exact g_sub [0] rfl (ih _ hf)
    clear hj8
    refine g_icmp_eq 26 C dX0_readNext_10 rfl (fun c10 => ?_) (fun c10 => ?_)
    · replace hf := if_t c10 hf
      exact g_sub [0] rfl (Hj8 _ hf)
    · replace hf := if_f c10 hf
      refine g_aload_n C dX0_readNext_13 0 rfl ?_
      refine g_aload_n C dX0_readNext_14 0 rfl ?_
      refine g_getI C oX0 fX0_168 dX0_readNext_15 ?_
      refine bd_n hf (fun r11 s12 h13 hf => ?_)
      refine g_callV0 (As := [.int (s5.1 0 6)]) (rest := []) (stk := [.int r11]) C (w_xw_raw h13) hX oX0 rfl rfl q397 q399 qs3 q88 q400 mdX0_raw rfl ⟨Nat.le_of_ble_eq_true rfl, Nat.le_of_ble_eq_true rfl⟩ (Nat.le_of_ble_eq_true rfl) dX0_readNext_18 rfl ?_
      refine g_bipush C dX0_readNext_21 kb_10 ?_
      refine g_icmp_ne 39 C dX0_readNext_23 rfl (fun c14 => ?_) (fun c14 => ?_)
      · replace hf := if_t c14 hf
        exact g_sub [0] rfl (Hj8 _ hf)
      · replace hf := if_f c14 hf
        exact g_sub [0] rfl (Hk3 _ hf)
theorem w_xw_readNext_L97  {l : Launch} {n : Nat} {k30 : Sto → Option (Unit × Sto)} {g : Gam} {A : Nat → Prop} {X : FX} {si sF : Sto} {rF : Unit} (C : CX xCfg g A 2 X cX0_readNext RX0 none 7 141) (E : EX xCfg g A X si sF none 0 0) (hX : X.2.1 = l) (Hk30 : ∀ (s29 : Sto), k30 s29 = some (rF, sF) → TG xCfg g A 2 X 0 0 s29 124 [(0, .ref (g.1 0))] []) : ∀ (k : Nat) (s28 : Sto), xw_readNext_L97 n k30 k s28 = some (rF, sF) → TG xCfg g A 2 X 0 0 s28 97 [(0, .ref (g.1 0))] [] := by
  intro k
  induction k with
  | zero => intro s28 hf; rw [xw_readNext_L97] at hf; cases hf
  | succ k ih =>
    intro s28 hf
    rw [xw_readNext_L97] at hf
    refine g_aload_n C dX0_readNext_97 0 rfl ?_
    refine g_aload_n C dX0_readNext_98 0 rfl ?_
    refine g_getI C oX0 fX0_168 dX0_readNext_99 ?_
    refine bd_n hf (fun r31 s32 h33 hf => ?_)
    refine g_callV0 (As := [.int (s28.1 0 6)]) (rest := []) (stk := [.int r31]) C (w_xw_raw h33) hX oX0 rfl rfl q397 q399 qs3 q88 q400 mdX0_raw rfl ⟨Nat.le_of_ble_eq_true rfl, Nat.le_of_ble_eq_true rfl⟩ (Nat.le_of_ble_eq_true rfl) dX0_readNext_102 rfl ?_
    refine bd_n hf (fun r34 s35 h36 hf => ?_)
    refine g_callS0 (As := [.int r31]) (rest := []) (stk := [.int (bI r34)]) C (w_xw_isLetter h36) hX rfl q405 q406 q88 q407 msX0_isLetter rfl ⟨Nat.le_of_ble_eq_true rfl, Nat.le_of_ble_eq_true rfl⟩ (Nat.le_of_ble_eq_true rfl) dX0_readNext_105 rfl ?_
    refine g_ifZ_eq 124 C dX0_readNext_108 rfl (fun c37 => ?_) (fun c37 => ?_)
    · replace hf := if_t c37 hf
      refine g_aload_n C dX0_readNext_111 0 rfl ?_
      refine g_dup C dX0_readNext_112 rfl ?_
      refine g_getI C oX0 fX0_168 dX0_readNext_113 ?_
      refine g_iconst C dX0_readNext_116 kc_1 ?_
      refine g_iadd C dX0_readNext_117 ?_
      refine vl_n hf (fun s38 hs38 hf => ?_)
      refine g_putI C oX0 pX0_168 rfl rfl hs38 dX0_readNext_118 ?_
      refine g_goto 97 C dX0_readNext_121 rfl ?_
      exact g_sub [0] rfl (ih _ hf)
    · replace hf := if_f c37 hf
      exact g_sub [0] rfl (Hk30 _ hf)
theorem w_xw_readNext_L192  {l : Launch} {n : Nat} {k60 : Sto → Option (Unit × Sto)} {g : Gam} {A : Nat → Prop} {X : FX} {si sF : Sto} {rF : Unit} (C : CX xCfg g A 2 X cX0_readNext RX0 none 7 141) (E : EX xCfg g A X si sF none 0 0) (hX : X.2.1 = l) (Hk60 : ∀ (s59 : Sto), k60 s59 = some (rF, sF) → TG xCfg g A 2 X 0 0 s59 247 [(0, .ref (g.1 0))] []) : ∀ (k : Nat) (s58 : Sto), xw_readNext_L192 n k60 k s58 = some (rF, sF) → TG xCfg g A 2 X 0 0 s58 192 [(0, .ref (g.1 0))] [] := by
  intro k
  induction k with
  | zero => intro s58 hf; rw [xw_readNext_L192] at hf; cases hf
  | succ k ih =>
    intro s58 hf
    rw [xw_readNext_L192] at hf
    refine g_aload_n C dX0_readNext_192 0 rfl ?_
    refine g_aload_n C dX0_readNext_193 0 rfl ?_
    refine g_getI C oX0 fX0_168 dX0_readNext_194 ?_
    refine bd_n hf (fun r61 s62 h63 hf => ?_)
    refine g_callV0 (As := [.int (s58.1 0 6)]) (rest := []) (stk := [.int r61]) C (w_xw_raw h63) hX oX0 rfl rfl q397 q399 qs3 q88 q400 mdX0_raw rfl ⟨Nat.le_of_ble_eq_true rfl, Nat.le_of_ble_eq_true rfl⟩ (Nat.le_of_ble_eq_true rfl) dX0_readNext_197 rfl ?_
    refine bd_n hf (fun r64 s65 h66 hf => ?_)
    refine g_callS0 (As := [.int r61]) (rest := []) (stk := [.int (bI r64)]) C (w_xw_isDigit h66) hX rfl q466 q467 q88 q468 msX0_isDigit rfl ⟨Nat.le_of_ble_eq_true rfl, Nat.le_of_ble_eq_true rfl⟩ (Nat.le_of_ble_eq_true rfl) dX0_readNext_200 rfl ?_
    refine g_ifZ_eq 247 C dX0_readNext_203 rfl (fun c67 => ?_) (fun c67 => ?_)
    · replace hf := if_t c67 hf
      refine g_aload_n C dX0_readNext_206 0 rfl ?_
      refine g_ldc C dX0_readNext_207 q469 ?_
      refine g_bipush C dX0_readNext_209 kb_10 ?_
      refine g_aload_n C dX0_readNext_211 0 rfl ?_
      refine g_getI C oX0 fX0_198 dX0_readNext_212 ?_
      refine g_imul C dX0_readNext_215 ?_
      refine g_aload_n C dX0_readNext_216 0 rfl ?_
      refine g_aload_n C dX0_readNext_217 0 rfl ?_
      refine g_getI C oX0 fX0_168 dX0_readNext_218 ?_
      refine bd_n hf (fun r68 s69 h70 hf => ?_)
      refine g_callV0 (As := [.int (s65.1 0 6)]) (rest := [.int ((10 : Int32) * (s65.1 0 8)), .int (99999 : Int32), .ref (g.1 0)]) (stk := [.int r68, .int ((10 : Int32) * (s65.1 0 8)), .int (99999 : Int32), .ref (g.1 0)]) C (w_xw_raw h70) hX oX0 rfl rfl q397 q399 qs3 q88 q400 mdX0_raw rfl ⟨Nat.le_of_ble_eq_true rfl, Nat.le_of_ble_eq_true rfl⟩ (Nat.le_of_ble_eq_true rfl) dX0_readNext_221 rfl ?_
      refine g_iadd C dX0_readNext_224 ?_
      refine g_bipush C dX0_readNext_225 kb_48 ?_
      refine g_isub C dX0_readNext_227 ?_
      refine g_mmin C q470 (Nat.le_of_ble_eq_true rfl) (Nat.le_of_ble_eq_true rfl) (Nat.le_of_ble_eq_true rfl) ⟨Nat.zero_le _, Nat.zero_le _⟩ dX0_readNext_228 ?_
      refine vl_n hf (fun s71 hs71 hf => ?_)
      refine g_putI C oX0 pX0_198 rfl rfl hs71 dX0_readNext_231 ?_
      refine g_aload_n C dX0_readNext_234 0 rfl ?_
      refine g_dup C dX0_readNext_235 rfl ?_
      refine g_getI C oX0 fX0_168 dX0_readNext_236 ?_
      refine g_iconst C dX0_readNext_239 kc_1 ?_
      refine g_iadd C dX0_readNext_240 ?_
      refine vl_n hf (fun s72 hs72 hf => ?_)
      refine g_putI C oX0 pX0_168 rfl rfl hs72 dX0_readNext_241 ?_
      refine g_goto 192 C dX0_readNext_244 rfl ?_
      exact g_sub [0] rfl (ih _ hf)
    · replace hf := if_f c67 hf
      exact g_sub [0] rfl (Hk60 _ hf)
theorem w_xw_readNext {l : Launch} {n : Nat} {s sF : Sto} {rF : Unit} (hf : xw_readNext n s  = some (rF, sF)) : Ct xCfg l yX0_readNext cX0_readNext 2 none { frames := 7, cells := 0, slots := 0, locals := 141 } (fun g => [.ref (g.1 0)]) s sF (fun _ => none) := by
  refine Ct_of pn_X0 (fun g => Nat.le_of_ble_eq_true rfl) (fun g A X C E hX => ?_)
  rw [xw_readNext] at hf
  show TG xCfg g A 2 X 0 0 s 0 [(0, .ref (g.1 0))] []
  refine g_sub [0] rfl (w_xw_readNext_L0 C E hX (fun s2 hf => ?_) _ _ hf)
  refine g_aload_n C dX0_readNext_39 0 rfl ?_
  refine g_aload_n C dX0_readNext_40 0 rfl ?_
  refine g_getI C oX0 fX0_168 dX0_readNext_41 ?_
  refine vl_n hf (fun s15 hs15 hf => ?_)
  refine g_putI C oX0 pX0_171 rfl rfl hs15 dX0_readNext_44 ?_
  refine g_aload_n C dX0_readNext_47 0 rfl ?_
  refine g_aload_n C dX0_readNext_48 0 rfl ?_
  refine g_getI C oX0 fX0_168 dX0_readNext_49 ?_
  refine bd_n hf (fun r16 s17 h18 hf => ?_)
  refine g_callV0 (As := [.int (s15.1 0 6)]) (rest := []) (stk := [.int r16]) C (w_xw_raw h18) hX oX0 rfl rfl q397 q399 qs3 q88 q400 mdX0_raw rfl ⟨Nat.le_of_ble_eq_true rfl, Nat.le_of_ble_eq_true rfl⟩ (Nat.le_of_ble_eq_true rfl) dX0_readNext_52 rfl ?_
  refine g_istore_n (i := 1) (lv' := [(1, .int r16), (0, .ref (g.1 0))]) C dX0_readNext_55 rfl rfl (by decide) rfl ?_
  refine g_aload_n C dX0_readNext_56 1 rfl ?_
  refine g_iload_n C dX0_readNext_57 0 rfl ?_
  refine g_iconst C dX0_readNext_58 kc_m1 ?_
  refine vl_n hf (fun j20 hj20 hf => ?_)
  have Hj20 : ∀ (t19 : Int32), j20 t19 = some (rF, sF) → TG xCfg g A 2 X 0 0 s17 71 [(0, .ref (g.1 0)), (1, .int r16)] [eV g t19, .ref (g.1 0)] := by
    clear hf; subst hj20
    intro t19 hf
    refine vl_n hf (fun s21 hs21 hf => ?_)
    refine g_putE C oX0 pX0_182 hs21 dX0_readNext_71 ?_
    refine g_iload_n C dX0_readNext_74 1 rfl ?_
    refine g_iconst C dX0_readNext_75 kc_m1 ?_
    refine g_icmp_ne 80 C dX0_readNext_76 rfl (fun c22 => ?_) (fun c22 => ?_)
    · replace hf := if_t c22 hf
      exact g_vret C E rfl (re_s hf) ⟨Nat.zero_le _, Nat.zero_le _⟩ dX0_readNext_79
    · replace hf := if_f c22 hf
      refine g_aload_n C dX0_readNext_80 0 rfl ?_
      refine g_dup C dX0_readNext_81 rfl ?_
      refine g_getI C oX0 fX0_168 dX0_readNext_82 ?_
      refine g_iconst C dX0_readNext_85 kc_1 ?_
      refine g_iadd C dX0_readNext_86 ?_
      refine vl_n hf (fun s23 hs23 hf => ?_)
      refine g_putI C oX0 pX0_168 rfl rfl hs23 dX0_readNext_87 ?_
      refine g_iload_n C dX0_readNext_90 1 rfl ?_
      refine bd_n hf (fun r24 s25 h26 hf => ?_)
      refine g_callS0 (As := [.int r16]) (rest := []) (stk := [.int (bI r24)]) C (w_xw_isLetter h26) hX rfl q405 q406 q88 q407 msX0_isLetter rfl ⟨Nat.le_of_ble_eq_true rfl, Nat.le_of_ble_eq_true rfl⟩ (Nat.le_of_ble_eq_true rfl) dX0_readNext_91 rfl ?_
      refine g_ifZ_eq 177 C dX0_readNext_94 rfl (fun c27 => ?_) (fun c27 => ?_)
      · replace hf := if_t c27 hf
        refine g_sub [0] rfl (w_xw_readNext_L97 C E hX (fun s29 hf => ?_) _ _ hf)
        refine g_aload_n C dX0_readNext_124 0 rfl ?_
        refine g_getE (i := 2) C (by decide) rfl q408 dX0_readNext_125 ?_
        refine vl_n hf (fun s39 hs39 hf => ?_)
        refine g_putE C oX0 pX0_182 hs39 dX0_readNext_128 ?_
        refine g_aload_n C dX0_readNext_131 0 rfl ?_
        refine g_aload_n C dX0_readNext_132 0 rfl ?_
        refine g_getS 2 C oX0 fX0_17 rfl dX0_readNext_133 ?_
        refine bd_n hf (fun r40 s41 h42 hf => ?_)
        refine g_callV0 (As := [.ref (g.1 2)]) (rest := []) (stk := [.int r40]) C (w_xw_wordOf h42) hX oX0 rfl rfl q410 q412 qs4 q88 q413 mdX0_wordOf rfl ⟨Nat.le_of_ble_eq_true rfl, Nat.le_of_ble_eq_true rfl⟩ (Nat.le_of_ble_eq_true rfl) dX0_readNext_136 rfl ?_
        refine g_iconst C dX0_readNext_139 kc_m1 ?_
        refine g_icmp_ne 291 C dX0_readNext_140 rfl (fun c43 => ?_) (fun c43 => ?_)
        · replace hf := if_t c43 hf
          refine g_aload_n C dX0_readNext_143 0 rfl ?_
          refine g_aload_n C dX0_readNext_144 0 rfl ?_
          refine g_getS 3 C oX0 fX0_41 rfl dX0_readNext_145 ?_
          refine bd_n hf (fun r44 s45 h46 hf => ?_)
          refine g_callV0 (As := [.ref (g.1 3)]) (rest := []) (stk := [.int r44]) C (w_xw_wordOf h46) hX oX0 rfl rfl q410 q412 qs4 q88 q413 mdX0_wordOf rfl ⟨Nat.le_of_ble_eq_true rfl, Nat.le_of_ble_eq_true rfl⟩ (Nat.le_of_ble_eq_true rfl) dX0_readNext_148 rfl ?_
          refine g_iconst C dX0_readNext_151 kc_m1 ?_
          refine g_icmp_ne 291 C dX0_readNext_152 rfl (fun c47 => ?_) (fun c47 => ?_)
          · replace hf := if_t c47 hf
            refine g_aload_n C dX0_readNext_155 0 rfl ?_
            refine g_aload_n C dX0_readNext_156 0 rfl ?_
            refine g_getS 4 C oX0 fX0_52 rfl dX0_readNext_157 ?_
            refine bd_n hf (fun r48 s49 h50 hf => ?_)
            refine g_callV0 (As := [.ref (g.1 4)]) (rest := []) (stk := [.int r48]) C (w_xw_wordOf h50) hX oX0 rfl rfl q410 q412 qs4 q88 q413 mdX0_wordOf rfl ⟨Nat.le_of_ble_eq_true rfl, Nat.le_of_ble_eq_true rfl⟩ (Nat.le_of_ble_eq_true rfl) dX0_readNext_160 rfl ?_
            refine g_iconst C dX0_readNext_163 kc_m1 ?_
            refine g_icmp_ne 291 C dX0_readNext_164 rfl (fun c51 => ?_) (fun c51 => ?_)
            · replace hf := if_t c51 hf
              refine g_aload_n C dX0_readNext_167 0 rfl ?_
              refine g_getE (i := 1) C (by decide) rfl q403 dX0_readNext_168 ?_
              refine vl_n hf (fun s52 hs52 hf => ?_)
              refine g_putE C oX0 pX0_182 hs52 dX0_readNext_171 ?_
              refine g_goto 291 C dX0_readNext_174 rfl ?_
              exact g_vret C E rfl (re_s hf) ⟨Nat.zero_le _, Nat.zero_le _⟩ dX0_readNext_291
            · replace hf := if_f c51 hf
              exact g_vret C E rfl (re_s hf) ⟨Nat.zero_le _, Nat.zero_le _⟩ dX0_readNext_291
          · replace hf := if_f c47 hf
            exact g_vret C E rfl (re_s hf) ⟨Nat.zero_le _, Nat.zero_le _⟩ dX0_readNext_291
        · replace hf := if_f c43 hf
          exact g_vret C E rfl (re_s hf) ⟨Nat.zero_le _, Nat.zero_le _⟩ dX0_readNext_291
      · replace hf := if_f c27 hf
        refine g_iload_n C dX0_readNext_177 1 rfl ?_
        refine bd_n hf (fun r53 s54 h55 hf => ?_)
        refine g_callS0 (As := [.int r16]) (rest := []) (stk := [.int (bI r53)]) C (w_xw_isDigit h55) hX rfl q466 q467 q88 q468 msX0_isDigit rfl ⟨Nat.le_of_ble_eq_true rfl, Nat.le_of_ble_eq_true rfl⟩ (Nat.le_of_ble_eq_true rfl) dX0_readNext_178 rfl ?_
        refine g_ifZ_eq 270 C dX0_readNext_181 rfl (fun c56 => ?_) (fun c56 => ?_)
        · replace hf := if_t c56 hf
          refine g_aload_n C dX0_readNext_184 0 rfl ?_
          refine g_iload_n C dX0_readNext_185 1 rfl ?_
          refine g_bipush C dX0_readNext_186 kb_48 ?_
          refine g_isub C dX0_readNext_188 ?_
          refine vl_n hf (fun s57 hs57 hf => ?_)
          refine g_putI C oX0 pX0_198 rfl rfl hs57 dX0_readNext_189 ?_
          refine g_sub [0] rfl (w_xw_readNext_L192 C E hX (fun s59 hf => ?_) _ _ hf)
          refine g_aload_n C dX0_readNext_247 0 rfl ?_
          refine g_getI C oX0 fX0_168 dX0_readNext_248 ?_
          refine g_aload_n C dX0_readNext_251 0 rfl ?_
          refine g_getI C oX0 fX0_171 dX0_readNext_252 ?_
          refine g_isub C dX0_readNext_255 ?_
          refine g_iconst C dX0_readNext_256 kc_4 ?_
          refine g_icmp_gt 291 C dX0_readNext_257 rfl (fun c73 => ?_) (fun c73 => ?_)
          · replace hf := if_t c73 hf
            exact g_vret C E rfl (re_s hf) ⟨Nat.zero_le _, Nat.zero_le _⟩ dX0_readNext_291
          · replace hf := if_f c73 hf
            refine g_aload_n C dX0_readNext_260 0 rfl ?_
            refine g_getE (i := 3) C (by decide) rfl q473 dX0_readNext_261 ?_
            refine vl_n hf (fun s74 hs74 hf => ?_)
            refine g_putE C oX0 pX0_182 hs74 dX0_readNext_264 ?_
            refine g_goto 291 C dX0_readNext_267 rfl ?_
            exact g_vret C E rfl (re_s hf) ⟨Nat.zero_le _, Nat.zero_le _⟩ dX0_readNext_291
        · replace hf := if_f c56 hf
          refine g_ldcS (tx := ";+-*/()<=>") C (List.mem_of_getElem? (i := 15) rfl) dX0_readNext_270 ?_
          refine g_iload_n C dX0_readNext_272 1 rfl ?_
          refine gd_n hf (fun c78 hf => ?_)
          refine bd_n hf (fun r75 s76 h77 hf => ?_)
          refine g_callK0 (As := [.int r16]) (rest := []) (stk := [.int r75]) C (w_jw_indexOf h77) hX (of_decide_eq_true c78) rfl q476 q477 q478 q98 q479 mdJ2_indexOf rfl ⟨Nat.le_of_ble_eq_true rfl, Nat.le_of_ble_eq_true rfl⟩ (Nat.le_of_ble_eq_true rfl) dX0_readNext_273 rfl ?_
          refine g_if_lt 291 C dX0_readNext_276 rfl (fun c79 => ?_) (fun c79 => ?_)
          · replace hf := if_t c79 hf
            exact g_vret C E rfl (re_s hf) ⟨Nat.zero_le _, Nat.zero_le _⟩ dX0_readNext_291
          · replace hf := if_f c79 hf
            refine g_aload_n C dX0_readNext_279 0 rfl ?_
            refine g_getE (i := 4) C (by decide) rfl q533 dX0_readNext_280 ?_
            refine vl_n hf (fun s80 hs80 hf => ?_)
            refine g_putE C oX0 pX0_182 hs80 dX0_readNext_283 ?_
            refine g_aload_n C dX0_readNext_286 0 rfl ?_
            refine g_iload_n C dX0_readNext_287 1 rfl ?_
            refine vl_n hf (fun s81 hs81 hf => ?_)
            refine g_putI C oX0 pX0_198 rfl rfl hs81 dX0_readNext_288 ?_
            exact g_vret C E rfl (re_s hf) ⟨Nat.zero_le _, Nat.zero_le _⟩ dX0_readNext_291
  clear hj20
  refine g_icmp_ne 68 C dX0_readNext_59 rfl (fun c82 => ?_) (fun c82 => ?_)
  · replace hf := if_t c82 hf
    refine g_getE (i := 0) C (by decide) rfl q401 dX0_readNext_62 ?_
    refine g_goto 71 C dX0_readNext_65 rfl ?_
    exact g_sub [1, 0] rfl (Hj20 _ hf)
  · replace hf := if_f c82 hf
    refine g_getE (i := 1) C (by decide) rfl q403 dX0_readNext_68 ?_
    exact g_sub [1, 0] rfl (Hj20 _ hf)
def xw_fault (n : Nat) (s : Sto) (a1 : Int32) : Option (Int32 × Sto) :=
  if a1 = 0 then
    some ((s.1 0 10), s)
  else
    if a1 = (1 : Int32) then
      some ((s.1 0 11), s)
    else
      some ((-1 : Int32), s)
theorem w_xw_fault {l : Launch} {n : Nat} {s sF : Sto} {a1 : Int32} {rF : Int32} (hf : xw_fault n s a1 = some (rF, sF)) : Ct xCfg l yX0_fault cX0_fault 2 (some .int) { frames := 1, cells := 0, slots := 0, locals := 12 } (fun g => [.ref (g.1 0), .int a1]) s sF (fun _ => some (.int rF)) := by
  refine Ct_of pn_X0 (fun g => Nat.le_of_ble_eq_true rfl) (fun g A X C E hX => ?_)
  rw [xw_fault] at hf
  show TG xCfg g A 2 X 0 0 s 0 [(0, .ref (g.1 0)), (1, .int a1)] []
  refine g_iload_n C dX0_fault_0 1 rfl ?_
  refine g_if_ne 11 C dX0_fault_1 rfl (fun c1 => ?_) (fun c1 => ?_)
  · replace hf := if_t c1 hf
    refine g_aload_n C dX0_fault_4 0 rfl ?_
    refine g_getI C oX0 fX0_306 dX0_fault_5 ?_
    refine g_goto 24 C dX0_fault_8 rfl ?_
    exact g_iret C E rfl (re_i hf) (re_s hf) ⟨Nat.zero_le _, Nat.zero_le _⟩ dX0_fault_24
  · replace hf := if_f c1 hf
    refine g_iload_n C dX0_fault_11 1 rfl ?_
    refine g_iconst C dX0_fault_12 kc_1 ?_
    refine g_icmp_ne 23 C dX0_fault_13 rfl (fun c2 => ?_) (fun c2 => ?_)
    · replace hf := if_t c2 hf
      refine g_aload_n C dX0_fault_16 0 rfl ?_
      refine g_getI C oX0 fX0_55 dX0_fault_17 ?_
      refine g_goto 24 C dX0_fault_20 rfl ?_
      exact g_iret C E rfl (re_i hf) (re_s hf) ⟨Nat.zero_le _, Nat.zero_le _⟩ dX0_fault_24
    · replace hf := if_f c2 hf
      refine g_iconst C dX0_fault_23 kc_m1 ?_
      exact g_iret C E rfl (re_i hf) (re_s hf) ⟨Nat.zero_le _, Nat.zero_le _⟩ dX0_fault_24
def xw_copies (n : Nat) (s : Sto) (a1 : Nat) (a2 : Nat) : Option (Unit × Sto) :=
  gd (isA xCfg a1 0) <|
  gd (isA xCfg a2 0) <|
  gd (cpOk (0 : Int32) (0 : Int32) (Int32.ofNat (xlen xCfg a1)) (xlen xCfg a1) (xlen xCfg a2)) <|
  vl (cpI s a1 (0 : Int32) a2 (0 : Int32) (Int32.ofNat (xlen xCfg a1))) fun s2 =>
  some ((), s2)
theorem w_xw_copies {l : Launch} {n : Nat} {s sF : Sto} {a1 : Nat} {a2 : Nat} {rF : Unit} (hf : xw_copies n s a1 a2 = some (rF, sF)) : Ct xCfg l yX0_copies cX0_copies 2 none { frames := 2, cells := 0, slots := 0, locals := 40 } (fun g => [.ref (g.1 a1), .ref (g.1 a2)]) s sF (fun _ => none) := by
  refine Ct_of pn_X0 (fun g => Nat.le_of_ble_eq_true rfl) (fun g A X C E hX => ?_)
  rw [xw_copies] at hf
  show TG xCfg g A 2 X 0 0 s 0 [(0, .ref (g.1 a1)), (1, .ref (g.1 a2))] []
  refine g_aload_n C dX0_copies_0 0 rfl ?_
  refine g_iconst C dX0_copies_1 kc_0 ?_
  refine g_aload_n C dX0_copies_2 1 rfl ?_
  refine g_iconst C dX0_copies_3 kc_0 ?_
  refine g_aload_n C dX0_copies_4 0 rfl ?_
  refine gd_n hf (fun c1 hf => ?_)
  refine g_alen0 C (isA_r c1) rfl rfl dX0_copies_5 ?_
  refine gd_n hf (fun c3 hf => ?_)
  refine gd_n hf (fun c4 hf => ?_)
  refine vl_n hf (fun s2 hs2 hf => ?_)
  refine g_copyI C (isA_s c1) (isA_s c3) rfl c4 q713 (Nat.le_of_ble_eq_true rfl) (Nat.le_of_ble_eq_true rfl) (Nat.le_of_ble_eq_true rfl) hs2 dX0_copies_6 ?_
  exact g_vret C E rfl (re_s hf) ⟨Nat.zero_le _, Nat.zero_le _⟩ dX0_copies_9
def xw_isHouse (n : Nat) (s : Sto) (a1 : Int32) : Option (Bool × Sto) :=
  bd (xw_isIn n s a1 (0 : Int32) ((s.1 0 14) - (1 : Int32))) fun r1 s2 =>
  some (r1, s2)
theorem w_xw_isHouse {l : Launch} {n : Nat} {s sF : Sto} {a1 : Int32} {rF : Bool} (hf : xw_isHouse n s a1 = some (rF, sF)) : Ct xCfg l yX0_isHouse cX0_isHouse 2 (some .boolean) { frames := 2, cells := 0, slots := 0, locals := 34 } (fun g => [.ref (g.1 0), .int a1]) s sF (fun _ => some (.int (bI rF))) := by
  refine Ct_of pn_X0 (fun g => Nat.le_of_ble_eq_true rfl) (fun g A X C E hX => ?_)
  rw [xw_isHouse] at hf
  show TG xCfg g A 2 X 0 0 s 0 [(0, .ref (g.1 0)), (1, .int a1)] []
  refine g_iload_n C dX0_isHouse_0 1 rfl ?_
  refine g_iconst C dX0_isHouse_1 kc_0 ?_
  refine g_aload_n C dX0_isHouse_2 0 rfl ?_
  refine g_getI C oX0 fX0_325 dX0_isHouse_3 ?_
  refine g_iconst C dX0_isHouse_6 kc_1 ?_
  refine g_isub C dX0_isHouse_7 ?_
  refine bd_n hf (fun r1 s2 h3 hf => ?_)
  refine g_callS0 (As := [.int a1, .int (0 : Int32), .int ((s.1 0 14) - (1 : Int32))]) (rest := []) (stk := [.int (bI r1)]) C (w_xw_isIn h3) hX rfl q381 q382 q88 q383 msX0_isIn rfl ⟨Nat.le_of_ble_eq_true rfl, Nat.le_of_ble_eq_true rfl⟩ (Nat.le_of_ble_eq_true rfl) dX0_isHouse_8 rfl ?_
  exact g_iret (v := bI r1) C E (bI_nar _) (re_z hf) (re_s hf) ⟨Nat.zero_le _, Nat.zero_le _⟩ dX0_isHouse_11
def xw_state (n : Nat) (s : Sto) (a1 : Int32) : Option (Int32 × Sto) :=
  vl (s.1 27 1) fun v1 =>
  vl (sI s 27 1 a1) fun s2 =>
  some (v1, s2)
theorem w_xw_state {l : Launch} {n : Nat} {s sF : Sto} {a1 : Int32} {rF : Int32} (hf : xw_state n s a1 = some (rF, sF)) : Ct xCfg l yX0_state cX0_state 3 (some .int) { frames := 1, cells := 0, slots := 0, locals := 12 } (fun g => [.ref (g.1 0), .int a1]) s sF (fun _ => some (.int rF)) := by
  refine Ct_of pn_X0 (fun g => Nat.le_of_ble_eq_true rfl) (fun g A X C E hX => ?_)
  rw [xw_state] at hf
  show TG xCfg g A 3 X 0 0 s 0 [(0, .ref (g.1 0)), (1, .int a1)] []
  refine g_aload_n C dX0_state_0 0 rfl ?_
  refine g_getS 27 C oX0 fX0_82 rfl dX0_state_1 ?_
  refine g_getI C oX27 fX0_328 dX0_state_4 ?_
  refine vl_n hf (fun v1 hv1 hf => ?_)
  refine g_istore_n (i := 2) (lv' := [(2, .int v1), (0, .ref (g.1 0)), (1, .int a1)]) C dX0_state_7 rfl hv1 (by decide) rfl ?_
  refine g_aload_n C dX0_state_8 1 rfl ?_
  refine g_getS 27 C oX0 fX0_82 rfl dX0_state_9 ?_
  refine g_iload_n C dX0_state_12 2 rfl ?_
  refine vl_n hf (fun s2 hs2 hf => ?_)
  refine g_putI C oX27 pX0_328 rfl rfl hs2 dX0_state_13 ?_
  refine g_iload_n C dX0_state_16 0 rfl ?_
  exact g_iret C E rfl (re_i hf) (re_s hf) ⟨Nat.zero_le _, Nat.zero_le _⟩ dX0_state_17
def xw_forgets (n : Nat) (s : Sto) : Option (Unit × Sto) :=
  vl (sI s 0 20 (0 : Int32)) fun s1 =>
  some ((), s1)
theorem w_xw_forgets {l : Launch} {n : Nat} {s sF : Sto} {rF : Unit} (hf : xw_forgets n s  = some (rF, sF)) : Ct xCfg l yX0_forgets cX0_forgets 1 none { frames := 1, cells := 0, slots := 0, locals := 12 } (fun g => [.ref (g.1 0)]) s sF (fun _ => none) := by
  refine Ct_of pn_X0 (fun g => Nat.le_of_ble_eq_true rfl) (fun g A X C E hX => ?_)
  rw [xw_forgets] at hf
  show TG xCfg g A 1 X 0 0 s 0 [(0, .ref (g.1 0))] []
  refine g_aload_n C dX0_forgets_0 0 rfl ?_
  refine g_iconst C dX0_forgets_1 kc_0 ?_
  refine vl_n hf (fun s1 hs1 hf => ?_)
  refine g_putI C oX0 pX0_331 rfl rfl hs1 dX0_forgets_2 ?_
  exact g_vret C E rfl (re_s hf) ⟨Nat.zero_le _, Nat.zero_le _⟩ dX0_forgets_5
def xd_become (n : Nat) (s : Sto) (th : Nat) (a1 : Nat) : Option (Unit × Sto) :=
  gd (isO xCfg a1 1) <|
  gd (isO xCfg th 1) <|
  vl (sI s th 0 (s.1 a1 0)) fun s3 =>
  vl (sI s3 th 1 (s3.1 a1 1)) fun s4 =>
  vl (sI s4 th 2 (s4.1 a1 2)) fun s5 =>
  vl (sI s5 th 3 (s5.1 a1 3)) fun s6 =>
  vl (sI s6 th 4 (s6.1 a1 4)) fun s7 =>
  bd (xw_copies n s7 (a1 + 1) (th + 1)) fun r8 s9 =>
  bd (xw_copies n s9 (a1 + 2) (th + 2)) fun r11 s12 =>
  bd (xw_copies n s12 (a1 + 3) (th + 3)) fun r14 s15 =>
  bd (xw_copies n s15 (a1 + 4) (th + 4)) fun r17 s18 =>
  bd (xw_copies n s18 (a1 + 5) (th + 5)) fun r20 s21 =>
  bd (xw_copies n s21 (a1 + 6) (th + 6)) fun r23 s24 =>
  bd (xw_copies n s24 (a1 + 7) (th + 7)) fun r26 s27 =>
  some ((), s27)
theorem w_xd_become {l : Launch} {n : Nat} {s sF : Sto} {th : Nat} {a1 : Nat} {rF : Unit} (hf : xd_become n s th a1 = some (rF, sF)) : Ct xCfg l yX2_become cX2_become 2 none { frames := 3, cells := 0, slots := 0, locals := 61 } (fun g => [.ref (g.1 th), .ref (g.1 a1)]) s sF (fun _ => none) := by
  refine Ct_of pn_X2 (fun g => Nat.le_of_ble_eq_true rfl) (fun g A X C E hX => ?_)
  rw [xd_become] at hf
  show TG xCfg g A 2 X 0 0 s 0 [(0, .ref (g.1 th)), (1, .ref (g.1 a1))] []
  refine g_aload_n C dX2_become_0 0 rfl ?_
  refine g_aload_n C dX2_become_1 1 rfl ?_
  refine gd_n hf (fun c1 hf => ?_)
  refine g_getI C (isO_s c1) fX2_37 dX2_become_2 ?_
  refine gd_n hf (fun c2 hf => ?_)
  refine vl_n hf (fun s3 hs3 hf => ?_)
  refine g_putI C (isO_s c2) pX2_37 rfl rfl hs3 dX2_become_5 ?_
  refine g_aload_n C dX2_become_8 0 rfl ?_
  refine g_aload_n C dX2_become_9 1 rfl ?_
  refine g_getI C (isO_s c1) fX2_40 dX2_become_10 ?_
  refine vl_n hf (fun s4 hs4 hf => ?_)
  refine g_putI C (isO_s c2) pX2_40 rfl rfl hs4 dX2_become_13 ?_
  refine g_aload_n C dX2_become_16 0 rfl ?_
  refine g_aload_n C dX2_become_17 1 rfl ?_
  refine g_getI C (isO_s c1) fX2_43 dX2_become_18 ?_
  refine vl_n hf (fun s5 hs5 hf => ?_)
  refine g_putI C (isO_s c2) pX2_43 rfl rfl hs5 dX2_become_21 ?_
  refine g_aload_n C dX2_become_24 0 rfl ?_
  refine g_aload_n C dX2_become_25 1 rfl ?_
  refine g_getI C (isO_s c1) fX2_9 dX2_become_26 ?_
  refine vl_n hf (fun s6 hs6 hf => ?_)
  refine g_putI C (isO_s c2) pX2_9 rfl rfl hs6 dX2_become_29 ?_
  refine g_aload_n C dX2_become_32 0 rfl ?_
  refine g_aload_n C dX2_become_33 1 rfl ?_
  refine g_getI C (isO_s c1) fX2_46 dX2_become_34 ?_
  refine vl_n hf (fun s7 hs7 hf => ?_)
  refine g_putI C (isO_s c2) pX2_46 rfl rfl hs7 dX2_become_37 ?_
  refine g_aload_n C dX2_become_40 1 rfl ?_
  refine g_getS (a1 + 1) C (isO_s c1) fX2_15 (xtgt_d c1 5) dX2_become_41 ?_
  refine g_aload_n C dX2_become_44 0 rfl ?_
  refine g_getS (th + 1) C (isO_s c2) fX2_15 (xtgt_d c2 5) dX2_become_45 ?_
  refine bd_n hf (fun r8 s9 h10 hf => ?_)
  refine g_callSN0 (As := [.ref (g.1 (a1 + 1)), .ref (g.1 (th + 1))]) (rest := []) (stk := []) C (w_xw_copies h10) hX rfl (List.mem_of_getElem? (i := 3) rfl) q711 q88 q712 msX0_copies rfl ⟨Nat.le_of_ble_eq_true rfl, Nat.le_of_ble_eq_true rfl⟩ (Nat.le_of_ble_eq_true rfl) dX2_become_48 rfl ?_
  refine g_aload_n C dX2_become_51 1 rfl ?_
  refine g_getS (a1 + 2) C (isO_s c1) fX2_19 (xtgt_d c1 6) dX2_become_52 ?_
  refine g_aload_n C dX2_become_55 0 rfl ?_
  refine g_getS (th + 2) C (isO_s c2) fX2_19 (xtgt_d c2 6) dX2_become_56 ?_
  refine bd_n hf (fun r11 s12 h13 hf => ?_)
  refine g_callSN0 (As := [.ref (g.1 (a1 + 2)), .ref (g.1 (th + 2))]) (rest := []) (stk := []) C (w_xw_copies h13) hX rfl (List.mem_of_getElem? (i := 3) rfl) q711 q88 q712 msX0_copies rfl ⟨Nat.le_of_ble_eq_true rfl, Nat.le_of_ble_eq_true rfl⟩ (Nat.le_of_ble_eq_true rfl) dX2_become_59 rfl ?_
  refine g_aload_n C dX2_become_62 1 rfl ?_
  refine g_getS (a1 + 3) C (isO_s c1) fX2_22 (xtgt_d c1 7) dX2_become_63 ?_
  refine g_aload_n C dX2_become_66 0 rfl ?_
  refine g_getS (th + 3) C (isO_s c2) fX2_22 (xtgt_d c2 7) dX2_become_67 ?_
  refine bd_n hf (fun r14 s15 h16 hf => ?_)
  refine g_callSN0 (As := [.ref (g.1 (a1 + 3)), .ref (g.1 (th + 3))]) (rest := []) (stk := []) C (w_xw_copies h16) hX rfl (List.mem_of_getElem? (i := 3) rfl) q711 q88 q712 msX0_copies rfl ⟨Nat.le_of_ble_eq_true rfl, Nat.le_of_ble_eq_true rfl⟩ (Nat.le_of_ble_eq_true rfl) dX2_become_70 rfl ?_
  refine g_aload_n C dX2_become_73 1 rfl ?_
  refine g_getS (a1 + 4) C (isO_s c1) fX2_25 (xtgt_d c1 8) dX2_become_74 ?_
  refine g_aload_n C dX2_become_77 0 rfl ?_
  refine g_getS (th + 4) C (isO_s c2) fX2_25 (xtgt_d c2 8) dX2_become_78 ?_
  refine bd_n hf (fun r17 s18 h19 hf => ?_)
  refine g_callSN0 (As := [.ref (g.1 (a1 + 4)), .ref (g.1 (th + 4))]) (rest := []) (stk := []) C (w_xw_copies h19) hX rfl (List.mem_of_getElem? (i := 3) rfl) q711 q88 q712 msX0_copies rfl ⟨Nat.le_of_ble_eq_true rfl, Nat.le_of_ble_eq_true rfl⟩ (Nat.le_of_ble_eq_true rfl) dX2_become_81 rfl ?_
  refine g_aload_n C dX2_become_84 1 rfl ?_
  refine g_getS (a1 + 5) C (isO_s c1) fX2_28 (xtgt_d c1 9) dX2_become_85 ?_
  refine g_aload_n C dX2_become_88 0 rfl ?_
  refine g_getS (th + 5) C (isO_s c2) fX2_28 (xtgt_d c2 9) dX2_become_89 ?_
  refine bd_n hf (fun r20 s21 h22 hf => ?_)
  refine g_callSN0 (As := [.ref (g.1 (a1 + 5)), .ref (g.1 (th + 5))]) (rest := []) (stk := []) C (w_xw_copies h22) hX rfl (List.mem_of_getElem? (i := 3) rfl) q711 q88 q712 msX0_copies rfl ⟨Nat.le_of_ble_eq_true rfl, Nat.le_of_ble_eq_true rfl⟩ (Nat.le_of_ble_eq_true rfl) dX2_become_92 rfl ?_
  refine g_aload_n C dX2_become_95 1 rfl ?_
  refine g_getS (a1 + 6) C (isO_s c1) fX2_31 (xtgt_d c1 10) dX2_become_96 ?_
  refine g_aload_n C dX2_become_99 0 rfl ?_
  refine g_getS (th + 6) C (isO_s c2) fX2_31 (xtgt_d c2 10) dX2_become_100 ?_
  refine bd_n hf (fun r23 s24 h25 hf => ?_)
  refine g_callSN0 (As := [.ref (g.1 (a1 + 6)), .ref (g.1 (th + 6))]) (rest := []) (stk := []) C (w_xw_copies h25) hX rfl (List.mem_of_getElem? (i := 3) rfl) q711 q88 q712 msX0_copies rfl ⟨Nat.le_of_ble_eq_true rfl, Nat.le_of_ble_eq_true rfl⟩ (Nat.le_of_ble_eq_true rfl) dX2_become_103 rfl ?_
  refine g_aload_n C dX2_become_106 1 rfl ?_
  refine g_getS (a1 + 7) C (isO_s c1) fX2_34 (xtgt_d c1 11) dX2_become_107 ?_
  refine g_aload_n C dX2_become_110 0 rfl ?_
  refine g_getS (th + 7) C (isO_s c2) fX2_34 (xtgt_d c2 11) dX2_become_111 ?_
  refine bd_n hf (fun r26 s27 h28 hf => ?_)
  refine g_callSN0 (As := [.ref (g.1 (a1 + 7)), .ref (g.1 (th + 7))]) (rest := []) (stk := []) C (w_xw_copies h28) hX rfl (List.mem_of_getElem? (i := 3) rfl) q711 q88 q712 msX0_copies rfl ⟨Nat.le_of_ble_eq_true rfl, Nat.le_of_ble_eq_true rfl⟩ (Nat.le_of_ble_eq_true rfl) dX2_become_114 rfl ?_
  exact g_vret C E rfl (re_s hf) ⟨Nat.zero_le _, Nat.zero_le _⟩ dX2_become_117
def xd_draw (n : Nat) (s : Sto) (th : Nat) (a1 : Int32) : Option (Int32 × Sto) :=
  gd (isO xCfg th 1) <|
  vl (sI s th 1 (((1664525 : Int32) * (s.1 th 1)) + (1013904223 : Int32))) fun s2 =>
  gd (decide (¬ a1 = 0)) <|
  some ((irem (iushr (s2.1 th 1) (8 : Int32)) a1), s2)
theorem w_xd_draw {l : Launch} {n : Nat} {s sF : Sto} {th : Nat} {a1 : Int32} {rF : Int32} (hf : xd_draw n s th a1 = some (rF, sF)) : Ct xCfg l yX2_draw cX2_draw 2 (some .int) { frames := 1, cells := 0, slots := 0, locals := 12 } (fun g => [.ref (g.1 th), .int a1]) s sF (fun _ => some (.int rF)) := by
  refine Ct_of pn_X2 (fun g => Nat.le_of_ble_eq_true rfl) (fun g A X C E hX => ?_)
  rw [xd_draw] at hf
  show TG xCfg g A 2 X 0 0 s 0 [(0, .ref (g.1 th)), (1, .int a1)] []
  refine g_aload_n C dX2_draw_0 0 rfl ?_
  refine g_ldc C dX2_draw_1 q833 ?_
  refine g_aload_n C dX2_draw_3 0 rfl ?_
  refine gd_n hf (fun c1 hf => ?_)
  refine g_getI C (isO_s c1) fX2_40 dX2_draw_4 ?_
  refine g_imul C dX2_draw_7 ?_
  refine g_ldc C dX2_draw_8 q834 ?_
  refine g_iadd C dX2_draw_10 ?_
  refine vl_n hf (fun s2 hs2 hf => ?_)
  refine g_putI C (isO_s c1) pX2_40 rfl rfl hs2 dX2_draw_11 ?_
  refine g_aload_n C dX2_draw_14 0 rfl ?_
  refine g_getI C (isO_s c1) fX2_40 dX2_draw_15 ?_
  refine g_bipush C dX2_draw_18 kb_8 ?_
  refine g_iushr C dX2_draw_20 ?_
  refine g_iload_n C dX2_draw_21 1 rfl ?_
  refine gd_n hf (fun c3 hf => ?_)
  refine g_irem C dX2_draw_22 c3 ?_
  exact g_iret C E rfl (re_i hf) (re_s hf) ⟨Nat.zero_le _, Nat.zero_le _⟩ dX2_draw_23
def xw_keepsAhead (n : Nat) (s : Sto) : Option (Unit × Sto) :=
  vl (fun (s1 : Sto) =>
    gd (inb (s1.1 0 20) 8) <|
    gd (isO xCfg (rd s1 8 (s1.1 0 20)).toNatClampNeg 1) <|
    bd (xd_become n s1 (rd s1 8 (s1.1 0 20)).toNatClampNeg 27) fun r4 s5 =>
    vl (sI s5 0 20 ((s5.1 0 20) + (1 : Int32))) fun s8 =>
    some ((), s8)) fun j2 =>
  if (s.1 0 20) = (8 : Int32) then
    gd (inb (0 : Int32) 8) <|
    gd (cpOk (1 : Int32) (0 : Int32) ((s.1 0 20) - (1 : Int32)) 8 8) <|
    gd (allO xCfg s 8 1 8) <|
    vl (cpI s 8 (1 : Int32) 8 (0 : Int32) ((s.1 0 20) - (1 : Int32))) fun s11 =>
    vl (sI s11 0 20 ((s11.1 0 20) - (1 : Int32))) fun s14 =>
    gd (inb (s14.1 0 20) 8) <|
    gd (isO xCfg (rd s 8 (0 : Int32)).toNatClampNeg 1) <|
    vl (wr s14 8 (s14.1 0 20) (rd s 8 (0 : Int32))) fun s17 =>
    j2 s17
  else
    j2 s
theorem w_xw_keepsAhead {l : Launch} {n : Nat} {s sF : Sto} {rF : Unit} (hf : xw_keepsAhead n s  = some (rF, sF)) : Ct xCfg l yX0_keepsAhead cX0_keepsAhead 2 none { frames := 4, cells := 0, slots := 0, locals := 82 } (fun g => [.ref (g.1 0)]) s sF (fun _ => none) := by
  refine Ct_of pn_X0 (fun g => Nat.le_of_ble_eq_true rfl) (fun g A X C E hX => ?_)
  rw [xw_keepsAhead] at hf
  show TG xCfg g A 2 X 0 0 s 0 [(0, .ref (g.1 0))] []
  refine g_aload_n C dX0_keepsAhead_0 0 rfl ?_
  refine g_getI C oX0 fX0_331 dX0_keepsAhead_1 ?_
  refine g_aload_n C dX0_keepsAhead_4 0 rfl ?_
  refine g_getS 8 C oX0 fX0_89 rfl dX0_keepsAhead_5 ?_
  refine g_alen7 C rX8 rfl rfl dX0_keepsAhead_8 ?_
  refine vl_n hf (fun j2 hj2 hf => ?_)
  have Hj2 : ∀ (s1 : Sto), j2 s1 = some (rF, sF) → TG xCfg g A 2 X 0 0 s1 58 [(0, .ref (g.1 0))] [] := by
    clear hf; subst hj2
    intro s1 hf
    refine g_aload_n C dX0_keepsAhead_58 0 rfl ?_
    refine g_getS 8 C oX0 fX0_89 rfl dX0_keepsAhead_59 ?_
    refine g_aload_n C dX0_keepsAhead_62 0 rfl ?_
    refine g_getI C oX0 fX0_331 dX0_keepsAhead_63 ?_
    refine gd_n hf (fun c3 hf => ?_)
    refine g_aald7 C rX8 rfl c3 dX0_keepsAhead_66 ?_
    refine g_aload_n C dX0_keepsAhead_67 0 rfl ?_
    refine g_getS 27 C oX0 fX0_82 rfl dX0_keepsAhead_68 ?_
    refine gd_n hf (fun c7 hf => ?_)
    refine bd_n hf (fun r4 s5 h6 hf => ?_)
    refine g_callV0 (As := [.ref (g.1 27)]) (rest := []) (stk := []) C (w_xd_become h6) hX (isO_s c7) rfl rfl q706 q707 q708 q90 q709 mdX2_become rfl ⟨Nat.le_of_ble_eq_true rfl, Nat.le_of_ble_eq_true rfl⟩ (Nat.le_of_ble_eq_true rfl) dX0_keepsAhead_71 rfl ?_
    refine g_aload_n C dX0_keepsAhead_74 0 rfl ?_
    refine g_dup C dX0_keepsAhead_75 rfl ?_
    refine g_getI C oX0 fX0_331 dX0_keepsAhead_76 ?_
    refine g_iconst C dX0_keepsAhead_79 kc_1 ?_
    refine g_iadd C dX0_keepsAhead_80 ?_
    refine vl_n hf (fun s8 hs8 hf => ?_)
    refine g_putI C oX0 pX0_331 rfl rfl hs8 dX0_keepsAhead_81 ?_
    exact g_vret C E rfl (re_s hf) ⟨Nat.zero_le _, Nat.zero_le _⟩ dX0_keepsAhead_84
  clear hj2
  refine g_icmp_ne 58 C dX0_keepsAhead_9 rfl (fun c9 => ?_) (fun c9 => ?_)
  · replace hf := if_t c9 hf
    refine g_aload_n C dX0_keepsAhead_12 0 rfl ?_
    refine g_getS 8 C oX0 fX0_89 rfl dX0_keepsAhead_13 ?_
    refine g_iconst C dX0_keepsAhead_16 kc_0 ?_
    refine gd_n hf (fun c10 hf => ?_)
    refine g_aald7 C rX8 rfl c10 dX0_keepsAhead_17 ?_
    refine g_astore_n (i := 1) (lv' := [(1, .ref (g.1 (rd s 8 (0 : Int32)).toNatClampNeg)), (0, .ref (g.1 0))]) C dX0_keepsAhead_18 rfl rfl (by decide) rfl ?_
    refine g_aload_n C dX0_keepsAhead_19 1 rfl ?_
    refine g_getS 8 C oX0 fX0_89 rfl dX0_keepsAhead_20 ?_
    refine g_iconst C dX0_keepsAhead_23 kc_1 ?_
    refine g_aload_n C dX0_keepsAhead_24 1 rfl ?_
    refine g_getS 8 C oX0 fX0_89 rfl dX0_keepsAhead_25 ?_
    refine g_iconst C dX0_keepsAhead_28 kc_0 ?_
    refine g_aload_n C dX0_keepsAhead_29 1 rfl ?_
    refine g_getI C oX0 fX0_331 dX0_keepsAhead_30 ?_
    refine g_iconst C dX0_keepsAhead_33 kc_1 ?_
    refine g_isub C dX0_keepsAhead_34 ?_
    refine gd_n hf (fun c12 hf => ?_)
    refine gd_n hf (fun c13 hf => ?_)
    refine vl_n hf (fun s11 hs11 hf => ?_)
    refine g_copyO C rX8 rfl rfl c12 c13 q713 (Nat.le_of_ble_eq_true rfl) (Nat.le_of_ble_eq_true rfl) (Nat.le_of_ble_eq_true rfl) hs11 dX0_keepsAhead_35 ?_
    refine g_aload_n C dX0_keepsAhead_38 1 rfl ?_
    refine g_dup C dX0_keepsAhead_39 rfl ?_
    refine g_getI C oX0 fX0_331 dX0_keepsAhead_40 ?_
    refine g_iconst C dX0_keepsAhead_43 kc_1 ?_
    refine g_isub C dX0_keepsAhead_44 ?_
    refine vl_n hf (fun s14 hs14 hf => ?_)
    refine g_putI C oX0 pX0_331 rfl rfl hs14 dX0_keepsAhead_45 ?_
    refine g_aload_n C dX0_keepsAhead_48 1 rfl ?_
    refine g_getS 8 C oX0 fX0_89 rfl dX0_keepsAhead_49 ?_
    refine g_aload_n C dX0_keepsAhead_52 1 rfl ?_
    refine g_getI C oX0 fX0_331 dX0_keepsAhead_53 ?_
    refine g_aload_n C dX0_keepsAhead_56 0 rfl ?_
    refine gd_n hf (fun c15 hf => ?_)
    refine gd_n hf (fun c16 hf => ?_)
    refine vl_n hf (fun s17 hs17 hf => ?_)
    refine g_aast7 C rX8 rfl rfl (isO_s c16) rfl c15 hs17 dX0_keepsAhead_57 ?_
    exact g_sub [1] rfl (Hj2 _ hf)
  · replace hf := if_f c9 hf
    exact g_sub [0] rfl (Hj2 _ hf)
def xw_undo (n : Nat) (s : Sto) : Option (Bool × Sto) :=
  if (s.1 0 20) = 0 then
    some (false, s)
  else
    vl (sI s 0 20 ((s.1 0 20) - (1 : Int32))) fun s2 =>
    gd (inb (s2.1 0 20) 8) <|
    bd (xd_become n s2 27 (rd s2 8 (s2.1 0 20)).toNatClampNeg) fun r4 s5 =>
    some (true, s5)
theorem w_xw_undo {l : Launch} {n : Nat} {s sF : Sto} {rF : Bool} (hf : xw_undo n s  = some (rF, sF)) : Ct xCfg l yX0_undo cX0_undo 1 (some .boolean) { frames := 4, cells := 0, slots := 0, locals := 82 } (fun g => [.ref (g.1 0)]) s sF (fun _ => some (.int (bI rF))) := by
  refine Ct_of pn_X0 (fun g => Nat.le_of_ble_eq_true rfl) (fun g A X C E hX => ?_)
  rw [xw_undo] at hf
  show TG xCfg g A 1 X 0 0 s 0 [(0, .ref (g.1 0))] []
  refine g_aload_n C dX0_undo_0 0 rfl ?_
  refine g_getI C oX0 fX0_331 dX0_undo_1 ?_
  refine g_if_ne 9 C dX0_undo_4 rfl (fun c1 => ?_) (fun c1 => ?_)
  · replace hf := if_t c1 hf
    refine g_iconst C dX0_undo_7 kc_0 ?_
    exact g_iret (v := bI false) C E (bI_nar _) (re_z hf) (re_s hf) ⟨Nat.zero_le _, Nat.zero_le _⟩ dX0_undo_8
  · replace hf := if_f c1 hf
    refine g_aload_n C dX0_undo_9 0 rfl ?_
    refine g_dup C dX0_undo_10 rfl ?_
    refine g_getI C oX0 fX0_331 dX0_undo_11 ?_
    refine g_iconst C dX0_undo_14 kc_1 ?_
    refine g_isub C dX0_undo_15 ?_
    refine vl_n hf (fun s2 hs2 hf => ?_)
    refine g_putI C oX0 pX0_331 rfl rfl hs2 dX0_undo_16 ?_
    refine g_aload_n C dX0_undo_19 0 rfl ?_
    refine g_getS 27 C oX0 fX0_82 rfl dX0_undo_20 ?_
    refine g_aload_n C dX0_undo_23 0 rfl ?_
    refine g_getS 8 C oX0 fX0_89 rfl dX0_undo_24 ?_
    refine g_aload_n C dX0_undo_27 0 rfl ?_
    refine g_getI C oX0 fX0_331 dX0_undo_28 ?_
    refine gd_n hf (fun c3 hf => ?_)
    refine g_aald7 C rX8 rfl c3 dX0_undo_31 ?_
    refine bd_n hf (fun r4 s5 h6 hf => ?_)
    refine g_callV0 (As := [.ref (g.1 (rd s2 8 (s2.1 0 20)).toNatClampNeg)]) (rest := []) (stk := []) C (w_xd_become h6) hX oX27 rfl rfl q706 q707 q708 q90 q709 mdX2_become rfl ⟨Nat.le_of_ble_eq_true rfl, Nat.le_of_ble_eq_true rfl⟩ (Nat.le_of_ble_eq_true rfl) dX0_undo_32 rfl ?_
    refine g_iconst C dX0_undo_35 kc_1 ?_
    exact g_iret (v := bI true) C E (bI_nar _) (re_z hf) (re_s hf) ⟨Nat.zero_le _, Nat.zero_le _⟩ dX0_undo_36
def xw_give (n : Nat) (s : Sto) (a1 : Int32) (a2 : Int32) : Option (Bool × Sto) :=
  bd (xw_isHouse n s a1) fun r1 s2 =>
  if r1 = true then
    bd (xw_isIn n s2 a2 (0 : Int32) (99999 : Int32)) fun r5 s6 =>
    if r5 = true then
      gd (inb a1 9) <|
      if ((rd s6 28 a1) + a2) ≤ (999999 : Int32) then
        vl (wr s6 28 a1 ((rd s6 28 a1) + a2)) fun s11 =>
        bd (xw_forgets n s11) fun r12 s13 =>
        some (true, s13)
      else
        some (false, s6)
    else
      some (false, s6)
  else
    some (false, s2)
theorem w_xw_give {l : Launch} {n : Nat} {s sF : Sto} {a1 : Int32} {a2 : Int32} {rF : Bool} (hf : xw_give n s a1 a2 = some (rF, sF)) : Ct xCfg l yX0_give cX0_give 3 (some .boolean) { frames := 3, cells := 0, slots := 0, locals := 55 } (fun g => [.ref (g.1 0), .int a1, .int a2]) s sF (fun _ => some (.int (bI rF))) := by
  refine Ct_of pn_X0 (fun g => Nat.le_of_ble_eq_true rfl) (fun g A X C E hX => ?_)
  rw [xw_give] at hf
  show TG xCfg g A 3 X 0 0 s 0 [(0, .ref (g.1 0)), (1, .int a1), (2, .int a2)] []
  refine g_aload_n C dX0_give_0 0 rfl ?_
  refine g_iload_n C dX0_give_1 1 rfl ?_
  refine bd_n hf (fun r1 s2 h3 hf => ?_)
  refine g_callV0 (As := [.int a1]) (rest := []) (stk := [.int (bI r1)]) C (w_xw_isHouse h3) hX oX0 rfl rfl q766 q768 qs20 q88 q769 mdX0_isHouse rfl ⟨Nat.le_of_ble_eq_true rfl, Nat.le_of_ble_eq_true rfl⟩ (Nat.le_of_ble_eq_true rfl) dX0_give_2 rfl ?_
  refine g_ifZ_eq 35 C dX0_give_5 rfl (fun c4 => ?_) (fun c4 => ?_)
  · replace hf := if_t c4 hf
    refine g_iload_n C dX0_give_8 2 rfl ?_
    refine g_iconst C dX0_give_9 kc_0 ?_
    refine g_ldc C dX0_give_10 q469 ?_
    refine bd_n hf (fun r5 s6 h7 hf => ?_)
    refine g_callS0 (As := [.int a2, .int (0 : Int32), .int (99999 : Int32)]) (rest := []) (stk := [.int (bI r5)]) C (w_xw_isIn h7) hX rfl q381 q382 q88 q383 msX0_isIn rfl ⟨Nat.le_of_ble_eq_true rfl, Nat.le_of_ble_eq_true rfl⟩ (Nat.le_of_ble_eq_true rfl) dX0_give_12 rfl ?_
    refine g_ifZ_eq 35 C dX0_give_15 rfl (fun c8 => ?_) (fun c8 => ?_)
    · replace hf := if_t c8 hf
      refine g_aload_n C dX0_give_18 0 rfl ?_
      refine g_getS 27 C oX0 fX0_82 rfl dX0_give_19 ?_
      refine g_getS 28 C oX27 fX0_357 rfl dX0_give_22 ?_
      refine g_iload_n C dX0_give_25 1 rfl ?_
      refine gd_n hf (fun c9 hf => ?_)
      refine g_iald C (AO_of 0 9 (by decide) rfl) rfl c9 dX0_give_26 ?_
      refine g_iload_n C dX0_give_27 2 rfl ?_
      refine g_iadd C dX0_give_28 ?_
      refine g_ldcw C dX0_give_29 q770 ?_
      refine g_icmp_le 37 C dX0_give_32 rfl (fun c10 => ?_) (fun c10 => ?_)
      · replace hf := if_t c10 hf
        refine g_aload_n C dX0_give_37 0 rfl ?_
        refine g_getS 27 C oX0 fX0_82 rfl dX0_give_38 ?_
        refine g_getS 28 C oX27 fX0_357 rfl dX0_give_41 ?_
        refine g_iload_n C dX0_give_44 1 rfl ?_
        refine g_dup2 C dX0_give_45 rfl rfl ?_
        refine g_iald C (AO_of 0 9 (by decide) rfl) rfl c9 dX0_give_46 ?_
        refine g_iload_n C dX0_give_47 2 rfl ?_
        refine g_iadd C dX0_give_48 ?_
        refine vl_n hf (fun s11 hs11 hf => ?_)
        refine g_iast C (AO_of 0 9 (by decide) rfl) rfl c9 hs11 dX0_give_49 ?_
        refine g_aload_n C dX0_give_50 0 rfl ?_
        refine bd_n hf (fun r12 s13 h14 hf => ?_)
        refine g_callV0 (As := []) (rest := []) (stk := []) C (w_xw_forgets h14) hX oX0 rfl rfl q758 q760 qs19 q88 q761 mdX0_forgets rfl ⟨Nat.le_of_ble_eq_true rfl, Nat.le_of_ble_eq_true rfl⟩ (Nat.le_of_ble_eq_true rfl) dX0_give_51 rfl ?_
        refine g_iconst C dX0_give_54 kc_1 ?_
        exact g_iret (v := bI true) C E (bI_nar _) (re_z hf) (re_s hf) ⟨Nat.zero_le _, Nat.zero_le _⟩ dX0_give_55
      · replace hf := if_f c10 hf
        refine g_iconst C dX0_give_35 kc_0 ?_
        exact g_iret (v := bI false) C E (bI_nar _) (re_z hf) (re_s hf) ⟨Nat.zero_le _, Nat.zero_le _⟩ dX0_give_36
    · replace hf := if_f c8 hf
      refine g_iconst C dX0_give_35 kc_0 ?_
      exact g_iret (v := bI false) C E (bI_nar _) (re_z hf) (re_s hf) ⟨Nat.zero_le _, Nat.zero_le _⟩ dX0_give_36
  · replace hf := if_f c4 hf
    refine g_iconst C dX0_give_35 kc_0 ?_
    exact g_iret (v := bI false) C E (bI_nar _) (re_z hf) (re_s hf) ⟨Nat.zero_le _, Nat.zero_le _⟩ dX0_give_36
def xw_set (n : Nat) (s : Sto) (a1 : Int32) (a2 : Int32) : Option (Bool × Sto) :=
  bd (xw_isIn n s a1 (0 : Int32) (3 : Int32)) fun r1 s2 =>
  if r1 = true then
    vl (fun (t5 : Bool) =>
      gd (inb a1 4) <|
      bd (xw_isIn n s2 a2 (bI t5) (rd s2 7 a1)) fun r8 s9 =>
      if r8 = true then
        vl (wr s9 6 a1 a2) fun s12 =>
        bd (xw_forgets n s12) fun r13 s14 =>
        some (true, s14)
      else
        some (false, s9)) fun j6 =>
    if a1 = 0 then
      j6 true
    else
      j6 false
  else
    some (false, s2)
theorem w_xw_set {l : Launch} {n : Nat} {s sF : Sto} {a1 : Int32} {a2 : Int32} {rF : Bool} (hf : xw_set n s a1 a2 = some (rF, sF)) : Ct xCfg l yX0_set cX0_set 3 (some .boolean) { frames := 2, cells := 0, slots := 0, locals := 34 } (fun g => [.ref (g.1 0), .int a1, .int a2]) s sF (fun _ => some (.int (bI rF))) := by
  refine Ct_of pn_X0 (fun g => Nat.le_of_ble_eq_true rfl) (fun g A X C E hX => ?_)
  rw [xw_set] at hf
  show TG xCfg g A 3 X 0 0 s 0 [(0, .ref (g.1 0)), (1, .int a1), (2, .int a2)] []
  refine g_iload_n C dX0_set_0 1 rfl ?_
  refine g_iconst C dX0_set_1 kc_0 ?_
  refine g_iconst C dX0_set_2 kc_3 ?_
  refine bd_n hf (fun r1 s2 h3 hf => ?_)
  refine g_callS0 (As := [.int a1, .int (0 : Int32), .int (3 : Int32)]) (rest := []) (stk := [.int (bI r1)]) C (w_xw_isIn h3) hX rfl q381 q382 q88 q383 msX0_isIn rfl ⟨Nat.le_of_ble_eq_true rfl, Nat.le_of_ble_eq_true rfl⟩ (Nat.le_of_ble_eq_true rfl) dX0_set_3 rfl ?_
  refine g_ifZ_eq 31 C dX0_set_6 rfl (fun c4 => ?_) (fun c4 => ?_)
  · replace hf := if_t c4 hf
    refine g_iload_n C dX0_set_9 2 rfl ?_
    refine g_iload_n C dX0_set_10 1 rfl ?_
    refine vl_n hf (fun j6 hj6 hf => ?_)
    have Hj6 : ∀ (t5 : Bool), j6 t5 = some (rF, sF) → TG xCfg g A 3 X 0 0 s2 19 [(0, .ref (g.1 0)), (1, .int a1), (2, .int a2)] [.int (bI t5), .int a2] := by
      clear hf; subst hj6
      intro t5 hf
      refine g_aload_n C dX0_set_19 0 rfl ?_
      refine g_getS 7 C oX0 fX0_76 rfl dX0_set_20 ?_
      refine g_iload_n C dX0_set_23 1 rfl ?_
      refine gd_n hf (fun c7 hf => ?_)
      refine g_iald C aX7 rfl c7 dX0_set_24 ?_
      refine bd_n hf (fun r8 s9 h10 hf => ?_)
      refine g_callS0 (As := [.int a2, .int (bI t5), .int (rd s2 7 a1)]) (rest := []) (stk := [.int (bI r8)]) C (w_xw_isIn h10) hX rfl q381 q382 q88 q383 msX0_isIn rfl ⟨Nat.le_of_ble_eq_true rfl, Nat.le_of_ble_eq_true rfl⟩ (Nat.le_of_ble_eq_true rfl) dX0_set_25 rfl ?_
      refine g_ifZ_ne 33 C dX0_set_28 rfl (fun c11 => ?_) (fun c11 => ?_)
      · replace hf := if_t c11 hf
        refine g_aload_n C dX0_set_33 0 rfl ?_
        refine g_getS 6 C oX0 fX0_72 rfl dX0_set_34 ?_
        refine g_iload_n C dX0_set_37 1 rfl ?_
        refine g_iload_n C dX0_set_38 2 rfl ?_
        refine vl_n hf (fun s12 hs12 hf => ?_)
        refine g_iast C aX6 rfl c7 hs12 dX0_set_39 ?_
        refine g_aload_n C dX0_set_40 0 rfl ?_
        refine bd_n hf (fun r13 s14 h15 hf => ?_)
        refine g_callV0 (As := []) (rest := []) (stk := []) C (w_xw_forgets h15) hX oX0 rfl rfl q758 q760 qs19 q88 q761 mdX0_forgets rfl ⟨Nat.le_of_ble_eq_true rfl, Nat.le_of_ble_eq_true rfl⟩ (Nat.le_of_ble_eq_true rfl) dX0_set_41 rfl ?_
        refine g_iconst C dX0_set_44 kc_1 ?_
        exact g_iret (v := bI true) C E (bI_nar _) (re_z hf) (re_s hf) ⟨Nat.zero_le _, Nat.zero_le _⟩ dX0_set_45
      · replace hf := if_f c11 hf
        refine g_iconst C dX0_set_31 kc_0 ?_
        exact g_iret (v := bI false) C E (bI_nar _) (re_z hf) (re_s hf) ⟨Nat.zero_le _, Nat.zero_le _⟩ dX0_set_32
    clear hj6
    refine g_if_ne 18 C dX0_set_11 rfl (fun c16 => ?_) (fun c16 => ?_)
    · replace hf := if_t c16 hf
      refine g_iconst C dX0_set_14 kc_1 ?_
      refine g_goto 19 C dX0_set_15 rfl ?_
      exact g_sub [0, 1, 2] rfl (Hj6 _ hf)
    · replace hf := if_f c16 hf
      refine g_iconst C dX0_set_18 kc_0 ?_
      exact g_sub [0, 1, 2] rfl (Hj6 _ hf)
  · replace hf := if_f c4 hf
    refine g_iconst C dX0_set_31 kc_0 ?_
    exact g_iret (v := bI false) C E (bI_nar _) (re_z hf) (re_s hf) ⟨Nat.zero_le _, Nat.zero_le _⟩ dX0_set_32
def xw_netOf_L4 (n : Nat) (v2 : Int32) : Nat → Sto → Int32 → Int32 → Option (Int32 × Sto)
  | 0, _, _, _ => none
  | k + 1, s1, v3, v4 =>
    if (s1.1 0 14) ≤ v4 then
      some (v3, s1)
    else
      gd (inb v4 9) <|
      gd (isA xCfg (324 + (v4).toNatClampNeg) 0) <|
      gd (inb v2 (xlen xCfg (324 + (v4).toNatClampNeg))) <|
      gd (inb v2 9) <|
      gd (isA xCfg (324 + (v2).toNatClampNeg) 0) <|
      gd (inb v4 (xlen xCfg (324 + (v2).toNatClampNeg))) <|
      vl (v3 + ((rd s1 (324 + (v4).toNatClampNeg) v2) - (rd s1 (324 + (v2).toNatClampNeg) v4))) fun v12 =>
      xw_netOf_L4 n v2 k s1 v12 (v4 + (1 : Int32))
def xw_netOf (n : Nat) (s : Sto) (a1 : Int32) : Option (Int32 × Sto) :=
  xw_netOf_L4 n a1
      n s (0 : Int32) (0 : Int32)
theorem w_xw_netOf_L4  {l : Launch} {n : Nat} {v2 : Int32} {g : Gam} {A : Nat → Prop} {X : FX} {si sF : Sto} {rF : Int32} (C : CX xCfg g A 4 X cX0_netOf RX0 (some .int) 1 12) (E : EX xCfg g A X si sF (some (.int rF)) 0 0) (hX : X.2.1 = l) : ∀ (k : Nat) (s1 : Sto) (v3 : Int32) (v4 : Int32), xw_netOf_L4 n v2 k s1 v3 v4 = some (rF, sF) → TG xCfg g A 4 X 0 0 s1 4 [(0, .ref (g.1 0)), (1, .int v2), (2, .int v3), (3, .int v4)] [] := by
  intro k
  induction k with
  | zero => intro s1 v3 v4 hf; rw [xw_netOf_L4] at hf; cases hf
  | succ k ih =>
    intro s1 v3 v4 hf
    rw [xw_netOf_L4] at hf
    refine g_iload_n C dX0_netOf_4 3 rfl ?_
    refine g_aload_n C dX0_netOf_5 0 rfl ?_
    refine g_getI C oX0 fX0_325 dX0_netOf_6 ?_
    refine g_icmp_ge 38 C dX0_netOf_9 rfl (fun c5 => ?_) (fun c5 => ?_)
    · replace hf := if_t c5 hf
      refine g_iload_n C dX0_netOf_38 2 rfl ?_
      exact g_iret C E rfl (re_i hf) (re_s hf) ⟨Nat.zero_le _, Nat.zero_le _⟩ dX0_netOf_39
    · replace hf := if_f c5 hf
      refine g_iload_n C dX0_netOf_12 2 rfl ?_
      refine g_aload_n C dX0_netOf_13 0 rfl ?_
      refine g_getS 19 C oX0 fX0_129 rfl dX0_netOf_14 ?_
      refine g_iload_n C dX0_netOf_17 3 rfl ?_
      refine gd_n hf (fun c6 hf => ?_)
      refine g_aald5 C rX19 rfl c6 dX0_netOf_18 ?_
      refine g_iload_n C dX0_netOf_19 1 rfl ?_
      refine gd_n hf (fun c7 hf => ?_)
      refine gd_n hf (fun c8 hf => ?_)
      refine g_iald C (isA_s c7) rfl c8 dX0_netOf_20 ?_
      refine g_aload_n C dX0_netOf_21 0 rfl ?_
      refine g_getS 19 C oX0 fX0_129 rfl dX0_netOf_22 ?_
      refine g_iload_n C dX0_netOf_25 1 rfl ?_
      refine gd_n hf (fun c9 hf => ?_)
      refine g_aald5 C rX19 rfl c9 dX0_netOf_26 ?_
      refine g_iload_n C dX0_netOf_27 3 rfl ?_
      refine gd_n hf (fun c10 hf => ?_)
      refine gd_n hf (fun c11 hf => ?_)
      refine g_iald C (isA_s c10) rfl c11 dX0_netOf_28 ?_
      refine g_isub C dX0_netOf_29 ?_
      refine g_iadd C dX0_netOf_30 ?_
      refine vl_n hf (fun v12 hv12 hf => ?_)
      refine g_istore_n (i := 2) (lv' := [(2, .int v12), (0, .ref (g.1 0)), (1, .int v2), (3, .int v4)]) C dX0_netOf_31 rfl hv12 (by decide) rfl ?_
      refine g_iinc (q := 3) (lv' := [(3, .int (v4 + (1 : Int32))), (2, .int v12), (0, .ref (g.1 0)), (1, .int v2)]) C dX0_netOf_32 rfl kc_1 (by decide) rfl ?_
      refine g_goto 4 C dX0_netOf_35 rfl ?_
      exact g_sub [2, 3, 1, 0] rfl (ih _ _ _ hf)
theorem w_xw_netOf {l : Launch} {n : Nat} {s sF : Sto} {a1 : Int32} {rF : Int32} (hf : xw_netOf n s a1 = some (rF, sF)) : Ct xCfg l yX0_netOf cX0_netOf 4 (some .int) { frames := 1, cells := 0, slots := 0, locals := 12 } (fun g => [.ref (g.1 0), .int a1]) s sF (fun _ => some (.int rF)) := by
  refine Ct_of pn_X0 (fun g => Nat.le_of_ble_eq_true rfl) (fun g A X C E hX => ?_)
  rw [xw_netOf] at hf
  show TG xCfg g A 4 X 0 0 s 0 [(0, .ref (g.1 0)), (1, .int a1)] []
  refine g_iconst C dX0_netOf_0 kc_0 ?_
  refine g_istore_n (i := 2) (lv' := [(2, .int (0 : Int32)), (0, .ref (g.1 0)), (1, .int a1)]) C dX0_netOf_1 rfl rfl (by decide) rfl ?_
  refine g_iconst C dX0_netOf_2 kc_0 ?_
  refine g_istore_n (i := 3) (lv' := [(3, .int (0 : Int32)), (2, .int (0 : Int32)), (0, .ref (g.1 0)), (1, .int a1)]) C dX0_netOf_3 rfl rfl (by decide) rfl ?_
  refine g_sub [2, 3, 1, 0] rfl (w_xw_netOf_L4 C E hX _ _ _ _ hf)
def xw_loafOf (n : Nat) (s : Sto) (a1 : Int32) : Option (Int32 × Sto) :=
  gd (inb a1 9) <|
  nn (rdR s 5 a1) fun q2 =>
  pgI s q2 2 0 fun v4 =>
  some ((mmin v4 (rd s 28 a1)), s)
theorem w_xw_loafOf {l : Launch} {n : Nat} {s sF : Sto} {a1 : Int32} {rF : Int32} (hf : xw_loafOf n s a1 = some (rF, sF)) : Ct xCfg l yX0_loafOf cX0_loafOf 2 (some .int) { frames := 2, cells := 0, slots := 0, locals := 40 } (fun g => [.ref (g.1 0), .int a1]) s sF (fun _ => some (.int rF)) := by
  refine Ct_of pn_X0 (fun g => Nat.le_of_ble_eq_true rfl) (fun g A X C E hX => ?_)
  rw [xw_loafOf] at hf
  show TG xCfg g A 2 X 0 0 s 0 [(0, .ref (g.1 0)), (1, .int a1)] []
  refine g_aload_n C dX0_loafOf_0 0 rfl ?_
  refine g_getS 5 C oX0 fX0_68 rfl dX0_loafOf_1 ?_
  refine g_iload_n C dX0_loafOf_4 1 rfl ?_
  refine gd_n hf (fun c1 hf => ?_)
  refine g_aald3 C rX5 rfl c1 dX0_loafOf_5 ?_
  refine nn_n hf (fun q2 hq3 hf => ?_)
  refine pgI_n hf (fun v4 hv5 hf => ?_)
  refine g_pgetQ C fX0_360 hq3 hv5 dX0_loafOf_6 ?_
  refine g_aload_n C dX0_loafOf_9 0 rfl ?_
  refine g_getS 27 C oX0 fX0_82 rfl dX0_loafOf_10 ?_
  refine g_getS 28 C oX27 fX0_357 rfl dX0_loafOf_13 ?_
  refine g_iload_n C dX0_loafOf_16 1 rfl ?_
  refine g_iald C (AO_of 0 9 (by decide) rfl) rfl c1 dX0_loafOf_17 ?_
  refine g_mmin C q470 (Nat.le_of_ble_eq_true rfl) (Nat.le_of_ble_eq_true rfl) (Nat.le_of_ble_eq_true rfl) ⟨Nat.zero_le _, Nat.zero_le _⟩ dX0_loafOf_18 ?_
  exact g_iret C E rfl (re_i hf) (re_s hf) ⟨Nat.zero_le _, Nat.zero_le _⟩ dX0_loafOf_21
def xw_fires (n : Nat) (s : Sto) (a1 : Int32) : Option (Int32 × Sto) :=
  bd (xw_loafOf n s a1) fun r1 s2 =>
  if r1 = 0 then
    some ((0 : Int32), s2)
  else
    gd (inb a1 9) <|
    nn (rdR s2 5 a1) fun q6 =>
    pgI s2 q6 2 1 fun v8 =>
    vl (fun (t10 : Int32) =>
      gd (inb (0 : Int32) 4) <|
      gd (inb (1 : Int32) 4) <|
      pgI s2 q6 2 2 fun v14 =>
      vl (sI s2 0 24 (mmax (0 : Int32) (((s2.1 0 24) + (t10 * (rd s2 6 (0 : Int32)))) - ((rd s2 6 (1 : Int32)) * v14)))) fun s16 =>
      some (t10, s16)) fun j11 =>
    if (s2.1 0 24) < v8 then
      gd (inb (0 : Int32) 4) <|
      gd (decide (¬ (rd s2 6 (0 : Int32)) = 0)) <|
      j11 ((((v8 - (s2.1 0 24)) + (rd s2 6 (0 : Int32))) - (1 : Int32)) / (rd s2 6 (0 : Int32)))
    else
      j11 (0 : Int32)
theorem w_xw_fires {l : Launch} {n : Nat} {s sF : Sto} {a1 : Int32} {rF : Int32} (hf : xw_fires n s a1 = some (rF, sF)) : Ct xCfg l yX0_fires cX0_fires 4 (some .int) { frames := 3, cells := 0, slots := 0, locals := 61 } (fun g => [.ref (g.1 0), .int a1]) s sF (fun _ => some (.int rF)) := by
  refine Ct_of pn_X0 (fun g => Nat.le_of_ble_eq_true rfl) (fun g A X C E hX => ?_)
  rw [xw_fires] at hf
  show TG xCfg g A 4 X 0 0 s 0 [(0, .ref (g.1 0)), (1, .int a1)] []
  refine g_aload_n C dX0_fires_0 0 rfl ?_
  refine g_iload_n C dX0_fires_1 1 rfl ?_
  refine bd_n hf (fun r1 s2 h3 hf => ?_)
  refine g_callV0 (As := [.int a1]) (rest := []) (stk := [.int r1]) C (w_xw_loafOf h3) hX oX0 rfl rfl q839 q841 qs28 q88 q842 mdX0_loafOf rfl ⟨Nat.le_of_ble_eq_true rfl, Nat.le_of_ble_eq_true rfl⟩ (Nat.le_of_ble_eq_true rfl) dX0_fires_2 rfl ?_
  refine g_if_ne 10 C dX0_fires_5 rfl (fun c4 => ?_) (fun c4 => ?_)
  · replace hf := if_t c4 hf
    refine g_iconst C dX0_fires_8 kc_0 ?_
    exact g_iret C E rfl (re_i hf) (re_s hf) ⟨Nat.zero_le _, Nat.zero_le _⟩ dX0_fires_9
  · replace hf := if_f c4 hf
    refine g_aload_n C dX0_fires_10 0 rfl ?_
    refine g_getS 5 C oX0 fX0_68 rfl dX0_fires_11 ?_
    refine g_iload_n C dX0_fires_14 1 rfl ?_
    refine gd_n hf (fun c5 hf => ?_)
    refine g_aald3 C rX5 rfl c5 dX0_fires_15 ?_
    refine g_storeQ_n (i := 2) (lv' := [(2, va_rf (rdR s2 5 a1)), (0, .ref (g.1 0)), (1, .int a1)]) C dX0_fires_16 rfl (by decide) rfl ?_
    refine g_aload_n C dX0_fires_17 1 rfl ?_
    refine g_getI C oX0 fX0_401 dX0_fires_18 ?_
    refine g_loadQ_n C dX0_fires_21 0 rfl ?_
    refine nn_n hf (fun q6 hq7 hf => ?_)
    refine pgI_n hf (fun v8 hv9 hf => ?_)
    refine g_pgetQ C fX0_362 hq7 hv9 dX0_fires_22 ?_
    refine vl_n hf (fun j11 hj11 hf => ?_)
    have Hj11 : ∀ (t10 : Int32), j11 t10 = some (rF, sF) → TG xCfg g A 4 X 0 0 s2 57 [(0, .ref (g.1 0)), (2, va_rf (rdR s2 5 a1))] [.int t10] := by
      clear hf; subst hj11
      intro t10 hf
      refine g_istore_n (i := 3) (lv' := [(3, .int t10), (0, .ref (g.1 0)), (2, va_rf (rdR s2 5 a1))]) C dX0_fires_57 rfl rfl (by decide) (by simp [va_rf_cat]) ?_
      refine g_aload_n C dX0_fires_58 1 rfl ?_
      refine g_iconst C dX0_fires_59 kc_0 ?_
      refine g_aload_n C dX0_fires_60 1 rfl ?_
      refine g_getI C oX0 fX0_401 dX0_fires_61 ?_
      refine g_iload_n C dX0_fires_64 0 rfl ?_
      refine g_aload_n C dX0_fires_65 1 rfl ?_
      refine g_getS 6 C oX0 fX0_72 rfl dX0_fires_66 ?_
      refine g_iconst C dX0_fires_69 kc_0 ?_
      refine gd_n hf (fun c12 hf => ?_)
      refine g_iald C aX6 rfl c12 dX0_fires_70 ?_
      refine g_imul C dX0_fires_71 ?_
      refine g_iadd C dX0_fires_72 ?_
      refine g_aload_n C dX0_fires_73 1 rfl ?_
      refine g_getS 6 C oX0 fX0_72 rfl dX0_fires_74 ?_
      refine g_iconst C dX0_fires_77 kc_1 ?_
      refine gd_n hf (fun c13 hf => ?_)
      refine g_iald C aX6 rfl c13 dX0_fires_78 ?_
      refine g_loadQ_n C dX0_fires_79 2 rfl ?_
      refine pgI_n hf (fun v14 hv15 hf => ?_)
      refine g_pgetQ C fX0_404 hq7 hv15 dX0_fires_80 ?_
      refine g_imul C dX0_fires_83 ?_
      refine g_isub C dX0_fires_84 ?_
      refine g_mmax C q847 (Nat.le_of_ble_eq_true rfl) (Nat.le_of_ble_eq_true rfl) (Nat.le_of_ble_eq_true rfl) ⟨Nat.zero_le _, Nat.zero_le _⟩ dX0_fires_85 ?_
      refine vl_n hf (fun s16 hs16 hf => ?_)
      refine g_putI C oX0 pX0_401 rfl rfl hs16 dX0_fires_88 ?_
      refine g_iload_n C dX0_fires_91 0 rfl ?_
      exact g_iret C E rfl (re_i hf) (re_s hf) ⟨Nat.zero_le _, Nat.zero_le _⟩ dX0_fires_92
    clear hj11
    refine g_icmp_lt 32 C dX0_fires_25 rfl (fun c17 => ?_) (fun c17 => ?_)
    · replace hf := if_t c17 hf
      refine g_loadQ_n C dX0_fires_32 0 rfl ?_
      refine g_pgetQ C fX0_362 hq7 hv9 dX0_fires_33 ?_
      refine g_aload_n C dX0_fires_36 1 rfl ?_
      refine g_getI C oX0 fX0_401 dX0_fires_37 ?_
      refine g_isub C dX0_fires_40 ?_
      refine g_aload_n C dX0_fires_41 1 rfl ?_
      refine g_getS 6 C oX0 fX0_72 rfl dX0_fires_42 ?_
      refine g_iconst C dX0_fires_45 kc_0 ?_
      refine gd_n hf (fun c18 hf => ?_)
      refine g_iald C aX6 rfl c18 dX0_fires_46 ?_
      refine g_iadd C dX0_fires_47 ?_
      refine g_iconst C dX0_fires_48 kc_1 ?_
      refine g_isub C dX0_fires_49 ?_
      refine g_aload_n C dX0_fires_50 1 rfl ?_
      refine g_getS 6 C oX0 fX0_72 rfl dX0_fires_51 ?_
      refine g_iconst C dX0_fires_54 kc_0 ?_
      refine g_iald C aX6 rfl c18 dX0_fires_55 ?_
      refine gd_n hf (fun c19 hf => ?_)
      refine g_idiv C dX0_fires_56 c19 ?_
      exact g_sub [1, 0] rfl (Hj11 _ hf)
    · replace hf := if_f c17 hf
      refine g_iconst C dX0_fires_28 kc_0 ?_
      refine g_goto 57 C dX0_fires_29 rfl ?_
      exact g_sub [1, 0] rfl (Hj11 _ hf)
def xw_bakes (n : Nat) (s : Sto) (a1 : Int32) (a2 : Bool) : Option (Unit × Sto) :=
  gd (inb a1 9) <|
  vl (rd s 11 a1) fun v2 =>
  bd (xw_loafOf n s v2) fun r3 s4 =>
  gd (inb v2 9) <|
  bd (xw_fires n s4 v2) fun r7 s8 =>
  vl (wr s8 30 v2 ((rd s4 30 v2) + r7)) fun s10 =>
  vl (wr s10 28 v2 ((rd s10 28 v2) - r3)) fun s11 =>
  vl (fun (t12 : Int32) =>
    vl (wr s11 33 v2 t12) fun s14 =>
    if a2 = true then
      vl (sI s14 27 2 ((s14.1 27 2) + r3)) fun s16 =>
      some ((), s16)
    else
      vl (fun (t17 : Int32) =>
        vl (wr s14 29 v2 ((rd s14 29 v2) + (r3 - t17))) fun s19 =>
        if a1 ≤ 0 then
          some ((), s19)
        else
          gd (inb (a1 - (1 : Int32)) 9) <|
          gd (inb (rd s19 11 (a1 - (1 : Int32))) 9) <|
          vl (wr s19 29 (rd s19 11 (a1 - (1 : Int32))) ((rd s19 29 (rd s19 11 (a1 - (1 : Int32)))) + t17)) fun s23 =>
          some ((), s23)) fun j18 =>
      if a1 = 0 then
        j18 (0 : Int32)
      else
        gd (decide (¬ (9 : Int32) = 0)) <|
        j18 (r3 / (9 : Int32))) fun j13 =>
  if r3 = 0 then
    j13 ((rd s11 33 v2) + (1 : Int32))
  else
    j13 (0 : Int32)
theorem w_xw_bakes {l : Launch} {n : Nat} {s sF : Sto} {a1 : Int32} {a2 : Bool} {rF : Unit} (hf : xw_bakes n s a1 a2 = some (rF, sF)) : Ct xCfg l yX0_bakes cX0_bakes 6 none { frames := 4, cells := 0, slots := 0, locals := 84 } (fun g => [.ref (g.1 0), .int a1, .int (bI a2)]) s sF (fun _ => none) := by
  refine Ct_of pn_X0 (fun g => Nat.le_of_ble_eq_true rfl) (fun g A X C E hX => ?_)
  rw [xw_bakes] at hf
  show TG xCfg g A 6 X 0 0 s 0 [(0, .ref (g.1 0)), (1, .int a1), (2, .int (bI a2))] []
  refine g_aload_n C dX0_bakes_0 0 rfl ?_
  refine g_getS 11 C oX0 fX0_99 rfl dX0_bakes_1 ?_
  refine g_iload_n C dX0_bakes_4 1 rfl ?_
  refine gd_n hf (fun c1 hf => ?_)
  refine g_iald C aX11 rfl c1 dX0_bakes_5 ?_
  refine vl_n hf (fun v2 hv2 hf => ?_)
  refine g_istore_n (i := 3) (lv' := [(3, .int v2), (0, .ref (g.1 0)), (1, .int a1), (2, .int (bI a2))]) C dX0_bakes_6 rfl hv2 (by decide) rfl ?_
  refine g_aload_n C dX0_bakes_7 1 rfl ?_
  refine g_iload_n C dX0_bakes_8 0 rfl ?_
  refine bd_n hf (fun r3 s4 h5 hf => ?_)
  refine g_callV0 (As := [.int v2]) (rest := []) (stk := [.int r3]) C (w_xw_loafOf h5) hX oX0 rfl rfl q839 q841 qs28 q88 q842 mdX0_loafOf rfl ⟨Nat.le_of_ble_eq_true rfl, Nat.le_of_ble_eq_true rfl⟩ (Nat.le_of_ble_eq_true rfl) dX0_bakes_9 rfl ?_
  refine g_istore (i := 4) (lv' := [(4, .int r3), (3, .int v2), (0, .ref (g.1 0)), (1, .int a1), (2, .int (bI a2))]) C dX0_bakes_12 rfl (by decide) rfl ?_
  refine g_aload_n C dX0_bakes_14 2 rfl ?_
  refine g_getS 27 C oX0 fX0_82 rfl dX0_bakes_15 ?_
  refine g_getS 30 C oX27 fX0_366 rfl dX0_bakes_18 ?_
  refine g_iload_n C dX0_bakes_21 1 rfl ?_
  refine g_dup2 C dX0_bakes_22 rfl rfl ?_
  refine gd_n hf (fun c6 hf => ?_)
  refine g_iald C (AO_of 0 9 (by decide) rfl) rfl c6 dX0_bakes_23 ?_
  refine g_aload_n C dX0_bakes_24 2 rfl ?_
  refine g_iload_n C dX0_bakes_25 1 rfl ?_
  refine bd_n hf (fun r7 s8 h9 hf => ?_)
  refine g_callV0 (As := [.int v2]) (rest := [.int (rd s4 30 v2), .int v2, .ref (g.1 30)]) (stk := [.int r7, .int (rd s4 30 v2), .int v2, .ref (g.1 30)]) C (w_xw_fires h9) hX oX0 rfl rfl q843 q845 qs29 q88 q846 mdX0_fires rfl ⟨Nat.le_of_ble_eq_true rfl, Nat.le_of_ble_eq_true rfl⟩ (Nat.le_of_ble_eq_true rfl) dX0_bakes_26 rfl ?_
  refine g_iadd C dX0_bakes_29 ?_
  refine vl_n hf (fun s10 hs10 hf => ?_)
  refine g_iast C (AO_of 0 9 (by decide) rfl) rfl c6 hs10 dX0_bakes_30 ?_
  refine g_aload_n C dX0_bakes_31 2 rfl ?_
  refine g_getS 27 C oX0 fX0_82 rfl dX0_bakes_32 ?_
  refine g_getS 28 C oX27 fX0_357 rfl dX0_bakes_35 ?_
  refine g_iload_n C dX0_bakes_38 1 rfl ?_
  refine g_dup2 C dX0_bakes_39 rfl rfl ?_
  refine g_iald C (AO_of 0 9 (by decide) rfl) rfl c6 dX0_bakes_40 ?_
  refine g_iload C dX0_bakes_41 0 rfl ?_
  refine g_isub C dX0_bakes_43 ?_
  refine vl_n hf (fun s11 hs11 hf => ?_)
  refine g_iast C (AO_of 0 9 (by decide) rfl) rfl c6 hs11 dX0_bakes_44 ?_
  refine g_aload_n C dX0_bakes_45 2 rfl ?_
  refine g_getS 27 C oX0 fX0_82 rfl dX0_bakes_46 ?_
  refine g_getS 33 C oX27 fX0_370 rfl dX0_bakes_49 ?_
  refine g_iload_n C dX0_bakes_52 1 rfl ?_
  refine g_iload C dX0_bakes_53 0 rfl ?_
  refine vl_n hf (fun j13 hj13 hf => ?_)
  have Hj13 : ∀ (t12 : Int32), j13 t12 = some (rF, sF) → TG xCfg g A 6 X 0 0 s11 73 [(0, .ref (g.1 0)), (1, .int a1), (2, .int (bI a2)), (3, .int v2), (4, .int r3)] [.int t12, .int v2, .ref (g.1 33)] := by
    clear hf; subst hj13
    intro t12 hf
    refine vl_n hf (fun s14 hs14 hf => ?_)
    refine g_iast C (AO_of 0 9 (by decide) rfl) rfl c6 hs14 dX0_bakes_73 ?_
    refine g_iload_n C dX0_bakes_74 2 rfl ?_
    refine g_ifZ_eq 93 C dX0_bakes_75 rfl (fun c15 => ?_) (fun c15 => ?_)
    · replace hf := if_t c15 hf
      refine g_aload_n C dX0_bakes_78 0 rfl ?_
      refine g_getS 27 C oX0 fX0_82 rfl dX0_bakes_79 ?_
      refine g_dup C dX0_bakes_82 rfl ?_
      refine g_getI C oX27 fX0_413 dX0_bakes_83 ?_
      refine g_iload C dX0_bakes_86 4 rfl ?_
      refine g_iadd C dX0_bakes_88 ?_
      refine vl_n hf (fun s16 hs16 hf => ?_)
      refine g_putI C oX27 pX0_413 rfl rfl hs16 dX0_bakes_89 ?_
      exact g_vret C E rfl (re_s hf) ⟨Nat.zero_le _, Nat.zero_le _⟩ dX0_bakes_92
    · replace hf := if_f c15 hf
      refine g_iload_n C dX0_bakes_93 1 rfl ?_
      refine vl_n hf (fun j18 hj18 hf => ?_)
      have Hj18 : ∀ (t17 : Int32), j18 t17 = some (rF, sF) → TG xCfg g A 6 X 0 0 s14 106 [(0, .ref (g.1 0)), (1, .int a1), (3, .int v2), (4, .int r3)] [.int t17] := by
        clear hf; subst hj18
        intro t17 hf
        refine g_istore (i := 5) (lv' := [(5, .int t17), (0, .ref (g.1 0)), (1, .int a1), (3, .int v2), (4, .int r3)]) C dX0_bakes_106 rfl (by decide) rfl ?_
        refine g_aload_n C dX0_bakes_108 1 rfl ?_
        refine g_getS 27 C oX0 fX0_82 rfl dX0_bakes_109 ?_
        refine g_getS 29 C oX27 fX0_364 rfl dX0_bakes_112 ?_
        refine g_iload_n C dX0_bakes_115 3 rfl ?_
        refine g_dup2 C dX0_bakes_116 rfl rfl ?_
        refine g_iald C (AO_of 0 9 (by decide) rfl) rfl c6 dX0_bakes_117 ?_
        refine g_iload C dX0_bakes_118 4 rfl ?_
        refine g_iload C dX0_bakes_120 0 rfl ?_
        refine g_isub C dX0_bakes_122 ?_
        refine g_iadd C dX0_bakes_123 ?_
        refine vl_n hf (fun s19 hs19 hf => ?_)
        refine g_iast C (AO_of 0 9 (by decide) rfl) rfl c6 hs19 dX0_bakes_124 ?_
        refine g_iload_n C dX0_bakes_125 2 rfl ?_
        refine g_if_le 150 C dX0_bakes_126 rfl (fun c20 => ?_) (fun c20 => ?_)
        · replace hf := if_t c20 hf
          exact g_vret C E rfl (re_s hf) ⟨Nat.zero_le _, Nat.zero_le _⟩ dX0_bakes_150
        · replace hf := if_f c20 hf
          refine g_aload_n C dX0_bakes_129 1 rfl ?_
          refine g_getS 27 C oX0 fX0_82 rfl dX0_bakes_130 ?_
          refine g_getS 29 C oX27 fX0_364 rfl dX0_bakes_133 ?_
          refine g_aload_n C dX0_bakes_136 1 rfl ?_
          refine g_getS 11 C oX0 fX0_99 rfl dX0_bakes_137 ?_
          refine g_iload_n C dX0_bakes_140 2 rfl ?_
          refine g_iconst C dX0_bakes_141 kc_1 ?_
          refine g_isub C dX0_bakes_142 ?_
          refine gd_n hf (fun c21 hf => ?_)
          refine g_iald C aX11 rfl c21 dX0_bakes_143 ?_
          refine g_dup2 C dX0_bakes_144 rfl rfl ?_
          refine gd_n hf (fun c22 hf => ?_)
          refine g_iald C (AO_of 0 9 (by decide) rfl) rfl c22 dX0_bakes_145 ?_
          refine g_iload C dX0_bakes_146 0 rfl ?_
          refine g_iadd C dX0_bakes_148 ?_
          refine vl_n hf (fun s23 hs23 hf => ?_)
          refine g_iast C (AO_of 0 9 (by decide) rfl) rfl c22 hs23 dX0_bakes_149 ?_
          exact g_vret C E rfl (re_s hf) ⟨Nat.zero_le _, Nat.zero_le _⟩ dX0_bakes_150
      clear hj18
      refine g_if_ne 101 C dX0_bakes_94 rfl (fun c24 => ?_) (fun c24 => ?_)
      · replace hf := if_t c24 hf
        refine g_iconst C dX0_bakes_97 kc_0 ?_
        refine g_goto 106 C dX0_bakes_98 rfl ?_
        exact g_sub [0, 1, 3, 4] rfl (Hj18 _ hf)
      · replace hf := if_f c24 hf
        refine g_iload C dX0_bakes_101 4 rfl ?_
        refine g_bipush C dX0_bakes_103 kb_9 ?_
        refine gd_n hf (fun c25 hf => ?_)
        refine g_idiv C dX0_bakes_105 c25 ?_
        exact g_sub [0, 1, 3, 4] rfl (Hj18 _ hf)
  clear hj13
  refine g_if_ne 72 C dX0_bakes_55 rfl (fun c26 => ?_) (fun c26 => ?_)
  · replace hf := if_t c26 hf
    refine g_aload_n C dX0_bakes_58 2 rfl ?_
    refine g_getS 27 C oX0 fX0_82 rfl dX0_bakes_59 ?_
    refine g_getS 33 C oX27 fX0_370 rfl dX0_bakes_62 ?_
    refine g_iload_n C dX0_bakes_65 1 rfl ?_
    refine g_iald C (AO_of 0 9 (by decide) rfl) rfl c6 dX0_bakes_66 ?_
    refine g_iconst C dX0_bakes_67 kc_1 ?_
    refine g_iadd C dX0_bakes_68 ?_
    refine g_goto 73 C dX0_bakes_69 rfl ?_
    exact g_sub [2, 3, 4, 1, 0] rfl (Hj13 _ hf)
  · replace hf := if_f c26 hf
    refine g_iconst C dX0_bakes_72 kc_0 ?_
    exact g_sub [2, 3, 4, 1, 0] rfl (Hj13 _ hf)
def xw_book (n : Nat) (s : Sto) (a1 : Int32) : Option (Int32 × Sto) :=
  if (s.1 27 4) = 0 then
    some ((-1 : Int32), s)
  else
    if a1 = (100 : Int32) then
      some ((s.1 27 3), s)
    else
      bd (xw_isIn n s a1 (0 : Int32) ((s.1 27 4) - (2 : Int32))) fun r3 s4 =>
      if r3 = true then
        gd (inb a1 9) <|
        some ((rd s4 34 a1), s4)
      else
        some ((-1 : Int32), s4)
theorem w_xw_book {l : Launch} {n : Nat} {s sF : Sto} {a1 : Int32} {rF : Int32} (hf : xw_book n s a1 = some (rF, sF)) : Ct xCfg l yX0_book cX0_book 2 (some .int) { frames := 2, cells := 0, slots := 0, locals := 34 } (fun g => [.ref (g.1 0), .int a1]) s sF (fun _ => some (.int rF)) := by
  refine Ct_of pn_X0 (fun g => Nat.le_of_ble_eq_true rfl) (fun g A X C E hX => ?_)
  rw [xw_book] at hf
  show TG xCfg g A 2 X 0 0 s 0 [(0, .ref (g.1 0)), (1, .int a1)] []
  refine g_aload_n C dX0_book_0 0 rfl ?_
  refine g_getS 27 C oX0 fX0_82 rfl dX0_book_1 ?_
  refine g_getI C oX27 fX0_430 dX0_book_4 ?_
  refine g_if_ne 12 C dX0_book_7 rfl (fun c1 => ?_) (fun c1 => ?_)
  · replace hf := if_t c1 hf
    refine g_iconst C dX0_book_10 kc_m1 ?_
    exact g_iret C E rfl (re_i hf) (re_s hf) ⟨Nat.zero_le _, Nat.zero_le _⟩ dX0_book_11
  · replace hf := if_f c1 hf
    refine g_iload_n C dX0_book_12 1 rfl ?_
    refine g_bipush C dX0_book_13 kb_100 ?_
    refine g_icmp_ne 28 C dX0_book_15 rfl (fun c2 => ?_) (fun c2 => ?_)
    · replace hf := if_t c2 hf
      refine g_aload_n C dX0_book_18 0 rfl ?_
      refine g_getS 27 C oX0 fX0_82 rfl dX0_book_19 ?_
      refine g_getI C oX27 fX0_433 dX0_book_22 ?_
      refine g_goto 58 C dX0_book_25 rfl ?_
      exact g_iret C E rfl (re_i hf) (re_s hf) ⟨Nat.zero_le _, Nat.zero_le _⟩ dX0_book_58
    · replace hf := if_f c2 hf
      refine g_iload_n C dX0_book_28 1 rfl ?_
      refine g_iconst C dX0_book_29 kc_0 ?_
      refine g_aload_n C dX0_book_30 0 rfl ?_
      refine g_getS 27 C oX0 fX0_82 rfl dX0_book_31 ?_
      refine g_getI C oX27 fX0_430 dX0_book_34 ?_
      refine g_iconst C dX0_book_37 kc_2 ?_
      refine g_isub C dX0_book_38 ?_
      refine bd_n hf (fun r3 s4 h5 hf => ?_)
      refine g_callS0 (As := [.int a1, .int (0 : Int32), .int ((s.1 27 4) - (2 : Int32))]) (rest := []) (stk := [.int (bI r3)]) C (w_xw_isIn h5) hX rfl q381 q382 q88 q383 msX0_isIn rfl ⟨Nat.le_of_ble_eq_true rfl, Nat.le_of_ble_eq_true rfl⟩ (Nat.le_of_ble_eq_true rfl) dX0_book_39 rfl ?_
      refine g_ifZ_eq 57 C dX0_book_42 rfl (fun c6 => ?_) (fun c6 => ?_)
      · replace hf := if_t c6 hf
        refine g_aload_n C dX0_book_45 0 rfl ?_
        refine g_getS 27 C oX0 fX0_82 rfl dX0_book_46 ?_
        refine g_getS 34 C oX27 fX0_423 rfl dX0_book_49 ?_
        refine g_iload_n C dX0_book_52 1 rfl ?_
        refine gd_n hf (fun c7 hf => ?_)
        refine g_iald C (AO_of 0 9 (by decide) rfl) rfl c7 dX0_book_53 ?_
        refine g_goto 58 C dX0_book_54 rfl ?_
        exact g_iret C E rfl (re_i hf) (re_s hf) ⟨Nat.zero_le _, Nat.zero_le _⟩ dX0_book_58
      · replace hf := if_f c6 hf
        refine g_iconst C dX0_book_57 kc_m1 ?_
        exact g_iret C E rfl (re_i hf) (re_s hf) ⟨Nat.zero_le _, Nat.zero_le _⟩ dX0_book_58
def xw_of (n : Nat) (s : Sto) (a1 : Int32) (a2 : Int32) : Option (Int32 × Sto) :=
  bd (xw_isHouse n s a1) fun r1 s2 =>
  if r1 = true then
    gd (inb a1 9) <|
    if a2 = (0 : Int32) then
      nn (rdR s2 5 a1) fun q16 =>
      pgI s2 q16 2 0 fun v18 =>
      some (v18, s2)
    else
      if a2 = (1 : Int32) then
        nn (rdR s2 5 a1) fun q20 =>
        pgI s2 q20 2 1 fun v22 =>
        some (v22, s2)
      else
        if a2 = (2 : Int32) then
          nn (rdR s2 5 a1) fun q24 =>
          pgI s2 q24 2 2 fun v26 =>
          some (v26, s2)
        else
          if a2 = (3 : Int32) then
            some ((rd s2 28 a1), s2)
          else
            if a2 = (4 : Int32) then
              some ((rd s2 29 a1), s2)
            else
              if a2 = (5 : Int32) then
                some ((rd s2 30 a1), s2)
              else
                if a2 = (6 : Int32) then
                  some ((rd s2 31 a1), s2)
                else
                  if a2 = (7 : Int32) then
                    some ((rd s2 32 a1), s2)
                  else
                    if a2 = (8 : Int32) then
                      some ((rd s2 33 a1), s2)
                    else
                      if a2 = (9 : Int32) then
                        bd (xw_netOf n s2 a1) fun r28 s29 =>
                        some (r28, s29)
                      else
                        nn (rdR s2 5 a1) fun q31 =>
                        pgQ s2 q31 2 3 fun v33 =>
                        nn v33 fun q35 =>
                        pal (paI s2 q35 1) fun n37 f38 =>
                        bd (xw_isIn n s2 a2 (10 : Int32) ((9 : Int32) + (Int32.ofNat n37))) fun r40 s41 =>
                        if r40 = true then
                          pgQ s41 q31 2 3 fun v44 =>
                          nn v44 fun q46 =>
                          pal (paI s41 q46 1) fun n48 f49 =>
                          gd (inb (a2 - (10 : Int32)) n48) <|
                          some ((f49 ((a2 - (10 : Int32))).toNatClampNeg), s41)
                        else
                          some ((-1000000000 : Int32), s41)
  else
    some ((-1000000000 : Int32), s2)
theorem w_xw_of {l : Launch} {n : Nat} {s sF : Sto} {a1 : Int32} {a2 : Int32} {rF : Int32} (hf : xw_of n s a1 a2 = some (rF, sF)) : Ct xCfg l yX0_of cX0_of 4 (some .int) { frames := 3, cells := 0, slots := 0, locals := 55 } (fun g => [.ref (g.1 0), .int a1, .int a2]) s sF (fun _ => some (.int rF)) := by
  refine Ct_of pn_X0 (fun g => Nat.le_of_ble_eq_true rfl) (fun g A X C E hX => ?_)
  rw [xw_of] at hf
  show TG xCfg g A 4 X 0 0 s 0 [(0, .ref (g.1 0)), (1, .int a1), (2, .int a2)] []
  refine g_aload_n C dX0_of_0 0 rfl ?_
  refine g_iload_n C dX0_of_1 1 rfl ?_
  refine bd_n hf (fun r1 s2 h3 hf => ?_)
  refine g_callV0 (As := [.int a1]) (rest := []) (stk := [.int (bI r1)]) C (w_xw_isHouse h3) hX oX0 rfl rfl q766 q768 qs20 q88 q769 mdX0_isHouse rfl ⟨Nat.le_of_ble_eq_true rfl, Nat.le_of_ble_eq_true rfl⟩ (Nat.le_of_ble_eq_true rfl) dX0_of_2 rfl ?_
  refine g_ifZ_ne 12 C dX0_of_5 rfl (fun c4 => ?_) (fun c4 => ?_)
  · replace hf := if_t c4 hf
    refine g_aload_n C dX0_of_12 0 rfl ?_
    refine g_getS 5 C oX0 fX0_68 rfl dX0_of_13 ?_
    refine g_iload_n C dX0_of_16 1 rfl ?_
    refine gd_n hf (fun c5 hf => ?_)
    refine g_aald3 C rX5 rfl c5 dX0_of_17 ?_
    refine g_storeQ_n (i := 3) (lv' := [(3, va_rf (rdR s2 5 a1)), (0, .ref (g.1 0)), (1, .int a1), (2, .int a2)]) C dX0_of_18 rfl (by decide) rfl ?_
    refine g_iload_n C dX0_of_19 3 rfl ?_
    by_cases c6 : a2 = (0 : Int32)
    · replace hf := if_t c6 hf
      refine g_tableIn 0 76 C dX0_of_20 c6 (by decide) (by decide) rfl rfl ?_
      refine g_loadQ_n C dX0_of_76 0 rfl ?_
      refine nn_n hf (fun q16 hq17 hf => ?_)
      refine pgI_n hf (fun v18 hv19 hf => ?_)
      refine g_pgetQ C fX0_360 hq17 hv19 dX0_of_77 ?_
      exact g_iret C E rfl (re_i hf) (re_s hf) ⟨Nat.zero_le _, Nat.zero_le _⟩ dX0_of_80
    replace hf := if_f c6 hf
    by_cases c7 : a2 = (1 : Int32)
    · replace hf := if_t c7 hf
      refine g_tableIn 1 81 C dX0_of_20 c7 (by decide) (by decide) rfl rfl ?_
      refine g_loadQ_n C dX0_of_81 0 rfl ?_
      refine nn_n hf (fun q20 hq21 hf => ?_)
      refine pgI_n hf (fun v22 hv23 hf => ?_)
      refine g_pgetQ C fX0_362 hq21 hv23 dX0_of_82 ?_
      exact g_iret C E rfl (re_i hf) (re_s hf) ⟨Nat.zero_le _, Nat.zero_le _⟩ dX0_of_85
    replace hf := if_f c7 hf
    by_cases c8 : a2 = (2 : Int32)
    · replace hf := if_t c8 hf
      refine g_tableIn 2 86 C dX0_of_20 c8 (by decide) (by decide) rfl rfl ?_
      refine g_loadQ_n C dX0_of_86 0 rfl ?_
      refine nn_n hf (fun q24 hq25 hf => ?_)
      refine pgI_n hf (fun v26 hv27 hf => ?_)
      refine g_pgetQ C fX0_404 hq25 hv27 dX0_of_87 ?_
      exact g_iret C E rfl (re_i hf) (re_s hf) ⟨Nat.zero_le _, Nat.zero_le _⟩ dX0_of_90
    replace hf := if_f c8 hf
    by_cases c9 : a2 = (3 : Int32)
    · replace hf := if_t c9 hf
      refine g_tableIn 3 91 C dX0_of_20 c9 (by decide) (by decide) rfl rfl ?_
      refine g_aload_n C dX0_of_91 1 rfl ?_
      refine g_getS 27 C oX0 fX0_82 rfl dX0_of_92 ?_
      refine g_getS 28 C oX27 fX0_357 rfl dX0_of_95 ?_
      refine g_iload_n C dX0_of_98 2 rfl ?_
      refine g_iald C (AO_of 0 9 (by decide) rfl) rfl c5 dX0_of_99 ?_
      exact g_iret C E rfl (re_i hf) (re_s hf) ⟨Nat.zero_le _, Nat.zero_le _⟩ dX0_of_100
    replace hf := if_f c9 hf
    by_cases c10 : a2 = (4 : Int32)
    · replace hf := if_t c10 hf
      refine g_tableIn 4 101 C dX0_of_20 c10 (by decide) (by decide) rfl rfl ?_
      refine g_aload_n C dX0_of_101 1 rfl ?_
      refine g_getS 27 C oX0 fX0_82 rfl dX0_of_102 ?_
      refine g_getS 29 C oX27 fX0_364 rfl dX0_of_105 ?_
      refine g_iload_n C dX0_of_108 2 rfl ?_
      refine g_iald C (AO_of 0 9 (by decide) rfl) rfl c5 dX0_of_109 ?_
      exact g_iret C E rfl (re_i hf) (re_s hf) ⟨Nat.zero_le _, Nat.zero_le _⟩ dX0_of_110
    replace hf := if_f c10 hf
    by_cases c11 : a2 = (5 : Int32)
    · replace hf := if_t c11 hf
      refine g_tableIn 5 111 C dX0_of_20 c11 (by decide) (by decide) rfl rfl ?_
      refine g_aload_n C dX0_of_111 1 rfl ?_
      refine g_getS 27 C oX0 fX0_82 rfl dX0_of_112 ?_
      refine g_getS 30 C oX27 fX0_366 rfl dX0_of_115 ?_
      refine g_iload_n C dX0_of_118 2 rfl ?_
      refine g_iald C (AO_of 0 9 (by decide) rfl) rfl c5 dX0_of_119 ?_
      exact g_iret C E rfl (re_i hf) (re_s hf) ⟨Nat.zero_le _, Nat.zero_le _⟩ dX0_of_120
    replace hf := if_f c11 hf
    by_cases c12 : a2 = (6 : Int32)
    · replace hf := if_t c12 hf
      refine g_tableIn 6 121 C dX0_of_20 c12 (by decide) (by decide) rfl rfl ?_
      refine g_aload_n C dX0_of_121 1 rfl ?_
      refine g_getS 27 C oX0 fX0_82 rfl dX0_of_122 ?_
      refine g_getS 31 C oX27 fX0_368 rfl dX0_of_125 ?_
      refine g_iload_n C dX0_of_128 2 rfl ?_
      refine g_iald C (AO_of 0 9 (by decide) rfl) rfl c5 dX0_of_129 ?_
      exact g_iret C E rfl (re_i hf) (re_s hf) ⟨Nat.zero_le _, Nat.zero_le _⟩ dX0_of_130
    replace hf := if_f c12 hf
    by_cases c13 : a2 = (7 : Int32)
    · replace hf := if_t c13 hf
      refine g_tableIn 7 131 C dX0_of_20 c13 (by decide) (by decide) rfl rfl ?_
      refine g_aload_n C dX0_of_131 1 rfl ?_
      refine g_getS 27 C oX0 fX0_82 rfl dX0_of_132 ?_
      refine g_getS 32 C oX27 fX0_392 rfl dX0_of_135 ?_
      refine g_iload_n C dX0_of_138 2 rfl ?_
      refine g_iald C (AO_of 0 9 (by decide) rfl) rfl c5 dX0_of_139 ?_
      exact g_iret C E rfl (re_i hf) (re_s hf) ⟨Nat.zero_le _, Nat.zero_le _⟩ dX0_of_140
    replace hf := if_f c13 hf
    by_cases c14 : a2 = (8 : Int32)
    · replace hf := if_t c14 hf
      refine g_tableIn 8 141 C dX0_of_20 c14 (by decide) (by decide) rfl rfl ?_
      refine g_aload_n C dX0_of_141 1 rfl ?_
      refine g_getS 27 C oX0 fX0_82 rfl dX0_of_142 ?_
      refine g_getS 33 C oX27 fX0_370 rfl dX0_of_145 ?_
      refine g_iload_n C dX0_of_148 2 rfl ?_
      refine g_iald C (AO_of 0 9 (by decide) rfl) rfl c5 dX0_of_149 ?_
      exact g_iret C E rfl (re_i hf) (re_s hf) ⟨Nat.zero_le _, Nat.zero_le _⟩ dX0_of_150
    replace hf := if_f c14 hf
    by_cases c15 : a2 = (9 : Int32)
    · replace hf := if_t c15 hf
      refine g_tableIn 9 151 C dX0_of_20 c15 (by decide) (by decide) rfl rfl ?_
      refine g_aload_n C dX0_of_151 1 rfl ?_
      refine g_iload_n C dX0_of_152 2 rfl ?_
      refine bd_n hf (fun r28 s29 h30 hf => ?_)
      refine g_callV0 (As := [.int a1]) (rest := []) (stk := [.int r28]) C (w_xw_netOf h30) hX oX0 rfl rfl q791 q793 qs24 q88 q794 mdX0_netOf rfl ⟨Nat.le_of_ble_eq_true rfl, Nat.le_of_ble_eq_true rfl⟩ (Nat.le_of_ble_eq_true rfl) dX0_of_153 rfl ?_
      exact g_iret C E rfl (re_i hf) (re_s hf) ⟨Nat.zero_le _, Nat.zero_le _⟩ dX0_of_156
    replace hf := if_f c15 hf
    refine g_tableD 157 C dX0_of_20 (sw_d [(0 : Int32), (1 : Int32), (2 : Int32), (3 : Int32), (4 : Int32), (5 : Int32), (6 : Int32), (7 : Int32), (8 : Int32), (9 : Int32)] (List.forall_mem_cons.mpr ⟨c6, (List.forall_mem_cons.mpr ⟨c7, (List.forall_mem_cons.mpr ⟨c8, (List.forall_mem_cons.mpr ⟨c9, (List.forall_mem_cons.mpr ⟨c10, (List.forall_mem_cons.mpr ⟨c11, (List.forall_mem_cons.mpr ⟨c12, (List.forall_mem_cons.mpr ⟨c13, (List.forall_mem_cons.mpr ⟨c14, (List.forall_mem_cons.mpr ⟨c15, (fun _ h => absurd h List.not_mem_nil)⟩)⟩)⟩)⟩)⟩)⟩)⟩)⟩)⟩)⟩) (by decide +kernel) (by decide)) rfl ?_
    refine g_iload_n C dX0_of_157 3 rfl ?_
    refine g_bipush C dX0_of_158 kb_10 ?_
    refine g_bipush C dX0_of_160 kb_9 ?_
    refine g_loadQ_n C dX0_of_162 0 rfl ?_
    refine nn_n hf (fun q31 hq32 hf => ?_)
    refine pgQ_n hf (fun v33 hv34 hf => ?_)
    refine g_pgetQ C fX0_444 hq32 hv34 dX0_of_163 ?_
    refine nn_n hf (fun q35 hq36 hf => ?_)
    refine pal_n hf (fun n37 f38 hp39 hf => ?_)
    refine g_plenBQ C hq36 hp39 rfl dX0_of_166 ?_
    refine g_iadd C dX0_of_167 ?_
    refine bd_n hf (fun r40 s41 h42 hf => ?_)
    refine g_callS0 (As := [.int a2, .int (10 : Int32), .int ((9 : Int32) + (Int32.ofNat n37))]) (rest := []) (stk := [.int (bI r40)]) C (w_xw_isIn h42) hX rfl q381 q382 q88 q383 msX0_isIn rfl ⟨Nat.le_of_ble_eq_true rfl, Nat.le_of_ble_eq_true rfl⟩ (Nat.le_of_ble_eq_true rfl) dX0_of_168 rfl ?_
    refine g_ifZ_eq 186 C dX0_of_171 rfl (fun c43 => ?_) (fun c43 => ?_)
    · replace hf := if_t c43 hf
      refine g_loadQ_n C dX0_of_174 0 rfl ?_
      refine pgQ_n hf (fun v44 hv45 hf => ?_)
      refine g_pgetQ C fX0_444 hq32 hv45 dX0_of_175 ?_
      refine g_iload_n C dX0_of_178 3 rfl ?_
      refine g_bipush C dX0_of_179 kb_10 ?_
      refine g_isub C dX0_of_181 ?_
      refine nn_n hf (fun q46 hq47 hf => ?_)
      refine pal_n hf (fun n48 f49 hp50 hf => ?_)
      refine gd_n hf (fun c51 hf => ?_)
      refine g_pbaldQ C hq47 hp50 rfl c51 dX0_of_182 ?_
      refine g_goto 189 C dX0_of_183 rfl ?_
      exact g_iret C E rfl (re_i hf) (re_s hf) ⟨Nat.zero_le _, Nat.zero_le _⟩ dX0_of_189
    · replace hf := if_f c43 hf
      refine g_ldcw C dX0_of_186 q857 ?_
      exact g_iret C E rfl (re_i hf) (re_s hf) ⟨Nat.zero_le _, Nat.zero_le _⟩ dX0_of_189
  · replace hf := if_f c4 hf
    refine g_ldcw C dX0_of_8 q857 ?_
    exact g_iret C E rfl (re_i hf) (re_s hf) ⟨Nat.zero_le _, Nat.zero_le _⟩ dX0_of_11
def xw_findsPieces_L9 (n : Nat) (v3 : Nat) : Nat → Sto → Int32 → Int32 → Option (Int32 × Sto)
  | 0, _, _, _ => none
  | k + 1, s2, v4, v5 =>
    if (s2.1 0 14) ≤ v5 then
      some (v4, s2)
    else
      gd (isA xCfg v3 0) <|
      gd (inb v5 (xlen xCfg v3)) <|
      bd (xw_fires n s2 (rd s2 v3 v5)) fun r9 s10 =>
      gd (inb v5 9) <|
      vl (wr s10 13 v5 r9) fun s13 =>
      vl (v4 + (rd s13 13 v5)) fun v14 =>
      xw_findsPieces_L9 n v3 k s13 v14 (v5 + (1 : Int32))
def xw_findsPieces (n : Nat) (s : Sto) (a1 : Nat) : Option (Int32 × Sto) :=
  vl (sI s 0 24 (0 : Int32)) fun s1 =>
  xw_findsPieces_L9 n a1
      n s1 (0 : Int32) (0 : Int32)
theorem w_xw_findsPieces_L9  {l : Launch} {n : Nat} {v3 : Nat} {g : Gam} {A : Nat → Prop} {X : FX} {si sF : Sto} {rF : Int32} (C : CX xCfg g A 4 X cX0_findsPieces RX0 (some .int) 4 84) (E : EX xCfg g A X si sF (some (.int rF)) 0 0) (hX : X.2.1 = l) : ∀ (k : Nat) (s2 : Sto) (v4 : Int32) (v5 : Int32), xw_findsPieces_L9 n v3 k s2 v4 v5 = some (rF, sF) → TG xCfg g A 4 X 0 0 s2 9 [(0, .ref (g.1 0)), (1, .ref (g.1 v3)), (2, .int v4), (3, .int v5)] [] := by
  intro k
  induction k with
  | zero => intro s2 v4 v5 hf; rw [xw_findsPieces_L9] at hf; cases hf
  | succ k ih =>
    intro s2 v4 v5 hf
    rw [xw_findsPieces_L9] at hf
    refine g_iload_n C dX0_findsPieces_9 3 rfl ?_
    refine g_aload_n C dX0_findsPieces_10 0 rfl ?_
    refine g_getI C oX0 fX0_325 dX0_findsPieces_11 ?_
    refine g_icmp_ge 45 C dX0_findsPieces_14 rfl (fun c6 => ?_) (fun c6 => ?_)
    · replace hf := if_t c6 hf
      refine g_iload_n C dX0_findsPieces_45 2 rfl ?_
      exact g_iret C E rfl (re_i hf) (re_s hf) ⟨Nat.zero_le _, Nat.zero_le _⟩ dX0_findsPieces_46
    · replace hf := if_f c6 hf
      refine g_aload_n C dX0_findsPieces_17 0 rfl ?_
      refine g_getS 13 C oX0 fX0_105 rfl dX0_findsPieces_18 ?_
      refine g_iload_n C dX0_findsPieces_21 3 rfl ?_
      refine g_aload_n C dX0_findsPieces_22 0 rfl ?_
      refine g_aload_n C dX0_findsPieces_23 1 rfl ?_
      refine g_iload_n C dX0_findsPieces_24 3 rfl ?_
      refine gd_n hf (fun c7 hf => ?_)
      refine gd_n hf (fun c8 hf => ?_)
      refine g_iald C (isA_s c7) rfl c8 dX0_findsPieces_25 ?_
      refine bd_n hf (fun r9 s10 h11 hf => ?_)
      refine g_callV0 (As := [.int (rd s2 v3 v5)]) (rest := [.int v5, .ref (g.1 13)]) (stk := [.int r9, .int v5, .ref (g.1 13)]) C (w_xw_fires h11) hX oX0 rfl rfl q843 q845 qs29 q88 q846 mdX0_fires rfl ⟨Nat.le_of_ble_eq_true rfl, Nat.le_of_ble_eq_true rfl⟩ (Nat.le_of_ble_eq_true rfl) dX0_findsPieces_26 rfl ?_
      refine gd_n hf (fun c12 hf => ?_)
      refine vl_n hf (fun s13 hs13 hf => ?_)
      refine g_iast C aX13 rfl c12 hs13 dX0_findsPieces_29 ?_
      refine g_iload_n C dX0_findsPieces_30 2 rfl ?_
      refine g_aload_n C dX0_findsPieces_31 0 rfl ?_
      refine g_getS 13 C oX0 fX0_105 rfl dX0_findsPieces_32 ?_
      refine g_iload_n C dX0_findsPieces_35 3 rfl ?_
      refine g_iald C aX13 rfl c12 dX0_findsPieces_36 ?_
      refine g_iadd C dX0_findsPieces_37 ?_
      refine vl_n hf (fun v14 hv14 hf => ?_)
      refine g_istore_n (i := 2) (lv' := [(2, .int v14), (0, .ref (g.1 0)), (1, .ref (g.1 v3)), (3, .int v5)]) C dX0_findsPieces_38 rfl hv14 (by decide) rfl ?_
      refine g_iinc (q := 3) (lv' := [(3, .int (v5 + (1 : Int32))), (2, .int v14), (0, .ref (g.1 0)), (1, .ref (g.1 v3))]) C dX0_findsPieces_39 rfl kc_1 (by decide) rfl ?_
      refine g_goto 9 C dX0_findsPieces_42 rfl ?_
      exact g_sub [2, 3, 1, 0] rfl (ih _ _ _ hf)
theorem w_xw_findsPieces {l : Launch} {n : Nat} {s sF : Sto} {a1 : Nat} {rF : Int32} (hf : xw_findsPieces n s a1 = some (rF, sF)) : Ct xCfg l yX0_findsPieces cX0_findsPieces 4 (some .int) { frames := 4, cells := 0, slots := 0, locals := 84 } (fun g => [.ref (g.1 0), .ref (g.1 a1)]) s sF (fun _ => some (.int rF)) := by
  refine Ct_of pn_X0 (fun g => Nat.le_of_ble_eq_true rfl) (fun g A X C E hX => ?_)
  rw [xw_findsPieces] at hf
  show TG xCfg g A 4 X 0 0 s 0 [(0, .ref (g.1 0)), (1, .ref (g.1 a1))] []
  refine g_aload_n C dX0_findsPieces_0 0 rfl ?_
  refine g_iconst C dX0_findsPieces_1 kc_0 ?_
  refine vl_n hf (fun s1 hs1 hf => ?_)
  refine g_putI C oX0 pX0_401 rfl rfl hs1 dX0_findsPieces_2 ?_
  refine g_iconst C dX0_findsPieces_5 kc_0 ?_
  refine g_istore_n (i := 2) (lv' := [(2, .int (0 : Int32)), (0, .ref (g.1 0)), (1, .ref (g.1 a1))]) C dX0_findsPieces_6 rfl rfl (by decide) rfl ?_
  refine g_iconst C dX0_findsPieces_7 kc_0 ?_
  refine g_istore_n (i := 3) (lv' := [(3, .int (0 : Int32)), (2, .int (0 : Int32)), (0, .ref (g.1 0)), (1, .ref (g.1 a1))]) C dX0_findsPieces_8 rfl rfl (by decide) rfl ?_
  refine g_sub [2, 3, 1, 0] rfl (w_xw_findsPieces_L9 C E hX _ _ _ _ hf)
def xw_gainAt (n : Nat) (s : Sto) (a1 : Nat) (a2 : Int32) : Option (Int32 × Sto) :=
  vl (fun (s1 : Sto) (t2 : Int32) =>
    vl (fun (s4 : Sto) (t5 : Int32) =>
      gd (inb (2 : Int32) 4) <|
      gd (inb a2 9) <|
      some (((t5 - t2) - ((rd s4 6 (2 : Int32)) * (rd s4 13 a2))), s4)) fun j6 =>
    if (s1.1 0 14) ≤ (a2 + (1 : Int32)) then
      j6 s1 (0 : Int32)
    else
      gd (isA xCfg a1 0) <|
      gd (inb (a2 + (1 : Int32)) (xlen xCfg a1)) <|
      bd (xw_loafOf n s1 (rd s1 a1 (a2 + (1 : Int32)))) fun r12 s13 =>
      gd (decide (¬ (9 : Int32) = 0)) <|
      j6 s13 (r12 / (9 : Int32))) fun j3 =>
  if a2 = 0 then
    j3 s (0 : Int32)
  else
    gd (isA xCfg a1 0) <|
    gd (inb a2 (xlen xCfg a1)) <|
    bd (xw_loafOf n s (rd s a1 a2)) fun r19 s20 =>
    gd (decide (¬ (9 : Int32) = 0)) <|
    j3 s20 (r19 / (9 : Int32))
theorem w_xw_gainAt {l : Launch} {n : Nat} {s sF : Sto} {a1 : Nat} {a2 : Int32} {rF : Int32} (hf : xw_gainAt n s a1 a2 = some (rF, sF)) : Ct xCfg l yX0_gainAt cX0_gainAt 5 (some .int) { frames := 3, cells := 0, slots := 0, locals := 61 } (fun g => [.ref (g.1 0), .ref (g.1 a1), .int a2]) s sF (fun _ => some (.int rF)) := by
  refine Ct_of pn_X0 (fun g => Nat.le_of_ble_eq_true rfl) (fun g A X C E hX => ?_)
  rw [xw_gainAt] at hf
  show TG xCfg g A 5 X 0 0 s 0 [(0, .ref (g.1 0)), (1, .ref (g.1 a1)), (2, .int a2)] []
  refine g_iload_n C dX0_gainAt_0 2 rfl ?_
  refine vl_n hf (fun j3 hj3 hf => ?_)
  have Hj3 : ∀ (s1 : Sto) (t2 : Int32), j3 s1 t2 = some (rF, sF) → TG xCfg g A 5 X 0 0 s1 18 [(0, .ref (g.1 0)), (1, .ref (g.1 a1)), (2, .int a2)] [.int t2] := by
    clear hf; subst hj3
    intro s1 t2 hf
    refine g_istore_n (i := 3) (lv' := [(3, .int t2), (0, .ref (g.1 0)), (1, .ref (g.1 a1)), (2, .int a2)]) C dX0_gainAt_18 rfl rfl (by decide) rfl ?_
    refine g_iload_n C dX0_gainAt_19 3 rfl ?_
    refine g_iconst C dX0_gainAt_20 kc_1 ?_
    refine g_iadd C dX0_gainAt_21 ?_
    refine g_aload_n C dX0_gainAt_22 1 rfl ?_
    refine g_getI C oX0 fX0_325 dX0_gainAt_23 ?_
    refine vl_n hf (fun j6 hj6 hf => ?_)
    have Hj6 : ∀ (s4 : Sto) (t5 : Int32), j6 s4 t5 = some (rF, sF) → TG xCfg g A 5 X 0 0 s4 45 [(0, .ref (g.1 0)), (2, .int a2), (3, .int t2)] [.int t5] := by
      clear hf; subst hj6
      intro s4 t5 hf
      refine g_istore (i := 4) (lv' := [(4, .int t5), (0, .ref (g.1 0)), (2, .int a2), (3, .int t2)]) C dX0_gainAt_45 rfl (by decide) rfl ?_
      refine g_iload C dX0_gainAt_47 0 rfl ?_
      refine g_iload_n C dX0_gainAt_49 3 rfl ?_
      refine g_isub C dX0_gainAt_50 ?_
      refine g_aload_n C dX0_gainAt_51 1 rfl ?_
      refine g_getS 6 C oX0 fX0_72 rfl dX0_gainAt_52 ?_
      refine g_iconst C dX0_gainAt_55 kc_2 ?_
      refine gd_n hf (fun c7 hf => ?_)
      refine g_iald C aX6 rfl c7 dX0_gainAt_56 ?_
      refine g_aload_n C dX0_gainAt_57 1 rfl ?_
      refine g_getS 13 C oX0 fX0_105 rfl dX0_gainAt_58 ?_
      refine g_iload_n C dX0_gainAt_61 2 rfl ?_
      refine gd_n hf (fun c8 hf => ?_)
      refine g_iald C aX13 rfl c8 dX0_gainAt_62 ?_
      refine g_imul C dX0_gainAt_63 ?_
      refine g_isub C dX0_gainAt_64 ?_
      exact g_iret C E rfl (re_i hf) (re_s hf) ⟨Nat.zero_le _, Nat.zero_le _⟩ dX0_gainAt_65
    clear hj6
    refine g_icmp_ge 44 C dX0_gainAt_26 rfl (fun c9 => ?_) (fun c9 => ?_)
    · replace hf := if_t c9 hf
      refine g_iconst C dX0_gainAt_44 kc_0 ?_
      exact g_sub [1, 3, 0] rfl (Hj6 _ _ hf)
    · replace hf := if_f c9 hf
      refine g_aload_n C dX0_gainAt_29 1 rfl ?_
      refine g_aload_n C dX0_gainAt_30 2 rfl ?_
      refine g_iload_n C dX0_gainAt_31 3 rfl ?_
      refine g_iconst C dX0_gainAt_32 kc_1 ?_
      refine g_iadd C dX0_gainAt_33 ?_
      refine gd_n hf (fun c10 hf => ?_)
      refine gd_n hf (fun c11 hf => ?_)
      refine g_iald C (isA_s c10) rfl c11 dX0_gainAt_34 ?_
      refine bd_n hf (fun r12 s13 h14 hf => ?_)
      refine g_callV0 (As := [.int (rd s1 a1 (a2 + (1 : Int32)))]) (rest := []) (stk := [.int r12]) C (w_xw_loafOf h14) hX oX0 rfl rfl q839 q841 qs28 q88 q842 mdX0_loafOf rfl ⟨Nat.le_of_ble_eq_true rfl, Nat.le_of_ble_eq_true rfl⟩ (Nat.le_of_ble_eq_true rfl) dX0_gainAt_35 rfl ?_
      refine g_bipush C dX0_gainAt_38 kb_9 ?_
      refine gd_n hf (fun c15 hf => ?_)
      refine g_idiv C dX0_gainAt_40 c15 ?_
      refine g_goto 45 C dX0_gainAt_41 rfl ?_
      exact g_sub [1, 3, 0] rfl (Hj6 _ _ hf)
  clear hj3
  refine g_if_ne 8 C dX0_gainAt_1 rfl (fun c16 => ?_) (fun c16 => ?_)
  · replace hf := if_t c16 hf
    refine g_iconst C dX0_gainAt_4 kc_0 ?_
    refine g_goto 18 C dX0_gainAt_5 rfl ?_
    exact g_sub [0, 1, 2] rfl (Hj3 _ _ hf)
  · replace hf := if_f c16 hf
    refine g_aload_n C dX0_gainAt_8 0 rfl ?_
    refine g_aload_n C dX0_gainAt_9 1 rfl ?_
    refine g_iload_n C dX0_gainAt_10 2 rfl ?_
    refine gd_n hf (fun c17 hf => ?_)
    refine gd_n hf (fun c18 hf => ?_)
    refine g_iald C (isA_s c17) rfl c18 dX0_gainAt_11 ?_
    refine bd_n hf (fun r19 s20 h21 hf => ?_)
    refine g_callV0 (As := [.int (rd s a1 a2)]) (rest := []) (stk := [.int r19]) C (w_xw_loafOf h21) hX oX0 rfl rfl q839 q841 qs28 q88 q842 mdX0_loafOf rfl ⟨Nat.le_of_ble_eq_true rfl, Nat.le_of_ble_eq_true rfl⟩ (Nat.le_of_ble_eq_true rfl) dX0_gainAt_12 rfl ?_
    refine g_bipush C dX0_gainAt_15 kb_9 ?_
    refine gd_n hf (fun c22 hf => ?_)
    refine g_idiv C dX0_gainAt_17 c22 ?_
    exact g_sub [0, 1, 2] rfl (Hj3 _ _ hf)
def xw_turns (n : Nat) (s : Sto) (a1 : Nat) (a2 : Int32) : Option (Unit × Sto) :=
  gd (isA xCfg a1 0) <|
  gd (inb a2 (xlen xCfg a1)) <|
  vl (rd s a1 a2) fun v3 =>
  gd (inb (a2 + (1 : Int32)) (xlen xCfg a1)) <|
  vl (wr s a1 a2 (rd s a1 (a2 + (1 : Int32)))) fun s5 =>
  vl (wr s5 a1 (a2 + (1 : Int32)) v3) fun s6 =>
  some ((), s6)
theorem w_xw_turns {l : Launch} {n : Nat} {s sF : Sto} {a1 : Nat} {a2 : Int32} {rF : Unit} (hf : xw_turns n s a1 a2 = some (rF, sF)) : Ct xCfg l yX0_turns cX0_turns 3 none { frames := 1, cells := 0, slots := 0, locals := 12 } (fun g => [.ref (g.1 a1), .int a2]) s sF (fun _ => none) := by
  refine Ct_of pn_X0 (fun g => Nat.le_of_ble_eq_true rfl) (fun g A X C E hX => ?_)
  rw [xw_turns] at hf
  show TG xCfg g A 3 X 0 0 s 0 [(0, .ref (g.1 a1)), (1, .int a2)] []
  refine g_aload_n C dX0_turns_0 0 rfl ?_
  refine g_iload_n C dX0_turns_1 1 rfl ?_
  refine gd_n hf (fun c1 hf => ?_)
  refine gd_n hf (fun c2 hf => ?_)
  refine g_iald C (isA_s c1) rfl c2 dX0_turns_2 ?_
  refine vl_n hf (fun v3 hv3 hf => ?_)
  refine g_istore_n (i := 2) (lv' := [(2, .int v3), (0, .ref (g.1 a1)), (1, .int a2)]) C dX0_turns_3 rfl hv3 (by decide) rfl ?_
  refine g_aload_n C dX0_turns_4 1 rfl ?_
  refine g_iload_n C dX0_turns_5 2 rfl ?_
  refine g_aload_n C dX0_turns_6 1 rfl ?_
  refine g_iload_n C dX0_turns_7 2 rfl ?_
  refine g_iconst C dX0_turns_8 kc_1 ?_
  refine g_iadd C dX0_turns_9 ?_
  refine gd_n hf (fun c4 hf => ?_)
  refine g_iald C (isA_s c1) rfl c4 dX0_turns_10 ?_
  refine vl_n hf (fun s5 hs5 hf => ?_)
  refine g_iast C (isA_s c1) rfl c2 hs5 dX0_turns_11 ?_
  refine g_aload_n C dX0_turns_12 1 rfl ?_
  refine g_iload_n C dX0_turns_13 2 rfl ?_
  refine g_iconst C dX0_turns_14 kc_1 ?_
  refine g_iadd C dX0_turns_15 ?_
  refine g_iload_n C dX0_turns_16 0 rfl ?_
  refine vl_n hf (fun s6 hs6 hf => ?_)
  refine g_iast C (isA_s c1) rfl c4 hs6 dX0_turns_17 ?_
  exact g_vret C E rfl (re_s hf) ⟨Nat.zero_le _, Nat.zero_le _⟩ dX0_turns_18
def xw_wouldChange (n : Nat) (s : Sto) (a1 : Nat) (a2 : Int32) : Option (Bool × Sto) :=
  bd (xw_findsPieces n s a1) fun r1 s2 =>
  bd (xw_gainAt n s2 a1 a2) fun r4 s5 =>
  bd (xw_gainAt n s5 a1 (a2 + (1 : Int32))) fun r7 s8 =>
  bd (xw_turns n s8 a1 a2) fun r10 s11 =>
  bd (xw_findsPieces n s11 a1) fun r13 s14 =>
  bd (xw_gainAt n s14 a1 (a2 + (1 : Int32))) fun r16 s17 =>
  if r16 ≤ r4 then
    bd (xw_turns n s17 a1 a2) fun r20 s21 =>
    some (false, s21)
  else
    bd (xw_gainAt n s17 a1 a2) fun r23 s24 =>
    if r23 ≤ r7 then
      bd (xw_turns n s24 a1 a2) fun r27 s28 =>
      some (false, s28)
    else
      bd (xw_turns n s24 a1 a2) fun r30 s31 =>
      some (true, s31)
theorem w_xw_wouldChange {l : Launch} {n : Nat} {s sF : Sto} {a1 : Nat} {a2 : Int32} {rF : Bool} (hf : xw_wouldChange n s a1 a2 = some (rF, sF)) : Ct xCfg l yX0_wouldChange cX0_wouldChange 6 (some .boolean) { frames := 5, cells := 0, slots := 0, locals := 107 } (fun g => [.ref (g.1 0), .ref (g.1 a1), .int a2]) s sF (fun _ => some (.int (bI rF))) := by
  refine Ct_of pn_X0 (fun g => Nat.le_of_ble_eq_true rfl) (fun g A X C E hX => ?_)
  rw [xw_wouldChange] at hf
  show TG xCfg g A 6 X 0 0 s 0 [(0, .ref (g.1 0)), (1, .ref (g.1 a1)), (2, .int a2)] []
  refine g_aload_n C dX0_wouldChange_0 0 rfl ?_
  refine g_aload_n C dX0_wouldChange_1 1 rfl ?_
  refine bd_n hf (fun r1 s2 h3 hf => ?_)
  refine g_callV0 (As := [.ref (g.1 a1)]) (rest := []) (stk := [.int r1]) C (w_xw_findsPieces h3) hX oX0 rfl rfl q862 q864 qs30 q88 q865 mdX0_findsPieces rfl ⟨Nat.le_of_ble_eq_true rfl, Nat.le_of_ble_eq_true rfl⟩ (Nat.le_of_ble_eq_true rfl) dX0_wouldChange_2 rfl ?_
  refine g_pop C dX0_wouldChange_5 rfl ?_
  refine g_aload_n C dX0_wouldChange_6 0 rfl ?_
  refine g_aload_n C dX0_wouldChange_7 1 rfl ?_
  refine g_iload_n C dX0_wouldChange_8 2 rfl ?_
  refine bd_n hf (fun r4 s5 h6 hf => ?_)
  refine g_callV0 (As := [.ref (g.1 a1), .int a2]) (rest := []) (stk := [.int r4]) C (w_xw_gainAt h6) hX oX0 rfl rfl q866 q868 qs31 q88 q869 mdX0_gainAt rfl ⟨Nat.le_of_ble_eq_true rfl, Nat.le_of_ble_eq_true rfl⟩ (Nat.le_of_ble_eq_true rfl) dX0_wouldChange_9 rfl ?_
  refine g_istore_n (i := 3) (lv' := [(3, .int r4), (0, .ref (g.1 0)), (1, .ref (g.1 a1)), (2, .int a2)]) C dX0_wouldChange_12 rfl rfl (by decide) rfl ?_
  refine g_aload_n C dX0_wouldChange_13 1 rfl ?_
  refine g_aload_n C dX0_wouldChange_14 2 rfl ?_
  refine g_iload_n C dX0_wouldChange_15 3 rfl ?_
  refine g_iconst C dX0_wouldChange_16 kc_1 ?_
  refine g_iadd C dX0_wouldChange_17 ?_
  refine bd_n hf (fun r7 s8 h9 hf => ?_)
  refine g_callV0 (As := [.ref (g.1 a1), .int (a2 + (1 : Int32))]) (rest := []) (stk := [.int r7]) C (w_xw_gainAt h9) hX oX0 rfl rfl q866 q868 qs31 q88 q869 mdX0_gainAt rfl ⟨Nat.le_of_ble_eq_true rfl, Nat.le_of_ble_eq_true rfl⟩ (Nat.le_of_ble_eq_true rfl) dX0_wouldChange_18 rfl ?_
  refine g_istore (i := 4) (lv' := [(4, .int r7), (3, .int r4), (0, .ref (g.1 0)), (1, .ref (g.1 a1)), (2, .int a2)]) C dX0_wouldChange_21 rfl (by decide) rfl ?_
  refine g_aload_n C dX0_wouldChange_23 3 rfl ?_
  refine g_iload_n C dX0_wouldChange_24 4 rfl ?_
  refine bd_n hf (fun r10 s11 h12 hf => ?_)
  refine g_callS0 (As := [.ref (g.1 a1), .int a2]) (rest := []) (stk := []) C (w_xw_turns h12) hX rfl q894 q895 q88 q896 msX0_turns rfl ⟨Nat.le_of_ble_eq_true rfl, Nat.le_of_ble_eq_true rfl⟩ (Nat.le_of_ble_eq_true rfl) dX0_wouldChange_25 rfl ?_
  refine g_aload_n C dX0_wouldChange_28 2 rfl ?_
  refine g_aload_n C dX0_wouldChange_29 3 rfl ?_
  refine bd_n hf (fun r13 s14 h15 hf => ?_)
  refine g_callV0 (As := [.ref (g.1 a1)]) (rest := []) (stk := [.int r13]) C (w_xw_findsPieces h15) hX oX0 rfl rfl q862 q864 qs30 q88 q865 mdX0_findsPieces rfl ⟨Nat.le_of_ble_eq_true rfl, Nat.le_of_ble_eq_true rfl⟩ (Nat.le_of_ble_eq_true rfl) dX0_wouldChange_30 rfl ?_
  refine g_pop C dX0_wouldChange_33 rfl ?_
  refine g_aload_n C dX0_wouldChange_34 2 rfl ?_
  refine g_aload_n C dX0_wouldChange_35 3 rfl ?_
  refine g_iload_n C dX0_wouldChange_36 4 rfl ?_
  refine g_iconst C dX0_wouldChange_37 kc_1 ?_
  refine g_iadd C dX0_wouldChange_38 ?_
  refine bd_n hf (fun r16 s17 h18 hf => ?_)
  refine g_callV0 (As := [.ref (g.1 a1), .int (a2 + (1 : Int32))]) (rest := []) (stk := [.int r16]) C (w_xw_gainAt h18) hX oX0 rfl rfl q866 q868 qs31 q88 q869 mdX0_gainAt rfl ⟨Nat.le_of_ble_eq_true rfl, Nat.le_of_ble_eq_true rfl⟩ (Nat.le_of_ble_eq_true rfl) dX0_wouldChange_39 rfl ?_
  refine g_iload_n C dX0_wouldChange_42 1 rfl ?_
  refine g_icmp_le 61 C dX0_wouldChange_43 rfl (fun c19 => ?_) (fun c19 => ?_)
  · replace hf := if_t c19 hf
    refine g_iconst C dX0_wouldChange_61 kc_0 ?_
    refine g_istore (i := 5) (lv' := [(5, .int (0 : Int32)), (4, .int r7), (3, .int r4), (0, .ref (g.1 0)), (1, .ref (g.1 a1)), (2, .int a2)]) C dX0_wouldChange_62 rfl (by decide) rfl ?_
    refine g_aload_n C dX0_wouldChange_64 4 rfl ?_
    refine g_iload_n C dX0_wouldChange_65 5 rfl ?_
    refine bd_n hf (fun r20 s21 h22 hf => ?_)
    refine g_callS0 (As := [.ref (g.1 a1), .int a2]) (rest := []) (stk := []) C (w_xw_turns h22) hX rfl q894 q895 q88 q896 msX0_turns rfl ⟨Nat.le_of_ble_eq_true rfl, Nat.le_of_ble_eq_true rfl⟩ (Nat.le_of_ble_eq_true rfl) dX0_wouldChange_66 rfl ?_
    refine g_iload C dX0_wouldChange_69 0 rfl ?_
    exact g_iret (v := bI false) C E (bI_nar _) (re_z hf) (re_s hf) ⟨Nat.zero_le _, Nat.zero_le _⟩ dX0_wouldChange_71
  · replace hf := if_f c19 hf
    refine g_aload_n C dX0_wouldChange_46 2 rfl ?_
    refine g_aload_n C dX0_wouldChange_47 3 rfl ?_
    refine g_iload_n C dX0_wouldChange_48 4 rfl ?_
    refine bd_n hf (fun r23 s24 h25 hf => ?_)
    refine g_callV0 (As := [.ref (g.1 a1), .int a2]) (rest := []) (stk := [.int r23]) C (w_xw_gainAt h25) hX oX0 rfl rfl q866 q868 qs31 q88 q869 mdX0_gainAt rfl ⟨Nat.le_of_ble_eq_true rfl, Nat.le_of_ble_eq_true rfl⟩ (Nat.le_of_ble_eq_true rfl) dX0_wouldChange_49 rfl ?_
    refine g_iload C dX0_wouldChange_52 0 rfl ?_
    refine g_icmp_le 61 C dX0_wouldChange_54 rfl (fun c26 => ?_) (fun c26 => ?_)
    · replace hf := if_t c26 hf
      refine g_iconst C dX0_wouldChange_61 kc_0 ?_
      refine g_istore (i := 5) (lv' := [(5, .int (0 : Int32)), (4, .int r7), (3, .int r4), (0, .ref (g.1 0)), (1, .ref (g.1 a1)), (2, .int a2)]) C dX0_wouldChange_62 rfl (by decide) rfl ?_
      refine g_aload_n C dX0_wouldChange_64 4 rfl ?_
      refine g_iload_n C dX0_wouldChange_65 5 rfl ?_
      refine bd_n hf (fun r27 s28 h29 hf => ?_)
      refine g_callS0 (As := [.ref (g.1 a1), .int a2]) (rest := []) (stk := []) C (w_xw_turns h29) hX rfl q894 q895 q88 q896 msX0_turns rfl ⟨Nat.le_of_ble_eq_true rfl, Nat.le_of_ble_eq_true rfl⟩ (Nat.le_of_ble_eq_true rfl) dX0_wouldChange_66 rfl ?_
      refine g_iload C dX0_wouldChange_69 0 rfl ?_
      exact g_iret (v := bI false) C E (bI_nar _) (re_z hf) (re_s hf) ⟨Nat.zero_le _, Nat.zero_le _⟩ dX0_wouldChange_71
    · replace hf := if_f c26 hf
      refine g_iconst C dX0_wouldChange_57 kc_1 ?_
      refine g_goto 62 C dX0_wouldChange_58 rfl ?_
      refine g_istore (i := 5) (lv' := [(5, .int (1 : Int32)), (4, .int r7), (3, .int r4), (0, .ref (g.1 0)), (1, .ref (g.1 a1)), (2, .int a2)]) C dX0_wouldChange_62 rfl (by decide) rfl ?_
      refine g_aload_n C dX0_wouldChange_64 4 rfl ?_
      refine g_iload_n C dX0_wouldChange_65 5 rfl ?_
      refine bd_n hf (fun r30 s31 h32 hf => ?_)
      refine g_callS0 (As := [.ref (g.1 a1), .int a2]) (rest := []) (stk := []) C (w_xw_turns h32) hX rfl q894 q895 q88 q896 msX0_turns rfl ⟨Nat.le_of_ble_eq_true rfl, Nat.le_of_ble_eq_true rfl⟩ (Nat.le_of_ble_eq_true rfl) dX0_wouldChange_66 rfl ?_
      refine g_iload C dX0_wouldChange_69 0 rfl ?_
      exact g_iret (v := bI true) C E (bI_nar _) (re_z hf) (re_s hf) ⟨Nat.zero_le _, Nat.zero_le _⟩ dX0_wouldChange_71
