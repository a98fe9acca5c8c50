/-! THE TWIN's methods: pure functions out of the bytecode, and their walks (printed by gen/twin.py) -/
set_option maxRecDepth 100000
set_option maxHeartbeats 4000000
def tw_isIn (n : Nat) (s : Sto) (a1 : Int32) (a2 : Int32) (a3 : Int32) : Option (Bool × Sto) :=
  if a1 < a2 then
    some (false, s)
  else
    if a3 < a1 then
      some (false, s)
    else
      some (true, s)
theorem w_tw_isIn {l : Launch} {n : Nat} {s sF : Sto} {a1 : Int32} {a2 : Int32} {a3 : Int32} {rF : Bool} (hf : tw_isIn n s a1 a2 a3 = some (rF, sF)) : Ct tCfg l yX3_isIn cX3_isIn 3 (some .boolean) { frames := 1, cells := 0, slots := 0, locals := 12 } (fun g => [.int a1, .int a2, .int a3]) s sF (fun _ => some (.int (bI rF))) := by
  refine Ct_of pn_X3 (fun g => Nat.le_of_ble_eq_true rfl) (fun g A X C E hX => ?_)
  rw [tw_isIn] at hf
  show TG tCfg g A 3 X 0 0 s 0 [(0, .int a1), (1, .int a2), (2, .int a3)] []
  refine g_iload_n C dX3_isIn_0 0 rfl ?_
  refine g_iload_n C dX3_isIn_1 1 rfl ?_
  refine g_icmp_lt 14 C dX3_isIn_2 rfl (fun c1 => ?_) (fun c1 => ?_)
  · replace hf := if_t c1 hf
    refine g_iconst C dX3_isIn_14 kc_0 ?_
    exact g_iret (v := bI false) C E (bI_nar _) (re_z hf) (re_s hf) ⟨Nat.zero_le _, Nat.zero_le _⟩ dX3_isIn_15
  · replace hf := if_f c1 hf
    refine g_iload_n C dX3_isIn_5 0 rfl ?_
    refine g_iload_n C dX3_isIn_6 2 rfl ?_
    refine g_icmp_gt 14 C dX3_isIn_7 rfl (fun c2 => ?_) (fun c2 => ?_)
    · replace hf := if_t c2 hf
      refine g_iconst C dX3_isIn_14 kc_0 ?_
      exact g_iret (v := bI false) C E (bI_nar _) (re_z hf) (re_s hf) ⟨Nat.zero_le _, Nat.zero_le _⟩ dX3_isIn_15
    · replace hf := if_f c2 hf
      refine g_iconst C dX3_isIn_10 kc_1 ?_
      refine g_goto 15 C dX3_isIn_11 rfl ?_
      exact g_iret (v := bI true) C E (bI_nar _) (re_z hf) (re_s hf) ⟨Nat.zero_le _, Nat.zero_le _⟩ dX3_isIn_15
def tw_isHouse (n : Nat) (s : Sto) (a1 : Int32) : Option (Bool × Sto) :=
  gd (inb (4 : Int32) 1480) <|
  bd (tw_isIn n s a1 (0 : Int32) ((rd s 1 (4 : Int32)) - (1 : Int32))) fun r2 s3 =>
  some (r2, s3)
theorem w_tw_isHouse {l : Launch} {n : Nat} {s sF : Sto} {a1 : Int32} {rF : Bool} (hf : tw_isHouse n s a1 = some (rF, sF)) : Ct tCfg l yX3_isHouse cX3_isHouse 2 (some .boolean) { frames := 2, cells := 0, slots := 0, locals := 34 } (fun g => [.ref (g.1 0), .int a1]) s sF (fun _ => some (.int (bI rF))) := by
  refine Ct_of pn_X3 (fun g => Nat.le_of_ble_eq_true rfl) (fun g A X C E hX => ?_)
  rw [tw_isHouse] at hf
  show TG tCfg g A 2 X 0 0 s 0 [(0, .ref (g.1 0)), (1, .int a1)] []
  refine g_iload_n C dX3_isHouse_0 1 rfl ?_
  refine g_iconst C dX3_isHouse_1 kc_0 ?_
  refine g_aload_n C dX3_isHouse_2 0 rfl ?_
  refine g_getS 1 C oT0 fX3_7 rfl dX3_isHouse_3 ?_
  refine g_iconst C dX3_isHouse_6 kc_4 ?_
  refine gd_n hf (fun c1 hf => ?_)
  refine g_iald C aT1 rfl c1 dX3_isHouse_7 ?_
  refine g_iconst C dX3_isHouse_8 kc_1 ?_
  refine g_isub C dX3_isHouse_9 ?_
  refine bd_n hf (fun r2 s3 h4 hf => ?_)
  refine g_callS0 (As := [.int a1, .int (0 : Int32), .int ((rd s 1 (4 : Int32)) - (1 : Int32))]) (rest := []) (stk := [.int (bI r2)]) C (w_tw_isIn h4) hX rfl q1146 q1147 q91 q1148 msX3_isIn rfl ⟨Nat.le_of_ble_eq_true rfl, Nat.le_of_ble_eq_true rfl⟩ (Nat.le_of_ble_eq_true rfl) dX3_isHouse_10 rfl ?_
  exact g_iret (v := bI r2) C E (bI_nar _) (re_z hf) (re_s hf) ⟨Nat.zero_le _, Nat.zero_le _⟩ dX3_isHouse_13
def tw_own (n : Nat) (s : Sto) (a1 : Int32) (a2 : Int32) : Option (Int32 × Sto) :=
  gd (inb (((20 : Int32) + ((16 : Int32) * a1)) + a2) 1480) <|
  some ((rd s 1 (((20 : Int32) + ((16 : Int32) * a1)) + a2)), s)
theorem w_tw_own {l : Launch} {n : Nat} {s sF : Sto} {a1 : Int32} {a2 : Int32} {rF : Int32} (hf : tw_own n s a1 a2 = some (rF, sF)) : Ct tCfg l yX3_own cX3_own 3 (some .int) { frames := 1, cells := 0, slots := 0, locals := 12 } (fun g => [.ref (g.1 0), .int a1, .int a2]) s sF (fun _ => some (.int rF)) := by
  refine Ct_of pn_X3 (fun g => Nat.le_of_ble_eq_true rfl) (fun g A X C E hX => ?_)
  rw [tw_own] at hf
  show TG tCfg g A 3 X 0 0 s 0 [(0, .ref (g.1 0)), (1, .int a1), (2, .int a2)] []
  refine g_aload_n C dX3_own_0 0 rfl ?_
  refine g_getS 1 C oT0 fX3_7 rfl dX3_own_1 ?_
  refine g_bipush C dX3_own_4 kb_20 ?_
  refine g_bipush C dX3_own_6 kb_16 ?_
  refine g_iload_n C dX3_own_8 1 rfl ?_
  refine g_imul C dX3_own_9 ?_
  refine g_iadd C dX3_own_10 ?_
  refine g_iload_n C dX3_own_11 2 rfl ?_
  refine g_iadd C dX3_own_12 ?_
  refine gd_n hf (fun c1 hf => ?_)
  refine g_iald C aT1 rfl c1 dX3_own_13 ?_
  exact g_iret C E rfl (re_i hf) (re_s hf) ⟨Nat.zero_le _, Nat.zero_le _⟩ dX3_own_14
def tw_adds (n : Nat) (s : Sto) (a1 : Int32) (a2 : Int32) (a3 : Int32) : Option (Unit × Sto) :=
  gd (inb (((20 : Int32) + ((16 : Int32) * a1)) + a2) 1480) <|
  vl (wr s 1 (((20 : Int32) + ((16 : Int32) * a1)) + a2) ((rd s 1 (((20 : Int32) + ((16 : Int32) * a1)) + a2)) + a3)) fun s2 =>
  some ((), s2)
theorem w_tw_adds {l : Launch} {n : Nat} {s sF : Sto} {a1 : Int32} {a2 : Int32} {a3 : Int32} {rF : Unit} (hf : tw_adds n s a1 a2 a3 = some (rF, sF)) : Ct tCfg l yX3_adds cX3_adds 4 none { frames := 1, cells := 0, slots := 0, locals := 12 } (fun g => [.ref (g.1 0), .int a1, .int a2, .int a3]) s sF (fun _ => none) := by
  refine Ct_of pn_X3 (fun g => Nat.le_of_ble_eq_true rfl) (fun g A X C E hX => ?_)
  rw [tw_adds] at hf
  show TG tCfg g A 4 X 0 0 s 0 [(0, .ref (g.1 0)), (1, .int a1), (2, .int a2), (3, .int a3)] []
  refine g_aload_n C dX3_adds_0 0 rfl ?_
  refine g_getS 1 C oT0 fX3_7 rfl dX3_adds_1 ?_
  refine g_bipush C dX3_adds_4 kb_20 ?_
  refine g_bipush C dX3_adds_6 kb_16 ?_
  refine g_iload_n C dX3_adds_8 1 rfl ?_
  refine g_imul C dX3_adds_9 ?_
  refine g_iadd C dX3_adds_10 ?_
  refine g_iload_n C dX3_adds_11 2 rfl ?_
  refine g_iadd C dX3_adds_12 ?_
  refine g_dup2 C dX3_adds_13 rfl rfl ?_
  refine gd_n hf (fun c1 hf => ?_)
  refine g_iald C aT1 rfl c1 dX3_adds_14 ?_
  refine g_iload_n C dX3_adds_15 3 rfl ?_
  refine g_iadd C dX3_adds_16 ?_
  refine vl_n hf (fun s2 hs2 hf => ?_)
  refine g_iast C aT1 rfl c1 hs2 dX3_adds_17 ?_
  exact g_vret C E rfl (re_s hf) ⟨Nat.zero_le _, Nat.zero_le _⟩ dX3_adds_18
def tw_forgets (n : Nat) (s : Sto) : Option (Unit × Sto) :=
  vl (sI s 0 3 (0 : Int32)) fun s1 =>
  some ((), s1)
theorem w_tw_forgets {l : Launch} {n : Nat} {s sF : Sto} {rF : Unit} (hf : tw_forgets n s  = some (rF, sF)) : Ct tCfg l yX3_forgets cX3_forgets 1 none { frames := 1, cells := 0, slots := 0, locals := 12 } (fun g => [.ref (g.1 0)]) s sF (fun _ => none) := by
  refine Ct_of pn_X3 (fun g => Nat.le_of_ble_eq_true rfl) (fun g A X C E hX => ?_)
  rw [tw_forgets] at hf
  show TG tCfg g A 1 X 0 0 s 0 [(0, .ref (g.1 0))] []
  refine g_aload_n C dX3_forgets_0 0 rfl ?_
  refine g_iconst C dX3_forgets_1 kc_0 ?_
  refine vl_n hf (fun s1 hs1 hf => ?_)
  refine g_putI C oT0 pX3_70 rfl rfl hs1 dX3_forgets_2 ?_
  exact g_vret C E rfl (re_s hf) ⟨Nat.zero_le _, Nat.zero_le _⟩ dX3_forgets_5
def tw_state (n : Nat) (s : Sto) (a1 : Int32) : Option (Int32 × Sto) :=
  gd (inb (6 : Int32) 1480) <|
  vl (rd s 1 (6 : Int32)) fun v2 =>
  vl (wr s 1 (6 : Int32) a1) fun s3 =>
  some (v2, s3)
theorem w_tw_state {l : Launch} {n : Nat} {s sF : Sto} {a1 : Int32} {rF : Int32} (hf : tw_state n s a1 = some (rF, sF)) : Ct tCfg l yX3_state cX3_state 3 (some .int) { frames := 1, cells := 0, slots := 0, locals := 12 } (fun g => [.ref (g.1 0), .int a1]) s sF (fun _ => some (.int rF)) := by
  refine Ct_of pn_X3 (fun g => Nat.le_of_ble_eq_true rfl) (fun g A X C E hX => ?_)
  rw [tw_state] at hf
  show TG tCfg g A 3 X 0 0 s 0 [(0, .ref (g.1 0)), (1, .int a1)] []
  refine g_aload_n C dX3_state_0 0 rfl ?_
  refine g_getS 1 C oT0 fX3_7 rfl dX3_state_1 ?_
  refine g_bipush C dX3_state_4 kb_6 ?_
  refine gd_n hf (fun c1 hf => ?_)
  refine g_iald C aT1 rfl c1 dX3_state_6 ?_
  refine vl_n hf (fun v2 hv2 hf => ?_)
  refine g_istore_n (i := 2) (lv' := [(2, .int v2), (0, .ref (g.1 0)), (1, .int a1)]) C dX3_state_7 rfl hv2 (by decide) rfl ?_
  refine g_aload_n C dX3_state_8 1 rfl ?_
  refine g_getS 1 C oT0 fX3_7 rfl dX3_state_9 ?_
  refine g_bipush C dX3_state_12 kb_6 ?_
  refine g_iload_n C dX3_state_14 2 rfl ?_
  refine vl_n hf (fun s3 hs3 hf => ?_)
  refine g_iast C aT1 rfl c1 hs3 dX3_state_15 ?_
  refine g_iload_n C dX3_state_16 0 rfl ?_
  exact g_iret C E rfl (re_i hf) (re_s hf) ⟨Nat.zero_le _, Nat.zero_le _⟩ dX3_state_17
def tw_draw (n : Nat) (s : Sto) (a1 : Int32) : Option (Int32 × Sto) :=
  gd (inb (6 : Int32) 1480) <|
  vl (wr s 1 (6 : Int32) (((1664525 : Int32) * (rd s 1 (6 : Int32))) + (1013904223 : Int32))) fun s2 =>
  gd (decide (¬ a1 = 0)) <|
  some ((irem (iushr (rd s2 1 (6 : Int32)) (8 : Int32)) a1), s2)
theorem w_tw_draw {l : Launch} {n : Nat} {s sF : Sto} {a1 : Int32} {rF : Int32} (hf : tw_draw n s a1 = some (rF, sF)) : Ct tCfg l yX3_draw cX3_draw 2 (some .int) { frames := 1, cells := 0, slots := 0, locals := 12 } (fun g => [.ref (g.1 0), .int a1]) s sF (fun _ => some (.int rF)) := by
  refine Ct_of pn_X3 (fun g => Nat.le_of_ble_eq_true rfl) (fun g A X C E hX => ?_)
  rw [tw_draw] at hf
  show TG tCfg g A 2 X 0 0 s 0 [(0, .ref (g.1 0)), (1, .int a1)] []
  refine g_aload_n C dX3_draw_0 0 rfl ?_
  refine g_getS 1 C oT0 fX3_7 rfl dX3_draw_1 ?_
  refine g_bipush C dX3_draw_4 kb_6 ?_
  refine g_ldc C dX3_draw_6 q1317 ?_
  refine g_aload_n C dX3_draw_8 0 rfl ?_
  refine g_getS 1 C oT0 fX3_7 rfl dX3_draw_9 ?_
  refine g_bipush C dX3_draw_12 kb_6 ?_
  refine gd_n hf (fun c1 hf => ?_)
  refine g_iald C aT1 rfl c1 dX3_draw_14 ?_
  refine g_imul C dX3_draw_15 ?_
  refine g_ldc C dX3_draw_16 q1318 ?_
  refine g_iadd C dX3_draw_18 ?_
  refine vl_n hf (fun s2 hs2 hf => ?_)
  refine g_iast C aT1 rfl c1 hs2 dX3_draw_19 ?_
  refine g_aload_n C dX3_draw_20 0 rfl ?_
  refine g_getS 1 C oT0 fX3_7 rfl dX3_draw_21 ?_
  refine g_bipush C dX3_draw_24 kb_6 ?_
  refine g_iald C aT1 rfl c1 dX3_draw_26 ?_
  refine g_bipush C dX3_draw_27 kb_8 ?_
  refine g_iushr C dX3_draw_29 ?_
  refine g_iload_n C dX3_draw_30 1 rfl ?_
  refine gd_n hf (fun c3 hf => ?_)
  refine g_irem C dX3_draw_31 c3 ?_
  exact g_iret C E rfl (re_i hf) (re_s hf) ⟨Nat.zero_le _, Nat.zero_le _⟩ dX3_draw_32
def tw_feed_L18 (n : Nat) (v3 : Int32) (v4 : Int32) (v5 : Int32) (v6 : Int32) (v7 : Int32) : Nat → Sto → Int32 → Option (Int32 × Sto)
  | 0, _, _ => none
  | k + 1, s2, v8 =>
    if (20 : Int32) ≤ v8 then
      some ((s2.1 0 12), s2)
    else
      vl (fun (t10 : Int32) =>
        gd (decide (¬ (4 : Int32) = 0)) <|
        gd (inb (s2.1 0 12) 400) <|
        vl (wr s2 6 (s2.1 0 12) ((ishr t10 ((24 : Int32) - ((8 : Int32) * (irem v8 (4 : Int32))))) &&& (255 : Int32))) fun s14 =>
        vl (sI s14 0 12 ((s14.1 0 12) + (1 : Int32))) fun s15 =>
        tw_feed_L18 n v3 v4 v5 v6 v7 k s15 (v8 + (1 : Int32))) fun j11 =>
      if (4 : Int32) ≤ v8 then
        if (8 : Int32) ≤ v8 then
          if (12 : Int32) ≤ v8 then
            if (16 : Int32) ≤ v8 then
              j11 v7
            else
              j11 v6
          else
            j11 v5
        else
          j11 v4
      else
        j11 v3
def tw_feed (n : Nat) (s : Sto) (a1 : Int32) (a2 : Int32) (a3 : Int32) (a4 : Int32) (a5 : Int32) : Option (Int32 × Sto) :=
  if ((s.1 0 12) + (20 : Int32)) ≤ (400 : Int32) then
    tw_feed_L18 n a1 a2 a3 a4 a5
        n s (0 : Int32)
  else
    some ((-1 : Int32), s)
theorem w_tw_feed_L18  {l : Launch} {n : Nat} {v3 : Int32} {v4 : Int32} {v5 : Int32} {v6 : Int32} {v7 : Int32} {g : Gam} {A : Nat → Prop} {X : FX} {si sF : Sto} {rF : Int32} (C : CX tCfg g A 8 X cX3_feed RX3 (some .int) 1 12) (E : EX tCfg g A X si sF (some (.int rF)) 0 0) (hX : X.2.1 = l) : ∀ (k : Nat) (s2 : Sto) (v8 : Int32), tw_feed_L18 n v3 v4 v5 v6 v7 k s2 v8 = some (rF, sF) → TG tCfg g A 8 X 0 0 s2 18 [(0, .ref (g.1 0)), (1, .int v3), (2, .int v4), (3, .int v5), (4, .int v6), (5, .int v7), (6, .int v8)] [] := by
  intro k
  induction k with
  | zero => intro s2 v8 hf; rw [tw_feed_L18] at hf; cases hf
  | succ k ih =>
    intro s2 v8 hf
    rw [tw_feed_L18] at hf
    refine g_iload C dX3_feed_18 6 rfl ?_
    refine g_bipush C dX3_feed_20 kb_20 ?_
    refine g_icmp_ge 115 C dX3_feed_22 rfl (fun c9 => ?_) (fun c9 => ?_)
    · replace hf := if_t c9 hf
      refine g_aload_n C dX3_feed_115 0 rfl ?_
      refine g_getI C oT0 fX3_75 dX3_feed_116 ?_
      exact g_iret C E rfl (re_i hf) (re_s hf) ⟨Nat.zero_le _, Nat.zero_le _⟩ dX3_feed_119
    · replace hf := if_f c9 hf
      refine g_iload C dX3_feed_25 6 rfl ?_
      refine g_iconst C dX3_feed_27 kc_4 ?_
      refine vl_n hf (fun j11 hj11 hf => ?_)
      have Hj11 : ∀ (t10 : Int32), j11 t10 = some (rF, sF) → TG tCfg g A 8 X 0 0 s2 71 [(0, .ref (g.1 0)), (1, .int v3), (2, .int v4), (3, .int v5), (4, .int v6), (5, .int v7), (6, .int v8)] [.int t10] := by
        clear hf; subst hj11
        intro t10 hf
        refine g_istore (i := 7) (lv' := [(7, .int t10), (0, .ref (g.1 0)), (1, .int v3), (2, .int v4), (3, .int v5), (4, .int v6), (5, .int v7), (6, .int v8)]) C dX3_feed_71 rfl (by decide) rfl ?_
        refine g_aload_n C dX3_feed_73 1 rfl ?_
        refine g_getS 6 C oT0 fX3_25 rfl dX3_feed_74 ?_
        refine g_aload_n C dX3_feed_77 1 rfl ?_
        refine g_getI C oT0 fX3_75 dX3_feed_78 ?_
        refine g_iload C dX3_feed_81 0 rfl ?_
        refine g_bipush C dX3_feed_83 kb_24 ?_
        refine g_bipush C dX3_feed_85 kb_8 ?_
        refine g_iload C dX3_feed_87 7 rfl ?_
        refine g_iconst C dX3_feed_89 kc_4 ?_
        refine gd_n hf (fun c12 hf => ?_)
        refine g_irem C dX3_feed_90 c12 ?_
        refine g_imul C dX3_feed_91 ?_
        refine g_isub C dX3_feed_92 ?_
        refine g_ishr C dX3_feed_93 ?_
        refine g_sipush C dX3_feed_94 ks_255 ?_
        refine g_iand C dX3_feed_97 ?_
        refine gd_n hf (fun c13 hf => ?_)
        refine vl_n hf (fun s14 hs14 hf => ?_)
        refine g_iast C aT6 rfl c13 hs14 dX3_feed_98 ?_
        refine g_aload_n C dX3_feed_99 1 rfl ?_
        refine g_dup C dX3_feed_100 rfl ?_
        refine g_getI C oT0 fX3_75 dX3_feed_101 ?_
        refine g_iconst C dX3_feed_104 kc_1 ?_
        refine g_iadd C dX3_feed_105 ?_
        refine vl_n hf (fun s15 hs15 hf => ?_)
        refine g_putI C oT0 pX3_75 rfl rfl hs15 dX3_feed_106 ?_
        refine g_iinc (q := 7) (lv' := [(6, .int (v8 + (1 : Int32))), (7, .int t10), (0, .ref (g.1 0)), (1, .int v3), (2, .int v4), (3, .int v5), (4, .int v6), (5, .int v7)]) C dX3_feed_109 rfl kc_1 (by decide) rfl ?_
        refine g_goto 18 C dX3_feed_112 rfl ?_
        exact g_sub [2, 3, 4, 5, 6, 7, 0] rfl (ih _ _ hf)
      clear hj11
      refine g_icmp_ge 35 C dX3_feed_28 rfl (fun c16 => ?_) (fun c16 => ?_)
      · replace hf := if_t c16 hf
        refine g_iload C dX3_feed_35 6 rfl ?_
        refine g_bipush C dX3_feed_37 kb_8 ?_
        refine g_icmp_ge 46 C dX3_feed_39 rfl (fun c17 => ?_) (fun c17 => ?_)
        · replace hf := if_t c17 hf
          refine g_iload C dX3_feed_46 6 rfl ?_
          refine g_bipush C dX3_feed_48 kb_12 ?_
          refine g_icmp_ge 57 C dX3_feed_50 rfl (fun c18 => ?_) (fun c18 => ?_)
          · replace hf := if_t c18 hf
            refine g_iload C dX3_feed_57 6 rfl ?_
            refine g_bipush C dX3_feed_59 kb_16 ?_
            refine g_icmp_ge 69 C dX3_feed_61 rfl (fun c19 => ?_) (fun c19 => ?_)
            · replace hf := if_t c19 hf
              refine g_iload C dX3_feed_69 5 rfl ?_
              exact g_sub [0, 1, 2, 3, 4, 5, 6] rfl (Hj11 _ hf)
            · replace hf := if_f c19 hf
              refine g_iload C dX3_feed_64 4 rfl ?_
              refine g_goto 71 C dX3_feed_66 rfl ?_
              exact g_sub [0, 1, 2, 3, 4, 5, 6] rfl (Hj11 _ hf)
          · replace hf := if_f c18 hf
            refine g_iload_n C dX3_feed_53 3 rfl ?_
            refine g_goto 71 C dX3_feed_54 rfl ?_
            exact g_sub [0, 1, 2, 3, 4, 5, 6] rfl (Hj11 _ hf)
        · replace hf := if_f c17 hf
          refine g_iload_n C dX3_feed_42 2 rfl ?_
          refine g_goto 71 C dX3_feed_43 rfl ?_
          exact g_sub [0, 1, 2, 3, 4, 5, 6] rfl (Hj11 _ hf)
      · replace hf := if_f c16 hf
        refine g_iload_n C dX3_feed_31 1 rfl ?_
        refine g_goto 71 C dX3_feed_32 rfl ?_
        exact g_sub [0, 1, 2, 3, 4, 5, 6] rfl (Hj11 _ hf)
theorem w_tw_feed {l : Launch} {n : Nat} {s sF : Sto} {a1 : Int32} {a2 : Int32} {a3 : Int32} {a4 : Int32} {a5 : Int32} {rF : Int32} (hf : tw_feed n s a1 a2 a3 a4 a5 = some (rF, sF)) : Ct tCfg l yX3_feed cX3_feed 8 (some .int) { frames := 1, cells := 0, slots := 0, locals := 12 } (fun g => [.ref (g.1 0), .int a1, .int a2, .int a3, .int a4, .int a5]) s sF (fun _ => some (.int rF)) := by
  refine Ct_of pn_X3 (fun g => Nat.le_of_ble_eq_true rfl) (fun g A X C E hX => ?_)
  rw [tw_feed] at hf
  show TG tCfg g A 8 X 0 0 s 0 [(0, .ref (g.1 0)), (1, .int a1), (2, .int a2), (3, .int a3), (4, .int a4), (5, .int a5)] []
  refine g_aload_n C dX3_feed_0 0 rfl ?_
  refine g_getI C oT0 fX3_75 dX3_feed_1 ?_
  refine g_bipush C dX3_feed_4 kb_20 ?_
  refine g_iadd C dX3_feed_6 ?_
  refine g_sipush C dX3_feed_7 ks_400 ?_
  refine g_icmp_le 15 C dX3_feed_10 rfl (fun c1 => ?_) (fun c1 => ?_)
  · replace hf := if_t c1 hf
    refine g_iconst C dX3_feed_15 kc_0 ?_
    refine g_istore (i := 6) (lv' := [(6, .int (0 : Int32)), (0, .ref (g.1 0)), (1, .int a1), (2, .int a2), (3, .int a3), (4, .int a4), (5, .int a5)]) C dX3_feed_16 rfl (by decide) rfl ?_
    refine g_sub [1, 2, 3, 4, 5, 6, 0] rfl (w_tw_feed_L18 C E hX _ _ _ hf)
  · replace hf := if_f c1 hf
    refine g_iconst C dX3_feed_13 kc_m1 ?_
    exact g_iret C E rfl (re_i hf) (re_s hf) ⟨Nat.zero_le _, Nat.zero_le _⟩ dX3_feed_14
def tw_end (n : Nat) (s : Sto) (a1 : Int32) : Option (Bool × Sto) :=
  bd (tw_isIn n s a1 (0 : Int32) (s.1 0 12)) fun r1 s2 =>
  if r1 = true then
    vl (sI s2 0 12 a1) fun s5 =>
    some (true, s5)
  else
    some (false, s2)
theorem w_tw_end {l : Launch} {n : Nat} {s sF : Sto} {a1 : Int32} {rF : Bool} (hf : tw_end n s a1 = some (rF, sF)) : Ct tCfg l yX3_end cX3_end 2 (some .boolean) { frames := 2, cells := 0, slots := 0, locals := 34 } (fun g => [.ref (g.1 0), .int a1]) s sF (fun _ => some (.int (bI rF))) := by
  refine Ct_of pn_X3 (fun g => Nat.le_of_ble_eq_true rfl) (fun g A X C E hX => ?_)
  rw [tw_end] at hf
  show TG tCfg g A 2 X 0 0 s 0 [(0, .ref (g.1 0)), (1, .int a1)] []
  refine g_iload_n C dX3_end_0 1 rfl ?_
  refine g_iconst C dX3_end_1 kc_0 ?_
  refine g_aload_n C dX3_end_2 0 rfl ?_
  refine g_getI C oT0 fX3_75 dX3_end_3 ?_
  refine bd_n hf (fun r1 s2 h3 hf => ?_)
  refine g_callS0 (As := [.int a1, .int (0 : Int32), .int (s.1 0 12)]) (rest := []) (stk := [.int (bI r1)]) C (w_tw_isIn h3) hX rfl q1146 q1147 q91 q1148 msX3_isIn rfl ⟨Nat.le_of_ble_eq_true rfl, Nat.le_of_ble_eq_true rfl⟩ (Nat.le_of_ble_eq_true rfl) dX3_end_6 rfl ?_
  refine g_ifZ_ne 14 C dX3_end_9 rfl (fun c4 => ?_) (fun c4 => ?_)
  · replace hf := if_t c4 hf
    refine g_aload_n C dX3_end_14 0 rfl ?_
    refine g_iload_n C dX3_end_15 1 rfl ?_
    refine vl_n hf (fun s5 hs5 hf => ?_)
    refine g_putI C oT0 pX3_75 rfl rfl hs5 dX3_end_16 ?_
    refine g_iconst C dX3_end_19 kc_1 ?_
    exact g_iret (v := bI true) C E (bI_nar _) (re_z hf) (re_s hf) ⟨Nat.zero_le _, Nat.zero_le _⟩ dX3_end_20
  · replace hf := if_f c4 hf
    refine g_iconst C dX3_end_12 kc_0 ?_
    exact g_iret (v := bI false) C E (bI_nar _) (re_z hf) (re_s hf) ⟨Nat.zero_le _, Nat.zero_le _⟩ dX3_end_13
def tw_see (n : Nat) (s : Sto) (a1 : Int32) : Option (Int32 × Sto) :=
  if (s.1 0 12) ≤ a1 then
    some ((-1 : Int32), s)
  else
    gd (inb a1 400) <|
    some ((rd s 6 a1), s)
theorem w_tw_see {l : Launch} {n : Nat} {s sF : Sto} {a1 : Int32} {rF : Int32} (hf : tw_see n s a1 = some (rF, sF)) : Ct tCfg l yX3_see cX3_see 2 (some .int) { frames := 1, cells := 0, slots := 0, locals := 12 } (fun g => [.ref (g.1 0), .int a1]) s sF (fun _ => some (.int rF)) := by
  refine Ct_of pn_X3 (fun g => Nat.le_of_ble_eq_true rfl) (fun g A X C E hX => ?_)
  rw [tw_see] at hf
  show TG tCfg g A 2 X 0 0 s 0 [(0, .ref (g.1 0)), (1, .int a1)] []
  refine g_iload_n C dX3_see_0 1 rfl ?_
  refine g_aload_n C dX3_see_1 0 rfl ?_
  refine g_getI C oT0 fX3_75 dX3_see_2 ?_
  refine g_icmp_ge 17 C dX3_see_5 rfl (fun c1 => ?_) (fun c1 => ?_)
  · replace hf := if_t c1 hf
    refine g_iconst C dX3_see_17 kc_m1 ?_
    exact g_iret C E rfl (re_i hf) (re_s hf) ⟨Nat.zero_le _, Nat.zero_le _⟩ dX3_see_18
  · replace hf := if_f c1 hf
    refine g_aload_n C dX3_see_8 0 rfl ?_
    refine g_getS 6 C oT0 fX3_25 rfl dX3_see_9 ?_
    refine g_iload_n C dX3_see_12 1 rfl ?_
    refine gd_n hf (fun c2 hf => ?_)
    refine g_iald C aT6 rfl c2 dX3_see_13 ?_
    refine g_goto 18 C dX3_see_14 rfl ?_
    exact g_iret C E rfl (re_i hf) (re_s hf) ⟨Nat.zero_le _, Nat.zero_le _⟩ dX3_see_18
def tw_isLetter (n : Nat) (s : Sto) (a1 : Int32) : Option (Bool × Sto) :=
  bd (tw_isIn n s a1 (97 : Int32) (122 : Int32)) fun r1 s2 =>
  if r1 = true then
    some (true, s2)
  else
    bd (tw_isIn n s2 a1 (65 : Int32) (90 : Int32)) fun r5 s6 =>
    if r5 = true then
      some (true, s6)
    else
      some (false, s6)
theorem w_tw_isLetter {l : Launch} {n : Nat} {s sF : Sto} {a1 : Int32} {rF : Bool} (hf : tw_isLetter n s a1 = some (rF, sF)) : Ct tCfg l yX3_isLetter cX3_isLetter 1 (some .boolean) { frames := 2, cells := 0, slots := 0, locals := 34 } (fun g => [.int a1]) s sF (fun _ => some (.int (bI rF))) := by
  refine Ct_of pn_X3 (fun g => Nat.le_of_ble_eq_true rfl) (fun g A X C E hX => ?_)
  rw [tw_isLetter] at hf
  show TG tCfg g A 1 X 0 0 s 0 [(0, .int a1)] []
  refine g_iload_n C dX3_isLetter_0 0 rfl ?_
  refine g_bipush C dX3_isLetter_1 kb_97 ?_
  refine g_bipush C dX3_isLetter_3 kb_122 ?_
  refine bd_n hf (fun r1 s2 h3 hf => ?_)
  refine g_callS0 (As := [.int a1, .int (97 : Int32), .int (122 : Int32)]) (rest := []) (stk := [.int (bI r1)]) C (w_tw_isIn h3) hX rfl q1146 q1147 q91 q1148 msX3_isIn rfl ⟨Nat.le_of_ble_eq_true rfl, Nat.le_of_ble_eq_true rfl⟩ (Nat.le_of_ble_eq_true rfl) dX3_isLetter_5 rfl ?_
  refine g_ifZ_ne 22 C dX3_isLetter_8 rfl (fun c4 => ?_) (fun c4 => ?_)
  · replace hf := if_t c4 hf
    refine g_iconst C dX3_isLetter_22 kc_1 ?_
    refine g_goto 27 C dX3_isLetter_23 rfl ?_
    exact g_iret (v := bI true) C E (bI_nar _) (re_z hf) (re_s hf) ⟨Nat.zero_le _, Nat.zero_le _⟩ dX3_isLetter_27
  · replace hf := if_f c4 hf
    refine g_iload_n C dX3_isLetter_11 0 rfl ?_
    refine g_bipush C dX3_isLetter_12 kb_65 ?_
    refine g_bipush C dX3_isLetter_14 kb_90 ?_
    refine bd_n hf (fun r5 s6 h7 hf => ?_)
    refine g_callS0 (As := [.int a1, .int (65 : Int32), .int (90 : Int32)]) (rest := []) (stk := [.int (bI r5)]) C (w_tw_isIn h7) hX rfl q1146 q1147 q91 q1148 msX3_isIn rfl ⟨Nat.le_of_ble_eq_true rfl, Nat.le_of_ble_eq_true rfl⟩ (Nat.le_of_ble_eq_true rfl) dX3_isLetter_16 rfl ?_
    refine g_ifZ_eq 26 C dX3_isLetter_19 rfl (fun c8 => ?_) (fun c8 => ?_)
    · replace hf := if_t c8 hf
      refine g_iconst C dX3_isLetter_22 kc_1 ?_
      refine g_goto 27 C dX3_isLetter_23 rfl ?_
      exact g_iret (v := bI true) C E (bI_nar _) (re_z hf) (re_s hf) ⟨Nat.zero_le _, Nat.zero_le _⟩ dX3_isLetter_27
    · replace hf := if_f c8 hf
      refine g_iconst C dX3_isLetter_26 kc_0 ?_
      exact g_iret (v := bI false) C E (bI_nar _) (re_z hf) (re_s hf) ⟨Nat.zero_le _, Nat.zero_le _⟩ dX3_isLetter_27
def tw_isDigit (n : Nat) (s : Sto) (a1 : Int32) : Option (Bool × Sto) :=
  bd (tw_isIn n s a1 (48 : Int32) (57 : Int32)) fun r1 s2 =>
  some (r1, s2)
theorem w_tw_isDigit {l : Launch} {n : Nat} {s sF : Sto} {a1 : Int32} {rF : Bool} (hf : tw_isDigit n s a1 = some (rF, sF)) : Ct tCfg l yX3_isDigit cX3_isDigit 1 (some .boolean) { frames := 2, cells := 0, slots := 0, locals := 34 } (fun g => [.int a1]) s sF (fun _ => some (.int (bI rF))) := by
  refine Ct_of pn_X3 (fun g => Nat.le_of_ble_eq_true rfl) (fun g A X C E hX => ?_)
  rw [tw_isDigit] at hf
  show TG tCfg g A 1 X 0 0 s 0 [(0, .int a1)] []
  refine g_iload_n C dX3_isDigit_0 0 rfl ?_
  refine g_bipush C dX3_isDigit_1 kb_48 ?_
  refine g_bipush C dX3_isDigit_3 kb_57 ?_
  refine bd_n hf (fun r1 s2 h3 hf => ?_)
  refine g_callS0 (As := [.int a1, .int (48 : Int32), .int (57 : Int32)]) (rest := []) (stk := [.int (bI r1)]) C (w_tw_isIn h3) hX rfl q1146 q1147 q91 q1148 msX3_isIn rfl ⟨Nat.le_of_ble_eq_true rfl, Nat.le_of_ble_eq_true rfl⟩ (Nat.le_of_ble_eq_true rfl) dX3_isDigit_5 rfl ?_
  exact g_iret (v := bI r1) C E (bI_nar _) (re_z hf) (re_s hf) ⟨Nat.zero_le _, Nat.zero_le _⟩ dX3_isDigit_8
def tw_bad (n : Nat) (s : Sto) (a1 : Int32) : Option (Bool × Sto) :=
  vl (sI s 0 17 a1) fun s1 =>
  vl (sI s1 0 18 (s1.1 0 15)) fun s2 =>
  some (false, s2)
theorem w_tw_bad {l : Launch} {n : Nat} {s sF : Sto} {a1 : Int32} {rF : Bool} (hf : tw_bad n s a1 = some (rF, sF)) : Ct tCfg l yX3_bad cX3_bad 2 (some .boolean) { frames := 1, cells := 0, slots := 0, locals := 12 } (fun g => [.ref (g.1 0), .int a1]) s sF (fun _ => some (.int (bI rF))) := by
  refine Ct_of pn_X3 (fun g => Nat.le_of_ble_eq_true rfl) (fun g A X C E hX => ?_)
  rw [tw_bad] at hf
  show TG tCfg g A 2 X 0 0 s 0 [(0, .ref (g.1 0)), (1, .int a1)] []
  refine g_aload_n C dX3_bad_0 0 rfl ?_
  refine g_iload_n C dX3_bad_1 1 rfl ?_
  refine vl_n hf (fun s1 hs1 hf => ?_)
  refine g_putI C oT0 pX3_151 rfl rfl hs1 dX3_bad_2 ?_
  refine g_aload_n C dX3_bad_5 0 rfl ?_
  refine g_aload_n C dX3_bad_6 0 rfl ?_
  refine g_getI C oT0 fX3_81 dX3_bad_7 ?_
  refine vl_n hf (fun s2 hs2 hf => ?_)
  refine g_putI C oT0 pX3_154 rfl rfl hs2 dX3_bad_10 ?_
  refine g_iconst C dX3_bad_13 kc_0 ?_
  exact g_iret (v := bI false) C E (bI_nar _) (re_z hf) (re_s hf) ⟨Nat.zero_le _, Nat.zero_le _⟩ dX3_bad_14
def tw_lay (n : Nat) (s : Sto) (a1 : Int32) (a2 : Int32) : Option (Unit × Sto) :=
  gd (inb ((2 : Int32) * (s.1 0 11)) 820) <|
  vl (wr s 5 ((2 : Int32) * (s.1 0 11)) a1) fun s2 =>
  gd (inb (((2 : Int32) * (s2.1 0 11)) + (1 : Int32)) 820) <|
  vl (wr s2 5 (((2 : Int32) * (s2.1 0 11)) + (1 : Int32)) a2) fun s4 =>
  vl (sI s4 0 11 ((s4.1 0 11) + (1 : Int32))) fun s5 =>
  some ((), s5)
theorem w_tw_lay {l : Launch} {n : Nat} {s sF : Sto} {a1 : Int32} {a2 : Int32} {rF : Unit} (hf : tw_lay n s a1 a2 = some (rF, sF)) : Ct tCfg l yX3_lay cX3_lay 3 none { frames := 1, cells := 0, slots := 0, locals := 12 } (fun g => [.ref (g.1 0), .int a1, .int a2]) s sF (fun _ => none) := by
  refine Ct_of pn_X3 (fun g => Nat.le_of_ble_eq_true rfl) (fun g A X C E hX => ?_)
  rw [tw_lay] at hf
  show TG tCfg g A 3 X 0 0 s 0 [(0, .ref (g.1 0)), (1, .int a1), (2, .int a2)] []
  refine g_aload_n C dX3_lay_0 0 rfl ?_
  refine g_getS 5 C oT0 fX3_22 rfl dX3_lay_1 ?_
  refine g_iconst C dX3_lay_4 kc_2 ?_
  refine g_aload_n C dX3_lay_5 0 rfl ?_
  refine g_getI C oT0 fX3_163 dX3_lay_6 ?_
  refine g_imul C dX3_lay_9 ?_
  refine g_iload_n C dX3_lay_10 1 rfl ?_
  refine gd_n hf (fun c1 hf => ?_)
  refine vl_n hf (fun s2 hs2 hf => ?_)
  refine g_iast C aT5 rfl c1 hs2 dX3_lay_11 ?_
  refine g_aload_n C dX3_lay_12 0 rfl ?_
  refine g_getS 5 C oT0 fX3_22 rfl dX3_lay_13 ?_
  refine g_iconst C dX3_lay_16 kc_2 ?_
  refine g_aload_n C dX3_lay_17 0 rfl ?_
  refine g_getI C oT0 fX3_163 dX3_lay_18 ?_
  refine g_imul C dX3_lay_21 ?_
  refine g_iconst C dX3_lay_22 kc_1 ?_
  refine g_iadd C dX3_lay_23 ?_
  refine g_iload_n C dX3_lay_24 2 rfl ?_
  refine gd_n hf (fun c3 hf => ?_)
  refine vl_n hf (fun s4 hs4 hf => ?_)
  refine g_iast C aT5 rfl c3 hs4 dX3_lay_25 ?_
  refine g_aload_n C dX3_lay_26 0 rfl ?_
  refine g_dup C dX3_lay_27 rfl ?_
  refine g_getI C oT0 fX3_163 dX3_lay_28 ?_
  refine g_iconst C dX3_lay_31 kc_1 ?_
  refine g_iadd C dX3_lay_32 ?_
  refine vl_n hf (fun s5 hs5 hf => ?_)
  refine g_putI C oT0 pX3_163 rfl rfl hs5 dX3_lay_33 ?_
  exact g_vret C E rfl (re_s hf) ⟨Nat.zero_le _, Nat.zero_le _⟩ dX3_lay_36
def tw_fault (n : Nat) (s : Sto) (a1 : Int32) : Option (Int32 × Sto) :=
  if a1 = 0 then
    some ((s.1 0 19), s)
  else
    if a1 = (1 : Int32) then
      some ((s.1 0 21), s)
    else
      some ((-1 : Int32), s)
theorem w_tw_fault {l : Launch} {n : Nat} {s sF : Sto} {a1 : Int32} {rF : Int32} (hf : tw_fault n s a1 = some (rF, sF)) : Ct tCfg l yX3_fault cX3_fault 2 (some .int) { frames := 1, cells := 0, slots := 0, locals := 12 } (fun g => [.ref (g.1 0), .int a1]) s sF (fun _ => some (.int rF)) := by
  refine Ct_of pn_X3 (fun g => Nat.le_of_ble_eq_true rfl) (fun g A X C E hX => ?_)
  rw [tw_fault] at hf
  show TG tCfg g A 2 X 0 0 s 0 [(0, .ref (g.1 0)), (1, .int a1)] []
  refine g_iload_n C dX3_fault_0 1 rfl ?_
  refine g_if_ne 11 C dX3_fault_1 rfl (fun c1 => ?_) (fun c1 => ?_)
  · replace hf := if_t c1 hf
    refine g_aload_n C dX3_fault_4 0 rfl ?_
    refine g_getI C oT0 fX3_203 dX3_fault_5 ?_
    refine g_goto 24 C dX3_fault_8 rfl ?_
    exact g_iret C E rfl (re_i hf) (re_s hf) ⟨Nat.zero_le _, Nat.zero_le _⟩ dX3_fault_24
  · replace hf := if_f c1 hf
    refine g_iload_n C dX3_fault_11 1 rfl ?_
    refine g_iconst C dX3_fault_12 kc_1 ?_
    refine g_icmp_ne 23 C dX3_fault_13 rfl (fun c2 => ?_) (fun c2 => ?_)
    · replace hf := if_t c2 hf
      refine g_aload_n C dX3_fault_16 0 rfl ?_
      refine g_getI C oT0 fX3_34 dX3_fault_17 ?_
      refine g_goto 24 C dX3_fault_20 rfl ?_
      exact g_iret C E rfl (re_i hf) (re_s hf) ⟨Nat.zero_le _, Nat.zero_le _⟩ dX3_fault_24
    · replace hf := if_f c2 hf
      refine g_iconst C dX3_fault_23 kc_m1 ?_
      exact g_iret C E rfl (re_i hf) (re_s hf) ⟨Nat.zero_le _, Nat.zero_le _⟩ dX3_fault_24
def tw_both (n : Nat) (s : Sto) (a1 : Int32) (a2 : Int32) (a3 : Int32) : Option (Int32 × Sto) :=
  if a1 = (13 : Int32) then
    some ((a2 + a3), s)
  else
    if a1 = (14 : Int32) then
      some ((a2 - a3), s)
    else
      if a1 = (15 : Int32) then
        some ((a2 * a3), s)
      else
        if a1 = (17 : Int32) then
          if a3 ≤ a2 then
            some ((0 : Int32), s)
          else
            some ((1 : Int32), s)
        else
          if a1 = (18 : Int32) then
            if a2 = a3 then
              some ((1 : Int32), s)
            else
              some ((0 : Int32), s)
          else
            if a1 = (19 : Int32) then
              if a2 ≤ a3 then
                some ((0 : Int32), s)
              else
                some ((1 : Int32), s)
            else
              if a1 = (21 : Int32) then
                some ((a2 &&& a3), s)
              else
                some ((a2 ||| a3), s)
theorem w_tw_both {l : Launch} {n : Nat} {s sF : Sto} {a1 : Int32} {a2 : Int32} {a3 : Int32} {rF : Int32} (hf : tw_both n s a1 a2 a3 = some (rF, sF)) : Ct tCfg l yX3_both cX3_both 3 (some .int) { frames := 1, cells := 0, slots := 0, locals := 12 } (fun g => [.int a1, .int a2, .int a3]) s sF (fun _ => some (.int rF)) := by
  refine Ct_of pn_X3 (fun g => Nat.le_of_ble_eq_true rfl) (fun g A X C E hX => ?_)
  rw [tw_both] at hf
  show TG tCfg g A 3 X 0 0 s 0 [(0, .int a1), (1, .int a2), (2, .int a3)] []
  refine g_iload_n C dX3_both_0 0 rfl ?_
  by_cases c1 : a1 = (13 : Int32)
  · replace hf := if_t c1 hf
    refine g_tableIn 13 52 C dX3_both_1 c1 (by decide) (by decide) rfl rfl ?_
    refine g_iload_n C dX3_both_52 1 rfl ?_
    refine g_iload_n C dX3_both_53 2 rfl ?_
    refine g_iadd C dX3_both_54 ?_
    exact g_iret C E rfl (re_i hf) (re_s hf) ⟨Nat.zero_le _, Nat.zero_le _⟩ dX3_both_55
  replace hf := if_f c1 hf
  by_cases c2 : a1 = (14 : Int32)
  · replace hf := if_t c2 hf
    refine g_tableIn 14 56 C dX3_both_1 c2 (by decide) (by decide) rfl rfl ?_
    refine g_iload_n C dX3_both_56 1 rfl ?_
    refine g_iload_n C dX3_both_57 2 rfl ?_
    refine g_isub C dX3_both_58 ?_
    exact g_iret C E rfl (re_i hf) (re_s hf) ⟨Nat.zero_le _, Nat.zero_le _⟩ dX3_both_59
  replace hf := if_f c2 hf
  by_cases c3 : a1 = (15 : Int32)
  · replace hf := if_t c3 hf
    refine g_tableIn 15 60 C dX3_both_1 c3 (by decide) (by decide) rfl rfl ?_
    refine g_iload_n C dX3_both_60 1 rfl ?_
    refine g_iload_n C dX3_both_61 2 rfl ?_
    refine g_imul C dX3_both_62 ?_
    exact g_iret C E rfl (re_i hf) (re_s hf) ⟨Nat.zero_le _, Nat.zero_le _⟩ dX3_both_63
  replace hf := if_f c3 hf
  by_cases c5 : a1 = (17 : Int32)
  · replace hf := if_t c5 hf
    refine g_tableIn 17 64 C dX3_both_1 c5 (by decide) (by decide) rfl rfl ?_
    refine g_iload_n C dX3_both_64 1 rfl ?_
    refine g_iload_n C dX3_both_65 2 rfl ?_
    refine g_icmp_ge 73 C dX3_both_66 rfl (fun c10 => ?_) (fun c10 => ?_)
    · replace hf := if_t c10 hf
      refine g_iconst C dX3_both_73 kc_0 ?_
      exact g_iret C E rfl (re_i hf) (re_s hf) ⟨Nat.zero_le _, Nat.zero_le _⟩ dX3_both_74
    · replace hf := if_f c10 hf
      refine g_iconst C dX3_both_69 kc_1 ?_
      refine g_goto 74 C dX3_both_70 rfl ?_
      exact g_iret C E rfl (re_i hf) (re_s hf) ⟨Nat.zero_le _, Nat.zero_le _⟩ dX3_both_74
  replace hf := if_f c5 hf
  by_cases c6 : a1 = (18 : Int32)
  · replace hf := if_t c6 hf
    refine g_tableIn 18 75 C dX3_both_1 c6 (by decide) (by decide) rfl rfl ?_
    refine g_iload_n C dX3_both_75 1 rfl ?_
    refine g_iload_n C dX3_both_76 2 rfl ?_
    refine g_icmp_ne 84 C dX3_both_77 rfl (fun c11 => ?_) (fun c11 => ?_)
    · replace hf := if_t c11 hf
      refine g_iconst C dX3_both_80 kc_1 ?_
      refine g_goto 85 C dX3_both_81 rfl ?_
      exact g_iret C E rfl (re_i hf) (re_s hf) ⟨Nat.zero_le _, Nat.zero_le _⟩ dX3_both_85
    · replace hf := if_f c11 hf
      refine g_iconst C dX3_both_84 kc_0 ?_
      exact g_iret C E rfl (re_i hf) (re_s hf) ⟨Nat.zero_le _, Nat.zero_le _⟩ dX3_both_85
  replace hf := if_f c6 hf
  by_cases c7 : a1 = (19 : Int32)
  · replace hf := if_t c7 hf
    refine g_tableIn 19 86 C dX3_both_1 c7 (by decide) (by decide) rfl rfl ?_
    refine g_iload_n C dX3_both_86 1 rfl ?_
    refine g_iload_n C dX3_both_87 2 rfl ?_
    refine g_icmp_le 95 C dX3_both_88 rfl (fun c12 => ?_) (fun c12 => ?_)
    · replace hf := if_t c12 hf
      refine g_iconst C dX3_both_95 kc_0 ?_
      exact g_iret C E rfl (re_i hf) (re_s hf) ⟨Nat.zero_le _, Nat.zero_le _⟩ dX3_both_96
    · replace hf := if_f c12 hf
      refine g_iconst C dX3_both_91 kc_1 ?_
      refine g_goto 96 C dX3_both_92 rfl ?_
      exact g_iret C E rfl (re_i hf) (re_s hf) ⟨Nat.zero_le _, Nat.zero_le _⟩ dX3_both_96
  replace hf := if_f c7 hf
  by_cases c9 : a1 = (21 : Int32)
  · replace hf := if_t c9 hf
    refine g_tableIn 21 97 C dX3_both_1 c9 (by decide) (by decide) rfl rfl ?_
    refine g_iload_n C dX3_both_97 1 rfl ?_
    refine g_iload_n C dX3_both_98 2 rfl ?_
    refine g_iand C dX3_both_99 ?_
    exact g_iret C E rfl (re_i hf) (re_s hf) ⟨Nat.zero_le _, Nat.zero_le _⟩ dX3_both_100
  replace hf := if_f c9 hf
  refine g_tableD 101 C dX3_both_1 (sw_d [(13 : Int32), (14 : Int32), (15 : Int32), (17 : Int32), (18 : Int32), (19 : Int32), (21 : Int32)] (List.forall_mem_cons.mpr ⟨c1, (List.forall_mem_cons.mpr ⟨c2, (List.forall_mem_cons.mpr ⟨c3, (List.forall_mem_cons.mpr ⟨c5, (List.forall_mem_cons.mpr ⟨c6, (List.forall_mem_cons.mpr ⟨c7, (List.forall_mem_cons.mpr ⟨c9, (fun _ h => absurd h List.not_mem_nil)⟩)⟩)⟩)⟩)⟩)⟩)⟩) (by decide +kernel) (by decide)) rfl ?_
  refine g_iload_n C dX3_both_101 1 rfl ?_
  refine g_iload_n C dX3_both_102 2 rfl ?_
  refine g_ior C dX3_both_103 ?_
  exact g_iret C E rfl (re_i hf) (re_s hf) ⟨Nat.zero_le _, Nat.zero_le _⟩ dX3_both_104
def tw_comesTo_L5 (n : Nat) (v2 : Int32) : Nat → Sto → Int32 → Int32 → Option (Int32 × Sto)
  | 0, _, _, _ => none
  | k + 1, s1, v3, v4 =>
    if v2 ≤ v4 then
      gd (inb (0 : Int32) 420) <|
      some ((rd s1 7 (0 : Int32)), s1)
    else
      gd (inb ((660 : Int32) + ((2 : Int32) * v4)) 1480) <|
      vl (rd s1 1 ((660 : Int32) + ((2 : Int32) * v4))) fun v8 =>
      gd (inb (((660 : Int32) + ((2 : Int32) * v4)) + (1 : Int32)) 1480) <|
      vl (rd s1 1 (((660 : Int32) + ((2 : Int32) * v4)) + (1 : Int32))) fun v10 =>
      vl (fun (s11 : Sto) (v12 : Int32) =>
        tw_comesTo_L5 n v2 k s11 v12 (v4 + (1 : Int32))) fun j13 =>
      if (13 : Int32) ≤ v8 then
        if v8 = (16 : Int32) then
          gd (inb (v3 - (1 : Int32)) 420) <|
          gd (decide (¬ v10 = 0)) <|
          vl (wr s1 7 (v3 - (1 : Int32)) ((rd s1 7 (v3 - (1 : Int32))) / v10)) fun s18 =>
          j13 s18 v3
        else
          if v8 = (20 : Int32) then
            gd (inb (v3 - (1 : Int32)) 420) <|
            vl (wr s1 7 (v3 - (1 : Int32)) ((1 : Int32) - (rd s1 7 (v3 - (1 : Int32))))) fun s21 =>
            j13 s21 v3
          else
            gd (inb ((v3 + (-1 : Int32)) - (1 : Int32)) 420) <|
            gd (inb (v3 + (-1 : Int32)) 420) <|
            bd (tw_both n s1 v8 (rd s1 7 ((v3 + (-1 : Int32)) - (1 : Int32))) (rd s1 7 (v3 + (-1 : Int32)))) fun r24 s25 =>
            vl (wr s25 7 ((v3 + (-1 : Int32)) - (1 : Int32)) r24) fun s27 =>
            j13 s27 (v3 + (-1 : Int32))
      else
        vl (fun (t28 : Int32) =>
          gd (inb v3 420) <|
          vl (wr s1 7 v3 t28) fun s31 =>
          j13 s31 (v3 + (1 : Int32))) fun j29 =>
        if v8 = 0 then
          j29 v10
        else
          gd (inb v8 11) <|
          j29 (rd s1 8 v8)
def tw_comesTo (n : Nat) (s : Sto) (a1 : Int32) (a2 : Int32) : Option (Int32 × Sto) :=
  tw_comesTo_L5 n a2
      n s (0 : Int32) a1
theorem w_tw_comesTo_L5  {l : Launch} {n : Nat} {v2 : Int32} {g : Gam} {A : Nat → Prop} {X : FX} {si sF : Sto} {rF : Int32} (C : CX tCfg g A 7 X cX3_comesTo RX3 (some .int) 2 34) (E : EX tCfg g A X si sF (some (.int rF)) 0 0) (hX : X.2.1 = l) : ∀ (k : Nat) (s1 : Sto) (v3 : Int32) (v4 : Int32), tw_comesTo_L5 n v2 k s1 v3 v4 = some (rF, sF) → TG tCfg g A 7 X 0 0 s1 5 [(0, .ref (g.1 0)), (2, .int v2), (3, .int v3), (4, .int v4)] [] := by
  intro k
  induction k with
  | zero => intro s1 v3 v4 hf; rw [tw_comesTo_L5] at hf; cases hf
  | succ k ih =>
    intro s1 v3 v4 hf
    rw [tw_comesTo_L5] at hf
    refine g_iload C dX3_comesTo_5 3 rfl ?_
    refine g_iload_n C dX3_comesTo_7 1 rfl ?_
    refine g_icmp_ge 166 C dX3_comesTo_8 rfl (fun c5 => ?_) (fun c5 => ?_)
    · replace hf := if_t c5 hf
      refine g_aload_n C dX3_comesTo_166 0 rfl ?_
      refine g_getS 7 C oT0 fX3_28 rfl dX3_comesTo_167 ?_
      refine g_iconst C dX3_comesTo_170 kc_0 ?_
      refine gd_n hf (fun c6 hf => ?_)
      refine g_iald C aT7 rfl c6 dX3_comesTo_171 ?_
      exact g_iret C E rfl (re_i hf) (re_s hf) ⟨Nat.zero_le _, Nat.zero_le _⟩ dX3_comesTo_172
    · replace hf := if_f c5 hf
      refine g_aload_n C dX3_comesTo_11 0 rfl ?_
      refine g_getS 1 C oT0 fX3_7 rfl dX3_comesTo_12 ?_
      refine g_sipush C dX3_comesTo_15 ks_660 ?_
      refine g_iconst C dX3_comesTo_18 kc_2 ?_
      refine g_iload C dX3_comesTo_19 3 rfl ?_
      refine g_imul C dX3_comesTo_21 ?_
      refine g_iadd C dX3_comesTo_22 ?_
      refine gd_n hf (fun c7 hf => ?_)
      refine g_iald C aT1 rfl c7 dX3_comesTo_23 ?_
      refine vl_n hf (fun v8 hv8 hf => ?_)
      refine g_istore (i := 5) (lv' := [(5, .int v8), (0, .ref (g.1 0)), (2, .int v2), (3, .int v3), (4, .int v4)]) C dX3_comesTo_24 hv8 (by decide) rfl ?_
      refine g_aload_n C dX3_comesTo_26 1 rfl ?_
      refine g_getS 1 C oT0 fX3_7 rfl dX3_comesTo_27 ?_
      refine g_sipush C dX3_comesTo_30 ks_660 ?_
      refine g_iconst C dX3_comesTo_33 kc_2 ?_
      refine g_iload C dX3_comesTo_34 4 rfl ?_
      refine g_imul C dX3_comesTo_36 ?_
      refine g_iadd C dX3_comesTo_37 ?_
      refine g_iconst C dX3_comesTo_38 kc_1 ?_
      refine g_iadd C dX3_comesTo_39 ?_
      refine gd_n hf (fun c9 hf => ?_)
      refine g_iald C aT1 rfl c9 dX3_comesTo_40 ?_
      refine vl_n hf (fun v10 hv10 hf => ?_)
      refine g_istore (i := 6) (lv' := [(6, .int v10), (5, .int v8), (0, .ref (g.1 0)), (2, .int v2), (3, .int v3), (4, .int v4)]) C dX3_comesTo_41 hv10 (by decide) rfl ?_
      refine g_iload C dX3_comesTo_43 1 rfl ?_
      refine g_bipush C dX3_comesTo_45 kb_13 ?_
      refine vl_n hf (fun j13 hj13 hf => ?_)
      have Hj13 : ∀ (s11 : Sto) (v12 : Int32), j13 s11 v12 = some (rF, sF) → TG tCfg g A 7 X 0 0 s11 160 [(0, .ref (g.1 0)), (2, .int v2), (3, .int v12), (4, .int v4)] [] := by
        clear hf; subst hj13
        intro s11 v12 hf
        refine g_iinc (q := 3) (lv' := [(4, .int (v4 + (1 : Int32))), (0, .ref (g.1 0)), (2, .int v2), (3, .int v12)]) C dX3_comesTo_160 rfl kc_1 (by decide) rfl ?_
        refine g_goto 5 C dX3_comesTo_163 rfl ?_
        exact g_sub [1, 2, 3, 0] rfl (ih _ _ _ hf)
      clear hj13
      refine g_icmp_ge 79 C dX3_comesTo_47 rfl (fun c14 => ?_) (fun c14 => ?_)
      · replace hf := if_t c14 hf
        refine g_iload C dX3_comesTo_79 1 rfl ?_
        refine g_bipush C dX3_comesTo_81 kb_16 ?_
        refine g_icmp_ne 102 C dX3_comesTo_83 rfl (fun c15 => ?_) (fun c15 => ?_)
        · replace hf := if_t c15 hf
          refine g_aload_n C dX3_comesTo_86 2 rfl ?_
          refine g_getS 7 C oT0 fX3_28 rfl dX3_comesTo_87 ?_
          refine g_iload_n C dX3_comesTo_90 4 rfl ?_
          refine g_iconst C dX3_comesTo_91 kc_1 ?_
          refine g_isub C dX3_comesTo_92 ?_
          refine g_dup2 C dX3_comesTo_93 rfl rfl ?_
          refine gd_n hf (fun c16 hf => ?_)
          refine g_iald C aT7 rfl c16 dX3_comesTo_94 ?_
          refine g_iload C dX3_comesTo_95 0 rfl ?_
          refine gd_n hf (fun c17 hf => ?_)
          refine g_idiv C dX3_comesTo_97 c17 ?_
          refine vl_n hf (fun s18 hs18 hf => ?_)
          refine g_iast C aT7 rfl c16 hs18 dX3_comesTo_98 ?_
          refine g_goto 160 C dX3_comesTo_99 rfl ?_
          exact g_sub [2, 3, 4, 5] rfl (Hj13 _ _ hf)
        · replace hf := if_f c15 hf
          refine g_iload C dX3_comesTo_102 1 rfl ?_
          refine g_bipush C dX3_comesTo_104 kb_20 ?_
          refine g_icmp_ne 130 C dX3_comesTo_106 rfl (fun c19 => ?_) (fun c19 => ?_)
          · replace hf := if_t c19 hf
            refine g_aload_n C dX3_comesTo_109 2 rfl ?_
            refine g_getS 7 C oT0 fX3_28 rfl dX3_comesTo_110 ?_
            refine g_iload_n C dX3_comesTo_113 4 rfl ?_
            refine g_iconst C dX3_comesTo_114 kc_1 ?_
            refine g_isub C dX3_comesTo_115 ?_
            refine g_iconst C dX3_comesTo_116 kc_1 ?_
            refine g_aload_n C dX3_comesTo_117 2 rfl ?_
            refine g_getS 7 C oT0 fX3_28 rfl dX3_comesTo_118 ?_
            refine g_iload_n C dX3_comesTo_121 4 rfl ?_
            refine g_iconst C dX3_comesTo_122 kc_1 ?_
            refine g_isub C dX3_comesTo_123 ?_
            refine gd_n hf (fun c20 hf => ?_)
            refine g_iald C aT7 rfl c20 dX3_comesTo_124 ?_
            refine g_isub C dX3_comesTo_125 ?_
            refine vl_n hf (fun s21 hs21 hf => ?_)
            refine g_iast C aT7 rfl c20 hs21 dX3_comesTo_126 ?_
            refine g_goto 160 C dX3_comesTo_127 rfl ?_
            exact g_sub [2, 3, 4, 5] rfl (Hj13 _ _ hf)
          · replace hf := if_f c19 hf
            refine g_iinc (q := 4) (lv' := [(3, .int (v3 + (-1 : Int32))), (6, .int v10), (5, .int v8), (0, .ref (g.1 0)), (2, .int v2), (4, .int v4)]) C dX3_comesTo_130 rfl kc_m1 (by decide) rfl ?_
            refine g_aload_n C dX3_comesTo_133 3 rfl ?_
            refine g_getS 7 C oT0 fX3_28 rfl dX3_comesTo_134 ?_
            refine g_iload_n C dX3_comesTo_137 0 rfl ?_
            refine g_iconst C dX3_comesTo_138 kc_1 ?_
            refine g_isub C dX3_comesTo_139 ?_
            refine g_iload C dX3_comesTo_140 2 rfl ?_
            refine g_aload_n C dX3_comesTo_142 3 rfl ?_
            refine g_getS 7 C oT0 fX3_28 rfl dX3_comesTo_143 ?_
            refine g_iload_n C dX3_comesTo_146 0 rfl ?_
            refine g_iconst C dX3_comesTo_147 kc_1 ?_
            refine g_isub C dX3_comesTo_148 ?_
            refine gd_n hf (fun c22 hf => ?_)
            refine g_iald C aT7 rfl c22 dX3_comesTo_149 ?_
            refine g_aload_n C dX3_comesTo_150 3 rfl ?_
            refine g_getS 7 C oT0 fX3_28 rfl dX3_comesTo_151 ?_
            refine g_iload_n C dX3_comesTo_154 0 rfl ?_
            refine gd_n hf (fun c23 hf => ?_)
            refine g_iald C aT7 rfl c23 dX3_comesTo_155 ?_
            refine bd_n hf (fun r24 s25 h26 hf => ?_)
            refine g_callS0 (As := [.int v8, .int (rd s1 7 ((v3 + (-1 : Int32)) - (1 : Int32))), .int (rd s1 7 (v3 + (-1 : Int32)))]) (rest := [.int ((v3 + (-1 : Int32)) - (1 : Int32)), .ref (g.1 7)]) (stk := [.int r24, .int ((v3 + (-1 : Int32)) - (1 : Int32)), .ref (g.1 7)]) C (w_tw_both h26) hX rfl q1302 q1303 q91 q1304 msX3_both rfl ⟨Nat.le_of_ble_eq_true rfl, Nat.le_of_ble_eq_true rfl⟩ (Nat.le_of_ble_eq_true rfl) dX3_comesTo_156 rfl ?_
            refine vl_n hf (fun s27 hs27 hf => ?_)
            refine g_iast C aT7 rfl c22 hs27 dX3_comesTo_159 ?_
            exact g_sub [3, 4, 0, 5] rfl (Hj13 _ _ hf)
      · replace hf := if_f c14 hf
        refine g_aload_n C dX3_comesTo_50 2 rfl ?_
        refine g_getS 7 C oT0 fX3_28 rfl dX3_comesTo_51 ?_
        refine g_iload_n C dX3_comesTo_54 4 rfl ?_
        refine g_iload C dX3_comesTo_55 1 rfl ?_
        refine vl_n hf (fun j29 hj29 hf => ?_)
        have Hj29 : ∀ (t28 : Int32), j29 t28 = some (rF, sF) → TG tCfg g A 7 X 0 0 s1 72 [(0, .ref (g.1 0)), (2, .int v2), (3, .int v3), (4, .int v4)] [.int t28, .int v3, .ref (g.1 7)] := by
          clear hf; subst hj29
          intro t28 hf
          refine gd_n hf (fun c30 hf => ?_)
          refine vl_n hf (fun s31 hs31 hf => ?_)
          refine g_iast C aT7 rfl c30 hs31 dX3_comesTo_72 ?_
          refine g_iinc (q := 2) (lv' := [(3, .int (v3 + (1 : Int32))), (0, .ref (g.1 0)), (2, .int v2), (4, .int v4)]) C dX3_comesTo_73 rfl kc_1 (by decide) rfl ?_
          refine g_goto 160 C dX3_comesTo_76 rfl ?_
          exact g_sub [1, 2, 0, 3] rfl (Hj13 _ _ hf)
        clear hj29
        refine g_if_ne 65 C dX3_comesTo_57 rfl (fun c32 => ?_) (fun c32 => ?_)
        · replace hf := if_t c32 hf
          refine g_iload C dX3_comesTo_60 0 rfl ?_
          refine g_goto 72 C dX3_comesTo_62 rfl ?_
          exact g_sub [2, 3, 4, 5] rfl (Hj29 _ hf)
        · replace hf := if_f c32 hf
          refine g_aload_n C dX3_comesTo_65 2 rfl ?_
          refine g_getS 8 C oT0 fX3_31 rfl dX3_comesTo_66 ?_
          refine g_iload C dX3_comesTo_69 1 rfl ?_
          refine gd_n hf (fun c33 hf => ?_)
          refine g_iald C aT8 rfl c33 dX3_comesTo_71 ?_
          exact g_sub [2, 3, 4, 5] rfl (Hj29 _ hf)
theorem w_tw_comesTo {l : Launch} {n : Nat} {s sF : Sto} {a1 : Int32} {a2 : Int32} {rF : Int32} (hf : tw_comesTo n s a1 a2 = some (rF, sF)) : Ct tCfg l yX3_comesTo cX3_comesTo 7 (some .int) { frames := 2, cells := 0, slots := 0, locals := 34 } (fun g => [.ref (g.1 0), .int a1, .int a2]) s sF (fun _ => some (.int rF)) := by
  refine Ct_of pn_X3 (fun g => Nat.le_of_ble_eq_true rfl) (fun g A X C E hX => ?_)
  rw [tw_comesTo] at hf
  show TG tCfg g A 7 X 0 0 s 0 [(0, .ref (g.1 0)), (1, .int a1), (2, .int a2)] []
  refine g_iconst C dX3_comesTo_0 kc_0 ?_
  refine g_istore_n (i := 3) (lv' := [(3, .int (0 : Int32)), (0, .ref (g.1 0)), (1, .int a1), (2, .int a2)]) C dX3_comesTo_1 rfl rfl (by decide) rfl ?_
  refine g_iload_n C dX3_comesTo_2 2 rfl ?_
  refine g_istore (i := 4) (lv' := [(4, .int a1), (3, .int (0 : Int32)), (0, .ref (g.1 0)), (1, .int a1), (2, .int a2)]) C dX3_comesTo_3 rfl (by decide) rfl ?_
  refine g_sub [2, 4, 1, 0] rfl (w_tw_comesTo_L5 C E hX _ _ _ _ hf)
def tw_takesRow_L23 (n : Nat) (v8 : Int32) : Nat → Sto → Int32 → Option (Int32 × Sto)
  | 0, _, _ => none
  | k + 1, s7, v9 =>
    if v8 ≤ v9 then
      some (v8, s7)
    else
      gd (inb v9 400) <|
      bd (tw_isIn n s7 (rd s7 6 v9) (97 : Int32) (104 : Int32)) fun r12 s13 =>
      if r12 = true then
        tw_takesRow_L23 n v8 k s13 (v9 + (1 : Int32))
      else
        some ((-1 : Int32), s13)
def tw_takesRow (n : Nat) (s : Sto) : Option (Int32 × Sto) :=
  vl (s.1 0 12) fun v1 =>
  vl (sI s 0 12 (0 : Int32)) fun s2 =>
  bd (tw_isIn n s2 v1 (1 : Int32) (5 : Int32)) fun r3 s4 =>
  if r3 = true then
    tw_takesRow_L23 n v1
        n s4 (0 : Int32)
  else
    some ((-1 : Int32), s4)
theorem w_tw_takesRow_L23  {l : Launch} {n : Nat} {v8 : Int32} {g : Gam} {A : Nat → Prop} {X : FX} {si sF : Sto} {rF : Int32} (C : CX tCfg g A 3 X cX3_takesRow RX3 (some .int) 2 34) (E : EX tCfg g A X si sF (some (.int rF)) 0 0) (hX : X.2.1 = l) : ∀ (k : Nat) (s7 : Sto) (v9 : Int32), tw_takesRow_L23 n v8 k s7 v9 = some (rF, sF) → TG tCfg g A 3 X 0 0 s7 23 [(0, .ref (g.1 0)), (1, .int v8), (2, .int v9)] [] := by
  intro k
  induction k with
  | zero => intro s7 v9 hf; rw [tw_takesRow_L23] at hf; cases hf
  | succ k ih =>
    intro s7 v9 hf
    rw [tw_takesRow_L23] at hf
    refine g_iload_n C dX3_takesRow_23 2 rfl ?_
    refine g_iload_n C dX3_takesRow_24 1 rfl ?_
    refine g_icmp_ge 52 C dX3_takesRow_25 rfl (fun c10 => ?_) (fun c10 => ?_)
    · replace hf := if_t c10 hf
      refine g_iload_n C dX3_takesRow_52 1 rfl ?_
      exact g_iret C E rfl (re_i hf) (re_s hf) ⟨Nat.zero_le _, Nat.zero_le _⟩ dX3_takesRow_53
    · replace hf := if_f c10 hf
      refine g_aload_n C dX3_takesRow_28 0 rfl ?_
      refine g_getS 6 C oT0 fX3_25 rfl dX3_takesRow_29 ?_
      refine g_iload_n C dX3_takesRow_32 2 rfl ?_
      refine gd_n hf (fun c11 hf => ?_)
      refine g_iald C aT6 rfl c11 dX3_takesRow_33 ?_
      refine g_bipush C dX3_takesRow_34 kb_97 ?_
      refine g_bipush C dX3_takesRow_36 kb_104 ?_
      refine bd_n hf (fun r12 s13 h14 hf => ?_)
      refine g_callS0 (As := [.int (rd s7 6 v9), .int (97 : Int32), .int (104 : Int32)]) (rest := []) (stk := [.int (bI r12)]) C (w_tw_isIn h14) hX rfl q1146 q1147 q91 q1148 msX3_isIn rfl ⟨Nat.le_of_ble_eq_true rfl, Nat.le_of_ble_eq_true rfl⟩ (Nat.le_of_ble_eq_true rfl) dX3_takesRow_38 rfl ?_
      refine g_ifZ_ne 46 C dX3_takesRow_41 rfl (fun c15 => ?_) (fun c15 => ?_)
      · replace hf := if_t c15 hf
        refine g_iinc (q := 2) (lv' := [(2, .int (v9 + (1 : Int32))), (0, .ref (g.1 0)), (1, .int v8)]) C dX3_takesRow_46 rfl kc_1 (by decide) rfl ?_
        refine g_goto 23 C dX3_takesRow_49 rfl ?_
        exact g_sub [1, 2, 0] rfl (ih _ _ hf)
      · replace hf := if_f c15 hf
        refine g_iconst C dX3_takesRow_44 kc_m1 ?_
        exact g_iret C E rfl (re_i hf) (re_s hf) ⟨Nat.zero_le _, Nat.zero_le _⟩ dX3_takesRow_45
theorem w_tw_takesRow {l : Launch} {n : Nat} {s sF : Sto} {rF : Int32} (hf : tw_takesRow n s  = some (rF, sF)) : Ct tCfg l yX3_takesRow cX3_takesRow 3 (some .int) { frames := 2, cells := 0, slots := 0, locals := 34 } (fun g => [.ref (g.1 0)]) s sF (fun _ => some (.int rF)) := by
  refine Ct_of pn_X3 (fun g => Nat.le_of_ble_eq_true rfl) (fun g A X C E hX => ?_)
  rw [tw_takesRow] at hf
  show TG tCfg g A 3 X 0 0 s 0 [(0, .ref (g.1 0))] []
  refine g_aload_n C dX3_takesRow_0 0 rfl ?_
  refine g_getI C oT0 fX3_75 dX3_takesRow_1 ?_
  refine vl_n hf (fun v1 hv1 hf => ?_)
  refine g_istore_n (i := 1) (lv' := [(1, .int v1), (0, .ref (g.1 0))]) C dX3_takesRow_4 rfl hv1 (by decide) rfl ?_
  refine g_aload_n C dX3_takesRow_5 1 rfl ?_
  refine g_iconst C dX3_takesRow_6 kc_0 ?_
  refine vl_n hf (fun s2 hs2 hf => ?_)
  refine g_putI C oT0 pX3_75 rfl rfl hs2 dX3_takesRow_7 ?_
  refine g_iload_n C dX3_takesRow_10 0 rfl ?_
  refine g_iconst C dX3_takesRow_11 kc_1 ?_
  refine g_iconst C dX3_takesRow_12 kc_5 ?_
  refine bd_n hf (fun r3 s4 h5 hf => ?_)
  refine g_callS0 (As := [.int v1, .int (1 : Int32), .int (5 : Int32)]) (rest := []) (stk := [.int (bI r3)]) C (w_tw_isIn h5) hX rfl q1146 q1147 q91 q1148 msX3_isIn rfl ⟨Nat.le_of_ble_eq_true rfl, Nat.le_of_ble_eq_true rfl⟩ (Nat.le_of_ble_eq_true rfl) dX3_takesRow_13 rfl ?_
  refine g_ifZ_ne 21 C dX3_takesRow_16 rfl (fun c6 => ?_) (fun c6 => ?_)
  · replace hf := if_t c6 hf
    refine g_iconst C dX3_takesRow_21 kc_0 ?_
    refine g_istore_n (i := 2) (lv' := [(2, .int (0 : Int32)), (1, .int v1), (0, .ref (g.1 0))]) C dX3_takesRow_22 rfl rfl (by decide) rfl ?_
    refine g_sub [2, 1, 0] rfl (w_tw_takesRow_L23 C E hX _ _ _ hf)
  · replace hf := if_f c6 hf
    refine g_iconst C dX3_takesRow_19 kc_m1 ?_
    exact g_iret C E rfl (re_i hf) (re_s hf) ⟨Nat.zero_le _, Nat.zero_le _⟩ dX3_takesRow_20
def tw_house_L74 (n : Nat) (v21 : Int32) (v22 : Int32) (v23 : Int32) (v24 : Int32) (v25 : Int32) (k28 : Sto → Option (Int32 × Sto)) : Nat → Sto → Int32 → Option (Int32 × Sto)
  | 0, _, _ => none
  | k + 1, s20, v26 =>
    if (16 : Int32) ≤ v26 then
      k28 s20
    else
      gd (inb (v25 + v26) 1480) <|
      vl (wr s20 1 (v25 + v26) (0 : Int32)) fun s31 =>
      tw_house_L74 n v21 v22 v23 v24 v25 k28 k s31 (v26 + (1 : Int32))
def tw_house_L143 (n : Nat) (v41 : Int32) (v42 : Int32) (k45 : Sto → Option (Int32 × Sto)) : Nat → Sto → Int32 → Option (Int32 × Sto)
  | 0, _, _ => none
  | k + 1, s40, v43 =>
    if v41 ≤ v43 then
      k45 s40
    else
      gd (inb v43 400) <|
      gd (inb ((v42 + (10 : Int32)) + v43) 1480) <|
      vl (wr s40 1 ((v42 + (10 : Int32)) + v43) ((rd s40 6 v43) - (97 : Int32))) fun s49 =>
      tw_house_L143 n v41 v42 k45 k s49 (v43 + (1 : Int32))
def tw_house (n : Nat) (s : Sto) (a1 : Int32) (a2 : Int32) (a3 : Int32) : Option (Int32 × Sto) :=
  bd (tw_takesRow n s) fun r1 s2 =>
  if r1 = (-1 : Int32) then
    some ((-1 : Int32), s2)
  else
    bd (tw_isIn n s2 a1 (0 : Int32) (999 : Int32)) fun r5 s6 =>
    if r5 = true then
      bd (tw_isIn n s6 a2 (1 : Int32) (999 : Int32)) fun r9 s10 =>
      if r9 = true then
        bd (tw_isIn n s10 a3 (1 : Int32) (99 : Int32)) fun r13 s14 =>
        if r13 = true then
          gd (inb (4 : Int32) 1480) <|
          if (rd s14 1 (4 : Int32)) = (9 : Int32) then
            some ((-1 : Int32), s14)
          else
            vl ((20 : Int32) + ((16 : Int32) * (rd s14 1 (4 : Int32)))) fun v19 =>
            tw_house_L74 n a1 a2 a3 r1 v19
                (fun (s27 : Sto) =>
                  gd (inb (v19 + (0 : Int32)) 1480) <|
                  vl (wr s27 1 (v19 + (0 : Int32)) a1) fun s33 =>
                  gd (inb (v19 + (1 : Int32)) 1480) <|
                  vl (wr s33 1 (v19 + (1 : Int32)) a2) fun s35 =>
                  gd (inb (v19 + (2 : Int32)) 1480) <|
                  vl (wr s35 1 (v19 + (2 : Int32)) a3) fun s37 =>
                  gd (inb (v19 + (9 : Int32)) 1480) <|
                  vl (wr s37 1 (v19 + (9 : Int32)) r1) fun s39 =>
                  tw_house_L143 n r1 v19
                      (fun (s44 : Sto) =>
                        vl (wr s44 1 (4 : Int32) ((rd s44 1 (4 : Int32)) + (1 : Int32))) fun s50 =>
                        bd (tw_forgets n s50) fun r51 s52 =>
                        some (((rd s52 1 (4 : Int32)) - (1 : Int32)), s52))
                      n s39 (0 : Int32))
                n s14 (0 : Int32)
        else
          some ((-1 : Int32), s14)
      else
        some ((-1 : Int32), s10)
    else
      some ((-1 : Int32), s6)
theorem w_tw_house_L74  {l : Launch} {n : Nat} {v21 : Int32} {v22 : Int32} {v23 : Int32} {v24 : Int32} {v25 : Int32} {k28 : Sto → Option (Int32 × Sto)} {g : Gam} {A : Nat → Prop} {X : FX} {si sF : Sto} {rF : Int32} (C : CX tCfg g A 7 X cX3_house RX3 (some .int) 3 56) (E : EX tCfg g A X si sF (some (.int rF)) 0 0) (hX : X.2.1 = l) (Hk28 : ∀ (s27 : Sto), k28 s27 = some (rF, sF) → TG tCfg g A 7 X 0 0 s27 98 [(0, .ref (g.1 0)), (1, .int v21), (2, .int v22), (3, .int v23), (4, .int v24), (5, .int v25)] []) : ∀ (k : Nat) (s20 : Sto) (v26 : Int32), tw_house_L74 n v21 v22 v23 v24 v25 k28 k s20 v26 = some (rF, sF) → TG tCfg g A 7 X 0 0 s20 74 [(0, .ref (g.1 0)), (1, .int v21), (2, .int v22), (3, .int v23), (4, .int v24), (5, .int v25), (6, .int v26)] [] := by
  intro k
  induction k with
  | zero => intro s20 v26 hf; rw [tw_house_L74] at hf; cases hf
  | succ k ih =>
    intro s20 v26 hf
    rw [tw_house_L74] at hf
    refine g_iload C dX3_house_74 6 rfl ?_
    refine g_bipush C dX3_house_76 kb_16 ?_
    refine g_icmp_ge 98 C dX3_house_78 rfl (fun c29 => ?_) (fun c29 => ?_)
    · replace hf := if_t c29 hf
      exact g_sub [0, 1, 2, 3, 4, 5] rfl (Hk28 _ hf)
    · replace hf := if_f c29 hf
      refine g_aload_n C dX3_house_81 0 rfl ?_
      refine g_getS 1 C oT0 fX3_7 rfl dX3_house_82 ?_
      refine g_iload C dX3_house_85 5 rfl ?_
      refine g_iload C dX3_house_87 6 rfl ?_
      refine g_iadd C dX3_house_89 ?_
      refine g_iconst C dX3_house_90 kc_0 ?_
      refine gd_n hf (fun c30 hf => ?_)
      refine vl_n hf (fun s31 hs31 hf => ?_)
      refine g_iast C aT1 rfl c30 hs31 dX3_house_91 ?_
      refine g_iinc (q := 6) (lv' := [(6, .int (v26 + (1 : Int32))), (0, .ref (g.1 0)), (1, .int v21), (2, .int v22), (3, .int v23), (4, .int v24), (5, .int v25)]) C dX3_house_92 rfl kc_1 (by decide) rfl ?_
      refine g_goto 74 C dX3_house_95 rfl ?_
      exact g_sub [1, 2, 3, 4, 5, 6, 0] rfl (ih _ _ hf)
theorem w_tw_house_L143  {l : Launch} {n : Nat} {v41 : Int32} {v42 : Int32} {k45 : Sto → Option (Int32 × Sto)} {g : Gam} {A : Nat → Prop} {X : FX} {si sF : Sto} {rF : Int32} (C : CX tCfg g A 7 X cX3_house RX3 (some .int) 3 56) (E : EX tCfg g A X si sF (some (.int rF)) 0 0) (hX : X.2.1 = l) (Hk45 : ∀ (s44 : Sto), k45 s44 = some (rF, sF) → TG tCfg g A 7 X 0 0 s44 179 [(0, .ref (g.1 0))] []) : ∀ (k : Nat) (s40 : Sto) (v43 : Int32), tw_house_L143 n v41 v42 k45 k s40 v43 = some (rF, sF) → TG tCfg g A 7 X 0 0 s40 143 [(0, .ref (g.1 0)), (4, .int v41), (5, .int v42), (6, .int v43)] [] := by
  intro k
  induction k with
  | zero => intro s40 v43 hf; rw [tw_house_L143] at hf; cases hf
  | succ k ih =>
    intro s40 v43 hf
    rw [tw_house_L143] at hf
    refine g_iload C dX3_house_143 3 rfl ?_
    refine g_iload C dX3_house_145 1 rfl ?_
    refine g_icmp_ge 179 C dX3_house_147 rfl (fun c46 => ?_) (fun c46 => ?_)
    · replace hf := if_t c46 hf
      exact g_sub [0] rfl (Hk45 _ hf)
    · replace hf := if_f c46 hf
      refine g_aload_n C dX3_house_150 0 rfl ?_
      refine g_getS 1 C oT0 fX3_7 rfl dX3_house_151 ?_
      refine g_iload C dX3_house_154 2 rfl ?_
      refine g_bipush C dX3_house_156 kb_10 ?_
      refine g_iadd C dX3_house_158 ?_
      refine g_iload C dX3_house_159 3 rfl ?_
      refine g_iadd C dX3_house_161 ?_
      refine g_aload_n C dX3_house_162 0 rfl ?_
      refine g_getS 6 C oT0 fX3_25 rfl dX3_house_163 ?_
      refine g_iload C dX3_house_166 3 rfl ?_
      refine gd_n hf (fun c47 hf => ?_)
      refine g_iald C aT6 rfl c47 dX3_house_168 ?_
      refine g_bipush C dX3_house_169 kb_97 ?_
      refine g_isub C dX3_house_171 ?_
      refine gd_n hf (fun c48 hf => ?_)
      refine vl_n hf (fun s49 hs49 hf => ?_)
      refine g_iast C aT1 rfl c48 hs49 dX3_house_172 ?_
      refine g_iinc (q := 3) (lv' := [(6, .int (v43 + (1 : Int32))), (0, .ref (g.1 0)), (4, .int v41), (5, .int v42)]) C dX3_house_173 rfl kc_1 (by decide) rfl ?_
      refine g_goto 143 C dX3_house_176 rfl ?_
      exact g_sub [1, 2, 3, 0] rfl (ih _ _ hf)
theorem w_tw_house {l : Launch} {n : Nat} {s sF : Sto} {a1 : Int32} {a2 : Int32} {a3 : Int32} {rF : Int32} (hf : tw_house n s a1 a2 a3 = some (rF, sF)) : Ct tCfg l yX3_house cX3_house 7 (some .int) { frames := 3, cells := 0, slots := 0, locals := 56 } (fun g => [.ref (g.1 0), .int a1, .int a2, .int a3]) s sF (fun _ => some (.int rF)) := by
  refine Ct_of pn_X3 (fun g => Nat.le_of_ble_eq_true rfl) (fun g A X C E hX => ?_)
  rw [tw_house] at hf
  show TG tCfg g A 7 X 0 0 s 0 [(0, .ref (g.1 0)), (1, .int a1), (2, .int a2), (3, .int a3)] []
  refine g_aload_n C dX3_house_0 0 rfl ?_
  refine bd_n hf (fun r1 s2 h3 hf => ?_)
  refine g_callV0 (As := []) (rest := []) (stk := [.int r1]) C (w_tw_takesRow h3) hX oT0 rfl rfl q1248 q1250 qs60 q91 q1251 mdX3_takesRow rfl ⟨Nat.le_of_ble_eq_true rfl, Nat.le_of_ble_eq_true rfl⟩ (Nat.le_of_ble_eq_true rfl) dX3_house_1 rfl ?_
  refine g_istore (i := 4) (lv' := [(4, .int r1), (0, .ref (g.1 0)), (1, .int a1), (2, .int a2), (3, .int a3)]) C dX3_house_4 rfl (by decide) rfl ?_
  refine g_iload C dX3_house_6 0 rfl ?_
  refine g_iconst C dX3_house_8 kc_m1 ?_
  refine g_icmp_eq 55 C dX3_house_9 rfl (fun c4 => ?_) (fun c4 => ?_)
  · replace hf := if_t c4 hf
    refine g_iconst C dX3_house_55 kc_m1 ?_
    exact g_iret C E rfl (re_i hf) (re_s hf) ⟨Nat.zero_le _, Nat.zero_le _⟩ dX3_house_56
  · replace hf := if_f c4 hf
    refine g_iload_n C dX3_house_12 2 rfl ?_
    refine g_iconst C dX3_house_13 kc_0 ?_
    refine g_sipush C dX3_house_14 ks_999 ?_
    refine bd_n hf (fun r5 s6 h7 hf => ?_)
    refine g_callS0 (As := [.int a1, .int (0 : Int32), .int (999 : Int32)]) (rest := []) (stk := [.int (bI r5)]) C (w_tw_isIn h7) hX rfl q1146 q1147 q91 q1148 msX3_isIn rfl ⟨Nat.le_of_ble_eq_true rfl, Nat.le_of_ble_eq_true rfl⟩ (Nat.le_of_ble_eq_true rfl) dX3_house_17 rfl ?_
    refine g_ifZ_eq 55 C dX3_house_20 rfl (fun c8 => ?_) (fun c8 => ?_)
    · replace hf := if_t c8 hf
      refine g_iload_n C dX3_house_23 3 rfl ?_
      refine g_iconst C dX3_house_24 kc_1 ?_
      refine g_sipush C dX3_house_25 ks_999 ?_
      refine bd_n hf (fun r9 s10 h11 hf => ?_)
      refine g_callS0 (As := [.int a2, .int (1 : Int32), .int (999 : Int32)]) (rest := []) (stk := [.int (bI r9)]) C (w_tw_isIn h11) hX rfl q1146 q1147 q91 q1148 msX3_isIn rfl ⟨Nat.le_of_ble_eq_true rfl, Nat.le_of_ble_eq_true rfl⟩ (Nat.le_of_ble_eq_true rfl) dX3_house_28 rfl ?_
      refine g_ifZ_eq 55 C dX3_house_31 rfl (fun c12 => ?_) (fun c12 => ?_)
      · replace hf := if_t c12 hf
        refine g_iload_n C dX3_house_34 4 rfl ?_
        refine g_iconst C dX3_house_35 kc_1 ?_
        refine g_bipush C dX3_house_36 kb_99 ?_
        refine bd_n hf (fun r13 s14 h15 hf => ?_)
        refine g_callS0 (As := [.int a3, .int (1 : Int32), .int (99 : Int32)]) (rest := []) (stk := [.int (bI r13)]) C (w_tw_isIn h15) hX rfl q1146 q1147 q91 q1148 msX3_isIn rfl ⟨Nat.le_of_ble_eq_true rfl, Nat.le_of_ble_eq_true rfl⟩ (Nat.le_of_ble_eq_true rfl) dX3_house_38 rfl ?_
        refine g_ifZ_eq 55 C dX3_house_41 rfl (fun c16 => ?_) (fun c16 => ?_)
        · replace hf := if_t c16 hf
          refine g_aload_n C dX3_house_44 1 rfl ?_
          refine g_getS 1 C oT0 fX3_7 rfl dX3_house_45 ?_
          refine g_iconst C dX3_house_48 kc_4 ?_
          refine gd_n hf (fun c17 hf => ?_)
          refine g_iald C aT1 rfl c17 dX3_house_49 ?_
          refine g_bipush C dX3_house_50 kb_9 ?_
          refine g_icmp_ne 57 C dX3_house_52 rfl (fun c18 => ?_) (fun c18 => ?_)
          · replace hf := if_t c18 hf
            refine g_iconst C dX3_house_55 kc_m1 ?_
            exact g_iret C E rfl (re_i hf) (re_s hf) ⟨Nat.zero_le _, Nat.zero_le _⟩ dX3_house_56
          · replace hf := if_f c18 hf
            refine g_bipush C dX3_house_57 kb_20 ?_
            refine g_bipush C dX3_house_59 kb_16 ?_
            refine g_aload_n C dX3_house_61 1 rfl ?_
            refine g_getS 1 C oT0 fX3_7 rfl dX3_house_62 ?_
            refine g_iconst C dX3_house_65 kc_4 ?_
            refine g_iald C aT1 rfl c17 dX3_house_66 ?_
            refine g_imul C dX3_house_67 ?_
            refine g_iadd C dX3_house_68 ?_
            refine vl_n hf (fun v19 hv19 hf => ?_)
            refine g_istore (i := 5) (lv' := [(5, .int v19), (4, .int r1), (0, .ref (g.1 0)), (1, .int a1), (2, .int a2), (3, .int a3)]) C dX3_house_69 hv19 (by decide) rfl ?_
            refine g_iconst C dX3_house_71 kc_0 ?_
            refine g_istore (i := 6) (lv' := [(6, .int (0 : Int32)), (5, .int v19), (4, .int r1), (0, .ref (g.1 0)), (1, .int a1), (2, .int a2), (3, .int a3)]) C dX3_house_72 rfl (by decide) rfl ?_
            refine g_sub [3, 4, 5, 6, 2, 1, 0] rfl (w_tw_house_L74 C E hX (fun s27 hf => ?_) _ _ _ hf)
            refine g_aload_n C dX3_house_98 0 rfl ?_
            refine g_getS 1 C oT0 fX3_7 rfl dX3_house_99 ?_
            refine g_iload C dX3_house_102 5 rfl ?_
            refine g_iconst C dX3_house_104 kc_0 ?_
            refine g_iadd C dX3_house_105 ?_
            refine g_iload_n C dX3_house_106 1 rfl ?_
            refine gd_n hf (fun c32 hf => ?_)
            refine vl_n hf (fun s33 hs33 hf => ?_)
            refine g_iast C aT1 rfl c32 hs33 dX3_house_107 ?_
            refine g_aload_n C dX3_house_108 0 rfl ?_
            refine g_getS 1 C oT0 fX3_7 rfl dX3_house_109 ?_
            refine g_iload C dX3_house_112 5 rfl ?_
            refine g_iconst C dX3_house_114 kc_1 ?_
            refine g_iadd C dX3_house_115 ?_
            refine g_iload_n C dX3_house_116 2 rfl ?_
            refine gd_n hf (fun c34 hf => ?_)
            refine vl_n hf (fun s35 hs35 hf => ?_)
            refine g_iast C aT1 rfl c34 hs35 dX3_house_117 ?_
            refine g_aload_n C dX3_house_118 0 rfl ?_
            refine g_getS 1 C oT0 fX3_7 rfl dX3_house_119 ?_
            refine g_iload C dX3_house_122 5 rfl ?_
            refine g_iconst C dX3_house_124 kc_2 ?_
            refine g_iadd C dX3_house_125 ?_
            refine g_iload_n C dX3_house_126 3 rfl ?_
            refine gd_n hf (fun c36 hf => ?_)
            refine vl_n hf (fun s37 hs37 hf => ?_)
            refine g_iast C aT1 rfl c36 hs37 dX3_house_127 ?_
            refine g_aload_n C dX3_house_128 0 rfl ?_
            refine g_getS 1 C oT0 fX3_7 rfl dX3_house_129 ?_
            refine g_iload C dX3_house_132 5 rfl ?_
            refine g_bipush C dX3_house_134 kb_9 ?_
            refine g_iadd C dX3_house_136 ?_
            refine g_iload C dX3_house_137 4 rfl ?_
            refine gd_n hf (fun c38 hf => ?_)
            refine vl_n hf (fun s39 hs39 hf => ?_)
            refine g_iast C aT1 rfl c38 hs39 dX3_house_139 ?_
            refine g_iconst C dX3_house_140 kc_0 ?_
            refine g_istore (i := 6) (lv' := [(6, .int (0 : Int32)), (0, .ref (g.1 0)), (1, .int a1), (2, .int a2), (3, .int a3), (4, .int r1), (5, .int v19)]) C dX3_house_141 rfl (by decide) rfl ?_
            refine g_sub [1, 5, 6, 0] rfl (w_tw_house_L143 C E hX (fun s44 hf => ?_) _ _ _ hf)
            refine g_aload_n C dX3_house_179 0 rfl ?_
            refine g_getS 1 C oT0 fX3_7 rfl dX3_house_180 ?_
            refine g_iconst C dX3_house_183 kc_4 ?_
            refine g_dup2 C dX3_house_184 rfl rfl ?_
            refine g_iald C aT1 rfl c17 dX3_house_185 ?_
            refine g_iconst C dX3_house_186 kc_1 ?_
            refine g_iadd C dX3_house_187 ?_
            refine vl_n hf (fun s50 hs50 hf => ?_)
            refine g_iast C aT1 rfl c17 hs50 dX3_house_188 ?_
            refine g_aload_n C dX3_house_189 0 rfl ?_
            refine bd_n hf (fun r51 s52 h53 hf => ?_)
            refine g_callV0 (As := []) (rest := []) (stk := []) C (w_tw_forgets h53) hX oT0 rfl rfl q1252 q1254 qs61 q91 q1255 mdX3_forgets rfl ⟨Nat.le_of_ble_eq_true rfl, Nat.le_of_ble_eq_true rfl⟩ (Nat.le_of_ble_eq_true rfl) dX3_house_190 rfl ?_
            refine g_aload_n C dX3_house_193 0 rfl ?_
            refine g_getS 1 C oT0 fX3_7 rfl dX3_house_194 ?_
            refine g_iconst C dX3_house_197 kc_4 ?_
            refine g_iald C aT1 rfl c17 dX3_house_198 ?_
            refine g_iconst C dX3_house_199 kc_1 ?_
            refine g_isub C dX3_house_200 ?_
            exact g_iret C E rfl (re_i hf) (re_s hf) ⟨Nat.zero_le _, Nat.zero_le _⟩ dX3_house_201
        · replace hf := if_f c16 hf
          refine g_iconst C dX3_house_55 kc_m1 ?_
          exact g_iret C E rfl (re_i hf) (re_s hf) ⟨Nat.zero_le _, Nat.zero_le _⟩ dX3_house_56
      · replace hf := if_f c12 hf
        refine g_iconst C dX3_house_55 kc_m1 ?_
        exact g_iret C E rfl (re_i hf) (re_s hf) ⟨Nat.zero_le _, Nat.zero_le _⟩ dX3_house_56
    · replace hf := if_f c8 hf
      refine g_iconst C dX3_house_55 kc_m1 ?_
      exact g_iret C E rfl (re_i hf) (re_s hf) ⟨Nat.zero_le _, Nat.zero_le _⟩ dX3_house_56
def tw_give (n : Nat) (s : Sto) (a1 : Int32) (a2 : Int32) : Option (Bool × Sto) :=
  bd (tw_isHouse n s a1) fun r1 s2 =>
  if r1 = true then
    bd (tw_isIn n s2 a2 (0 : Int32) (99999 : Int32)) fun r5 s6 =>
    if r5 = true then
      bd (tw_own n s6 a1 (3 : Int32)) fun r9 s10 =>
      if (r9 + a2) ≤ (999999 : Int32) then
        bd (tw_adds n s10 a1 (3 : Int32) a2) fun r13 s14 =>
        bd (tw_forgets n s14) fun r16 s17 =>
        some (true, s17)
      else
        some (false, s10)
    else
      some (false, s6)
  else
    some (false, s2)
theorem w_tw_give {l : Launch} {n : Nat} {s sF : Sto} {a1 : Int32} {a2 : Int32} {rF : Bool} (hf : tw_give n s a1 a2 = some (rF, sF)) : Ct tCfg l yX3_give cX3_give 3 (some .boolean) { frames := 3, cells := 0, slots := 0, locals := 55 } (fun g => [.ref (g.1 0), .int a1, .int a2]) s sF (fun _ => some (.int (bI rF))) := by
  refine Ct_of pn_X3 (fun g => Nat.le_of_ble_eq_true rfl) (fun g A X C E hX => ?_)
  rw [tw_give] at hf
  show TG tCfg g A 3 X 0 0 s 0 [(0, .ref (g.1 0)), (1, .int a1), (2, .int a2)] []
  refine g_aload_n C dX3_give_0 0 rfl ?_
  refine g_iload_n C dX3_give_1 1 rfl ?_
  refine bd_n hf (fun r1 s2 h3 hf => ?_)
  refine g_callV0 (As := [.int a1]) (rest := []) (stk := [.int (bI r1)]) C (w_tw_isHouse h3) hX oT0 rfl rfl q1260 q1262 qs62 q91 q1263 mdX3_isHouse rfl ⟨Nat.le_of_ble_eq_true rfl, Nat.le_of_ble_eq_true rfl⟩ (Nat.le_of_ble_eq_true rfl) dX3_give_2 rfl ?_
  refine g_ifZ_eq 31 C dX3_give_5 rfl (fun c4 => ?_) (fun c4 => ?_)
  · replace hf := if_t c4 hf
    refine g_iload_n C dX3_give_8 2 rfl ?_
    refine g_iconst C dX3_give_9 kc_0 ?_
    refine g_ldc C dX3_give_10 q1264 ?_
    refine bd_n hf (fun r5 s6 h7 hf => ?_)
    refine g_callS0 (As := [.int a2, .int (0 : Int32), .int (99999 : Int32)]) (rest := []) (stk := [.int (bI r5)]) C (w_tw_isIn h7) hX rfl q1146 q1147 q91 q1148 msX3_isIn rfl ⟨Nat.le_of_ble_eq_true rfl, Nat.le_of_ble_eq_true rfl⟩ (Nat.le_of_ble_eq_true rfl) dX3_give_12 rfl ?_
    refine g_ifZ_eq 31 C dX3_give_15 rfl (fun c8 => ?_) (fun c8 => ?_)
    · replace hf := if_t c8 hf
      refine g_aload_n C dX3_give_18 0 rfl ?_
      refine g_iload_n C dX3_give_19 1 rfl ?_
      refine g_iconst C dX3_give_20 kc_3 ?_
      refine bd_n hf (fun r9 s10 h11 hf => ?_)
      refine g_callV0 (As := [.int a1, .int (3 : Int32)]) (rest := []) (stk := [.int r9]) C (w_tw_own h11) hX oT0 rfl rfl q1265 q1267 qs63 q91 q1268 mdX3_own rfl ⟨Nat.le_of_ble_eq_true rfl, Nat.le_of_ble_eq_true rfl⟩ (Nat.le_of_ble_eq_true rfl) dX3_give_21 rfl ?_
      refine g_iload_n C dX3_give_24 2 rfl ?_
      refine g_iadd C dX3_give_25 ?_
      refine g_ldc C dX3_give_26 q1269 ?_
      refine g_icmp_le 33 C dX3_give_28 rfl (fun c12 => ?_) (fun c12 => ?_)
      · replace hf := if_t c12 hf
        refine g_aload_n C dX3_give_33 0 rfl ?_
        refine g_iload_n C dX3_give_34 1 rfl ?_
        refine g_iconst C dX3_give_35 kc_3 ?_
        refine g_iload_n C dX3_give_36 2 rfl ?_
        refine bd_n hf (fun r13 s14 h15 hf => ?_)
        refine g_callV0 (As := [.int a1, .int (3 : Int32), .int a2]) (rest := []) (stk := []) C (w_tw_adds h15) hX oT0 rfl rfl q1270 q1272 qs64 q91 q1273 mdX3_adds rfl ⟨Nat.le_of_ble_eq_true rfl, Nat.le_of_ble_eq_true rfl⟩ (Nat.le_of_ble_eq_true rfl) dX3_give_37 rfl ?_
        refine g_aload_n C dX3_give_40 0 rfl ?_
        refine bd_n hf (fun r16 s17 h18 hf => ?_)
        refine g_callV0 (As := []) (rest := []) (stk := []) C (w_tw_forgets h18) hX oT0 rfl rfl q1252 q1254 qs61 q91 q1255 mdX3_forgets rfl ⟨Nat.le_of_ble_eq_true rfl, Nat.le_of_ble_eq_true rfl⟩ (Nat.le_of_ble_eq_true rfl) dX3_give_41 rfl ?_
        refine g_iconst C dX3_give_44 kc_1 ?_
        exact g_iret (v := bI true) C E (bI_nar _) (re_z hf) (re_s hf) ⟨Nat.zero_le _, Nat.zero_le _⟩ dX3_give_45
      · replace hf := if_f c12 hf
        refine g_iconst C dX3_give_31 kc_0 ?_
        exact g_iret (v := bI false) C E (bI_nar _) (re_z hf) (re_s hf) ⟨Nat.zero_le _, Nat.zero_le _⟩ dX3_give_32
    · replace hf := if_f c8 hf
      refine g_iconst C dX3_give_31 kc_0 ?_
      exact g_iret (v := bI false) C E (bI_nar _) (re_z hf) (re_s hf) ⟨Nat.zero_le _, Nat.zero_le _⟩ dX3_give_32
  · replace hf := if_f c4 hf
    refine g_iconst C dX3_give_31 kc_0 ?_
    exact g_iret (v := bI false) C E (bI_nar _) (re_z hf) (re_s hf) ⟨Nat.zero_le _, Nat.zero_le _⟩ dX3_give_32
def tw_set (n : Nat) (s : Sto) (a1 : Int32) (a2 : Int32) : Option (Bool × Sto) :=
  bd (tw_isIn n s a1 (0 : Int32) (3 : Int32)) fun r1 s2 =>
  if r1 = true then
    vl (fun (t5 : Bool) =>
      vl (fun (t7 : Int32) =>
        bd (tw_isIn n s2 a2 (bI t5) t7) fun r9 s10 =>
        if r9 = true then
          gd (inb a1 1480) <|
          vl (wr s10 1 a1 a2) fun s14 =>
          bd (tw_forgets n s14) fun r15 s16 =>
          some (true, s16)
        else
          some (false, s10)) fun j8 =>
      if a1 = (3 : Int32) then
        j8 (100 : Int32)
      else
        j8 (99 : Int32)) fun j6 =>
    if a1 = 0 then
      j6 true
    else
      j6 false
  else
    some (false, s2)
theorem w_tw_set {l : Launch} {n : Nat} {s sF : Sto} {a1 : Int32} {a2 : Int32} {rF : Bool} (hf : tw_set n s a1 a2 = some (rF, sF)) : Ct tCfg l yX3_set cX3_set 3 (some .boolean) { frames := 2, cells := 0, slots := 0, locals := 34 } (fun g => [.ref (g.1 0), .int a1, .int a2]) s sF (fun _ => some (.int (bI rF))) := by
  refine Ct_of pn_X3 (fun g => Nat.le_of_ble_eq_true rfl) (fun g A X C E hX => ?_)
  rw [tw_set] at hf
  show TG tCfg g A 3 X 0 0 s 0 [(0, .ref (g.1 0)), (1, .int a1), (2, .int a2)] []
  refine g_iload_n C dX3_set_0 1 rfl ?_
  refine g_iconst C dX3_set_1 kc_0 ?_
  refine g_iconst C dX3_set_2 kc_3 ?_
  refine bd_n hf (fun r1 s2 h3 hf => ?_)
  refine g_callS0 (As := [.int a1, .int (0 : Int32), .int (3 : Int32)]) (rest := []) (stk := [.int (bI r1)]) C (w_tw_isIn h3) hX rfl q1146 q1147 q91 q1148 msX3_isIn rfl ⟨Nat.le_of_ble_eq_true rfl, Nat.le_of_ble_eq_true rfl⟩ (Nat.le_of_ble_eq_true rfl) dX3_set_3 rfl ?_
  refine g_ifZ_eq 37 C dX3_set_6 rfl (fun c4 => ?_) (fun c4 => ?_)
  · replace hf := if_t c4 hf
    refine g_iload_n C dX3_set_9 2 rfl ?_
    refine g_iload_n C dX3_set_10 1 rfl ?_
    refine vl_n hf (fun j6 hj6 hf => ?_)
    have Hj6 : ∀ (t5 : Bool), j6 t5 = some (rF, sF) → TG tCfg g A 3 X 0 0 s2 19 [(0, .ref (g.1 0)), (1, .int a1), (2, .int a2)] [.int (bI t5), .int a2] := by
      clear hf; subst hj6
      intro t5 hf
      refine g_iload_n C dX3_set_19 1 rfl ?_
      refine g_iconst C dX3_set_20 kc_3 ?_
      refine vl_n hf (fun j8 hj8 hf => ?_)
      have Hj8 : ∀ (t7 : Int32), j8 t7 = some (rF, sF) → TG tCfg g A 3 X 0 0 s2 31 [(0, .ref (g.1 0)), (1, .int a1), (2, .int a2)] [.int t7, .int (bI t5), .int a2] := by
        clear hf; subst hj8
        intro t7 hf
        refine bd_n hf (fun r9 s10 h11 hf => ?_)
        refine g_callS0 (As := [.int a2, .int (bI t5), .int t7]) (rest := []) (stk := [.int (bI r9)]) C (w_tw_isIn h11) hX rfl q1146 q1147 q91 q1148 msX3_isIn rfl ⟨Nat.le_of_ble_eq_true rfl, Nat.le_of_ble_eq_true rfl⟩ (Nat.le_of_ble_eq_true rfl) dX3_set_31 rfl ?_
        refine g_ifZ_ne 39 C dX3_set_34 rfl (fun c12 => ?_) (fun c12 => ?_)
        · replace hf := if_t c12 hf
          refine g_aload_n C dX3_set_39 0 rfl ?_
          refine g_getS 1 C oT0 fX3_7 rfl dX3_set_40 ?_
          refine g_iload_n C dX3_set_43 1 rfl ?_
          refine g_iload_n C dX3_set_44 2 rfl ?_
          refine gd_n hf (fun c13 hf => ?_)
          refine vl_n hf (fun s14 hs14 hf => ?_)
          refine g_iast C aT1 rfl c13 hs14 dX3_set_45 ?_
          refine g_aload_n C dX3_set_46 0 rfl ?_
          refine bd_n hf (fun r15 s16 h17 hf => ?_)
          refine g_callV0 (As := []) (rest := []) (stk := []) C (w_tw_forgets h17) hX oT0 rfl rfl q1252 q1254 qs61 q91 q1255 mdX3_forgets rfl ⟨Nat.le_of_ble_eq_true rfl, Nat.le_of_ble_eq_true rfl⟩ (Nat.le_of_ble_eq_true rfl) dX3_set_47 rfl ?_
          refine g_iconst C dX3_set_50 kc_1 ?_
          exact g_iret (v := bI true) C E (bI_nar _) (re_z hf) (re_s hf) ⟨Nat.zero_le _, Nat.zero_le _⟩ dX3_set_51
        · replace hf := if_f c12 hf
          refine g_iconst C dX3_set_37 kc_0 ?_
          exact g_iret (v := bI false) C E (bI_nar _) (re_z hf) (re_s hf) ⟨Nat.zero_le _, Nat.zero_le _⟩ dX3_set_38
      clear hj8
      refine g_icmp_ne 29 C dX3_set_21 rfl (fun c18 => ?_) (fun c18 => ?_)
      · replace hf := if_t c18 hf
        refine g_bipush C dX3_set_24 kb_100 ?_
        refine g_goto 31 C dX3_set_26 rfl ?_
        exact g_sub [0, 1, 2] rfl (Hj8 _ hf)
      · replace hf := if_f c18 hf
        refine g_bipush C dX3_set_29 kb_99 ?_
        exact g_sub [0, 1, 2] rfl (Hj8 _ hf)
    clear hj6
    refine g_if_ne 18 C dX3_set_11 rfl (fun c19 => ?_) (fun c19 => ?_)
    · replace hf := if_t c19 hf
      refine g_iconst C dX3_set_14 kc_1 ?_
      refine g_goto 19 C dX3_set_15 rfl ?_
      exact g_sub [0, 1, 2] rfl (Hj6 _ hf)
    · replace hf := if_f c19 hf
      refine g_iconst C dX3_set_18 kc_0 ?_
      exact g_sub [0, 1, 2] rfl (Hj6 _ hf)
  · replace hf := if_f c4 hf
    refine g_iconst C dX3_set_37 kc_0 ?_
    exact g_iret (v := bI false) C E (bI_nar _) (re_z hf) (re_s hf) ⟨Nat.zero_le _, Nat.zero_le _⟩ dX3_set_38
def tw_debt (n : Nat) (s : Sto) (a1 : Int32) (a2 : Int32) : Option (Int32 × Sto) :=
  gd (inb (((180 : Int32) + ((9 : Int32) * a1)) + a2) 1480) <|
  some ((rd s 1 (((180 : Int32) + ((9 : Int32) * a1)) + a2)), s)
theorem w_tw_debt {l : Launch} {n : Nat} {s sF : Sto} {a1 : Int32} {a2 : Int32} {rF : Int32} (hf : tw_debt n s a1 a2 = some (rF, sF)) : Ct tCfg l yX3_debt cX3_debt 3 (some .int) { frames := 1, cells := 0, slots := 0, locals := 12 } (fun g => [.ref (g.1 0), .int a1, .int a2]) s sF (fun _ => some (.int rF)) := by
  refine Ct_of pn_X3 (fun g => Nat.le_of_ble_eq_true rfl) (fun g A X C E hX => ?_)
  rw [tw_debt] at hf
  show TG tCfg g A 3 X 0 0 s 0 [(0, .ref (g.1 0)), (1, .int a1), (2, .int a2)] []
  refine g_aload_n C dX3_debt_0 0 rfl ?_
  refine g_getS 1 C oT0 fX3_7 rfl dX3_debt_1 ?_
  refine g_sipush C dX3_debt_4 ks_180 ?_
  refine g_bipush C dX3_debt_7 kb_9 ?_
  refine g_iload_n C dX3_debt_9 1 rfl ?_
  refine g_imul C dX3_debt_10 ?_
  refine g_iadd C dX3_debt_11 ?_
  refine g_iload_n C dX3_debt_12 2 rfl ?_
  refine g_iadd C dX3_debt_13 ?_
  refine gd_n hf (fun c1 hf => ?_)
  refine g_iald C aT1 rfl c1 dX3_debt_14 ?_
  exact g_iret C E rfl (re_i hf) (re_s hf) ⟨Nat.zero_le _, Nat.zero_le _⟩ dX3_debt_15
def tw_net_L4 (n : Nat) (v2 : Int32) : Nat → Sto → Int32 → Int32 → Option (Int32 × Sto)
  | 0, _, _, _ => none
  | k + 1, s1, v3, v4 =>
    gd (inb (4 : Int32) 1480) <|
    if (rd s1 1 (4 : Int32)) ≤ v4 then
      some (v3, s1)
    else
      bd (tw_debt n s1 v4 v2) fun r7 s8 =>
      bd (tw_debt n s8 v2 v4) fun r10 s11 =>
      vl (v3 + (r7 - r10)) fun v13 =>
      tw_net_L4 n v2 k s11 v13 (v4 + (1 : Int32))
def tw_net (n : Nat) (s : Sto) (a1 : Int32) : Option (Int32 × Sto) :=
  tw_net_L4 n a1
      n s (0 : Int32) (0 : Int32)
theorem w_tw_net_L4  {l : Launch} {n : Nat} {v2 : Int32} {g : Gam} {A : Nat → Prop} {X : FX} {si sF : Sto} {rF : Int32} (C : CX tCfg g A 4 X cX3_net RX3 (some .int) 2 34) (E : EX tCfg g A X si sF (some (.int rF)) 0 0) (hX : X.2.1 = l) : ∀ (k : Nat) (s1 : Sto) (v3 : Int32) (v4 : Int32), tw_net_L4 n v2 k s1 v3 v4 = some (rF, sF) → TG tCfg g A 4 X 0 0 s1 4 [(0, .ref (g.1 0)), (1, .int v2), (2, .int v3), (3, .int v4)] [] := by
  intro k
  induction k with
  | zero => intro s1 v3 v4 hf; rw [tw_net_L4] at hf; cases hf
  | succ k ih =>
    intro s1 v3 v4 hf
    rw [tw_net_L4] at hf
    refine g_iload_n C dX3_net_4 3 rfl ?_
    refine g_aload_n C dX3_net_5 0 rfl ?_
    refine g_getS 1 C oT0 fX3_7 rfl dX3_net_6 ?_
    refine g_iconst C dX3_net_9 kc_4 ?_
    refine gd_n hf (fun c5 hf => ?_)
    refine g_iald C aT1 rfl c5 dX3_net_10 ?_
    refine g_icmp_ge 36 C dX3_net_11 rfl (fun c6 => ?_) (fun c6 => ?_)
    · replace hf := if_t c6 hf
      refine g_iload_n C dX3_net_36 2 rfl ?_
      exact g_iret C E rfl (re_i hf) (re_s hf) ⟨Nat.zero_le _, Nat.zero_le _⟩ dX3_net_37
    · replace hf := if_f c6 hf
      refine g_iload_n C dX3_net_14 2 rfl ?_
      refine g_aload_n C dX3_net_15 0 rfl ?_
      refine g_iload_n C dX3_net_16 3 rfl ?_
      refine g_iload_n C dX3_net_17 1 rfl ?_
      refine bd_n hf (fun r7 s8 h9 hf => ?_)
      refine g_callV0 (As := [.int v4, .int v2]) (rest := [.int v3]) (stk := [.int r7, .int v3]) C (w_tw_debt h9) hX oT0 rfl rfl q1294 q1296 qs68 q91 q1297 mdX3_debt rfl ⟨Nat.le_of_ble_eq_true rfl, Nat.le_of_ble_eq_true rfl⟩ (Nat.le_of_ble_eq_true rfl) dX3_net_18 rfl ?_
      refine g_aload_n C dX3_net_21 0 rfl ?_
      refine g_iload_n C dX3_net_22 1 rfl ?_
      refine g_iload_n C dX3_net_23 3 rfl ?_
      refine bd_n hf (fun r10 s11 h12 hf => ?_)
      refine g_callV0 (As := [.int v2, .int v4]) (rest := [.int r7, .int v3]) (stk := [.int r10, .int r7, .int v3]) C (w_tw_debt h12) hX oT0 rfl rfl q1294 q1296 qs68 q91 q1297 mdX3_debt rfl ⟨Nat.le_of_ble_eq_true rfl, Nat.le_of_ble_eq_true rfl⟩ (Nat.le_of_ble_eq_true rfl) dX3_net_24 rfl ?_
      refine g_isub C dX3_net_27 ?_
      refine g_iadd C dX3_net_28 ?_
      refine vl_n hf (fun v13 hv13 hf => ?_)
      refine g_istore_n (i := 2) (lv' := [(2, .int v13), (0, .ref (g.1 0)), (1, .int v2), (3, .int v4)]) C dX3_net_29 rfl hv13 (by decide) rfl ?_
      refine g_iinc (q := 3) (lv' := [(3, .int (v4 + (1 : Int32))), (2, .int v13), (0, .ref (g.1 0)), (1, .int v2)]) C dX3_net_30 rfl kc_1 (by decide) rfl ?_
      refine g_goto 4 C dX3_net_33 rfl ?_
      exact g_sub [2, 3, 1, 0] rfl (ih _ _ _ hf)
theorem w_tw_net {l : Launch} {n : Nat} {s sF : Sto} {a1 : Int32} {rF : Int32} (hf : tw_net n s a1 = some (rF, sF)) : Ct tCfg l yX3_net cX3_net 4 (some .int) { frames := 2, cells := 0, slots := 0, locals := 34 } (fun g => [.ref (g.1 0), .int a1]) s sF (fun _ => some (.int rF)) := by
  refine Ct_of pn_X3 (fun g => Nat.le_of_ble_eq_true rfl) (fun g A X C E hX => ?_)
  rw [tw_net] at hf
  show TG tCfg g A 4 X 0 0 s 0 [(0, .ref (g.1 0)), (1, .int a1)] []
  refine g_iconst C dX3_net_0 kc_0 ?_
  refine g_istore_n (i := 2) (lv' := [(2, .int (0 : Int32)), (0, .ref (g.1 0)), (1, .int a1)]) C dX3_net_1 rfl rfl (by decide) rfl ?_
  refine g_iconst C dX3_net_2 kc_0 ?_
  refine g_istore_n (i := 3) (lv' := [(3, .int (0 : Int32)), (2, .int (0 : Int32)), (0, .ref (g.1 0)), (1, .int a1)]) C dX3_net_3 rfl rfl (by decide) rfl ?_
  refine g_sub [2, 3, 1, 0] rfl (w_tw_net_L4 C E hX _ _ _ _ hf)
def tw_worth_L26 (n : Nat) (v12 : Int32) (k15 : Sto → Option (Int32 × Sto)) : Nat → Sto → Int32 → Option (Int32 × Sto)
  | 0, _, _ => none
  | k + 1, s11, v13 =>
    if (4 : Int32) ≤ v13 then
      k15 s11
    else
      bd (tw_own n s11 v12 ((3 : Int32) + v13)) fun r17 s18 =>
      gd (inb ((3 : Int32) + v13) 11) <|
      vl (wr s18 8 ((3 : Int32) + v13) r17) fun s21 =>
      tw_worth_L26 n v12 k15 k s21 (v13 + (1 : Int32))
def tw_worth_L103 (n : Nat) (k41 : Sto → Int32 → Option (Int32 × Sto)) : Nat → Sto → Int32 → Option (Int32 × Sto)
  | 0, _, _ => none
  | k + 1, s37, v38 =>
    gd (inb (590 : Int32) 1480) <|
    if (rd s37 1 (590 : Int32)) ≤ v38 then
      some ((0 : Int32), s37)
    else
      gd (inb ((640 : Int32) + v38) 1480) <|
      gd (inb ((620 : Int32) + v38) 1480) <|
      if (rd s37 1 ((640 : Int32) + v38)) = (rd s37 1 ((620 : Int32) + v38)) then
        k41 s37 v38
      else
        bd (tw_comesTo n s37 (rd s37 1 ((620 : Int32) + v38)) (rd s37 1 ((640 : Int32) + v38))) fun r47 s48 =>
        if r47 = (1 : Int32) then
          k41 s48 v38
        else
          tw_worth_L103 n k41 k s48 (v38 + (1 : Int32))
def tw_worth (n : Nat) (s : Sto) (a1 : Int32) : Option (Int32 × Sto) :=
  bd (tw_own n s a1 (0 : Int32)) fun r1 s2 =>
  gd (inb (1 : Int32) 11) <|
  vl (wr s2 8 (1 : Int32) r1) fun s5 =>
  bd (tw_own n s5 a1 (1 : Int32)) fun r6 s7 =>
  gd (inb (2 : Int32) 11) <|
  vl (wr s7 8 (2 : Int32) r6) fun s10 =>
  tw_worth_L26 n a1
      (fun (s14 : Sto) =>
        bd (tw_own n s14 a1 (8 : Int32)) fun r22 s23 =>
        gd (inb (7 : Int32) 11) <|
        vl (wr s23 8 (7 : Int32) r22) fun s26 =>
        gd (inb (8 : Int32) 11) <|
        vl (wr s26 8 (8 : Int32) a1) fun s28 =>
        gd (inb (5 : Int32) 1480) <|
        gd (inb (9 : Int32) 11) <|
        vl (wr s28 8 (9 : Int32) (rd s28 1 (5 : Int32))) fun s31 =>
        bd (tw_net n s31 a1) fun r32 s33 =>
        gd (inb (10 : Int32) 11) <|
        vl (wr s33 8 (10 : Int32) (-r32)) fun s36 =>
        tw_worth_L103 n
            (fun (s39 : Sto) (v40 : Int32) =>
              gd (inb ((600 : Int32) + v40) 1480) <|
              gd (inb ((620 : Int32) + v40) 1480) <|
              bd (tw_comesTo n s39 (rd s39 1 ((600 : Int32) + v40)) (rd s39 1 ((620 : Int32) + v40))) fun r53 s54 =>
              some (r53, s54))
            n s36 (0 : Int32))
      n s10 (0 : Int32)
theorem w_tw_worth_L26  {l : Launch} {n : Nat} {v12 : Int32} {k15 : Sto → Option (Int32 × Sto)} {g : Gam} {A : Nat → Prop} {X : FX} {si sF : Sto} {rF : Int32} (C : CX tCfg g A 3 X cX3_worth RX3 (some .int) 3 60) (E : EX tCfg g A X si sF (some (.int rF)) 0 0) (hX : X.2.1 = l) (Hk15 : ∀ (s14 : Sto), k15 s14 = some (rF, sF) → TG tCfg g A 3 X 0 0 s14 53 [(0, .ref (g.1 0)), (1, .int v12)] []) : ∀ (k : Nat) (s11 : Sto) (v13 : Int32), tw_worth_L26 n v12 k15 k s11 v13 = some (rF, sF) → TG tCfg g A 3 X 0 0 s11 26 [(0, .ref (g.1 0)), (1, .int v12), (2, .int v13)] [] := by
  intro k
  induction k with
  | zero => intro s11 v13 hf; rw [tw_worth_L26] at hf; cases hf
  | succ k ih =>
    intro s11 v13 hf
    rw [tw_worth_L26] at hf
    refine g_iload_n C dX3_worth_26 2 rfl ?_
    refine g_iconst C dX3_worth_27 kc_4 ?_
    refine g_icmp_ge 53 C dX3_worth_28 rfl (fun c16 => ?_) (fun c16 => ?_)
    · replace hf := if_t c16 hf
      exact g_sub [0, 1] rfl (Hk15 _ hf)
    · replace hf := if_f c16 hf
      refine g_aload_n C dX3_worth_31 0 rfl ?_
      refine g_getS 8 C oT0 fX3_31 rfl dX3_worth_32 ?_
      refine g_iconst C dX3_worth_35 kc_3 ?_
      refine g_iload_n C dX3_worth_36 2 rfl ?_
      refine g_iadd C dX3_worth_37 ?_
      refine g_aload_n C dX3_worth_38 0 rfl ?_
      refine g_iload_n C dX3_worth_39 1 rfl ?_
      refine g_iconst C dX3_worth_40 kc_3 ?_
      refine g_iload_n C dX3_worth_41 2 rfl ?_
      refine g_iadd C dX3_worth_42 ?_
      refine bd_n hf (fun r17 s18 h19 hf => ?_)
      refine g_callV0 (As := [.int v12, .int ((3 : Int32) + v13)]) (rest := [.int ((3 : Int32) + v13), .ref (g.1 8)]) (stk := [.int r17, .int ((3 : Int32) + v13), .ref (g.1 8)]) C (w_tw_own h19) hX oT0 rfl rfl q1265 q1267 qs63 q91 q1268 mdX3_own rfl ⟨Nat.le_of_ble_eq_true rfl, Nat.le_of_ble_eq_true rfl⟩ (Nat.le_of_ble_eq_true rfl) dX3_worth_43 rfl ?_
      refine gd_n hf (fun c20 hf => ?_)
      refine vl_n hf (fun s21 hs21 hf => ?_)
      refine g_iast C aT8 rfl c20 hs21 dX3_worth_46 ?_
      refine g_iinc (q := 2) (lv' := [(2, .int (v13 + (1 : Int32))), (0, .ref (g.1 0)), (1, .int v12)]) C dX3_worth_47 rfl kc_1 (by decide) rfl ?_
      refine g_goto 26 C dX3_worth_50 rfl ?_
      exact g_sub [1, 2, 0] rfl (ih _ _ hf)
theorem w_tw_worth_L103  {l : Launch} {n : Nat} {k41 : Sto → Int32 → Option (Int32 × Sto)} {g : Gam} {A : Nat → Prop} {X : FX} {si sF : Sto} {rF : Int32} (C : CX tCfg g A 3 X cX3_worth RX3 (some .int) 3 60) (E : EX tCfg g A X si sF (some (.int rF)) 0 0) (hX : X.2.1 = l) (Hk41 : ∀ (s39 : Sto) (v40 : Int32), k41 s39 v40 = some (rF, sF) → TG tCfg g A 3 X 0 0 s39 166 [(0, .ref (g.1 0)), (2, .int v40)] []) : ∀ (k : Nat) (s37 : Sto) (v38 : Int32), tw_worth_L103 n k41 k s37 v38 = some (rF, sF) → TG tCfg g A 3 X 0 0 s37 103 [(0, .ref (g.1 0)), (2, .int v38)] [] := by
  intro k
  induction k with
  | zero => intro s37 v38 hf; rw [tw_worth_L103] at hf; cases hf
  | succ k ih =>
    intro s37 v38 hf
    rw [tw_worth_L103] at hf
    refine g_iload_n C dX3_worth_103 1 rfl ?_
    refine g_aload_n C dX3_worth_104 0 rfl ?_
    refine g_getS 1 C oT0 fX3_7 rfl dX3_worth_105 ?_
    refine g_sipush C dX3_worth_108 ks_590 ?_
    refine gd_n hf (fun c42 hf => ?_)
    refine g_iald C aT1 rfl c42 dX3_worth_111 ?_
    refine g_icmp_ge 197 C dX3_worth_112 rfl (fun c43 => ?_) (fun c43 => ?_)
    · replace hf := if_t c43 hf
      refine g_iconst C dX3_worth_197 kc_0 ?_
      exact g_iret C E rfl (re_i hf) (re_s hf) ⟨Nat.zero_le _, Nat.zero_le _⟩ dX3_worth_198
    · replace hf := if_f c43 hf
      refine g_aload_n C dX3_worth_115 0 rfl ?_
      refine g_getS 1 C oT0 fX3_7 rfl dX3_worth_116 ?_
      refine g_sipush C dX3_worth_119 ks_640 ?_
      refine g_iload_n C dX3_worth_122 1 rfl ?_
      refine g_iadd C dX3_worth_123 ?_
      refine gd_n hf (fun c44 hf => ?_)
      refine g_iald C aT1 rfl c44 dX3_worth_124 ?_
      refine g_aload_n C dX3_worth_125 0 rfl ?_
      refine g_getS 1 C oT0 fX3_7 rfl dX3_worth_126 ?_
      refine g_sipush C dX3_worth_129 ks_620 ?_
      refine g_iload_n C dX3_worth_132 1 rfl ?_
      refine g_iadd C dX3_worth_133 ?_
      refine gd_n hf (fun c45 hf => ?_)
      refine g_iald C aT1 rfl c45 dX3_worth_134 ?_
      refine g_icmp_eq 166 C dX3_worth_135 rfl (fun c46 => ?_) (fun c46 => ?_)
      · replace hf := if_t c46 hf
        exact g_sub [0, 1] rfl (Hk41 _ _ hf)
      · replace hf := if_f c46 hf
        refine g_aload_n C dX3_worth_138 0 rfl ?_
        refine g_aload_n C dX3_worth_139 0 rfl ?_
        refine g_getS 1 C oT0 fX3_7 rfl dX3_worth_140 ?_
        refine g_sipush C dX3_worth_143 ks_620 ?_
        refine g_iload_n C dX3_worth_146 1 rfl ?_
        refine g_iadd C dX3_worth_147 ?_
        refine g_iald C aT1 rfl c45 dX3_worth_148 ?_
        refine g_aload_n C dX3_worth_149 0 rfl ?_
        refine g_getS 1 C oT0 fX3_7 rfl dX3_worth_150 ?_
        refine g_sipush C dX3_worth_153 ks_640 ?_
        refine g_iload_n C dX3_worth_156 1 rfl ?_
        refine g_iadd C dX3_worth_157 ?_
        refine g_iald C aT1 rfl c44 dX3_worth_158 ?_
        refine bd_n hf (fun r47 s48 h49 hf => ?_)
        refine g_callV0 (As := [.int (rd s37 1 ((620 : Int32) + v38)), .int (rd s37 1 ((640 : Int32) + v38))]) (rest := []) (stk := [.int r47]) C (w_tw_comesTo h49) hX oT0 rfl rfl q1298 q1300 qs69 q91 q1301 mdX3_comesTo rfl ⟨Nat.le_of_ble_eq_true rfl, Nat.le_of_ble_eq_true rfl⟩ (Nat.le_of_ble_eq_true rfl) dX3_worth_159 rfl ?_
        refine g_iconst C dX3_worth_162 kc_1 ?_
        refine g_icmp_ne 191 C dX3_worth_163 rfl (fun c50 => ?_) (fun c50 => ?_)
        · replace hf := if_t c50 hf
          exact g_sub [0, 1] rfl (Hk41 _ _ hf)
        · replace hf := if_f c50 hf
          refine g_iinc (q := 1) (lv' := [(2, .int (v38 + (1 : Int32))), (0, .ref (g.1 0))]) C dX3_worth_191 rfl kc_1 (by decide) rfl ?_
          refine g_goto 103 C dX3_worth_194 rfl ?_
          exact g_sub [1, 0] rfl (ih _ _ hf)
theorem w_tw_worth {l : Launch} {n : Nat} {s sF : Sto} {a1 : Int32} {rF : Int32} (hf : tw_worth n s a1 = some (rF, sF)) : Ct tCfg l yX3_worth cX3_worth 3 (some .int) { frames := 3, cells := 0, slots := 0, locals := 60 } (fun g => [.ref (g.1 0), .int a1]) s sF (fun _ => some (.int rF)) := by
  refine Ct_of pn_X3 (fun g => Nat.le_of_ble_eq_true rfl) (fun g A X C E hX => ?_)
  rw [tw_worth] at hf
  show TG tCfg g A 3 X 0 0 s 0 [(0, .ref (g.1 0)), (1, .int a1)] []
  refine g_aload_n C dX3_worth_0 0 rfl ?_
  refine g_getS 8 C oT0 fX3_31 rfl dX3_worth_1 ?_
  refine g_iconst C dX3_worth_4 kc_1 ?_
  refine g_aload_n C dX3_worth_5 0 rfl ?_
  refine g_iload_n C dX3_worth_6 1 rfl ?_
  refine g_iconst C dX3_worth_7 kc_0 ?_
  refine bd_n hf (fun r1 s2 h3 hf => ?_)
  refine g_callV0 (As := [.int a1, .int (0 : Int32)]) (rest := [.int (1 : Int32), .ref (g.1 8)]) (stk := [.int r1, .int (1 : Int32), .ref (g.1 8)]) C (w_tw_own h3) hX oT0 rfl rfl q1265 q1267 qs63 q91 q1268 mdX3_own rfl ⟨Nat.le_of_ble_eq_true rfl, Nat.le_of_ble_eq_true rfl⟩ (Nat.le_of_ble_eq_true rfl) dX3_worth_8 rfl ?_
  refine gd_n hf (fun c4 hf => ?_)
  refine vl_n hf (fun s5 hs5 hf => ?_)
  refine g_iast C aT8 rfl c4 hs5 dX3_worth_11 ?_
  refine g_aload_n C dX3_worth_12 0 rfl ?_
  refine g_getS 8 C oT0 fX3_31 rfl dX3_worth_13 ?_
  refine g_iconst C dX3_worth_16 kc_2 ?_
  refine g_aload_n C dX3_worth_17 0 rfl ?_
  refine g_iload_n C dX3_worth_18 1 rfl ?_
  refine g_iconst C dX3_worth_19 kc_1 ?_
  refine bd_n hf (fun r6 s7 h8 hf => ?_)
  refine g_callV0 (As := [.int a1, .int (1 : Int32)]) (rest := [.int (2 : Int32), .ref (g.1 8)]) (stk := [.int r6, .int (2 : Int32), .ref (g.1 8)]) C (w_tw_own h8) hX oT0 rfl rfl q1265 q1267 qs63 q91 q1268 mdX3_own rfl ⟨Nat.le_of_ble_eq_true rfl, Nat.le_of_ble_eq_true rfl⟩ (Nat.le_of_ble_eq_true rfl) dX3_worth_20 rfl ?_
  refine gd_n hf (fun c9 hf => ?_)
  refine vl_n hf (fun s10 hs10 hf => ?_)
  refine g_iast C aT8 rfl c9 hs10 dX3_worth_23 ?_
  refine g_iconst C dX3_worth_24 kc_0 ?_
  refine g_istore_n (i := 2) (lv' := [(2, .int (0 : Int32)), (0, .ref (g.1 0)), (1, .int a1)]) C dX3_worth_25 rfl rfl (by decide) rfl ?_
  refine g_sub [1, 2, 0] rfl (w_tw_worth_L26 C E hX (fun s14 hf => ?_) _ _ _ hf)
  refine g_aload_n C dX3_worth_53 0 rfl ?_
  refine g_getS 8 C oT0 fX3_31 rfl dX3_worth_54 ?_
  refine g_bipush C dX3_worth_57 kb_7 ?_
  refine g_aload_n C dX3_worth_59 0 rfl ?_
  refine g_iload_n C dX3_worth_60 1 rfl ?_
  refine g_bipush C dX3_worth_61 kb_8 ?_
  refine bd_n hf (fun r22 s23 h24 hf => ?_)
  refine g_callV0 (As := [.int a1, .int (8 : Int32)]) (rest := [.int (7 : Int32), .ref (g.1 8)]) (stk := [.int r22, .int (7 : Int32), .ref (g.1 8)]) C (w_tw_own h24) hX oT0 rfl rfl q1265 q1267 qs63 q91 q1268 mdX3_own rfl ⟨Nat.le_of_ble_eq_true rfl, Nat.le_of_ble_eq_true rfl⟩ (Nat.le_of_ble_eq_true rfl) dX3_worth_63 rfl ?_
  refine gd_n hf (fun c25 hf => ?_)
  refine vl_n hf (fun s26 hs26 hf => ?_)
  refine g_iast C aT8 rfl c25 hs26 dX3_worth_66 ?_
  refine g_aload_n C dX3_worth_67 0 rfl ?_
  refine g_getS 8 C oT0 fX3_31 rfl dX3_worth_68 ?_
  refine g_bipush C dX3_worth_71 kb_8 ?_
  refine g_iload_n C dX3_worth_73 1 rfl ?_
  refine gd_n hf (fun c27 hf => ?_)
  refine vl_n hf (fun s28 hs28 hf => ?_)
  refine g_iast C aT8 rfl c27 hs28 dX3_worth_74 ?_
  refine g_aload_n C dX3_worth_75 0 rfl ?_
  refine g_getS 8 C oT0 fX3_31 rfl dX3_worth_76 ?_
  refine g_bipush C dX3_worth_79 kb_9 ?_
  refine g_aload_n C dX3_worth_81 0 rfl ?_
  refine g_getS 1 C oT0 fX3_7 rfl dX3_worth_82 ?_
  refine g_iconst C dX3_worth_85 kc_5 ?_
  refine gd_n hf (fun c29 hf => ?_)
  refine g_iald C aT1 rfl c29 dX3_worth_86 ?_
  refine gd_n hf (fun c30 hf => ?_)
  refine vl_n hf (fun s31 hs31 hf => ?_)
  refine g_iast C aT8 rfl c30 hs31 dX3_worth_87 ?_
  refine g_aload_n C dX3_worth_88 0 rfl ?_
  refine g_getS 8 C oT0 fX3_31 rfl dX3_worth_89 ?_
  refine g_bipush C dX3_worth_92 kb_10 ?_
  refine g_aload_n C dX3_worth_94 0 rfl ?_
  refine g_iload_n C dX3_worth_95 1 rfl ?_
  refine bd_n hf (fun r32 s33 h34 hf => ?_)
  refine g_callV0 (As := [.int a1]) (rest := [.int (10 : Int32), .ref (g.1 8)]) (stk := [.int r32, .int (10 : Int32), .ref (g.1 8)]) C (w_tw_net h34) hX oT0 rfl rfl q1290 q1292 qs67 q91 q1293 mdX3_net rfl ⟨Nat.le_of_ble_eq_true rfl, Nat.le_of_ble_eq_true rfl⟩ (Nat.le_of_ble_eq_true rfl) dX3_worth_96 rfl ?_
  refine g_ineg C dX3_worth_99 ?_
  refine gd_n hf (fun c35 hf => ?_)
  refine vl_n hf (fun s36 hs36 hf => ?_)
  refine g_iast C aT8 rfl c35 hs36 dX3_worth_100 ?_
  refine g_iconst C dX3_worth_101 kc_0 ?_
  refine g_istore_n (i := 2) (lv' := [(2, .int (0 : Int32)), (0, .ref (g.1 0)), (1, .int a1)]) C dX3_worth_102 rfl rfl (by decide) rfl ?_
  refine g_sub [1, 0] rfl (w_tw_worth_L103 C E hX (fun s39 v40 hf => ?_) _ _ _ hf)
  refine g_aload_n C dX3_worth_166 0 rfl ?_
  refine g_aload_n C dX3_worth_167 0 rfl ?_
  refine g_getS 1 C oT0 fX3_7 rfl dX3_worth_168 ?_
  refine g_sipush C dX3_worth_171 ks_600 ?_
  refine g_iload_n C dX3_worth_174 1 rfl ?_
  refine g_iadd C dX3_worth_175 ?_
  refine gd_n hf (fun c51 hf => ?_)
  refine g_iald C aT1 rfl c51 dX3_worth_176 ?_
  refine g_aload_n C dX3_worth_177 0 rfl ?_
  refine g_getS 1 C oT0 fX3_7 rfl dX3_worth_178 ?_
  refine g_sipush C dX3_worth_181 ks_620 ?_
  refine g_iload_n C dX3_worth_184 1 rfl ?_
  refine g_iadd C dX3_worth_185 ?_
  refine gd_n hf (fun c52 hf => ?_)
  refine g_iald C aT1 rfl c52 dX3_worth_186 ?_
  refine bd_n hf (fun r53 s54 h55 hf => ?_)
  refine g_callV0 (As := [.int (rd s39 1 ((600 : Int32) + v40)), .int (rd s39 1 ((620 : Int32) + v40))]) (rest := []) (stk := [.int r53]) C (w_tw_comesTo h55) hX oT0 rfl rfl q1298 q1300 qs69 q91 q1301 mdX3_comesTo rfl ⟨Nat.le_of_ble_eq_true rfl, Nat.le_of_ble_eq_true rfl⟩ (Nat.le_of_ble_eq_true rfl) dX3_worth_187 rfl ?_
  exact g_iret C E rfl (re_i hf) (re_s hf) ⟨Nat.zero_le _, Nat.zero_le _⟩ dX3_worth_190
def tw_laysOrder_L28 (n : Nat) (v16 : Bool) (v17 : Int32) (v18 : Int32) (k22 : Sto → Int32 → Option (Unit × Sto)) : Nat → Sto → Int32 → Option (Unit × Sto)
  | 0, _, _ => none
  | k + 1, s15, v19 =>
    if v19 ≤ 0 then
      k22 s15 v19
    else
      gd (inb (v19 - (1 : Int32)) 9) <|
      gd (inb (rd s15 9 (v19 - (1 : Int32))) 9) <|
      gd (inb v18 9) <|
      if (rd s15 10 v18) ≤ (rd s15 10 (rd s15 9 (v19 - (1 : Int32)))) then
        k22 s15 v19
      else
        gd (inb v19 9) <|
        vl (wr s15 9 v19 (rd s15 9 (v19 - (1 : Int32)))) fun s29 =>
        tw_laysOrder_L28 n v16 v17 v18 k22 k s29 (v19 + (-1 : Int32))
def tw_laysOrder_L9 (n : Nat) (v4 : Bool) (v5 : Int32) (k8 : Sto → Option (Unit × Sto)) : Nat → Sto → Int32 → Option (Unit × Sto)
  | 0, _, _ => none
  | k + 1, s3, v6 =>
    if v5 ≤ v6 then
      k8 s3
    else
      bd (tw_worth n s3 v6) fun r10 s11 =>
      gd (inb v6 9) <|
      vl (wr s11 10 v6 r10) fun s14 =>
      tw_laysOrder_L28 n v4 v5 v6
          (fun (s20 : Sto) (v21 : Int32) =>
            gd (inb v21 9) <|
            vl (wr s20 9 v21 v6) fun s31 =>
            tw_laysOrder_L9 n v4 v5 k8 k s31 (v6 + (1 : Int32)))
          n s14 v6
def tw_laysOrder_L118 (n : Nat) (v38 : Int32) (k43 : Sto → Int32 → Option (Unit × Sto)) : Nat → Sto → Int32 → Int32 → Option (Unit × Sto)
  | 0, _, _, _ => none
  | k + 1, s37, v39, v40 =>
    if v38 ≤ v40 then
      k43 s37 v39
    else
      bd (tw_own n s37 v40 (7 : Int32)) fun r45 s46 =>
      bd (tw_own n s46 v39 (7 : Int32)) fun r48 s49 =>
      vl (fun (v51 : Int32) =>
        tw_laysOrder_L118 n v38 k43 k s49 v51 (v40 + (1 : Int32))) fun j52 =>
      if r48 ≤ r45 then
        j52 v39
      else
        j52 v40
def tw_laysOrder_L154 (n : Nat) (v55 : Int32) (k59 : Sto → Int32 → Option (Unit × Sto)) : Nat → Sto → Int32 → Option (Unit × Sto)
  | 0, _, _ => none
  | k + 1, s54, v56 =>
    gd (inb v56 9) <|
    if (rd s54 9 v56) = v55 then
      k59 s54 v56
    else
      tw_laysOrder_L154 n v55 k59 k s54 (v56 + (1 : Int32))
def tw_laysOrder_L175 (n : Nat) (v63 : Int32) : Nat → Sto → Int32 → Option (Unit × Sto)
  | 0, _, _ => none
  | k + 1, s62, v64 =>
    if v64 ≤ 0 then
      gd (inb (0 : Int32) 9) <|
      vl (wr s62 9 (0 : Int32) v63) fun s67 =>
      some ((), s67)
    else
      gd (inb (v64 - (1 : Int32)) 9) <|
      gd (inb v64 9) <|
      vl (wr s62 9 v64 (rd s62 9 (v64 - (1 : Int32)))) fun s70 =>
      tw_laysOrder_L175 n v63 k s70 (v64 + (-1 : Int32))
def tw_laysOrder (n : Nat) (s : Sto) (a1 : Bool) : Option (Unit × Sto) :=
  gd (inb (4 : Int32) 1480) <|
  vl (rd s 1 (4 : Int32)) fun v2 =>
  tw_laysOrder_L9 n a1 v2
      (fun (s7 : Sto) =>
        if a1 = true then
          gd (inb (5 : Int32) 1480) <|
          gd (decide (¬ (7 : Int32) = 0)) <|
          if (irem (rd s7 1 (5 : Int32)) (7 : Int32)) = 0 then
            if v2 = 0 then
              some ((), s7)
            else
              tw_laysOrder_L118 n v2
                  (fun (s41 : Sto) (v42 : Int32) =>
                    tw_laysOrder_L154 n v42
                        (fun (s57 : Sto) (v58 : Int32) =>
                          tw_laysOrder_L175 n v42
                              n s57 v58)
                        n s41 (0 : Int32))
                  n s7 (0 : Int32) (1 : Int32)
          else
            some ((), s7)
        else
          some ((), s7))
      n s (0 : Int32)
theorem w_tw_laysOrder_L28  {l : Launch} {n : Nat} {v16 : Bool} {v17 : Int32} {v18 : Int32} {k22 : Sto → Int32 → Option (Unit × Sto)} {g : Gam} {A : Nat → Prop} {X : FX} {si sF : Sto} {rF : Unit} (C : CX tCfg g A 6 X cX3_laysOrder RX3 none 4 82) (E : EX tCfg g A X si sF none 0 0) (hX : X.2.1 = l) (Hk22 : ∀ (s20 : Sto) (v21 : Int32), k22 s20 v21 = some (rF, sF) → TG tCfg g A 6 X 0 0 s20 78 [(0, .ref (g.1 0)), (1, .int (bI v16)), (2, .int v17), (3, .int v18), (4, .int v21)] []) : ∀ (k : Nat) (s15 : Sto) (v19 : Int32), tw_laysOrder_L28 n v16 v17 v18 k22 k s15 v19 = some (rF, sF) → TG tCfg g A 6 X 0 0 s15 28 [(0, .ref (g.1 0)), (1, .int (bI v16)), (2, .int v17), (3, .int v18), (4, .int v19)] [] := by
  intro k
  induction k with
  | zero => intro s15 v19 hf; rw [tw_laysOrder_L28] at hf; cases hf
  | succ k ih =>
    intro s15 v19 hf
    rw [tw_laysOrder_L28] at hf
    refine g_iload C dX3_laysOrder_28 4 rfl ?_
    refine g_if_le 78 C dX3_laysOrder_30 rfl (fun c23 => ?_) (fun c23 => ?_)
    · replace hf := if_t c23 hf
      exact g_sub [0, 1, 2, 3, 4] rfl (Hk22 _ _ hf)
    · replace hf := if_f c23 hf
      refine g_aload_n C dX3_laysOrder_33 0 rfl ?_
      refine g_getS 10 C oT0 fX3_41 rfl dX3_laysOrder_34 ?_
      refine g_aload_n C dX3_laysOrder_37 0 rfl ?_
      refine g_getS 9 C oT0 fX3_38 rfl dX3_laysOrder_38 ?_
      refine g_iload C dX3_laysOrder_41 4 rfl ?_
      refine g_iconst C dX3_laysOrder_43 kc_1 ?_
      refine g_isub C dX3_laysOrder_44 ?_
      refine gd_n hf (fun c24 hf => ?_)
      refine g_iald C aT9 rfl c24 dX3_laysOrder_45 ?_
      refine gd_n hf (fun c25 hf => ?_)
      refine g_iald C aT10 rfl c25 dX3_laysOrder_46 ?_
      refine g_aload_n C dX3_laysOrder_47 0 rfl ?_
      refine g_getS 10 C oT0 fX3_41 rfl dX3_laysOrder_48 ?_
      refine g_iload_n C dX3_laysOrder_51 3 rfl ?_
      refine gd_n hf (fun c26 hf => ?_)
      refine g_iald C aT10 rfl c26 dX3_laysOrder_52 ?_
      refine g_icmp_ge 78 C dX3_laysOrder_53 rfl (fun c27 => ?_) (fun c27 => ?_)
      · replace hf := if_t c27 hf
        exact g_sub [0, 1, 2, 3, 4] rfl (Hk22 _ _ hf)
      · replace hf := if_f c27 hf
        refine g_aload_n C dX3_laysOrder_56 0 rfl ?_
        refine g_getS 9 C oT0 fX3_38 rfl dX3_laysOrder_57 ?_
        refine g_iload C dX3_laysOrder_60 4 rfl ?_
        refine g_aload_n C dX3_laysOrder_62 0 rfl ?_
        refine g_getS 9 C oT0 fX3_38 rfl dX3_laysOrder_63 ?_
        refine g_iload C dX3_laysOrder_66 4 rfl ?_
        refine g_iconst C dX3_laysOrder_68 kc_1 ?_
        refine g_isub C dX3_laysOrder_69 ?_
        refine g_iald C aT9 rfl c24 dX3_laysOrder_70 ?_
        refine gd_n hf (fun c28 hf => ?_)
        refine vl_n hf (fun s29 hs29 hf => ?_)
        refine g_iast C aT9 rfl c28 hs29 dX3_laysOrder_71 ?_
        refine g_iinc (q := 4) (lv' := [(4, .int (v19 + (-1 : Int32))), (0, .ref (g.1 0)), (1, .int (bI v16)), (2, .int v17), (3, .int v18)]) C dX3_laysOrder_72 rfl kc_m1 (by decide) rfl ?_
        refine g_goto 28 C dX3_laysOrder_75 rfl ?_
        exact g_sub [1, 2, 3, 4, 0] rfl (ih _ _ hf)
theorem w_tw_laysOrder_L9  {l : Launch} {n : Nat} {v4 : Bool} {v5 : Int32} {k8 : Sto → Option (Unit × Sto)} {g : Gam} {A : Nat → Prop} {X : FX} {si sF : Sto} {rF : Unit} (C : CX tCfg g A 6 X cX3_laysOrder RX3 none 4 82) (E : EX tCfg g A X si sF none 0 0) (hX : X.2.1 = l) (Hk8 : ∀ (s7 : Sto), k8 s7 = some (rF, sF) → TG tCfg g A 6 X 0 0 s7 92 [(0, .ref (g.1 0)), (1, .int (bI v4)), (2, .int v5)] []) : ∀ (k : Nat) (s3 : Sto) (v6 : Int32), tw_laysOrder_L9 n v4 v5 k8 k s3 v6 = some (rF, sF) → TG tCfg g A 6 X 0 0 s3 9 [(0, .ref (g.1 0)), (1, .int (bI v4)), (2, .int v5), (3, .int v6)] [] := by
  intro k
  induction k with
  | zero => intro s3 v6 hf; rw [tw_laysOrder_L9] at hf; cases hf
  | succ k ih =>
    intro s3 v6 hf
    rw [tw_laysOrder_L9] at hf
    refine g_iload_n C dX3_laysOrder_9 3 rfl ?_
    refine g_iload_n C dX3_laysOrder_10 2 rfl ?_
    refine g_icmp_ge 92 C dX3_laysOrder_11 rfl (fun c9 => ?_) (fun c9 => ?_)
    · replace hf := if_t c9 hf
      exact g_sub [0, 1, 2] rfl (Hk8 _ hf)
    · replace hf := if_f c9 hf
      refine g_aload_n C dX3_laysOrder_14 0 rfl ?_
      refine g_getS 10 C oT0 fX3_41 rfl dX3_laysOrder_15 ?_
      refine g_iload_n C dX3_laysOrder_18 3 rfl ?_
      refine g_aload_n C dX3_laysOrder_19 0 rfl ?_
      refine g_iload_n C dX3_laysOrder_20 3 rfl ?_
      refine bd_n hf (fun r10 s11 h12 hf => ?_)
      refine g_callV0 (As := [.int v6]) (rest := [.int v6, .ref (g.1 10)]) (stk := [.int r10, .int v6, .ref (g.1 10)]) C (w_tw_worth h12) hX oT0 rfl rfl q1286 q1288 qs66 q91 q1289 mdX3_worth rfl ⟨Nat.le_of_ble_eq_true rfl, Nat.le_of_ble_eq_true rfl⟩ (Nat.le_of_ble_eq_true rfl) dX3_laysOrder_21 rfl ?_
      refine gd_n hf (fun c13 hf => ?_)
      refine vl_n hf (fun s14 hs14 hf => ?_)
      refine g_iast C aT10 rfl c13 hs14 dX3_laysOrder_24 ?_
      refine g_iload_n C dX3_laysOrder_25 3 rfl ?_
      refine g_istore (i := 4) (lv' := [(4, .int v6), (0, .ref (g.1 0)), (1, .int (bI v4)), (2, .int v5), (3, .int v6)]) C dX3_laysOrder_26 rfl (by decide) rfl ?_
      refine g_sub [1, 2, 3, 4, 0] rfl (w_tw_laysOrder_L28 C E hX (fun s20 v21 hf => ?_) _ _ _ hf)
      refine g_aload_n C dX3_laysOrder_78 0 rfl ?_
      refine g_getS 9 C oT0 fX3_38 rfl dX3_laysOrder_79 ?_
      refine g_iload C dX3_laysOrder_82 4 rfl ?_
      refine g_iload_n C dX3_laysOrder_84 3 rfl ?_
      refine gd_n hf (fun c30 hf => ?_)
      refine vl_n hf (fun s31 hs31 hf => ?_)
      refine g_iast C aT9 rfl c30 hs31 dX3_laysOrder_85 ?_
      refine g_iinc (q := 3) (lv' := [(3, .int (v6 + (1 : Int32))), (0, .ref (g.1 0)), (1, .int (bI v4)), (2, .int v5), (4, .int v21)]) C dX3_laysOrder_86 rfl kc_1 (by decide) rfl ?_
      refine g_goto 9 C dX3_laysOrder_89 rfl ?_
      exact g_sub [1, 2, 3, 0] rfl (ih _ _ hf)
theorem w_tw_laysOrder_L118  {l : Launch} {n : Nat} {v38 : Int32} {k43 : Sto → Int32 → Option (Unit × Sto)} {g : Gam} {A : Nat → Prop} {X : FX} {si sF : Sto} {rF : Unit} (C : CX tCfg g A 6 X cX3_laysOrder RX3 none 4 82) (E : EX tCfg g A X si sF none 0 0) (hX : X.2.1 = l) (Hk43 : ∀ (s41 : Sto) (v42 : Int32), k43 s41 v42 = some (rF, sF) → TG tCfg g A 6 X 0 0 s41 151 [(0, .ref (g.1 0)), (3, .int v42)] []) : ∀ (k : Nat) (s37 : Sto) (v39 : Int32) (v40 : Int32), tw_laysOrder_L118 n v38 k43 k s37 v39 v40 = some (rF, sF) → TG tCfg g A 6 X 0 0 s37 118 [(0, .ref (g.1 0)), (2, .int v38), (3, .int v39), (4, .int v40)] [] := by
  intro k
  induction k with
  | zero => intro s37 v39 v40 hf; rw [tw_laysOrder_L118] at hf; cases hf
  | succ k ih =>
    intro s37 v39 v40 hf
    rw [tw_laysOrder_L118] at hf
    refine g_iload C dX3_laysOrder_118 3 rfl ?_
    refine g_iload_n C dX3_laysOrder_120 1 rfl ?_
    refine g_icmp_ge 151 C dX3_laysOrder_121 rfl (fun c44 => ?_) (fun c44 => ?_)
    · replace hf := if_t c44 hf
      exact g_sub [0, 2] rfl (Hk43 _ _ hf)
    · replace hf := if_f c44 hf
      refine g_aload_n C dX3_laysOrder_124 0 rfl ?_
      refine g_iload C dX3_laysOrder_125 3 rfl ?_
      refine g_bipush C dX3_laysOrder_127 kb_7 ?_
      refine bd_n hf (fun r45 s46 h47 hf => ?_)
      refine g_callV0 (As := [.int v40, .int (7 : Int32)]) (rest := []) (stk := [.int r45]) C (w_tw_own h47) hX oT0 rfl rfl q1265 q1267 qs63 q91 q1268 mdX3_own rfl ⟨Nat.le_of_ble_eq_true rfl, Nat.le_of_ble_eq_true rfl⟩ (Nat.le_of_ble_eq_true rfl) dX3_laysOrder_129 rfl ?_
      refine g_aload_n C dX3_laysOrder_132 0 rfl ?_
      refine g_iload_n C dX3_laysOrder_133 2 rfl ?_
      refine g_bipush C dX3_laysOrder_134 kb_7 ?_
      refine bd_n hf (fun r48 s49 h50 hf => ?_)
      refine g_callV0 (As := [.int v39, .int (7 : Int32)]) (rest := [.int r45]) (stk := [.int r48, .int r45]) C (w_tw_own h50) hX oT0 rfl rfl q1265 q1267 qs63 q91 q1268 mdX3_own rfl ⟨Nat.le_of_ble_eq_true rfl, Nat.le_of_ble_eq_true rfl⟩ (Nat.le_of_ble_eq_true rfl) dX3_laysOrder_136 rfl ?_
      refine vl_n hf (fun j52 hj52 hf => ?_)
      have Hj52 : ∀ (v51 : Int32), j52 v51 = some (rF, sF) → TG tCfg g A 6 X 0 0 s49 145 [(0, .ref (g.1 0)), (2, .int v38), (3, .int v51), (4, .int v40)] [] := by
        clear hf; subst hj52
        intro v51 hf
        refine g_iinc (q := 3) (lv' := [(4, .int (v40 + (1 : Int32))), (0, .ref (g.1 0)), (2, .int v38), (3, .int v51)]) C dX3_laysOrder_145 rfl kc_1 (by decide) rfl ?_
        refine g_goto 118 C dX3_laysOrder_148 rfl ?_
        exact g_sub [1, 2, 3, 0] rfl (ih _ _ _ hf)
      clear hj52
      refine g_icmp_ge 145 C dX3_laysOrder_139 rfl (fun c53 => ?_) (fun c53 => ?_)
      · replace hf := if_t c53 hf
        exact g_sub [0, 1, 2, 3] rfl (Hj52 _ hf)
      · replace hf := if_f c53 hf
        refine g_iload C dX3_laysOrder_142 3 rfl ?_
        refine g_istore_n (i := 3) (lv' := [(3, .int v40), (0, .ref (g.1 0)), (2, .int v38), (4, .int v40)]) C dX3_laysOrder_144 rfl rfl (by decide) rfl ?_
        exact g_sub [1, 2, 0, 3] rfl (Hj52 _ hf)
theorem w_tw_laysOrder_L154  {l : Launch} {n : Nat} {v55 : Int32} {k59 : Sto → Int32 → Option (Unit × Sto)} {g : Gam} {A : Nat → Prop} {X : FX} {si sF : Sto} {rF : Unit} (C : CX tCfg g A 6 X cX3_laysOrder RX3 none 4 82) (E : EX tCfg g A X si sF none 0 0) (hX : X.2.1 = l) (Hk59 : ∀ (s57 : Sto) (v58 : Int32), k59 s57 v58 = some (rF, sF) → TG tCfg g A 6 X 0 0 s57 171 [(0, .ref (g.1 0)), (3, .int v55), (4, .int v58)] []) : ∀ (k : Nat) (s54 : Sto) (v56 : Int32), tw_laysOrder_L154 n v55 k59 k s54 v56 = some (rF, sF) → TG tCfg g A 6 X 0 0 s54 154 [(0, .ref (g.1 0)), (3, .int v55), (4, .int v56)] [] := by
  intro k
  induction k with
  | zero => intro s54 v56 hf; rw [tw_laysOrder_L154] at hf; cases hf
  | succ k ih =>
    intro s54 v56 hf
    rw [tw_laysOrder_L154] at hf
    refine g_aload_n C dX3_laysOrder_154 0 rfl ?_
    refine g_getS 9 C oT0 fX3_38 rfl dX3_laysOrder_155 ?_
    refine g_iload C dX3_laysOrder_158 2 rfl ?_
    refine gd_n hf (fun c60 hf => ?_)
    refine g_iald C aT9 rfl c60 dX3_laysOrder_160 ?_
    refine g_iload_n C dX3_laysOrder_161 1 rfl ?_
    refine g_icmp_eq 171 C dX3_laysOrder_162 rfl (fun c61 => ?_) (fun c61 => ?_)
    · replace hf := if_t c61 hf
      exact g_sub [0, 1, 2] rfl (Hk59 _ _ hf)
    · replace hf := if_f c61 hf
      refine g_iinc (q := 2) (lv' := [(4, .int (v56 + (1 : Int32))), (0, .ref (g.1 0)), (3, .int v55)]) C dX3_laysOrder_165 rfl kc_1 (by decide) rfl ?_
      refine g_goto 154 C dX3_laysOrder_168 rfl ?_
      exact g_sub [1, 2, 0] rfl (ih _ _ hf)
theorem w_tw_laysOrder_L175  {l : Launch} {n : Nat} {v63 : Int32} {g : Gam} {A : Nat → Prop} {X : FX} {si sF : Sto} {rF : Unit} (C : CX tCfg g A 6 X cX3_laysOrder RX3 none 4 82) (E : EX tCfg g A X si sF none 0 0) (hX : X.2.1 = l) : ∀ (k : Nat) (s62 : Sto) (v64 : Int32), tw_laysOrder_L175 n v63 k s62 v64 = some (rF, sF) → TG tCfg g A 6 X 0 0 s62 175 [(0, .ref (g.1 0)), (3, .int v63), (5, .int v64)] [] := by
  intro k
  induction k with
  | zero => intro s62 v64 hf; rw [tw_laysOrder_L175] at hf; cases hf
  | succ k ih =>
    intro s62 v64 hf
    rw [tw_laysOrder_L175] at hf
    refine g_iload C dX3_laysOrder_175 2 rfl ?_
    refine g_if_le 202 C dX3_laysOrder_177 rfl (fun c65 => ?_) (fun c65 => ?_)
    · replace hf := if_t c65 hf
      refine g_aload_n C dX3_laysOrder_202 0 rfl ?_
      refine g_getS 9 C oT0 fX3_38 rfl dX3_laysOrder_203 ?_
      refine g_iconst C dX3_laysOrder_206 kc_0 ?_
      refine g_iload_n C dX3_laysOrder_207 1 rfl ?_
      refine gd_n hf (fun c66 hf => ?_)
      refine vl_n hf (fun s67 hs67 hf => ?_)
      refine g_iast C aT9 rfl c66 hs67 dX3_laysOrder_208 ?_
      exact g_vret C E rfl (re_s hf) ⟨Nat.zero_le _, Nat.zero_le _⟩ dX3_laysOrder_209
    · replace hf := if_f c65 hf
      refine g_aload_n C dX3_laysOrder_180 0 rfl ?_
      refine g_getS 9 C oT0 fX3_38 rfl dX3_laysOrder_181 ?_
      refine g_iload C dX3_laysOrder_184 2 rfl ?_
      refine g_aload_n C dX3_laysOrder_186 0 rfl ?_
      refine g_getS 9 C oT0 fX3_38 rfl dX3_laysOrder_187 ?_
      refine g_iload C dX3_laysOrder_190 2 rfl ?_
      refine g_iconst C dX3_laysOrder_192 kc_1 ?_
      refine g_isub C dX3_laysOrder_193 ?_
      refine gd_n hf (fun c68 hf => ?_)
      refine g_iald C aT9 rfl c68 dX3_laysOrder_194 ?_
      refine gd_n hf (fun c69 hf => ?_)
      refine vl_n hf (fun s70 hs70 hf => ?_)
      refine g_iast C aT9 rfl c69 hs70 dX3_laysOrder_195 ?_
      refine g_iinc (q := 2) (lv' := [(5, .int (v64 + (-1 : Int32))), (0, .ref (g.1 0)), (3, .int v63)]) C dX3_laysOrder_196 rfl kc_m1 (by decide) rfl ?_
      refine g_goto 175 C dX3_laysOrder_199 rfl ?_
      exact g_sub [1, 2, 0] rfl (ih _ _ hf)
theorem w_tw_laysOrder {l : Launch} {n : Nat} {s sF : Sto} {a1 : Bool} {rF : Unit} (hf : tw_laysOrder n s a1 = some (rF, sF)) : Ct tCfg l yX3_laysOrder cX3_laysOrder 6 none { frames := 4, cells := 0, slots := 0, locals := 82 } (fun g => [.ref (g.1 0), .int (bI a1)]) s sF (fun _ => none) := by
  refine Ct_of pn_X3 (fun g => Nat.le_of_ble_eq_true rfl) (fun g A X C E hX => ?_)
  rw [tw_laysOrder] at hf
  show TG tCfg g A 6 X 0 0 s 0 [(0, .ref (g.1 0)), (1, .int (bI a1))] []
  refine g_aload_n C dX3_laysOrder_0 0 rfl ?_
  refine g_getS 1 C oT0 fX3_7 rfl dX3_laysOrder_1 ?_
  refine g_iconst C dX3_laysOrder_4 kc_4 ?_
  refine gd_n hf (fun c1 hf => ?_)
  refine g_iald C aT1 rfl c1 dX3_laysOrder_5 ?_
  refine vl_n hf (fun v2 hv2 hf => ?_)
  refine g_istore_n (i := 2) (lv' := [(2, .int v2), (0, .ref (g.1 0)), (1, .int (bI a1))]) C dX3_laysOrder_6 rfl hv2 (by decide) rfl ?_
  refine g_iconst C dX3_laysOrder_7 kc_0 ?_
  refine g_istore_n (i := 3) (lv' := [(3, .int (0 : Int32)), (2, .int v2), (0, .ref (g.1 0)), (1, .int (bI a1))]) C dX3_laysOrder_8 rfl rfl (by decide) rfl ?_
  refine g_sub [2, 3, 1, 0] rfl (w_tw_laysOrder_L9 C E hX (fun s7 hf => ?_) _ _ _ hf)
  refine g_iload_n C dX3_laysOrder_92 1 rfl ?_
  refine g_ifZ_eq 112 C dX3_laysOrder_93 rfl (fun c32 => ?_) (fun c32 => ?_)
  · replace hf := if_t c32 hf
    refine g_aload_n C dX3_laysOrder_96 0 rfl ?_
    refine g_getS 1 C oT0 fX3_7 rfl dX3_laysOrder_97 ?_
    refine g_iconst C dX3_laysOrder_100 kc_5 ?_
    refine gd_n hf (fun c33 hf => ?_)
    refine g_iald C aT1 rfl c33 dX3_laysOrder_101 ?_
    refine g_bipush C dX3_laysOrder_102 kb_7 ?_
    refine gd_n hf (fun c34 hf => ?_)
    refine g_irem C dX3_laysOrder_104 c34 ?_
    refine g_if_ne 112 C dX3_laysOrder_105 rfl (fun c35 => ?_) (fun c35 => ?_)
    · replace hf := if_t c35 hf
      refine g_iload_n C dX3_laysOrder_108 2 rfl ?_
      refine g_if_ne 113 C dX3_laysOrder_109 rfl (fun c36 => ?_) (fun c36 => ?_)
      · replace hf := if_t c36 hf
        exact g_vret C E rfl (re_s hf) ⟨Nat.zero_le _, Nat.zero_le _⟩ dX3_laysOrder_112
      · replace hf := if_f c36 hf
        refine g_iconst C dX3_laysOrder_113 kc_0 ?_
        refine g_istore_n (i := 3) (lv' := [(3, .int (0 : Int32)), (0, .ref (g.1 0)), (1, .int (bI a1)), (2, .int v2)]) C dX3_laysOrder_114 rfl rfl (by decide) rfl ?_
        refine g_iconst C dX3_laysOrder_115 kc_1 ?_
        refine g_istore (i := 4) (lv' := [(4, .int (1 : Int32)), (3, .int (0 : Int32)), (0, .ref (g.1 0)), (1, .int (bI a1)), (2, .int v2)]) C dX3_laysOrder_116 rfl (by decide) rfl ?_
        refine g_sub [2, 4, 1, 0] rfl (w_tw_laysOrder_L118 C E hX (fun s41 v42 hf => ?_) _ _ _ _ hf)
        refine g_iconst C dX3_laysOrder_151 kc_0 ?_
        refine g_istore (i := 4) (lv' := [(4, .int (0 : Int32)), (0, .ref (g.1 0)), (3, .int v42)]) C dX3_laysOrder_152 rfl (by decide) rfl ?_
        refine g_sub [1, 2, 0] rfl (w_tw_laysOrder_L154 C E hX (fun s57 v58 hf => ?_) _ _ _ hf)
        refine g_iload C dX3_laysOrder_171 2 rfl ?_
        refine g_istore (i := 5) (lv' := [(5, .int v58), (0, .ref (g.1 0)), (3, .int v42), (4, .int v58)]) C dX3_laysOrder_173 rfl (by decide) rfl ?_
        refine g_sub [1, 2, 0] rfl (w_tw_laysOrder_L175 C E hX _ _ _ hf)
    · replace hf := if_f c35 hf
      exact g_vret C E rfl (re_s hf) ⟨Nat.zero_le _, Nat.zero_le _⟩ dX3_laysOrder_112
  · replace hf := if_f c32 hf
    exact g_vret C E rfl (re_s hf) ⟨Nat.zero_le _, Nat.zero_le _⟩ dX3_laysOrder_112
def tw_order (n : Nat) (s : Sto) (a1 : Int32) : Option (Int32 × Sto) :=
  bd (tw_isHouse n s a1) fun r1 s2 =>
  if r1 = true then
    bd (tw_laysOrder n s2 true) fun r5 s6 =>
    gd (inb a1 9) <|
    some ((rd s6 9 a1), s6)
  else
    some ((-1 : Int32), s2)
theorem w_tw_order {l : Launch} {n : Nat} {s sF : Sto} {a1 : Int32} {rF : Int32} (hf : tw_order n s a1 = some (rF, sF)) : Ct tCfg l yX3_order cX3_order 2 (some .int) { frames := 5, cells := 0, slots := 0, locals := 107 } (fun g => [.ref (g.1 0), .int a1]) s sF (fun _ => some (.int rF)) := by
  refine Ct_of pn_X3 (fun g => Nat.le_of_ble_eq_true rfl) (fun g A X C E hX => ?_)
  rw [tw_order] at hf
  show TG tCfg g A 2 X 0 0 s 0 [(0, .ref (g.1 0)), (1, .int a1)] []
  refine g_aload_n C dX3_order_0 0 rfl ?_
  refine g_iload_n C dX3_order_1 1 rfl ?_
  refine bd_n hf (fun r1 s2 h3 hf => ?_)
  refine g_callV0 (As := [.int a1]) (rest := []) (stk := [.int (bI r1)]) C (w_tw_isHouse h3) hX oT0 rfl rfl q1260 q1262 qs62 q91 q1263 mdX3_isHouse rfl ⟨Nat.le_of_ble_eq_true rfl, Nat.le_of_ble_eq_true rfl⟩ (Nat.le_of_ble_eq_true rfl) dX3_order_2 rfl ?_
  refine g_ifZ_ne 10 C dX3_order_5 rfl (fun c4 => ?_) (fun c4 => ?_)
  · replace hf := if_t c4 hf
    refine g_aload_n C dX3_order_10 0 rfl ?_
    refine g_iconst C dX3_order_11 kc_1 ?_
    refine bd_n hf (fun r5 s6 h7 hf => ?_)
    refine g_callV0 (As := [.int (bI true)]) (rest := []) (stk := []) C (w_tw_laysOrder h7) hX oT0 rfl rfl q1282 q1284 qs65 q91 q1285 mdX3_laysOrder rfl ⟨Nat.le_of_ble_eq_true rfl, Nat.le_of_ble_eq_true rfl⟩ (Nat.le_of_ble_eq_true rfl) dX3_order_12 rfl ?_
    refine g_aload_n C dX3_order_15 0 rfl ?_
    refine g_getS 9 C oT0 fX3_38 rfl dX3_order_16 ?_
    refine g_iload_n C dX3_order_19 1 rfl ?_
    refine gd_n hf (fun c8 hf => ?_)
    refine g_iald C aT9 rfl c8 dX3_order_20 ?_
    exact g_iret C E rfl (re_i hf) (re_s hf) ⟨Nat.zero_le _, Nat.zero_le _⟩ dX3_order_21
  · replace hf := if_f c4 hf
    refine g_iconst C dX3_order_8 kc_m1 ?_
    exact g_iret C E rfl (re_i hf) (re_s hf) ⟨Nat.zero_le _, Nat.zero_le _⟩ dX3_order_9
def tw_loaf (n : Nat) (s : Sto) (a1 : Int32) : Option (Int32 × Sto) :=
  bd (tw_own n s a1 (3 : Int32)) fun r1 s2 =>
  bd (tw_own n s2 a1 (0 : Int32)) fun r4 s5 =>
  if r4 ≤ r1 then
    bd (tw_own n s5 a1 (0 : Int32)) fun r8 s9 =>
    some (r8, s9)
  else
    bd (tw_own n s5 a1 (3 : Int32)) fun r11 s12 =>
    some (r11, s12)
theorem w_tw_loaf {l : Launch} {n : Nat} {s sF : Sto} {a1 : Int32} {rF : Int32} (hf : tw_loaf n s a1 = some (rF, sF)) : Ct tCfg l yX3_loaf cX3_loaf 2 (some .int) { frames := 2, cells := 0, slots := 0, locals := 34 } (fun g => [.ref (g.1 0), .int a1]) s sF (fun _ => some (.int rF)) := by
  refine Ct_of pn_X3 (fun g => Nat.le_of_ble_eq_true rfl) (fun g A X C E hX => ?_)
  rw [tw_loaf] at hf
  show TG tCfg g A 2 X 0 0 s 0 [(0, .ref (g.1 0)), (1, .int a1)] []
  refine g_aload_n C dX3_loaf_0 0 rfl ?_
  refine g_iload_n C dX3_loaf_1 1 rfl ?_
  refine g_iconst C dX3_loaf_2 kc_3 ?_
  refine bd_n hf (fun r1 s2 h3 hf => ?_)
  refine g_callV0 (As := [.int a1, .int (3 : Int32)]) (rest := []) (stk := [.int r1]) C (w_tw_own h3) hX oT0 rfl rfl q1265 q1267 qs63 q91 q1268 mdX3_own rfl ⟨Nat.le_of_ble_eq_true rfl, Nat.le_of_ble_eq_true rfl⟩ (Nat.le_of_ble_eq_true rfl) dX3_loaf_3 rfl ?_
  refine g_aload_n C dX3_loaf_6 0 rfl ?_
  refine g_iload_n C dX3_loaf_7 1 rfl ?_
  refine g_iconst C dX3_loaf_8 kc_0 ?_
  refine bd_n hf (fun r4 s5 h6 hf => ?_)
  refine g_callV0 (As := [.int a1, .int (0 : Int32)]) (rest := [.int r1]) (stk := [.int r4, .int r1]) C (w_tw_own h6) hX oT0 rfl rfl q1265 q1267 qs63 q91 q1268 mdX3_own rfl ⟨Nat.le_of_ble_eq_true rfl, Nat.le_of_ble_eq_true rfl⟩ (Nat.le_of_ble_eq_true rfl) dX3_loaf_9 rfl ?_
  refine g_icmp_ge 24 C dX3_loaf_12 rfl (fun c7 => ?_) (fun c7 => ?_)
  · replace hf := if_t c7 hf
    refine g_aload_n C dX3_loaf_24 0 rfl ?_
    refine g_iload_n C dX3_loaf_25 1 rfl ?_
    refine g_iconst C dX3_loaf_26 kc_0 ?_
    refine bd_n hf (fun r8 s9 h10 hf => ?_)
    refine g_callV0 (As := [.int a1, .int (0 : Int32)]) (rest := []) (stk := [.int r8]) C (w_tw_own h10) hX oT0 rfl rfl q1265 q1267 qs63 q91 q1268 mdX3_own rfl ⟨Nat.le_of_ble_eq_true rfl, Nat.le_of_ble_eq_true rfl⟩ (Nat.le_of_ble_eq_true rfl) dX3_loaf_27 rfl ?_
    exact g_iret C E rfl (re_i hf) (re_s hf) ⟨Nat.zero_le _, Nat.zero_le _⟩ dX3_loaf_30
  · replace hf := if_f c7 hf
    refine g_aload_n C dX3_loaf_15 0 rfl ?_
    refine g_iload_n C dX3_loaf_16 1 rfl ?_
    refine g_iconst C dX3_loaf_17 kc_3 ?_
    refine bd_n hf (fun r11 s12 h13 hf => ?_)
    refine g_callV0 (As := [.int a1, .int (3 : Int32)]) (rest := []) (stk := [.int r11]) C (w_tw_own h13) hX oT0 rfl rfl q1265 q1267 qs63 q91 q1268 mdX3_own rfl ⟨Nat.le_of_ble_eq_true rfl, Nat.le_of_ble_eq_true rfl⟩ (Nat.le_of_ble_eq_true rfl) dX3_loaf_18 rfl ?_
    refine g_goto 30 C dX3_loaf_21 rfl ?_
    exact g_iret C E rfl (re_i hf) (re_s hf) ⟨Nat.zero_le _, Nat.zero_le _⟩ dX3_loaf_30
def tw_heats (n : Nat) (s : Sto) (a1 : Int32) : Option (Int32 × Sto) :=
  bd (tw_loaf n s a1) fun r1 s2 =>
  if r1 = 0 then
    some ((0 : Int32), s2)
  else
    bd (tw_own n s2 a1 (1 : Int32)) fun r5 s6 =>
    vl (fun (s8 : Sto) (t9 : Int32) =>
      gd (inb (0 : Int32) 1480) <|
      gd (inb (1 : Int32) 1480) <|
      bd (tw_own n s8 a1 (2 : Int32)) fun r13 s14 =>
      vl (sI s14 0 24 ((s8.1 0 24) + ((t9 * (rd s8 1 (0 : Int32))) - ((rd s8 1 (1 : Int32)) * r13)))) fun s16 =>
      if 0 ≤ (s16.1 0 24) then
        vl (sI s16 0 24 (s16.1 0 24)) fun s18 =>
        some (t9, s18)
      else
        vl (sI s16 0 24 (0 : Int32)) fun s19 =>
        some (t9, s19)) fun j10 =>
    if (s2.1 0 24) < r5 then
      bd (tw_own n s6 a1 (1 : Int32)) fun r21 s22 =>
      gd (inb (0 : Int32) 1480) <|
      gd (decide (¬ (rd s22 1 (0 : Int32)) = 0)) <|
      j10 s22 ((((r21 - (s22.1 0 24)) + (rd s22 1 (0 : Int32))) - (1 : Int32)) / (rd s22 1 (0 : Int32)))
    else
      j10 s6 (0 : Int32)
theorem w_tw_heats {l : Launch} {n : Nat} {s sF : Sto} {a1 : Int32} {rF : Int32} (hf : tw_heats n s a1 = some (rF, sF)) : Ct tCfg l yX3_heats cX3_heats 3 (some .int) { frames := 3, cells := 0, slots := 0, locals := 55 } (fun g => [.ref (g.1 0), .int a1]) s sF (fun _ => some (.int rF)) := by
  refine Ct_of pn_X3 (fun g => Nat.le_of_ble_eq_true rfl) (fun g A X C E hX => ?_)
  rw [tw_heats] at hf
  show TG tCfg g A 3 X 0 0 s 0 [(0, .ref (g.1 0)), (1, .int a1)] []
  refine g_aload_n C dX3_heats_0 0 rfl ?_
  refine g_iload_n C dX3_heats_1 1 rfl ?_
  refine bd_n hf (fun r1 s2 h3 hf => ?_)
  refine g_callV0 (As := [.int a1]) (rest := []) (stk := [.int r1]) C (w_tw_loaf h3) hX oT0 rfl rfl q1319 q1321 qs72 q91 q1322 mdX3_loaf rfl ⟨Nat.le_of_ble_eq_true rfl, Nat.le_of_ble_eq_true rfl⟩ (Nat.le_of_ble_eq_true rfl) dX3_heats_2 rfl ?_
  refine g_if_ne 10 C dX3_heats_5 rfl (fun c4 => ?_) (fun c4 => ?_)
  · replace hf := if_t c4 hf
    refine g_iconst C dX3_heats_8 kc_0 ?_
    exact g_iret C E rfl (re_i hf) (re_s hf) ⟨Nat.zero_le _, Nat.zero_le _⟩ dX3_heats_9
  · replace hf := if_f c4 hf
    refine g_aload_n C dX3_heats_10 0 rfl ?_
    refine g_getI C oT0 fX3_247 dX3_heats_11 ?_
    refine g_aload_n C dX3_heats_14 0 rfl ?_
    refine g_iload_n C dX3_heats_15 1 rfl ?_
    refine g_iconst C dX3_heats_16 kc_1 ?_
    refine bd_n hf (fun r5 s6 h7 hf => ?_)
    refine g_callV0 (As := [.int a1, .int (1 : Int32)]) (rest := [.int (s2.1 0 24)]) (stk := [.int r5, .int (s2.1 0 24)]) C (w_tw_own h7) hX oT0 rfl rfl q1265 q1267 qs63 q91 q1268 mdX3_own rfl ⟨Nat.le_of_ble_eq_true rfl, Nat.le_of_ble_eq_true rfl⟩ (Nat.le_of_ble_eq_true rfl) dX3_heats_17 rfl ?_
    refine vl_n hf (fun j10 hj10 hf => ?_)
    have Hj10 : ∀ (s8 : Sto) (t9 : Int32), j10 s8 t9 = some (rF, sF) → TG tCfg g A 3 X 0 0 s8 54 [(0, .ref (g.1 0)), (1, .int a1)] [.int t9] := by
      clear hf; subst hj10
      intro s8 t9 hf
      refine g_istore_n (i := 2) (lv' := [(2, .int t9), (0, .ref (g.1 0)), (1, .int a1)]) C dX3_heats_54 rfl rfl (by decide) rfl ?_
      refine g_aload_n C dX3_heats_55 1 rfl ?_
      refine g_dup C dX3_heats_56 rfl ?_
      refine g_getI C oT0 fX3_247 dX3_heats_57 ?_
      refine g_iload_n C dX3_heats_60 0 rfl ?_
      refine g_aload_n C dX3_heats_61 1 rfl ?_
      refine g_getS 1 C oT0 fX3_7 rfl dX3_heats_62 ?_
      refine g_iconst C dX3_heats_65 kc_0 ?_
      refine gd_n hf (fun c11 hf => ?_)
      refine g_iald C aT1 rfl c11 dX3_heats_66 ?_
      refine g_imul C dX3_heats_67 ?_
      refine g_aload_n C dX3_heats_68 1 rfl ?_
      refine g_getS 1 C oT0 fX3_7 rfl dX3_heats_69 ?_
      refine g_iconst C dX3_heats_72 kc_1 ?_
      refine gd_n hf (fun c12 hf => ?_)
      refine g_iald C aT1 rfl c12 dX3_heats_73 ?_
      refine g_aload_n C dX3_heats_74 1 rfl ?_
      refine g_iload_n C dX3_heats_75 2 rfl ?_
      refine g_iconst C dX3_heats_76 kc_2 ?_
      refine bd_n hf (fun r13 s14 h15 hf => ?_)
      refine g_callV0 (As := [.int a1, .int (2 : Int32)]) (rest := [.int (rd s8 1 (1 : Int32)), .int (t9 * (rd s8 1 (0 : Int32))), .int (s8.1 0 24), .ref (g.1 0)]) (stk := [.int r13, .int (rd s8 1 (1 : Int32)), .int (t9 * (rd s8 1 (0 : Int32))), .int (s8.1 0 24), .ref (g.1 0)]) C (w_tw_own h15) hX oT0 rfl rfl q1265 q1267 qs63 q91 q1268 mdX3_own rfl ⟨Nat.le_of_ble_eq_true rfl, Nat.le_of_ble_eq_true rfl⟩ (Nat.le_of_ble_eq_true rfl) dX3_heats_77 rfl ?_
      refine g_imul C dX3_heats_80 ?_
      refine g_isub C dX3_heats_81 ?_
      refine g_iadd C dX3_heats_82 ?_
      refine vl_n hf (fun s16 hs16 hf => ?_)
      refine g_putI C oT0 pX3_247 rfl rfl hs16 dX3_heats_83 ?_
      refine g_aload_n C dX3_heats_86 1 rfl ?_
      refine g_aload_n C dX3_heats_87 1 rfl ?_
      refine g_getI C oT0 fX3_247 dX3_heats_88 ?_
      refine g_if_ge 98 C dX3_heats_91 rfl (fun c17 => ?_) (fun c17 => ?_)
      · replace hf := if_t c17 hf
        refine g_aload_n C dX3_heats_98 1 rfl ?_
        refine g_getI C oT0 fX3_247 dX3_heats_99 ?_
        refine vl_n hf (fun s18 hs18 hf => ?_)
        refine g_putI C oT0 pX3_247 rfl rfl hs18 dX3_heats_102 ?_
        refine g_iload_n C dX3_heats_105 0 rfl ?_
        exact g_iret C E rfl (re_i hf) (re_s hf) ⟨Nat.zero_le _, Nat.zero_le _⟩ dX3_heats_106
      · replace hf := if_f c17 hf
        refine g_iconst C dX3_heats_94 kc_0 ?_
        refine g_goto 102 C dX3_heats_95 rfl ?_
        refine vl_n hf (fun s19 hs19 hf => ?_)
        refine g_putI C oT0 pX3_247 rfl rfl hs19 dX3_heats_102 ?_
        refine g_iload_n C dX3_heats_105 0 rfl ?_
        exact g_iret C E rfl (re_i hf) (re_s hf) ⟨Nat.zero_le _, Nat.zero_le _⟩ dX3_heats_106
    clear hj10
    refine g_icmp_lt 27 C dX3_heats_20 rfl (fun c20 => ?_) (fun c20 => ?_)
    · replace hf := if_t c20 hf
      refine g_aload_n C dX3_heats_27 0 rfl ?_
      refine g_iload_n C dX3_heats_28 1 rfl ?_
      refine g_iconst C dX3_heats_29 kc_1 ?_
      refine bd_n hf (fun r21 s22 h23 hf => ?_)
      refine g_callV0 (As := [.int a1, .int (1 : Int32)]) (rest := []) (stk := [.int r21]) C (w_tw_own h23) hX oT0 rfl rfl q1265 q1267 qs63 q91 q1268 mdX3_own rfl ⟨Nat.le_of_ble_eq_true rfl, Nat.le_of_ble_eq_true rfl⟩ (Nat.le_of_ble_eq_true rfl) dX3_heats_30 rfl ?_
      refine g_aload_n C dX3_heats_33 0 rfl ?_
      refine g_getI C oT0 fX3_247 dX3_heats_34 ?_
      refine g_isub C dX3_heats_37 ?_
      refine g_aload_n C dX3_heats_38 0 rfl ?_
      refine g_getS 1 C oT0 fX3_7 rfl dX3_heats_39 ?_
      refine g_iconst C dX3_heats_42 kc_0 ?_
      refine gd_n hf (fun c24 hf => ?_)
      refine g_iald C aT1 rfl c24 dX3_heats_43 ?_
      refine g_iadd C dX3_heats_44 ?_
      refine g_iconst C dX3_heats_45 kc_1 ?_
      refine g_isub C dX3_heats_46 ?_
      refine g_aload_n C dX3_heats_47 0 rfl ?_
      refine g_getS 1 C oT0 fX3_7 rfl dX3_heats_48 ?_
      refine g_iconst C dX3_heats_51 kc_0 ?_
      refine g_iald C aT1 rfl c24 dX3_heats_52 ?_
      refine gd_n hf (fun c25 hf => ?_)
      refine g_idiv C dX3_heats_53 c25 ?_
      exact g_sub [0, 1] rfl (Hj10 _ _ hf)
    · replace hf := if_f c20 hf
      refine g_iconst C dX3_heats_23 kc_0 ?_
      refine g_goto 54 C dX3_heats_24 rfl ?_
      exact g_sub [0, 1] rfl (Hj10 _ _ hf)
def tw_aDay_L104 (n : Nat) (v22 : Int32) (v23 : Bool) (v24 : Int32) (k27 : Sto → Option (Int32 × Sto)) : Nat → Sto → Int32 → Option (Int32 × Sto)
  | 0, _, _ => none
  | k + 1, s21, v25 =>
    if v22 ≤ v25 then
      k27 s21
    else
      gd (inb v25 9) <|
      vl (rd s21 9 v25) fun v30 =>
      gd (inb ((170 : Int32) + v25) 1480) <|
      vl (wr s21 1 ((170 : Int32) + v25) v30) fun s32 =>
      bd (tw_loaf n s32 v30) fun r33 s34 =>
      bd (tw_heats n s34 v30) fun r36 s37 =>
      bd (tw_adds n s37 v30 (5 : Int32) r36) fun r39 s40 =>
      bd (tw_adds n s40 v30 (3 : Int32) (-r33)) fun r42 s43 =>
      vl (fun (s45 : Sto) (t46 : Int32) =>
        gd (inb (((20 : Int32) + ((16 : Int32) * v30)) + (8 : Int32)) 1480) <|
        vl (wr s45 1 (((20 : Int32) + ((16 : Int32) * v30)) + (8 : Int32)) t46) fun s49 =>
        vl (fun (s50 : Sto) =>
          tw_aDay_L104 n v22 v23 v24 k27 k s50 (v25 + (1 : Int32))) fun j51 =>
        if v25 = v24 then
          gd (inb (8 : Int32) 1480) <|
          vl (wr s49 1 (8 : Int32) ((rd s49 1 (8 : Int32)) + r33)) fun s54 =>
          j51 s54
        else
          vl (fun (t55 : Int32) =>
            bd (tw_adds n s49 v30 (4 : Int32) (r33 - t55)) fun r57 s58 =>
            if v25 ≤ 0 then
              j51 s58
            else
              gd (inb (v25 - (1 : Int32)) 9) <|
              bd (tw_adds n s58 (rd s58 9 (v25 - (1 : Int32))) (4 : Int32) t55) fun r62 s63 =>
              j51 s63) fun j56 =>
          if v25 = 0 then
            j56 (0 : Int32)
          else
            gd (decide (¬ (9 : Int32) = 0)) <|
            j56 (r33 / (9 : Int32))) fun j47 =>
      if r33 = 0 then
        bd (tw_own n s43 v30 (8 : Int32)) fun r68 s69 =>
        j47 s69 (r68 + (1 : Int32))
      else
        j47 s43 (0 : Int32)
def tw_aDay (n : Nat) (s : Sto) : Option (Int32 × Sto) :=
  gd (inb (4 : Int32) 1480) <|
  vl (rd s 1 (4 : Int32)) fun v2 =>
  gd (inb (5 : Int32) 1480) <|
  gd (decide (¬ (7 : Int32) = 0)) <|
  vl (fun (t5 : Bool) =>
    bd (tw_laysOrder n s true) fun r7 s8 =>
    gd (inb (3 : Int32) 1480) <|
    vl (fun (s11 : Sto) (v12 : Int32) =>
      vl (sI s11 0 24 (0 : Int32)) fun s14 =>
      gd (inb (9 : Int32) 1480) <|
      vl (wr s14 1 (9 : Int32) v2) fun s16 =>
      vl (fun (t17 : Int32) =>
        gd (inb (10 : Int32) 1480) <|
        vl (wr s16 1 (10 : Int32) t17) fun s20 =>
        tw_aDay_L104 n v2 t5 v12
            (fun (s26 : Sto) =>
              vl (fun (s71 : Sto) =>
                vl (wr s71 1 (5 : Int32) ((rd s71 1 (5 : Int32)) + (1 : Int32))) fun s73 =>
                if v12 = (-1 : Int32) then
                  some ((0 : Int32), s73)
                else
                  some ((1 : Int32), s73)) fun j72 =>
              if v2 ≤ 0 then
                j72 s26
              else
                gd (inb (0 : Int32) 9) <|
                bd (tw_adds n s26 (rd s26 9 (0 : Int32)) (6 : Int32) (1 : Int32)) fun r77 s78 =>
                vl (fun (t80 : Bool) =>
                  bd (tw_adds n s78 (rd s78 9 (0 : Int32)) (7 : Int32) (bI t80)) fun r82 s83 =>
                  j72 s83) fun j81 =>
                if t5 = true then
                  j81 true
                else
                  j81 false)
            n s20 (0 : Int32)) fun j18 =>
      if v12 = (-1 : Int32) then
        j18 (-1 : Int32)
      else
        gd (inb v12 9) <|
        j18 (rd s16 9 v12)) fun j13 =>
    if (rd s8 1 (3 : Int32)) ≤ 0 then
      j13 s8 (-1 : Int32)
    else
      if v2 ≤ 0 then
        j13 s8 (-1 : Int32)
      else
        bd (tw_draw n s8 (100 : Int32)) fun r90 s91 =>
        if (rd s91 1 (3 : Int32)) ≤ r90 then
          j13 s91 (-1 : Int32)
        else
          bd (tw_draw n s91 v2) fun r94 s95 =>
          j13 s95 r94) fun j6 =>
  if (irem (rd s 1 (5 : Int32)) (7 : Int32)) = 0 then
    j6 true
  else
    j6 false
theorem w_tw_aDay_L104  {l : Launch} {n : Nat} {v22 : Int32} {v23 : Bool} {v24 : Int32} {k27 : Sto → Option (Int32 × Sto)} {g : Gam} {A : Nat → Prop} {X : FX} {si sF : Sto} {rF : Int32} (C : CX tCfg g A 8 X cX3_aDay RX3 (some .int) 5 107) (E : EX tCfg g A X si sF (some (.int rF)) 0 0) (hX : X.2.1 = l) (Hk27 : ∀ (s26 : Sto), k27 s26 = some (rF, sF) → TG tCfg g A 8 X 0 0 s26 274 [(0, .ref (g.1 0)), (1, .int v22), (2, .int (bI v23)), (3, .int v24)] []) : ∀ (k : Nat) (s21 : Sto) (v25 : Int32), tw_aDay_L104 n v22 v23 v24 k27 k s21 v25 = some (rF, sF) → TG tCfg g A 8 X 0 0 s21 104 [(0, .ref (g.1 0)), (1, .int v22), (2, .int (bI v23)), (3, .int v24), (4, .int v25)] [] := by
  intro k
  induction k with
  | zero => intro s21 v25 hf; rw [tw_aDay_L104] at hf; cases hf
  | succ k ih =>
    intro s21 v25 hf
    rw [tw_aDay_L104] at hf
    refine g_iload C dX3_aDay_104 4 rfl ?_
    refine g_iload_n C dX3_aDay_106 1 rfl ?_
    refine g_icmp_ge 274 C dX3_aDay_107 rfl (fun c28 => ?_) (fun c28 => ?_)
    · replace hf := if_t c28 hf
      exact g_sub [0, 1, 2, 3] rfl (Hk27 _ hf)
    · replace hf := if_f c28 hf
      refine g_aload_n C dX3_aDay_110 0 rfl ?_
      refine g_getS 9 C oT0 fX3_38 rfl dX3_aDay_111 ?_
      refine g_iload C dX3_aDay_114 4 rfl ?_
      refine gd_n hf (fun c29 hf => ?_)
      refine g_iald C aT9 rfl c29 dX3_aDay_116 ?_
      refine vl_n hf (fun v30 hv30 hf => ?_)
      refine g_istore (i := 5) (lv' := [(5, .int v30), (0, .ref (g.1 0)), (1, .int v22), (2, .int (bI v23)), (3, .int v24), (4, .int v25)]) C dX3_aDay_117 hv30 (by decide) rfl ?_
      refine g_aload_n C dX3_aDay_119 1 rfl ?_
      refine g_getS 1 C oT0 fX3_7 rfl dX3_aDay_120 ?_
      refine g_sipush C dX3_aDay_123 ks_170 ?_
      refine g_iload C dX3_aDay_126 5 rfl ?_
      refine g_iadd C dX3_aDay_128 ?_
      refine g_iload C dX3_aDay_129 0 rfl ?_
      refine gd_n hf (fun c31 hf => ?_)
      refine vl_n hf (fun s32 hs32 hf => ?_)
      refine g_iast C aT1 rfl c31 hs32 dX3_aDay_131 ?_
      refine g_aload_n C dX3_aDay_132 1 rfl ?_
      refine g_iload C dX3_aDay_133 0 rfl ?_
      refine bd_n hf (fun r33 s34 h35 hf => ?_)
      refine g_callV0 (As := [.int v30]) (rest := []) (stk := [.int r33]) C (w_tw_loaf h35) hX oT0 rfl rfl q1319 q1321 qs72 q91 q1322 mdX3_loaf rfl ⟨Nat.le_of_ble_eq_true rfl, Nat.le_of_ble_eq_true rfl⟩ (Nat.le_of_ble_eq_true rfl) dX3_aDay_135 rfl ?_
      refine g_istore (i := 6) (lv' := [(6, .int r33), (5, .int v30), (0, .ref (g.1 0)), (1, .int v22), (2, .int (bI v23)), (3, .int v24), (4, .int v25)]) C dX3_aDay_138 rfl (by decide) rfl ?_
      refine g_aload_n C dX3_aDay_140 2 rfl ?_
      refine g_iload C dX3_aDay_141 1 rfl ?_
      refine g_iconst C dX3_aDay_143 kc_5 ?_
      refine g_aload_n C dX3_aDay_144 2 rfl ?_
      refine g_iload C dX3_aDay_145 1 rfl ?_
      refine bd_n hf (fun r36 s37 h38 hf => ?_)
      refine g_callV0 (As := [.int v30]) (rest := [.int (5 : Int32), .int v30, .ref (g.1 0)]) (stk := [.int r36, .int (5 : Int32), .int v30, .ref (g.1 0)]) C (w_tw_heats h38) hX oT0 rfl rfl q1323 q1325 qs73 q91 q1326 mdX3_heats rfl ⟨Nat.le_of_ble_eq_true rfl, Nat.le_of_ble_eq_true rfl⟩ (Nat.le_of_ble_eq_true rfl) dX3_aDay_147 rfl ?_
      refine bd_n hf (fun r39 s40 h41 hf => ?_)
      refine g_callV0 (As := [.int v30, .int (5 : Int32), .int r36]) (rest := []) (stk := []) C (w_tw_adds h41) hX oT0 rfl rfl q1270 q1272 qs64 q91 q1273 mdX3_adds rfl ⟨Nat.le_of_ble_eq_true rfl, Nat.le_of_ble_eq_true rfl⟩ (Nat.le_of_ble_eq_true rfl) dX3_aDay_150 rfl ?_
      refine g_aload_n C dX3_aDay_153 2 rfl ?_
      refine g_iload C dX3_aDay_154 1 rfl ?_
      refine g_iconst C dX3_aDay_156 kc_3 ?_
      refine g_iload C dX3_aDay_157 0 rfl ?_
      refine g_ineg C dX3_aDay_159 ?_
      refine bd_n hf (fun r42 s43 h44 hf => ?_)
      refine g_callV0 (As := [.int v30, .int (3 : Int32), .int (-r33)]) (rest := []) (stk := []) C (w_tw_adds h44) hX oT0 rfl rfl q1270 q1272 qs64 q91 q1273 mdX3_adds rfl ⟨Nat.le_of_ble_eq_true rfl, Nat.le_of_ble_eq_true rfl⟩ (Nat.le_of_ble_eq_true rfl) dX3_aDay_160 rfl ?_
      refine g_aload_n C dX3_aDay_163 2 rfl ?_
      refine g_getS 1 C oT0 fX3_7 rfl dX3_aDay_164 ?_
      refine g_bipush C dX3_aDay_167 kb_20 ?_
      refine g_bipush C dX3_aDay_169 kb_16 ?_
      refine g_iload C dX3_aDay_171 1 rfl ?_
      refine g_imul C dX3_aDay_173 ?_
      refine g_iadd C dX3_aDay_174 ?_
      refine g_bipush C dX3_aDay_175 kb_8 ?_
      refine g_iadd C dX3_aDay_177 ?_
      refine g_iload C dX3_aDay_178 0 rfl ?_
      refine vl_n hf (fun j47 hj47 hf => ?_)
      have Hj47 : ∀ (s45 : Sto) (t46 : Int32), j47 s45 t46 = some (rF, sF) → TG tCfg g A 8 X 0 0 s45 197 [(0, .ref (g.1 0)), (1, .int v22), (2, .int (bI v23)), (3, .int v24), (4, .int v25), (5, .int v30), (6, .int r33)] [.int t46, .int (((20 : Int32) + ((16 : Int32) * v30)) + (8 : Int32)), .ref (g.1 1)] := by
        clear hf; subst hj47
        intro s45 t46 hf
        refine gd_n hf (fun c48 hf => ?_)
        refine vl_n hf (fun s49 hs49 hf => ?_)
        refine g_iast C aT1 rfl c48 hs49 dX3_aDay_197 ?_
        refine g_iload C dX3_aDay_198 4 rfl ?_
        refine g_iload_n C dX3_aDay_200 3 rfl ?_
        refine vl_n hf (fun j51 hj51 hf => ?_)
        have Hj51 : ∀ (s50 : Sto), j51 s50 = some (rF, sF) → TG tCfg g A 8 X 0 0 s50 268 [(0, .ref (g.1 0)), (1, .int v22), (2, .int (bI v23)), (3, .int v24), (4, .int v25)] [] := by
          clear hf; subst hj51
          intro s50 hf
          refine g_iinc (q := 4) (lv' := [(4, .int (v25 + (1 : Int32))), (0, .ref (g.1 0)), (1, .int v22), (2, .int (bI v23)), (3, .int v24)]) C dX3_aDay_268 rfl kc_1 (by decide) rfl ?_
          refine g_goto 104 C dX3_aDay_271 rfl ?_
          exact g_sub [1, 2, 3, 4, 0] rfl (ih _ _ hf)
        clear hj51
        refine g_icmp_ne 219 C dX3_aDay_201 rfl (fun c52 => ?_) (fun c52 => ?_)
        · replace hf := if_t c52 hf
          refine g_aload_n C dX3_aDay_204 0 rfl ?_
          refine g_getS 1 C oT0 fX3_7 rfl dX3_aDay_205 ?_
          refine g_bipush C dX3_aDay_208 kb_8 ?_
          refine g_dup2 C dX3_aDay_210 rfl rfl ?_
          refine gd_n hf (fun c53 hf => ?_)
          refine g_iald C aT1 rfl c53 dX3_aDay_211 ?_
          refine g_iload C dX3_aDay_212 6 rfl ?_
          refine g_iadd C dX3_aDay_214 ?_
          refine vl_n hf (fun s54 hs54 hf => ?_)
          refine g_iast C aT1 rfl c53 hs54 dX3_aDay_215 ?_
          refine g_goto 268 C dX3_aDay_216 rfl ?_
          exact g_sub [0, 1, 2, 3, 4] rfl (Hj51 _ hf)
        · replace hf := if_f c52 hf
          refine g_iload C dX3_aDay_219 4 rfl ?_
          refine vl_n hf (fun j56 hj56 hf => ?_)
          have Hj56 : ∀ (t55 : Int32), j56 t55 = some (rF, sF) → TG tCfg g A 8 X 0 0 s49 233 [(0, .ref (g.1 0)), (1, .int v22), (2, .int (bI v23)), (3, .int v24), (4, .int v25), (5, .int v30), (6, .int r33)] [.int t55] := by
            clear hf; subst hj56
            intro t55 hf
            refine g_istore (i := 7) (lv' := [(7, .int t55), (0, .ref (g.1 0)), (1, .int v22), (2, .int (bI v23)), (3, .int v24), (4, .int v25), (5, .int v30), (6, .int r33)]) C dX3_aDay_233 rfl (by decide) rfl ?_
            refine g_aload_n C dX3_aDay_235 1 rfl ?_
            refine g_iload C dX3_aDay_236 6 rfl ?_
            refine g_iconst C dX3_aDay_238 kc_4 ?_
            refine g_iload C dX3_aDay_239 7 rfl ?_
            refine g_iload C dX3_aDay_241 0 rfl ?_
            refine g_isub C dX3_aDay_243 ?_
            refine bd_n hf (fun r57 s58 h59 hf => ?_)
            refine g_callV0 (As := [.int v30, .int (4 : Int32), .int (r33 - t55)]) (rest := []) (stk := []) C (w_tw_adds h59) hX oT0 rfl rfl q1270 q1272 qs64 q91 q1273 mdX3_adds rfl ⟨Nat.le_of_ble_eq_true rfl, Nat.le_of_ble_eq_true rfl⟩ (Nat.le_of_ble_eq_true rfl) dX3_aDay_244 rfl ?_
            refine g_iload C dX3_aDay_247 5 rfl ?_
            refine g_if_le 268 C dX3_aDay_249 rfl (fun c60 => ?_) (fun c60 => ?_)
            · replace hf := if_t c60 hf
              exact g_sub [1, 2, 3, 4, 5] rfl (Hj51 _ hf)
            · replace hf := if_f c60 hf
              refine g_aload_n C dX3_aDay_252 1 rfl ?_
              refine g_aload_n C dX3_aDay_253 1 rfl ?_
              refine g_getS 9 C oT0 fX3_38 rfl dX3_aDay_254 ?_
              refine g_iload C dX3_aDay_257 5 rfl ?_
              refine g_iconst C dX3_aDay_259 kc_1 ?_
              refine g_isub C dX3_aDay_260 ?_
              refine gd_n hf (fun c61 hf => ?_)
              refine g_iald C aT9 rfl c61 dX3_aDay_261 ?_
              refine g_iconst C dX3_aDay_262 kc_4 ?_
              refine g_iload C dX3_aDay_263 0 rfl ?_
              refine bd_n hf (fun r62 s63 h64 hf => ?_)
              refine g_callV0 (As := [.int (rd s58 9 (v25 - (1 : Int32))), .int (4 : Int32), .int t55]) (rest := []) (stk := []) C (w_tw_adds h64) hX oT0 rfl rfl q1270 q1272 qs64 q91 q1273 mdX3_adds rfl ⟨Nat.le_of_ble_eq_true rfl, Nat.le_of_ble_eq_true rfl⟩ (Nat.le_of_ble_eq_true rfl) dX3_aDay_265 rfl ?_
              exact g_sub [1, 2, 3, 4, 5] rfl (Hj51 _ hf)
          clear hj56
          refine g_if_ne 228 C dX3_aDay_221 rfl (fun c65 => ?_) (fun c65 => ?_)
          · replace hf := if_t c65 hf
            refine g_iconst C dX3_aDay_224 kc_0 ?_
            refine g_goto 233 C dX3_aDay_225 rfl ?_
            exact g_sub [0, 1, 2, 3, 4, 5, 6] rfl (Hj56 _ hf)
          · replace hf := if_f c65 hf
            refine g_iload C dX3_aDay_228 6 rfl ?_
            refine g_bipush C dX3_aDay_230 kb_9 ?_
            refine gd_n hf (fun c66 hf => ?_)
            refine g_idiv C dX3_aDay_232 c66 ?_
            exact g_sub [0, 1, 2, 3, 4, 5, 6] rfl (Hj56 _ hf)
      clear hj47
      refine g_if_ne 196 C dX3_aDay_180 rfl (fun c67 => ?_) (fun c67 => ?_)
      · replace hf := if_t c67 hf
        refine g_aload_n C dX3_aDay_183 2 rfl ?_
        refine g_iload C dX3_aDay_184 1 rfl ?_
        refine g_bipush C dX3_aDay_186 kb_8 ?_
        refine bd_n hf (fun r68 s69 h70 hf => ?_)
        refine g_callV0 (As := [.int v30, .int (8 : Int32)]) (rest := [.int (((20 : Int32) + ((16 : Int32) * v30)) + (8 : Int32)), .ref (g.1 1)]) (stk := [.int r68, .int (((20 : Int32) + ((16 : Int32) * v30)) + (8 : Int32)), .ref (g.1 1)]) C (w_tw_own h70) hX oT0 rfl rfl q1265 q1267 qs63 q91 q1268 mdX3_own rfl ⟨Nat.le_of_ble_eq_true rfl, Nat.le_of_ble_eq_true rfl⟩ (Nat.le_of_ble_eq_true rfl) dX3_aDay_188 rfl ?_
        refine g_iconst C dX3_aDay_191 kc_1 ?_
        refine g_iadd C dX3_aDay_192 ?_
        refine g_goto 197 C dX3_aDay_193 rfl ?_
        exact g_sub [2, 3, 4, 5, 6, 1, 0] rfl (Hj47 _ _ hf)
      · replace hf := if_f c67 hf
        refine g_iconst C dX3_aDay_196 kc_0 ?_
        exact g_sub [2, 3, 4, 5, 6, 1, 0] rfl (Hj47 _ _ hf)
theorem w_tw_aDay {l : Launch} {n : Nat} {s sF : Sto} {rF : Int32} (hf : tw_aDay n s  = some (rF, sF)) : Ct tCfg l yX3_aDay cX3_aDay 8 (some .int) { frames := 5, cells := 0, slots := 0, locals := 107 } (fun g => [.ref (g.1 0)]) s sF (fun _ => some (.int rF)) := by
  refine Ct_of pn_X3 (fun g => Nat.le_of_ble_eq_true rfl) (fun g A X C E hX => ?_)
  rw [tw_aDay] at hf
  show TG tCfg g A 8 X 0 0 s 0 [(0, .ref (g.1 0))] []
  refine g_aload_n C dX3_aDay_0 0 rfl ?_
  refine g_getS 1 C oT0 fX3_7 rfl dX3_aDay_1 ?_
  refine g_iconst C dX3_aDay_4 kc_4 ?_
  refine gd_n hf (fun c1 hf => ?_)
  refine g_iald C aT1 rfl c1 dX3_aDay_5 ?_
  refine vl_n hf (fun v2 hv2 hf => ?_)
  refine g_istore_n (i := 1) (lv' := [(1, .int v2), (0, .ref (g.1 0))]) C dX3_aDay_6 rfl hv2 (by decide) rfl ?_
  refine g_aload_n C dX3_aDay_7 1 rfl ?_
  refine g_getS 1 C oT0 fX3_7 rfl dX3_aDay_8 ?_
  refine g_iconst C dX3_aDay_11 kc_5 ?_
  refine gd_n hf (fun c3 hf => ?_)
  refine g_iald C aT1 rfl c3 dX3_aDay_12 ?_
  refine g_bipush C dX3_aDay_13 kb_7 ?_
  refine gd_n hf (fun c4 hf => ?_)
  refine g_irem C dX3_aDay_15 c4 ?_
  refine vl_n hf (fun j6 hj6 hf => ?_)
  have Hj6 : ∀ (t5 : Bool), j6 t5 = some (rF, sF) → TG tCfg g A 8 X 0 0 s 24 [(0, .ref (g.1 0)), (1, .int v2)] [.int (bI t5)] := by
    clear hf; subst hj6
    intro t5 hf
    refine g_istore_n (i := 2) (lv' := [(2, .int (bI t5)), (0, .ref (g.1 0)), (1, .int v2)]) C dX3_aDay_24 rfl rfl (by decide) rfl ?_
    refine g_aload_n C dX3_aDay_25 1 rfl ?_
    refine g_iconst C dX3_aDay_26 kc_1 ?_
    refine bd_n hf (fun r7 s8 h9 hf => ?_)
    refine g_callV0 (As := [.int (bI true)]) (rest := []) (stk := []) C (w_tw_laysOrder h9) hX oT0 rfl rfl q1282 q1284 qs65 q91 q1285 mdX3_laysOrder rfl ⟨Nat.le_of_ble_eq_true rfl, Nat.le_of_ble_eq_true rfl⟩ (Nat.le_of_ble_eq_true rfl) dX3_aDay_27 rfl ?_
    refine g_iconst C dX3_aDay_30 kc_m1 ?_
    refine g_istore_n (i := 3) (lv' := [(3, .int (-1 : Int32)), (2, .int (bI t5)), (0, .ref (g.1 0)), (1, .int v2)]) C dX3_aDay_31 rfl rfl (by decide) rfl ?_
    refine g_aload_n C dX3_aDay_32 2 rfl ?_
    refine g_getS 1 C oT0 fX3_7 rfl dX3_aDay_33 ?_
    refine g_iconst C dX3_aDay_36 kc_3 ?_
    refine gd_n hf (fun c10 hf => ?_)
    refine g_iald C aT1 rfl c10 dX3_aDay_37 ?_
    refine vl_n hf (fun j13 hj13 hf => ?_)
    have Hj13 : ∀ (s11 : Sto) (v12 : Int32), j13 s11 v12 = some (rF, sF) → TG tCfg g A 8 X 0 0 s11 66 [(0, .ref (g.1 0)), (1, .int v2), (2, .int (bI t5)), (3, .int v12)] [] := by
      clear hf; subst hj13
      intro s11 v12 hf
      refine g_aload_n C dX3_aDay_66 0 rfl ?_
      refine g_iconst C dX3_aDay_67 kc_0 ?_
      refine vl_n hf (fun s14 hs14 hf => ?_)
      refine g_putI C oT0 pX3_247 rfl rfl hs14 dX3_aDay_68 ?_
      refine g_aload_n C dX3_aDay_71 0 rfl ?_
      refine g_getS 1 C oT0 fX3_7 rfl dX3_aDay_72 ?_
      refine g_bipush C dX3_aDay_75 kb_9 ?_
      refine g_iload_n C dX3_aDay_77 1 rfl ?_
      refine gd_n hf (fun c15 hf => ?_)
      refine vl_n hf (fun s16 hs16 hf => ?_)
      refine g_iast C aT1 rfl c15 hs16 dX3_aDay_78 ?_
      refine g_aload_n C dX3_aDay_79 0 rfl ?_
      refine g_getS 1 C oT0 fX3_7 rfl dX3_aDay_80 ?_
      refine g_bipush C dX3_aDay_83 kb_10 ?_
      refine g_iload_n C dX3_aDay_85 3 rfl ?_
      refine g_iconst C dX3_aDay_86 kc_m1 ?_
      refine vl_n hf (fun j18 hj18 hf => ?_)
      have Hj18 : ∀ (t17 : Int32), j18 t17 = some (rF, sF) → TG tCfg g A 8 X 0 0 s16 100 [(0, .ref (g.1 0)), (1, .int v2), (2, .int (bI t5)), (3, .int v12)] [.int t17, .int (10 : Int32), .ref (g.1 1)] := by
        clear hf; subst hj18
        intro t17 hf
        refine gd_n hf (fun c19 hf => ?_)
        refine vl_n hf (fun s20 hs20 hf => ?_)
        refine g_iast C aT1 rfl c19 hs20 dX3_aDay_100 ?_
        refine g_iconst C dX3_aDay_101 kc_0 ?_
        refine g_istore (i := 4) (lv' := [(4, .int (0 : Int32)), (0, .ref (g.1 0)), (1, .int v2), (2, .int (bI t5)), (3, .int v12)]) C dX3_aDay_102 rfl (by decide) rfl ?_
        refine g_sub [1, 2, 3, 4, 0] rfl (w_tw_aDay_L104 C E hX (fun s26 hf => ?_) _ _ _ hf)
        refine g_iload_n C dX3_aDay_274 1 rfl ?_
        refine vl_n hf (fun j72 hj72 hf => ?_)
        have Hj72 : ∀ (s71 : Sto), j72 s71 = some (rF, sF) → TG tCfg g A 8 X 0 0 s71 312 [(0, .ref (g.1 0)), (3, .int v12)] [] := by
          clear hf; subst hj72
          intro s71 hf
          refine g_aload_n C dX3_aDay_312 0 rfl ?_
          refine g_getS 1 C oT0 fX3_7 rfl dX3_aDay_313 ?_
          refine g_iconst C dX3_aDay_316 kc_5 ?_
          refine g_dup2 C dX3_aDay_317 rfl rfl ?_
          refine g_iald C aT1 rfl c3 dX3_aDay_318 ?_
          refine g_iconst C dX3_aDay_319 kc_1 ?_
          refine g_iadd C dX3_aDay_320 ?_
          refine vl_n hf (fun s73 hs73 hf => ?_)
          refine g_iast C aT1 rfl c3 hs73 dX3_aDay_321 ?_
          refine g_iload_n C dX3_aDay_322 1 rfl ?_
          refine g_iconst C dX3_aDay_323 kc_m1 ?_
          refine g_icmp_ne 331 C dX3_aDay_324 rfl (fun c74 => ?_) (fun c74 => ?_)
          · replace hf := if_t c74 hf
            refine g_iconst C dX3_aDay_327 kc_0 ?_
            refine g_goto 332 C dX3_aDay_328 rfl ?_
            exact g_iret C E rfl (re_i hf) (re_s hf) ⟨Nat.zero_le _, Nat.zero_le _⟩ dX3_aDay_332
          · replace hf := if_f c74 hf
            refine g_iconst C dX3_aDay_331 kc_1 ?_
            exact g_iret C E rfl (re_i hf) (re_s hf) ⟨Nat.zero_le _, Nat.zero_le _⟩ dX3_aDay_332
        clear hj72
        refine g_if_le 312 C dX3_aDay_275 rfl (fun c75 => ?_) (fun c75 => ?_)
        · replace hf := if_t c75 hf
          exact g_sub [0, 3] rfl (Hj72 _ hf)
        · replace hf := if_f c75 hf
          refine g_aload_n C dX3_aDay_278 0 rfl ?_
          refine g_aload_n C dX3_aDay_279 0 rfl ?_
          refine g_getS 9 C oT0 fX3_38 rfl dX3_aDay_280 ?_
          refine g_iconst C dX3_aDay_283 kc_0 ?_
          refine gd_n hf (fun c76 hf => ?_)
          refine g_iald C aT9 rfl c76 dX3_aDay_284 ?_
          refine g_bipush C dX3_aDay_285 kb_6 ?_
          refine g_iconst C dX3_aDay_287 kc_1 ?_
          refine bd_n hf (fun r77 s78 h79 hf => ?_)
          refine g_callV0 (As := [.int (rd s26 9 (0 : Int32)), .int (6 : Int32), .int (1 : Int32)]) (rest := []) (stk := []) C (w_tw_adds h79) hX oT0 rfl rfl q1270 q1272 qs64 q91 q1273 mdX3_adds rfl ⟨Nat.le_of_ble_eq_true rfl, Nat.le_of_ble_eq_true rfl⟩ (Nat.le_of_ble_eq_true rfl) dX3_aDay_288 rfl ?_
          refine g_aload_n C dX3_aDay_291 0 rfl ?_
          refine g_aload_n C dX3_aDay_292 0 rfl ?_
          refine g_getS 9 C oT0 fX3_38 rfl dX3_aDay_293 ?_
          refine g_iconst C dX3_aDay_296 kc_0 ?_
          refine g_iald C aT9 rfl c76 dX3_aDay_297 ?_
          refine g_bipush C dX3_aDay_298 kb_7 ?_
          refine g_iload_n C dX3_aDay_300 2 rfl ?_
          refine vl_n hf (fun j81 hj81 hf => ?_)
          have Hj81 : ∀ (t80 : Bool), j81 t80 = some (rF, sF) → TG tCfg g A 8 X 0 0 s78 309 [(0, .ref (g.1 0)), (3, .int v12)] [.int (bI t80), .int (7 : Int32), .int (rd s78 9 (0 : Int32)), .ref (g.1 0)] := by
            clear hf; subst hj81
            intro t80 hf
            refine bd_n hf (fun r82 s83 h84 hf => ?_)
            refine g_callV0 (As := [.int (rd s78 9 (0 : Int32)), .int (7 : Int32), .int (bI t80)]) (rest := []) (stk := []) C (w_tw_adds h84) hX oT0 rfl rfl q1270 q1272 qs64 q91 q1273 mdX3_adds rfl ⟨Nat.le_of_ble_eq_true rfl, Nat.le_of_ble_eq_true rfl⟩ (Nat.le_of_ble_eq_true rfl) dX3_aDay_309 rfl ?_
            exact g_sub [0, 1] rfl (Hj72 _ hf)
          clear hj81
          refine g_ifZ_eq 308 C dX3_aDay_301 rfl (fun c85 => ?_) (fun c85 => ?_)
          · replace hf := if_t c85 hf
            refine g_iconst C dX3_aDay_304 kc_1 ?_
            refine g_goto 309 C dX3_aDay_305 rfl ?_
            exact g_sub [0, 3] rfl (Hj81 _ hf)
          · replace hf := if_f c85 hf
            refine g_iconst C dX3_aDay_308 kc_0 ?_
            exact g_sub [0, 3] rfl (Hj81 _ hf)
      clear hj18
      refine g_icmp_ne 94 C dX3_aDay_87 rfl (fun c86 => ?_) (fun c86 => ?_)
      · replace hf := if_t c86 hf
        refine g_iconst C dX3_aDay_90 kc_m1 ?_
        refine g_goto 100 C dX3_aDay_91 rfl ?_
        exact g_sub [0, 1, 2, 3] rfl (Hj18 _ hf)
      · replace hf := if_f c86 hf
        refine g_aload_n C dX3_aDay_94 0 rfl ?_
        refine g_getS 9 C oT0 fX3_38 rfl dX3_aDay_95 ?_
        refine g_iload_n C dX3_aDay_98 3 rfl ?_
        refine gd_n hf (fun c87 hf => ?_)
        refine g_iald C aT9 rfl c87 dX3_aDay_99 ?_
        exact g_sub [0, 1, 2, 3] rfl (Hj18 _ hf)
    clear hj13
    refine g_if_le 66 C dX3_aDay_38 rfl (fun c88 => ?_) (fun c88 => ?_)
    · replace hf := if_t c88 hf
      exact g_sub [2, 3, 1, 0] rfl (Hj13 _ _ hf)
    · replace hf := if_f c88 hf
      refine g_iload_n C dX3_aDay_41 3 rfl ?_
      refine g_if_le 66 C dX3_aDay_42 rfl (fun c89 => ?_) (fun c89 => ?_)
      · replace hf := if_t c89 hf
        exact g_sub [2, 3, 1, 0] rfl (Hj13 _ _ hf)
      · replace hf := if_f c89 hf
        refine g_aload_n C dX3_aDay_45 2 rfl ?_
        refine g_bipush C dX3_aDay_46 kb_100 ?_
        refine bd_n hf (fun r90 s91 h92 hf => ?_)
        refine g_callV0 (As := [.int (100 : Int32)]) (rest := []) (stk := [.int r90]) C (w_tw_draw h92) hX oT0 rfl rfl q1313 q1315 qs71 q91 q1316 mdX3_draw rfl ⟨Nat.le_of_ble_eq_true rfl, Nat.le_of_ble_eq_true rfl⟩ (Nat.le_of_ble_eq_true rfl) dX3_aDay_48 rfl ?_
        refine g_aload_n C dX3_aDay_51 2 rfl ?_
        refine g_getS 1 C oT0 fX3_7 rfl dX3_aDay_52 ?_
        refine g_iconst C dX3_aDay_55 kc_3 ?_
        refine g_iald C aT1 rfl c10 dX3_aDay_56 ?_
        refine g_icmp_ge 66 C dX3_aDay_57 rfl (fun c93 => ?_) (fun c93 => ?_)
        · replace hf := if_t c93 hf
          exact g_sub [2, 3, 1, 0] rfl (Hj13 _ _ hf)
        · replace hf := if_f c93 hf
          refine g_aload_n C dX3_aDay_60 2 rfl ?_
          refine g_iload_n C dX3_aDay_61 3 rfl ?_
          refine bd_n hf (fun r94 s95 h96 hf => ?_)
          refine g_callV0 (As := [.int v2]) (rest := []) (stk := [.int r94]) C (w_tw_draw h96) hX oT0 rfl rfl q1313 q1315 qs71 q91 q1316 mdX3_draw rfl ⟨Nat.le_of_ble_eq_true rfl, Nat.le_of_ble_eq_true rfl⟩ (Nat.le_of_ble_eq_true rfl) dX3_aDay_62 rfl ?_
          refine g_istore_n (i := 3) (lv' := [(3, .int r94), (2, .int (bI t5)), (0, .ref (g.1 0)), (1, .int v2)]) C dX3_aDay_65 rfl rfl (by decide) rfl ?_
          exact g_sub [2, 3, 1, 0] rfl (Hj13 _ _ hf)
  clear hj6
  refine g_if_ne 23 C dX3_aDay_16 rfl (fun c97 => ?_) (fun c97 => ?_)
  · replace hf := if_t c97 hf
    refine g_iconst C dX3_aDay_19 kc_1 ?_
    refine g_goto 24 C dX3_aDay_20 rfl ?_
    exact g_sub [1, 0] rfl (Hj6 _ hf)
  · replace hf := if_f c97 hf
    refine g_iconst C dX3_aDay_23 kc_0 ?_
    exact g_sub [1, 0] rfl (Hj6 _ hf)
