/-! THE COMPONENT's methods: pure functions out of the bytecode, and their walks (printed by gen/comp.py) -/
set_option maxRecDepth 100000
set_option maxHeartbeats 4000000
/-- a term's value: by its class; d: how deep -/
def xw_tof (n : Nat) : Nat → Sto → Nat → Nat → Option (Int32 × Sto)
  | 0, _, _, _ => none
  | d + 1, s, a, c =>
    if isP s a 5 = true then xn_of n s a c
    else if isP s a 6 = true then xo_of n s a c
    else if isP s a 7 = true then xk_of n (xw_tof n d) s a c
    else if isP s a 8 = true then xz_of n (xw_tof n d) s a c
    else none
theorem w_tof {l : Launch} {n : Nat} : ∀ (d : Nat) (s sF : Sto) (a c : Nat) (rF : Int32), xw_tof n d s a c = some (rF, sF) → TOf l s sF a c rF (4 * d + 10) (110 * d + 200) := by
  intro d
  induction d with
  | zero => intro s sF a c rF hf; rw [xw_tof] at hf; cases hf
  | succ d ih =>
    intro s sF a c rF hf
    rw [xw_tof] at hf
    by_cases h5 : isP s a 5 = true
    · replace hf := if_t h5 hf
      exact ⟨5, RX7, yX7_of, cX7_of, 2, h5, ⟨_, _, rfl⟩, q813, q806, q107, q807, _, _, by omega, by omega, w_xn_of hf⟩
    replace hf := if_f h5 hf
    by_cases h6 : isP s a 6 = true
    · replace hf := if_t h6 hf
      exact ⟨6, RX8, yX8_of, cX8_of, 2, h6, ⟨_, _, rfl⟩, q815, q811, q108, q812, _, _, by omega, by omega, w_xo_of hf⟩
    replace hf := if_f h6 hf
    by_cases h7 : isP s a 7 = true
    · replace hf := if_t h7 hf
      exact ⟨7, RX10, yX10_of, cX10_of, 2, h7, ⟨_, _, rfl⟩, q802, q803, q110, q804, _, _, by omega, by omega, w_xk_of ih hf⟩
    replace hf := if_f h7 hf
    by_cases h8 : isP s a 8 = true
    · replace hf := if_t h8 hf
      exact ⟨8, RX9, yX9_of, cX9_of, 4, h8, ⟨_, _, rfl⟩, q814, q808, q109, q809, _, _, by omega, by omega, w_xz_of ih hf⟩
    replace hf := if_f h8 hf
    cases hf
def xt_first_L2 (n : Nat) (v2 : Nat) (v3 : Nat) : Nat → Sto → Int32 → Option (Int32 × Sto)
  | 0, _, _ => none
  | k + 1, s1, v4 =>
    pgI s1 v2 4 2 fun v5 =>
    if v5 ≤ v4 then
      some ((-1 : Int32), s1)
    else
      pgQ s1 v2 4 1 fun v8 =>
      nn v8 fun q10 =>
      pal (paQ s1 q10 8) fun n12 f13 =>
      gd (inb v4 n12) <|
      if (f13 (v4).toNatClampNeg) = none then
        some (v4, s1)
      else
        nn (f13 (v4).toNatClampNeg) fun q17 =>
        bd ((xw_tof n 420) s1 q17 v3) fun r19 s20 =>
        if r19 = 0 then
          xt_first_L2 n v2 v3 k s20 (v4 + (1 : Int32))
        else
          some (v4, s20)
def xt_first (n : Nat) (s : Sto) (th : Nat) (a1 : Nat) : Option (Int32 × Sto) :=
  xt_first_L2 n th a1
      n s (0 : Int32)
theorem w_xt_first_L2  {l : Launch} {n : Nat} {v2 : Nat} {v3 : Nat} {g : Gam} {A : Nat → Prop} {X : FX} {si sF : Sto} {rF : Int32} (C : CX xCfg g A 3 X cX1_first RX1 (some .int) 1691 46400) (E : EX xCfg g A X si sF (some (.int rF)) 0 0) (hX : X.2.1 = l) : ∀ (k : Nat) (s1 : Sto) (v4 : Int32), xt_first_L2 n v2 v3 k s1 v4 = some (rF, sF) → TG xCfg g A 3 X 0 0 s1 2 [(0, .ref v2), (1, .ref (g.1 v3)), (2, .int v4)] [] := by
  intro k
  induction k with
  | zero => intro s1 v4 hf; rw [xt_first_L2] at hf; cases hf
  | succ k ih =>
    intro s1 v4 hf
    rw [xt_first_L2] at hf
    refine g_iload_n C dX1_first_2 2 rfl ?_
    refine g_aload_n C dX1_first_3 0 rfl ?_
    refine pgI_n hf (fun v5 hv6 hf => ?_)
    refine g_pget C fX1_20 hv6 dX1_first_4 ?_
    refine g_icmp_ge 40 C dX1_first_7 rfl (fun c7 => ?_) (fun c7 => ?_)
    · replace hf := if_t c7 hf
      refine g_iconst C dX1_first_40 kc_m1 ?_
      exact g_iret C E rfl (re_i hf) (re_s hf) ⟨Nat.zero_le _, Nat.zero_le _⟩ dX1_first_41
    · replace hf := if_f c7 hf
      refine g_aload_n C dX1_first_10 0 rfl ?_
      refine pgQ_n hf (fun v8 hv9 hf => ?_)
      refine g_pget C fX1_17 hv9 dX1_first_11 ?_
      refine g_iload_n C dX1_first_14 2 rfl ?_
      refine nn_n hf (fun q10 hq11 hf => ?_)
      refine pal_n hf (fun n12 f13 hp14 hf => ?_)
      refine gd_n hf (fun c15 hf => ?_)
      refine g_paaldQ C hq11 hp14 rfl c15 dX1_first_15 ?_
      refine g_ifnull (r := (f13 (v4).toNatClampNeg)) 32 C dX1_first_16 rfl (fun c16 => ?_) (fun c16 => ?_)
      · replace hf := if_t c16 hf
        refine g_iload_n C dX1_first_32 2 rfl ?_
        exact g_iret C E rfl (re_i hf) (re_s hf) ⟨Nat.zero_le _, Nat.zero_le _⟩ dX1_first_33
      · replace hf := if_f c16 hf
        refine g_aload_n C dX1_first_19 0 rfl ?_
        refine g_pget C fX1_17 hv9 dX1_first_20 ?_
        refine g_iload_n C dX1_first_23 2 rfl ?_
        refine g_paaldQ C hq11 hp14 rfl c15 dX1_first_24 ?_
        refine g_aload_n C dX1_first_25 1 rfl ?_
        refine nn_n hf (fun q17 hq18 hf => ?_)
        refine bd_n hf (fun r19 s20 h21 hf => ?_)
        refine g_callTQ (rest := []) (stk := [.int r19]) C ((w_tof 420) _ _ _ _ _ h21) hX hq18 q799 ⟨Nat.le_of_ble_eq_true rfl, Nat.le_of_ble_eq_true rfl⟩ (Nat.le_of_ble_eq_true rfl) dX1_first_26 rfl ?_
        refine g_if_eq 34 C dX1_first_29 rfl (fun c22 => ?_) (fun c22 => ?_)
        · replace hf := if_t c22 hf
          refine g_iinc (q := 2) (lv' := [(2, .int (v4 + (1 : Int32))), (0, .ref v2), (1, .ref (g.1 v3))]) C dX1_first_34 rfl kc_1 (by decide) rfl ?_
          refine g_goto 2 C dX1_first_37 rfl ?_
          exact g_sub [1, 2, 0] rfl (ih _ _ hf)
        · replace hf := if_f c22 hf
          refine g_iload_n C dX1_first_32 2 rfl ?_
          exact g_iret C E rfl (re_i hf) (re_s hf) ⟨Nat.zero_le _, Nat.zero_le _⟩ dX1_first_33
theorem w_xt_first {l : Launch} {n : Nat} {s sF : Sto} {th : Nat} {a1 : Nat} {rF : Int32} (hf : xt_first n s th a1 = some (rF, sF)) : Ct xCfg l yX1_first cX1_first 3 (some .int) { frames := 1691, cells := 0, slots := 0, locals := 46400 } (fun g => [.ref th, .ref (g.1 a1)]) s sF (fun _ => some (.int rF)) := by
  refine Ct_of pn_X1 (fun g => Nat.le_of_ble_eq_true rfl) (fun g A X C E hX => ?_)
  rw [xt_first] at hf
  show TG xCfg g A 3 X 0 0 s 0 [(0, .ref th), (1, .ref (g.1 a1))] []
  refine g_iconst C dX1_first_0 kc_0 ?_
  refine g_istore_n (i := 2) (lv' := [(2, .int (0 : Int32)), (0, .ref th), (1, .ref (g.1 a1))]) C dX1_first_1 rfl rfl (by decide) rfl ?_
  refine g_sub [1, 2, 0] rfl (w_xt_first_L2 C E hX _ _ _ hf)
def xw_worthOf (n : Nat) (s : Sto) (a1 : Int32) : Option (Int32 × Sto) :=
  gd (inb a1 9) <|
  nn (rdR s 5 a1) fun q2 =>
  pgI s q2 2 0 fun v4 =>
  gd (inb (0 : Int32) 10) <|
  vl (wr s 9 (0 : Int32) v4) fun s7 =>
  pgI s7 q2 2 1 fun v8 =>
  gd (inb (1 : Int32) 10) <|
  vl (wr s7 9 (1 : Int32) v8) fun s11 =>
  gd (inb (2 : Int32) 10) <|
  vl (wr s11 9 (2 : Int32) (rd s11 28 a1)) fun s13 =>
  gd (inb (3 : Int32) 10) <|
  vl (wr s13 9 (3 : Int32) (rd s13 29 a1)) fun s15 =>
  gd (inb (4 : Int32) 10) <|
  vl (wr s15 9 (4 : Int32) (rd s15 30 a1)) fun s17 =>
  gd (inb (5 : Int32) 10) <|
  vl (wr s17 9 (5 : Int32) (rd s17 31 a1)) fun s19 =>
  gd (inb (6 : Int32) 10) <|
  vl (wr s19 9 (6 : Int32) (rd s19 33 a1)) fun s21 =>
  gd (inb (7 : Int32) 10) <|
  vl (wr s21 9 (7 : Int32) a1) fun s23 =>
  gd (inb (8 : Int32) 10) <|
  vl (wr s23 9 (8 : Int32) (s23.1 27 0)) fun s25 =>
  bd (xw_netOf n s25 a1) fun r26 s27 =>
  gd (inb (9 : Int32) 10) <|
  vl (wr s27 9 (9 : Int32) (-r26)) fun s30 =>
  nn (s30.2.2.1 0 12) fun q34 =>
  gd (isP s30 q34 4) <|
  bd (xt_first n s30 q34 9) fun r31 s32 =>
  if r31 = (-1 : Int32) then
    some ((0 : Int32), s32)
  else
    nn (s32.2.2.1 0 12) fun q38 =>
    pgQ s32 q38 4 0 fun v40 =>
    nn v40 fun q42 =>
    pal (paQ s32 q42 8) fun n44 f45 =>
    gd (inb r31 n44) <|
    nn (f45 (r31).toNatClampNeg) fun q48 =>
    bd ((xw_tof n 420) s32 q48 9) fun r50 s51 =>
    some (r50, s51)
theorem w_xw_worthOf {l : Launch} {n : Nat} {s sF : Sto} {a1 : Int32} {rF : Int32} (hf : xw_worthOf n s a1 = some (rF, sF)) : Ct xCfg l yX0_worthOf cX0_worthOf 4 (some .int) { frames := 1692, cells := 0, slots := 0, locals := 46422 } (fun g => [.ref (g.1 0), .int a1]) s sF (fun _ => some (.int rF)) := by
  refine Ct_of pn_X0 (fun g => Nat.le_of_ble_eq_true rfl) (fun g A X C E hX => ?_)
  rw [xw_worthOf] at hf
  show TG xCfg g A 4 X 0 0 s 0 [(0, .ref (g.1 0)), (1, .int a1)] []
  refine g_aload_n C dX0_worthOf_0 0 rfl ?_
  refine g_getS 5 C oX0 fX0_68 rfl dX0_worthOf_1 ?_
  refine g_iload_n C dX0_worthOf_4 1 rfl ?_
  refine gd_n hf (fun c1 hf => ?_)
  refine g_aald3 C rX5 rfl c1 dX0_worthOf_5 ?_
  refine g_storeQ_n (i := 2) (lv' := [(2, va_rf (rdR s 5 a1)), (0, .ref (g.1 0)), (1, .int a1)]) C dX0_worthOf_6 rfl (by decide) rfl ?_
  refine g_aload_n C dX0_worthOf_7 1 rfl ?_
  refine g_getS 9 C oX0 fX0_93 rfl dX0_worthOf_8 ?_
  refine g_iconst C dX0_worthOf_11 kc_0 ?_
  refine g_loadQ_n C dX0_worthOf_12 0 rfl ?_
  refine nn_n hf (fun q2 hq3 hf => ?_)
  refine pgI_n hf (fun v4 hv5 hf => ?_)
  refine g_pgetQ C fX0_360 hq3 hv5 dX0_worthOf_13 ?_
  refine gd_n hf (fun c6 hf => ?_)
  refine vl_n hf (fun s7 hs7 hf => ?_)
  refine g_iast C aX9 rfl c6 hs7 dX0_worthOf_16 ?_
  refine g_aload_n C dX0_worthOf_17 1 rfl ?_
  refine g_getS 9 C oX0 fX0_93 rfl dX0_worthOf_18 ?_
  refine g_iconst C dX0_worthOf_21 kc_1 ?_
  refine g_loadQ_n C dX0_worthOf_22 0 rfl ?_
  refine pgI_n hf (fun v8 hv9 hf => ?_)
  refine g_pgetQ C fX0_362 hq3 hv9 dX0_worthOf_23 ?_
  refine gd_n hf (fun c10 hf => ?_)
  refine vl_n hf (fun s11 hs11 hf => ?_)
  refine g_iast C aX9 rfl c10 hs11 dX0_worthOf_26 ?_
  refine g_aload_n C dX0_worthOf_27 1 rfl ?_
  refine g_getS 9 C oX0 fX0_93 rfl dX0_worthOf_28 ?_
  refine g_iconst C dX0_worthOf_31 kc_2 ?_
  refine g_aload_n C dX0_worthOf_32 1 rfl ?_
  refine g_getS 27 C oX0 fX0_82 rfl dX0_worthOf_33 ?_
  refine g_getS 28 C oX27 fX0_357 rfl dX0_worthOf_36 ?_
  refine g_iload_n C dX0_worthOf_39 2 rfl ?_
  refine g_iald C (AO_of 0 9 (by decide) rfl) rfl c1 dX0_worthOf_40 ?_
  refine gd_n hf (fun c12 hf => ?_)
  refine vl_n hf (fun s13 hs13 hf => ?_)
  refine g_iast C aX9 rfl c12 hs13 dX0_worthOf_41 ?_
  refine g_aload_n C dX0_worthOf_42 1 rfl ?_
  refine g_getS 9 C oX0 fX0_93 rfl dX0_worthOf_43 ?_
  refine g_iconst C dX0_worthOf_46 kc_3 ?_
  refine g_aload_n C dX0_worthOf_47 1 rfl ?_
  refine g_getS 27 C oX0 fX0_82 rfl dX0_worthOf_48 ?_
  refine g_getS 29 C oX27 fX0_364 rfl dX0_worthOf_51 ?_
  refine g_iload_n C dX0_worthOf_54 2 rfl ?_
  refine g_iald C (AO_of 0 9 (by decide) rfl) rfl c1 dX0_worthOf_55 ?_
  refine gd_n hf (fun c14 hf => ?_)
  refine vl_n hf (fun s15 hs15 hf => ?_)
  refine g_iast C aX9 rfl c14 hs15 dX0_worthOf_56 ?_
  refine g_aload_n C dX0_worthOf_57 1 rfl ?_
  refine g_getS 9 C oX0 fX0_93 rfl dX0_worthOf_58 ?_
  refine g_iconst C dX0_worthOf_61 kc_4 ?_
  refine g_aload_n C dX0_worthOf_62 1 rfl ?_
  refine g_getS 27 C oX0 fX0_82 rfl dX0_worthOf_63 ?_
  refine g_getS 30 C oX27 fX0_366 rfl dX0_worthOf_66 ?_
  refine g_iload_n C dX0_worthOf_69 2 rfl ?_
  refine g_iald C (AO_of 0 9 (by decide) rfl) rfl c1 dX0_worthOf_70 ?_
  refine gd_n hf (fun c16 hf => ?_)
  refine vl_n hf (fun s17 hs17 hf => ?_)
  refine g_iast C aX9 rfl c16 hs17 dX0_worthOf_71 ?_
  refine g_aload_n C dX0_worthOf_72 1 rfl ?_
  refine g_getS 9 C oX0 fX0_93 rfl dX0_worthOf_73 ?_
  refine g_iconst C dX0_worthOf_76 kc_5 ?_
  refine g_aload_n C dX0_worthOf_77 1 rfl ?_
  refine g_getS 27 C oX0 fX0_82 rfl dX0_worthOf_78 ?_
  refine g_getS 31 C oX27 fX0_368 rfl dX0_worthOf_81 ?_
  refine g_iload_n C dX0_worthOf_84 2 rfl ?_
  refine g_iald C (AO_of 0 9 (by decide) rfl) rfl c1 dX0_worthOf_85 ?_
  refine gd_n hf (fun c18 hf => ?_)
  refine vl_n hf (fun s19 hs19 hf => ?_)
  refine g_iast C aX9 rfl c18 hs19 dX0_worthOf_86 ?_
  refine g_aload_n C dX0_worthOf_87 1 rfl ?_
  refine g_getS 9 C oX0 fX0_93 rfl dX0_worthOf_88 ?_
  refine g_bipush C dX0_worthOf_91 kb_6 ?_
  refine g_aload_n C dX0_worthOf_93 1 rfl ?_
  refine g_getS 27 C oX0 fX0_82 rfl dX0_worthOf_94 ?_
  refine g_getS 33 C oX27 fX0_370 rfl dX0_worthOf_97 ?_
  refine g_iload_n C dX0_worthOf_100 2 rfl ?_
  refine g_iald C (AO_of 0 9 (by decide) rfl) rfl c1 dX0_worthOf_101 ?_
  refine gd_n hf (fun c20 hf => ?_)
  refine vl_n hf (fun s21 hs21 hf => ?_)
  refine g_iast C aX9 rfl c20 hs21 dX0_worthOf_102 ?_
  refine g_aload_n C dX0_worthOf_103 1 rfl ?_
  refine g_getS 9 C oX0 fX0_93 rfl dX0_worthOf_104 ?_
  refine g_bipush C dX0_worthOf_107 kb_7 ?_
  refine g_iload_n C dX0_worthOf_109 2 rfl ?_
  refine gd_n hf (fun c22 hf => ?_)
  refine vl_n hf (fun s23 hs23 hf => ?_)
  refine g_iast C aX9 rfl c22 hs23 dX0_worthOf_110 ?_
  refine g_aload_n C dX0_worthOf_111 1 rfl ?_
  refine g_getS 9 C oX0 fX0_93 rfl dX0_worthOf_112 ?_
  refine g_bipush C dX0_worthOf_115 kb_8 ?_
  refine g_aload_n C dX0_worthOf_117 1 rfl ?_
  refine g_getS 27 C oX0 fX0_82 rfl dX0_worthOf_118 ?_
  refine g_getI C oX27 fX0_372 dX0_worthOf_121 ?_
  refine gd_n hf (fun c24 hf => ?_)
  refine vl_n hf (fun s25 hs25 hf => ?_)
  refine g_iast C aX9 rfl c24 hs25 dX0_worthOf_124 ?_
  refine g_aload_n C dX0_worthOf_125 1 rfl ?_
  refine g_getS 9 C oX0 fX0_93 rfl dX0_worthOf_126 ?_
  refine g_bipush C dX0_worthOf_129 kb_9 ?_
  refine g_aload_n C dX0_worthOf_131 1 rfl ?_
  refine g_iload_n C dX0_worthOf_132 2 rfl ?_
  refine bd_n hf (fun r26 s27 h28 hf => ?_)
  refine g_callV0 (As := [.int a1]) (rest := [.int (9 : Int32), .ref (g.1 9)]) (stk := [.int r26, .int (9 : Int32), .ref (g.1 9)]) C (w_xw_netOf h28) hX oX0 rfl rfl q791 q793 qs24 q88 q794 mdX0_netOf rfl ⟨Nat.le_of_ble_eq_true rfl, Nat.le_of_ble_eq_true rfl⟩ (Nat.le_of_ble_eq_true rfl) dX0_worthOf_133 rfl ?_
  refine g_ineg C dX0_worthOf_136 ?_
  refine gd_n hf (fun c29 hf => ?_)
  refine vl_n hf (fun s30 hs30 hf => ?_)
  refine g_iast C aX9 rfl c29 hs30 dX0_worthOf_137 ?_
  refine g_aload_n C dX0_worthOf_138 1 rfl ?_
  refine g_getQ C oX0 fX0_62 dX0_worthOf_139 ?_
  refine g_aload_n C dX0_worthOf_142 1 rfl ?_
  refine g_getS 9 C oX0 fX0_93 rfl dX0_worthOf_143 ?_
  refine nn_n hf (fun q34 hq35 hf => ?_)
  refine gd_n hf (fun c36 hf => ?_)
  refine bd_n hf (fun r31 s32 h33 hf => ?_)
  refine g_callP0Q (As := [.ref (g.1 9)]) (rest := []) (stk := [.int r31]) C (w_xt_first h33) hX hq35 c36 rfl rfl q795 q796 q797 q89 q798 mdX1_first rfl ⟨Nat.le_of_ble_eq_true rfl, Nat.le_of_ble_eq_true rfl⟩ (Nat.le_of_ble_eq_true rfl) dX0_worthOf_146 rfl ?_
  refine g_istore_n (i := 3) (lv' := [(3, .int r31), (2, va_rf (rdR s 5 a1)), (0, .ref (g.1 0)), (1, .int a1)]) C dX0_worthOf_149 rfl rfl (by decide) (by simp [va_rf_cat]) ?_
  refine g_iload_n C dX0_worthOf_150 0 rfl ?_
  refine g_iconst C dX0_worthOf_151 kc_m1 ?_
  refine g_icmp_ne 159 C dX0_worthOf_152 rfl (fun c37 => ?_) (fun c37 => ?_)
  · replace hf := if_t c37 hf
    refine g_iconst C dX0_worthOf_155 kc_0 ?_
    refine g_goto 175 C dX0_worthOf_156 rfl ?_
    exact g_iret C E rfl (re_i hf) (re_s hf) ⟨Nat.zero_le _, Nat.zero_le _⟩ dX0_worthOf_175
  · replace hf := if_f c37 hf
    refine g_aload_n C dX0_worthOf_159 2 rfl ?_
    refine g_getQ C oX0 fX0_62 dX0_worthOf_160 ?_
    refine nn_n hf (fun q38 hq39 hf => ?_)
    refine pgQ_n hf (fun v40 hv41 hf => ?_)
    refine g_pgetQ C fX0_301 hq39 hv41 dX0_worthOf_163 ?_
    refine g_iload_n C dX0_worthOf_166 0 rfl ?_
    refine nn_n hf (fun q42 hq43 hf => ?_)
    refine pal_n hf (fun n44 f45 hp46 hf => ?_)
    refine gd_n hf (fun c47 hf => ?_)
    refine g_paaldQ C hq43 hp46 rfl c47 dX0_worthOf_167 ?_
    refine g_aload_n C dX0_worthOf_168 2 rfl ?_
    refine g_getS 9 C oX0 fX0_93 rfl dX0_worthOf_169 ?_
    refine nn_n hf (fun q48 hq49 hf => ?_)
    refine bd_n hf (fun r50 s51 h52 hf => ?_)
    refine g_callTQ (rest := []) (stk := [.int r50]) C ((w_tof 420) _ _ _ _ _ h52) hX hq49 q816 ⟨Nat.le_of_ble_eq_true rfl, Nat.le_of_ble_eq_true rfl⟩ (Nat.le_of_ble_eq_true rfl) dX0_worthOf_172 rfl ?_
    exact g_iret C E rfl (re_i hf) (re_s hf) ⟨Nat.zero_le _, Nat.zero_le _⟩ dX0_worthOf_175
def xw_lines_L23 (n : Nat) (v11 : Nat) (v12 : Int32) (k16 : Sto → Int32 → Option (Unit × Sto)) : Nat → Sto → Int32 → Option (Unit × Sto)
  | 0, _, _ => none
  | k + 1, s10, v13 =>
    if v13 ≤ 0 then
      k16 s10 v13
    else
      gd (isA xCfg v11 0) <|
      gd (inb (v13 - (1 : Int32)) (xlen xCfg v11)) <|
      gd (inb (rd s10 v11 (v13 - (1 : Int32))) 9) <|
      gd (inb v12 9) <|
      if (rd s10 10 v12) ≤ (rd s10 10 (rd s10 v11 (v13 - (1 : Int32)))) then
        k16 s10 v13
      else
        gd (inb v13 (xlen xCfg v11)) <|
        vl (wr s10 v11 v13 (rd s10 v11 (v13 - (1 : Int32)))) fun s24 =>
        xw_lines_L23 n v11 v12 k16 k s24 (v13 + (-1 : Int32))
def xw_lines_L2 (n : Nat) (v2 : Nat) : Nat → Sto → Int32 → Option (Unit × Sto)
  | 0, _, _ => none
  | k + 1, s1, v3 =>
    if (s1.1 0 14) ≤ v3 then
      some ((), s1)
    else
      bd (xw_worthOf n s1 v3) fun r5 s6 =>
      gd (inb v3 9) <|
      vl (wr s6 10 v3 r5) fun s9 =>
      xw_lines_L23 n v2 v3
          (fun (s14 : Sto) (v15 : Int32) =>
            gd (isA xCfg v2 0) <|
            gd (inb v15 (xlen xCfg v2)) <|
            vl (wr s14 v2 v15 v3) fun s27 =>
            xw_lines_L2 n v2 k s27 (v3 + (1 : Int32)))
          n s9 v3
def xw_lines (n : Nat) (s : Sto) (a1 : Nat) : Option (Unit × Sto) :=
  xw_lines_L2 n a1
      n s (0 : Int32)
theorem w_xw_lines_L23  {l : Launch} {n : Nat} {v11 : Nat} {v12 : Int32} {k16 : Sto → Int32 → Option (Unit × Sto)} {g : Gam} {A : Nat → Prop} {X : FX} {si sF : Sto} {rF : Unit} (C : CX xCfg g A 4 X cX0_lines RX0 none 1693 46445) (E : EX xCfg g A X si sF none 0 0) (hX : X.2.1 = l) (Hk16 : ∀ (s14 : Sto) (v15 : Int32), k16 s14 v15 = some (rF, sF) → TG xCfg g A 4 X 0 0 s14 60 [(0, .ref (g.1 0)), (1, .ref (g.1 v11)), (2, .int v12), (3, .int v15)] []) : ∀ (k : Nat) (s10 : Sto) (v13 : Int32), xw_lines_L23 n v11 v12 k16 k s10 v13 = some (rF, sF) → TG xCfg g A 4 X 0 0 s10 23 [(0, .ref (g.1 0)), (1, .ref (g.1 v11)), (2, .int v12), (3, .int v13)] [] := by
  intro k
  induction k with
  | zero => intro s10 v13 hf; rw [xw_lines_L23] at hf; cases hf
  | succ k ih =>
    intro s10 v13 hf
    rw [xw_lines_L23] at hf
    refine g_iload_n C dX0_lines_23 3 rfl ?_
    refine g_if_le 60 C dX0_lines_24 rfl (fun c17 => ?_) (fun c17 => ?_)
    · replace hf := if_t c17 hf
      exact g_sub [0, 1, 2, 3] rfl (Hk16 _ _ hf)
    · replace hf := if_f c17 hf
      refine g_aload_n C dX0_lines_27 0 rfl ?_
      refine g_getS 10 C oX0 fX0_96 rfl dX0_lines_28 ?_
      refine g_aload_n C dX0_lines_31 1 rfl ?_
      refine g_iload_n C dX0_lines_32 3 rfl ?_
      refine g_iconst C dX0_lines_33 kc_1 ?_
      refine g_isub C dX0_lines_34 ?_
      refine gd_n hf (fun c18 hf => ?_)
      refine gd_n hf (fun c19 hf => ?_)
      refine g_iald C (isA_s c18) rfl c19 dX0_lines_35 ?_
      refine gd_n hf (fun c20 hf => ?_)
      refine g_iald C aX10 rfl c20 dX0_lines_36 ?_
      refine g_aload_n C dX0_lines_37 0 rfl ?_
      refine g_getS 10 C oX0 fX0_96 rfl dX0_lines_38 ?_
      refine g_iload_n C dX0_lines_41 2 rfl ?_
      refine gd_n hf (fun c21 hf => ?_)
      refine g_iald C aX10 rfl c21 dX0_lines_42 ?_
      refine g_icmp_ge 60 C dX0_lines_43 rfl (fun c22 => ?_) (fun c22 => ?_)
      · replace hf := if_t c22 hf
        exact g_sub [0, 1, 2, 3] rfl (Hk16 _ _ hf)
      · replace hf := if_f c22 hf
        refine g_aload_n C dX0_lines_46 1 rfl ?_
        refine g_iload_n C dX0_lines_47 3 rfl ?_
        refine g_aload_n C dX0_lines_48 1 rfl ?_
        refine g_iload_n C dX0_lines_49 3 rfl ?_
        refine g_iconst C dX0_lines_50 kc_1 ?_
        refine g_isub C dX0_lines_51 ?_
        refine g_iald C (isA_s c18) rfl c19 dX0_lines_52 ?_
        refine gd_n hf (fun c23 hf => ?_)
        refine vl_n hf (fun s24 hs24 hf => ?_)
        refine g_iast C (isA_s c18) rfl c23 hs24 dX0_lines_53 ?_
        refine g_iinc (q := 3) (lv' := [(3, .int (v13 + (-1 : Int32))), (0, .ref (g.1 0)), (1, .ref (g.1 v11)), (2, .int v12)]) C dX0_lines_54 rfl kc_m1 (by decide) rfl ?_
        refine g_goto 23 C dX0_lines_57 rfl ?_
        exact g_sub [1, 2, 3, 0] rfl (ih _ _ hf)
theorem w_xw_lines_L2  {l : Launch} {n : Nat} {v2 : Nat} {g : Gam} {A : Nat → Prop} {X : FX} {si sF : Sto} {rF : Unit} (C : CX xCfg g A 4 X cX0_lines RX0 none 1693 46445) (E : EX xCfg g A X si sF none 0 0) (hX : X.2.1 = l) : ∀ (k : Nat) (s1 : Sto) (v3 : Int32), xw_lines_L2 n v2 k s1 v3 = some (rF, sF) → TG xCfg g A 4 X 0 0 s1 2 [(0, .ref (g.1 0)), (1, .ref (g.1 v2)), (2, .int v3)] [] := by
  intro k
  induction k with
  | zero => intro s1 v3 hf; rw [xw_lines_L2] at hf; cases hf
  | succ k ih =>
    intro s1 v3 hf
    rw [xw_lines_L2] at hf
    refine g_iload_n C dX0_lines_2 2 rfl ?_
    refine g_aload_n C dX0_lines_3 0 rfl ?_
    refine g_getI C oX0 fX0_325 dX0_lines_4 ?_
    refine g_icmp_ge 70 C dX0_lines_7 rfl (fun c4 => ?_) (fun c4 => ?_)
    · replace hf := if_t c4 hf
      exact g_vret C E rfl (re_s hf) ⟨Nat.zero_le _, Nat.zero_le _⟩ dX0_lines_70
    · replace hf := if_f c4 hf
      refine g_aload_n C dX0_lines_10 0 rfl ?_
      refine g_getS 10 C oX0 fX0_96 rfl dX0_lines_11 ?_
      refine g_iload_n C dX0_lines_14 2 rfl ?_
      refine g_aload_n C dX0_lines_15 0 rfl ?_
      refine g_iload_n C dX0_lines_16 2 rfl ?_
      refine bd_n hf (fun r5 s6 h7 hf => ?_)
      refine g_callV0 (As := [.int v3]) (rest := [.int v3, .ref (g.1 10)]) (stk := [.int r5, .int v3, .ref (g.1 10)]) C (w_xw_worthOf h7) hX oX0 rfl rfl q787 q789 qs23 q88 q790 mdX0_worthOf rfl ⟨Nat.le_of_ble_eq_true rfl, Nat.le_of_ble_eq_true rfl⟩ (Nat.le_of_ble_eq_true rfl) dX0_lines_17 rfl ?_
      refine gd_n hf (fun c8 hf => ?_)
      refine vl_n hf (fun s9 hs9 hf => ?_)
      refine g_iast C aX10 rfl c8 hs9 dX0_lines_20 ?_
      refine g_iload_n C dX0_lines_21 2 rfl ?_
      refine g_istore_n (i := 3) (lv' := [(3, .int v3), (0, .ref (g.1 0)), (1, .ref (g.1 v2)), (2, .int v3)]) C dX0_lines_22 rfl rfl (by decide) rfl ?_
      refine g_sub [1, 2, 3, 0] rfl (w_xw_lines_L23 C E hX (fun s14 v15 hf => ?_) _ _ _ hf)
      refine g_aload_n C dX0_lines_60 1 rfl ?_
      refine g_iload_n C dX0_lines_61 3 rfl ?_
      refine g_iload_n C dX0_lines_62 2 rfl ?_
      refine gd_n hf (fun c25 hf => ?_)
      refine gd_n hf (fun c26 hf => ?_)
      refine vl_n hf (fun s27 hs27 hf => ?_)
      refine g_iast C (isA_s c25) rfl c26 hs27 dX0_lines_63 ?_
      refine g_iinc (q := 2) (lv' := [(2, .int (v3 + (1 : Int32))), (0, .ref (g.1 0)), (1, .ref (g.1 v2)), (3, .int v15)]) C dX0_lines_64 rfl kc_1 (by decide) rfl ?_
      refine g_goto 2 C dX0_lines_67 rfl ?_
      exact g_sub [1, 2, 0] rfl (ih _ _ hf)
theorem w_xw_lines {l : Launch} {n : Nat} {s sF : Sto} {a1 : Nat} {rF : Unit} (hf : xw_lines n s a1 = some (rF, sF)) : Ct xCfg l yX0_lines cX0_lines 4 none { frames := 1693, cells := 0, slots := 0, locals := 46445 } (fun g => [.ref (g.1 0), .ref (g.1 a1)]) s sF (fun _ => none) := by
  refine Ct_of pn_X0 (fun g => Nat.le_of_ble_eq_true rfl) (fun g A X C E hX => ?_)
  rw [xw_lines] at hf
  show TG xCfg g A 4 X 0 0 s 0 [(0, .ref (g.1 0)), (1, .ref (g.1 a1))] []
  refine g_iconst C dX0_lines_0 kc_0 ?_
  refine g_istore_n (i := 2) (lv' := [(2, .int (0 : Int32)), (0, .ref (g.1 0)), (1, .ref (g.1 a1))]) C dX0_lines_1 rfl rfl (by decide) rfl ?_
  refine g_sub [1, 2, 0] rfl (w_xw_lines_L2 C E hX _ _ _ hf)
def xw_findsToday_L33 (n : Nat) (k12 : Sto → Int32 → Option (Unit × Sto)) : Nat → Sto → Int32 → Int32 → Option (Unit × Sto)
  | 0, _, _, _ => none
  | k + 1, s7, v8, v9 =>
    if (s7.1 0 14) ≤ v9 then
      k12 s7 v8
    else
      gd (inb v9 9) <|
      gd (inb v8 9) <|
      vl (fun (v16 : Int32) =>
        xw_findsToday_L33 n k12 k s7 v16 (v9 + (1 : Int32))) fun j17 =>
      if (rd s7 32 v8) ≤ (rd s7 32 v9) then
        j17 v8
      else
        j17 v9
def xw_findsToday_L72 (n : Nat) (v20 : Int32) (k24 : Sto → Int32 → Option (Unit × Sto)) : Nat → Sto → Int32 → Option (Unit × Sto)
  | 0, _, _ => none
  | k + 1, s19, v21 =>
    gd (inb v21 9) <|
    if (rd s19 11 v21) = v20 then
      k24 s19 v21
    else
      xw_findsToday_L72 n v20 k24 k s19 (v21 + (1 : Int32))
def xw_findsToday (n : Nat) (s : Sto) : Option (Unit × Sto) :=
  bd (xw_lines n s 11) fun r1 s2 =>
  gd (decide (¬ (7 : Int32) = 0)) <|
  if (irem (s2.1 27 0) (7 : Int32)) = 0 then
    if (s2.1 0 14) = 0 then
      some ((), s2)
    else
      xw_findsToday_L33 n
          (fun (s10 : Sto) (v11 : Int32) =>
            xw_findsToday_L72 n v11
                (fun (s22 : Sto) (v23 : Int32) =>
                  gd (cpOk (0 : Int32) (1 : Int32) v23 9 9) <|
                  vl (cpI s22 11 (0 : Int32) 11 (1 : Int32) v23) fun s27 =>
                  gd (inb (0 : Int32) 9) <|
                  vl (wr s27 11 (0 : Int32) v11) fun s30 =>
                  some ((), s30))
                n s10 (0 : Int32))
          n s2 (0 : Int32) (1 : Int32)
  else
    some ((), s2)
theorem w_xw_findsToday_L33  {l : Launch} {n : Nat} {k12 : Sto → Int32 → Option (Unit × Sto)} {g : Gam} {A : Nat → Prop} {X : FX} {si sF : Sto} {rF : Unit} (C : CX xCfg g A 3 X cX0_findsToday RX0 none 1694 46468) (E : EX xCfg g A X si sF none 0 0) (hX : X.2.1 = l) (Hk12 : ∀ (s10 : Sto) (v11 : Int32), k12 s10 v11 = some (rF, sF) → TG xCfg g A 3 X 0 0 s10 70 [(0, .ref (g.1 0)), (1, .int v11)] []) : ∀ (k : Nat) (s7 : Sto) (v8 : Int32) (v9 : Int32), xw_findsToday_L33 n k12 k s7 v8 v9 = some (rF, sF) → TG xCfg g A 3 X 0 0 s7 33 [(0, .ref (g.1 0)), (1, .int v8), (2, .int v9)] [] := by
  intro k
  induction k with
  | zero => intro s7 v8 v9 hf; rw [xw_findsToday_L33] at hf; cases hf
  | succ k ih =>
    intro s7 v8 v9 hf
    rw [xw_findsToday_L33] at hf
    refine g_iload_n C dX0_findsToday_33 2 rfl ?_
    refine g_aload_n C dX0_findsToday_34 0 rfl ?_
    refine g_getI C oX0 fX0_325 dX0_findsToday_35 ?_
    refine g_icmp_ge 70 C dX0_findsToday_38 rfl (fun c13 => ?_) (fun c13 => ?_)
    · replace hf := if_t c13 hf
      exact g_sub [0, 1] rfl (Hk12 _ _ hf)
    · replace hf := if_f c13 hf
      refine g_aload_n C dX0_findsToday_41 0 rfl ?_
      refine g_getS 27 C oX0 fX0_82 rfl dX0_findsToday_42 ?_
      refine g_getS 32 C oX27 fX0_392 rfl dX0_findsToday_45 ?_
      refine g_iload_n C dX0_findsToday_48 2 rfl ?_
      refine gd_n hf (fun c14 hf => ?_)
      refine g_iald C (AO_of 0 9 (by decide) rfl) rfl c14 dX0_findsToday_49 ?_
      refine g_aload_n C dX0_findsToday_50 0 rfl ?_
      refine g_getS 27 C oX0 fX0_82 rfl dX0_findsToday_51 ?_
      refine g_getS 32 C oX27 fX0_392 rfl dX0_findsToday_54 ?_
      refine g_iload_n C dX0_findsToday_57 1 rfl ?_
      refine gd_n hf (fun c15 hf => ?_)
      refine g_iald C (AO_of 0 9 (by decide) rfl) rfl c15 dX0_findsToday_58 ?_
      refine vl_n hf (fun j17 hj17 hf => ?_)
      have Hj17 : ∀ (v16 : Int32), j17 v16 = some (rF, sF) → TG xCfg g A 3 X 0 0 s7 64 [(0, .ref (g.1 0)), (1, .int v16), (2, .int v9)] [] := by
        clear hf; subst hj17
        intro v16 hf
        refine g_iinc (q := 2) (lv' := [(2, .int (v9 + (1 : Int32))), (0, .ref (g.1 0)), (1, .int v16)]) C dX0_findsToday_64 rfl kc_1 (by decide) rfl ?_
        refine g_goto 33 C dX0_findsToday_67 rfl ?_
        exact g_sub [1, 2, 0] rfl (ih _ _ _ hf)
      clear hj17
      refine g_icmp_ge 64 C dX0_findsToday_59 rfl (fun c18 => ?_) (fun c18 => ?_)
      · replace hf := if_t c18 hf
        exact g_sub [0, 1, 2] rfl (Hj17 _ hf)
      · replace hf := if_f c18 hf
        refine g_iload_n C dX0_findsToday_62 2 rfl ?_
        refine g_istore_n (i := 1) (lv' := [(1, .int v9), (0, .ref (g.1 0)), (2, .int v9)]) C dX0_findsToday_63 rfl rfl (by decide) rfl ?_
        exact g_sub [1, 0, 2] rfl (Hj17 _ hf)
theorem w_xw_findsToday_L72  {l : Launch} {n : Nat} {v20 : Int32} {k24 : Sto → Int32 → Option (Unit × Sto)} {g : Gam} {A : Nat → Prop} {X : FX} {si sF : Sto} {rF : Unit} (C : CX xCfg g A 3 X cX0_findsToday RX0 none 1694 46468) (E : EX xCfg g A X si sF none 0 0) (hX : X.2.1 = l) (Hk24 : ∀ (s22 : Sto) (v23 : Int32), k24 s22 v23 = some (rF, sF) → TG xCfg g A 3 X 0 0 s22 88 [(0, .ref (g.1 0)), (1, .int v20), (2, .int v23)] []) : ∀ (k : Nat) (s19 : Sto) (v21 : Int32), xw_findsToday_L72 n v20 k24 k s19 v21 = some (rF, sF) → TG xCfg g A 3 X 0 0 s19 72 [(0, .ref (g.1 0)), (1, .int v20), (2, .int v21)] [] := by
  intro k
  induction k with
  | zero => intro s19 v21 hf; rw [xw_findsToday_L72] at hf; cases hf
  | succ k ih =>
    intro s19 v21 hf
    rw [xw_findsToday_L72] at hf
    refine g_aload_n C dX0_findsToday_72 0 rfl ?_
    refine g_getS 11 C oX0 fX0_99 rfl dX0_findsToday_73 ?_
    refine g_iload_n C dX0_findsToday_76 2 rfl ?_
    refine gd_n hf (fun c25 hf => ?_)
    refine g_iald C aX11 rfl c25 dX0_findsToday_77 ?_
    refine g_iload_n C dX0_findsToday_78 1 rfl ?_
    refine g_icmp_eq 88 C dX0_findsToday_79 rfl (fun c26 => ?_) (fun c26 => ?_)
    · replace hf := if_t c26 hf
      exact g_sub [0, 1, 2] rfl (Hk24 _ _ hf)
    · replace hf := if_f c26 hf
      refine g_iinc (q := 2) (lv' := [(2, .int (v21 + (1 : Int32))), (0, .ref (g.1 0)), (1, .int v20)]) C dX0_findsToday_82 rfl kc_1 (by decide) rfl ?_
      refine g_goto 72 C dX0_findsToday_85 rfl ?_
      exact g_sub [1, 2, 0] rfl (ih _ _ hf)
theorem w_xw_findsToday {l : Launch} {n : Nat} {s sF : Sto} {rF : Unit} (hf : xw_findsToday n s  = some (rF, sF)) : Ct xCfg l yX0_findsToday cX0_findsToday 3 none { frames := 1694, cells := 0, slots := 0, locals := 46468 } (fun g => [.ref (g.1 0)]) s sF (fun _ => none) := by
  refine Ct_of pn_X0 (fun g => Nat.le_of_ble_eq_true rfl) (fun g A X C E hX => ?_)
  rw [xw_findsToday] at hf
  show TG xCfg g A 3 X 0 0 s 0 [(0, .ref (g.1 0))] []
  refine g_aload_n C dX0_findsToday_0 0 rfl ?_
  refine g_aload_n C dX0_findsToday_1 0 rfl ?_
  refine g_getS 11 C oX0 fX0_99 rfl dX0_findsToday_2 ?_
  refine bd_n hf (fun r1 s2 h3 hf => ?_)
  refine g_callV0 (As := [.ref (g.1 11)]) (rest := []) (stk := []) C (w_xw_lines h3) hX oX0 rfl rfl q783 q785 qs22 q88 q786 mdX0_lines rfl ⟨Nat.le_of_ble_eq_true rfl, Nat.le_of_ble_eq_true rfl⟩ (Nat.le_of_ble_eq_true rfl) dX0_findsToday_5 rfl ?_
  refine g_aload_n C dX0_findsToday_8 0 rfl ?_
  refine g_getS 27 C oX0 fX0_82 rfl dX0_findsToday_9 ?_
  refine g_getI C oX27 fX0_372 dX0_findsToday_12 ?_
  refine g_bipush C dX0_findsToday_15 kb_7 ?_
  refine gd_n hf (fun c4 hf => ?_)
  refine g_irem C dX0_findsToday_17 c4 ?_
  refine g_if_ne 28 C dX0_findsToday_18 rfl (fun c5 => ?_) (fun c5 => ?_)
  · replace hf := if_t c5 hf
    refine g_aload_n C dX0_findsToday_21 0 rfl ?_
    refine g_getI C oX0 fX0_325 dX0_findsToday_22 ?_
    refine g_if_ne 29 C dX0_findsToday_25 rfl (fun c6 => ?_) (fun c6 => ?_)
    · replace hf := if_t c6 hf
      exact g_vret C E rfl (re_s hf) ⟨Nat.zero_le _, Nat.zero_le _⟩ dX0_findsToday_28
    · replace hf := if_f c6 hf
      refine g_iconst C dX0_findsToday_29 kc_0 ?_
      refine g_istore_n (i := 1) (lv' := [(1, .int (0 : Int32)), (0, .ref (g.1 0))]) C dX0_findsToday_30 rfl rfl (by decide) rfl ?_
      refine g_iconst C dX0_findsToday_31 kc_1 ?_
      refine g_istore_n (i := 2) (lv' := [(2, .int (1 : Int32)), (1, .int (0 : Int32)), (0, .ref (g.1 0))]) C dX0_findsToday_32 rfl rfl (by decide) rfl ?_
      refine g_sub [2, 1, 0] rfl (w_xw_findsToday_L33 C E hX (fun s10 v11 hf => ?_) _ _ _ _ hf)
      refine g_iconst C dX0_findsToday_70 kc_0 ?_
      refine g_istore_n (i := 2) (lv' := [(2, .int (0 : Int32)), (0, .ref (g.1 0)), (1, .int v11)]) C dX0_findsToday_71 rfl rfl (by decide) rfl ?_
      refine g_sub [1, 2, 0] rfl (w_xw_findsToday_L72 C E hX (fun s22 v23 hf => ?_) _ _ _ hf)
      refine g_aload_n C dX0_findsToday_88 0 rfl ?_
      refine g_getS 11 C oX0 fX0_99 rfl dX0_findsToday_89 ?_
      refine g_iconst C dX0_findsToday_92 kc_0 ?_
      refine g_aload_n C dX0_findsToday_93 0 rfl ?_
      refine g_getS 11 C oX0 fX0_99 rfl dX0_findsToday_94 ?_
      refine g_iconst C dX0_findsToday_97 kc_1 ?_
      refine g_iload_n C dX0_findsToday_98 2 rfl ?_
      refine gd_n hf (fun c28 hf => ?_)
      refine vl_n hf (fun s27 hs27 hf => ?_)
      refine g_copyI C aX11 aX11 rfl c28 q713 (Nat.le_of_ble_eq_true rfl) (Nat.le_of_ble_eq_true rfl) (Nat.le_of_ble_eq_true rfl) hs27 dX0_findsToday_99 ?_
      refine g_aload_n C dX0_findsToday_102 0 rfl ?_
      refine g_getS 11 C oX0 fX0_99 rfl dX0_findsToday_103 ?_
      refine g_iconst C dX0_findsToday_106 kc_0 ?_
      refine g_iload_n C dX0_findsToday_107 1 rfl ?_
      refine gd_n hf (fun c29 hf => ?_)
      refine vl_n hf (fun s30 hs30 hf => ?_)
      refine g_iast C aX11 rfl c29 hs30 dX0_findsToday_108 ?_
      exact g_vret C E rfl (re_s hf) ⟨Nat.zero_le _, Nat.zero_le _⟩ dX0_findsToday_109
  · replace hf := if_f c5 hf
    exact g_vret C E rfl (re_s hf) ⟨Nat.zero_le _, Nat.zero_le _⟩ dX0_findsToday_28
def xw_order (n : Nat) (s : Sto) (a1 : Int32) : Option (Int32 × Sto) :=
  bd (xw_isHouse n s a1) fun r1 s2 =>
  if r1 = true then
    bd (xw_findsToday n s2) fun r5 s6 =>
    gd (inb a1 9) <|
    some ((rd s6 11 a1), s6)
  else
    some ((-1 : Int32), s2)
theorem w_xw_order {l : Launch} {n : Nat} {s sF : Sto} {a1 : Int32} {rF : Int32} (hf : xw_order n s a1 = some (rF, sF)) : Ct xCfg l yX0_order cX0_order 2 (some .int) { frames := 1695, cells := 0, slots := 0, locals := 46490 } (fun g => [.ref (g.1 0), .int a1]) s sF (fun _ => some (.int rF)) := by
  refine Ct_of pn_X0 (fun g => Nat.le_of_ble_eq_true rfl) (fun g A X C E hX => ?_)
  rw [xw_order] at hf
  show TG xCfg g A 2 X 0 0 s 0 [(0, .ref (g.1 0)), (1, .int a1)] []
  refine g_aload_n C dX0_order_0 0 rfl ?_
  refine g_iload_n C dX0_order_1 1 rfl ?_
  refine bd_n hf (fun r1 s2 h3 hf => ?_)
  refine g_callV0 (As := [.int a1]) (rest := []) (stk := [.int (bI r1)]) C (w_xw_isHouse h3) hX oX0 rfl rfl q766 q768 qs20 q88 q769 mdX0_isHouse rfl ⟨Nat.le_of_ble_eq_true rfl, Nat.le_of_ble_eq_true rfl⟩ (Nat.le_of_ble_eq_true rfl) dX0_order_2 rfl ?_
  refine g_ifZ_ne 10 C dX0_order_5 rfl (fun c4 => ?_) (fun c4 => ?_)
  · replace hf := if_t c4 hf
    refine g_aload_n C dX0_order_10 0 rfl ?_
    refine bd_n hf (fun r5 s6 h7 hf => ?_)
    refine g_callV0 (As := []) (rest := []) (stk := []) C (w_xw_findsToday h7) hX oX0 rfl rfl q779 q781 qs21 q88 q782 mdX0_findsToday rfl ⟨Nat.le_of_ble_eq_true rfl, Nat.le_of_ble_eq_true rfl⟩ (Nat.le_of_ble_eq_true rfl) dX0_order_11 rfl ?_
    refine g_aload_n C dX0_order_14 0 rfl ?_
    refine g_getS 11 C oX0 fX0_99 rfl dX0_order_15 ?_
    refine g_iload_n C dX0_order_18 1 rfl ?_
    refine gd_n hf (fun c8 hf => ?_)
    refine g_iald C aX11 rfl c8 dX0_order_19 ?_
    exact g_iret C E rfl (re_i hf) (re_s hf) ⟨Nat.zero_le _, Nat.zero_le _⟩ dX0_order_20
  · replace hf := if_f c4 hf
    refine g_iconst C dX0_order_8 kc_m1 ?_
    exact g_iret C E rfl (re_i hf) (re_s hf) ⟨Nat.zero_le _, Nat.zero_le _⟩ dX0_order_9
def xw_goesBy_L59 (n : Nat) (v10 : Int32) (k13 : Sto → Option (Bool × Sto)) : Nat → Sto → Int32 → Option (Bool × Sto)
  | 0, _, _ => none
  | k + 1, s9, v11 =>
    if (s9.1 0 14) ≤ v11 then
      k13 s9
    else
      vl (fun (t15 : Bool) =>
        bd (xw_bakes n s9 v11 t15) fun r17 s18 =>
        xw_goesBy_L59 n v10 k13 k s18 (v11 + (1 : Int32))) fun j16 =>
      if v11 = v10 then
        j16 true
      else
        j16 false
def xw_goesBy (n : Nat) (s : Sto) : Option (Bool × Sto) :=
  bd (xw_findsToday n s) fun r1 s2 =>
  gd (inb (3 : Int32) 4) <|
  vl (fun (s5 : Sto) (v6 : Int32) =>
    vl (sI s5 0 24 (0 : Int32)) fun s8 =>
    xw_goesBy_L59 n v6
        (fun (s12 : Sto) =>
          vl (fun (s21 : Sto) =>
            bd (xw_copies n s21 11 34) fun r23 s24 =>
            vl (sI s24 27 4 ((s24.1 0 14) + (1 : Int32))) fun s26 =>
            vl (fun (t27 : Int32) =>
              vl (sI s26 27 3 t27) fun s29 =>
              vl (sI s29 27 0 ((s29.1 27 0) + (1 : Int32))) fun s30 =>
              if v6 = (-1 : Int32) then
                some (false, s30)
              else
                some (true, s30)) fun j28 =>
            if v6 = (-1 : Int32) then
              j28 (-1 : Int32)
            else
              gd (inb v6 9) <|
              j28 (rd s26 11 v6)) fun j22 =>
          if (s12.1 0 14) ≤ 0 then
            j22 s12
          else
            gd (inb (0 : Int32) 9) <|
            gd (inb (rd s12 11 (0 : Int32)) 9) <|
            vl (wr s12 31 (rd s12 11 (0 : Int32)) ((rd s12 31 (rd s12 11 (0 : Int32))) + (1 : Int32))) fun s37 =>
            gd (inb (rd s37 11 (0 : Int32)) 9) <|
            gd (decide (¬ (7 : Int32) = 0)) <|
            vl (fun (t40 : Bool) =>
              vl (wr s37 32 (rd s37 11 (0 : Int32)) ((rd s37 32 (rd s37 11 (0 : Int32))) + (bI t40))) fun s42 =>
              j22 s42) fun j41 =>
            if (irem (s37.1 27 0) (7 : Int32)) = 0 then
              j41 true
            else
              j41 false)
        n s8 (0 : Int32)) fun j7 =>
  if (rd s2 6 (3 : Int32)) ≤ 0 then
    j7 s2 (-1 : Int32)
  else
    if (s2.1 0 14) ≤ 0 then
      j7 s2 (-1 : Int32)
    else
      bd (xd_draw n s2 27 (100 : Int32)) fun r46 s47 =>
      if (rd s47 6 (3 : Int32)) ≤ r46 then
        j7 s47 (-1 : Int32)
      else
        bd (xd_draw n s47 27 (s47.1 0 14)) fun r50 s51 =>
        j7 s51 r50
theorem w_xw_goesBy_L59  {l : Launch} {n : Nat} {v10 : Int32} {k13 : Sto → Option (Bool × Sto)} {g : Gam} {A : Nat → Prop} {X : FX} {si sF : Sto} {rF : Bool} (C : CX xCfg g A 3 X cX0_goesBy RX0 (some .boolean) 1695 46490) (E : EX xCfg g A X si sF (some (.int (bI rF))) 0 0) (hX : X.2.1 = l) (Hk13 : ∀ (s12 : Sto), k13 s12 = some (rF, sF) → TG xCfg g A 3 X 0 0 s12 88 [(0, .ref (g.1 0)), (1, .int v10)] []) : ∀ (k : Nat) (s9 : Sto) (v11 : Int32), xw_goesBy_L59 n v10 k13 k s9 v11 = some (rF, sF) → TG xCfg g A 3 X 0 0 s9 59 [(0, .ref (g.1 0)), (1, .int v10), (2, .int v11)] [] := by
  intro k
  induction k with
  | zero => intro s9 v11 hf; rw [xw_goesBy_L59] at hf; cases hf
  | succ k ih =>
    intro s9 v11 hf
    rw [xw_goesBy_L59] at hf
    refine g_iload_n C dX0_goesBy_59 2 rfl ?_
    refine g_aload_n C dX0_goesBy_60 0 rfl ?_
    refine g_getI C oX0 fX0_325 dX0_goesBy_61 ?_
    refine g_icmp_ge 88 C dX0_goesBy_64 rfl (fun c14 => ?_) (fun c14 => ?_)
    · replace hf := if_t c14 hf
      exact g_sub [0, 1] rfl (Hk13 _ hf)
    · replace hf := if_f c14 hf
      refine g_aload_n C dX0_goesBy_67 0 rfl ?_
      refine g_iload_n C dX0_goesBy_68 2 rfl ?_
      refine g_iload_n C dX0_goesBy_69 2 rfl ?_
      refine g_iload_n C dX0_goesBy_70 1 rfl ?_
      refine vl_n hf (fun j16 hj16 hf => ?_)
      have Hj16 : ∀ (t15 : Bool), j16 t15 = some (rF, sF) → TG xCfg g A 3 X 0 0 s9 79 [(0, .ref (g.1 0)), (1, .int v10), (2, .int v11)] [.int (bI t15), .int v11, .ref (g.1 0)] := by
        clear hf; subst hj16
        intro t15 hf
        refine bd_n hf (fun r17 s18 h19 hf => ?_)
        refine g_callV0 (As := [.int v11, .int (bI t15)]) (rest := []) (stk := []) C (w_xw_bakes h19) hX oX0 rfl rfl q835 q837 qs27 q88 q838 mdX0_bakes rfl ⟨Nat.le_of_ble_eq_true rfl, Nat.le_of_ble_eq_true rfl⟩ (Nat.le_of_ble_eq_true rfl) dX0_goesBy_79 rfl ?_
        refine g_iinc (q := 2) (lv' := [(2, .int (v11 + (1 : Int32))), (0, .ref (g.1 0)), (1, .int v10)]) C dX0_goesBy_82 rfl kc_1 (by decide) rfl ?_
        refine g_goto 59 C dX0_goesBy_85 rfl ?_
        exact g_sub [1, 2, 0] rfl (ih _ _ hf)
      clear hj16
      refine g_icmp_ne 78 C dX0_goesBy_71 rfl (fun c20 => ?_) (fun c20 => ?_)
      · replace hf := if_t c20 hf
        refine g_iconst C dX0_goesBy_74 kc_1 ?_
        refine g_goto 79 C dX0_goesBy_75 rfl ?_
        exact g_sub [0, 1, 2] rfl (Hj16 _ hf)
      · replace hf := if_f c20 hf
        refine g_iconst C dX0_goesBy_78 kc_0 ?_
        exact g_sub [0, 1, 2] rfl (Hj16 _ hf)
theorem w_xw_goesBy {l : Launch} {n : Nat} {s sF : Sto} {rF : Bool} (hf : xw_goesBy n s  = some (rF, sF)) : Ct xCfg l yX0_goesBy cX0_goesBy 3 (some .boolean) { frames := 1695, cells := 0, slots := 0, locals := 46490 } (fun g => [.ref (g.1 0)]) s sF (fun _ => some (.int (bI rF))) := by
  refine Ct_of pn_X0 (fun g => Nat.le_of_ble_eq_true rfl) (fun g A X C E hX => ?_)
  rw [xw_goesBy] at hf
  show TG xCfg g A 3 X 0 0 s 0 [(0, .ref (g.1 0))] []
  refine g_aload_n C dX0_goesBy_0 0 rfl ?_
  refine bd_n hf (fun r1 s2 h3 hf => ?_)
  refine g_callV0 (As := []) (rest := []) (stk := []) C (w_xw_findsToday h3) hX oX0 rfl rfl q779 q781 qs21 q88 q782 mdX0_findsToday rfl ⟨Nat.le_of_ble_eq_true rfl, Nat.le_of_ble_eq_true rfl⟩ (Nat.le_of_ble_eq_true rfl) dX0_goesBy_1 rfl ?_
  refine g_iconst C dX0_goesBy_4 kc_m1 ?_
  refine g_istore_n (i := 1) (lv' := [(1, .int (-1 : Int32)), (0, .ref (g.1 0))]) C dX0_goesBy_5 rfl rfl (by decide) rfl ?_
  refine g_aload_n C dX0_goesBy_6 1 rfl ?_
  refine g_getS 6 C oX0 fX0_72 rfl dX0_goesBy_7 ?_
  refine g_iconst C dX0_goesBy_10 kc_3 ?_
  refine gd_n hf (fun c4 hf => ?_)
  refine g_iald C aX6 rfl c4 dX0_goesBy_11 ?_
  refine vl_n hf (fun j7 hj7 hf => ?_)
  have Hj7 : ∀ (s5 : Sto) (v6 : Int32), j7 s5 v6 = some (rF, sF) → TG xCfg g A 3 X 0 0 s5 52 [(0, .ref (g.1 0)), (1, .int v6)] [] := by
    clear hf; subst hj7
    intro s5 v6 hf
    refine g_aload_n C dX0_goesBy_52 0 rfl ?_
    refine g_iconst C dX0_goesBy_53 kc_0 ?_
    refine vl_n hf (fun s8 hs8 hf => ?_)
    refine g_putI C oX0 pX0_401 rfl rfl hs8 dX0_goesBy_54 ?_
    refine g_iconst C dX0_goesBy_57 kc_0 ?_
    refine g_istore_n (i := 2) (lv' := [(2, .int (0 : Int32)), (0, .ref (g.1 0)), (1, .int v6)]) C dX0_goesBy_58 rfl rfl (by decide) rfl ?_
    refine g_sub [1, 2, 0] rfl (w_xw_goesBy_L59 C E hX (fun s12 hf => ?_) _ _ _ hf)
    refine g_aload_n C dX0_goesBy_88 0 rfl ?_
    refine g_getI C oX0 fX0_325 dX0_goesBy_89 ?_
    refine vl_n hf (fun j22 hj22 hf => ?_)
    have Hj22 : ∀ (s21 : Sto), j22 s21 = some (rF, sF) → TG xCfg g A 3 X 0 0 s21 148 [(0, .ref (g.1 0)), (1, .int v6)] [] := by
      clear hf; subst hj22
      intro s21 hf
      refine g_aload_n C dX0_goesBy_148 0 rfl ?_
      refine g_getS 11 C oX0 fX0_99 rfl dX0_goesBy_149 ?_
      refine g_aload_n C dX0_goesBy_152 0 rfl ?_
      refine g_getS 27 C oX0 fX0_82 rfl dX0_goesBy_153 ?_
      refine g_getS 34 C oX27 fX0_423 rfl dX0_goesBy_156 ?_
      refine bd_n hf (fun r23 s24 h25 hf => ?_)
      refine g_callS0 (As := [.ref (g.1 11), .ref (g.1 34)]) (rest := []) (stk := []) C (w_xw_copies h25) hX rfl q848 q711 q88 q712 msX0_copies rfl ⟨Nat.le_of_ble_eq_true rfl, Nat.le_of_ble_eq_true rfl⟩ (Nat.le_of_ble_eq_true rfl) dX0_goesBy_159 rfl ?_
      refine g_aload_n C dX0_goesBy_162 0 rfl ?_
      refine g_getS 27 C oX0 fX0_82 rfl dX0_goesBy_163 ?_
      refine g_aload_n C dX0_goesBy_166 0 rfl ?_
      refine g_getI C oX0 fX0_325 dX0_goesBy_167 ?_
      refine g_iconst C dX0_goesBy_170 kc_1 ?_
      refine g_iadd C dX0_goesBy_171 ?_
      refine vl_n hf (fun s26 hs26 hf => ?_)
      refine g_putI C oX27 pX0_430 rfl rfl hs26 dX0_goesBy_172 ?_
      refine g_aload_n C dX0_goesBy_175 0 rfl ?_
      refine g_getS 27 C oX0 fX0_82 rfl dX0_goesBy_176 ?_
      refine g_iload_n C dX0_goesBy_179 1 rfl ?_
      refine g_iconst C dX0_goesBy_180 kc_m1 ?_
      refine vl_n hf (fun j28 hj28 hf => ?_)
      have Hj28 : ∀ (t27 : Int32), j28 t27 = some (rF, sF) → TG xCfg g A 3 X 0 0 s26 194 [(0, .ref (g.1 0)), (1, .int v6)] [.int t27, .ref (g.1 27)] := by
        clear hf; subst hj28
        intro t27 hf
        refine vl_n hf (fun s29 hs29 hf => ?_)
        refine g_putI C oX27 pX0_433 rfl rfl hs29 dX0_goesBy_194 ?_
        refine g_aload_n C dX0_goesBy_197 0 rfl ?_
        refine g_getS 27 C oX0 fX0_82 rfl dX0_goesBy_198 ?_
        refine g_dup C dX0_goesBy_201 rfl ?_
        refine g_getI C oX27 fX0_372 dX0_goesBy_202 ?_
        refine g_iconst C dX0_goesBy_205 kc_1 ?_
        refine g_iadd C dX0_goesBy_206 ?_
        refine vl_n hf (fun s30 hs30 hf => ?_)
        refine g_putI C oX27 pX0_372 rfl rfl hs30 dX0_goesBy_207 ?_
        refine g_iload_n C dX0_goesBy_210 1 rfl ?_
        refine g_iconst C dX0_goesBy_211 kc_m1 ?_
        refine g_icmp_eq 219 C dX0_goesBy_212 rfl (fun c31 => ?_) (fun c31 => ?_)
        · replace hf := if_t c31 hf
          refine g_iconst C dX0_goesBy_219 kc_0 ?_
          exact g_iret (v := bI false) C E (bI_nar _) (re_z hf) (re_s hf) ⟨Nat.zero_le _, Nat.zero_le _⟩ dX0_goesBy_220
        · replace hf := if_f c31 hf
          refine g_iconst C dX0_goesBy_215 kc_1 ?_
          refine g_goto 220 C dX0_goesBy_216 rfl ?_
          exact g_iret (v := bI true) C E (bI_nar _) (re_z hf) (re_s hf) ⟨Nat.zero_le _, Nat.zero_le _⟩ dX0_goesBy_220
      clear hj28
      refine g_icmp_ne 188 C dX0_goesBy_181 rfl (fun c32 => ?_) (fun c32 => ?_)
      · replace hf := if_t c32 hf
        refine g_iconst C dX0_goesBy_184 kc_m1 ?_
        refine g_goto 194 C dX0_goesBy_185 rfl ?_
        exact g_sub [0, 1] rfl (Hj28 _ hf)
      · replace hf := if_f c32 hf
        refine g_aload_n C dX0_goesBy_188 0 rfl ?_
        refine g_getS 11 C oX0 fX0_99 rfl dX0_goesBy_189 ?_
        refine g_iload_n C dX0_goesBy_192 1 rfl ?_
        refine gd_n hf (fun c33 hf => ?_)
        refine g_iald C aX11 rfl c33 dX0_goesBy_193 ?_
        exact g_sub [0, 1] rfl (Hj28 _ hf)
    clear hj22
    refine g_if_le 148 C dX0_goesBy_92 rfl (fun c34 => ?_) (fun c34 => ?_)
    · replace hf := if_t c34 hf
      exact g_sub [0, 1] rfl (Hj22 _ hf)
    · replace hf := if_f c34 hf
      refine g_aload_n C dX0_goesBy_95 0 rfl ?_
      refine g_getS 27 C oX0 fX0_82 rfl dX0_goesBy_96 ?_
      refine g_getS 31 C oX27 fX0_368 rfl dX0_goesBy_99 ?_
      refine g_aload_n C dX0_goesBy_102 0 rfl ?_
      refine g_getS 11 C oX0 fX0_99 rfl dX0_goesBy_103 ?_
      refine g_iconst C dX0_goesBy_106 kc_0 ?_
      refine gd_n hf (fun c35 hf => ?_)
      refine g_iald C aX11 rfl c35 dX0_goesBy_107 ?_
      refine g_dup2 C dX0_goesBy_108 rfl rfl ?_
      refine gd_n hf (fun c36 hf => ?_)
      refine g_iald C (AO_of 0 9 (by decide) rfl) rfl c36 dX0_goesBy_109 ?_
      refine g_iconst C dX0_goesBy_110 kc_1 ?_
      refine g_iadd C dX0_goesBy_111 ?_
      refine vl_n hf (fun s37 hs37 hf => ?_)
      refine g_iast C (AO_of 0 9 (by decide) rfl) rfl c36 hs37 dX0_goesBy_112 ?_
      refine g_aload_n C dX0_goesBy_113 0 rfl ?_
      refine g_getS 27 C oX0 fX0_82 rfl dX0_goesBy_114 ?_
      refine g_getS 32 C oX27 fX0_392 rfl dX0_goesBy_117 ?_
      refine g_aload_n C dX0_goesBy_120 0 rfl ?_
      refine g_getS 11 C oX0 fX0_99 rfl dX0_goesBy_121 ?_
      refine g_iconst C dX0_goesBy_124 kc_0 ?_
      refine g_iald C aX11 rfl c35 dX0_goesBy_125 ?_
      refine g_dup2 C dX0_goesBy_126 rfl rfl ?_
      refine gd_n hf (fun c38 hf => ?_)
      refine g_iald C (AO_of 0 9 (by decide) rfl) rfl c38 dX0_goesBy_127 ?_
      refine g_aload_n C dX0_goesBy_128 0 rfl ?_
      refine g_getS 27 C oX0 fX0_82 rfl dX0_goesBy_129 ?_
      refine g_getI C oX27 fX0_372 dX0_goesBy_132 ?_
      refine g_bipush C dX0_goesBy_135 kb_7 ?_
      refine gd_n hf (fun c39 hf => ?_)
      refine g_irem C dX0_goesBy_137 c39 ?_
      refine vl_n hf (fun j41 hj41 hf => ?_)
      have Hj41 : ∀ (t40 : Bool), j41 t40 = some (rF, sF) → TG xCfg g A 3 X 0 0 s37 146 [(0, .ref (g.1 0)), (1, .int v6)] [.int (bI t40), .int (rd s37 32 (rd s37 11 (0 : Int32))), .int (rd s37 11 (0 : Int32)), .ref (g.1 32)] := by
        clear hf; subst hj41
        intro t40 hf
        refine g_iadd C dX0_goesBy_146 ?_
        refine vl_n hf (fun s42 hs42 hf => ?_)
        refine g_iast C (AO_of 0 9 (by decide) rfl) rfl c38 hs42 dX0_goesBy_147 ?_
        exact g_sub [0, 1] rfl (Hj22 _ hf)
      clear hj41
      refine g_if_ne 145 C dX0_goesBy_138 rfl (fun c43 => ?_) (fun c43 => ?_)
      · replace hf := if_t c43 hf
        refine g_iconst C dX0_goesBy_141 kc_1 ?_
        refine g_goto 146 C dX0_goesBy_142 rfl ?_
        exact g_sub [0, 1] rfl (Hj41 _ hf)
      · replace hf := if_f c43 hf
        refine g_iconst C dX0_goesBy_145 kc_0 ?_
        exact g_sub [0, 1] rfl (Hj41 _ hf)
  clear hj7
  refine g_if_le 52 C dX0_goesBy_12 rfl (fun c44 => ?_) (fun c44 => ?_)
  · replace hf := if_t c44 hf
    exact g_sub [1, 0] rfl (Hj7 _ _ hf)
  · replace hf := if_f c44 hf
    refine g_aload_n C dX0_goesBy_15 1 rfl ?_
    refine g_getI C oX0 fX0_325 dX0_goesBy_16 ?_
    refine g_if_le 52 C dX0_goesBy_19 rfl (fun c45 => ?_) (fun c45 => ?_)
    · replace hf := if_t c45 hf
      exact g_sub [1, 0] rfl (Hj7 _ _ hf)
    · replace hf := if_f c45 hf
      refine g_aload_n C dX0_goesBy_22 1 rfl ?_
      refine g_getS 27 C oX0 fX0_82 rfl dX0_goesBy_23 ?_
      refine g_bipush C dX0_goesBy_26 kb_100 ?_
      refine bd_n hf (fun r46 s47 h48 hf => ?_)
      refine g_callV0 (As := [.int (100 : Int32)]) (rest := []) (stk := [.int r46]) C (w_xd_draw h48) hX oX27 rfl rfl q829 q830 q831 q90 q832 mdX2_draw rfl ⟨Nat.le_of_ble_eq_true rfl, Nat.le_of_ble_eq_true rfl⟩ (Nat.le_of_ble_eq_true rfl) dX0_goesBy_28 rfl ?_
      refine g_aload_n C dX0_goesBy_31 1 rfl ?_
      refine g_getS 6 C oX0 fX0_72 rfl dX0_goesBy_32 ?_
      refine g_iconst C dX0_goesBy_35 kc_3 ?_
      refine g_iald C aX6 rfl c4 dX0_goesBy_36 ?_
      refine g_icmp_ge 52 C dX0_goesBy_37 rfl (fun c49 => ?_) (fun c49 => ?_)
      · replace hf := if_t c49 hf
        exact g_sub [1, 0] rfl (Hj7 _ _ hf)
      · replace hf := if_f c49 hf
        refine g_aload_n C dX0_goesBy_40 1 rfl ?_
        refine g_getS 27 C oX0 fX0_82 rfl dX0_goesBy_41 ?_
        refine g_aload_n C dX0_goesBy_44 1 rfl ?_
        refine g_getI C oX0 fX0_325 dX0_goesBy_45 ?_
        refine bd_n hf (fun r50 s51 h52 hf => ?_)
        refine g_callV0 (As := [.int (s47.1 0 14)]) (rest := []) (stk := [.int r50]) C (w_xd_draw h52) hX oX27 rfl rfl q829 q830 q831 q90 q832 mdX2_draw rfl ⟨Nat.le_of_ble_eq_true rfl, Nat.le_of_ble_eq_true rfl⟩ (Nat.le_of_ble_eq_true rfl) dX0_goesBy_48 rfl ?_
        refine g_istore_n (i := 1) (lv' := [(1, .int r50), (0, .ref (g.1 0))]) C dX0_goesBy_51 rfl rfl (by decide) rfl ?_
        exact g_sub [1, 0] rfl (Hj7 _ _ hf)
def xw_days_L32 (n : Nat) (v7 : Int32) : Nat → Sto → Int32 → Int32 → Option (Int32 × Sto)
  | 0, _, _, _ => none
  | k + 1, s6, v8, v9 =>
    if v7 ≤ v9 then
      some (v8, s6)
    else
      vl (fun (s11 : Sto) =>
        bd (xw_goesBy n s11) fun r13 s14 =>
        vl (fun (t16 : Bool) =>
          vl (v8 + (bI t16)) fun v18 =>
          xw_days_L32 n v7 k s14 v18 (v9 + (1 : Int32))) fun j17 =>
        if r13 = true then
          j17 true
        else
          j17 false) fun j12 =>
      if v9 < (v7 - (8 : Int32)) then
        j12 s6
      else
        bd (xw_keepsAhead n s6) fun r21 s22 =>
        j12 s22
def xw_days (n : Nat) (s : Sto) (a1 : Int32) : Option (Int32 × Sto) :=
  bd (xw_isIn n s a1 (1 : Int32) (400 : Int32)) fun r1 s2 =>
  if r1 = true then
    if ((s2.1 27 0) + a1) ≤ (9999 : Int32) then
      xw_days_L32 n a1
          n s2 (0 : Int32) (0 : Int32)
    else
      some ((-1 : Int32), s2)
  else
    some ((-1 : Int32), s2)
theorem w_xw_days_L32  {l : Launch} {n : Nat} {v7 : Int32} {g : Gam} {A : Nat → Prop} {X : FX} {si sF : Sto} {rF : Int32} (C : CX xCfg g A 4 X cX0_days RX0 (some .int) 1696 46512) (E : EX xCfg g A X si sF (some (.int rF)) 0 0) (hX : X.2.1 = l) : ∀ (k : Nat) (s6 : Sto) (v8 : Int32) (v9 : Int32), xw_days_L32 n v7 k s6 v8 v9 = some (rF, sF) → TG xCfg g A 4 X 0 0 s6 32 [(0, .ref (g.1 0)), (1, .int v7), (2, .int v8), (3, .int v9)] [] := by
  intro k
  induction k with
  | zero => intro s6 v8 v9 hf; rw [xw_days_L32] at hf; cases hf
  | succ k ih =>
    intro s6 v8 v9 hf
    rw [xw_days_L32] at hf
    refine g_iload_n C dX0_days_32 3 rfl ?_
    refine g_iload_n C dX0_days_33 1 rfl ?_
    refine g_icmp_ge 73 C dX0_days_34 rfl (fun c10 => ?_) (fun c10 => ?_)
    · replace hf := if_t c10 hf
      refine g_iload_n C dX0_days_73 2 rfl ?_
      exact g_iret C E rfl (re_i hf) (re_s hf) ⟨Nat.zero_le _, Nat.zero_le _⟩ dX0_days_74
    · replace hf := if_f c10 hf
      refine g_iload_n C dX0_days_37 3 rfl ?_
      refine g_iload_n C dX0_days_38 1 rfl ?_
      refine g_aload_n C dX0_days_39 0 rfl ?_
      refine g_getS 8 C oX0 fX0_89 rfl dX0_days_40 ?_
      refine g_alen7 C rX8 rfl rfl dX0_days_43 ?_
      refine g_isub C dX0_days_44 ?_
      refine vl_n hf (fun j12 hj12 hf => ?_)
      have Hj12 : ∀ (s11 : Sto), j12 s11 = some (rF, sF) → TG xCfg g A 4 X 0 0 s11 52 [(0, .ref (g.1 0)), (1, .int v7), (2, .int v8), (3, .int v9)] [] := by
        clear hf; subst hj12
        intro s11 hf
        refine g_iload_n C dX0_days_52 2 rfl ?_
        refine g_aload_n C dX0_days_53 0 rfl ?_
        refine bd_n hf (fun r13 s14 h15 hf => ?_)
        refine g_callV0 (As := []) (rest := [.int v8]) (stk := [.int (bI r13), .int v8]) C (w_xw_goesBy h15) hX oX0 rfl rfl q825 q827 qs26 q88 q828 mdX0_goesBy rfl ⟨Nat.le_of_ble_eq_true rfl, Nat.le_of_ble_eq_true rfl⟩ (Nat.le_of_ble_eq_true rfl) dX0_days_54 rfl ?_
        refine vl_n hf (fun j17 hj17 hf => ?_)
        have Hj17 : ∀ (t16 : Bool), j17 t16 = some (rF, sF) → TG xCfg g A 4 X 0 0 s14 65 [(0, .ref (g.1 0)), (1, .int v7), (3, .int v9)] [.int (bI t16), .int v8] := by
          clear hf; subst hj17
          intro t16 hf
          refine g_iadd C dX0_days_65 ?_
          refine vl_n hf (fun v18 hv18 hf => ?_)
          refine g_istore_n (i := 2) (lv' := [(2, .int v18), (0, .ref (g.1 0)), (1, .int v7), (3, .int v9)]) C dX0_days_66 rfl hv18 (by decide) rfl ?_
          refine g_iinc (q := 3) (lv' := [(3, .int (v9 + (1 : Int32))), (2, .int v18), (0, .ref (g.1 0)), (1, .int v7)]) C dX0_days_67 rfl kc_1 (by decide) rfl ?_
          refine g_goto 32 C dX0_days_70 rfl ?_
          exact g_sub [2, 3, 1, 0] rfl (ih _ _ _ hf)
        clear hj17
        refine g_ifZ_eq 64 C dX0_days_57 rfl (fun c19 => ?_) (fun c19 => ?_)
        · replace hf := if_t c19 hf
          refine g_iconst C dX0_days_60 kc_1 ?_
          refine g_goto 65 C dX0_days_61 rfl ?_
          exact g_sub [0, 1, 3] rfl (Hj17 _ hf)
        · replace hf := if_f c19 hf
          refine g_iconst C dX0_days_64 kc_0 ?_
          exact g_sub [0, 1, 3] rfl (Hj17 _ hf)
      clear hj12
      refine g_icmp_lt 52 C dX0_days_45 rfl (fun c20 => ?_) (fun c20 => ?_)
      · replace hf := if_t c20 hf
        exact g_sub [0, 1, 2, 3] rfl (Hj12 _ hf)
      · replace hf := if_f c20 hf
        refine g_aload_n C dX0_days_48 0 rfl ?_
        refine bd_n hf (fun r21 s22 h23 hf => ?_)
        refine g_callV0 (As := []) (rest := []) (stk := []) C (w_xw_keepsAhead h23) hX oX0 rfl rfl q821 q823 qs25 q88 q824 mdX0_keepsAhead rfl ⟨Nat.le_of_ble_eq_true rfl, Nat.le_of_ble_eq_true rfl⟩ (Nat.le_of_ble_eq_true rfl) dX0_days_49 rfl ?_
        exact g_sub [0, 1, 2, 3] rfl (Hj12 _ hf)
theorem w_xw_days {l : Launch} {n : Nat} {s sF : Sto} {a1 : Int32} {rF : Int32} (hf : xw_days n s a1 = some (rF, sF)) : Ct xCfg l yX0_days cX0_days 4 (some .int) { frames := 1696, cells := 0, slots := 0, locals := 46512 } (fun g => [.ref (g.1 0), .int a1]) s sF (fun _ => some (.int rF)) := by
  refine Ct_of pn_X0 (fun g => Nat.le_of_ble_eq_true rfl) (fun g A X C E hX => ?_)
  rw [xw_days] at hf
  show TG xCfg g A 4 X 0 0 s 0 [(0, .ref (g.1 0)), (1, .int a1)] []
  refine g_iload_n C dX0_days_0 1 rfl ?_
  refine g_iconst C dX0_days_1 kc_1 ?_
  refine g_sipush C dX0_days_2 ks_400 ?_
  refine bd_n hf (fun r1 s2 h3 hf => ?_)
  refine g_callS0 (As := [.int a1, .int (1 : Int32), .int (400 : Int32)]) (rest := []) (stk := [.int (bI r1)]) C (w_xw_isIn h3) hX rfl q381 q382 q88 q383 msX0_isIn rfl ⟨Nat.le_of_ble_eq_true rfl, Nat.le_of_ble_eq_true rfl⟩ (Nat.le_of_ble_eq_true rfl) dX0_days_5 rfl ?_
  refine g_ifZ_eq 26 C dX0_days_8 rfl (fun c4 => ?_) (fun c4 => ?_)
  · replace hf := if_t c4 hf
    refine g_aload_n C dX0_days_11 0 rfl ?_
    refine g_getS 27 C oX0 fX0_82 rfl dX0_days_12 ?_
    refine g_getI C oX27 fX0_372 dX0_days_15 ?_
    refine g_iload_n C dX0_days_18 1 rfl ?_
    refine g_iadd C dX0_days_19 ?_
    refine g_sipush C dX0_days_20 ks_9999 ?_
    refine g_icmp_le 28 C dX0_days_23 rfl (fun c5 => ?_) (fun c5 => ?_)
    · replace hf := if_t c5 hf
      refine g_iconst C dX0_days_28 kc_0 ?_
      refine g_istore_n (i := 2) (lv' := [(2, .int (0 : Int32)), (0, .ref (g.1 0)), (1, .int a1)]) C dX0_days_29 rfl rfl (by decide) rfl ?_
      refine g_iconst C dX0_days_30 kc_0 ?_
      refine g_istore_n (i := 3) (lv' := [(3, .int (0 : Int32)), (2, .int (0 : Int32)), (0, .ref (g.1 0)), (1, .int a1)]) C dX0_days_31 rfl rfl (by decide) rfl ?_
      refine g_sub [2, 3, 1, 0] rfl (w_xw_days_L32 C E hX _ _ _ _ hf)
    · replace hf := if_f c5 hf
      refine g_iconst C dX0_days_26 kc_m1 ?_
      exact g_iret C E rfl (re_i hf) (re_s hf) ⟨Nat.zero_le _, Nat.zero_le _⟩ dX0_days_27
  · replace hf := if_f c4 hf
    refine g_iconst C dX0_days_26 kc_m1 ?_
    exact g_iret C E rfl (re_i hf) (re_s hf) ⟨Nat.zero_le _, Nat.zero_le _⟩ dX0_days_27
def xw_round_L101 (n : Nat) (v40 : Int32) (v41 : Int32) (k44 : Sto → Option (Int32 × Sto)) (k47 : Sto → Int32 → Option (Int32 × Sto)) : Nat → Sto → Int32 → Option (Int32 × Sto)
  | 0, _, _ => none
  | k + 1, s39, v42 =>
    if v42 < 0 then
      k44 s39
    else
      gd (inb v42 201) <|
      bd (xw_areAlike n s39 (107 + (v42).toNatClampNeg) 12) fun r50 s51 =>
      if r50 = true then
        k47 s51 v42
      else
        xw_round_L101 n v40 v41 k44 k47 k s51 (v42 + (-1 : Int32))
def xw_round_L34 (n : Nat) (v13 : Int32) (k18 : Sto → Int32 → Int32 → Option (Int32 × Sto)) (k20 : Sto → Option (Int32 × Sto)) (k22 : Sto → Option (Int32 × Sto)) (k25 : Sto → Int32 → Option (Int32 × Sto)) : Nat → Sto → Int32 → Option (Int32 × Sto)
  | 0, _, _ => none
  | k + 1, s12, v14 =>
    if (200 : Int32) < v14 then
      k22 s12
    else
      bd (xw_firstChange n s12 12) fun r27 s28 =>
      if r27 = (-1 : Int32) then
        k25 s28 v14
      else
        if v14 = (200 : Int32) then
          k20 s28
        else
          bd (xw_turns n s28 12 r27) fun r32 s33 =>
          gd (inb (v14 + (1 : Int32)) 201) <|
          bd (xw_copies n s33 12 (107 + ((v14 + (1 : Int32))).toNatClampNeg)) fun r36 s37 =>
          xw_round_L101 n v13 v14
              (fun (s43 : Sto) =>
                xw_round_L34 n v13 k18 k20 k22 k25 k s43 (v14 + (1 : Int32)))
              (fun (s45 : Sto) (v46 : Int32) =>
                k18 s45 v14 v46)
              n s37 v14
def xw_round (n : Nat) (s : Sto) (a1 : Int32) : Option (Int32 × Sto) :=
  bd (xw_isIn n s a1 (0 : Int32) (1 : Int32)) fun r1 s2 =>
  if r1 = true then
    bd (xw_lines n s2 12) fun r5 s6 =>
    gd (inb (0 : Int32) 201) <|
    bd (xw_copies n s6 12 (107 + ((0 : Int32)).toNatClampNeg)) fun r9 s10 =>
    xw_round_L34 n a1
        (fun (s15 : Sto) (v16 : Int32) (v17 : Int32) =>
          if a1 = 0 then
            some ((-1 : Int32), s15)
          else
            some (((v16 + (1 : Int32)) - v17), s15))
        (fun (s19 : Sto) =>
          if a1 = 0 then
            some ((-1 : Int32), s19)
          else
            some ((0 : Int32), s19))
        (fun (s21 : Sto) =>
          if a1 = 0 then
            some ((-1 : Int32), s21)
          else
            some ((0 : Int32), s21))
        (fun (s23 : Sto) (v24 : Int32) =>
          if a1 = 0 then
            some (v24, s23)
          else
            some ((0 : Int32), s23))
        n s10 (0 : Int32)
  else
    some ((-1 : Int32), s2)
theorem w_xw_round_L101  {l : Launch} {n : Nat} {v40 : Int32} {v41 : Int32} {k44 : Sto → Option (Int32 × Sto)} {k47 : Sto → Int32 → Option (Int32 × Sto)} {g : Gam} {A : Nat → Prop} {X : FX} {si sF : Sto} {rF : Int32} (C : CX xCfg g A 5 X cX0_round RX0 (some .int) 1694 46468) (E : EX xCfg g A X si sF (some (.int rF)) 0 0) (hX : X.2.1 = l) (Hk44 : ∀ (s43 : Sto), k44 s43 = some (rF, sF) → TG xCfg g A 5 X 0 0 s43 145 [(0, .ref (g.1 0)), (1, .int v40), (2, .int v41)] []) (Hk47 : ∀ (s45 : Sto) (v46 : Int32), k47 s45 v46 = some (rF, sF) → TG xCfg g A 5 X 0 0 s45 124 [(1, .int v40), (2, .int v41), (4, .int v46)] []) : ∀ (k : Nat) (s39 : Sto) (v42 : Int32), xw_round_L101 n v40 v41 k44 k47 k s39 v42 = some (rF, sF) → TG xCfg g A 5 X 0 0 s39 101 [(0, .ref (g.1 0)), (1, .int v40), (2, .int v41), (4, .int v42)] [] := by
  intro k
  induction k with
  | zero => intro s39 v42 hf; rw [xw_round_L101] at hf; cases hf
  | succ k ih =>
    intro s39 v42 hf
    rw [xw_round_L101] at hf
    refine g_iload C dX0_round_101 3 rfl ?_
    refine g_if_lt 145 C dX0_round_103 rfl (fun c48 => ?_) (fun c48 => ?_)
    · replace hf := if_t c48 hf
      exact g_sub [0, 1, 2] rfl (Hk44 _ hf)
    · replace hf := if_f c48 hf
      refine g_aload_n C dX0_round_106 0 rfl ?_
      refine g_aload_n C dX0_round_107 0 rfl ?_
      refine g_getS 15 C oX0 fX0_113 rfl dX0_round_108 ?_
      refine g_iload C dX0_round_111 3 rfl ?_
      refine gd_n hf (fun c49 hf => ?_)
      refine g_aald5 C rX15 rfl c49 dX0_round_113 ?_
      refine g_aload_n C dX0_round_114 0 rfl ?_
      refine g_getS 12 C oX0 fX0_102 rfl dX0_round_115 ?_
      refine bd_n hf (fun r50 s51 h52 hf => ?_)
      refine g_callV0 (As := [.ref (g.1 (107 + (v42).toNatClampNeg)), .ref (g.1 12)]) (rest := []) (stk := [.int (bI r50)]) C (w_xw_areAlike h52) hX oX0 rfl rfl q905 q907 qs36 q88 q908 mdX0_areAlike rfl ⟨Nat.le_of_ble_eq_true rfl, Nat.le_of_ble_eq_true rfl⟩ (Nat.le_of_ble_eq_true rfl) dX0_round_118 rfl ?_
      refine g_ifZ_eq 139 C dX0_round_121 rfl (fun c53 => ?_) (fun c53 => ?_)
      · replace hf := if_t c53 hf
        exact g_sub [1, 2, 3] rfl (Hk47 _ _ hf)
      · replace hf := if_f c53 hf
        refine g_iinc (q := 3) (lv' := [(4, .int (v42 + (-1 : Int32))), (0, .ref (g.1 0)), (1, .int v40), (2, .int v41)]) C dX0_round_139 rfl kc_m1 (by decide) rfl ?_
        refine g_goto 101 C dX0_round_142 rfl ?_
        exact g_sub [1, 2, 3, 0] rfl (ih _ _ hf)
theorem w_xw_round_L34  {l : Launch} {n : Nat} {v13 : Int32} {k18 : Sto → Int32 → Int32 → Option (Int32 × Sto)} {k20 : Sto → Option (Int32 × Sto)} {k22 : Sto → Option (Int32 × Sto)} {k25 : Sto → Int32 → Option (Int32 × Sto)} {g : Gam} {A : Nat → Prop} {X : FX} {si sF : Sto} {rF : Int32} (C : CX xCfg g A 5 X cX0_round RX0 (some .int) 1694 46468) (E : EX xCfg g A X si sF (some (.int rF)) 0 0) (hX : X.2.1 = l) (Hk18 : ∀ (s15 : Sto) (v16 : Int32) (v17 : Int32), k18 s15 v16 v17 = some (rF, sF) → TG xCfg g A 5 X 0 0 s15 124 [(1, .int v13), (2, .int v16), (4, .int v17)] []) (Hk20 : ∀ (s19 : Sto), k20 s19 = some (rF, sF) → TG xCfg g A 5 X 0 0 s19 72 [(1, .int v13)] []) (Hk22 : ∀ (s21 : Sto), k22 s21 = some (rF, sF) → TG xCfg g A 5 X 0 0 s21 151 [(1, .int v13)] []) (Hk25 : ∀ (s23 : Sto) (v24 : Int32), k25 s23 v24 = some (rF, sF) → TG xCfg g A 5 X 0 0 s23 55 [(1, .int v13), (2, .int v24)] []) : ∀ (k : Nat) (s12 : Sto) (v14 : Int32), xw_round_L34 n v13 k18 k20 k22 k25 k s12 v14 = some (rF, sF) → TG xCfg g A 5 X 0 0 s12 34 [(0, .ref (g.1 0)), (1, .int v13), (2, .int v14)] [] := by
  intro k
  induction k with
  | zero => intro s12 v14 hf; rw [xw_round_L34] at hf; cases hf
  | succ k ih =>
    intro s12 v14 hf
    rw [xw_round_L34] at hf
    refine g_iload_n C dX0_round_34 2 rfl ?_
    refine g_sipush C dX0_round_35 ks_200 ?_
    refine g_icmp_gt 151 C dX0_round_38 rfl (fun c26 => ?_) (fun c26 => ?_)
    · replace hf := if_t c26 hf
      exact g_sub [1] rfl (Hk22 _ hf)
    · replace hf := if_f c26 hf
      refine g_aload_n C dX0_round_41 0 rfl ?_
      refine g_aload_n C dX0_round_42 0 rfl ?_
      refine g_getS 12 C oX0 fX0_102 rfl dX0_round_43 ?_
      refine bd_n hf (fun r27 s28 h29 hf => ?_)
      refine g_callV0 (As := [.ref (g.1 12)]) (rest := []) (stk := [.int r27]) C (w_xw_firstChange h29) hX oX0 rfl rfl q886 q888 qs34 q88 q889 mdX0_firstChange rfl ⟨Nat.le_of_ble_eq_true rfl, Nat.le_of_ble_eq_true rfl⟩ (Nat.le_of_ble_eq_true rfl) dX0_round_46 rfl ?_
      refine g_istore_n (i := 3) (lv' := [(3, .int r27), (0, .ref (g.1 0)), (1, .int v13), (2, .int v14)]) C dX0_round_49 rfl rfl (by decide) rfl ?_
      refine g_iload_n C dX0_round_50 0 rfl ?_
      refine g_iconst C dX0_round_51 kc_m1 ?_
      refine g_icmp_ne 65 C dX0_round_52 rfl (fun c30 => ?_) (fun c30 => ?_)
      · replace hf := if_t c30 hf
        exact g_sub [2, 3] rfl (Hk25 _ _ hf)
      · replace hf := if_f c30 hf
        refine g_iload_n C dX0_round_65 3 rfl ?_
        refine g_sipush C dX0_round_66 ks_200 ?_
        refine g_icmp_ne 75 C dX0_round_69 rfl (fun c31 => ?_) (fun c31 => ?_)
        · replace hf := if_t c31 hf
          exact g_sub [2] rfl (Hk20 _ hf)
        · replace hf := if_f c31 hf
          refine g_aload_n C dX0_round_75 1 rfl ?_
          refine g_getS 12 C oX0 fX0_102 rfl dX0_round_76 ?_
          refine g_iload_n C dX0_round_79 0 rfl ?_
          refine bd_n hf (fun r32 s33 h34 hf => ?_)
          refine g_callS0 (As := [.ref (g.1 12), .int r27]) (rest := []) (stk := []) C (w_xw_turns h34) hX rfl q894 q895 q88 q896 msX0_turns rfl ⟨Nat.le_of_ble_eq_true rfl, Nat.le_of_ble_eq_true rfl⟩ (Nat.le_of_ble_eq_true rfl) dX0_round_80 rfl ?_
          refine g_aload_n C dX0_round_83 1 rfl ?_
          refine g_getS 12 C oX0 fX0_102 rfl dX0_round_84 ?_
          refine g_aload_n C dX0_round_87 1 rfl ?_
          refine g_getS 15 C oX0 fX0_113 rfl dX0_round_88 ?_
          refine g_iload_n C dX0_round_91 3 rfl ?_
          refine g_iconst C dX0_round_92 kc_1 ?_
          refine g_iadd C dX0_round_93 ?_
          refine gd_n hf (fun c35 hf => ?_)
          refine g_aald5 C rX15 rfl c35 dX0_round_94 ?_
          refine bd_n hf (fun r36 s37 h38 hf => ?_)
          refine g_callS0 (As := [.ref (g.1 12), .ref (g.1 (107 + ((v14 + (1 : Int32))).toNatClampNeg))]) (rest := []) (stk := []) C (w_xw_copies h38) hX rfl q848 q711 q88 q712 msX0_copies rfl ⟨Nat.le_of_ble_eq_true rfl, Nat.le_of_ble_eq_true rfl⟩ (Nat.le_of_ble_eq_true rfl) dX0_round_95 rfl ?_
          refine g_iload_n C dX0_round_98 3 rfl ?_
          refine g_istore (i := 4) (lv' := [(4, .int v14), (3, .int r27), (0, .ref (g.1 0)), (1, .int v13), (2, .int v14)]) C dX0_round_99 rfl (by decide) rfl ?_
          refine g_sub [2, 3, 4, 0] rfl (w_xw_round_L101 C E hX (fun s43 hf => ?_) (fun s45 v46 hf => ?_) _ _ _ hf)
          · refine g_iinc (q := 2) (lv' := [(2, .int (v14 + (1 : Int32))), (0, .ref (g.1 0)), (1, .int v13)]) C dX0_round_145 rfl kc_1 (by decide) rfl ?_
            refine g_goto 34 C dX0_round_148 rfl ?_
            exact g_sub [1, 2, 0] rfl (ih _ _ hf)
          · exact g_sub [0, 1, 2] rfl (Hk18 _ _ _ hf)
theorem w_xw_round {l : Launch} {n : Nat} {s sF : Sto} {a1 : Int32} {rF : Int32} (hf : xw_round n s a1 = some (rF, sF)) : Ct xCfg l yX0_round cX0_round 5 (some .int) { frames := 1694, cells := 0, slots := 0, locals := 46468 } (fun g => [.ref (g.1 0), .int a1]) s sF (fun _ => some (.int rF)) := by
  refine Ct_of pn_X0 (fun g => Nat.le_of_ble_eq_true rfl) (fun g A X C E hX => ?_)
  rw [xw_round] at hf
  show TG xCfg g A 5 X 0 0 s 0 [(0, .ref (g.1 0)), (1, .int a1)] []
  refine g_iload_n C dX0_round_0 1 rfl ?_
  refine g_iconst C dX0_round_1 kc_0 ?_
  refine g_iconst C dX0_round_2 kc_1 ?_
  refine bd_n hf (fun r1 s2 h3 hf => ?_)
  refine g_callS0 (As := [.int a1, .int (0 : Int32), .int (1 : Int32)]) (rest := []) (stk := [.int (bI r1)]) C (w_xw_isIn h3) hX rfl q381 q382 q88 q383 msX0_isIn rfl ⟨Nat.le_of_ble_eq_true rfl, Nat.le_of_ble_eq_true rfl⟩ (Nat.le_of_ble_eq_true rfl) dX0_round_3 rfl ?_
  refine g_ifZ_ne 11 C dX0_round_6 rfl (fun c4 => ?_) (fun c4 => ?_)
  · replace hf := if_t c4 hf
    refine g_aload_n C dX0_round_11 0 rfl ?_
    refine g_aload_n C dX0_round_12 0 rfl ?_
    refine g_getS 12 C oX0 fX0_102 rfl dX0_round_13 ?_
    refine bd_n hf (fun r5 s6 h7 hf => ?_)
    refine g_callV0 (As := [.ref (g.1 12)]) (rest := []) (stk := []) C (w_xw_lines h7) hX oX0 rfl rfl q783 q785 qs22 q88 q786 mdX0_lines rfl ⟨Nat.le_of_ble_eq_true rfl, Nat.le_of_ble_eq_true rfl⟩ (Nat.le_of_ble_eq_true rfl) dX0_round_16 rfl ?_
    refine g_aload_n C dX0_round_19 0 rfl ?_
    refine g_getS 12 C oX0 fX0_102 rfl dX0_round_20 ?_
    refine g_aload_n C dX0_round_23 0 rfl ?_
    refine g_getS 15 C oX0 fX0_113 rfl dX0_round_24 ?_
    refine g_iconst C dX0_round_27 kc_0 ?_
    refine gd_n hf (fun c8 hf => ?_)
    refine g_aald5 C rX15 rfl c8 dX0_round_28 ?_
    refine bd_n hf (fun r9 s10 h11 hf => ?_)
    refine g_callS0 (As := [.ref (g.1 12), .ref (g.1 (107 + ((0 : Int32)).toNatClampNeg))]) (rest := []) (stk := []) C (w_xw_copies h11) hX rfl q848 q711 q88 q712 msX0_copies rfl ⟨Nat.le_of_ble_eq_true rfl, Nat.le_of_ble_eq_true rfl⟩ (Nat.le_of_ble_eq_true rfl) dX0_round_29 rfl ?_
    refine g_iconst C dX0_round_32 kc_0 ?_
    refine g_istore_n (i := 2) (lv' := [(2, .int (0 : Int32)), (0, .ref (g.1 0)), (1, .int a1)]) C dX0_round_33 rfl rfl (by decide) rfl ?_
    refine g_sub [1, 2, 0] rfl (w_xw_round_L34 C E hX (fun s15 v16 v17 hf => ?_) (fun s19 hf => ?_) (fun s21 hf => ?_) (fun s23 v24 hf => ?_) _ _ _ hf)
    · refine g_iload_n C dX0_round_124 0 rfl ?_
      refine g_if_ne 132 C dX0_round_125 rfl (fun c54 => ?_) (fun c54 => ?_)
      · replace hf := if_t c54 hf
        refine g_iconst C dX0_round_128 kc_m1 ?_
        refine g_goto 138 C dX0_round_129 rfl ?_
        exact g_iret C E rfl (re_i hf) (re_s hf) ⟨Nat.zero_le _, Nat.zero_le _⟩ dX0_round_138
      · replace hf := if_f c54 hf
        refine g_iload_n C dX0_round_132 1 rfl ?_
        refine g_iconst C dX0_round_133 kc_1 ?_
        refine g_iadd C dX0_round_134 ?_
        refine g_iload C dX0_round_135 2 rfl ?_
        refine g_isub C dX0_round_137 ?_
        exact g_iret C E rfl (re_i hf) (re_s hf) ⟨Nat.zero_le _, Nat.zero_le _⟩ dX0_round_138
    · refine g_goto 151 C dX0_round_72 rfl ?_
      refine g_iload_n C dX0_round_151 0 rfl ?_
      refine g_if_ne 159 C dX0_round_152 rfl (fun c55 => ?_) (fun c55 => ?_)
      · replace hf := if_t c55 hf
        refine g_iconst C dX0_round_155 kc_m1 ?_
        refine g_goto 160 C dX0_round_156 rfl ?_
        exact g_iret C E rfl (re_i hf) (re_s hf) ⟨Nat.zero_le _, Nat.zero_le _⟩ dX0_round_160
      · replace hf := if_f c55 hf
        refine g_iconst C dX0_round_159 kc_0 ?_
        exact g_iret C E rfl (re_i hf) (re_s hf) ⟨Nat.zero_le _, Nat.zero_le _⟩ dX0_round_160
    · refine g_iload_n C dX0_round_151 0 rfl ?_
      refine g_if_ne 159 C dX0_round_152 rfl (fun c56 => ?_) (fun c56 => ?_)
      · replace hf := if_t c56 hf
        refine g_iconst C dX0_round_155 kc_m1 ?_
        refine g_goto 160 C dX0_round_156 rfl ?_
        exact g_iret C E rfl (re_i hf) (re_s hf) ⟨Nat.zero_le _, Nat.zero_le _⟩ dX0_round_160
      · replace hf := if_f c56 hf
        refine g_iconst C dX0_round_159 kc_0 ?_
        exact g_iret C E rfl (re_i hf) (re_s hf) ⟨Nat.zero_le _, Nat.zero_le _⟩ dX0_round_160
    · refine g_iload_n C dX0_round_55 0 rfl ?_
      refine g_if_ne 63 C dX0_round_56 rfl (fun c57 => ?_) (fun c57 => ?_)
      · replace hf := if_t c57 hf
        refine g_iload_n C dX0_round_59 1 rfl ?_
        refine g_goto 64 C dX0_round_60 rfl ?_
        exact g_iret C E rfl (re_i hf) (re_s hf) ⟨Nat.zero_le _, Nat.zero_le _⟩ dX0_round_64
      · replace hf := if_f c57 hf
        refine g_iconst C dX0_round_63 kc_0 ?_
        exact g_iret C E rfl (re_i hf) (re_s hf) ⟨Nat.zero_le _, Nat.zero_le _⟩ dX0_round_64
  · replace hf := if_f c4 hf
    refine g_iconst C dX0_round_9 kc_m1 ?_
    exact g_iret C E rfl (re_i hf) (re_s hf) ⟨Nat.zero_le _, Nat.zero_le _⟩ dX0_round_10
