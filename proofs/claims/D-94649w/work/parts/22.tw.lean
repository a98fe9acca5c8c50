/-! THE TWIN's methods: pure functions out of the bytecode, and their walks (printed by gen/twin.py) -/
set_option maxRecDepth 100000
set_option maxHeartbeats 4000000
def tw_days_L93 (n : Nat) (v15 : Int32) (v16 : Int32) (v17 : Int32) (k20 : Sto → Option (Int32 × Sto)) : Nat → Sto → Int32 → Option (Int32 × Sto)
  | 0, _, _ => none
  | k + 1, s14, v18 =>
    if (180 : Int32) ≤ v18 then
      k20 s14
    else
      gd (inb v18 1480) <|
      gd (inb (((180 : Int32) * (s14.1 0 3)) + v18) 1440) <|
      vl (wr s14 3 (((180 : Int32) * (s14.1 0 3)) + v18) (rd s14 1 v18)) fun s24 =>
      tw_days_L93 n v15 v16 v17 k20 k s24 (v18 + (1 : Int32))
def tw_days_L48 (n : Nat) (v32 : Int32) (v33 : Int32) (v34 : Int32) (k37 : Sto → Option (Int32 × Sto)) : Nat → Sto → Int32 → Option (Int32 × Sto)
  | 0, _, _ => none
  | k + 1, s31, v35 =>
    if (1260 : Int32) ≤ v35 then
      k37 s31
    else
      gd (inb (v35 + (180 : Int32)) 1440) <|
      gd (inb v35 1440) <|
      vl (wr s31 3 v35 (rd s31 3 (v35 + (180 : Int32)))) fun s41 =>
      tw_days_L48 n v32 v33 v34 k37 k s41 (v35 + (1 : Int32))
def tw_days_L31 (n : Nat) (v8 : Int32) : Nat → Sto → Int32 → Int32 → Option (Int32 × Sto)
  | 0, _, _, _ => none
  | k + 1, s7, v9, v10 =>
    if v8 ≤ v10 then
      some (v9, s7)
    else
      vl (fun (s12 : Sto) =>
        tw_days_L93 n v8 v9 v10
            (fun (s19 : Sto) =>
              vl (sI s19 0 3 ((s19.1 0 3) + (1 : Int32))) fun s25 =>
              bd (tw_aDay n s25) fun r26 s27 =>
              vl (v9 + r26) fun v29 =>
              tw_days_L31 n v8 k s27 v29 (v10 + (1 : Int32)))
            n s12 (0 : Int32)) fun j13 =>
      if (s7.1 0 3) = (8 : Int32) then
        tw_days_L48 n v8 v9 v10
            (fun (s36 : Sto) =>
              vl (sI s36 0 3 ((s36.1 0 3) - (1 : Int32))) fun s42 =>
              j13 s42)
            n s7 (0 : Int32)
      else
        j13 s7
def tw_days (n : Nat) (s : Sto) (a1 : Int32) : Option (Int32 × Sto) :=
  bd (tw_isIn n s a1 (1 : Int32) (400 : Int32)) fun r1 s2 =>
  if r1 = true then
    gd (inb (5 : Int32) 1480) <|
    if ((rd s2 1 (5 : Int32)) + a1) ≤ (9999 : Int32) then
      tw_days_L31 n a1
          n s2 (0 : Int32) (0 : Int32)
    else
      some ((-1 : Int32), s2)
  else
    some ((-1 : Int32), s2)
theorem w_tw_days_L93  {l : Launch} {n : Nat} {v15 : Int32} {v16 : Int32} {v17 : Int32} {k20 : Sto → Option (Int32 × Sto)} {g : Gam} {A : Nat → Prop} {X : FX} {si sF : Sto} {rF : Int32} (C : CX tCfg g A 5 X cX3_days RX3 (some .int) 6 134) (E : EX tCfg g A X si sF (some (.int rF)) 0 0) (hX : X.2.1 = l) (Hk20 : ∀ (s19 : Sto), k20 s19 = some (rF, sF) → TG tCfg g A 5 X 0 0 s19 130 [(0, .ref (g.1 0)), (1, .int v15), (2, .int v16), (3, .int v17)] []) : ∀ (k : Nat) (s14 : Sto) (v18 : Int32), tw_days_L93 n v15 v16 v17 k20 k s14 v18 = some (rF, sF) → TG tCfg g A 5 X 0 0 s14 93 [(0, .ref (g.1 0)), (1, .int v15), (2, .int v16), (3, .int v17), (4, .int v18)] [] := by
  intro k
  induction k with
  | zero => intro s14 v18 hf; rw [tw_days_L93] at hf; cases hf
  | succ k ih =>
    intro s14 v18 hf
    rw [tw_days_L93] at hf
    refine g_iload C dX3_days_93 4 rfl ?_
    refine g_sipush C dX3_days_95 ks_180 ?_
    refine g_icmp_ge 130 C dX3_days_98 rfl (fun c21 => ?_) (fun c21 => ?_)
    · replace hf := if_t c21 hf
      exact g_sub [0, 1, 2, 3] rfl (Hk20 _ hf)
    · replace hf := if_f c21 hf
      refine g_aload_n C dX3_days_101 0 rfl ?_
      refine g_getS 3 C oT0 fX3_16 rfl dX3_days_102 ?_
      refine g_sipush C dX3_days_105 ks_180 ?_
      refine g_aload_n C dX3_days_108 0 rfl ?_
      refine g_getI C oT0 fX3_70 dX3_days_109 ?_
      refine g_imul C dX3_days_112 ?_
      refine g_iload C dX3_days_113 4 rfl ?_
      refine g_iadd C dX3_days_115 ?_
      refine g_aload_n C dX3_days_116 0 rfl ?_
      refine g_getS 1 C oT0 fX3_7 rfl dX3_days_117 ?_
      refine g_iload C dX3_days_120 4 rfl ?_
      refine gd_n hf (fun c22 hf => ?_)
      refine g_iald C aT1 rfl c22 dX3_days_122 ?_
      refine gd_n hf (fun c23 hf => ?_)
      refine vl_n hf (fun s24 hs24 hf => ?_)
      refine g_iast C aT3 rfl c23 hs24 dX3_days_123 ?_
      refine g_iinc (q := 4) (lv' := [(4, .int (v18 + (1 : Int32))), (0, .ref (g.1 0)), (1, .int v15), (2, .int v16), (3, .int v17)]) C dX3_days_124 rfl kc_1 (by decide) rfl ?_
      refine g_goto 93 C dX3_days_127 rfl ?_
      exact g_sub [1, 2, 3, 4, 0] rfl (ih _ _ hf)
theorem w_tw_days_L48  {l : Launch} {n : Nat} {v32 : Int32} {v33 : Int32} {v34 : Int32} {k37 : Sto → Option (Int32 × Sto)} {g : Gam} {A : Nat → Prop} {X : FX} {si sF : Sto} {rF : Int32} (C : CX tCfg g A 5 X cX3_days RX3 (some .int) 6 134) (E : EX tCfg g A X si sF (some (.int rF)) 0 0) (hX : X.2.1 = l) (Hk37 : ∀ (s36 : Sto), k37 s36 = some (rF, sF) → TG tCfg g A 5 X 0 0 s36 80 [(0, .ref (g.1 0)), (1, .int v32), (2, .int v33), (3, .int v34)] []) : ∀ (k : Nat) (s31 : Sto) (v35 : Int32), tw_days_L48 n v32 v33 v34 k37 k s31 v35 = some (rF, sF) → TG tCfg g A 5 X 0 0 s31 48 [(0, .ref (g.1 0)), (1, .int v32), (2, .int v33), (3, .int v34), (4, .int v35)] [] := by
  intro k
  induction k with
  | zero => intro s31 v35 hf; rw [tw_days_L48] at hf; cases hf
  | succ k ih =>
    intro s31 v35 hf
    rw [tw_days_L48] at hf
    refine g_iload C dX3_days_48 4 rfl ?_
    refine g_sipush C dX3_days_50 ks_1260 ?_
    refine g_icmp_ge 80 C dX3_days_53 rfl (fun c38 => ?_) (fun c38 => ?_)
    · replace hf := if_t c38 hf
      exact g_sub [0, 1, 2, 3] rfl (Hk37 _ hf)
    · replace hf := if_f c38 hf
      refine g_aload_n C dX3_days_56 0 rfl ?_
      refine g_getS 3 C oT0 fX3_16 rfl dX3_days_57 ?_
      refine g_iload C dX3_days_60 4 rfl ?_
      refine g_aload_n C dX3_days_62 0 rfl ?_
      refine g_getS 3 C oT0 fX3_16 rfl dX3_days_63 ?_
      refine g_iload C dX3_days_66 4 rfl ?_
      refine g_sipush C dX3_days_68 ks_180 ?_
      refine g_iadd C dX3_days_71 ?_
      refine gd_n hf (fun c39 hf => ?_)
      refine g_iald C aT3 rfl c39 dX3_days_72 ?_
      refine gd_n hf (fun c40 hf => ?_)
      refine vl_n hf (fun s41 hs41 hf => ?_)
      refine g_iast C aT3 rfl c40 hs41 dX3_days_73 ?_
      refine g_iinc (q := 4) (lv' := [(4, .int (v35 + (1 : Int32))), (0, .ref (g.1 0)), (1, .int v32), (2, .int v33), (3, .int v34)]) C dX3_days_74 rfl kc_1 (by decide) rfl ?_
      refine g_goto 48 C dX3_days_77 rfl ?_
      exact g_sub [1, 2, 3, 4, 0] rfl (ih _ _ hf)
theorem w_tw_days_L31  {l : Launch} {n : Nat} {v8 : Int32} {g : Gam} {A : Nat → Prop} {X : FX} {si sF : Sto} {rF : Int32} (C : CX tCfg g A 5 X cX3_days RX3 (some .int) 6 134) (E : EX tCfg g A X si sF (some (.int rF)) 0 0) (hX : X.2.1 = l) : ∀ (k : Nat) (s7 : Sto) (v9 : Int32) (v10 : Int32), tw_days_L31 n v8 k s7 v9 v10 = some (rF, sF) → TG tCfg g A 5 X 0 0 s7 31 [(0, .ref (g.1 0)), (1, .int v8), (2, .int v9), (3, .int v10)] [] := by
  intro k
  induction k with
  | zero => intro s7 v9 v10 hf; rw [tw_days_L31] at hf; cases hf
  | succ k ih =>
    intro s7 v9 v10 hf
    rw [tw_days_L31] at hf
    refine g_iload_n C dX3_days_31 3 rfl ?_
    refine g_iload_n C dX3_days_32 1 rfl ?_
    refine g_icmp_ge 153 C dX3_days_33 rfl (fun c11 => ?_) (fun c11 => ?_)
    · replace hf := if_t c11 hf
      refine g_iload_n C dX3_days_153 2 rfl ?_
      exact g_iret C E rfl (re_i hf) (re_s hf) ⟨Nat.zero_le _, Nat.zero_le _⟩ dX3_days_154
    · replace hf := if_f c11 hf
      refine g_aload_n C dX3_days_36 0 rfl ?_
      refine g_getI C oT0 fX3_70 dX3_days_37 ?_
      refine g_bipush C dX3_days_40 kb_8 ?_
      refine vl_n hf (fun j13 hj13 hf => ?_)
      have Hj13 : ∀ (s12 : Sto), j13 s12 = some (rF, sF) → TG tCfg g A 5 X 0 0 s12 90 [(0, .ref (g.1 0)), (1, .int v8), (2, .int v9), (3, .int v10)] [] := by
        clear hf; subst hj13
        intro s12 hf
        refine g_iconst C dX3_days_90 kc_0 ?_
        refine g_istore (i := 4) (lv' := [(4, .int (0 : Int32)), (0, .ref (g.1 0)), (1, .int v8), (2, .int v9), (3, .int v10)]) C dX3_days_91 rfl (by decide) rfl ?_
        refine g_sub [1, 2, 3, 4, 0] rfl (w_tw_days_L93 C E hX (fun s19 hf => ?_) _ _ _ hf)
        refine g_aload_n C dX3_days_130 0 rfl ?_
        refine g_dup C dX3_days_131 rfl ?_
        refine g_getI C oT0 fX3_70 dX3_days_132 ?_
        refine g_iconst C dX3_days_135 kc_1 ?_
        refine g_iadd C dX3_days_136 ?_
        refine vl_n hf (fun s25 hs25 hf => ?_)
        refine g_putI C oT0 pX3_70 rfl rfl hs25 dX3_days_137 ?_
        refine g_iload_n C dX3_days_140 2 rfl ?_
        refine g_aload_n C dX3_days_141 0 rfl ?_
        refine bd_n hf (fun r26 s27 h28 hf => ?_)
        refine g_callV0 (As := []) (rest := [.int v9]) (stk := [.int r26, .int v9]) C (w_tw_aDay h28) hX oT0 rfl rfl q1309 q1311 qs70 q91 q1312 mdX3_aDay rfl ⟨Nat.le_of_ble_eq_true rfl, Nat.le_of_ble_eq_true rfl⟩ (Nat.le_of_ble_eq_true rfl) dX3_days_142 rfl ?_
        refine g_iadd C dX3_days_145 ?_
        refine vl_n hf (fun v29 hv29 hf => ?_)
        refine g_istore_n (i := 2) (lv' := [(2, .int v29), (0, .ref (g.1 0)), (1, .int v8), (3, .int v10)]) C dX3_days_146 rfl hv29 (by decide) rfl ?_
        refine g_iinc (q := 3) (lv' := [(3, .int (v10 + (1 : Int32))), (2, .int v29), (0, .ref (g.1 0)), (1, .int v8)]) C dX3_days_147 rfl kc_1 (by decide) rfl ?_
        refine g_goto 31 C dX3_days_150 rfl ?_
        exact g_sub [2, 3, 1, 0] rfl (ih _ _ _ hf)
      clear hj13
      refine g_icmp_ne 90 C dX3_days_42 rfl (fun c30 => ?_) (fun c30 => ?_)
      · replace hf := if_t c30 hf
        refine g_iconst C dX3_days_45 kc_0 ?_
        refine g_istore (i := 4) (lv' := [(4, .int (0 : Int32)), (0, .ref (g.1 0)), (1, .int v8), (2, .int v9), (3, .int v10)]) C dX3_days_46 rfl (by decide) rfl ?_
        refine g_sub [1, 2, 3, 4, 0] rfl (w_tw_days_L48 C E hX (fun s36 hf => ?_) _ _ _ hf)
        refine g_aload_n C dX3_days_80 0 rfl ?_
        refine g_dup C dX3_days_81 rfl ?_
        refine g_getI C oT0 fX3_70 dX3_days_82 ?_
        refine g_iconst C dX3_days_85 kc_1 ?_
        refine g_isub C dX3_days_86 ?_
        refine vl_n hf (fun s42 hs42 hf => ?_)
        refine g_putI C oT0 pX3_70 rfl rfl hs42 dX3_days_87 ?_
        exact g_sub [0, 1, 2, 3] rfl (Hj13 _ hf)
      · replace hf := if_f c30 hf
        exact g_sub [0, 1, 2, 3] rfl (Hj13 _ hf)
theorem w_tw_days {l : Launch} {n : Nat} {s sF : Sto} {a1 : Int32} {rF : Int32} (hf : tw_days n s a1 = some (rF, sF)) : Ct tCfg l yX3_days cX3_days 5 (some .int) { frames := 6, cells := 0, slots := 0, locals := 134 } (fun g => [.ref (g.1 0), .int a1]) s sF (fun _ => some (.int rF)) := by
  refine Ct_of pn_X3 (fun g => Nat.le_of_ble_eq_true rfl) (fun g A X C E hX => ?_)
  rw [tw_days] at hf
  show TG tCfg g A 5 X 0 0 s 0 [(0, .ref (g.1 0)), (1, .int a1)] []
  refine g_iload_n C dX3_days_0 1 rfl ?_
  refine g_iconst C dX3_days_1 kc_1 ?_
  refine g_sipush C dX3_days_2 ks_400 ?_
  refine bd_n hf (fun r1 s2 h3 hf => ?_)
  refine g_callS0 (As := [.int a1, .int (1 : Int32), .int (400 : Int32)]) (rest := []) (stk := [.int (bI r1)]) C (w_tw_isIn h3) hX rfl q1146 q1147 q91 q1148 msX3_isIn rfl ⟨Nat.le_of_ble_eq_true rfl, Nat.le_of_ble_eq_true rfl⟩ (Nat.le_of_ble_eq_true rfl) dX3_days_5 rfl ?_
  refine g_ifZ_eq 25 C dX3_days_8 rfl (fun c4 => ?_) (fun c4 => ?_)
  · replace hf := if_t c4 hf
    refine g_aload_n C dX3_days_11 0 rfl ?_
    refine g_getS 1 C oT0 fX3_7 rfl dX3_days_12 ?_
    refine g_iconst C dX3_days_15 kc_5 ?_
    refine gd_n hf (fun c5 hf => ?_)
    refine g_iald C aT1 rfl c5 dX3_days_16 ?_
    refine g_iload_n C dX3_days_17 1 rfl ?_
    refine g_iadd C dX3_days_18 ?_
    refine g_sipush C dX3_days_19 ks_9999 ?_
    refine g_icmp_le 27 C dX3_days_22 rfl (fun c6 => ?_) (fun c6 => ?_)
    · replace hf := if_t c6 hf
      refine g_iconst C dX3_days_27 kc_0 ?_
      refine g_istore_n (i := 2) (lv' := [(2, .int (0 : Int32)), (0, .ref (g.1 0)), (1, .int a1)]) C dX3_days_28 rfl rfl (by decide) rfl ?_
      refine g_iconst C dX3_days_29 kc_0 ?_
      refine g_istore_n (i := 3) (lv' := [(3, .int (0 : Int32)), (2, .int (0 : Int32)), (0, .ref (g.1 0)), (1, .int a1)]) C dX3_days_30 rfl rfl (by decide) rfl ?_
      refine g_sub [2, 3, 1, 0] rfl (w_tw_days_L31 C E hX _ _ _ _ hf)
    · replace hf := if_f c6 hf
      refine g_iconst C dX3_days_25 kc_m1 ?_
      exact g_iret C E rfl (re_i hf) (re_s hf) ⟨Nat.zero_le _, Nat.zero_le _⟩ dX3_days_26
  · replace hf := if_f c4 hf
    refine g_iconst C dX3_days_25 kc_m1 ?_
    exact g_iret C E rfl (re_i hf) (re_s hf) ⟨Nat.zero_le _, Nat.zero_le _⟩ dX3_days_26
def tw_undo_L21 (n : Nat) : Nat → Sto → Int32 → Option (Bool × Sto)
  | 0, _, _ => none
  | k + 1, s3, v4 =>
    if (180 : Int32) ≤ v4 then
      some (true, s3)
    else
      gd (inb (((180 : Int32) * (s3.1 0 3)) + v4) 1440) <|
      gd (inb v4 1480) <|
      vl (wr s3 1 v4 (rd s3 3 (((180 : Int32) * (s3.1 0 3)) + v4))) fun s8 =>
      tw_undo_L21 n k s8 (v4 + (1 : Int32))
def tw_undo (n : Nat) (s : Sto) : Option (Bool × Sto) :=
  if (s.1 0 3) = 0 then
    some (false, s)
  else
    vl (sI s 0 3 ((s.1 0 3) - (1 : Int32))) fun s2 =>
    tw_undo_L21 n
        n s2 (0 : Int32)
theorem w_tw_undo_L21  {l : Launch} {n : Nat} {g : Gam} {A : Nat → Prop} {X : FX} {si sF : Sto} {rF : Bool} (C : CX tCfg g A 2 X cX3_undo RX3 (some .boolean) 1 12) (E : EX tCfg g A X si sF (some (.int (bI rF))) 0 0) (hX : X.2.1 = l) : ∀ (k : Nat) (s3 : Sto) (v4 : Int32), tw_undo_L21 n k s3 v4 = some (rF, sF) → TG tCfg g A 2 X 0 0 s3 21 [(0, .ref (g.1 0)), (1, .int v4)] [] := by
  intro k
  induction k with
  | zero => intro s3 v4 hf; rw [tw_undo_L21] at hf; cases hf
  | succ k ih =>
    intro s3 v4 hf
    rw [tw_undo_L21] at hf
    refine g_iload_n C dX3_undo_21 1 rfl ?_
    refine g_sipush C dX3_undo_22 ks_180 ?_
    refine g_icmp_ge 55 C dX3_undo_25 rfl (fun c5 => ?_) (fun c5 => ?_)
    · replace hf := if_t c5 hf
      refine g_iconst C dX3_undo_55 kc_1 ?_
      exact g_iret (v := bI true) C E (bI_nar _) (re_z hf) (re_s hf) ⟨Nat.zero_le _, Nat.zero_le _⟩ dX3_undo_56
    · replace hf := if_f c5 hf
      refine g_aload_n C dX3_undo_28 0 rfl ?_
      refine g_getS 1 C oT0 fX3_7 rfl dX3_undo_29 ?_
      refine g_iload_n C dX3_undo_32 1 rfl ?_
      refine g_aload_n C dX3_undo_33 0 rfl ?_
      refine g_getS 3 C oT0 fX3_16 rfl dX3_undo_34 ?_
      refine g_sipush C dX3_undo_37 ks_180 ?_
      refine g_aload_n C dX3_undo_40 0 rfl ?_
      refine g_getI C oT0 fX3_70 dX3_undo_41 ?_
      refine g_imul C dX3_undo_44 ?_
      refine g_iload_n C dX3_undo_45 1 rfl ?_
      refine g_iadd C dX3_undo_46 ?_
      refine gd_n hf (fun c6 hf => ?_)
      refine g_iald C aT3 rfl c6 dX3_undo_47 ?_
      refine gd_n hf (fun c7 hf => ?_)
      refine vl_n hf (fun s8 hs8 hf => ?_)
      refine g_iast C aT1 rfl c7 hs8 dX3_undo_48 ?_
      refine g_iinc (q := 1) (lv' := [(1, .int (v4 + (1 : Int32))), (0, .ref (g.1 0))]) C dX3_undo_49 rfl kc_1 (by decide) rfl ?_
      refine g_goto 21 C dX3_undo_52 rfl ?_
      exact g_sub [1, 0] rfl (ih _ _ hf)
theorem w_tw_undo {l : Launch} {n : Nat} {s sF : Sto} {rF : Bool} (hf : tw_undo n s  = some (rF, sF)) : Ct tCfg l yX3_undo cX3_undo 2 (some .boolean) { frames := 1, cells := 0, slots := 0, locals := 12 } (fun g => [.ref (g.1 0)]) s sF (fun _ => some (.int (bI rF))) := by
  refine Ct_of pn_X3 (fun g => Nat.le_of_ble_eq_true rfl) (fun g A X C E hX => ?_)
  rw [tw_undo] at hf
  show TG tCfg g A 2 X 0 0 s 0 [(0, .ref (g.1 0))] []
  refine g_aload_n C dX3_undo_0 0 rfl ?_
  refine g_getI C oT0 fX3_70 dX3_undo_1 ?_
  refine g_if_ne 9 C dX3_undo_4 rfl (fun c1 => ?_) (fun c1 => ?_)
  · replace hf := if_t c1 hf
    refine g_iconst C dX3_undo_7 kc_0 ?_
    exact g_iret (v := bI false) C E (bI_nar _) (re_z hf) (re_s hf) ⟨Nat.zero_le _, Nat.zero_le _⟩ dX3_undo_8
  · replace hf := if_f c1 hf
    refine g_aload_n C dX3_undo_9 0 rfl ?_
    refine g_dup C dX3_undo_10 rfl ?_
    refine g_getI C oT0 fX3_70 dX3_undo_11 ?_
    refine g_iconst C dX3_undo_14 kc_1 ?_
    refine g_isub C dX3_undo_15 ?_
    refine vl_n hf (fun s2 hs2 hf => ?_)
    refine g_putI C oT0 pX3_70 rfl rfl hs2 dX3_undo_16 ?_
    refine g_iconst C dX3_undo_19 kc_0 ?_
    refine g_istore_n (i := 1) (lv' := [(1, .int (0 : Int32)), (0, .ref (g.1 0))]) C dX3_undo_20 rfl rfl (by decide) rfl ?_
    refine g_sub [1, 0] rfl (w_tw_undo_L21 C E hX _ _ _ hf)
def tw_of (n : Nat) (s : Sto) (a1 : Int32) (a2 : Int32) : Option (Int32 × Sto) :=
  bd (tw_isHouse n s a1) fun r1 s2 =>
  if r1 = true then
    bd (tw_isIn n s2 a2 (0 : Int32) (8 : Int32)) fun r5 s6 =>
    if r5 = true then
      bd (tw_own n s6 a1 a2) fun r9 s10 =>
      some (r9, s10)
    else
      if a2 = (9 : Int32) then
        bd (tw_net n s6 a1) fun r13 s14 =>
        some (r13, s14)
      else
        bd (tw_own n s6 a1 (9 : Int32)) fun r16 s17 =>
        bd (tw_isIn n s17 a2 (10 : Int32) ((9 : Int32) + r16)) fun r19 s20 =>
        if r19 = true then
          bd (tw_own n s20 a1 (((10 : Int32) + a2) - (10 : Int32))) fun r23 s24 =>
          some (r23, s24)
        else
          some ((-1000000000 : Int32), s20)
  else
    some ((-1000000000 : Int32), s2)
theorem w_tw_of {l : Launch} {n : Nat} {s sF : Sto} {a1 : Int32} {a2 : Int32} {rF : Int32} (hf : tw_of n s a1 a2 = some (rF, sF)) : Ct tCfg l yX3_of cX3_of 3 (some .int) { frames := 3, cells := 0, slots := 0, locals := 57 } (fun g => [.ref (g.1 0), .int a1, .int a2]) s sF (fun _ => some (.int rF)) := by
  refine Ct_of pn_X3 (fun g => Nat.le_of_ble_eq_true rfl) (fun g A X C E hX => ?_)
  rw [tw_of] at hf
  show TG tCfg g A 3 X 0 0 s 0 [(0, .ref (g.1 0)), (1, .int a1), (2, .int a2)] []
  refine g_aload_n C dX3_of_0 0 rfl ?_
  refine g_iload_n C dX3_of_1 1 rfl ?_
  refine bd_n hf (fun r1 s2 h3 hf => ?_)
  refine g_callV0 (As := [.int a1]) (rest := []) (stk := [.int (bI r1)]) C (w_tw_isHouse h3) hX oT0 rfl rfl q1260 q1262 qs62 q91 q1263 mdX3_isHouse rfl ⟨Nat.le_of_ble_eq_true rfl, Nat.le_of_ble_eq_true rfl⟩ (Nat.le_of_ble_eq_true rfl) dX3_of_2 rfl ?_
  refine g_ifZ_ne 12 C dX3_of_5 rfl (fun c4 => ?_) (fun c4 => ?_)
  · replace hf := if_t c4 hf
    refine g_iload_n C dX3_of_12 2 rfl ?_
    refine g_iconst C dX3_of_13 kc_0 ?_
    refine g_bipush C dX3_of_14 kb_8 ?_
    refine bd_n hf (fun r5 s6 h7 hf => ?_)
    refine g_callS0 (As := [.int a2, .int (0 : Int32), .int (8 : Int32)]) (rest := []) (stk := [.int (bI r5)]) C (w_tw_isIn h7) hX rfl q1146 q1147 q91 q1148 msX3_isIn rfl ⟨Nat.le_of_ble_eq_true rfl, Nat.le_of_ble_eq_true rfl⟩ (Nat.le_of_ble_eq_true rfl) dX3_of_16 rfl ?_
    refine g_ifZ_eq 29 C dX3_of_19 rfl (fun c8 => ?_) (fun c8 => ?_)
    · replace hf := if_t c8 hf
      refine g_aload_n C dX3_of_22 0 rfl ?_
      refine g_iload_n C dX3_of_23 1 rfl ?_
      refine g_iload_n C dX3_of_24 2 rfl ?_
      refine bd_n hf (fun r9 s10 h11 hf => ?_)
      refine g_callV0 (As := [.int a1, .int a2]) (rest := []) (stk := [.int r9]) C (w_tw_own h11) hX oT0 rfl rfl q1265 q1267 qs63 q91 q1268 mdX3_own rfl ⟨Nat.le_of_ble_eq_true rfl, Nat.le_of_ble_eq_true rfl⟩ (Nat.le_of_ble_eq_true rfl) dX3_of_25 rfl ?_
      exact g_iret C E rfl (re_i hf) (re_s hf) ⟨Nat.zero_le _, Nat.zero_le _⟩ dX3_of_28
    · replace hf := if_f c8 hf
      refine g_iload_n C dX3_of_29 2 rfl ?_
      refine g_bipush C dX3_of_30 kb_9 ?_
      refine g_icmp_ne 41 C dX3_of_32 rfl (fun c12 => ?_) (fun c12 => ?_)
      · replace hf := if_t c12 hf
        refine g_aload_n C dX3_of_35 0 rfl ?_
        refine g_iload_n C dX3_of_36 1 rfl ?_
        refine bd_n hf (fun r13 s14 h15 hf => ?_)
        refine g_callV0 (As := [.int a1]) (rest := []) (stk := [.int r13]) C (w_tw_net h15) hX oT0 rfl rfl q1290 q1292 qs67 q91 q1293 mdX3_net rfl ⟨Nat.le_of_ble_eq_true rfl, Nat.le_of_ble_eq_true rfl⟩ (Nat.le_of_ble_eq_true rfl) dX3_of_37 rfl ?_
        exact g_iret C E rfl (re_i hf) (re_s hf) ⟨Nat.zero_le _, Nat.zero_le _⟩ dX3_of_40
      · replace hf := if_f c12 hf
        refine g_iload_n C dX3_of_41 2 rfl ?_
        refine g_bipush C dX3_of_42 kb_10 ?_
        refine g_bipush C dX3_of_44 kb_9 ?_
        refine g_aload_n C dX3_of_46 0 rfl ?_
        refine g_iload_n C dX3_of_47 1 rfl ?_
        refine g_bipush C dX3_of_48 kb_9 ?_
        refine bd_n hf (fun r16 s17 h18 hf => ?_)
        refine g_callV0 (As := [.int a1, .int (9 : Int32)]) (rest := [.int (9 : Int32), .int (10 : Int32), .int a2]) (stk := [.int r16, .int (9 : Int32), .int (10 : Int32), .int a2]) C (w_tw_own h18) hX oT0 rfl rfl q1265 q1267 qs63 q91 q1268 mdX3_own rfl ⟨Nat.le_of_ble_eq_true rfl, Nat.le_of_ble_eq_true rfl⟩ (Nat.le_of_ble_eq_true rfl) dX3_of_50 rfl ?_
        refine g_iadd C dX3_of_53 ?_
        refine bd_n hf (fun r19 s20 h21 hf => ?_)
        refine g_callS0 (As := [.int a2, .int (10 : Int32), .int ((9 : Int32) + r16)]) (rest := []) (stk := [.int (bI r19)]) C (w_tw_isIn h21) hX rfl q1146 q1147 q91 q1148 msX3_isIn rfl ⟨Nat.le_of_ble_eq_true rfl, Nat.le_of_ble_eq_true rfl⟩ (Nat.le_of_ble_eq_true rfl) dX3_of_54 rfl ?_
        refine g_ifZ_eq 75 C dX3_of_57 rfl (fun c22 => ?_) (fun c22 => ?_)
        · replace hf := if_t c22 hf
          refine g_aload_n C dX3_of_60 0 rfl ?_
          refine g_iload_n C dX3_of_61 1 rfl ?_
          refine g_bipush C dX3_of_62 kb_10 ?_
          refine g_iload_n C dX3_of_64 2 rfl ?_
          refine g_iadd C dX3_of_65 ?_
          refine g_bipush C dX3_of_66 kb_10 ?_
          refine g_isub C dX3_of_68 ?_
          refine bd_n hf (fun r23 s24 h25 hf => ?_)
          refine g_callV0 (As := [.int a1, .int (((10 : Int32) + a2) - (10 : Int32))]) (rest := []) (stk := [.int r23]) C (w_tw_own h25) hX oT0 rfl rfl q1265 q1267 qs63 q91 q1268 mdX3_own rfl ⟨Nat.le_of_ble_eq_true rfl, Nat.le_of_ble_eq_true rfl⟩ (Nat.le_of_ble_eq_true rfl) dX3_of_69 rfl ?_
          refine g_goto 78 C dX3_of_72 rfl ?_
          exact g_iret C E rfl (re_i hf) (re_s hf) ⟨Nat.zero_le _, Nat.zero_le _⟩ dX3_of_78
        · replace hf := if_f c22 hf
          refine g_ldcw C dX3_of_75 q1335 ?_
          exact g_iret C E rfl (re_i hf) (re_s hf) ⟨Nat.zero_le _, Nat.zero_le _⟩ dX3_of_78
  · replace hf := if_f c4 hf
    refine g_ldcw C dX3_of_8 q1335 ?_
    exact g_iret C E rfl (re_i hf) (re_s hf) ⟨Nat.zero_le _, Nat.zero_le _⟩ dX3_of_11
def tw_book (n : Nat) (s : Sto) (a1 : Int32) : Option (Int32 × Sto) :=
  gd (inb (9 : Int32) 1480) <|
  if (rd s 1 (9 : Int32)) = (-1 : Int32) then
    some ((-1 : Int32), s)
  else
    if a1 = (100 : Int32) then
      gd (inb (10 : Int32) 1480) <|
      some ((rd s 1 (10 : Int32)), s)
    else
      bd (tw_isIn n s a1 (0 : Int32) ((rd s 1 (9 : Int32)) - (1 : Int32))) fun r5 s6 =>
      if r5 = true then
        gd (inb ((170 : Int32) + a1) 1480) <|
        some ((rd s6 1 ((170 : Int32) + a1)), s6)
      else
        some ((-1 : Int32), s6)
theorem w_tw_book {l : Launch} {n : Nat} {s sF : Sto} {a1 : Int32} {rF : Int32} (hf : tw_book n s a1 = some (rF, sF)) : Ct tCfg l yX3_book cX3_book 2 (some .int) { frames := 2, cells := 0, slots := 0, locals := 34 } (fun g => [.ref (g.1 0), .int a1]) s sF (fun _ => some (.int rF)) := by
  refine Ct_of pn_X3 (fun g => Nat.le_of_ble_eq_true rfl) (fun g A X C E hX => ?_)
  rw [tw_book] at hf
  show TG tCfg g A 2 X 0 0 s 0 [(0, .ref (g.1 0)), (1, .int a1)] []
  refine g_aload_n C dX3_book_0 0 rfl ?_
  refine g_getS 1 C oT0 fX3_7 rfl dX3_book_1 ?_
  refine g_bipush C dX3_book_4 kb_9 ?_
  refine gd_n hf (fun c1 hf => ?_)
  refine g_iald C aT1 rfl c1 dX3_book_6 ?_
  refine g_iconst C dX3_book_7 kc_m1 ?_
  refine g_icmp_ne 13 C dX3_book_8 rfl (fun c2 => ?_) (fun c2 => ?_)
  · replace hf := if_t c2 hf
    refine g_iconst C dX3_book_11 kc_m1 ?_
    exact g_iret C E rfl (re_i hf) (re_s hf) ⟨Nat.zero_le _, Nat.zero_le _⟩ dX3_book_12
  · replace hf := if_f c2 hf
    refine g_iload_n C dX3_book_13 1 rfl ?_
    refine g_bipush C dX3_book_14 kb_100 ?_
    refine g_icmp_ne 29 C dX3_book_16 rfl (fun c3 => ?_) (fun c3 => ?_)
    · replace hf := if_t c3 hf
      refine g_aload_n C dX3_book_19 0 rfl ?_
      refine g_getS 1 C oT0 fX3_7 rfl dX3_book_20 ?_
      refine g_bipush C dX3_book_23 kb_10 ?_
      refine gd_n hf (fun c4 hf => ?_)
      refine g_iald C aT1 rfl c4 dX3_book_25 ?_
      refine g_goto 60 C dX3_book_26 rfl ?_
      exact g_iret C E rfl (re_i hf) (re_s hf) ⟨Nat.zero_le _, Nat.zero_le _⟩ dX3_book_60
    · replace hf := if_f c3 hf
      refine g_iload_n C dX3_book_29 1 rfl ?_
      refine g_iconst C dX3_book_30 kc_0 ?_
      refine g_aload_n C dX3_book_31 0 rfl ?_
      refine g_getS 1 C oT0 fX3_7 rfl dX3_book_32 ?_
      refine g_bipush C dX3_book_35 kb_9 ?_
      refine g_iald C aT1 rfl c1 dX3_book_37 ?_
      refine g_iconst C dX3_book_38 kc_1 ?_
      refine g_isub C dX3_book_39 ?_
      refine bd_n hf (fun r5 s6 h7 hf => ?_)
      refine g_callS0 (As := [.int a1, .int (0 : Int32), .int ((rd s 1 (9 : Int32)) - (1 : Int32))]) (rest := []) (stk := [.int (bI r5)]) C (w_tw_isIn h7) hX rfl q1146 q1147 q91 q1148 msX3_isIn rfl ⟨Nat.le_of_ble_eq_true rfl, Nat.le_of_ble_eq_true rfl⟩ (Nat.le_of_ble_eq_true rfl) dX3_book_40 rfl ?_
      refine g_ifZ_eq 59 C dX3_book_43 rfl (fun c8 => ?_) (fun c8 => ?_)
      · replace hf := if_t c8 hf
        refine g_aload_n C dX3_book_46 0 rfl ?_
        refine g_getS 1 C oT0 fX3_7 rfl dX3_book_47 ?_
        refine g_sipush C dX3_book_50 ks_170 ?_
        refine g_iload_n C dX3_book_53 1 rfl ?_
        refine g_iadd C dX3_book_54 ?_
        refine gd_n hf (fun c9 hf => ?_)
        refine g_iald C aT1 rfl c9 dX3_book_55 ?_
        refine g_goto 60 C dX3_book_56 rfl ?_
        exact g_iret C E rfl (re_i hf) (re_s hf) ⟨Nat.zero_le _, Nat.zero_le _⟩ dX3_book_60
      · replace hf := if_f c8 hf
        refine g_iconst C dX3_book_59 kc_m1 ?_
        exact g_iret C E rfl (re_i hf) (re_s hf) ⟨Nat.zero_le _, Nat.zero_le _⟩ dX3_book_60
def tw_bakes_L9 (n : Nat) : Nat → Sto → Int32 → Int32 → Option (Int32 × Sto)
  | 0, _, _, _ => none
  | k + 1, s2, v3, v4 =>
    gd (inb (4 : Int32) 1480) <|
    if (rd s2 1 (4 : Int32)) ≤ v4 then
      some (v3, s2)
    else
      gd (inb v4 9) <|
      bd (tw_heats n s2 (rd s2 11 v4)) fun r8 s9 =>
      vl (wr s9 12 v4 r8) fun s11 =>
      vl (v3 + (rd s11 12 v4)) fun v12 =>
      tw_bakes_L9 n k s11 v12 (v4 + (1 : Int32))
def tw_bakes (n : Nat) (s : Sto) : Option (Int32 × Sto) :=
  vl (sI s 0 24 (0 : Int32)) fun s1 =>
  tw_bakes_L9 n
      n s1 (0 : Int32) (0 : Int32)
theorem w_tw_bakes_L9  {l : Launch} {n : Nat} {g : Gam} {A : Nat → Prop} {X : FX} {si sF : Sto} {rF : Int32} (C : CX tCfg g A 3 X cX3_bakes RX3 (some .int) 4 77) (E : EX tCfg g A X si sF (some (.int rF)) 0 0) (hX : X.2.1 = l) : ∀ (k : Nat) (s2 : Sto) (v3 : Int32) (v4 : Int32), tw_bakes_L9 n k s2 v3 v4 = some (rF, sF) → TG tCfg g A 3 X 0 0 s2 9 [(0, .ref (g.1 0)), (1, .int v3), (2, .int v4)] [] := by
  intro k
  induction k with
  | zero => intro s2 v3 v4 hf; rw [tw_bakes_L9] at hf; cases hf
  | succ k ih =>
    intro s2 v3 v4 hf
    rw [tw_bakes_L9] at hf
    refine g_iload_n C dX3_bakes_9 2 rfl ?_
    refine g_aload_n C dX3_bakes_10 0 rfl ?_
    refine g_getS 1 C oT0 fX3_7 rfl dX3_bakes_11 ?_
    refine g_iconst C dX3_bakes_14 kc_4 ?_
    refine gd_n hf (fun c5 hf => ?_)
    refine g_iald C aT1 rfl c5 dX3_bakes_15 ?_
    refine g_icmp_ge 50 C dX3_bakes_16 rfl (fun c6 => ?_) (fun c6 => ?_)
    · replace hf := if_t c6 hf
      refine g_iload_n C dX3_bakes_50 1 rfl ?_
      exact g_iret C E rfl (re_i hf) (re_s hf) ⟨Nat.zero_le _, Nat.zero_le _⟩ dX3_bakes_51
    · replace hf := if_f c6 hf
      refine g_aload_n C dX3_bakes_19 0 rfl ?_
      refine g_getS 12 C oT0 fX3_47 rfl dX3_bakes_20 ?_
      refine g_iload_n C dX3_bakes_23 2 rfl ?_
      refine g_aload_n C dX3_bakes_24 0 rfl ?_
      refine g_aload_n C dX3_bakes_25 0 rfl ?_
      refine g_getS 11 C oT0 fX3_44 rfl dX3_bakes_26 ?_
      refine g_iload_n C dX3_bakes_29 2 rfl ?_
      refine gd_n hf (fun c7 hf => ?_)
      refine g_iald C aT11 rfl c7 dX3_bakes_30 ?_
      refine bd_n hf (fun r8 s9 h10 hf => ?_)
      refine g_callV0 (As := [.int (rd s2 11 v4)]) (rest := [.int v4, .ref (g.1 12)]) (stk := [.int r8, .int v4, .ref (g.1 12)]) C (w_tw_heats h10) hX oT0 rfl rfl q1323 q1325 qs73 q91 q1326 mdX3_heats rfl ⟨Nat.le_of_ble_eq_true rfl, Nat.le_of_ble_eq_true rfl⟩ (Nat.le_of_ble_eq_true rfl) dX3_bakes_31 rfl ?_
      refine vl_n hf (fun s11 hs11 hf => ?_)
      refine g_iast C aT12 rfl c7 hs11 dX3_bakes_34 ?_
      refine g_iload_n C dX3_bakes_35 1 rfl ?_
      refine g_aload_n C dX3_bakes_36 0 rfl ?_
      refine g_getS 12 C oT0 fX3_47 rfl dX3_bakes_37 ?_
      refine g_iload_n C dX3_bakes_40 2 rfl ?_
      refine g_iald C aT12 rfl c7 dX3_bakes_41 ?_
      refine g_iadd C dX3_bakes_42 ?_
      refine vl_n hf (fun v12 hv12 hf => ?_)
      refine g_istore_n (i := 1) (lv' := [(1, .int v12), (0, .ref (g.1 0)), (2, .int v4)]) C dX3_bakes_43 rfl hv12 (by decide) rfl ?_
      refine g_iinc (q := 2) (lv' := [(2, .int (v4 + (1 : Int32))), (1, .int v12), (0, .ref (g.1 0))]) C dX3_bakes_44 rfl kc_1 (by decide) rfl ?_
      refine g_goto 9 C dX3_bakes_47 rfl ?_
      exact g_sub [2, 1, 0] rfl (ih _ _ _ hf)
theorem w_tw_bakes {l : Launch} {n : Nat} {s sF : Sto} {rF : Int32} (hf : tw_bakes n s  = some (rF, sF)) : Ct tCfg l yX3_bakes cX3_bakes 3 (some .int) { frames := 4, cells := 0, slots := 0, locals := 77 } (fun g => [.ref (g.1 0)]) s sF (fun _ => some (.int rF)) := by
  refine Ct_of pn_X3 (fun g => Nat.le_of_ble_eq_true rfl) (fun g A X C E hX => ?_)
  rw [tw_bakes] at hf
  show TG tCfg g A 3 X 0 0 s 0 [(0, .ref (g.1 0))] []
  refine g_iconst C dX3_bakes_0 kc_0 ?_
  refine g_istore_n (i := 1) (lv' := [(1, .int (0 : Int32)), (0, .ref (g.1 0))]) C dX3_bakes_1 rfl rfl (by decide) rfl ?_
  refine g_aload_n C dX3_bakes_2 1 rfl ?_
  refine g_iconst C dX3_bakes_3 kc_0 ?_
  refine vl_n hf (fun s1 hs1 hf => ?_)
  refine g_putI C oT0 pX3_247 rfl rfl hs1 dX3_bakes_4 ?_
  refine g_iconst C dX3_bakes_7 kc_0 ?_
  refine g_istore_n (i := 2) (lv' := [(2, .int (0 : Int32)), (1, .int (0 : Int32)), (0, .ref (g.1 0))]) C dX3_bakes_8 rfl rfl (by decide) rfl ?_
  refine g_sub [2, 1, 0] rfl (w_tw_bakes_L9 C E hX _ _ _ _ hf)
def tw_gainAt (n : Nat) (s : Sto) (a1 : Int32) : Option (Int32 × Sto) :=
  vl (fun (s1 : Sto) (t2 : Int32) =>
    gd (inb (4 : Int32) 1480) <|
    vl (fun (s5 : Sto) (v6 : Int32) =>
      gd (inb (2 : Int32) 1480) <|
      gd (inb a1 9) <|
      some ((v6 - ((rd s5 1 (2 : Int32)) * (rd s5 12 a1))), s5)) fun j7 =>
    if (rd s1 1 (4 : Int32)) ≤ (a1 + (1 : Int32)) then
      j7 s1 t2
    else
      gd (inb (a1 + (1 : Int32)) 9) <|
      bd (tw_loaf n s1 (rd s1 11 (a1 + (1 : Int32)))) fun r12 s13 =>
      gd (decide (¬ (9 : Int32) = 0)) <|
      vl (t2 + (r12 / (9 : Int32))) fun v16 =>
      j7 s13 v16) fun j3 =>
  if a1 = 0 then
    j3 s (0 : Int32)
  else
    gd (inb a1 9) <|
    bd (tw_loaf n s (rd s 11 a1)) fun r19 s20 =>
    gd (decide (¬ (9 : Int32) = 0)) <|
    j3 s20 (-(r19 / (9 : Int32)))
theorem w_tw_gainAt {l : Launch} {n : Nat} {s sF : Sto} {a1 : Int32} {rF : Int32} (hf : tw_gainAt n s a1 = some (rF, sF)) : Ct tCfg l yX3_gainAt cX3_gainAt 3 (some .int) { frames := 3, cells := 0, slots := 0, locals := 55 } (fun g => [.ref (g.1 0), .int a1]) s sF (fun _ => some (.int rF)) := by
  refine Ct_of pn_X3 (fun g => Nat.le_of_ble_eq_true rfl) (fun g A X C E hX => ?_)
  rw [tw_gainAt] at hf
  show TG tCfg g A 3 X 0 0 s 0 [(0, .ref (g.1 0)), (1, .int a1)] []
  refine g_iload_n C dX3_gainAt_0 1 rfl ?_
  refine vl_n hf (fun j3 hj3 hf => ?_)
  have Hj3 : ∀ (s1 : Sto) (t2 : Int32), j3 s1 t2 = some (rF, sF) → TG tCfg g A 3 X 0 0 s1 22 [(0, .ref (g.1 0)), (1, .int a1)] [.int t2] := by
    clear hf; subst hj3
    intro s1 t2 hf
    refine g_istore_n (i := 2) (lv' := [(2, .int t2), (0, .ref (g.1 0)), (1, .int a1)]) C dX3_gainAt_22 rfl rfl (by decide) rfl ?_
    refine g_iload_n C dX3_gainAt_23 2 rfl ?_
    refine g_iconst C dX3_gainAt_24 kc_1 ?_
    refine g_iadd C dX3_gainAt_25 ?_
    refine g_aload_n C dX3_gainAt_26 1 rfl ?_
    refine g_getS 1 C oT0 fX3_7 rfl dX3_gainAt_27 ?_
    refine g_iconst C dX3_gainAt_30 kc_4 ?_
    refine gd_n hf (fun c4 hf => ?_)
    refine g_iald C aT1 rfl c4 dX3_gainAt_31 ?_
    refine vl_n hf (fun j7 hj7 hf => ?_)
    have Hj7 : ∀ (s5 : Sto) (v6 : Int32), j7 s5 v6 = some (rF, sF) → TG tCfg g A 3 X 0 0 s5 53 [(0, .ref (g.1 0)), (1, .int a1), (2, .int v6)] [] := by
      clear hf; subst hj7
      intro s5 v6 hf
      refine g_iload_n C dX3_gainAt_53 2 rfl ?_
      refine g_aload_n C dX3_gainAt_54 0 rfl ?_
      refine g_getS 1 C oT0 fX3_7 rfl dX3_gainAt_55 ?_
      refine g_iconst C dX3_gainAt_58 kc_2 ?_
      refine gd_n hf (fun c8 hf => ?_)
      refine g_iald C aT1 rfl c8 dX3_gainAt_59 ?_
      refine g_aload_n C dX3_gainAt_60 0 rfl ?_
      refine g_getS 12 C oT0 fX3_47 rfl dX3_gainAt_61 ?_
      refine g_iload_n C dX3_gainAt_64 1 rfl ?_
      refine gd_n hf (fun c9 hf => ?_)
      refine g_iald C aT12 rfl c9 dX3_gainAt_65 ?_
      refine g_imul C dX3_gainAt_66 ?_
      refine g_isub C dX3_gainAt_67 ?_
      exact g_iret C E rfl (re_i hf) (re_s hf) ⟨Nat.zero_le _, Nat.zero_le _⟩ dX3_gainAt_68
    clear hj7
    refine g_icmp_ge 53 C dX3_gainAt_32 rfl (fun c10 => ?_) (fun c10 => ?_)
    · replace hf := if_t c10 hf
      exact g_sub [1, 2, 0] rfl (Hj7 _ _ hf)
    · replace hf := if_f c10 hf
      refine g_iload_n C dX3_gainAt_35 0 rfl ?_
      refine g_aload_n C dX3_gainAt_36 1 rfl ?_
      refine g_aload_n C dX3_gainAt_37 1 rfl ?_
      refine g_getS 11 C oT0 fX3_44 rfl dX3_gainAt_38 ?_
      refine g_iload_n C dX3_gainAt_41 2 rfl ?_
      refine g_iconst C dX3_gainAt_42 kc_1 ?_
      refine g_iadd C dX3_gainAt_43 ?_
      refine gd_n hf (fun c11 hf => ?_)
      refine g_iald C aT11 rfl c11 dX3_gainAt_44 ?_
      refine bd_n hf (fun r12 s13 h14 hf => ?_)
      refine g_callV0 (As := [.int (rd s1 11 (a1 + (1 : Int32)))]) (rest := [.int t2]) (stk := [.int r12, .int t2]) C (w_tw_loaf h14) hX oT0 rfl rfl q1319 q1321 qs72 q91 q1322 mdX3_loaf rfl ⟨Nat.le_of_ble_eq_true rfl, Nat.le_of_ble_eq_true rfl⟩ (Nat.le_of_ble_eq_true rfl) dX3_gainAt_45 rfl ?_
      refine g_bipush C dX3_gainAt_48 kb_9 ?_
      refine gd_n hf (fun c15 hf => ?_)
      refine g_idiv C dX3_gainAt_50 c15 ?_
      refine g_iadd C dX3_gainAt_51 ?_
      refine vl_n hf (fun v16 hv16 hf => ?_)
      refine g_istore_n (i := 2) (lv' := [(2, .int v16), (0, .ref (g.1 0)), (1, .int a1)]) C dX3_gainAt_52 rfl hv16 (by decide) rfl ?_
      exact g_sub [1, 2, 0] rfl (Hj7 _ _ hf)
  clear hj3
  refine g_if_ne 8 C dX3_gainAt_1 rfl (fun c17 => ?_) (fun c17 => ?_)
  · replace hf := if_t c17 hf
    refine g_iconst C dX3_gainAt_4 kc_0 ?_
    refine g_goto 22 C dX3_gainAt_5 rfl ?_
    exact g_sub [0, 1] rfl (Hj3 _ _ hf)
  · replace hf := if_f c17 hf
    refine g_aload_n C dX3_gainAt_8 0 rfl ?_
    refine g_aload_n C dX3_gainAt_9 0 rfl ?_
    refine g_getS 11 C oT0 fX3_44 rfl dX3_gainAt_10 ?_
    refine g_iload_n C dX3_gainAt_13 1 rfl ?_
    refine gd_n hf (fun c18 hf => ?_)
    refine g_iald C aT11 rfl c18 dX3_gainAt_14 ?_
    refine bd_n hf (fun r19 s20 h21 hf => ?_)
    refine g_callV0 (As := [.int (rd s 11 a1)]) (rest := []) (stk := [.int r19]) C (w_tw_loaf h21) hX oT0 rfl rfl q1319 q1321 qs72 q91 q1322 mdX3_loaf rfl ⟨Nat.le_of_ble_eq_true rfl, Nat.le_of_ble_eq_true rfl⟩ (Nat.le_of_ble_eq_true rfl) dX3_gainAt_15 rfl ?_
    refine g_bipush C dX3_gainAt_18 kb_9 ?_
    refine gd_n hf (fun c22 hf => ?_)
    refine g_idiv C dX3_gainAt_20 c22 ?_
    refine g_ineg C dX3_gainAt_21 ?_
    exact g_sub [0, 1] rfl (Hj3 _ _ hf)
def tw_gain_L40 (n : Nat) (v10 : Int32) (v11 : Int32) : Nat → Sto → Int32 → Int32 → Int32 → Option (Int32 × Sto)
  | 0, _, _, _, _ => none
  | k + 1, s9, v12, v13, v14 =>
    if v11 ≤ v14 then
      bd (tw_bakes n s9) fun r16 s17 =>
      bd (tw_gainAt n s17 v13) fun r19 s20 =>
      some (r19, s20)
    else
      gd (inb v14 400) <|
      vl ((rd s9 6 v14) - (48 : Int32)) fun v23 =>
      bd (tw_isHouse n s9 v23) fun r24 s25 =>
      if r24 = true then
        if ((ishr v12 v23) &&& (1 : Int32)) = (1 : Int32) then
          some ((-1000000000 : Int32), s25)
        else
          vl (v12 ||| (ishl (1 : Int32) v23)) fun v29 =>
          gd (inb v14 9) <|
          vl (wr s25 11 v14 v23) fun s31 =>
          vl (fun (t32 : Int32) =>
            tw_gain_L40 n v10 v11 k s31 v29 t32 (v14 + (1 : Int32))) fun j33 =>
          if v23 = v10 then
            j33 v14
          else
            j33 v13
      else
        some ((-1000000000 : Int32), s25)
def tw_gain (n : Nat) (s : Sto) (a1 : Int32) : Option (Int32 × Sto) :=
  vl (s.1 0 12) fun v1 =>
  vl (sI s 0 12 (0 : Int32)) fun s2 =>
  bd (tw_isHouse n s2 a1) fun r3 s4 =>
  if r3 = true then
    gd (inb (4 : Int32) 1480) <|
    if v1 = (rd s4 1 (4 : Int32)) then
      tw_gain_L40 n a1 v1
          n s4 (0 : Int32) (-1 : Int32) (0 : Int32)
    else
      some ((-1000000000 : Int32), s4)
  else
    some ((-1000000000 : Int32), s4)
theorem w_tw_gain_L40  {l : Launch} {n : Nat} {v10 : Int32} {v11 : Int32} {g : Gam} {A : Nat → Prop} {X : FX} {si sF : Sto} {rF : Int32} (C : CX tCfg g A 7 X cX3_gain RX3 (some .int) 5 99) (E : EX tCfg g A X si sF (some (.int rF)) 0 0) (hX : X.2.1 = l) : ∀ (k : Nat) (s9 : Sto) (v12 : Int32) (v13 : Int32) (v14 : Int32), tw_gain_L40 n v10 v11 k s9 v12 v13 v14 = some (rF, sF) → TG tCfg g A 7 X 0 0 s9 40 [(0, .ref (g.1 0)), (1, .int v10), (2, .int v11), (3, .int v12), (4, .int v13), (5, .int v14)] [] := by
  intro k
  induction k with
  | zero => intro s9 v12 v13 v14 hf; rw [tw_gain_L40] at hf; cases hf
  | succ k ih =>
    intro s9 v12 v13 v14 hf
    rw [tw_gain_L40] at hf
    refine g_iload C dX3_gain_40 5 rfl ?_
    refine g_iload_n C dX3_gain_42 2 rfl ?_
    refine g_icmp_ge 118 C dX3_gain_43 rfl (fun c15 => ?_) (fun c15 => ?_)
    · replace hf := if_t c15 hf
      refine g_aload_n C dX3_gain_118 0 rfl ?_
      refine bd_n hf (fun r16 s17 h18 hf => ?_)
      refine g_callV0 (As := []) (rest := []) (stk := [.int r16]) C (w_tw_bakes h18) hX oT0 rfl rfl q1344 q1346 qs74 q91 q1347 mdX3_bakes rfl ⟨Nat.le_of_ble_eq_true rfl, Nat.le_of_ble_eq_true rfl⟩ (Nat.le_of_ble_eq_true rfl) dX3_gain_119 rfl ?_
      refine g_pop C dX3_gain_122 rfl ?_
      refine g_aload_n C dX3_gain_123 0 rfl ?_
      refine g_iload C dX3_gain_124 4 rfl ?_
      refine bd_n hf (fun r19 s20 h21 hf => ?_)
      refine g_callV0 (As := [.int v13]) (rest := []) (stk := [.int r19]) C (w_tw_gainAt h21) hX oT0 rfl rfl q1348 q1350 qs75 q91 q1351 mdX3_gainAt rfl ⟨Nat.le_of_ble_eq_true rfl, Nat.le_of_ble_eq_true rfl⟩ (Nat.le_of_ble_eq_true rfl) dX3_gain_126 rfl ?_
      exact g_iret C E rfl (re_i hf) (re_s hf) ⟨Nat.zero_le _, Nat.zero_le _⟩ dX3_gain_129
    · replace hf := if_f c15 hf
      refine g_aload_n C dX3_gain_46 0 rfl ?_
      refine g_getS 6 C oT0 fX3_25 rfl dX3_gain_47 ?_
      refine g_iload C dX3_gain_50 5 rfl ?_
      refine gd_n hf (fun c22 hf => ?_)
      refine g_iald C aT6 rfl c22 dX3_gain_52 ?_
      refine g_bipush C dX3_gain_53 kb_48 ?_
      refine g_isub C dX3_gain_55 ?_
      refine vl_n hf (fun v23 hv23 hf => ?_)
      refine g_istore (i := 6) (lv' := [(6, .int v23), (0, .ref (g.1 0)), (1, .int v10), (2, .int v11), (3, .int v12), (4, .int v13), (5, .int v14)]) C dX3_gain_56 hv23 (by decide) rfl ?_
      refine g_aload_n C dX3_gain_58 1 rfl ?_
      refine g_iload C dX3_gain_59 0 rfl ?_
      refine bd_n hf (fun r24 s25 h26 hf => ?_)
      refine g_callV0 (As := [.int v23]) (rest := []) (stk := [.int (bI r24)]) C (w_tw_isHouse h26) hX oT0 rfl rfl q1260 q1262 qs62 q91 q1263 mdX3_isHouse rfl ⟨Nat.le_of_ble_eq_true rfl, Nat.le_of_ble_eq_true rfl⟩ (Nat.le_of_ble_eq_true rfl) dX3_gain_61 rfl ?_
      refine g_ifZ_eq 77 C dX3_gain_64 rfl (fun c27 => ?_) (fun c27 => ?_)
      · replace hf := if_t c27 hf
        refine g_iload_n C dX3_gain_67 4 rfl ?_
        refine g_iload C dX3_gain_68 0 rfl ?_
        refine g_ishr C dX3_gain_70 ?_
        refine g_iconst C dX3_gain_71 kc_1 ?_
        refine g_iand C dX3_gain_72 ?_
        refine g_iconst C dX3_gain_73 kc_1 ?_
        refine g_icmp_ne 81 C dX3_gain_74 rfl (fun c28 => ?_) (fun c28 => ?_)
        · replace hf := if_t c28 hf
          refine g_ldcw C dX3_gain_77 q1335 ?_
          exact g_iret C E rfl (re_i hf) (re_s hf) ⟨Nat.zero_le _, Nat.zero_le _⟩ dX3_gain_80
        · replace hf := if_f c28 hf
          refine g_iload_n C dX3_gain_81 4 rfl ?_
          refine g_iconst C dX3_gain_82 kc_1 ?_
          refine g_iload C dX3_gain_83 0 rfl ?_
          refine g_ishl C dX3_gain_85 ?_
          refine g_ior C dX3_gain_86 ?_
          refine vl_n hf (fun v29 hv29 hf => ?_)
          refine g_istore_n (i := 3) (lv' := [(3, .int v29), (6, .int v23), (0, .ref (g.1 0)), (1, .int v10), (2, .int v11), (4, .int v13), (5, .int v14)]) C dX3_gain_87 rfl hv29 (by decide) rfl ?_
          refine g_aload_n C dX3_gain_88 2 rfl ?_
          refine g_getS 11 C oT0 fX3_44 rfl dX3_gain_89 ?_
          refine g_iload C dX3_gain_92 6 rfl ?_
          refine g_iload C dX3_gain_94 1 rfl ?_
          refine gd_n hf (fun c30 hf => ?_)
          refine vl_n hf (fun s31 hs31 hf => ?_)
          refine g_iast C aT11 rfl c30 hs31 dX3_gain_96 ?_
          refine g_iload C dX3_gain_97 1 rfl ?_
          refine g_iload_n C dX3_gain_99 3 rfl ?_
          refine vl_n hf (fun j33 hj33 hf => ?_)
          have Hj33 : ∀ (t32 : Int32), j33 t32 = some (rF, sF) → TG tCfg g A 7 X 0 0 s31 110 [(0, .ref (g.1 0)), (1, .int v10), (2, .int v11), (3, .int v29), (5, .int v14)] [.int t32] := by
            clear hf; subst hj33
            intro t32 hf
            refine g_istore (i := 4) (lv' := [(4, .int t32), (0, .ref (g.1 0)), (1, .int v10), (2, .int v11), (3, .int v29), (5, .int v14)]) C dX3_gain_110 rfl (by decide) rfl ?_
            refine g_iinc (q := 5) (lv' := [(5, .int (v14 + (1 : Int32))), (4, .int t32), (0, .ref (g.1 0)), (1, .int v10), (2, .int v11), (3, .int v29)]) C dX3_gain_112 rfl kc_1 (by decide) rfl ?_
            refine g_goto 40 C dX3_gain_115 rfl ?_
            exact g_sub [2, 3, 4, 5, 1, 0] rfl (ih _ _ _ _ hf)
          clear hj33
          refine g_icmp_ne 108 C dX3_gain_100 rfl (fun c34 => ?_) (fun c34 => ?_)
          · replace hf := if_t c34 hf
            refine g_iload C dX3_gain_103 6 rfl ?_
            refine g_goto 110 C dX3_gain_105 rfl ?_
            exact g_sub [2, 3, 4, 0, 6] rfl (Hj33 _ hf)
          · replace hf := if_f c34 hf
            refine g_iload C dX3_gain_108 5 rfl ?_
            exact g_sub [2, 3, 4, 0, 6] rfl (Hj33 _ hf)
      · replace hf := if_f c27 hf
        refine g_ldcw C dX3_gain_77 q1335 ?_
        exact g_iret C E rfl (re_i hf) (re_s hf) ⟨Nat.zero_le _, Nat.zero_le _⟩ dX3_gain_80
theorem w_tw_gain {l : Launch} {n : Nat} {s sF : Sto} {a1 : Int32} {rF : Int32} (hf : tw_gain n s a1 = some (rF, sF)) : Ct tCfg l yX3_gain cX3_gain 7 (some .int) { frames := 5, cells := 0, slots := 0, locals := 99 } (fun g => [.ref (g.1 0), .int a1]) s sF (fun _ => some (.int rF)) := by
  refine Ct_of pn_X3 (fun g => Nat.le_of_ble_eq_true rfl) (fun g A X C E hX => ?_)
  rw [tw_gain] at hf
  show TG tCfg g A 7 X 0 0 s 0 [(0, .ref (g.1 0)), (1, .int a1)] []
  refine g_aload_n C dX3_gain_0 0 rfl ?_
  refine g_getI C oT0 fX3_75 dX3_gain_1 ?_
  refine vl_n hf (fun v1 hv1 hf => ?_)
  refine g_istore_n (i := 2) (lv' := [(2, .int v1), (0, .ref (g.1 0)), (1, .int a1)]) C dX3_gain_4 rfl hv1 (by decide) rfl ?_
  refine g_aload_n C dX3_gain_5 1 rfl ?_
  refine g_iconst C dX3_gain_6 kc_0 ?_
  refine vl_n hf (fun s2 hs2 hf => ?_)
  refine g_putI C oT0 pX3_75 rfl rfl hs2 dX3_gain_7 ?_
  refine g_aload_n C dX3_gain_10 1 rfl ?_
  refine g_iload_n C dX3_gain_11 2 rfl ?_
  refine bd_n hf (fun r3 s4 h5 hf => ?_)
  refine g_callV0 (As := [.int a1]) (rest := []) (stk := [.int (bI r3)]) C (w_tw_isHouse h5) hX oT0 rfl rfl q1260 q1262 qs62 q91 q1263 mdX3_isHouse rfl ⟨Nat.le_of_ble_eq_true rfl, Nat.le_of_ble_eq_true rfl⟩ (Nat.le_of_ble_eq_true rfl) dX3_gain_12 rfl ?_
  refine g_ifZ_eq 28 C dX3_gain_15 rfl (fun c6 => ?_) (fun c6 => ?_)
  · replace hf := if_t c6 hf
    refine g_iload_n C dX3_gain_18 0 rfl ?_
    refine g_aload_n C dX3_gain_19 1 rfl ?_
    refine g_getS 1 C oT0 fX3_7 rfl dX3_gain_20 ?_
    refine g_iconst C dX3_gain_23 kc_4 ?_
    refine gd_n hf (fun c7 hf => ?_)
    refine g_iald C aT1 rfl c7 dX3_gain_24 ?_
    refine g_icmp_eq 32 C dX3_gain_25 rfl (fun c8 => ?_) (fun c8 => ?_)
    · replace hf := if_t c8 hf
      refine g_iconst C dX3_gain_32 kc_0 ?_
      refine g_istore_n (i := 3) (lv' := [(3, .int (0 : Int32)), (2, .int v1), (0, .ref (g.1 0)), (1, .int a1)]) C dX3_gain_33 rfl rfl (by decide) rfl ?_
      refine g_iconst C dX3_gain_34 kc_m1 ?_
      refine g_istore (i := 4) (lv' := [(4, .int (-1 : Int32)), (3, .int (0 : Int32)), (2, .int v1), (0, .ref (g.1 0)), (1, .int a1)]) C dX3_gain_35 rfl (by decide) rfl ?_
      refine g_iconst C dX3_gain_37 kc_0 ?_
      refine g_istore (i := 5) (lv' := [(5, .int (0 : Int32)), (4, .int (-1 : Int32)), (3, .int (0 : Int32)), (2, .int v1), (0, .ref (g.1 0)), (1, .int a1)]) C dX3_gain_38 rfl (by decide) rfl ?_
      refine g_sub [4, 5, 3, 2, 1, 0] rfl (w_tw_gain_L40 C E hX _ _ _ _ _ hf)
    · replace hf := if_f c8 hf
      refine g_ldcw C dX3_gain_28 q1335 ?_
      exact g_iret C E rfl (re_i hf) (re_s hf) ⟨Nat.zero_le _, Nat.zero_le _⟩ dX3_gain_31
  · replace hf := if_f c6 hf
    refine g_ldcw C dX3_gain_28 q1335 ?_
    exact g_iret C E rfl (re_i hf) (re_s hf) ⟨Nat.zero_le _, Nat.zero_le _⟩ dX3_gain_31
def tw_exchanges (n : Nat) (s : Sto) (a1 : Int32) : Option (Unit × Sto) :=
  gd (inb a1 9) <|
  vl (rd s 11 a1) fun v2 =>
  gd (inb (a1 + (1 : Int32)) 9) <|
  vl (wr s 11 a1 (rd s 11 (a1 + (1 : Int32)))) fun s4 =>
  vl (wr s4 11 (a1 + (1 : Int32)) v2) fun s5 =>
  some ((), s5)
theorem w_tw_exchanges {l : Launch} {n : Nat} {s sF : Sto} {a1 : Int32} {rF : Unit} (hf : tw_exchanges n s a1 = some (rF, sF)) : Ct tCfg l yX3_exchanges cX3_exchanges 3 none { frames := 1, cells := 0, slots := 0, locals := 12 } (fun g => [.ref (g.1 0), .int a1]) s sF (fun _ => none) := by
  refine Ct_of pn_X3 (fun g => Nat.le_of_ble_eq_true rfl) (fun g A X C E hX => ?_)
  rw [tw_exchanges] at hf
  show TG tCfg g A 3 X 0 0 s 0 [(0, .ref (g.1 0)), (1, .int a1)] []
  refine g_aload_n C dX3_exchanges_0 0 rfl ?_
  refine g_getS 11 C oT0 fX3_44 rfl dX3_exchanges_1 ?_
  refine g_iload_n C dX3_exchanges_4 1 rfl ?_
  refine gd_n hf (fun c1 hf => ?_)
  refine g_iald C aT11 rfl c1 dX3_exchanges_5 ?_
  refine vl_n hf (fun v2 hv2 hf => ?_)
  refine g_istore_n (i := 2) (lv' := [(2, .int v2), (0, .ref (g.1 0)), (1, .int a1)]) C dX3_exchanges_6 rfl hv2 (by decide) rfl ?_
  refine g_aload_n C dX3_exchanges_7 1 rfl ?_
  refine g_getS 11 C oT0 fX3_44 rfl dX3_exchanges_8 ?_
  refine g_iload_n C dX3_exchanges_11 2 rfl ?_
  refine g_aload_n C dX3_exchanges_12 1 rfl ?_
  refine g_getS 11 C oT0 fX3_44 rfl dX3_exchanges_13 ?_
  refine g_iload_n C dX3_exchanges_16 2 rfl ?_
  refine g_iconst C dX3_exchanges_17 kc_1 ?_
  refine g_iadd C dX3_exchanges_18 ?_
  refine gd_n hf (fun c3 hf => ?_)
  refine g_iald C aT11 rfl c3 dX3_exchanges_19 ?_
  refine vl_n hf (fun s4 hs4 hf => ?_)
  refine g_iast C aT11 rfl c1 hs4 dX3_exchanges_20 ?_
  refine g_aload_n C dX3_exchanges_21 1 rfl ?_
  refine g_getS 11 C oT0 fX3_44 rfl dX3_exchanges_22 ?_
  refine g_iload_n C dX3_exchanges_25 2 rfl ?_
  refine g_iconst C dX3_exchanges_26 kc_1 ?_
  refine g_iadd C dX3_exchanges_27 ?_
  refine g_iload_n C dX3_exchanges_28 0 rfl ?_
  refine vl_n hf (fun s5 hs5 hf => ?_)
  refine g_iast C aT11 rfl c3 hs5 dX3_exchanges_29 ?_
  exact g_vret C E rfl (re_s hf) ⟨Nat.zero_le _, Nat.zero_le _⟩ dX3_exchanges_30
def tw_wouldChange (n : Nat) (s : Sto) (a1 : Int32) : Option (Bool × Sto) :=
  bd (tw_bakes n s) fun r1 s2 =>
  bd (tw_gainAt n s2 a1) fun r4 s5 =>
  bd (tw_gainAt n s5 (a1 + (1 : Int32))) fun r7 s8 =>
  bd (tw_exchanges n s8 a1) fun r10 s11 =>
  bd (tw_bakes n s11) fun r13 s14 =>
  bd (tw_gainAt n s14 (a1 + (1 : Int32))) fun r16 s17 =>
  if r16 ≤ r4 then
    bd (tw_exchanges n s17 a1) fun r20 s21 =>
    some (false, s21)
  else
    bd (tw_gainAt n s17 a1) fun r23 s24 =>
    if r23 ≤ r7 then
      bd (tw_exchanges n s24 a1) fun r27 s28 =>
      some (false, s28)
    else
      bd (tw_exchanges n s24 a1) fun r30 s31 =>
      some (true, s31)
theorem w_tw_wouldChange {l : Launch} {n : Nat} {s sF : Sto} {a1 : Int32} {rF : Bool} (hf : tw_wouldChange n s a1 = some (rF, sF)) : Ct tCfg l yX3_wouldChange cX3_wouldChange 5 (some .boolean) { frames := 5, cells := 0, slots := 0, locals := 99 } (fun g => [.ref (g.1 0), .int a1]) s sF (fun _ => some (.int (bI rF))) := by
  refine Ct_of pn_X3 (fun g => Nat.le_of_ble_eq_true rfl) (fun g A X C E hX => ?_)
  rw [tw_wouldChange] at hf
  show TG tCfg g A 5 X 0 0 s 0 [(0, .ref (g.1 0)), (1, .int a1)] []
  refine g_aload_n C dX3_wouldChange_0 0 rfl ?_
  refine bd_n hf (fun r1 s2 h3 hf => ?_)
  refine g_callV0 (As := []) (rest := []) (stk := [.int r1]) C (w_tw_bakes h3) hX oT0 rfl rfl q1344 q1346 qs74 q91 q1347 mdX3_bakes rfl ⟨Nat.le_of_ble_eq_true rfl, Nat.le_of_ble_eq_true rfl⟩ (Nat.le_of_ble_eq_true rfl) dX3_wouldChange_1 rfl ?_
  refine g_pop C dX3_wouldChange_4 rfl ?_
  refine g_aload_n C dX3_wouldChange_5 0 rfl ?_
  refine g_iload_n C dX3_wouldChange_6 1 rfl ?_
  refine bd_n hf (fun r4 s5 h6 hf => ?_)
  refine g_callV0 (As := [.int a1]) (rest := []) (stk := [.int r4]) C (w_tw_gainAt h6) hX oT0 rfl rfl q1348 q1350 qs75 q91 q1351 mdX3_gainAt rfl ⟨Nat.le_of_ble_eq_true rfl, Nat.le_of_ble_eq_true rfl⟩ (Nat.le_of_ble_eq_true rfl) dX3_wouldChange_7 rfl ?_
  refine g_istore_n (i := 2) (lv' := [(2, .int r4), (0, .ref (g.1 0)), (1, .int a1)]) C dX3_wouldChange_10 rfl rfl (by decide) rfl ?_
  refine g_aload_n C dX3_wouldChange_11 1 rfl ?_
  refine g_iload_n C dX3_wouldChange_12 2 rfl ?_
  refine g_iconst C dX3_wouldChange_13 kc_1 ?_
  refine g_iadd C dX3_wouldChange_14 ?_
  refine bd_n hf (fun r7 s8 h9 hf => ?_)
  refine g_callV0 (As := [.int (a1 + (1 : Int32))]) (rest := []) (stk := [.int r7]) C (w_tw_gainAt h9) hX oT0 rfl rfl q1348 q1350 qs75 q91 q1351 mdX3_gainAt rfl ⟨Nat.le_of_ble_eq_true rfl, Nat.le_of_ble_eq_true rfl⟩ (Nat.le_of_ble_eq_true rfl) dX3_wouldChange_15 rfl ?_
  refine g_istore_n (i := 3) (lv' := [(3, .int r7), (2, .int r4), (0, .ref (g.1 0)), (1, .int a1)]) C dX3_wouldChange_18 rfl rfl (by decide) rfl ?_
  refine g_aload_n C dX3_wouldChange_19 2 rfl ?_
  refine g_iload_n C dX3_wouldChange_20 3 rfl ?_
  refine bd_n hf (fun r10 s11 h12 hf => ?_)
  refine g_callV0 (As := [.int a1]) (rest := []) (stk := []) C (w_tw_exchanges h12) hX oT0 rfl rfl q1372 q1374 qs80 q91 q1375 mdX3_exchanges rfl ⟨Nat.le_of_ble_eq_true rfl, Nat.le_of_ble_eq_true rfl⟩ (Nat.le_of_ble_eq_true rfl) dX3_wouldChange_21 rfl ?_
  refine g_aload_n C dX3_wouldChange_24 2 rfl ?_
  refine bd_n hf (fun r13 s14 h15 hf => ?_)
  refine g_callV0 (As := []) (rest := []) (stk := [.int r13]) C (w_tw_bakes h15) hX oT0 rfl rfl q1344 q1346 qs74 q91 q1347 mdX3_bakes rfl ⟨Nat.le_of_ble_eq_true rfl, Nat.le_of_ble_eq_true rfl⟩ (Nat.le_of_ble_eq_true rfl) dX3_wouldChange_25 rfl ?_
  refine g_pop C dX3_wouldChange_28 rfl ?_
  refine g_aload_n C dX3_wouldChange_29 2 rfl ?_
  refine g_iload_n C dX3_wouldChange_30 3 rfl ?_
  refine g_iconst C dX3_wouldChange_31 kc_1 ?_
  refine g_iadd C dX3_wouldChange_32 ?_
  refine bd_n hf (fun r16 s17 h18 hf => ?_)
  refine g_callV0 (As := [.int (a1 + (1 : Int32))]) (rest := []) (stk := [.int r16]) C (w_tw_gainAt h18) hX oT0 rfl rfl q1348 q1350 qs75 q91 q1351 mdX3_gainAt rfl ⟨Nat.le_of_ble_eq_true rfl, Nat.le_of_ble_eq_true rfl⟩ (Nat.le_of_ble_eq_true rfl) dX3_wouldChange_33 rfl ?_
  refine g_iload_n C dX3_wouldChange_36 1 rfl ?_
  refine g_icmp_le 53 C dX3_wouldChange_37 rfl (fun c19 => ?_) (fun c19 => ?_)
  · replace hf := if_t c19 hf
    refine g_iconst C dX3_wouldChange_53 kc_0 ?_
    refine g_istore (i := 4) (lv' := [(4, .int (0 : Int32)), (3, .int r7), (2, .int r4), (0, .ref (g.1 0)), (1, .int a1)]) C dX3_wouldChange_54 rfl (by decide) rfl ?_
    refine g_aload_n C dX3_wouldChange_56 3 rfl ?_
    refine g_iload_n C dX3_wouldChange_57 4 rfl ?_
    refine bd_n hf (fun r20 s21 h22 hf => ?_)
    refine g_callV0 (As := [.int a1]) (rest := []) (stk := []) C (w_tw_exchanges h22) hX oT0 rfl rfl q1372 q1374 qs80 q91 q1375 mdX3_exchanges rfl ⟨Nat.le_of_ble_eq_true rfl, Nat.le_of_ble_eq_true rfl⟩ (Nat.le_of_ble_eq_true rfl) dX3_wouldChange_58 rfl ?_
    refine g_iload C dX3_wouldChange_61 0 rfl ?_
    exact g_iret (v := bI false) C E (bI_nar _) (re_z hf) (re_s hf) ⟨Nat.zero_le _, Nat.zero_le _⟩ dX3_wouldChange_63
  · replace hf := if_f c19 hf
    refine g_aload_n C dX3_wouldChange_40 2 rfl ?_
    refine g_iload_n C dX3_wouldChange_41 3 rfl ?_
    refine bd_n hf (fun r23 s24 h25 hf => ?_)
    refine g_callV0 (As := [.int a1]) (rest := []) (stk := [.int r23]) C (w_tw_gainAt h25) hX oT0 rfl rfl q1348 q1350 qs75 q91 q1351 mdX3_gainAt rfl ⟨Nat.le_of_ble_eq_true rfl, Nat.le_of_ble_eq_true rfl⟩ (Nat.le_of_ble_eq_true rfl) dX3_wouldChange_42 rfl ?_
    refine g_iload_n C dX3_wouldChange_45 0 rfl ?_
    refine g_icmp_le 53 C dX3_wouldChange_46 rfl (fun c26 => ?_) (fun c26 => ?_)
    · replace hf := if_t c26 hf
      refine g_iconst C dX3_wouldChange_53 kc_0 ?_
      refine g_istore (i := 4) (lv' := [(4, .int (0 : Int32)), (3, .int r7), (2, .int r4), (0, .ref (g.1 0)), (1, .int a1)]) C dX3_wouldChange_54 rfl (by decide) rfl ?_
      refine g_aload_n C dX3_wouldChange_56 3 rfl ?_
      refine g_iload_n C dX3_wouldChange_57 4 rfl ?_
      refine bd_n hf (fun r27 s28 h29 hf => ?_)
      refine g_callV0 (As := [.int a1]) (rest := []) (stk := []) C (w_tw_exchanges h29) hX oT0 rfl rfl q1372 q1374 qs80 q91 q1375 mdX3_exchanges rfl ⟨Nat.le_of_ble_eq_true rfl, Nat.le_of_ble_eq_true rfl⟩ (Nat.le_of_ble_eq_true rfl) dX3_wouldChange_58 rfl ?_
      refine g_iload C dX3_wouldChange_61 0 rfl ?_
      exact g_iret (v := bI false) C E (bI_nar _) (re_z hf) (re_s hf) ⟨Nat.zero_le _, Nat.zero_le _⟩ dX3_wouldChange_63
    · replace hf := if_f c26 hf
      refine g_iconst C dX3_wouldChange_49 kc_1 ?_
      refine g_goto 54 C dX3_wouldChange_50 rfl ?_
      refine g_istore (i := 4) (lv' := [(4, .int (1 : Int32)), (3, .int r7), (2, .int r4), (0, .ref (g.1 0)), (1, .int a1)]) C dX3_wouldChange_54 rfl (by decide) rfl ?_
      refine g_aload_n C dX3_wouldChange_56 3 rfl ?_
      refine g_iload_n C dX3_wouldChange_57 4 rfl ?_
      refine bd_n hf (fun r30 s31 h32 hf => ?_)
      refine g_callV0 (As := [.int a1]) (rest := []) (stk := []) C (w_tw_exchanges h32) hX oT0 rfl rfl q1372 q1374 qs80 q91 q1375 mdX3_exchanges rfl ⟨Nat.le_of_ble_eq_true rfl, Nat.le_of_ble_eq_true rfl⟩ (Nat.le_of_ble_eq_true rfl) dX3_wouldChange_58 rfl ?_
      refine g_iload C dX3_wouldChange_61 0 rfl ?_
      exact g_iret (v := bI true) C E (bI_nar _) (re_z hf) (re_s hf) ⟨Nat.zero_le _, Nat.zero_le _⟩ dX3_wouldChange_63
def tw_firstChange_L2 (n : Nat) : Nat → Sto → Int32 → Option (Int32 × Sto)
  | 0, _, _ => none
  | k + 1, s1, v2 =>
    gd (inb (4 : Int32) 1480) <|
    if (rd s1 1 (4 : Int32)) ≤ (v2 + (1 : Int32)) then
      some ((-1 : Int32), s1)
    else
      bd (tw_wouldChange n s1 v2) fun r5 s6 =>
      if r5 = true then
        some (v2, s6)
      else
        tw_firstChange_L2 n k s6 (v2 + (1 : Int32))
def tw_firstChange (n : Nat) (s : Sto) : Option (Int32 × Sto) :=
  tw_firstChange_L2 n
      n s (0 : Int32)
theorem w_tw_firstChange_L2  {l : Launch} {n : Nat} {g : Gam} {A : Nat → Prop} {X : FX} {si sF : Sto} {rF : Int32} (C : CX tCfg g A 2 X cX3_firstChange RX3 (some .int) 6 123) (E : EX tCfg g A X si sF (some (.int rF)) 0 0) (hX : X.2.1 = l) : ∀ (k : Nat) (s1 : Sto) (v2 : Int32), tw_firstChange_L2 n k s1 v2 = some (rF, sF) → TG tCfg g A 2 X 0 0 s1 2 [(0, .ref (g.1 0)), (1, .int v2)] [] := by
  intro k
  induction k with
  | zero => intro s1 v2 hf; rw [tw_firstChange_L2] at hf; cases hf
  | succ k ih =>
    intro s1 v2 hf
    rw [tw_firstChange_L2] at hf
    refine g_iload_n C dX3_firstChange_2 1 rfl ?_
    refine g_iconst C dX3_firstChange_3 kc_1 ?_
    refine g_iadd C dX3_firstChange_4 ?_
    refine g_aload_n C dX3_firstChange_5 0 rfl ?_
    refine g_getS 1 C oT0 fX3_7 rfl dX3_firstChange_6 ?_
    refine g_iconst C dX3_firstChange_9 kc_4 ?_
    refine gd_n hf (fun c3 hf => ?_)
    refine g_iald C aT1 rfl c3 dX3_firstChange_10 ?_
    refine g_icmp_ge 30 C dX3_firstChange_11 rfl (fun c4 => ?_) (fun c4 => ?_)
    · replace hf := if_t c4 hf
      refine g_iconst C dX3_firstChange_30 kc_m1 ?_
      exact g_iret C E rfl (re_i hf) (re_s hf) ⟨Nat.zero_le _, Nat.zero_le _⟩ dX3_firstChange_31
    · replace hf := if_f c4 hf
      refine g_aload_n C dX3_firstChange_14 0 rfl ?_
      refine g_iload_n C dX3_firstChange_15 1 rfl ?_
      refine bd_n hf (fun r5 s6 h7 hf => ?_)
      refine g_callV0 (As := [.int v2]) (rest := []) (stk := [.int (bI r5)]) C (w_tw_wouldChange h7) hX oT0 rfl rfl q1368 q1370 qs79 q91 q1371 mdX3_wouldChange rfl ⟨Nat.le_of_ble_eq_true rfl, Nat.le_of_ble_eq_true rfl⟩ (Nat.le_of_ble_eq_true rfl) dX3_firstChange_16 rfl ?_
      refine g_ifZ_eq 24 C dX3_firstChange_19 rfl (fun c8 => ?_) (fun c8 => ?_)
      · replace hf := if_t c8 hf
        refine g_iload_n C dX3_firstChange_22 1 rfl ?_
        exact g_iret C E rfl (re_i hf) (re_s hf) ⟨Nat.zero_le _, Nat.zero_le _⟩ dX3_firstChange_23
      · replace hf := if_f c8 hf
        refine g_iinc (q := 1) (lv' := [(1, .int (v2 + (1 : Int32))), (0, .ref (g.1 0))]) C dX3_firstChange_24 rfl kc_1 (by decide) rfl ?_
        refine g_goto 2 C dX3_firstChange_27 rfl ?_
        exact g_sub [1, 0] rfl (ih _ _ hf)
theorem w_tw_firstChange {l : Launch} {n : Nat} {s sF : Sto} {rF : Int32} (hf : tw_firstChange n s  = some (rF, sF)) : Ct tCfg l yX3_firstChange cX3_firstChange 2 (some .int) { frames := 6, cells := 0, slots := 0, locals := 123 } (fun g => [.ref (g.1 0)]) s sF (fun _ => some (.int rF)) := by
  refine Ct_of pn_X3 (fun g => Nat.le_of_ble_eq_true rfl) (fun g A X C E hX => ?_)
  rw [tw_firstChange] at hf
  show TG tCfg g A 2 X 0 0 s 0 [(0, .ref (g.1 0))] []
  refine g_iconst C dX3_firstChange_0 kc_0 ?_
  refine g_istore_n (i := 1) (lv' := [(1, .int (0 : Int32)), (0, .ref (g.1 0))]) C dX3_firstChange_1 rfl rfl (by decide) rfl ?_
  refine g_sub [1, 0] rfl (w_tw_firstChange_L2 C E hX _ _ _ hf)
def tw_goesThrough_L71 (n : Nat) (v8 : Int32) (v9 : Int32) (k12 : Sto → Option (Unit × Sto)) : Nat → Sto → Int32 → Option (Unit × Sto)
  | 0, _, _ => none
  | k + 1, s7, v10 =>
    if v8 ≤ v10 then
      k12 s7
    else
      vl (fun (_ : Unit) =>
        gd (inb v10 9) <|
        vl (wr s7 14 v10 (rd s7 11 v10)) fun s16 =>
        tw_goesThrough_L71 n v8 v9 k12 k s16 (v10 + (1 : Int32))) fun j14 =>
      if (s7.1 0 30) = (-1 : Int32) then
        j14 ()
      else
        if (s7.1 0 30) ≤ v9 then
          k12 s7
        else
          j14 ()
def tw_goesThrough_L156 (n : Nat) (v27 : Int32) : Nat → Sto → Int32 → Option (Unit × Sto)
  | 0, _, _ => none
  | k + 1, s26, v28 =>
    if v27 ≤ v28 then
      vl (sI s26 0 29 ((s26.1 0 29) + (1 : Int32))) fun s30 =>
      some ((), s30)
    else
      if (s26.1 0 29) = 0 then
        gd (inb v28 9) <|
        vl (wr s26 13 v28 (rd s26 11 v28)) fun s33 =>
        tw_goesThrough_L156 n v27 k s33 (v28 + (1 : Int32))
      else
        vl (sI s26 0 29 ((s26.1 0 29) + (1 : Int32))) fun s34 =>
        some ((), s34)
def tw_goesThrough_L15 (n : Nat) (rc : Sto → Int32 → Int32 → Option (Unit × Sto)) (v39 : Int32) (v40 : Int32) (v41 : Int32) : Nat → Sto → Int32 → Option (Unit × Sto)
  | 0, _, _ => none
  | k + 1, s38, v42 =>
    if v41 ≤ v42 then
      some ((), s38)
    else
      vl (fun (s44 : Sto) =>
        tw_goesThrough_L15 n rc v39 v40 v41 k s44 (v42 + (1 : Int32))) fun j45 =>
      if ((ishr v40 v42) &&& (1 : Int32)) = (1 : Int32) then
        j45 s38
      else
        gd (inb v39 9) <|
        vl (wr s38 11 v39 v42) fun s48 =>
        bd (rc s48 (v39 + (1 : Int32)) (v40 ||| (ishl (1 : Int32) v42))) fun r49 s50 =>
        j45 s50
def tw_goesThrough (n : Nat) : Nat → Sto → Int32 → Int32 → Option (Unit × Sto)
  | 0, _, _, _ => none
  | d + 1, s, a1, a2 =>
    gd (inb (4 : Int32) 1480) <|
    vl (rd s 1 (4 : Int32)) fun v2 =>
    if v2 ≤ a1 then
      bd (tw_bakes n s) fun r4 s5 =>
      tw_goesThrough_L71 n v2 r4
          (fun (s11 : Sto) =>
            vl (fun (t19 : Int32) =>
              vl (sI s11 0 30 t19) fun s21 =>
              bd (tw_firstChange n s21) fun r22 s23 =>
              if r22 = (-1 : Int32) then
                tw_goesThrough_L156 n v2
                    n s23 (0 : Int32)
              else
                some ((), s23)) fun j20 =>
            vl (fun (_ : Unit) =>
              j20 r4) fun j35 =>
            if (s11.1 0 30) = (-1 : Int32) then
              j35 ()
            else
              if (s11.1 0 30) ≤ r4 then
                j20 (s11.1 0 30)
              else
                j35 ())
          n s5 (0 : Int32)
    else
      tw_goesThrough_L15 n (tw_goesThrough n d) a1 a2 v2
          n s (0 : Int32)
theorem w_tw_goesThrough_L71  {l : Launch} {n : Nat} {d : Nat} {v8 : Int32} {v9 : Int32} {k12 : Sto → Option (Unit × Sto)} {g : Gam} {A : Nat → Prop} {X : FX} {si sF : Sto} {rF : Unit} (C : CX tCfg g A 6 X cX3_goesThrough RX3 none (4 * (d + 1) + 20) (60 * (d + 1) + 400)) (E : EX tCfg g A X si sF none 0 0) (hX : X.2.1 = l) (Hk12 : ∀ (s11 : Sto), k12 s11 = some (rF, sF) → TG tCfg g A 6 X 0 0 s11 114 [(0, .ref (g.1 0)), (3, .int v8), (4, .int v9)] []) : ∀ (k : Nat) (s7 : Sto) (v10 : Int32), tw_goesThrough_L71 n v8 v9 k12 k s7 v10 = some (rF, sF) → TG tCfg g A 6 X 0 0 s7 71 [(0, .ref (g.1 0)), (3, .int v8), (4, .int v9), (5, .int v10)] [] := by
  intro k
  induction k with
  | zero => intro s7 v10 hf; rw [tw_goesThrough_L71] at hf; cases hf
  | succ k ih =>
    intro s7 v10 hf
    rw [tw_goesThrough_L71] at hf
    refine g_iload C dX3_goesThrough_71 3 rfl ?_
    refine g_iload_n C dX3_goesThrough_73 1 rfl ?_
    refine g_icmp_ge 114 C dX3_goesThrough_74 rfl (fun c13 => ?_) (fun c13 => ?_)
    · replace hf := if_t c13 hf
      exact g_sub [0, 1, 2] rfl (Hk12 _ hf)
    · replace hf := if_f c13 hf
      refine g_aload_n C dX3_goesThrough_77 0 rfl ?_
      refine g_getI C oT0 fX3_276 dX3_goesThrough_78 ?_
      refine g_iconst C dX3_goesThrough_81 kc_m1 ?_
      refine vl_n hf (fun j14 hj14 hf => ?_)
      have Hj14 : ∀ (u : Unit), j14 u = some (rF, sF) → TG tCfg g A 6 X 0 0 s7 94 [(0, .ref (g.1 0)), (3, .int v8), (4, .int v9), (5, .int v10)] [] := by
        clear hf; subst hj14
        intro u hf
        refine g_aload_n C dX3_goesThrough_94 0 rfl ?_
        refine g_getS 14 C oT0 fX3_53 rfl dX3_goesThrough_95 ?_
        refine g_iload C dX3_goesThrough_98 3 rfl ?_
        refine g_aload_n C dX3_goesThrough_100 0 rfl ?_
        refine g_getS 11 C oT0 fX3_44 rfl dX3_goesThrough_101 ?_
        refine g_iload C dX3_goesThrough_104 3 rfl ?_
        refine gd_n hf (fun c15 hf => ?_)
        refine g_iald C aT11 rfl c15 dX3_goesThrough_106 ?_
        refine vl_n hf (fun s16 hs16 hf => ?_)
        refine g_iast C aT14 rfl c15 hs16 dX3_goesThrough_107 ?_
        refine g_iinc (q := 3) (lv' := [(5, .int (v10 + (1 : Int32))), (0, .ref (g.1 0)), (3, .int v8), (4, .int v9)]) C dX3_goesThrough_108 rfl kc_1 (by decide) rfl ?_
        refine g_goto 71 C dX3_goesThrough_111 rfl ?_
        exact g_sub [1, 2, 3, 0] rfl (ih _ _ hf)
      clear hj14
      refine g_icmp_eq 94 C dX3_goesThrough_82 rfl (fun c17 => ?_) (fun c17 => ?_)
      · replace hf := if_t c17 hf
        exact g_sub [0, 1, 2, 3] rfl (Hj14 _ hf)
      · replace hf := if_f c17 hf
        refine g_iload C dX3_goesThrough_85 2 rfl ?_
        refine g_aload_n C dX3_goesThrough_87 0 rfl ?_
        refine g_getI C oT0 fX3_276 dX3_goesThrough_88 ?_
        refine g_icmp_ge 114 C dX3_goesThrough_91 rfl (fun c18 => ?_) (fun c18 => ?_)
        · replace hf := if_t c18 hf
          exact g_sub [0, 1, 2] rfl (Hk12 _ hf)
        · replace hf := if_f c18 hf
          exact g_sub [0, 1, 2, 3] rfl (Hj14 _ hf)
theorem w_tw_goesThrough_L156  {l : Launch} {n : Nat} {d : Nat} {v27 : Int32} {g : Gam} {A : Nat → Prop} {X : FX} {si sF : Sto} {rF : Unit} (C : CX tCfg g A 6 X cX3_goesThrough RX3 none (4 * (d + 1) + 20) (60 * (d + 1) + 400)) (E : EX tCfg g A X si sF none 0 0) (hX : X.2.1 = l) : ∀ (k : Nat) (s26 : Sto) (v28 : Int32), tw_goesThrough_L156 n v27 k s26 v28 = some (rF, sF) → TG tCfg g A 6 X 0 0 s26 156 [(0, .ref (g.1 0)), (3, .int v27), (5, .int v28)] [] := by
  intro k
  induction k with
  | zero => intro s26 v28 hf; rw [tw_goesThrough_L156] at hf; cases hf
  | succ k ih =>
    intro s26 v28 hf
    rw [tw_goesThrough_L156] at hf
    refine g_iload C dX3_goesThrough_156 2 rfl ?_
    refine g_iload_n C dX3_goesThrough_158 1 rfl ?_
    refine g_icmp_ge 189 C dX3_goesThrough_159 rfl (fun c29 => ?_) (fun c29 => ?_)
    · replace hf := if_t c29 hf
      refine g_aload_n C dX3_goesThrough_189 0 rfl ?_
      refine g_dup C dX3_goesThrough_190 rfl ?_
      refine g_getI C oT0 fX3_282 dX3_goesThrough_191 ?_
      refine g_iconst C dX3_goesThrough_194 kc_1 ?_
      refine g_iadd C dX3_goesThrough_195 ?_
      refine vl_n hf (fun s30 hs30 hf => ?_)
      refine g_putI C oT0 pX3_282 rfl rfl hs30 dX3_goesThrough_196 ?_
      exact g_vret C E rfl (re_s hf) ⟨Nat.zero_le _, Nat.zero_le _⟩ dX3_goesThrough_199
    · replace hf := if_f c29 hf
      refine g_aload_n C dX3_goesThrough_162 0 rfl ?_
      refine g_getI C oT0 fX3_282 dX3_goesThrough_163 ?_
      refine g_if_ne 189 C dX3_goesThrough_166 rfl (fun c31 => ?_) (fun c31 => ?_)
      · replace hf := if_t c31 hf
        refine g_aload_n C dX3_goesThrough_169 0 rfl ?_
        refine g_getS 13 C oT0 fX3_50 rfl dX3_goesThrough_170 ?_
        refine g_iload C dX3_goesThrough_173 2 rfl ?_
        refine g_aload_n C dX3_goesThrough_175 0 rfl ?_
        refine g_getS 11 C oT0 fX3_44 rfl dX3_goesThrough_176 ?_
        refine g_iload C dX3_goesThrough_179 2 rfl ?_
        refine gd_n hf (fun c32 hf => ?_)
        refine g_iald C aT11 rfl c32 dX3_goesThrough_181 ?_
        refine vl_n hf (fun s33 hs33 hf => ?_)
        refine g_iast C aT13 rfl c32 hs33 dX3_goesThrough_182 ?_
        refine g_iinc (q := 2) (lv' := [(5, .int (v28 + (1 : Int32))), (0, .ref (g.1 0)), (3, .int v27)]) C dX3_goesThrough_183 rfl kc_1 (by decide) rfl ?_
        refine g_goto 156 C dX3_goesThrough_186 rfl ?_
        exact g_sub [1, 2, 0] rfl (ih _ _ hf)
      · replace hf := if_f c31 hf
        refine g_aload_n C dX3_goesThrough_189 0 rfl ?_
        refine g_dup C dX3_goesThrough_190 rfl ?_
        refine g_getI C oT0 fX3_282 dX3_goesThrough_191 ?_
        refine g_iconst C dX3_goesThrough_194 kc_1 ?_
        refine g_iadd C dX3_goesThrough_195 ?_
        refine vl_n hf (fun s34 hs34 hf => ?_)
        refine g_putI C oT0 pX3_282 rfl rfl hs34 dX3_goesThrough_196 ?_
        exact g_vret C E rfl (re_s hf) ⟨Nat.zero_le _, Nat.zero_le _⟩ dX3_goesThrough_199
theorem w_tw_goesThrough_L15  {l : Launch} {n : Nat} {d : Nat} {rc : Sto → Int32 → Int32 → Option (Unit × Sto)} {v39 : Int32} {v40 : Int32} {v41 : Int32} {g : Gam} {A : Nat → Prop} {X : FX} {si sF : Sto} {rF : Unit} (C : CX tCfg g A 6 X cX3_goesThrough RX3 none (4 * (d + 1) + 20) (60 * (d + 1) + 400)) (E : EX tCfg g A X si sF none 0 0) (hX : X.2.1 = l) (hrc : ∀ (s sF : Sto) (a1 a2 : Int32) (rF : Unit), rc s a1 a2 = some (rF, sF) → Ct tCfg l yX3_goesThrough cX3_goesThrough 6 none { frames := 4 * d + 20, cells := 0, slots := 0, locals := 60 * d + 400 } (fun g => [.ref (g.1 0), .int a1, .int a2]) s sF (fun _ => none)) : ∀ (k : Nat) (s38 : Sto) (v42 : Int32), tw_goesThrough_L15 n rc v39 v40 v41 k s38 v42 = some (rF, sF) → TG tCfg g A 6 X 0 0 s38 15 [(0, .ref (g.1 0)), (1, .int v39), (2, .int v40), (3, .int v41), (4, .int v42)] [] := by
  intro k
  induction k with
  | zero => intro s38 v42 hf; rw [tw_goesThrough_L15] at hf; cases hf
  | succ k ih =>
    intro s38 v42 hf
    rw [tw_goesThrough_L15] at hf
    refine g_iload C dX3_goesThrough_15 4 rfl ?_
    refine g_iload_n C dX3_goesThrough_17 3 rfl ?_
    refine g_icmp_ge 61 C dX3_goesThrough_18 rfl (fun c43 => ?_) (fun c43 => ?_)
    · replace hf := if_t c43 hf
      exact g_vret C E rfl (re_s hf) ⟨Nat.zero_le _, Nat.zero_le _⟩ dX3_goesThrough_61
    · replace hf := if_f c43 hf
      refine g_iload_n C dX3_goesThrough_21 2 rfl ?_
      refine g_iload C dX3_goesThrough_22 4 rfl ?_
      refine g_ishr C dX3_goesThrough_24 ?_
      refine g_iconst C dX3_goesThrough_25 kc_1 ?_
      refine g_iand C dX3_goesThrough_26 ?_
      refine g_iconst C dX3_goesThrough_27 kc_1 ?_
      refine vl_n hf (fun j45 hj45 hf => ?_)
      have Hj45 : ∀ (s44 : Sto), j45 s44 = some (rF, sF) → TG tCfg g A 6 X 0 0 s44 55 [(0, .ref (g.1 0)), (1, .int v39), (2, .int v40), (3, .int v41), (4, .int v42)] [] := by
        clear hf; subst hj45
        intro s44 hf
        refine g_iinc (q := 4) (lv' := [(4, .int (v42 + (1 : Int32))), (0, .ref (g.1 0)), (1, .int v39), (2, .int v40), (3, .int v41)]) C dX3_goesThrough_55 rfl kc_1 (by decide) rfl ?_
        refine g_goto 15 C dX3_goesThrough_58 rfl ?_
        exact g_sub [1, 2, 3, 4, 0] rfl (ih _ _ hf)
      clear hj45
      refine g_icmp_ne 34 C dX3_goesThrough_28 rfl (fun c46 => ?_) (fun c46 => ?_)
      · replace hf := if_t c46 hf
        refine g_goto 55 C dX3_goesThrough_31 rfl ?_
        exact g_sub [0, 1, 2, 3, 4] rfl (Hj45 _ hf)
      · replace hf := if_f c46 hf
        refine g_aload_n C dX3_goesThrough_34 0 rfl ?_
        refine g_getS 11 C oT0 fX3_44 rfl dX3_goesThrough_35 ?_
        refine g_iload_n C dX3_goesThrough_38 1 rfl ?_
        refine g_iload C dX3_goesThrough_39 4 rfl ?_
        refine gd_n hf (fun c47 hf => ?_)
        refine vl_n hf (fun s48 hs48 hf => ?_)
        refine g_iast C aT11 rfl c47 hs48 dX3_goesThrough_41 ?_
        refine g_aload_n C dX3_goesThrough_42 0 rfl ?_
        refine g_iload_n C dX3_goesThrough_43 1 rfl ?_
        refine g_iconst C dX3_goesThrough_44 kc_1 ?_
        refine g_iadd C dX3_goesThrough_45 ?_
        refine g_iload_n C dX3_goesThrough_46 2 rfl ?_
        refine g_iconst C dX3_goesThrough_47 kc_1 ?_
        refine g_iload C dX3_goesThrough_48 4 rfl ?_
        refine g_ishl C dX3_goesThrough_50 ?_
        refine g_ior C dX3_goesThrough_51 ?_
        refine bd_n hf (fun r49 s50 h51 hf => ?_)
        refine g_callV0 (As := [.int (v39 + (1 : Int32)), .int (v40 ||| (ishl (1 : Int32) v42))]) (rest := []) (stk := []) C (hrc _ _ _ _ _ h51) hX oT0 rfl rfl q1360 q1362 qs77 q91 q1363 mdX3_goesThrough rfl ⟨by (try simp only []); omega, by (try simp only []); omega⟩ (Nat.le_of_ble_eq_true rfl) dX3_goesThrough_52 rfl ?_
        exact g_sub [0, 1, 2, 3, 4] rfl (Hj45 _ hf)
theorem w_tw_goesThrough {l : Launch} {n : Nat} : ∀ (d : Nat) (s sF : Sto) (a1 : Int32) (a2 : Int32) (rF : Unit), tw_goesThrough n d s a1 a2 = some (rF, sF) → Ct tCfg l yX3_goesThrough cX3_goesThrough 6 none { frames := 4 * d + 20, cells := 0, slots := 0, locals := 60 * d + 400 } (fun g => [.ref (g.1 0), .int a1, .int a2]) s sF (fun _ => none) := by
  intro d
  induction d with
  | zero => intro s sF a1 a2 rF hf; rw [tw_goesThrough] at hf; cases hf
  | succ d ih =>
    intro s sF a1 a2 rF hf
    refine Ct_of pn_X3 (fun g => Nat.le_of_ble_eq_true rfl) (fun g A X C E hX => ?_)
    rw [tw_goesThrough] at hf
    show TG tCfg g A 6 X 0 0 s 0 [(0, .ref (g.1 0)), (1, .int a1), (2, .int a2)] []
    refine g_aload_n C dX3_goesThrough_0 0 rfl ?_
    refine g_getS 1 C oT0 fX3_7 rfl dX3_goesThrough_1 ?_
    refine g_iconst C dX3_goesThrough_4 kc_4 ?_
    refine gd_n hf (fun c1 hf => ?_)
    refine g_iald C aT1 rfl c1 dX3_goesThrough_5 ?_
    refine vl_n hf (fun v2 hv2 hf => ?_)
    refine g_istore_n (i := 3) (lv' := [(3, .int v2), (0, .ref (g.1 0)), (1, .int a1), (2, .int a2)]) C dX3_goesThrough_6 rfl hv2 (by decide) rfl ?_
    refine g_iload_n C dX3_goesThrough_7 2 rfl ?_
    refine g_iload_n C dX3_goesThrough_8 0 rfl ?_
    refine g_icmp_ge 62 C dX3_goesThrough_9 rfl (fun c3 => ?_) (fun c3 => ?_)
    · replace hf := if_t c3 hf
      refine g_aload_n C dX3_goesThrough_62 1 rfl ?_
      refine bd_n hf (fun r4 s5 h6 hf => ?_)
      refine g_callV0 (As := []) (rest := []) (stk := [.int r4]) C (w_tw_bakes h6) hX oT0 rfl rfl q1344 q1346 qs74 q91 q1347 mdX3_bakes rfl ⟨by (try simp only []); omega, by (try simp only []); omega⟩ (Nat.le_of_ble_eq_true rfl) dX3_goesThrough_63 rfl ?_
      refine g_istore (i := 4) (lv' := [(4, .int r4), (3, .int v2), (0, .ref (g.1 0)), (1, .int a1), (2, .int a2)]) C dX3_goesThrough_66 rfl (by decide) rfl ?_
      refine g_iconst C dX3_goesThrough_68 kc_0 ?_
      refine g_istore (i := 5) (lv' := [(5, .int (0 : Int32)), (4, .int r4), (3, .int v2), (0, .ref (g.1 0)), (1, .int a1), (2, .int a2)]) C dX3_goesThrough_69 rfl (by decide) rfl ?_
      refine g_sub [3, 2, 1, 0] rfl (w_tw_goesThrough_L71 C E hX (fun s11 hf => ?_) _ _ _ hf)
      refine g_aload_n C dX3_goesThrough_114 0 rfl ?_
      refine g_aload_n C dX3_goesThrough_115 0 rfl ?_
      refine g_getI C oT0 fX3_276 dX3_goesThrough_116 ?_
      refine g_iconst C dX3_goesThrough_119 kc_m1 ?_
      refine vl_n hf (fun j20 hj20 hf => ?_)
      have Hj20 : ∀ (t19 : Int32), j20 t19 = some (rF, sF) → TG tCfg g A 6 X 0 0 s11 141 [(0, .ref (g.1 0)), (3, .int v2)] [.int t19, .ref (g.1 0)] := by
        clear hf; subst hj20
        intro t19 hf
        refine vl_n hf (fun s21 hs21 hf => ?_)
        refine g_putI C oT0 pX3_276 rfl rfl hs21 dX3_goesThrough_141 ?_
        refine g_aload_n C dX3_goesThrough_144 0 rfl ?_
        refine bd_n hf (fun r22 s23 h24 hf => ?_)
        refine g_callV0 (As := []) (rest := []) (stk := [.int r22]) C (w_tw_firstChange h24) hX oT0 rfl rfl q1364 q1366 qs78 q91 q1367 mdX3_firstChange rfl ⟨by (try simp only []); omega, by (try simp only []); omega⟩ (Nat.le_of_ble_eq_true rfl) dX3_goesThrough_145 rfl ?_
        refine g_iconst C dX3_goesThrough_148 kc_m1 ?_
        refine g_icmp_eq 153 C dX3_goesThrough_149 rfl (fun c25 => ?_) (fun c25 => ?_)
        · replace hf := if_t c25 hf
          refine g_iconst C dX3_goesThrough_153 kc_0 ?_
          refine g_istore (i := 5) (lv' := [(5, .int (0 : Int32)), (0, .ref (g.1 0)), (3, .int v2)]) C dX3_goesThrough_154 rfl (by decide) rfl ?_
          refine g_sub [1, 2, 0] rfl (w_tw_goesThrough_L156 C E hX _ _ _ hf)
        · replace hf := if_f c25 hf
          exact g_vret C E rfl (re_s hf) ⟨Nat.zero_le _, Nat.zero_le _⟩ dX3_goesThrough_152
      clear hj20
      refine vl_n hf (fun j35 hj35 hf => ?_)
      have Hj35 : ∀ (u : Unit), j35 u = some (rF, sF) → TG tCfg g A 6 X 0 0 s11 132 [(0, .ref (g.1 0)), (3, .int v2), (4, .int r4)] [.ref (g.1 0)] := by
        clear hf; subst hj35
        intro u hf
        refine g_iload C dX3_goesThrough_132 2 rfl ?_
        refine g_goto 141 C dX3_goesThrough_134 rfl ?_
        exact g_sub [0, 1] rfl (Hj20 _ hf)
      clear hj35
      refine g_icmp_eq 132 C dX3_goesThrough_120 rfl (fun c36 => ?_) (fun c36 => ?_)
      · replace hf := if_t c36 hf
        exact g_sub [0, 1, 2] rfl (Hj35 _ hf)
      · replace hf := if_f c36 hf
        refine g_iload C dX3_goesThrough_123 2 rfl ?_
        refine g_aload_n C dX3_goesThrough_125 0 rfl ?_
        refine g_getI C oT0 fX3_276 dX3_goesThrough_126 ?_
        refine g_icmp_ge 137 C dX3_goesThrough_129 rfl (fun c37 => ?_) (fun c37 => ?_)
        · replace hf := if_t c37 hf
          refine g_aload_n C dX3_goesThrough_137 0 rfl ?_
          refine g_getI C oT0 fX3_276 dX3_goesThrough_138 ?_
          exact g_sub [0, 1] rfl (Hj20 _ hf)
        · replace hf := if_f c37 hf
          exact g_sub [0, 1, 2] rfl (Hj35 _ hf)
    · replace hf := if_f c3 hf
      refine g_iconst C dX3_goesThrough_12 kc_0 ?_
      refine g_istore (i := 4) (lv' := [(4, .int (0 : Int32)), (3, .int v2), (0, .ref (g.1 0)), (1, .int a1), (2, .int a2)]) C dX3_goesThrough_13 rfl (by decide) rfl ?_
      refine g_sub [2, 3, 4, 1, 0] rfl (w_tw_goesThrough_L15 C E hX ih _ _ _ hf)
def tw_isTold (n : Nat) (s : Sto) (a1 : Int32) : Option (Bool × Sto) :=
  gd (inb (4 : Int32) 1480) <|
  if (7 : Int32) < (rd s 1 (4 : Int32)) then
    some (false, s)
  else
    vl (fun (s3 : Sto) =>
      vl (sI s3 0 29 (0 : Int32)) fun s5 =>
      vl (sI s5 0 30 (-1 : Int32)) fun s6 =>
      bd (tw_goesThrough n 10 s6 (0 : Int32) (0 : Int32)) fun r7 s8 =>
      some (true, s8)) fun j4 =>
    if a1 = 0 then
      j4 s
    else
      bd (tw_isIn n s a1 (10 : Int32) ((9 : Int32) + (rd s 1 (4 : Int32)))) fun r11 s12 =>
      if r11 = true then
        j4 s12
      else
        some (false, s12)
theorem w_tw_isTold {l : Launch} {n : Nat} {s sF : Sto} {a1 : Int32} {rF : Bool} (hf : tw_isTold n s a1 = some (rF, sF)) : Ct tCfg l yX3_isTold cX3_isTold 2 (some .boolean) { frames := 61, cells := 0, slots := 0, locals := 1025 } (fun g => [.ref (g.1 0), .int a1]) s sF (fun _ => some (.int (bI rF))) := by
  refine Ct_of pn_X3 (fun g => Nat.le_of_ble_eq_true rfl) (fun g A X C E hX => ?_)
  rw [tw_isTold] at hf
  show TG tCfg g A 2 X 0 0 s 0 [(0, .ref (g.1 0)), (1, .int a1)] []
  refine g_aload_n C dX3_isTold_0 0 rfl ?_
  refine g_getS 1 C oT0 fX3_7 rfl dX3_isTold_1 ?_
  refine g_iconst C dX3_isTold_4 kc_4 ?_
  refine gd_n hf (fun c1 hf => ?_)
  refine g_iald C aT1 rfl c1 dX3_isTold_5 ?_
  refine g_bipush C dX3_isTold_6 kb_7 ?_
  refine g_icmp_gt 33 C dX3_isTold_8 rfl (fun c2 => ?_) (fun c2 => ?_)
  · replace hf := if_t c2 hf
    refine g_iconst C dX3_isTold_33 kc_0 ?_
    exact g_iret (v := bI false) C E (bI_nar _) (re_z hf) (re_s hf) ⟨Nat.zero_le _, Nat.zero_le _⟩ dX3_isTold_34
  · replace hf := if_f c2 hf
    refine g_iload_n C dX3_isTold_11 1 rfl ?_
    refine vl_n hf (fun j4 hj4 hf => ?_)
    have Hj4 : ∀ (s3 : Sto), j4 s3 = some (rF, sF) → TG tCfg g A 2 X 0 0 s3 35 [(0, .ref (g.1 0))] [] := by
      clear hf; subst hj4
      intro s3 hf
      refine g_aload_n C dX3_isTold_35 0 rfl ?_
      refine g_iconst C dX3_isTold_36 kc_0 ?_
      refine vl_n hf (fun s5 hs5 hf => ?_)
      refine g_putI C oT0 pX3_282 rfl rfl hs5 dX3_isTold_37 ?_
      refine g_aload_n C dX3_isTold_40 0 rfl ?_
      refine g_iconst C dX3_isTold_41 kc_m1 ?_
      refine vl_n hf (fun s6 hs6 hf => ?_)
      refine g_putI C oT0 pX3_276 rfl rfl hs6 dX3_isTold_42 ?_
      refine g_aload_n C dX3_isTold_45 0 rfl ?_
      refine g_iconst C dX3_isTold_46 kc_0 ?_
      refine g_iconst C dX3_isTold_47 kc_0 ?_
      refine bd_n hf (fun r7 s8 h9 hf => ?_)
      refine g_callV0 (As := [.int (0 : Int32), .int (0 : Int32)]) (rest := []) (stk := []) C (w_tw_goesThrough 10 _ _ _ _ _ h9) hX oT0 rfl rfl q1360 q1362 qs77 q91 q1363 mdX3_goesThrough rfl ⟨Nat.le_of_ble_eq_true rfl, Nat.le_of_ble_eq_true rfl⟩ (Nat.le_of_ble_eq_true rfl) dX3_isTold_48 rfl ?_
      refine g_iconst C dX3_isTold_51 kc_1 ?_
      exact g_iret (v := bI true) C E (bI_nar _) (re_z hf) (re_s hf) ⟨Nat.zero_le _, Nat.zero_le _⟩ dX3_isTold_52
    clear hj4
    refine g_if_eq 35 C dX3_isTold_12 rfl (fun c10 => ?_) (fun c10 => ?_)
    · replace hf := if_t c10 hf
      exact g_sub [0] rfl (Hj4 _ hf)
    · replace hf := if_f c10 hf
      refine g_iload_n C dX3_isTold_15 1 rfl ?_
      refine g_bipush C dX3_isTold_16 kb_10 ?_
      refine g_bipush C dX3_isTold_18 kb_9 ?_
      refine g_aload_n C dX3_isTold_20 0 rfl ?_
      refine g_getS 1 C oT0 fX3_7 rfl dX3_isTold_21 ?_
      refine g_iconst C dX3_isTold_24 kc_4 ?_
      refine g_iald C aT1 rfl c1 dX3_isTold_25 ?_
      refine g_iadd C dX3_isTold_26 ?_
      refine bd_n hf (fun r11 s12 h13 hf => ?_)
      refine g_callS0 (As := [.int a1, .int (10 : Int32), .int ((9 : Int32) + (rd s 1 (4 : Int32)))]) (rest := []) (stk := [.int (bI r11)]) C (w_tw_isIn h13) hX rfl q1146 q1147 q91 q1148 msX3_isIn rfl ⟨Nat.le_of_ble_eq_true rfl, Nat.le_of_ble_eq_true rfl⟩ (Nat.le_of_ble_eq_true rfl) dX3_isTold_27 rfl ?_
      refine g_ifZ_ne 35 C dX3_isTold_30 rfl (fun c14 => ?_) (fun c14 => ?_)
      · replace hf := if_t c14 hf
        exact g_sub [0] rfl (Hj4 _ hf)
      · replace hf := if_f c14 hf
        refine g_iconst C dX3_isTold_33 kc_0 ?_
        exact g_iret (v := bI false) C E (bI_nar _) (re_z hf) (re_s hf) ⟨Nat.zero_le _, Nat.zero_le _⟩ dX3_isTold_34
def tw_orders (n : Nat) (s : Sto) (a1 : Int32) : Option (Int32 × Sto) :=
  bd (tw_isTold n s a1) fun r1 s2 =>
  if r1 = true then
    if a1 = 0 then
      some ((s2.1 0 29), s2)
    else
      if (s2.1 0 29) = 0 then
        some ((-1 : Int32), s2)
      else
        gd (inb (a1 - (10 : Int32)) 9) <|
        some ((rd s2 13 (a1 - (10 : Int32))), s2)
  else
    some ((-1 : Int32), s2)
theorem w_tw_orders {l : Launch} {n : Nat} {s sF : Sto} {a1 : Int32} {rF : Int32} (hf : tw_orders n s a1 = some (rF, sF)) : Ct tCfg l yX3_orders cX3_orders 2 (some .int) { frames := 62, cells := 0, slots := 0, locals := 1046 } (fun g => [.ref (g.1 0), .int a1]) s sF (fun _ => some (.int rF)) := by
  refine Ct_of pn_X3 (fun g => Nat.le_of_ble_eq_true rfl) (fun g A X C E hX => ?_)
  rw [tw_orders] at hf
  show TG tCfg g A 2 X 0 0 s 0 [(0, .ref (g.1 0)), (1, .int a1)] []
  refine g_aload_n C dX3_orders_0 0 rfl ?_
  refine g_iload_n C dX3_orders_1 1 rfl ?_
  refine bd_n hf (fun r1 s2 h3 hf => ?_)
  refine g_callV0 (As := [.int a1]) (rest := []) (stk := [.int (bI r1)]) C (w_tw_isTold h3) hX oT0 rfl rfl q1356 q1358 qs76 q91 q1359 mdX3_isTold rfl ⟨Nat.le_of_ble_eq_true rfl, Nat.le_of_ble_eq_true rfl⟩ (Nat.le_of_ble_eq_true rfl) dX3_orders_2 rfl ?_
  refine g_ifZ_ne 12 C dX3_orders_5 rfl (fun c4 => ?_) (fun c4 => ?_)
  · replace hf := if_t c4 hf
    refine g_iload_n C dX3_orders_12 1 rfl ?_
    refine g_if_ne 23 C dX3_orders_13 rfl (fun c5 => ?_) (fun c5 => ?_)
    · replace hf := if_t c5 hf
      refine g_aload_n C dX3_orders_16 0 rfl ?_
      refine g_getI C oT0 fX3_282 dX3_orders_17 ?_
      refine g_goto 43 C dX3_orders_20 rfl ?_
      exact g_iret C E rfl (re_i hf) (re_s hf) ⟨Nat.zero_le _, Nat.zero_le _⟩ dX3_orders_43
    · replace hf := if_f c5 hf
      refine g_aload_n C dX3_orders_23 0 rfl ?_
      refine g_getI C oT0 fX3_282 dX3_orders_24 ?_
      refine g_if_ne 34 C dX3_orders_27 rfl (fun c6 => ?_) (fun c6 => ?_)
      · replace hf := if_t c6 hf
        refine g_iconst C dX3_orders_30 kc_m1 ?_
        refine g_goto 43 C dX3_orders_31 rfl ?_
        exact g_iret C E rfl (re_i hf) (re_s hf) ⟨Nat.zero_le _, Nat.zero_le _⟩ dX3_orders_43
      · replace hf := if_f c6 hf
        refine g_aload_n C dX3_orders_34 0 rfl ?_
        refine g_getS 13 C oT0 fX3_50 rfl dX3_orders_35 ?_
        refine g_iload_n C dX3_orders_38 1 rfl ?_
        refine g_bipush C dX3_orders_39 kb_10 ?_
        refine g_isub C dX3_orders_41 ?_
        refine gd_n hf (fun c7 hf => ?_)
        refine g_iald C aT13 rfl c7 dX3_orders_42 ?_
        exact g_iret C E rfl (re_i hf) (re_s hf) ⟨Nat.zero_le _, Nat.zero_le _⟩ dX3_orders_43
  · replace hf := if_f c4 hf
    refine g_iconst C dX3_orders_8 kc_m1 ?_
    refine g_goto 43 C dX3_orders_9 rfl ?_
    exact g_iret C E rfl (re_i hf) (re_s hf) ⟨Nat.zero_le _, Nat.zero_le _⟩ dX3_orders_43
def tw_least (n : Nat) (s : Sto) (a1 : Int32) : Option (Int32 × Sto) :=
  bd (tw_isTold n s a1) fun r1 s2 =>
  if r1 = true then
    if a1 = 0 then
      some ((s2.1 0 30), s2)
    else
      gd (inb (a1 - (10 : Int32)) 9) <|
      some ((rd s2 14 (a1 - (10 : Int32))), s2)
  else
    some ((-1 : Int32), s2)
theorem w_tw_least {l : Launch} {n : Nat} {s sF : Sto} {a1 : Int32} {rF : Int32} (hf : tw_least n s a1 = some (rF, sF)) : Ct tCfg l yX3_least cX3_least 2 (some .int) { frames := 62, cells := 0, slots := 0, locals := 1046 } (fun g => [.ref (g.1 0), .int a1]) s sF (fun _ => some (.int rF)) := by
  refine Ct_of pn_X3 (fun g => Nat.le_of_ble_eq_true rfl) (fun g A X C E hX => ?_)
  rw [tw_least] at hf
  show TG tCfg g A 2 X 0 0 s 0 [(0, .ref (g.1 0)), (1, .int a1)] []
  refine g_aload_n C dX3_least_0 0 rfl ?_
  refine g_iload_n C dX3_least_1 1 rfl ?_
  refine bd_n hf (fun r1 s2 h3 hf => ?_)
  refine g_callV0 (As := [.int a1]) (rest := []) (stk := [.int (bI r1)]) C (w_tw_isTold h3) hX oT0 rfl rfl q1356 q1358 qs76 q91 q1359 mdX3_isTold rfl ⟨Nat.le_of_ble_eq_true rfl, Nat.le_of_ble_eq_true rfl⟩ (Nat.le_of_ble_eq_true rfl) dX3_least_2 rfl ?_
  refine g_ifZ_ne 12 C dX3_least_5 rfl (fun c4 => ?_) (fun c4 => ?_)
  · replace hf := if_t c4 hf
    refine g_iload_n C dX3_least_12 1 rfl ?_
    refine g_if_ne 23 C dX3_least_13 rfl (fun c5 => ?_) (fun c5 => ?_)
    · replace hf := if_t c5 hf
      refine g_aload_n C dX3_least_16 0 rfl ?_
      refine g_getI C oT0 fX3_276 dX3_least_17 ?_
      refine g_goto 32 C dX3_least_20 rfl ?_
      exact g_iret C E rfl (re_i hf) (re_s hf) ⟨Nat.zero_le _, Nat.zero_le _⟩ dX3_least_32
    · replace hf := if_f c5 hf
      refine g_aload_n C dX3_least_23 0 rfl ?_
      refine g_getS 14 C oT0 fX3_53 rfl dX3_least_24 ?_
      refine g_iload_n C dX3_least_27 1 rfl ?_
      refine g_bipush C dX3_least_28 kb_10 ?_
      refine g_isub C dX3_least_30 ?_
      refine gd_n hf (fun c6 hf => ?_)
      refine g_iald C aT14 rfl c6 dX3_least_31 ?_
      exact g_iret C E rfl (re_i hf) (re_s hf) ⟨Nat.zero_le _, Nat.zero_le _⟩ dX3_least_32
  · replace hf := if_f c4 hf
    refine g_iconst C dX3_least_8 kc_m1 ?_
    refine g_goto 32 C dX3_least_9 rfl ?_
    exact g_iret C E rfl (re_i hf) (re_s hf) ⟨Nat.zero_le _, Nat.zero_le _⟩ dX3_least_32
def tw_isRow_L2 (n : Nat) (v2 : Int32) : Nat → Sto → Int32 → Option (Bool × Sto)
  | 0, _, _ => none
  | k + 1, s1, v3 =>
    gd (inb (4 : Int32) 1480) <|
    if (rd s1 1 (4 : Int32)) ≤ v3 then
      some (true, s1)
    else
      gd (inb (((9 : Int32) * v2) + v3) 1809) <|
      gd (inb v3 9) <|
      if (rd s1 15 (((9 : Int32) * v2) + v3)) = (rd s1 11 v3) then
        tw_isRow_L2 n v2 k s1 (v3 + (1 : Int32))
      else
        some (false, s1)
def tw_isRow (n : Nat) (s : Sto) (a1 : Int32) : Option (Bool × Sto) :=
  tw_isRow_L2 n a1
      n s (0 : Int32)
theorem w_tw_isRow_L2  {l : Launch} {n : Nat} {v2 : Int32} {g : Gam} {A : Nat → Prop} {X : FX} {si sF : Sto} {rF : Bool} (C : CX tCfg g A 3 X cX3_isRow RX3 (some .boolean) 1 12) (E : EX tCfg g A X si sF (some (.int (bI rF))) 0 0) (hX : X.2.1 = l) : ∀ (k : Nat) (s1 : Sto) (v3 : Int32), tw_isRow_L2 n v2 k s1 v3 = some (rF, sF) → TG tCfg g A 3 X 0 0 s1 2 [(0, .ref (g.1 0)), (1, .int v2), (2, .int v3)] [] := by
  intro k
  induction k with
  | zero => intro s1 v3 hf; rw [tw_isRow_L2] at hf; cases hf
  | succ k ih =>
    intro s1 v3 hf
    rw [tw_isRow_L2] at hf
    refine g_iload_n C dX3_isRow_2 2 rfl ?_
    refine g_aload_n C dX3_isRow_3 0 rfl ?_
    refine g_getS 1 C oT0 fX3_7 rfl dX3_isRow_4 ?_
    refine g_iconst C dX3_isRow_7 kc_4 ?_
    refine gd_n hf (fun c4 hf => ?_)
    refine g_iald C aT1 rfl c4 dX3_isRow_8 ?_
    refine g_icmp_ge 40 C dX3_isRow_9 rfl (fun c5 => ?_) (fun c5 => ?_)
    · replace hf := if_t c5 hf
      refine g_iconst C dX3_isRow_40 kc_1 ?_
      exact g_iret (v := bI true) C E (bI_nar _) (re_z hf) (re_s hf) ⟨Nat.zero_le _, Nat.zero_le _⟩ dX3_isRow_41
    · replace hf := if_f c5 hf
      refine g_aload_n C dX3_isRow_12 0 rfl ?_
      refine g_getS 15 C oT0 fX3_56 rfl dX3_isRow_13 ?_
      refine g_bipush C dX3_isRow_16 kb_9 ?_
      refine g_iload_n C dX3_isRow_18 1 rfl ?_
      refine g_imul C dX3_isRow_19 ?_
      refine g_iload_n C dX3_isRow_20 2 rfl ?_
      refine g_iadd C dX3_isRow_21 ?_
      refine gd_n hf (fun c6 hf => ?_)
      refine g_iald C aT15 rfl c6 dX3_isRow_22 ?_
      refine g_aload_n C dX3_isRow_23 0 rfl ?_
      refine g_getS 11 C oT0 fX3_44 rfl dX3_isRow_24 ?_
      refine g_iload_n C dX3_isRow_27 2 rfl ?_
      refine gd_n hf (fun c7 hf => ?_)
      refine g_iald C aT11 rfl c7 dX3_isRow_28 ?_
      refine g_icmp_eq 34 C dX3_isRow_29 rfl (fun c8 => ?_) (fun c8 => ?_)
      · replace hf := if_t c8 hf
        refine g_iinc (q := 2) (lv' := [(2, .int (v3 + (1 : Int32))), (0, .ref (g.1 0)), (1, .int v2)]) C dX3_isRow_34 rfl kc_1 (by decide) rfl ?_
        refine g_goto 2 C dX3_isRow_37 rfl ?_
        exact g_sub [1, 2, 0] rfl (ih _ _ hf)
      · replace hf := if_f c8 hf
        refine g_iconst C dX3_isRow_32 kc_0 ?_
        exact g_iret (v := bI false) C E (bI_nar _) (re_z hf) (re_s hf) ⟨Nat.zero_le _, Nat.zero_le _⟩ dX3_isRow_33
theorem w_tw_isRow {l : Launch} {n : Nat} {s sF : Sto} {a1 : Int32} {rF : Bool} (hf : tw_isRow n s a1 = some (rF, sF)) : Ct tCfg l yX3_isRow cX3_isRow 3 (some .boolean) { frames := 1, cells := 0, slots := 0, locals := 12 } (fun g => [.ref (g.1 0), .int a1]) s sF (fun _ => some (.int (bI rF))) := by
  refine Ct_of pn_X3 (fun g => Nat.le_of_ble_eq_true rfl) (fun g A X C E hX => ?_)
  rw [tw_isRow] at hf
  show TG tCfg g A 3 X 0 0 s 0 [(0, .ref (g.1 0)), (1, .int a1)] []
  refine g_iconst C dX3_isRow_0 kc_0 ?_
  refine g_istore_n (i := 2) (lv' := [(2, .int (0 : Int32)), (0, .ref (g.1 0)), (1, .int a1)]) C dX3_isRow_1 rfl rfl (by decide) rfl ?_
  refine g_sub [1, 2, 0] rfl (w_tw_isRow_L2 C E hX _ _ _ hf)
def tw_round_L18 (n : Nat) (v9 : Int32) (k12 : Sto → Option (Int32 × Sto)) : Nat → Sto → Int32 → Option (Int32 × Sto)
  | 0, _, _ => none
  | k + 1, s8, v10 =>
    gd (inb (4 : Int32) 1480) <|
    if (rd s8 1 (4 : Int32)) ≤ v10 then
      k12 s8
    else
      gd (inb v10 9) <|
      vl (wr s8 11 v10 (rd s8 9 v10)) fun s16 =>
      tw_round_L18 n v9 k12 k s16 (v10 + (1 : Int32))
def tw_round_L57 (n : Nat) (v31 : Int32) (v32 : Int32) (k35 : Sto → Option (Int32 × Sto)) (k38 : Sto → Int32 → Option (Int32 × Sto)) : Nat → Sto → Int32 → Option (Int32 × Sto)
  | 0, _, _ => none
  | k + 1, s30, v33 =>
    if v32 ≤ v33 then
      k35 s30
    else
      bd (tw_isRow n s30 v33) fun r40 s41 =>
      if r40 = true then
        k38 s41 v33
      else
        tw_round_L57 n v31 v32 k35 k38 k s41 (v33 + (1 : Int32))
def tw_round_L90 (n : Nat) (v45 : Int32) (v46 : Int32) (k49 : Sto → Option (Int32 × Sto)) : Nat → Sto → Int32 → Option (Int32 × Sto)
  | 0, _, _ => none
  | k + 1, s44, v47 =>
    gd (inb (4 : Int32) 1480) <|
    if (rd s44 1 (4 : Int32)) ≤ v47 then
      k49 s44
    else
      gd (inb v47 9) <|
      gd (inb (((9 : Int32) * v46) + v47) 1809) <|
      vl (wr s44 15 (((9 : Int32) * v46) + v47) (rd s44 11 v47)) fun s54 =>
      tw_round_L90 n v45 v46 k49 k s54 (v47 + (1 : Int32))
def tw_round_L48 (n : Nat) (v18 : Int32) (k21 : Sto → Option (Int32 × Sto)) (k24 : Sto → Int32 → Option (Int32 × Sto)) (k28 : Sto → Int32 → Int32 → Option (Int32 × Sto)) : Nat → Sto → Int32 → Option (Int32 × Sto)
  | 0, _, _ => none
  | k + 1, s17, v19 =>
    if (200 : Int32) < v19 then
      k21 s17
    else
      tw_round_L57 n v18 v19
          (fun (s34 : Sto) =>
            tw_round_L90 n v18 v19
                (fun (s48 : Sto) =>
                  bd (tw_firstChange n s48) fun r55 s56 =>
                  if r55 = (-1 : Int32) then
                    k24 s56 v19
                  else
                    bd (tw_exchanges n s56 r55) fun r59 s60 =>
                    tw_round_L48 n v18 k21 k24 k28 k s60 (v19 + (1 : Int32)))
                n s34 (0 : Int32))
          (fun (s36 : Sto) (v37 : Int32) =>
            k28 s36 v19 v37)
          n s17 (0 : Int32)
def tw_round (n : Nat) (s : Sto) (a1 : Int32) : Option (Int32 × Sto) :=
  bd (tw_isIn n s a1 (0 : Int32) (1 : Int32)) fun r1 s2 =>
  if r1 = true then
    bd (tw_laysOrder n s2 false) fun r5 s6 =>
    tw_round_L18 n a1
        (fun (s11 : Sto) =>
          tw_round_L48 n a1
              (fun (s20 : Sto) =>
                if a1 = 0 then
                  some ((-1 : Int32), s20)
                else
                  some ((0 : Int32), s20))
              (fun (s22 : Sto) (v23 : Int32) =>
                if a1 = 0 then
                  some (v23, s22)
                else
                  some ((0 : Int32), s22))
              (fun (s25 : Sto) (v26 : Int32) (v27 : Int32) =>
                if a1 = 0 then
                  some ((-1 : Int32), s25)
                else
                  some ((v26 - v27), s25))
              n s11 (0 : Int32))
        n s6 (0 : Int32)
  else
    some ((-1 : Int32), s2)
theorem w_tw_round_L18  {l : Launch} {n : Nat} {v9 : Int32} {k12 : Sto → Option (Int32 × Sto)} {g : Gam} {A : Nat → Prop} {X : FX} {si sF : Sto} {rF : Int32} (C : CX tCfg g A 4 X cX3_round RX3 (some .int) 7 144) (E : EX tCfg g A X si sF (some (.int rF)) 0 0) (hX : X.2.1 = l) (Hk12 : ∀ (s11 : Sto), k12 s11 = some (rF, sF) → TG tCfg g A 4 X 0 0 s11 46 [(0, .ref (g.1 0)), (1, .int v9)] []) : ∀ (k : Nat) (s8 : Sto) (v10 : Int32), tw_round_L18 n v9 k12 k s8 v10 = some (rF, sF) → TG tCfg g A 4 X 0 0 s8 18 [(0, .ref (g.1 0)), (1, .int v9), (2, .int v10)] [] := by
  intro k
  induction k with
  | zero => intro s8 v10 hf; rw [tw_round_L18] at hf; cases hf
  | succ k ih =>
    intro s8 v10 hf
    rw [tw_round_L18] at hf
    refine g_iload_n C dX3_round_18 2 rfl ?_
    refine g_aload_n C dX3_round_19 0 rfl ?_
    refine g_getS 1 C oT0 fX3_7 rfl dX3_round_20 ?_
    refine g_iconst C dX3_round_23 kc_4 ?_
    refine gd_n hf (fun c13 hf => ?_)
    refine g_iald C aT1 rfl c13 dX3_round_24 ?_
    refine g_icmp_ge 46 C dX3_round_25 rfl (fun c14 => ?_) (fun c14 => ?_)
    · replace hf := if_t c14 hf
      exact g_sub [0, 1] rfl (Hk12 _ hf)
    · replace hf := if_f c14 hf
      refine g_aload_n C dX3_round_28 0 rfl ?_
      refine g_getS 11 C oT0 fX3_44 rfl dX3_round_29 ?_
      refine g_iload_n C dX3_round_32 2 rfl ?_
      refine g_aload_n C dX3_round_33 0 rfl ?_
      refine g_getS 9 C oT0 fX3_38 rfl dX3_round_34 ?_
      refine g_iload_n C dX3_round_37 2 rfl ?_
      refine gd_n hf (fun c15 hf => ?_)
      refine g_iald C aT9 rfl c15 dX3_round_38 ?_
      refine vl_n hf (fun s16 hs16 hf => ?_)
      refine g_iast C aT11 rfl c15 hs16 dX3_round_39 ?_
      refine g_iinc (q := 2) (lv' := [(2, .int (v10 + (1 : Int32))), (0, .ref (g.1 0)), (1, .int v9)]) C dX3_round_40 rfl kc_1 (by decide) rfl ?_
      refine g_goto 18 C dX3_round_43 rfl ?_
      exact g_sub [1, 2, 0] rfl (ih _ _ hf)
theorem w_tw_round_L57  {l : Launch} {n : Nat} {v31 : Int32} {v32 : Int32} {k35 : Sto → Option (Int32 × Sto)} {k38 : Sto → Int32 → Option (Int32 × Sto)} {g : Gam} {A : Nat → Prop} {X : FX} {si sF : Sto} {rF : Int32} (C : CX tCfg g A 4 X cX3_round RX3 (some .int) 7 144) (E : EX tCfg g A X si sF (some (.int rF)) 0 0) (hX : X.2.1 = l) (Hk35 : ∀ (s34 : Sto), k35 s34 = some (rF, sF) → TG tCfg g A 4 X 0 0 s34 88 [(0, .ref (g.1 0)), (1, .int v31), (2, .int v32)] []) (Hk38 : ∀ (s36 : Sto) (v37 : Int32), k38 s36 v37 = some (rF, sF) → TG tCfg g A 4 X 0 0 s36 70 [(1, .int v31), (2, .int v32), (3, .int v37)] []) : ∀ (k : Nat) (s30 : Sto) (v33 : Int32), tw_round_L57 n v31 v32 k35 k38 k s30 v33 = some (rF, sF) → TG tCfg g A 4 X 0 0 s30 57 [(0, .ref (g.1 0)), (1, .int v31), (2, .int v32), (3, .int v33)] [] := by
  intro k
  induction k with
  | zero => intro s30 v33 hf; rw [tw_round_L57] at hf; cases hf
  | succ k ih =>
    intro s30 v33 hf
    rw [tw_round_L57] at hf
    refine g_iload_n C dX3_round_57 3 rfl ?_
    refine g_iload_n C dX3_round_58 2 rfl ?_
    refine g_icmp_ge 88 C dX3_round_59 rfl (fun c39 => ?_) (fun c39 => ?_)
    · replace hf := if_t c39 hf
      exact g_sub [0, 1, 2] rfl (Hk35 _ hf)
    · replace hf := if_f c39 hf
      refine g_aload_n C dX3_round_62 0 rfl ?_
      refine g_iload_n C dX3_round_63 3 rfl ?_
      refine bd_n hf (fun r40 s41 h42 hf => ?_)
      refine g_callV0 (As := [.int v33]) (rest := []) (stk := [.int (bI r40)]) C (w_tw_isRow h42) hX oT0 rfl rfl q1384 q1386 qs81 q91 q1387 mdX3_isRow rfl ⟨Nat.le_of_ble_eq_true rfl, Nat.le_of_ble_eq_true rfl⟩ (Nat.le_of_ble_eq_true rfl) dX3_round_64 rfl ?_
      refine g_ifZ_eq 82 C dX3_round_67 rfl (fun c43 => ?_) (fun c43 => ?_)
      · replace hf := if_t c43 hf
        exact g_sub [1, 2, 3] rfl (Hk38 _ _ hf)
      · replace hf := if_f c43 hf
        refine g_iinc (q := 3) (lv' := [(3, .int (v33 + (1 : Int32))), (0, .ref (g.1 0)), (1, .int v31), (2, .int v32)]) C dX3_round_82 rfl kc_1 (by decide) rfl ?_
        refine g_goto 57 C dX3_round_85 rfl ?_
        exact g_sub [1, 2, 3, 0] rfl (ih _ _ hf)
theorem w_tw_round_L90  {l : Launch} {n : Nat} {v45 : Int32} {v46 : Int32} {k49 : Sto → Option (Int32 × Sto)} {g : Gam} {A : Nat → Prop} {X : FX} {si sF : Sto} {rF : Int32} (C : CX tCfg g A 4 X cX3_round RX3 (some .int) 7 144) (E : EX tCfg g A X si sF (some (.int rF)) 0 0) (hX : X.2.1 = l) (Hk49 : ∀ (s48 : Sto), k49 s48 = some (rF, sF) → TG tCfg g A 4 X 0 0 s48 123 [(0, .ref (g.1 0)), (1, .int v45), (2, .int v46)] []) : ∀ (k : Nat) (s44 : Sto) (v47 : Int32), tw_round_L90 n v45 v46 k49 k s44 v47 = some (rF, sF) → TG tCfg g A 4 X 0 0 s44 90 [(0, .ref (g.1 0)), (1, .int v45), (2, .int v46), (3, .int v47)] [] := by
  intro k
  induction k with
  | zero => intro s44 v47 hf; rw [tw_round_L90] at hf; cases hf
  | succ k ih =>
    intro s44 v47 hf
    rw [tw_round_L90] at hf
    refine g_iload_n C dX3_round_90 3 rfl ?_
    refine g_aload_n C dX3_round_91 0 rfl ?_
    refine g_getS 1 C oT0 fX3_7 rfl dX3_round_92 ?_
    refine g_iconst C dX3_round_95 kc_4 ?_
    refine gd_n hf (fun c50 hf => ?_)
    refine g_iald C aT1 rfl c50 dX3_round_96 ?_
    refine g_icmp_ge 123 C dX3_round_97 rfl (fun c51 => ?_) (fun c51 => ?_)
    · replace hf := if_t c51 hf
      exact g_sub [0, 1, 2] rfl (Hk49 _ hf)
    · replace hf := if_f c51 hf
      refine g_aload_n C dX3_round_100 0 rfl ?_
      refine g_getS 15 C oT0 fX3_56 rfl dX3_round_101 ?_
      refine g_bipush C dX3_round_104 kb_9 ?_
      refine g_iload_n C dX3_round_106 2 rfl ?_
      refine g_imul C dX3_round_107 ?_
      refine g_iload_n C dX3_round_108 3 rfl ?_
      refine g_iadd C dX3_round_109 ?_
      refine g_aload_n C dX3_round_110 0 rfl ?_
      refine g_getS 11 C oT0 fX3_44 rfl dX3_round_111 ?_
      refine g_iload_n C dX3_round_114 3 rfl ?_
      refine gd_n hf (fun c52 hf => ?_)
      refine g_iald C aT11 rfl c52 dX3_round_115 ?_
      refine gd_n hf (fun c53 hf => ?_)
      refine vl_n hf (fun s54 hs54 hf => ?_)
      refine g_iast C aT15 rfl c53 hs54 dX3_round_116 ?_
      refine g_iinc (q := 3) (lv' := [(3, .int (v47 + (1 : Int32))), (0, .ref (g.1 0)), (1, .int v45), (2, .int v46)]) C dX3_round_117 rfl kc_1 (by decide) rfl ?_
      refine g_goto 90 C dX3_round_120 rfl ?_
      exact g_sub [1, 2, 3, 0] rfl (ih _ _ hf)
theorem w_tw_round_L48  {l : Launch} {n : Nat} {v18 : Int32} {k21 : Sto → Option (Int32 × Sto)} {k24 : Sto → Int32 → Option (Int32 × Sto)} {k28 : Sto → Int32 → Int32 → Option (Int32 × Sto)} {g : Gam} {A : Nat → Prop} {X : FX} {si sF : Sto} {rF : Int32} (C : CX tCfg g A 4 X cX3_round RX3 (some .int) 7 144) (E : EX tCfg g A X si sF (some (.int rF)) 0 0) (hX : X.2.1 = l) (Hk21 : ∀ (s20 : Sto), k21 s20 = some (rF, sF) → TG tCfg g A 4 X 0 0 s20 154 [(1, .int v18)] []) (Hk24 : ∀ (s22 : Sto) (v23 : Int32), k24 s22 v23 = some (rF, sF) → TG tCfg g A 4 X 0 0 s22 133 [(1, .int v18), (2, .int v23)] []) (Hk28 : ∀ (s25 : Sto) (v26 : Int32) (v27 : Int32), k28 s25 v26 v27 = some (rF, sF) → TG tCfg g A 4 X 0 0 s25 70 [(1, .int v18), (2, .int v26), (3, .int v27)] []) : ∀ (k : Nat) (s17 : Sto) (v19 : Int32), tw_round_L48 n v18 k21 k24 k28 k s17 v19 = some (rF, sF) → TG tCfg g A 4 X 0 0 s17 48 [(0, .ref (g.1 0)), (1, .int v18), (2, .int v19)] [] := by
  intro k
  induction k with
  | zero => intro s17 v19 hf; rw [tw_round_L48] at hf; cases hf
  | succ k ih =>
    intro s17 v19 hf
    rw [tw_round_L48] at hf
    refine g_iload_n C dX3_round_48 2 rfl ?_
    refine g_sipush C dX3_round_49 ks_200 ?_
    refine g_icmp_gt 154 C dX3_round_52 rfl (fun c29 => ?_) (fun c29 => ?_)
    · replace hf := if_t c29 hf
      exact g_sub [1] rfl (Hk21 _ hf)
    · replace hf := if_f c29 hf
      refine g_iconst C dX3_round_55 kc_0 ?_
      refine g_istore_n (i := 3) (lv' := [(3, .int (0 : Int32)), (0, .ref (g.1 0)), (1, .int v18), (2, .int v19)]) C dX3_round_56 rfl rfl (by decide) rfl ?_
      refine g_sub [1, 2, 3, 0] rfl (w_tw_round_L57 C E hX (fun s34 hf => ?_) (fun s36 v37 hf => ?_) _ _ _ hf)
      · refine g_iconst C dX3_round_88 kc_0 ?_
        refine g_istore_n (i := 3) (lv' := [(3, .int (0 : Int32)), (0, .ref (g.1 0)), (1, .int v18), (2, .int v19)]) C dX3_round_89 rfl rfl (by decide) rfl ?_
        refine g_sub [1, 2, 3, 0] rfl (w_tw_round_L90 C E hX (fun s48 hf => ?_) _ _ _ hf)
        refine g_aload_n C dX3_round_123 0 rfl ?_
        refine bd_n hf (fun r55 s56 h57 hf => ?_)
        refine g_callV0 (As := []) (rest := []) (stk := [.int r55]) C (w_tw_firstChange h57) hX oT0 rfl rfl q1364 q1366 qs78 q91 q1367 mdX3_firstChange rfl ⟨Nat.le_of_ble_eq_true rfl, Nat.le_of_ble_eq_true rfl⟩ (Nat.le_of_ble_eq_true rfl) dX3_round_124 rfl ?_
        refine g_istore_n (i := 3) (lv' := [(3, .int r55), (0, .ref (g.1 0)), (1, .int v18), (2, .int v19)]) C dX3_round_127 rfl rfl (by decide) rfl ?_
        refine g_iload_n C dX3_round_128 0 rfl ?_
        refine g_iconst C dX3_round_129 kc_m1 ?_
        refine g_icmp_ne 143 C dX3_round_130 rfl (fun c58 => ?_) (fun c58 => ?_)
        · replace hf := if_t c58 hf
          exact g_sub [2, 3] rfl (Hk24 _ _ hf)
        · replace hf := if_f c58 hf
          refine g_aload_n C dX3_round_143 1 rfl ?_
          refine g_iload_n C dX3_round_144 0 rfl ?_
          refine bd_n hf (fun r59 s60 h61 hf => ?_)
          refine g_callV0 (As := [.int r55]) (rest := []) (stk := []) C (w_tw_exchanges h61) hX oT0 rfl rfl q1372 q1374 qs80 q91 q1375 mdX3_exchanges rfl ⟨Nat.le_of_ble_eq_true rfl, Nat.le_of_ble_eq_true rfl⟩ (Nat.le_of_ble_eq_true rfl) dX3_round_145 rfl ?_
          refine g_iinc (q := 3) (lv' := [(2, .int (v19 + (1 : Int32))), (3, .int r55), (0, .ref (g.1 0)), (1, .int v18)]) C dX3_round_148 rfl kc_1 (by decide) rfl ?_
          refine g_goto 48 C dX3_round_151 rfl ?_
          exact g_sub [2, 3, 0] rfl (ih _ _ hf)
      · exact g_sub [0, 1, 2] rfl (Hk28 _ _ _ hf)
theorem w_tw_round {l : Launch} {n : Nat} {s sF : Sto} {a1 : Int32} {rF : Int32} (hf : tw_round n s a1 = some (rF, sF)) : Ct tCfg l yX3_round cX3_round 4 (some .int) { frames := 7, cells := 0, slots := 0, locals := 144 } (fun g => [.ref (g.1 0), .int a1]) s sF (fun _ => some (.int rF)) := by
  refine Ct_of pn_X3 (fun g => Nat.le_of_ble_eq_true rfl) (fun g A X C E hX => ?_)
  rw [tw_round] at hf
  show TG tCfg g A 4 X 0 0 s 0 [(0, .ref (g.1 0)), (1, .int a1)] []
  refine g_iload_n C dX3_round_0 1 rfl ?_
  refine g_iconst C dX3_round_1 kc_0 ?_
  refine g_iconst C dX3_round_2 kc_1 ?_
  refine bd_n hf (fun r1 s2 h3 hf => ?_)
  refine g_callS0 (As := [.int a1, .int (0 : Int32), .int (1 : Int32)]) (rest := []) (stk := [.int (bI r1)]) C (w_tw_isIn h3) hX rfl q1146 q1147 q91 q1148 msX3_isIn rfl ⟨Nat.le_of_ble_eq_true rfl, Nat.le_of_ble_eq_true rfl⟩ (Nat.le_of_ble_eq_true rfl) dX3_round_3 rfl ?_
  refine g_ifZ_ne 11 C dX3_round_6 rfl (fun c4 => ?_) (fun c4 => ?_)
  · replace hf := if_t c4 hf
    refine g_aload_n C dX3_round_11 0 rfl ?_
    refine g_iconst C dX3_round_12 kc_0 ?_
    refine bd_n hf (fun r5 s6 h7 hf => ?_)
    refine g_callV0 (As := [.int (bI false)]) (rest := []) (stk := []) C (w_tw_laysOrder h7) hX oT0 rfl rfl q1282 q1284 qs65 q91 q1285 mdX3_laysOrder rfl ⟨Nat.le_of_ble_eq_true rfl, Nat.le_of_ble_eq_true rfl⟩ (Nat.le_of_ble_eq_true rfl) dX3_round_13 rfl ?_
    refine g_iconst C dX3_round_16 kc_0 ?_
    refine g_istore_n (i := 2) (lv' := [(2, .int (0 : Int32)), (0, .ref (g.1 0)), (1, .int a1)]) C dX3_round_17 rfl rfl (by decide) rfl ?_
    refine g_sub [1, 2, 0] rfl (w_tw_round_L18 C E hX (fun s11 hf => ?_) _ _ _ hf)
    refine g_iconst C dX3_round_46 kc_0 ?_
    refine g_istore_n (i := 2) (lv' := [(2, .int (0 : Int32)), (0, .ref (g.1 0)), (1, .int a1)]) C dX3_round_47 rfl rfl (by decide) rfl ?_
    refine g_sub [1, 2, 0] rfl (w_tw_round_L48 C E hX (fun s20 hf => ?_) (fun s22 v23 hf => ?_) (fun s25 v26 v27 hf => ?_) _ _ _ hf)
    · refine g_iload_n C dX3_round_154 0 rfl ?_
      refine g_if_ne 162 C dX3_round_155 rfl (fun c62 => ?_) (fun c62 => ?_)
      · replace hf := if_t c62 hf
        refine g_iconst C dX3_round_158 kc_m1 ?_
        refine g_goto 163 C dX3_round_159 rfl ?_
        exact g_iret C E rfl (re_i hf) (re_s hf) ⟨Nat.zero_le _, Nat.zero_le _⟩ dX3_round_163
      · replace hf := if_f c62 hf
        refine g_iconst C dX3_round_162 kc_0 ?_
        exact g_iret C E rfl (re_i hf) (re_s hf) ⟨Nat.zero_le _, Nat.zero_le _⟩ dX3_round_163
    · refine g_iload_n C dX3_round_133 0 rfl ?_
      refine g_if_ne 141 C dX3_round_134 rfl (fun c63 => ?_) (fun c63 => ?_)
      · replace hf := if_t c63 hf
        refine g_iload_n C dX3_round_137 1 rfl ?_
        refine g_goto 142 C dX3_round_138 rfl ?_
        exact g_iret C E rfl (re_i hf) (re_s hf) ⟨Nat.zero_le _, Nat.zero_le _⟩ dX3_round_142
      · replace hf := if_f c63 hf
        refine g_iconst C dX3_round_141 kc_0 ?_
        exact g_iret C E rfl (re_i hf) (re_s hf) ⟨Nat.zero_le _, Nat.zero_le _⟩ dX3_round_142
    · refine g_iload_n C dX3_round_70 0 rfl ?_
      refine g_if_ne 78 C dX3_round_71 rfl (fun c64 => ?_) (fun c64 => ?_)
      · replace hf := if_t c64 hf
        refine g_iconst C dX3_round_74 kc_m1 ?_
        refine g_goto 81 C dX3_round_75 rfl ?_
        exact g_iret C E rfl (re_i hf) (re_s hf) ⟨Nat.zero_le _, Nat.zero_le _⟩ dX3_round_81
      · replace hf := if_f c64 hf
        refine g_iload_n C dX3_round_78 1 rfl ?_
        refine g_iload_n C dX3_round_79 2 rfl ?_
        refine g_isub C dX3_round_80 ?_
        exact g_iret C E rfl (re_i hf) (re_s hf) ⟨Nat.zero_le _, Nat.zero_le _⟩ dX3_round_81
  · replace hf := if_f c4 hf
    refine g_iconst C dX3_round_9 kc_m1 ?_
    exact g_iret C E rfl (re_i hf) (re_s hf) ⟨Nat.zero_le _, Nat.zero_le _⟩ dX3_round_10
def tw_isLeaven (n : Nat) (s : Sto) (a1 : Int32) : Option (Bool × Sto) :=
  gd (inb (585 : Int32) 1480) <|
  bd (tw_isIn n s a1 (0 : Int32) ((rd s 1 (585 : Int32)) - (1 : Int32))) fun r2 s3 =>
  some (r2, s3)
theorem w_tw_isLeaven {l : Launch} {n : Nat} {s sF : Sto} {a1 : Int32} {rF : Bool} (hf : tw_isLeaven n s a1 = some (rF, sF)) : Ct tCfg l yX3_isLeaven cX3_isLeaven 2 (some .boolean) { frames := 2, cells := 0, slots := 0, locals := 34 } (fun g => [.ref (g.1 0), .int a1]) s sF (fun _ => some (.int (bI rF))) := by
  refine Ct_of pn_X3 (fun g => Nat.le_of_ble_eq_true rfl) (fun g A X C E hX => ?_)
  rw [tw_isLeaven] at hf
  show TG tCfg g A 2 X 0 0 s 0 [(0, .ref (g.1 0)), (1, .int a1)] []
  refine g_iload_n C dX3_isLeaven_0 1 rfl ?_
  refine g_iconst C dX3_isLeaven_1 kc_0 ?_
  refine g_aload_n C dX3_isLeaven_2 0 rfl ?_
  refine g_getS 1 C oT0 fX3_7 rfl dX3_isLeaven_3 ?_
  refine g_sipush C dX3_isLeaven_6 ks_585 ?_
  refine gd_n hf (fun c1 hf => ?_)
  refine g_iald C aT1 rfl c1 dX3_isLeaven_9 ?_
  refine g_iconst C dX3_isLeaven_10 kc_1 ?_
  refine g_isub C dX3_isLeaven_11 ?_
  refine bd_n hf (fun r2 s3 h4 hf => ?_)
  refine g_callS0 (As := [.int a1, .int (0 : Int32), .int ((rd s 1 (585 : Int32)) - (1 : Int32))]) (rest := []) (stk := [.int (bI r2)]) C (w_tw_isIn h4) hX rfl q1146 q1147 q91 q1148 msX3_isIn rfl ⟨Nat.le_of_ble_eq_true rfl, Nat.le_of_ble_eq_true rfl⟩ (Nat.le_of_ble_eq_true rfl) dX3_isLeaven_12 rfl ?_
  exact g_iret (v := bI r2) C E (bI_nar _) (re_z hf) (re_s hf) ⟨Nat.zero_le _, Nat.zero_le _⟩ dX3_isLeaven_15
def tw_ofLeaven (n : Nat) (s : Sto) (a1 : Int32) (a2 : Int32) : Option (Int32 × Sto) :=
  gd (inb (((340 : Int32) + ((4 : Int32) * a1)) + a2) 1480) <|
  some ((rd s 1 (((340 : Int32) + ((4 : Int32) * a1)) + a2)), s)
theorem w_tw_ofLeaven {l : Launch} {n : Nat} {s sF : Sto} {a1 : Int32} {a2 : Int32} {rF : Int32} (hf : tw_ofLeaven n s a1 a2 = some (rF, sF)) : Ct tCfg l yX3_ofLeaven cX3_ofLeaven 3 (some .int) { frames := 1, cells := 0, slots := 0, locals := 12 } (fun g => [.ref (g.1 0), .int a1, .int a2]) s sF (fun _ => some (.int rF)) := by
  refine Ct_of pn_X3 (fun g => Nat.le_of_ble_eq_true rfl) (fun g A X C E hX => ?_)
  rw [tw_ofLeaven] at hf
  show TG tCfg g A 3 X 0 0 s 0 [(0, .ref (g.1 0)), (1, .int a1), (2, .int a2)] []
  refine g_aload_n C dX3_ofLeaven_0 0 rfl ?_
  refine g_getS 1 C oT0 fX3_7 rfl dX3_ofLeaven_1 ?_
  refine g_sipush C dX3_ofLeaven_4 ks_340 ?_
  refine g_iconst C dX3_ofLeaven_7 kc_4 ?_
  refine g_iload_n C dX3_ofLeaven_8 1 rfl ?_
  refine g_imul C dX3_ofLeaven_9 ?_
  refine g_iadd C dX3_ofLeaven_10 ?_
  refine g_iload_n C dX3_ofLeaven_11 2 rfl ?_
  refine g_iadd C dX3_ofLeaven_12 ?_
  refine gd_n hf (fun c1 hf => ?_)
  refine g_iald C aT1 rfl c1 dX3_ofLeaven_13 ?_
  exact g_iret C E rfl (re_i hf) (re_s hf) ⟨Nat.zero_le _, Nat.zero_le _⟩ dX3_ofLeaven_14
def tw_leaven (n : Nat) (s : Sto) (a1 : Int32) (a2 : Int32) : Option (Int32 × Sto) :=
  gd (inb (585 : Int32) 1480) <|
  if (rd s 1 (585 : Int32)) = (60 : Int32) then
    some ((-1 : Int32), s)
  else
    vl ((340 : Int32) + ((4 : Int32) * (rd s 1 (585 : Int32)))) fun v3 =>
    vl (fun (s4 : Sto) =>
      vl (wr s4 1 (585 : Int32) ((rd s4 1 (585 : Int32)) + (1 : Int32))) fun s6 =>
      some (((rd s6 1 (585 : Int32)) - (1 : Int32)), s6)) fun j5 =>
    if a2 = (-1 : Int32) then
      bd (tw_isHouse n s a1) fun r8 s9 =>
      if r8 = true then
        gd (inb v3 1480) <|
        vl (wr s9 1 v3 (-1 : Int32)) fun s13 =>
        gd (inb (v3 + (1 : Int32)) 1480) <|
        vl (wr s13 1 (v3 + (1 : Int32)) (-1 : Int32)) fun s15 =>
        gd (inb (v3 + (2 : Int32)) 1480) <|
        vl (wr s15 1 (v3 + (2 : Int32)) a1) fun s17 =>
        gd (inb (v3 + (3 : Int32)) 1480) <|
        vl (wr s17 1 (v3 + (3 : Int32)) (0 : Int32)) fun s19 =>
        j5 s19
      else
        some ((-1 : Int32), s9)
    else
      bd (tw_isLeaven n s a1) fun r20 s21 =>
      if r20 = true then
        bd (tw_isLeaven n s21 a2) fun r24 s25 =>
        if r24 = true then
          bd (tw_ofLeaven n s25 a1 (3 : Int32)) fun r28 s29 =>
          bd (tw_ofLeaven n s29 a2 (3 : Int32)) fun r31 s32 =>
          vl (fun (s34 : Sto) (t35 : Int32) =>
            vl ((1 : Int32) + t35) fun v37 =>
            if v37 ≤ (30 : Int32) then
              gd (inb v3 1480) <|
              vl (wr s34 1 v3 a1) fun s40 =>
              gd (inb (v3 + (1 : Int32)) 1480) <|
              vl (wr s40 1 (v3 + (1 : Int32)) a2) fun s42 =>
              gd (inb (v3 + (2 : Int32)) 1480) <|
              vl (wr s42 1 (v3 + (2 : Int32)) (-1 : Int32)) fun s44 =>
              gd (inb (v3 + (3 : Int32)) 1480) <|
              vl (wr s44 1 (v3 + (3 : Int32)) v37) fun s46 =>
              j5 s46
            else
              some ((-1 : Int32), s34)) fun j36 =>
          if r28 ≤ r31 then
            bd (tw_ofLeaven n s32 a2 (3 : Int32)) fun r48 s49 =>
            j36 s49 r48
          else
            bd (tw_ofLeaven n s32 a1 (3 : Int32)) fun r51 s52 =>
            j36 s52 r51
        else
          some ((-1 : Int32), s25)
      else
        some ((-1 : Int32), s21)
theorem w_tw_leaven {l : Launch} {n : Nat} {s sF : Sto} {a1 : Int32} {a2 : Int32} {rF : Int32} (hf : tw_leaven n s a1 a2 = some (rF, sF)) : Ct tCfg l yX3_leaven cX3_leaven 5 (some .int) { frames := 3, cells := 0, slots := 0, locals := 55 } (fun g => [.ref (g.1 0), .int a1, .int a2]) s sF (fun _ => some (.int rF)) := by
  refine Ct_of pn_X3 (fun g => Nat.le_of_ble_eq_true rfl) (fun g A X C E hX => ?_)
  rw [tw_leaven] at hf
  show TG tCfg g A 5 X 0 0 s 0 [(0, .ref (g.1 0)), (1, .int a1), (2, .int a2)] []
  refine g_aload_n C dX3_leaven_0 0 rfl ?_
  refine g_getS 1 C oT0 fX3_7 rfl dX3_leaven_1 ?_
  refine g_sipush C dX3_leaven_4 ks_585 ?_
  refine gd_n hf (fun c1 hf => ?_)
  refine g_iald C aT1 rfl c1 dX3_leaven_7 ?_
  refine g_bipush C dX3_leaven_8 kb_60 ?_
  refine g_icmp_ne 15 C dX3_leaven_10 rfl (fun c2 => ?_) (fun c2 => ?_)
  · replace hf := if_t c2 hf
    refine g_iconst C dX3_leaven_13 kc_m1 ?_
    exact g_iret C E rfl (re_i hf) (re_s hf) ⟨Nat.zero_le _, Nat.zero_le _⟩ dX3_leaven_14
  · replace hf := if_f c2 hf
    refine g_sipush C dX3_leaven_15 ks_340 ?_
    refine g_iconst C dX3_leaven_18 kc_4 ?_
    refine g_aload_n C dX3_leaven_19 0 rfl ?_
    refine g_getS 1 C oT0 fX3_7 rfl dX3_leaven_20 ?_
    refine g_sipush C dX3_leaven_23 ks_585 ?_
    refine g_iald C aT1 rfl c1 dX3_leaven_26 ?_
    refine g_imul C dX3_leaven_27 ?_
    refine g_iadd C dX3_leaven_28 ?_
    refine vl_n hf (fun v3 hv3 hf => ?_)
    refine g_istore_n (i := 3) (lv' := [(3, .int v3), (0, .ref (g.1 0)), (1, .int a1), (2, .int a2)]) C dX3_leaven_29 rfl hv3 (by decide) rfl ?_
    refine g_iload_n C dX3_leaven_30 3 rfl ?_
    refine g_iconst C dX3_leaven_31 kc_m1 ?_
    refine vl_n hf (fun j5 hj5 hf => ?_)
    have Hj5 : ∀ (s4 : Sto), j5 s4 = some (rF, sF) → TG tCfg g A 5 X 0 0 s4 178 [(0, .ref (g.1 0))] [] := by
      clear hf; subst hj5
      intro s4 hf
      refine g_aload_n C dX3_leaven_178 0 rfl ?_
      refine g_getS 1 C oT0 fX3_7 rfl dX3_leaven_179 ?_
      refine g_sipush C dX3_leaven_182 ks_585 ?_
      refine g_dup2 C dX3_leaven_185 rfl rfl ?_
      refine g_iald C aT1 rfl c1 dX3_leaven_186 ?_
      refine g_iconst C dX3_leaven_187 kc_1 ?_
      refine g_iadd C dX3_leaven_188 ?_
      refine vl_n hf (fun s6 hs6 hf => ?_)
      refine g_iast C aT1 rfl c1 hs6 dX3_leaven_189 ?_
      refine g_aload_n C dX3_leaven_190 0 rfl ?_
      refine g_getS 1 C oT0 fX3_7 rfl dX3_leaven_191 ?_
      refine g_sipush C dX3_leaven_194 ks_585 ?_
      refine g_iald C aT1 rfl c1 dX3_leaven_197 ?_
      refine g_iconst C dX3_leaven_198 kc_1 ?_
      refine g_isub C dX3_leaven_199 ?_
      exact g_iret C E rfl (re_i hf) (re_s hf) ⟨Nat.zero_le _, Nat.zero_le _⟩ dX3_leaven_200
    clear hj5
    refine g_icmp_ne 82 C dX3_leaven_32 rfl (fun c7 => ?_) (fun c7 => ?_)
    · replace hf := if_t c7 hf
      refine g_aload_n C dX3_leaven_35 1 rfl ?_
      refine g_iload_n C dX3_leaven_36 2 rfl ?_
      refine bd_n hf (fun r8 s9 h10 hf => ?_)
      refine g_callV0 (As := [.int a1]) (rest := []) (stk := [.int (bI r8)]) C (w_tw_isHouse h10) hX oT0 rfl rfl q1260 q1262 qs62 q91 q1263 mdX3_isHouse rfl ⟨Nat.le_of_ble_eq_true rfl, Nat.le_of_ble_eq_true rfl⟩ (Nat.le_of_ble_eq_true rfl) dX3_leaven_37 rfl ?_
      refine g_ifZ_ne 45 C dX3_leaven_40 rfl (fun c11 => ?_) (fun c11 => ?_)
      · replace hf := if_t c11 hf
        refine g_aload_n C dX3_leaven_45 1 rfl ?_
        refine g_getS 1 C oT0 fX3_7 rfl dX3_leaven_46 ?_
        refine g_iload_n C dX3_leaven_49 0 rfl ?_
        refine g_iconst C dX3_leaven_50 kc_m1 ?_
        refine gd_n hf (fun c12 hf => ?_)
        refine vl_n hf (fun s13 hs13 hf => ?_)
        refine g_iast C aT1 rfl c12 hs13 dX3_leaven_51 ?_
        refine g_aload_n C dX3_leaven_52 1 rfl ?_
        refine g_getS 1 C oT0 fX3_7 rfl dX3_leaven_53 ?_
        refine g_iload_n C dX3_leaven_56 0 rfl ?_
        refine g_iconst C dX3_leaven_57 kc_1 ?_
        refine g_iadd C dX3_leaven_58 ?_
        refine g_iconst C dX3_leaven_59 kc_m1 ?_
        refine gd_n hf (fun c14 hf => ?_)
        refine vl_n hf (fun s15 hs15 hf => ?_)
        refine g_iast C aT1 rfl c14 hs15 dX3_leaven_60 ?_
        refine g_aload_n C dX3_leaven_61 1 rfl ?_
        refine g_getS 1 C oT0 fX3_7 rfl dX3_leaven_62 ?_
        refine g_iload_n C dX3_leaven_65 0 rfl ?_
        refine g_iconst C dX3_leaven_66 kc_2 ?_
        refine g_iadd C dX3_leaven_67 ?_
        refine g_iload_n C dX3_leaven_68 2 rfl ?_
        refine gd_n hf (fun c16 hf => ?_)
        refine vl_n hf (fun s17 hs17 hf => ?_)
        refine g_iast C aT1 rfl c16 hs17 dX3_leaven_69 ?_
        refine g_aload_n C dX3_leaven_70 1 rfl ?_
        refine g_getS 1 C oT0 fX3_7 rfl dX3_leaven_71 ?_
        refine g_iload_n C dX3_leaven_74 0 rfl ?_
        refine g_iconst C dX3_leaven_75 kc_3 ?_
        refine g_iadd C dX3_leaven_76 ?_
        refine g_iconst C dX3_leaven_77 kc_0 ?_
        refine gd_n hf (fun c18 hf => ?_)
        refine vl_n hf (fun s19 hs19 hf => ?_)
        refine g_iast C aT1 rfl c18 hs19 dX3_leaven_78 ?_
        refine g_goto 178 C dX3_leaven_79 rfl ?_
        exact g_sub [1] rfl (Hj5 _ hf)
      · replace hf := if_f c11 hf
        refine g_iconst C dX3_leaven_43 kc_m1 ?_
        exact g_iret C E rfl (re_i hf) (re_s hf) ⟨Nat.zero_le _, Nat.zero_le _⟩ dX3_leaven_44
    · replace hf := if_f c7 hf
      refine g_aload_n C dX3_leaven_82 1 rfl ?_
      refine g_iload_n C dX3_leaven_83 2 rfl ?_
      refine bd_n hf (fun r20 s21 h22 hf => ?_)
      refine g_callV0 (As := [.int a1]) (rest := []) (stk := [.int (bI r20)]) C (w_tw_isLeaven h22) hX oT0 rfl rfl q1392 q1394 qs82 q91 q1395 mdX3_isLeaven rfl ⟨Nat.le_of_ble_eq_true rfl, Nat.le_of_ble_eq_true rfl⟩ (Nat.le_of_ble_eq_true rfl) dX3_leaven_84 rfl ?_
      refine g_ifZ_eq 98 C dX3_leaven_87 rfl (fun c23 => ?_) (fun c23 => ?_)
      · replace hf := if_t c23 hf
        refine g_aload_n C dX3_leaven_90 1 rfl ?_
        refine g_iload_n C dX3_leaven_91 3 rfl ?_
        refine bd_n hf (fun r24 s25 h26 hf => ?_)
        refine g_callV0 (As := [.int a2]) (rest := []) (stk := [.int (bI r24)]) C (w_tw_isLeaven h26) hX oT0 rfl rfl q1392 q1394 qs82 q91 q1395 mdX3_isLeaven rfl ⟨Nat.le_of_ble_eq_true rfl, Nat.le_of_ble_eq_true rfl⟩ (Nat.le_of_ble_eq_true rfl) dX3_leaven_92 rfl ?_
        refine g_ifZ_ne 100 C dX3_leaven_95 rfl (fun c27 => ?_) (fun c27 => ?_)
        · replace hf := if_t c27 hf
          refine g_iconst C dX3_leaven_100 kc_1 ?_
          refine g_aload_n C dX3_leaven_101 1 rfl ?_
          refine g_iload_n C dX3_leaven_102 2 rfl ?_
          refine g_iconst C dX3_leaven_103 kc_3 ?_
          refine bd_n hf (fun r28 s29 h30 hf => ?_)
          refine g_callV0 (As := [.int a1, .int (3 : Int32)]) (rest := [.int (1 : Int32)]) (stk := [.int r28, .int (1 : Int32)]) C (w_tw_ofLeaven h30) hX oT0 rfl rfl q1396 q1398 qs83 q91 q1399 mdX3_ofLeaven rfl ⟨Nat.le_of_ble_eq_true rfl, Nat.le_of_ble_eq_true rfl⟩ (Nat.le_of_ble_eq_true rfl) dX3_leaven_104 rfl ?_
          refine g_aload_n C dX3_leaven_107 1 rfl ?_
          refine g_iload_n C dX3_leaven_108 3 rfl ?_
          refine g_iconst C dX3_leaven_109 kc_3 ?_
          refine bd_n hf (fun r31 s32 h33 hf => ?_)
          refine g_callV0 (As := [.int a2, .int (3 : Int32)]) (rest := [.int r28, .int (1 : Int32)]) (stk := [.int r31, .int r28, .int (1 : Int32)]) C (w_tw_ofLeaven h33) hX oT0 rfl rfl q1396 q1398 qs83 q91 q1399 mdX3_ofLeaven rfl ⟨Nat.le_of_ble_eq_true rfl, Nat.le_of_ble_eq_true rfl⟩ (Nat.le_of_ble_eq_true rfl) dX3_leaven_110 rfl ?_
          refine vl_n hf (fun j36 hj36 hf => ?_)
          have Hj36 : ∀ (s34 : Sto) (t35 : Int32), j36 s34 t35 = some (rF, sF) → TG tCfg g A 5 X 0 0 s34 131 [(0, .ref (g.1 0)), (1, .int a1), (2, .int a2), (3, .int v3)] [.int t35, .int (1 : Int32)] := by
            clear hf; subst hj36
            intro s34 t35 hf
            refine g_iadd C dX3_leaven_131 ?_
            refine vl_n hf (fun v37 hv37 hf => ?_)
            refine g_istore (i := 4) (lv' := [(4, .int v37), (0, .ref (g.1 0)), (1, .int a1), (2, .int a2), (3, .int v3)]) C dX3_leaven_132 hv37 (by decide) rfl ?_
            refine g_iload C dX3_leaven_134 0 rfl ?_
            refine g_bipush C dX3_leaven_136 kb_30 ?_
            refine g_icmp_le 143 C dX3_leaven_138 rfl (fun c38 => ?_) (fun c38 => ?_)
            · replace hf := if_t c38 hf
              refine g_aload_n C dX3_leaven_143 1 rfl ?_
              refine g_getS 1 C oT0 fX3_7 rfl dX3_leaven_144 ?_
              refine g_iload_n C dX3_leaven_147 4 rfl ?_
              refine g_iload_n C dX3_leaven_148 2 rfl ?_
              refine gd_n hf (fun c39 hf => ?_)
              refine vl_n hf (fun s40 hs40 hf => ?_)
              refine g_iast C aT1 rfl c39 hs40 dX3_leaven_149 ?_
              refine g_aload_n C dX3_leaven_150 1 rfl ?_
              refine g_getS 1 C oT0 fX3_7 rfl dX3_leaven_151 ?_
              refine g_iload_n C dX3_leaven_154 4 rfl ?_
              refine g_iconst C dX3_leaven_155 kc_1 ?_
              refine g_iadd C dX3_leaven_156 ?_
              refine g_iload_n C dX3_leaven_157 3 rfl ?_
              refine gd_n hf (fun c41 hf => ?_)
              refine vl_n hf (fun s42 hs42 hf => ?_)
              refine g_iast C aT1 rfl c41 hs42 dX3_leaven_158 ?_
              refine g_aload_n C dX3_leaven_159 1 rfl ?_
              refine g_getS 1 C oT0 fX3_7 rfl dX3_leaven_160 ?_
              refine g_iload_n C dX3_leaven_163 4 rfl ?_
              refine g_iconst C dX3_leaven_164 kc_2 ?_
              refine g_iadd C dX3_leaven_165 ?_
              refine g_iconst C dX3_leaven_166 kc_m1 ?_
              refine gd_n hf (fun c43 hf => ?_)
              refine vl_n hf (fun s44 hs44 hf => ?_)
              refine g_iast C aT1 rfl c43 hs44 dX3_leaven_167 ?_
              refine g_aload_n C dX3_leaven_168 1 rfl ?_
              refine g_getS 1 C oT0 fX3_7 rfl dX3_leaven_169 ?_
              refine g_iload_n C dX3_leaven_172 4 rfl ?_
              refine g_iconst C dX3_leaven_173 kc_3 ?_
              refine g_iadd C dX3_leaven_174 ?_
              refine g_iload C dX3_leaven_175 0 rfl ?_
              refine gd_n hf (fun c45 hf => ?_)
              refine vl_n hf (fun s46 hs46 hf => ?_)
              refine g_iast C aT1 rfl c45 hs46 dX3_leaven_177 ?_
              exact g_sub [1] rfl (Hj5 _ hf)
            · replace hf := if_f c38 hf
              refine g_iconst C dX3_leaven_141 kc_m1 ?_
              exact g_iret C E rfl (re_i hf) (re_s hf) ⟨Nat.zero_le _, Nat.zero_le _⟩ dX3_leaven_142
          clear hj36
          refine g_icmp_le 125 C dX3_leaven_113 rfl (fun c47 => ?_) (fun c47 => ?_)
          · replace hf := if_t c47 hf
            refine g_aload_n C dX3_leaven_125 1 rfl ?_
            refine g_iload_n C dX3_leaven_126 3 rfl ?_
            refine g_iconst C dX3_leaven_127 kc_3 ?_
            refine bd_n hf (fun r48 s49 h50 hf => ?_)
            refine g_callV0 (As := [.int a2, .int (3 : Int32)]) (rest := [.int (1 : Int32)]) (stk := [.int r48, .int (1 : Int32)]) C (w_tw_ofLeaven h50) hX oT0 rfl rfl q1396 q1398 qs83 q91 q1399 mdX3_ofLeaven rfl ⟨Nat.le_of_ble_eq_true rfl, Nat.le_of_ble_eq_true rfl⟩ (Nat.le_of_ble_eq_true rfl) dX3_leaven_128 rfl ?_
            exact g_sub [1, 2, 3, 0] rfl (Hj36 _ _ hf)
          · replace hf := if_f c47 hf
            refine g_aload_n C dX3_leaven_116 1 rfl ?_
            refine g_iload_n C dX3_leaven_117 2 rfl ?_
            refine g_iconst C dX3_leaven_118 kc_3 ?_
            refine bd_n hf (fun r51 s52 h53 hf => ?_)
            refine g_callV0 (As := [.int a1, .int (3 : Int32)]) (rest := [.int (1 : Int32)]) (stk := [.int r51, .int (1 : Int32)]) C (w_tw_ofLeaven h53) hX oT0 rfl rfl q1396 q1398 qs83 q91 q1399 mdX3_ofLeaven rfl ⟨Nat.le_of_ble_eq_true rfl, Nat.le_of_ble_eq_true rfl⟩ (Nat.le_of_ble_eq_true rfl) dX3_leaven_119 rfl ?_
            refine g_goto 131 C dX3_leaven_122 rfl ?_
            exact g_sub [1, 2, 3, 0] rfl (Hj36 _ _ hf)
        · replace hf := if_f c27 hf
          refine g_iconst C dX3_leaven_98 kc_m1 ?_
          exact g_iret C E rfl (re_i hf) (re_s hf) ⟨Nat.zero_le _, Nat.zero_le _⟩ dX3_leaven_99
      · replace hf := if_f c23 hf
        refine g_iconst C dX3_leaven_98 kc_m1 ?_
        exact g_iret C E rfl (re_i hf) (re_s hf) ⟨Nat.zero_le _, Nat.zero_le _⟩ dX3_leaven_99
def tw_laysParts_L2 (n : Nat) (v2 : Int32) : Nat → Sto → Int32 → Option (Unit × Sto)
  | 0, _, _ => none
  | k + 1, s1, v3 =>
    gd (inb (585 : Int32) 1480) <|
    if (rd s1 1 (585 : Int32)) ≤ v3 then
      some ((), s1)
    else
      bd (tw_ofLeaven n s1 v3 (0 : Int32)) fun r6 s7 =>
      bd (tw_ofLeaven n s7 v3 (1 : Int32)) fun r9 s10 =>
      bd (tw_ofLeaven n s10 v3 (3 : Int32)) fun r12 s13 =>
      vl (fun (t15 : Int64) =>
        gd (inb v3 60) <|
        vl (wrL s13 16 v3 t15) fun s18 =>
        vl (fun (s19 : Sto) =>
          tw_laysParts_L2 n v2 k s19 (v3 + (1 : Int32))) fun j20 =>
        if v3 = v2 then
          j20 s18
        else
          if r6 = (-1 : Int32) then
            j20 s18
          else
            gd (inb r6 60) <|
            bd (tw_ofLeaven n s18 r6 (3 : Int32)) fun r24 s25 =>
            gd (inb r9 60) <|
            bd (tw_ofLeaven n s25 r9 (3 : Int32)) fun r28 s29 =>
            vl (wrL s29 16 v3 ((lshl (rdL s18 16 r6) ((r12 - (1 : Int32)) - r24)) + (lshl (rdL s25 16 r9) ((r12 - (1 : Int32)) - r28)))) fun s31 =>
            j20 s31) fun j16 =>
      if v3 = v2 then
        j16 (lshl (1 : Int64) r12)
      else
        j16 (0 : Int64)
def tw_laysParts (n : Nat) (s : Sto) (a1 : Int32) : Option (Unit × Sto) :=
  tw_laysParts_L2 n a1
      n s (0 : Int32)
theorem w_tw_laysParts_L2  {l : Launch} {n : Nat} {v2 : Int32} {g : Gam} {A : Nat → Prop} {X : FX} {si sF : Sto} {rF : Unit} (C : CX tCfg g A 6 X cX3_laysParts RX3 none 2 34) (E : EX tCfg g A X si sF none 0 0) (hX : X.2.1 = l) : ∀ (k : Nat) (s1 : Sto) (v3 : Int32), tw_laysParts_L2 n v2 k s1 v3 = some (rF, sF) → TG tCfg g A 6 X 0 0 s1 2 [(0, .ref (g.1 0)), (1, .int v2), (2, .int v3)] [] := by
  intro k
  induction k with
  | zero => intro s1 v3 hf; rw [tw_laysParts_L2] at hf; cases hf
  | succ k ih =>
    intro s1 v3 hf
    rw [tw_laysParts_L2] at hf
    refine g_iload_n C dX3_laysParts_2 2 rfl ?_
    refine g_aload_n C dX3_laysParts_3 0 rfl ?_
    refine g_getS 1 C oT0 fX3_7 rfl dX3_laysParts_4 ?_
    refine g_sipush C dX3_laysParts_7 ks_585 ?_
    refine gd_n hf (fun c4 hf => ?_)
    refine g_iald C aT1 rfl c4 dX3_laysParts_10 ?_
    refine g_icmp_ge 120 C dX3_laysParts_11 rfl (fun c5 => ?_) (fun c5 => ?_)
    · replace hf := if_t c5 hf
      exact g_vret C E rfl (re_s hf) ⟨Nat.zero_le _, Nat.zero_le _⟩ dX3_laysParts_120
    · replace hf := if_f c5 hf
      refine g_aload_n C dX3_laysParts_14 0 rfl ?_
      refine g_iload_n C dX3_laysParts_15 2 rfl ?_
      refine g_iconst C dX3_laysParts_16 kc_0 ?_
      refine bd_n hf (fun r6 s7 h8 hf => ?_)
      refine g_callV0 (As := [.int v3, .int (0 : Int32)]) (rest := []) (stk := [.int r6]) C (w_tw_ofLeaven h8) hX oT0 rfl rfl q1396 q1398 qs83 q91 q1399 mdX3_ofLeaven rfl ⟨Nat.le_of_ble_eq_true rfl, Nat.le_of_ble_eq_true rfl⟩ (Nat.le_of_ble_eq_true rfl) dX3_laysParts_17 rfl ?_
      refine g_istore_n (i := 3) (lv' := [(3, .int r6), (0, .ref (g.1 0)), (1, .int v2), (2, .int v3)]) C dX3_laysParts_20 rfl rfl (by decide) rfl ?_
      refine g_aload_n C dX3_laysParts_21 1 rfl ?_
      refine g_iload_n C dX3_laysParts_22 3 rfl ?_
      refine g_iconst C dX3_laysParts_23 kc_1 ?_
      refine bd_n hf (fun r9 s10 h11 hf => ?_)
      refine g_callV0 (As := [.int v3, .int (1 : Int32)]) (rest := []) (stk := [.int r9]) C (w_tw_ofLeaven h11) hX oT0 rfl rfl q1396 q1398 qs83 q91 q1399 mdX3_ofLeaven rfl ⟨Nat.le_of_ble_eq_true rfl, Nat.le_of_ble_eq_true rfl⟩ (Nat.le_of_ble_eq_true rfl) dX3_laysParts_24 rfl ?_
      refine g_istore (i := 4) (lv' := [(4, .int r9), (3, .int r6), (0, .ref (g.1 0)), (1, .int v2), (2, .int v3)]) C dX3_laysParts_27 rfl (by decide) rfl ?_
      refine g_aload_n C dX3_laysParts_29 2 rfl ?_
      refine g_iload_n C dX3_laysParts_30 4 rfl ?_
      refine g_iconst C dX3_laysParts_31 kc_3 ?_
      refine bd_n hf (fun r12 s13 h14 hf => ?_)
      refine g_callV0 (As := [.int v3, .int (3 : Int32)]) (rest := []) (stk := [.int r12]) C (w_tw_ofLeaven h14) hX oT0 rfl rfl q1396 q1398 qs83 q91 q1399 mdX3_ofLeaven rfl ⟨Nat.le_of_ble_eq_true rfl, Nat.le_of_ble_eq_true rfl⟩ (Nat.le_of_ble_eq_true rfl) dX3_laysParts_32 rfl ?_
      refine g_istore (i := 5) (lv' := [(5, .int r12), (4, .int r9), (3, .int r6), (0, .ref (g.1 0)), (1, .int v2), (2, .int v3)]) C dX3_laysParts_35 rfl (by decide) rfl ?_
      refine g_aload_n C dX3_laysParts_37 3 rfl ?_
      refine g_getS 16 C oT0 fX3_59 rfl dX3_laysParts_38 ?_
      refine g_iload_n C dX3_laysParts_41 5 rfl ?_
      refine g_iload_n C dX3_laysParts_42 5 rfl ?_
      refine g_iload_n C dX3_laysParts_43 4 rfl ?_
      refine vl_n hf (fun j16 hj16 hf => ?_)
      have Hj16 : ∀ (t15 : Int64), j16 t15 = some (rF, sF) → TG tCfg g A 6 X 0 0 s13 55 [(0, .ref (g.1 0)), (1, .int v2), (2, .int v3), (3, .int r6), (4, .int r9), (5, .int r12)] [.long t15, .int v3, .ref (g.1 16)] := by
        clear hf; subst hj16
        intro t15 hf
        refine gd_n hf (fun c17 hf => ?_)
        refine vl_n hf (fun s18 hs18 hf => ?_)
        refine g_last C aT16 rfl c17 hs18 dX3_laysParts_55 ?_
        refine g_iload_n C dX3_laysParts_56 2 rfl ?_
        refine g_iload_n C dX3_laysParts_57 1 rfl ?_
        refine vl_n hf (fun j20 hj20 hf => ?_)
        have Hj20 : ∀ (s19 : Sto), j20 s19 = some (rF, sF) → TG tCfg g A 6 X 0 0 s19 114 [(0, .ref (g.1 0)), (1, .int v2), (2, .int v3)] [] := by
          clear hf; subst hj20
          intro s19 hf
          refine g_iinc (q := 2) (lv' := [(2, .int (v3 + (1 : Int32))), (0, .ref (g.1 0)), (1, .int v2)]) C dX3_laysParts_114 rfl kc_1 (by decide) rfl ?_
          refine g_goto 2 C dX3_laysParts_117 rfl ?_
          exact g_sub [1, 2, 0] rfl (ih _ _ hf)
        clear hj20
        refine g_icmp_eq 114 C dX3_laysParts_58 rfl (fun c21 => ?_) (fun c21 => ?_)
        · replace hf := if_t c21 hf
          exact g_sub [0, 1, 2] rfl (Hj20 _ hf)
        · replace hf := if_f c21 hf
          refine g_iload_n C dX3_laysParts_61 3 rfl ?_
          refine g_iconst C dX3_laysParts_62 kc_m1 ?_
          refine g_icmp_ne 69 C dX3_laysParts_63 rfl (fun c22 => ?_) (fun c22 => ?_)
          · replace hf := if_t c22 hf
            refine g_goto 114 C dX3_laysParts_66 rfl ?_
            exact g_sub [0, 1, 2] rfl (Hj20 _ hf)
          · replace hf := if_f c22 hf
            refine g_aload_n C dX3_laysParts_69 0 rfl ?_
            refine g_getS 16 C oT0 fX3_59 rfl dX3_laysParts_70 ?_
            refine g_iload_n C dX3_laysParts_73 2 rfl ?_
            refine g_aload_n C dX3_laysParts_74 0 rfl ?_
            refine g_getS 16 C oT0 fX3_59 rfl dX3_laysParts_75 ?_
            refine g_iload_n C dX3_laysParts_78 3 rfl ?_
            refine gd_n hf (fun c23 hf => ?_)
            refine g_lald C aT16 rfl c23 dX3_laysParts_79 ?_
            refine g_iload C dX3_laysParts_80 5 rfl ?_
            refine g_iconst C dX3_laysParts_82 kc_1 ?_
            refine g_isub C dX3_laysParts_83 ?_
            refine g_aload_n C dX3_laysParts_84 0 rfl ?_
            refine g_iload_n C dX3_laysParts_85 3 rfl ?_
            refine g_iconst C dX3_laysParts_86 kc_3 ?_
            refine bd_n hf (fun r24 s25 h26 hf => ?_)
            refine g_callV0 (As := [.int r6, .int (3 : Int32)]) (rest := [.int (r12 - (1 : Int32)), .long (rdL s18 16 r6), .int v3, .ref (g.1 16)]) (stk := [.int r24, .int (r12 - (1 : Int32)), .long (rdL s18 16 r6), .int v3, .ref (g.1 16)]) C (w_tw_ofLeaven h26) hX oT0 rfl rfl q1396 q1398 qs83 q91 q1399 mdX3_ofLeaven rfl ⟨Nat.le_of_ble_eq_true rfl, Nat.le_of_ble_eq_true rfl⟩ (Nat.le_of_ble_eq_true rfl) dX3_laysParts_87 rfl ?_
            refine g_isub C dX3_laysParts_90 ?_
            refine g_lshl C dX3_laysParts_91 ?_
            refine g_aload_n C dX3_laysParts_92 0 rfl ?_
            refine g_getS 16 C oT0 fX3_59 rfl dX3_laysParts_93 ?_
            refine g_iload C dX3_laysParts_96 4 rfl ?_
            refine gd_n hf (fun c27 hf => ?_)
            refine g_lald C aT16 rfl c27 dX3_laysParts_98 ?_
            refine g_iload C dX3_laysParts_99 5 rfl ?_
            refine g_iconst C dX3_laysParts_101 kc_1 ?_
            refine g_isub C dX3_laysParts_102 ?_
            refine g_aload_n C dX3_laysParts_103 0 rfl ?_
            refine g_iload C dX3_laysParts_104 4 rfl ?_
            refine g_iconst C dX3_laysParts_106 kc_3 ?_
            refine bd_n hf (fun r28 s29 h30 hf => ?_)
            refine g_callV0 (As := [.int r9, .int (3 : Int32)]) (rest := [.int (r12 - (1 : Int32)), .long (rdL s25 16 r9), .long (lshl (rdL s18 16 r6) ((r12 - (1 : Int32)) - r24)), .int v3, .ref (g.1 16)]) (stk := [.int r28, .int (r12 - (1 : Int32)), .long (rdL s25 16 r9), .long (lshl (rdL s18 16 r6) ((r12 - (1 : Int32)) - r24)), .int v3, .ref (g.1 16)]) C (w_tw_ofLeaven h30) hX oT0 rfl rfl q1396 q1398 qs83 q91 q1399 mdX3_ofLeaven rfl ⟨Nat.le_of_ble_eq_true rfl, Nat.le_of_ble_eq_true rfl⟩ (Nat.le_of_ble_eq_true rfl) dX3_laysParts_107 rfl ?_
            refine g_isub C dX3_laysParts_110 ?_
            refine g_lshl C dX3_laysParts_111 ?_
            refine g_ladd C dX3_laysParts_112 ?_
            refine vl_n hf (fun s31 hs31 hf => ?_)
            refine g_last C aT16 rfl c17 hs31 dX3_laysParts_113 ?_
            exact g_sub [0, 1, 2] rfl (Hj20 _ hf)
      clear hj16
      refine g_icmp_ne 54 C dX3_laysParts_44 rfl (fun c32 => ?_) (fun c32 => ?_)
      · replace hf := if_t c32 hf
        refine g_lconst C dX3_laysParts_47 kl_1 ?_
        refine g_iload C dX3_laysParts_48 0 rfl ?_
        refine g_lshl C dX3_laysParts_50 ?_
        refine g_goto 55 C dX3_laysParts_51 rfl ?_
        exact g_sub [3, 4, 5, 2, 1, 0] rfl (Hj16 _ hf)
      · replace hf := if_f c32 hf
        refine g_lconst C dX3_laysParts_54 kl_0 ?_
        exact g_sub [3, 4, 5, 2, 1, 0] rfl (Hj16 _ hf)
theorem w_tw_laysParts {l : Launch} {n : Nat} {s sF : Sto} {a1 : Int32} {rF : Unit} (hf : tw_laysParts n s a1 = some (rF, sF)) : Ct tCfg l yX3_laysParts cX3_laysParts 6 none { frames := 2, cells := 0, slots := 0, locals := 34 } (fun g => [.ref (g.1 0), .int a1]) s sF (fun _ => none) := by
  refine Ct_of pn_X3 (fun g => Nat.le_of_ble_eq_true rfl) (fun g A X C E hX => ?_)
  rw [tw_laysParts] at hf
  show TG tCfg g A 6 X 0 0 s 0 [(0, .ref (g.1 0)), (1, .int a1)] []
  refine g_iconst C dX3_laysParts_0 kc_0 ?_
  refine g_istore_n (i := 2) (lv' := [(2, .int (0 : Int32)), (0, .ref (g.1 0)), (1, .int a1)]) C dX3_laysParts_1 rfl rfl (by decide) rfl ?_
  refine g_sub [1, 2, 0] rfl (w_tw_laysParts_L2 C E hX _ _ _ hf)
def tw_part_L69 (n : Nat) (v28 : Int32) (k34 : Sto → Int64 → Int64 → Option (Int32 × Sto)) : Nat → Sto → Int64 → Int64 → Option (Int32 × Sto)
  | 0, _, _, _ => none
  | k + 1, s27, v29, v30 =>
    gd (decide (¬ (2 : Int64) = 0)) <|
    if (lg_cmp (lrem v29 (2 : Int64)) (0 : Int64)) = 0 then
      if (lg_cmp v30 (1 : Int64)) ≤ 0 then
        k34 s27 v29 v30
      else
        vl (v29 / (2 : Int64)) fun v38 =>
        vl (v30 / (2 : Int64)) fun v39 =>
        tw_part_L69 n v28 k34 k s27 v38 v39
    else
      k34 s27 v29 v30
def tw_part (n : Nat) (s : Sto) (a1 : Int32) (a2 : Int32) (a3 : Int32) : Option (Int32 × Sto) :=
  bd (tw_isLeaven n s a1) fun r1 s2 =>
  if r1 = true then
    bd (tw_isLeaven n s2 a2) fun r5 s6 =>
    if r5 = true then
      bd (tw_ofLeaven n s6 a2 (0 : Int32)) fun r9 s10 =>
      if r9 = (-1 : Int32) then
        bd (tw_isIn n s10 a3 (0 : Int32) (1 : Int32)) fun r13 s14 =>
        if r13 = true then
          bd (tw_laysParts n s14 a2) fun r17 s18 =>
          gd (inb a1 60) <|
          vl (rdL s18 16 a1) fun v21 =>
          bd (tw_ofLeaven n s18 a1 (3 : Int32)) fun r22 s23 =>
          vl (lshl (1 : Int64) r22) fun v25 =>
          if (lg_cmp v21 (0 : Int64)) = 0 then
            some (a3, s23)
          else
            tw_part_L69 n a3
                (fun (s31 : Sto) (v32 : Int64) (v33 : Int64) =>
                  if a3 = 0 then
                    some ((Int64.toInt32 v32), s31)
                  else
                    some ((Int64.toInt32 v33), s31))
                n s23 v21 v25
        else
          some ((-1 : Int32), s14)
      else
        some ((-1 : Int32), s10)
    else
      some ((-1 : Int32), s6)
  else
    some ((-1 : Int32), s2)
theorem w_tw_part_L69  {l : Launch} {n : Nat} {v28 : Int32} {k34 : Sto → Int64 → Int64 → Option (Int32 × Sto)} {g : Gam} {A : Nat → Prop} {X : FX} {si sF : Sto} {rF : Int32} (C : CX tCfg g A 8 X cX3_part RX3 (some .int) 3 59) (E : EX tCfg g A X si sF (some (.int rF)) 0 0) (hX : X.2.1 = l) (Hk34 : ∀ (s31 : Sto) (v32 : Int64) (v33 : Int64), k34 s31 v32 v33 = some (rF, sF) → TG tCfg g A 8 X 0 0 s31 106 [(3, .int v28), (4, .long v32), (6, .long v33)] []) : ∀ (k : Nat) (s27 : Sto) (v29 : Int64) (v30 : Int64), tw_part_L69 n v28 k34 k s27 v29 v30 = some (rF, sF) → TG tCfg g A 8 X 0 0 s27 69 [(3, .int v28), (4, .long v29), (6, .long v30)] [] := by
  intro k
  induction k with
  | zero => intro s27 v29 v30 hf; rw [tw_part_L69] at hf; cases hf
  | succ k ih =>
    intro s27 v29 v30 hf
    rw [tw_part_L69] at hf
    refine g_lload C dX3_part_69 1 rfl ?_
    refine g_ldc2 C dX3_part_71 q1408 ?_
    refine gd_n hf (fun c35 hf => ?_)
    refine g_lrem C dX3_part_74 c35 ?_
    refine g_lconst C dX3_part_75 kl_0 ?_
    refine g_lcmp C dX3_part_76 ?_
    refine g_if_ne 106 C dX3_part_77 rfl (fun c36 => ?_) (fun c36 => ?_)
    · replace hf := if_t c36 hf
      refine g_lload C dX3_part_80 2 rfl ?_
      refine g_lconst C dX3_part_82 kl_1 ?_
      refine g_lcmp C dX3_part_83 ?_
      refine g_if_le 106 C dX3_part_84 rfl (fun c37 => ?_) (fun c37 => ?_)
      · replace hf := if_t c37 hf
        exact g_sub [0, 1, 2] rfl (Hk34 _ _ _ hf)
      · replace hf := if_f c37 hf
        refine g_lload C dX3_part_87 1 rfl ?_
        refine g_ldc2 C dX3_part_89 q1408 ?_
        refine g_ldiv C dX3_part_92 c35 ?_
        refine vl_n hf (fun v38 hv38 hf => ?_)
        refine g_lstore (i := 4) (lv' := [(4, .long v38), (3, .int v28), (6, .long v30)]) C dX3_part_93 hv38 (by decide) rfl ?_
        refine g_lload C dX3_part_95 2 rfl ?_
        refine g_ldc2 C dX3_part_97 q1408 ?_
        refine g_ldiv C dX3_part_100 c35 ?_
        refine vl_n hf (fun v39 hv39 hf => ?_)
        refine g_lstore (i := 6) (lv' := [(6, .long v39), (4, .long v38), (3, .int v28)]) C dX3_part_101 hv39 (by decide) rfl ?_
        refine g_goto 69 C dX3_part_103 rfl ?_
        exact g_sub [2, 1, 0] rfl (ih _ _ _ hf)
    · replace hf := if_f c36 hf
      exact g_sub [0, 1, 2] rfl (Hk34 _ _ _ hf)
theorem w_tw_part {l : Launch} {n : Nat} {s sF : Sto} {a1 : Int32} {a2 : Int32} {a3 : Int32} {rF : Int32} (hf : tw_part n s a1 a2 a3 = some (rF, sF)) : Ct tCfg l yX3_part cX3_part 8 (some .int) { frames := 3, cells := 0, slots := 0, locals := 59 } (fun g => [.ref (g.1 0), .int a1, .int a2, .int a3]) s sF (fun _ => some (.int rF)) := by
  refine Ct_of pn_X3 (fun g => Nat.le_of_ble_eq_true rfl) (fun g A X C E hX => ?_)
  rw [tw_part] at hf
  show TG tCfg g A 8 X 0 0 s 0 [(0, .ref (g.1 0)), (1, .int a1), (2, .int a2), (3, .int a3)] []
  refine g_aload_n C dX3_part_0 0 rfl ?_
  refine g_iload_n C dX3_part_1 1 rfl ?_
  refine bd_n hf (fun r1 s2 h3 hf => ?_)
  refine g_callV0 (As := [.int a1]) (rest := []) (stk := [.int (bI r1)]) C (w_tw_isLeaven h3) hX oT0 rfl rfl q1392 q1394 qs82 q91 q1395 mdX3_isLeaven rfl ⟨Nat.le_of_ble_eq_true rfl, Nat.le_of_ble_eq_true rfl⟩ (Nat.le_of_ble_eq_true rfl) dX3_part_2 rfl ?_
  refine g_ifZ_eq 35 C dX3_part_5 rfl (fun c4 => ?_) (fun c4 => ?_)
  · replace hf := if_t c4 hf
    refine g_aload_n C dX3_part_8 0 rfl ?_
    refine g_iload_n C dX3_part_9 2 rfl ?_
    refine bd_n hf (fun r5 s6 h7 hf => ?_)
    refine g_callV0 (As := [.int a2]) (rest := []) (stk := [.int (bI r5)]) C (w_tw_isLeaven h7) hX oT0 rfl rfl q1392 q1394 qs82 q91 q1395 mdX3_isLeaven rfl ⟨Nat.le_of_ble_eq_true rfl, Nat.le_of_ble_eq_true rfl⟩ (Nat.le_of_ble_eq_true rfl) dX3_part_10 rfl ?_
    refine g_ifZ_eq 35 C dX3_part_13 rfl (fun c8 => ?_) (fun c8 => ?_)
    · replace hf := if_t c8 hf
      refine g_aload_n C dX3_part_16 0 rfl ?_
      refine g_iload_n C dX3_part_17 2 rfl ?_
      refine g_iconst C dX3_part_18 kc_0 ?_
      refine bd_n hf (fun r9 s10 h11 hf => ?_)
      refine g_callV0 (As := [.int a2, .int (0 : Int32)]) (rest := []) (stk := [.int r9]) C (w_tw_ofLeaven h11) hX oT0 rfl rfl q1396 q1398 qs83 q91 q1399 mdX3_ofLeaven rfl ⟨Nat.le_of_ble_eq_true rfl, Nat.le_of_ble_eq_true rfl⟩ (Nat.le_of_ble_eq_true rfl) dX3_part_19 rfl ?_
      refine g_iconst C dX3_part_22 kc_m1 ?_
      refine g_icmp_ne 35 C dX3_part_23 rfl (fun c12 => ?_) (fun c12 => ?_)
      · replace hf := if_t c12 hf
        refine g_iload_n C dX3_part_26 3 rfl ?_
        refine g_iconst C dX3_part_27 kc_0 ?_
        refine g_iconst C dX3_part_28 kc_1 ?_
        refine bd_n hf (fun r13 s14 h15 hf => ?_)
        refine g_callS0 (As := [.int a3, .int (0 : Int32), .int (1 : Int32)]) (rest := []) (stk := [.int (bI r13)]) C (w_tw_isIn h15) hX rfl q1146 q1147 q91 q1148 msX3_isIn rfl ⟨Nat.le_of_ble_eq_true rfl, Nat.le_of_ble_eq_true rfl⟩ (Nat.le_of_ble_eq_true rfl) dX3_part_29 rfl ?_
        refine g_ifZ_ne 37 C dX3_part_32 rfl (fun c16 => ?_) (fun c16 => ?_)
        · replace hf := if_t c16 hf
          refine g_aload_n C dX3_part_37 0 rfl ?_
          refine g_iload_n C dX3_part_38 2 rfl ?_
          refine bd_n hf (fun r17 s18 h19 hf => ?_)
          refine g_callV0 (As := [.int a2]) (rest := []) (stk := []) C (w_tw_laysParts h19) hX oT0 rfl rfl q1404 q1406 qs84 q91 q1407 mdX3_laysParts rfl ⟨Nat.le_of_ble_eq_true rfl, Nat.le_of_ble_eq_true rfl⟩ (Nat.le_of_ble_eq_true rfl) dX3_part_39 rfl ?_
          refine g_aload_n C dX3_part_42 0 rfl ?_
          refine g_getS 16 C oT0 fX3_59 rfl dX3_part_43 ?_
          refine g_iload_n C dX3_part_46 1 rfl ?_
          refine gd_n hf (fun c20 hf => ?_)
          refine g_lald C aT16 rfl c20 dX3_part_47 ?_
          refine vl_n hf (fun v21 hv21 hf => ?_)
          refine g_lstore (i := 4) (lv' := [(4, .long v21), (0, .ref (g.1 0)), (1, .int a1), (2, .int a2), (3, .int a3)]) C dX3_part_48 hv21 (by decide) rfl ?_
          refine g_lconst C dX3_part_50 kl_1 ?_
          refine g_aload_n C dX3_part_51 1 rfl ?_
          refine g_iload_n C dX3_part_52 2 rfl ?_
          refine g_iconst C dX3_part_53 kc_3 ?_
          refine bd_n hf (fun r22 s23 h24 hf => ?_)
          refine g_callV0 (As := [.int a1, .int (3 : Int32)]) (rest := [.long (1 : Int64)]) (stk := [.int r22, .long (1 : Int64)]) C (w_tw_ofLeaven h24) hX oT0 rfl rfl q1396 q1398 qs83 q91 q1399 mdX3_ofLeaven rfl ⟨Nat.le_of_ble_eq_true rfl, Nat.le_of_ble_eq_true rfl⟩ (Nat.le_of_ble_eq_true rfl) dX3_part_54 rfl ?_
          refine g_lshl C dX3_part_57 ?_
          refine vl_n hf (fun v25 hv25 hf => ?_)
          refine g_lstore (i := 6) (lv' := [(6, .long v25), (4, .long v21), (0, .ref (g.1 0)), (1, .int a1), (2, .int a2), (3, .int a3)]) C dX3_part_58 hv25 (by decide) rfl ?_
          refine g_lload C dX3_part_60 1 rfl ?_
          refine g_lconst C dX3_part_62 kl_0 ?_
          refine g_lcmp C dX3_part_63 ?_
          refine g_if_ne 69 C dX3_part_64 rfl (fun c26 => ?_) (fun c26 => ?_)
          · replace hf := if_t c26 hf
            refine g_iload_n C dX3_part_67 5 rfl ?_
            exact g_iret C E rfl (re_i hf) (re_s hf) ⟨Nat.zero_le _, Nat.zero_le _⟩ dX3_part_68
          · replace hf := if_f c26 hf
            refine g_sub [5, 1, 0] rfl (w_tw_part_L69 C E hX (fun s31 v32 v33 hf => ?_) _ _ _ _ hf)
            refine g_iload_n C dX3_part_106 0 rfl ?_
            refine g_if_ne 115 C dX3_part_107 rfl (fun c40 => ?_) (fun c40 => ?_)
            · replace hf := if_t c40 hf
              refine g_lload C dX3_part_110 1 rfl ?_
              refine g_goto 117 C dX3_part_112 rfl ?_
              refine g_l2i C dX3_part_117 ?_
              exact g_iret C E rfl (re_i hf) (re_s hf) ⟨Nat.zero_le _, Nat.zero_le _⟩ dX3_part_118
            · replace hf := if_f c40 hf
              refine g_lload C dX3_part_115 2 rfl ?_
              refine g_l2i C dX3_part_117 ?_
              exact g_iret C E rfl (re_i hf) (re_s hf) ⟨Nat.zero_le _, Nat.zero_le _⟩ dX3_part_118
        · replace hf := if_f c16 hf
          refine g_iconst C dX3_part_35 kc_m1 ?_
          exact g_iret C E rfl (re_i hf) (re_s hf) ⟨Nat.zero_le _, Nat.zero_le _⟩ dX3_part_36
      · replace hf := if_f c12 hf
        refine g_iconst C dX3_part_35 kc_m1 ?_
        exact g_iret C E rfl (re_i hf) (re_s hf) ⟨Nat.zero_le _, Nat.zero_le _⟩ dX3_part_36
    · replace hf := if_f c8 hf
      refine g_iconst C dX3_part_35 kc_m1 ?_
      exact g_iret C E rfl (re_i hf) (re_s hf) ⟨Nat.zero_le _, Nat.zero_le _⟩ dX3_part_36
  · replace hf := if_f c4 hf
    refine g_iconst C dX3_part_35 kc_m1 ?_
    exact g_iret C E rfl (re_i hf) (re_s hf) ⟨Nat.zero_le _, Nat.zero_le _⟩ dX3_part_36
