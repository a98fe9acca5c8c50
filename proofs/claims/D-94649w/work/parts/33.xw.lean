/-! THE COMPONENT's methods: pure functions out of the bytecode, and their walks (printed by gen/comp.py) -/
set_option maxRecDepth 100000
set_option maxHeartbeats 4000000
def xw_firstChange_L2 (n : Nat) (v2 : Nat) : Nat → Sto → Int32 → Option (Int32 × Sto)
  | 0, _, _ => none
  | k + 1, s1, v3 =>
    if (s1.1 0 14) ≤ (v3 + (1 : Int32)) then
      some ((-1 : Int32), s1)
    else
      bd (xw_wouldChange n s1 v2 v3) fun r5 s6 =>
      if r5 = true then
        some (v3, s6)
      else
        xw_firstChange_L2 n v2 k s6 (v3 + (1 : Int32))
def xw_firstChange (n : Nat) (s : Sto) (a1 : Nat) : Option (Int32 × Sto) :=
  xw_firstChange_L2 n a1
      n s (0 : Int32)
theorem w_xw_firstChange_L2  {l : Launch} {n : Nat} {v2 : Nat} {g : Gam} {A : Nat → Prop} {X : FX} {si sF : Sto} {rF : Int32} (C : CX xCfg g A 3 X cX0_firstChange RX0 (some .int) 6 132) (E : EX xCfg g A X si sF (some (.int rF)) 0 0) (hX : X.2.1 = l) : ∀ (k : Nat) (s1 : Sto) (v3 : Int32), xw_firstChange_L2 n v2 k s1 v3 = some (rF, sF) → TG xCfg g A 3 X 0 0 s1 2 [(0, .ref (g.1 0)), (1, .ref (g.1 v2)), (2, .int v3)] [] := by
  intro k
  induction k with
  | zero => intro s1 v3 hf; rw [xw_firstChange_L2] at hf; cases hf
  | succ k ih =>
    intro s1 v3 hf
    rw [xw_firstChange_L2] at hf
    refine g_iload_n C dX0_firstChange_2 2 rfl ?_
    refine g_iconst C dX0_firstChange_3 kc_1 ?_
    refine g_iadd C dX0_firstChange_4 ?_
    refine g_aload_n C dX0_firstChange_5 0 rfl ?_
    refine g_getI C oX0 fX0_325 dX0_firstChange_6 ?_
    refine g_icmp_ge 29 C dX0_firstChange_9 rfl (fun c4 => ?_) (fun c4 => ?_)
    · replace hf := if_t c4 hf
      refine g_iconst C dX0_firstChange_29 kc_m1 ?_
      exact g_iret C E rfl (re_i hf) (re_s hf) ⟨Nat.zero_le _, Nat.zero_le _⟩ dX0_firstChange_30
    · replace hf := if_f c4 hf
      refine g_aload_n C dX0_firstChange_12 0 rfl ?_
      refine g_aload_n C dX0_firstChange_13 1 rfl ?_
      refine g_iload_n C dX0_firstChange_14 2 rfl ?_
      refine bd_n hf (fun r5 s6 h7 hf => ?_)
      refine g_callV0 (As := [.ref (g.1 v2), .int v3]) (rest := []) (stk := [.int (bI r5)]) C (w_xw_wouldChange h7) hX oX0 rfl rfl q890 q892 qs35 q88 q893 mdX0_wouldChange rfl ⟨Nat.le_of_ble_eq_true rfl, Nat.le_of_ble_eq_true rfl⟩ (Nat.le_of_ble_eq_true rfl) dX0_firstChange_15 rfl ?_
      refine g_ifZ_eq 23 C dX0_firstChange_18 rfl (fun c8 => ?_) (fun c8 => ?_)
      · replace hf := if_t c8 hf
        refine g_iload_n C dX0_firstChange_21 2 rfl ?_
        exact g_iret C E rfl (re_i hf) (re_s hf) ⟨Nat.zero_le _, Nat.zero_le _⟩ dX0_firstChange_22
      · replace hf := if_f c8 hf
        refine g_iinc (q := 2) (lv' := [(2, .int (v3 + (1 : Int32))), (0, .ref (g.1 0)), (1, .ref (g.1 v2))]) C dX0_firstChange_23 rfl kc_1 (by decide) rfl ?_
        refine g_goto 2 C dX0_firstChange_26 rfl ?_
        exact g_sub [1, 2, 0] rfl (ih _ _ hf)
theorem w_xw_firstChange {l : Launch} {n : Nat} {s sF : Sto} {a1 : Nat} {rF : Int32} (hf : xw_firstChange n s a1 = some (rF, sF)) : Ct xCfg l yX0_firstChange cX0_firstChange 3 (some .int) { frames := 6, cells := 0, slots := 0, locals := 132 } (fun g => [.ref (g.1 0), .ref (g.1 a1)]) s sF (fun _ => some (.int rF)) := by
  refine Ct_of pn_X0 (fun g => Nat.le_of_ble_eq_true rfl) (fun g A X C E hX => ?_)
  rw [xw_firstChange] at hf
  show TG xCfg g A 3 X 0 0 s 0 [(0, .ref (g.1 0)), (1, .ref (g.1 a1))] []
  refine g_iconst C dX0_firstChange_0 kc_0 ?_
  refine g_istore_n (i := 2) (lv' := [(2, .int (0 : Int32)), (0, .ref (g.1 0)), (1, .ref (g.1 a1))]) C dX0_firstChange_1 rfl rfl (by decide) rfl ?_
  refine g_sub [1, 2, 0] rfl (w_xw_firstChange_L2 C E hX _ _ _ hf)
def xw_tries_L11 (n : Nat) (rc : Sto → Int32 → Int32 → Bool → Option (Unit × Sto)) (v24 : Int32) (v25 : Int32) (v26 : Bool) : Nat → Sto → Int32 → Option (Unit × Sto)
  | 0, _, _ => none
  | k + 1, s23, v27 =>
    if v27 = 0 then
      some ((), s23)
    else
      bd (jw_I_numberOfTrailingZeros n s23 v27) fun r29 s30 =>
      gd (inb v24 9) <|
      vl (wr s30 12 v24 r29) fun s33 =>
      bd (rc s33 (v24 + (1 : Int32)) (v25 &&& ((v27 &&& (-v27)) ^^^ (-1 : Int32))) v26) fun r34 s35 =>
      vl (v27 &&& (v27 - (1 : Int32))) fun v37 =>
      xw_tries_L11 n rc v24 v25 v26 k s35 v37
def xw_tries (n : Nat) : Nat → Sto → Int32 → Int32 → Bool → Option (Unit × Sto)
  | 0, _, _, _, _ => none
  | d + 1, s, a1, a2, a3 =>
    if (s.1 0 14) ≤ a1 then
      if a3 = true then
        bd (xw_findsPieces n s 12) fun r3 s4 =>
        vl (fun (_ : Unit) =>
          vl (sI s4 0 29 r3) fun s7 =>
          bd (xw_copies n s7 12 14) fun r8 s9 =>
          some ((), s9)) fun j6 =>
        if (s4.1 0 29) = (-1 : Int32) then
          j6 ()
        else
          if r3 < (s4.1 0 29) then
            j6 ()
          else
            some ((), s4)
      else
        bd (xw_firstChange n s 12) fun r13 s14 =>
        if r13 = (-1 : Int32) then
          if (s14.1 0 28) = 0 then
            bd (xw_copies n s14 12 14) fun r18 s19 =>
            vl (sI s19 0 28 ((s19.1 0 28) + (1 : Int32))) fun s21 =>
            some ((), s21)
          else
            vl (sI s14 0 28 ((s14.1 0 28) + (1 : Int32))) fun s22 =>
            some ((), s22)
        else
          some ((), s14)
    else
      xw_tries_L11 n (xw_tries n d) a1 a2 a3
          n s a2
theorem w_xw_tries_L11  {l : Launch} {n : Nat} {d : Nat} {rc : Sto → Int32 → Int32 → Bool → Option (Unit × Sto)} {v24 : Int32} {v25 : Int32} {v26 : Bool} {g : Gam} {A : Nat → Prop} {X : FX} {si sF : Sto} {rF : Unit} (C : CX xCfg g A 5 X cX0_tries RX0 none (4 * (d + 1) + 30) (80 * (d + 1) + 600)) (E : EX xCfg g A X si sF none 0 0) (hX : X.2.1 = l) (hrc : ∀ (s sF : Sto) (a1 a2 : Int32) (a3 : Bool) (rF : Unit), rc s a1 a2 a3 = some (rF, sF) → Ct xCfg l yX0_tries cX0_tries 5 none { frames := 4 * d + 30, cells := 0, slots := 0, locals := 80 * d + 600 } (fun g => [.ref (g.1 0), .int a1, .int a2, .int (bI a3)]) s sF (fun _ => none)) : ∀ (k : Nat) (s23 : Sto) (v27 : Int32), xw_tries_L11 n rc v24 v25 v26 k s23 v27 = some (rF, sF) → TG xCfg g A 5 X 0 0 s23 11 [(0, .ref (g.1 0)), (1, .int v24), (2, .int v25), (3, .int (bI v26)), (4, .int v27)] [] := by
  intro k
  induction k with
  | zero => intro s23 v27 hf; rw [xw_tries_L11] at hf; cases hf
  | succ k ih =>
    intro s23 v27 hf
    rw [xw_tries_L11] at hf
    refine g_iload C dX0_tries_11 4 rfl ?_
    refine g_if_eq 57 C dX0_tries_13 rfl (fun c28 => ?_) (fun c28 => ?_)
    · replace hf := if_t c28 hf
      exact g_vret C E rfl (re_s hf) ⟨Nat.zero_le _, Nat.zero_le _⟩ dX0_tries_57
    · replace hf := if_f c28 hf
      refine g_aload_n C dX0_tries_16 0 rfl ?_
      refine g_getS 12 C oX0 fX0_102 rfl dX0_tries_17 ?_
      refine g_iload_n C dX0_tries_20 1 rfl ?_
      refine g_iload C dX0_tries_21 4 rfl ?_
      refine bd_n hf (fun r29 s30 h31 hf => ?_)
      refine g_callS0 (As := [.int v27]) (rest := [.int v24, .ref (g.1 12)]) (stk := [.int r29, .int v24, .ref (g.1 12)]) C (w_jw_I_numberOfTrailingZeros h31) hX rfl q882 q883 q111 q884 msJ9_numberOfTrailingZeros rfl ⟨by (try simp only []); omega, by (try simp only []); omega⟩ (Nat.le_of_ble_eq_true rfl) dX0_tries_23 rfl ?_
      refine gd_n hf (fun c32 hf => ?_)
      refine vl_n hf (fun s33 hs33 hf => ?_)
      refine g_iast C aX12 rfl c32 hs33 dX0_tries_26 ?_
      refine g_aload_n C dX0_tries_27 0 rfl ?_
      refine g_iload_n C dX0_tries_28 1 rfl ?_
      refine g_iconst C dX0_tries_29 kc_1 ?_
      refine g_iadd C dX0_tries_30 ?_
      refine g_iload_n C dX0_tries_31 2 rfl ?_
      refine g_iload C dX0_tries_32 4 rfl ?_
      refine g_iload C dX0_tries_34 4 rfl ?_
      refine g_ineg C dX0_tries_36 ?_
      refine g_iand C dX0_tries_37 ?_
      refine g_iconst C dX0_tries_38 kc_m1 ?_
      refine g_ixor C dX0_tries_39 ?_
      refine g_iand C dX0_tries_40 ?_
      refine g_iload_n C dX0_tries_41 3 rfl ?_
      refine bd_n hf (fun r34 s35 h36 hf => ?_)
      refine g_callV0 (As := [.int (v24 + (1 : Int32)), .int (v25 &&& ((v27 &&& (-v27)) ^^^ (-1 : Int32))), .int (bI v26)]) (rest := []) (stk := []) C (hrc _ _ _ _ _ _ h36) hX oX0 rfl rfl q878 q880 qs33 q88 q881 mdX0_tries rfl ⟨by (try simp only []); omega, by (try simp only []); omega⟩ (Nat.le_of_ble_eq_true rfl) dX0_tries_42 rfl ?_
      refine g_iload C dX0_tries_45 4 rfl ?_
      refine g_iload C dX0_tries_47 4 rfl ?_
      refine g_iconst C dX0_tries_49 kc_1 ?_
      refine g_isub C dX0_tries_50 ?_
      refine g_iand C dX0_tries_51 ?_
      refine vl_n hf (fun v37 hv37 hf => ?_)
      refine g_istore (i := 4) (lv' := [(4, .int v37), (0, .ref (g.1 0)), (1, .int v24), (2, .int v25), (3, .int (bI v26))]) C dX0_tries_52 hv37 (by decide) rfl ?_
      refine g_goto 11 C dX0_tries_54 rfl ?_
      exact g_sub [1, 2, 3, 4, 0] rfl (ih _ _ hf)
theorem w_xw_tries {l : Launch} {n : Nat} : ∀ (d : Nat) (s sF : Sto) (a1 : Int32) (a2 : Int32) (a3 : Bool) (rF : Unit), xw_tries n d s a1 a2 a3 = some (rF, sF) → Ct xCfg l yX0_tries cX0_tries 5 none { frames := 4 * d + 30, cells := 0, slots := 0, locals := 80 * d + 600 } (fun g => [.ref (g.1 0), .int a1, .int a2, .int (bI a3)]) s sF (fun _ => none) := by
  intro d
  induction d with
  | zero => intro s sF a1 a2 a3 rF hf; rw [xw_tries] at hf; cases hf
  | succ d ih =>
    intro s sF a1 a2 a3 rF hf
    refine Ct_of pn_X0 (fun g => Nat.le_of_ble_eq_true rfl) (fun g A X C E hX => ?_)
    rw [xw_tries] at hf
    show TG xCfg g A 5 X 0 0 s 0 [(0, .ref (g.1 0)), (1, .int a1), (2, .int a2), (3, .int (bI a3))] []
    refine g_iload_n C dX0_tries_0 1 rfl ?_
    refine g_aload_n C dX0_tries_1 0 rfl ?_
    refine g_getI C oX0 fX0_325 dX0_tries_2 ?_
    refine g_icmp_ge 58 C dX0_tries_5 rfl (fun c1 => ?_) (fun c1 => ?_)
    · replace hf := if_t c1 hf
      refine g_iload_n C dX0_tries_58 3 rfl ?_
      refine g_ifZ_eq 110 C dX0_tries_59 rfl (fun c2 => ?_) (fun c2 => ?_)
      · replace hf := if_t c2 hf
        refine g_aload_n C dX0_tries_62 0 rfl ?_
        refine g_aload_n C dX0_tries_63 0 rfl ?_
        refine g_getS 12 C oX0 fX0_102 rfl dX0_tries_64 ?_
        refine bd_n hf (fun r3 s4 h5 hf => ?_)
        refine g_callV0 (As := [.ref (g.1 12)]) (rest := []) (stk := [.int r3]) C (w_xw_findsPieces h5) hX oX0 rfl rfl q862 q864 qs30 q88 q865 mdX0_findsPieces rfl ⟨by (try simp only []); omega, by (try simp only []); omega⟩ (Nat.le_of_ble_eq_true rfl) dX0_tries_67 rfl ?_
        refine g_istore (i := 4) (lv' := [(4, .int r3), (0, .ref (g.1 0)), (1, .int a1), (2, .int a2), (3, .int (bI a3))]) C dX0_tries_70 rfl (by decide) rfl ?_
        refine g_aload_n C dX0_tries_72 1 rfl ?_
        refine g_getI C oX0 fX0_471 dX0_tries_73 ?_
        refine g_iconst C dX0_tries_76 kc_m1 ?_
        refine vl_n hf (fun j6 hj6 hf => ?_)
        have Hj6 : ∀ (u : Unit), j6 u = some (rF, sF) → TG xCfg g A 5 X 0 0 s4 90 [(0, .ref (g.1 0)), (4, .int r3)] [] := by
          clear hf; subst hj6
          intro u hf
          refine g_aload_n C dX0_tries_90 0 rfl ?_
          refine g_iload C dX0_tries_91 1 rfl ?_
          refine vl_n hf (fun s7 hs7 hf => ?_)
          refine g_putI C oX0 pX0_471 rfl rfl hs7 dX0_tries_93 ?_
          refine g_aload_n C dX0_tries_96 0 rfl ?_
          refine g_getS 12 C oX0 fX0_102 rfl dX0_tries_97 ?_
          refine g_aload_n C dX0_tries_100 0 rfl ?_
          refine g_getS 14 C oX0 fX0_108 rfl dX0_tries_101 ?_
          refine bd_n hf (fun r8 s9 h10 hf => ?_)
          refine g_callS0 (As := [.ref (g.1 12), .ref (g.1 14)]) (rest := []) (stk := []) C (w_xw_copies h10) hX rfl q848 q711 q88 q712 msX0_copies rfl ⟨by (try simp only []); omega, by (try simp only []); omega⟩ (Nat.le_of_ble_eq_true rfl) dX0_tries_104 rfl ?_
          refine g_goto 150 C dX0_tries_107 rfl ?_
          exact g_vret C E rfl (re_s hf) ⟨Nat.zero_le _, Nat.zero_le _⟩ dX0_tries_150
        clear hj6
        refine g_icmp_eq 90 C dX0_tries_77 rfl (fun c11 => ?_) (fun c11 => ?_)
        · replace hf := if_t c11 hf
          exact g_sub [1, 0] rfl (Hj6 _ hf)
        · replace hf := if_f c11 hf
          refine g_iload C dX0_tries_80 0 rfl ?_
          refine g_aload_n C dX0_tries_82 1 rfl ?_
          refine g_getI C oX0 fX0_471 dX0_tries_83 ?_
          refine g_icmp_lt 90 C dX0_tries_86 rfl (fun c12 => ?_) (fun c12 => ?_)
          · replace hf := if_t c12 hf
            exact g_sub [1, 0] rfl (Hj6 _ hf)
          · replace hf := if_f c12 hf
            exact g_vret C E rfl (re_s hf) ⟨Nat.zero_le _, Nat.zero_le _⟩ dX0_tries_89
      · replace hf := if_f c2 hf
        refine g_aload_n C dX0_tries_110 0 rfl ?_
        refine g_aload_n C dX0_tries_111 0 rfl ?_
        refine g_getS 12 C oX0 fX0_102 rfl dX0_tries_112 ?_
        refine bd_n hf (fun r13 s14 h15 hf => ?_)
        refine g_callV0 (As := [.ref (g.1 12)]) (rest := []) (stk := [.int r13]) C (w_xw_firstChange h15) hX oX0 rfl rfl q886 q888 qs34 q88 q889 mdX0_firstChange rfl ⟨by (try simp only []); omega, by (try simp only []); omega⟩ (Nat.le_of_ble_eq_true rfl) dX0_tries_115 rfl ?_
        refine g_iconst C dX0_tries_118 kc_m1 ?_
        refine g_icmp_ne 150 C dX0_tries_119 rfl (fun c16 => ?_) (fun c16 => ?_)
        · replace hf := if_t c16 hf
          refine g_aload_n C dX0_tries_122 0 rfl ?_
          refine g_getI C oX0 fX0_477 dX0_tries_123 ?_
          refine g_if_ne 140 C dX0_tries_126 rfl (fun c17 => ?_) (fun c17 => ?_)
          · replace hf := if_t c17 hf
            refine g_aload_n C dX0_tries_129 0 rfl ?_
            refine g_getS 12 C oX0 fX0_102 rfl dX0_tries_130 ?_
            refine g_aload_n C dX0_tries_133 0 rfl ?_
            refine g_getS 14 C oX0 fX0_108 rfl dX0_tries_134 ?_
            refine bd_n hf (fun r18 s19 h20 hf => ?_)
            refine g_callS0 (As := [.ref (g.1 12), .ref (g.1 14)]) (rest := []) (stk := []) C (w_xw_copies h20) hX rfl q848 q711 q88 q712 msX0_copies rfl ⟨by (try simp only []); omega, by (try simp only []); omega⟩ (Nat.le_of_ble_eq_true rfl) dX0_tries_137 rfl ?_
            refine g_aload_n C dX0_tries_140 0 rfl ?_
            refine g_dup C dX0_tries_141 rfl ?_
            refine g_getI C oX0 fX0_477 dX0_tries_142 ?_
            refine g_iconst C dX0_tries_145 kc_1 ?_
            refine g_iadd C dX0_tries_146 ?_
            refine vl_n hf (fun s21 hs21 hf => ?_)
            refine g_putI C oX0 pX0_477 rfl rfl hs21 dX0_tries_147 ?_
            exact g_vret C E rfl (re_s hf) ⟨Nat.zero_le _, Nat.zero_le _⟩ dX0_tries_150
          · replace hf := if_f c17 hf
            refine g_aload_n C dX0_tries_140 0 rfl ?_
            refine g_dup C dX0_tries_141 rfl ?_
            refine g_getI C oX0 fX0_477 dX0_tries_142 ?_
            refine g_iconst C dX0_tries_145 kc_1 ?_
            refine g_iadd C dX0_tries_146 ?_
            refine vl_n hf (fun s22 hs22 hf => ?_)
            refine g_putI C oX0 pX0_477 rfl rfl hs22 dX0_tries_147 ?_
            exact g_vret C E rfl (re_s hf) ⟨Nat.zero_le _, Nat.zero_le _⟩ dX0_tries_150
        · replace hf := if_f c16 hf
          exact g_vret C E rfl (re_s hf) ⟨Nat.zero_le _, Nat.zero_le _⟩ dX0_tries_150
    · replace hf := if_f c1 hf
      refine g_iload_n C dX0_tries_8 2 rfl ?_
      refine g_istore (i := 4) (lv' := [(4, .int a2), (0, .ref (g.1 0)), (1, .int a1), (2, .int a2), (3, .int (bI a3))]) C dX0_tries_9 rfl (by decide) rfl ?_
      refine g_sub [1, 2, 3, 4, 0] rfl (w_xw_tries_L11 C E hX ih _ _ _ hf)
def xw_canTry (n : Nat) (s : Sto) (a1 : Int32) : Option (Bool × Sto) :=
  if (7 : Int32) < (s.1 0 14) then
    some (false, s)
  else
    if a1 = 0 then
      some (true, s)
    else
      bd (xw_isIn n s a1 (10 : Int32) ((9 : Int32) + (s.1 0 14))) fun r3 s4 =>
      if r3 = true then
        some (true, s4)
      else
        some (false, s4)
theorem w_xw_canTry {l : Launch} {n : Nat} {s sF : Sto} {a1 : Int32} {rF : Bool} (hf : xw_canTry n s a1 = some (rF, sF)) : Ct xCfg l yX0_canTry cX0_canTry 2 (some .boolean) { frames := 2, cells := 0, slots := 0, locals := 34 } (fun g => [.ref (g.1 0), .int a1]) s sF (fun _ => some (.int (bI rF))) := by
  refine Ct_of pn_X0 (fun g => Nat.le_of_ble_eq_true rfl) (fun g A X C E hX => ?_)
  rw [xw_canTry] at hf
  show TG xCfg g A 2 X 0 0 s 0 [(0, .ref (g.1 0)), (1, .int a1)] []
  refine g_aload_n C dX0_canTry_0 0 rfl ?_
  refine g_getI C oX0 fX0_325 dX0_canTry_1 ?_
  refine g_bipush C dX0_canTry_4 kb_7 ?_
  refine g_icmp_gt 33 C dX0_canTry_6 rfl (fun c1 => ?_) (fun c1 => ?_)
  · replace hf := if_t c1 hf
    refine g_iconst C dX0_canTry_33 kc_0 ?_
    exact g_iret (v := bI false) C E (bI_nar _) (re_z hf) (re_s hf) ⟨Nat.zero_le _, Nat.zero_le _⟩ dX0_canTry_34
  · replace hf := if_f c1 hf
    refine g_iload_n C dX0_canTry_9 1 rfl ?_
    refine g_if_eq 29 C dX0_canTry_10 rfl (fun c2 => ?_) (fun c2 => ?_)
    · replace hf := if_t c2 hf
      refine g_iconst C dX0_canTry_29 kc_1 ?_
      refine g_goto 34 C dX0_canTry_30 rfl ?_
      exact g_iret (v := bI true) C E (bI_nar _) (re_z hf) (re_s hf) ⟨Nat.zero_le _, Nat.zero_le _⟩ dX0_canTry_34
    · replace hf := if_f c2 hf
      refine g_iload_n C dX0_canTry_13 1 rfl ?_
      refine g_bipush C dX0_canTry_14 kb_10 ?_
      refine g_bipush C dX0_canTry_16 kb_9 ?_
      refine g_aload_n C dX0_canTry_18 0 rfl ?_
      refine g_getI C oX0 fX0_325 dX0_canTry_19 ?_
      refine g_iadd C dX0_canTry_22 ?_
      refine bd_n hf (fun r3 s4 h5 hf => ?_)
      refine g_callS0 (As := [.int a1, .int (10 : Int32), .int ((9 : Int32) + (s.1 0 14))]) (rest := []) (stk := [.int (bI r3)]) C (w_xw_isIn h5) hX rfl q381 q382 q88 q383 msX0_isIn rfl ⟨Nat.le_of_ble_eq_true rfl, Nat.le_of_ble_eq_true rfl⟩ (Nat.le_of_ble_eq_true rfl) dX0_canTry_23 rfl ?_
      refine g_ifZ_eq 33 C dX0_canTry_26 rfl (fun c6 => ?_) (fun c6 => ?_)
      · replace hf := if_t c6 hf
        refine g_iconst C dX0_canTry_29 kc_1 ?_
        refine g_goto 34 C dX0_canTry_30 rfl ?_
        exact g_iret (v := bI true) C E (bI_nar _) (re_z hf) (re_s hf) ⟨Nat.zero_le _, Nat.zero_le _⟩ dX0_canTry_34
      · replace hf := if_f c6 hf
        refine g_iconst C dX0_canTry_33 kc_0 ?_
        exact g_iret (v := bI false) C E (bI_nar _) (re_z hf) (re_s hf) ⟨Nat.zero_le _, Nat.zero_le _⟩ dX0_canTry_34
def xw_orders (n : Nat) (s : Sto) (a1 : Int32) : Option (Int32 × Sto) :=
  bd (xw_canTry n s a1) fun r1 s2 =>
  if r1 = true then
    vl (sI s2 0 28 (0 : Int32)) fun s5 =>
    bd (xw_tries n 10 s5 (0 : Int32) ((ishl (1 : Int32) (s5.1 0 14)) - (1 : Int32)) false) fun r6 s7 =>
    if a1 = 0 then
      some ((s7.1 0 28), s7)
    else
      if (s7.1 0 28) = 0 then
        some ((-1 : Int32), s7)
      else
        gd (inb (a1 - (10 : Int32)) 9) <|
        some ((rd s7 14 (a1 - (10 : Int32))), s7)
  else
    some ((-1 : Int32), s2)
theorem w_xw_orders {l : Launch} {n : Nat} {s sF : Sto} {a1 : Int32} {rF : Int32} (hf : xw_orders n s a1 = some (rF, sF)) : Ct xCfg l yX0_orders cX0_orders 2 (some .int) { frames := 71, cells := 0, slots := 0, locals := 1424 } (fun g => [.ref (g.1 0), .int a1]) s sF (fun _ => some (.int rF)) := by
  refine Ct_of pn_X0 (fun g => Nat.le_of_ble_eq_true rfl) (fun g A X C E hX => ?_)
  rw [xw_orders] at hf
  show TG xCfg g A 2 X 0 0 s 0 [(0, .ref (g.1 0)), (1, .int a1)] []
  refine g_aload_n C dX0_orders_0 0 rfl ?_
  refine g_iload_n C dX0_orders_1 1 rfl ?_
  refine bd_n hf (fun r1 s2 h3 hf => ?_)
  refine g_callV0 (As := [.int a1]) (rest := []) (stk := [.int (bI r1)]) C (w_xw_canTry h3) hX oX0 rfl rfl q874 q876 qs32 q88 q877 mdX0_canTry rfl ⟨Nat.le_of_ble_eq_true rfl, Nat.le_of_ble_eq_true rfl⟩ (Nat.le_of_ble_eq_true rfl) dX0_orders_2 rfl ?_
  refine g_ifZ_ne 10 C dX0_orders_5 rfl (fun c4 => ?_) (fun c4 => ?_)
  · replace hf := if_t c4 hf
    refine g_aload_n C dX0_orders_10 0 rfl ?_
    refine g_iconst C dX0_orders_11 kc_0 ?_
    refine vl_n hf (fun s5 hs5 hf => ?_)
    refine g_putI C oX0 pX0_477 rfl rfl hs5 dX0_orders_12 ?_
    refine g_aload_n C dX0_orders_15 0 rfl ?_
    refine g_iconst C dX0_orders_16 kc_0 ?_
    refine g_iconst C dX0_orders_17 kc_1 ?_
    refine g_aload_n C dX0_orders_18 0 rfl ?_
    refine g_getI C oX0 fX0_325 dX0_orders_19 ?_
    refine g_ishl C dX0_orders_22 ?_
    refine g_iconst C dX0_orders_23 kc_1 ?_
    refine g_isub C dX0_orders_24 ?_
    refine g_iconst C dX0_orders_25 kc_0 ?_
    refine bd_n hf (fun r6 s7 h8 hf => ?_)
    refine g_callV0 (As := [.int (0 : Int32), .int ((ishl (1 : Int32) (s5.1 0 14)) - (1 : Int32)), .int (bI false)]) (rest := []) (stk := []) C (w_xw_tries 10 _ _ _ _ _ _ h8) hX oX0 rfl rfl q878 q880 qs33 q88 q881 mdX0_tries rfl ⟨Nat.le_of_ble_eq_true rfl, Nat.le_of_ble_eq_true rfl⟩ (Nat.le_of_ble_eq_true rfl) dX0_orders_26 rfl ?_
    refine g_iload_n C dX0_orders_29 1 rfl ?_
    refine g_if_ne 40 C dX0_orders_30 rfl (fun c9 => ?_) (fun c9 => ?_)
    · replace hf := if_t c9 hf
      refine g_aload_n C dX0_orders_33 0 rfl ?_
      refine g_getI C oX0 fX0_477 dX0_orders_34 ?_
      refine g_goto 60 C dX0_orders_37 rfl ?_
      exact g_iret C E rfl (re_i hf) (re_s hf) ⟨Nat.zero_le _, Nat.zero_le _⟩ dX0_orders_60
    · replace hf := if_f c9 hf
      refine g_aload_n C dX0_orders_40 0 rfl ?_
      refine g_getI C oX0 fX0_477 dX0_orders_41 ?_
      refine g_if_ne 51 C dX0_orders_44 rfl (fun c10 => ?_) (fun c10 => ?_)
      · replace hf := if_t c10 hf
        refine g_iconst C dX0_orders_47 kc_m1 ?_
        refine g_goto 60 C dX0_orders_48 rfl ?_
        exact g_iret C E rfl (re_i hf) (re_s hf) ⟨Nat.zero_le _, Nat.zero_le _⟩ dX0_orders_60
      · replace hf := if_f c10 hf
        refine g_aload_n C dX0_orders_51 0 rfl ?_
        refine g_getS 14 C oX0 fX0_108 rfl dX0_orders_52 ?_
        refine g_iload_n C dX0_orders_55 1 rfl ?_
        refine g_bipush C dX0_orders_56 kb_10 ?_
        refine g_isub C dX0_orders_58 ?_
        refine gd_n hf (fun c11 hf => ?_)
        refine g_iald C aX14 rfl c11 dX0_orders_59 ?_
        exact g_iret C E rfl (re_i hf) (re_s hf) ⟨Nat.zero_le _, Nat.zero_le _⟩ dX0_orders_60
  · replace hf := if_f c4 hf
    refine g_iconst C dX0_orders_8 kc_m1 ?_
    exact g_iret C E rfl (re_i hf) (re_s hf) ⟨Nat.zero_le _, Nat.zero_le _⟩ dX0_orders_9
def xw_least (n : Nat) (s : Sto) (a1 : Int32) : Option (Int32 × Sto) :=
  bd (xw_canTry n s a1) fun r1 s2 =>
  if r1 = true then
    vl (sI s2 0 29 (-1 : Int32)) fun s5 =>
    bd (xw_tries n 10 s5 (0 : Int32) ((ishl (1 : Int32) (s5.1 0 14)) - (1 : Int32)) true) fun r6 s7 =>
    if a1 = 0 then
      some ((s7.1 0 29), s7)
    else
      gd (inb (a1 - (10 : Int32)) 9) <|
      some ((rd s7 14 (a1 - (10 : Int32))), s7)
  else
    some ((-1 : Int32), s2)
theorem w_xw_least {l : Launch} {n : Nat} {s sF : Sto} {a1 : Int32} {rF : Int32} (hf : xw_least n s a1 = some (rF, sF)) : Ct xCfg l yX0_least cX0_least 2 (some .int) { frames := 71, cells := 0, slots := 0, locals := 1424 } (fun g => [.ref (g.1 0), .int a1]) s sF (fun _ => some (.int rF)) := by
  refine Ct_of pn_X0 (fun g => Nat.le_of_ble_eq_true rfl) (fun g A X C E hX => ?_)
  rw [xw_least] at hf
  show TG xCfg g A 2 X 0 0 s 0 [(0, .ref (g.1 0)), (1, .int a1)] []
  refine g_aload_n C dX0_least_0 0 rfl ?_
  refine g_iload_n C dX0_least_1 1 rfl ?_
  refine bd_n hf (fun r1 s2 h3 hf => ?_)
  refine g_callV0 (As := [.int a1]) (rest := []) (stk := [.int (bI r1)]) C (w_xw_canTry h3) hX oX0 rfl rfl q874 q876 qs32 q88 q877 mdX0_canTry rfl ⟨Nat.le_of_ble_eq_true rfl, Nat.le_of_ble_eq_true rfl⟩ (Nat.le_of_ble_eq_true rfl) dX0_least_2 rfl ?_
  refine g_ifZ_ne 10 C dX0_least_5 rfl (fun c4 => ?_) (fun c4 => ?_)
  · replace hf := if_t c4 hf
    refine g_aload_n C dX0_least_10 0 rfl ?_
    refine g_iconst C dX0_least_11 kc_m1 ?_
    refine vl_n hf (fun s5 hs5 hf => ?_)
    refine g_putI C oX0 pX0_471 rfl rfl hs5 dX0_least_12 ?_
    refine g_aload_n C dX0_least_15 0 rfl ?_
    refine g_iconst C dX0_least_16 kc_0 ?_
    refine g_iconst C dX0_least_17 kc_1 ?_
    refine g_aload_n C dX0_least_18 0 rfl ?_
    refine g_getI C oX0 fX0_325 dX0_least_19 ?_
    refine g_ishl C dX0_least_22 ?_
    refine g_iconst C dX0_least_23 kc_1 ?_
    refine g_isub C dX0_least_24 ?_
    refine g_iconst C dX0_least_25 kc_1 ?_
    refine bd_n hf (fun r6 s7 h8 hf => ?_)
    refine g_callV0 (As := [.int (0 : Int32), .int ((ishl (1 : Int32) (s5.1 0 14)) - (1 : Int32)), .int (bI true)]) (rest := []) (stk := []) C (w_xw_tries 10 _ _ _ _ _ _ h8) hX oX0 rfl rfl q878 q880 qs33 q88 q881 mdX0_tries rfl ⟨Nat.le_of_ble_eq_true rfl, Nat.le_of_ble_eq_true rfl⟩ (Nat.le_of_ble_eq_true rfl) dX0_least_26 rfl ?_
    refine g_iload_n C dX0_least_29 1 rfl ?_
    refine g_if_ne 40 C dX0_least_30 rfl (fun c9 => ?_) (fun c9 => ?_)
    · replace hf := if_t c9 hf
      refine g_aload_n C dX0_least_33 0 rfl ?_
      refine g_getI C oX0 fX0_471 dX0_least_34 ?_
      refine g_goto 49 C dX0_least_37 rfl ?_
      exact g_iret C E rfl (re_i hf) (re_s hf) ⟨Nat.zero_le _, Nat.zero_le _⟩ dX0_least_49
    · replace hf := if_f c9 hf
      refine g_aload_n C dX0_least_40 0 rfl ?_
      refine g_getS 14 C oX0 fX0_108 rfl dX0_least_41 ?_
      refine g_iload_n C dX0_least_44 1 rfl ?_
      refine g_bipush C dX0_least_45 kb_10 ?_
      refine g_isub C dX0_least_47 ?_
      refine gd_n hf (fun c10 hf => ?_)
      refine g_iald C aX14 rfl c10 dX0_least_48 ?_
      exact g_iret C E rfl (re_i hf) (re_s hf) ⟨Nat.zero_le _, Nat.zero_le _⟩ dX0_least_49
  · replace hf := if_f c4 hf
    refine g_iconst C dX0_least_8 kc_m1 ?_
    exact g_iret C E rfl (re_i hf) (re_s hf) ⟨Nat.zero_le _, Nat.zero_le _⟩ dX0_least_9
def xw_areAlike_L2 (n : Nat) (v2 : Nat) (v3 : Nat) : Nat → Sto → Int32 → Option (Bool × Sto)
  | 0, _, _ => none
  | k + 1, s1, v4 =>
    if (s1.1 0 14) ≤ v4 then
      some (true, s1)
    else
      gd (isA xCfg v2 0) <|
      gd (inb v4 (xlen xCfg v2)) <|
      gd (isA xCfg v3 0) <|
      gd (inb v4 (xlen xCfg v3)) <|
      if (rd s1 v2 v4) = (rd s1 v3 v4) then
        xw_areAlike_L2 n v2 v3 k s1 (v4 + (1 : Int32))
      else
        some (false, s1)
def xw_areAlike (n : Nat) (s : Sto) (a1 : Nat) (a2 : Nat) : Option (Bool × Sto) :=
  xw_areAlike_L2 n a1 a2
      n s (0 : Int32)
theorem w_xw_areAlike_L2  {l : Launch} {n : Nat} {v2 : Nat} {v3 : Nat} {g : Gam} {A : Nat → Prop} {X : FX} {si sF : Sto} {rF : Bool} (C : CX xCfg g A 4 X cX0_areAlike RX0 (some .boolean) 1 12) (E : EX xCfg g A X si sF (some (.int (bI rF))) 0 0) (hX : X.2.1 = l) : ∀ (k : Nat) (s1 : Sto) (v4 : Int32), xw_areAlike_L2 n v2 v3 k s1 v4 = some (rF, sF) → TG xCfg g A 4 X 0 0 s1 2 [(0, .ref (g.1 0)), (1, .ref (g.1 v2)), (2, .ref (g.1 v3)), (3, .int v4)] [] := by
  intro k
  induction k with
  | zero => intro s1 v4 hf; rw [xw_areAlike_L2] at hf; cases hf
  | succ k ih =>
    intro s1 v4 hf
    rw [xw_areAlike_L2] at hf
    refine g_iload_n C dX0_areAlike_2 3 rfl ?_
    refine g_aload_n C dX0_areAlike_3 0 rfl ?_
    refine g_getI C oX0 fX0_325 dX0_areAlike_4 ?_
    refine g_icmp_ge 27 C dX0_areAlike_7 rfl (fun c5 => ?_) (fun c5 => ?_)
    · replace hf := if_t c5 hf
      refine g_iconst C dX0_areAlike_27 kc_1 ?_
      exact g_iret (v := bI true) C E (bI_nar _) (re_z hf) (re_s hf) ⟨Nat.zero_le _, Nat.zero_le _⟩ dX0_areAlike_28
    · replace hf := if_f c5 hf
      refine g_aload_n C dX0_areAlike_10 1 rfl ?_
      refine g_iload_n C dX0_areAlike_11 3 rfl ?_
      refine gd_n hf (fun c6 hf => ?_)
      refine gd_n hf (fun c7 hf => ?_)
      refine g_iald C (isA_s c6) rfl c7 dX0_areAlike_12 ?_
      refine g_aload_n C dX0_areAlike_13 2 rfl ?_
      refine g_iload_n C dX0_areAlike_14 3 rfl ?_
      refine gd_n hf (fun c8 hf => ?_)
      refine gd_n hf (fun c9 hf => ?_)
      refine g_iald C (isA_s c8) rfl c9 dX0_areAlike_15 ?_
      refine g_icmp_eq 21 C dX0_areAlike_16 rfl (fun c10 => ?_) (fun c10 => ?_)
      · replace hf := if_t c10 hf
        refine g_iinc (q := 3) (lv' := [(3, .int (v4 + (1 : Int32))), (0, .ref (g.1 0)), (1, .ref (g.1 v2)), (2, .ref (g.1 v3))]) C dX0_areAlike_21 rfl kc_1 (by decide) rfl ?_
        refine g_goto 2 C dX0_areAlike_24 rfl ?_
        exact g_sub [1, 2, 3, 0] rfl (ih _ _ hf)
      · replace hf := if_f c10 hf
        refine g_iconst C dX0_areAlike_19 kc_0 ?_
        exact g_iret (v := bI false) C E (bI_nar _) (re_z hf) (re_s hf) ⟨Nat.zero_le _, Nat.zero_le _⟩ dX0_areAlike_20
theorem w_xw_areAlike {l : Launch} {n : Nat} {s sF : Sto} {a1 : Nat} {a2 : Nat} {rF : Bool} (hf : xw_areAlike n s a1 a2 = some (rF, sF)) : Ct xCfg l yX0_areAlike cX0_areAlike 4 (some .boolean) { frames := 1, cells := 0, slots := 0, locals := 12 } (fun g => [.ref (g.1 0), .ref (g.1 a1), .ref (g.1 a2)]) s sF (fun _ => some (.int (bI rF))) := by
  refine Ct_of pn_X0 (fun g => Nat.le_of_ble_eq_true rfl) (fun g A X C E hX => ?_)
  rw [xw_areAlike] at hf
  show TG xCfg g A 4 X 0 0 s 0 [(0, .ref (g.1 0)), (1, .ref (g.1 a1)), (2, .ref (g.1 a2))] []
  refine g_iconst C dX0_areAlike_0 kc_0 ?_
  refine g_istore_n (i := 3) (lv' := [(3, .int (0 : Int32)), (0, .ref (g.1 0)), (1, .ref (g.1 a1)), (2, .ref (g.1 a2))]) C dX0_areAlike_1 rfl rfl (by decide) rfl ?_
  refine g_sub [1, 2, 3, 0] rfl (w_xw_areAlike_L2 C E hX _ _ _ hf)
def xw_isLeaven (n : Nat) (s : Sto) (a1 : Int32) : Option (Bool × Sto) :=
  bd (xw_isIn n s a1 (0 : Int32) ((s.1 0 32) - (1 : Int32))) fun r1 s2 =>
  some (r1, s2)
theorem w_xw_isLeaven {l : Launch} {n : Nat} {s sF : Sto} {a1 : Int32} {rF : Bool} (hf : xw_isLeaven n s a1 = some (rF, sF)) : Ct xCfg l yX0_isLeaven cX0_isLeaven 2 (some .boolean) { frames := 2, cells := 0, slots := 0, locals := 34 } (fun g => [.ref (g.1 0), .int a1]) s sF (fun _ => some (.int (bI rF))) := by
  refine Ct_of pn_X0 (fun g => Nat.le_of_ble_eq_true rfl) (fun g A X C E hX => ?_)
  rw [xw_isLeaven] at hf
  show TG xCfg g A 2 X 0 0 s 0 [(0, .ref (g.1 0)), (1, .int a1)] []
  refine g_iload_n C dX0_isLeaven_0 1 rfl ?_
  refine g_iconst C dX0_isLeaven_1 kc_0 ?_
  refine g_aload_n C dX0_isLeaven_2 0 rfl ?_
  refine g_getI C oX0 fX0_487 dX0_isLeaven_3 ?_
  refine g_iconst C dX0_isLeaven_6 kc_1 ?_
  refine g_isub C dX0_isLeaven_7 ?_
  refine bd_n hf (fun r1 s2 h3 hf => ?_)
  refine g_callS0 (As := [.int a1, .int (0 : Int32), .int ((s.1 0 32) - (1 : Int32))]) (rest := []) (stk := [.int (bI r1)]) C (w_xw_isIn h3) hX rfl q381 q382 q88 q383 msX0_isIn rfl ⟨Nat.le_of_ble_eq_true rfl, Nat.le_of_ble_eq_true rfl⟩ (Nat.le_of_ble_eq_true rfl) dX0_isLeaven_8 rfl ?_
  exact g_iret (v := bI r1) C E (bI_nar _) (re_z hf) (re_s hf) ⟨Nat.zero_le _, Nat.zero_le _⟩ dX0_isLeaven_11
def xw_findsParts_L2 (n : Nat) (v2 : Int32) : Nat → Sto → Int32 → Option (Unit × Sto)
  | 0, _, _ => none
  | k + 1, s1, v3 =>
    if (s1.1 0 32) ≤ v3 then
      some ((), s1)
    else
      gd (inb v3 60) <|
      vl (fun (t6 : Int64) =>
        vl (wrL s1 17 v3 t6) fun s8 =>
        xw_findsParts_L2 n v2 k s8 (v3 + (1 : Int32))) fun j7 =>
      if v3 = v2 then
        j7 (1073741824 : Int64)
      else
        nn (rdR s1 16 v3) fun q10 =>
        pgI s1 q10 3 1 fun v12 =>
        if v12 = (-1 : Int32) then
          j7 (0 : Int64)
        else
          gd (inb v12 60) <|
          pgI s1 q10 3 2 fun v16 =>
          gd (inb v16 60) <|
          gd (decide (¬ (2 : Int64) = 0)) <|
          j7 (((rdL s1 17 v12) + (rdL s1 17 v16)) / (2 : Int64))
def xw_findsParts (n : Nat) (s : Sto) (a1 : Int32) : Option (Unit × Sto) :=
  xw_findsParts_L2 n a1
      n s (0 : Int32)
theorem w_xw_findsParts_L2  {l : Launch} {n : Nat} {v2 : Int32} {g : Gam} {A : Nat → Prop} {X : FX} {si sF : Sto} {rF : Unit} (C : CX xCfg g A 4 X cX0_findsParts RX0 none 1 12) (E : EX xCfg g A X si sF none 0 0) (hX : X.2.1 = l) : ∀ (k : Nat) (s1 : Sto) (v3 : Int32), xw_findsParts_L2 n v2 k s1 v3 = some (rF, sF) → TG xCfg g A 4 X 0 0 s1 2 [(0, .ref (g.1 0)), (1, .int v2), (2, .int v3)] [] := by
  intro k
  induction k with
  | zero => intro s1 v3 hf; rw [xw_findsParts_L2] at hf; cases hf
  | succ k ih =>
    intro s1 v3 hf
    rw [xw_findsParts_L2] at hf
    refine g_iload_n C dX0_findsParts_2 2 rfl ?_
    refine g_aload_n C dX0_findsParts_3 0 rfl ?_
    refine g_getI C oX0 fX0_487 dX0_findsParts_4 ?_
    refine g_icmp_ge 75 C dX0_findsParts_7 rfl (fun c4 => ?_) (fun c4 => ?_)
    · replace hf := if_t c4 hf
      exact g_vret C E rfl (re_s hf) ⟨Nat.zero_le _, Nat.zero_le _⟩ dX0_findsParts_75
    · replace hf := if_f c4 hf
      refine g_aload_n C dX0_findsParts_10 0 rfl ?_
      refine g_getS 16 C oX0 fX0_118 rfl dX0_findsParts_11 ?_
      refine g_iload_n C dX0_findsParts_14 2 rfl ?_
      refine gd_n hf (fun c5 hf => ?_)
      refine g_aald3 C rX16 rfl c5 dX0_findsParts_15 ?_
      refine g_storeQ_n (i := 3) (lv' := [(3, va_rf (rdR s1 16 v3)), (0, .ref (g.1 0)), (1, .int v2), (2, .int v3)]) C dX0_findsParts_16 rfl (by decide) rfl ?_
      refine g_aload_n C dX0_findsParts_17 1 rfl ?_
      refine g_getS 17 C oX0 fX0_122 rfl dX0_findsParts_18 ?_
      refine g_iload_n C dX0_findsParts_21 3 rfl ?_
      refine g_iload_n C dX0_findsParts_22 3 rfl ?_
      refine g_iload_n C dX0_findsParts_23 2 rfl ?_
      refine vl_n hf (fun j7 hj7 hf => ?_)
      have Hj7 : ∀ (t6 : Int64), j7 t6 = some (rF, sF) → TG xCfg g A 4 X 0 0 s1 68 [(0, .ref (g.1 0)), (1, .int v2), (2, .int v3)] [.long t6, .int v3, .ref (g.1 17)] := by
        clear hf; subst hj7
        intro t6 hf
        refine vl_n hf (fun s8 hs8 hf => ?_)
        refine g_last C aX17 rfl c5 hs8 dX0_findsParts_68 ?_
        refine g_iinc (q := 2) (lv' := [(2, .int (v3 + (1 : Int32))), (0, .ref (g.1 0)), (1, .int v2)]) C dX0_findsParts_69 rfl kc_1 (by decide) rfl ?_
        refine g_goto 2 C dX0_findsParts_72 rfl ?_
        exact g_sub [1, 2, 0] rfl (ih _ _ hf)
      clear hj7
      refine g_icmp_ne 33 C dX0_findsParts_24 rfl (fun c9 => ?_) (fun c9 => ?_)
      · replace hf := if_t c9 hf
        refine g_ldc2 C dX0_findsParts_27 q947 ?_
        refine g_goto 68 C dX0_findsParts_30 rfl ?_
        exact g_sub [1, 2, 3] rfl (Hj7 _ hf)
      · replace hf := if_f c9 hf
        refine g_loadQ_n C dX0_findsParts_33 0 rfl ?_
        refine nn_n hf (fun q10 hq11 hf => ?_)
        refine pgI_n hf (fun v12 hv13 hf => ?_)
        refine g_pgetQ C fX0_501 hq11 hv13 dX0_findsParts_34 ?_
        refine g_iconst C dX0_findsParts_37 kc_m1 ?_
        refine g_icmp_ne 45 C dX0_findsParts_38 rfl (fun c14 => ?_) (fun c14 => ?_)
        · replace hf := if_t c14 hf
          refine g_lconst C dX0_findsParts_41 kl_0 ?_
          refine g_goto 68 C dX0_findsParts_42 rfl ?_
          exact g_sub [1, 2, 3] rfl (Hj7 _ hf)
        · replace hf := if_f c14 hf
          refine g_aload_n C dX0_findsParts_45 1 rfl ?_
          refine g_getS 17 C oX0 fX0_122 rfl dX0_findsParts_46 ?_
          refine g_loadQ_n C dX0_findsParts_49 0 rfl ?_
          refine g_pgetQ C fX0_501 hq11 hv13 dX0_findsParts_50 ?_
          refine gd_n hf (fun c15 hf => ?_)
          refine g_lald C aX17 rfl c15 dX0_findsParts_53 ?_
          refine g_aload_n C dX0_findsParts_54 1 rfl ?_
          refine g_getS 17 C oX0 fX0_122 rfl dX0_findsParts_55 ?_
          refine g_loadQ_n C dX0_findsParts_58 0 rfl ?_
          refine pgI_n hf (fun v16 hv17 hf => ?_)
          refine g_pgetQ C fX0_504 hq11 hv17 dX0_findsParts_59 ?_
          refine gd_n hf (fun c18 hf => ?_)
          refine g_lald C aX17 rfl c18 dX0_findsParts_62 ?_
          refine g_ladd C dX0_findsParts_63 ?_
          refine g_ldc2 C dX0_findsParts_64 q948 ?_
          refine gd_n hf (fun c19 hf => ?_)
          refine g_ldiv C dX0_findsParts_67 c19 ?_
          exact g_sub [1, 2, 3] rfl (Hj7 _ hf)
theorem w_xw_findsParts {l : Launch} {n : Nat} {s sF : Sto} {a1 : Int32} {rF : Unit} (hf : xw_findsParts n s a1 = some (rF, sF)) : Ct xCfg l yX0_findsParts cX0_findsParts 4 none { frames := 1, cells := 0, slots := 0, locals := 12 } (fun g => [.ref (g.1 0), .int a1]) s sF (fun _ => none) := by
  refine Ct_of pn_X0 (fun g => Nat.le_of_ble_eq_true rfl) (fun g A X C E hX => ?_)
  rw [xw_findsParts] at hf
  show TG xCfg g A 4 X 0 0 s 0 [(0, .ref (g.1 0)), (1, .int a1)] []
  refine g_iconst C dX0_findsParts_0 kc_0 ?_
  refine g_istore_n (i := 2) (lv' := [(2, .int (0 : Int32)), (0, .ref (g.1 0)), (1, .int a1)]) C dX0_findsParts_1 rfl rfl (by decide) rfl ?_
  refine g_sub [1, 2, 0] rfl (w_xw_findsParts_L2 C E hX _ _ _ hf)
def xw_part (n : Nat) (s : Sto) (a1 : Int32) (a2 : Int32) (a3 : Int32) : Option (Int32 × Sto) :=
  bd (xw_isLeaven n s a1) fun r1 s2 =>
  if r1 = true then
    bd (xw_isLeaven n s2 a2) fun r5 s6 =>
    if r5 = true then
      gd (inb a2 60) <|
      nn (rdR s6 16 a2) fun q10 =>
      pgI s6 q10 3 1 fun v12 =>
      if v12 = (-1 : Int32) then
        bd (xw_isIn n s6 a3 (0 : Int32) (1 : Int32)) fun r15 s16 =>
        if r15 = true then
          bd (xw_findsParts n s16 a2) fun r19 s20 =>
          gd (inb a1 60) <|
          bd (xw_common n s20 (rdL s20 17 a1) (1073741824 : Int64)) fun r23 s24 =>
          if a3 = 0 then
            gd (decide (¬ r23 = 0)) <|
            some ((Int64.toInt32 ((rdL s24 17 a1) / r23)), s24)
          else
            gd (decide (¬ r23 = 0)) <|
            some ((Int64.toInt32 ((1073741824 : Int64) / r23)), s24)
        else
          some ((-1 : Int32), s16)
      else
        some ((-1 : Int32), s6)
    else
      some ((-1 : Int32), s6)
  else
    some ((-1 : Int32), s2)
theorem w_xw_part {l : Launch} {n : Nat} {s sF : Sto} {a1 : Int32} {a2 : Int32} {a3 : Int32} {rF : Int32} (hf : xw_part n s a1 a2 a3 = some (rF, sF)) : Ct xCfg l yX0_part cX0_part 6 (some .int) { frames := 3, cells := 0, slots := 0, locals := 55 } (fun g => [.ref (g.1 0), .int a1, .int a2, .int a3]) s sF (fun _ => some (.int rF)) := by
  refine Ct_of pn_X0 (fun g => Nat.le_of_ble_eq_true rfl) (fun g A X C E hX => ?_)
  rw [xw_part] at hf
  show TG xCfg g A 6 X 0 0 s 0 [(0, .ref (g.1 0)), (1, .int a1), (2, .int a2), (3, .int a3)] []
  refine g_aload_n C dX0_part_0 0 rfl ?_
  refine g_iload_n C dX0_part_1 1 rfl ?_
  refine bd_n hf (fun r1 s2 h3 hf => ?_)
  refine g_callV0 (As := [.int a1]) (rest := []) (stk := [.int (bI r1)]) C (w_xw_isLeaven h3) hX oX0 rfl rfl q913 q915 qs37 q88 q916 mdX0_isLeaven rfl ⟨Nat.le_of_ble_eq_true rfl, Nat.le_of_ble_eq_true rfl⟩ (Nat.le_of_ble_eq_true rfl) dX0_part_2 rfl ?_
  refine g_ifZ_eq 38 C dX0_part_5 rfl (fun c4 => ?_) (fun c4 => ?_)
  · replace hf := if_t c4 hf
    refine g_aload_n C dX0_part_8 0 rfl ?_
    refine g_iload_n C dX0_part_9 2 rfl ?_
    refine bd_n hf (fun r5 s6 h7 hf => ?_)
    refine g_callV0 (As := [.int a2]) (rest := []) (stk := [.int (bI r5)]) C (w_xw_isLeaven h7) hX oX0 rfl rfl q913 q915 qs37 q88 q916 mdX0_isLeaven rfl ⟨Nat.le_of_ble_eq_true rfl, Nat.le_of_ble_eq_true rfl⟩ (Nat.le_of_ble_eq_true rfl) dX0_part_10 rfl ?_
    refine g_ifZ_eq 38 C dX0_part_13 rfl (fun c8 => ?_) (fun c8 => ?_)
    · replace hf := if_t c8 hf
      refine g_aload_n C dX0_part_16 0 rfl ?_
      refine g_getS 16 C oX0 fX0_118 rfl dX0_part_17 ?_
      refine g_iload_n C dX0_part_20 2 rfl ?_
      refine gd_n hf (fun c9 hf => ?_)
      refine g_aald3 C rX16 rfl c9 dX0_part_21 ?_
      refine nn_n hf (fun q10 hq11 hf => ?_)
      refine pgI_n hf (fun v12 hv13 hf => ?_)
      refine g_pgetQ C fX0_501 hq11 hv13 dX0_part_22 ?_
      refine g_iconst C dX0_part_25 kc_m1 ?_
      refine g_icmp_ne 38 C dX0_part_26 rfl (fun c14 => ?_) (fun c14 => ?_)
      · replace hf := if_t c14 hf
        refine g_iload_n C dX0_part_29 3 rfl ?_
        refine g_iconst C dX0_part_30 kc_0 ?_
        refine g_iconst C dX0_part_31 kc_1 ?_
        refine bd_n hf (fun r15 s16 h17 hf => ?_)
        refine g_callS0 (As := [.int a3, .int (0 : Int32), .int (1 : Int32)]) (rest := []) (stk := [.int (bI r15)]) C (w_xw_isIn h17) hX rfl q381 q382 q88 q383 msX0_isIn rfl ⟨Nat.le_of_ble_eq_true rfl, Nat.le_of_ble_eq_true rfl⟩ (Nat.le_of_ble_eq_true rfl) dX0_part_32 rfl ?_
        refine g_ifZ_ne 40 C dX0_part_35 rfl (fun c18 => ?_) (fun c18 => ?_)
        · replace hf := if_t c18 hf
          refine g_aload_n C dX0_part_40 0 rfl ?_
          refine g_iload_n C dX0_part_41 2 rfl ?_
          refine bd_n hf (fun r19 s20 h21 hf => ?_)
          refine g_callV0 (As := [.int a2]) (rest := []) (stk := []) C (w_xw_findsParts h21) hX oX0 rfl rfl q943 q945 qs38 q88 q946 mdX0_findsParts rfl ⟨Nat.le_of_ble_eq_true rfl, Nat.le_of_ble_eq_true rfl⟩ (Nat.le_of_ble_eq_true rfl) dX0_part_42 rfl ?_
          refine g_aload_n C dX0_part_45 0 rfl ?_
          refine g_getS 17 C oX0 fX0_122 rfl dX0_part_46 ?_
          refine g_iload_n C dX0_part_49 1 rfl ?_
          refine gd_n hf (fun c22 hf => ?_)
          refine g_lald C aX17 rfl c22 dX0_part_50 ?_
          refine g_ldc2 C dX0_part_51 q947 ?_
          refine bd_n hf (fun r23 s24 h25 hf => ?_)
          refine g_callS0 (As := [.long (rdL s20 17 a1), .long (1073741824 : Int64)]) (rest := []) (stk := [.long r23]) C (w_xw_common h25) hX rfl q949 q950 q88 q951 msX0_common rfl ⟨Nat.le_of_ble_eq_true rfl, Nat.le_of_ble_eq_true rfl⟩ (Nat.le_of_ble_eq_true rfl) dX0_part_54 rfl ?_
          refine g_lstore (i := 4) (lv' := [(4, .long r23), (0, .ref (g.1 0)), (1, .int a1), (2, .int a2), (3, .int a3)]) C dX0_part_57 rfl (by decide) rfl ?_
          refine g_iload_n C dX0_part_59 4 rfl ?_
          refine g_if_ne 72 C dX0_part_60 rfl (fun c26 => ?_) (fun c26 => ?_)
          · replace hf := if_t c26 hf
            refine g_aload_n C dX0_part_63 1 rfl ?_
            refine g_getS 17 C oX0 fX0_122 rfl dX0_part_64 ?_
            refine g_iload_n C dX0_part_67 2 rfl ?_
            refine g_lald C aX17 rfl c22 dX0_part_68 ?_
            refine g_goto 75 C dX0_part_69 rfl ?_
            refine g_lload C dX0_part_75 0 rfl ?_
            refine gd_n hf (fun c27 hf => ?_)
            refine g_ldiv C dX0_part_77 c27 ?_
            refine g_l2i C dX0_part_78 ?_
            exact g_iret C E rfl (re_i hf) (re_s hf) ⟨Nat.zero_le _, Nat.zero_le _⟩ dX0_part_79
          · replace hf := if_f c26 hf
            refine g_ldc2 C dX0_part_72 q947 ?_
            refine g_lload C dX0_part_75 0 rfl ?_
            refine gd_n hf (fun c28 hf => ?_)
            refine g_ldiv C dX0_part_77 c28 ?_
            refine g_l2i C dX0_part_78 ?_
            exact g_iret C E rfl (re_i hf) (re_s hf) ⟨Nat.zero_le _, Nat.zero_le _⟩ dX0_part_79
        · replace hf := if_f c18 hf
          refine g_iconst C dX0_part_38 kc_m1 ?_
          exact g_iret C E rfl (re_i hf) (re_s hf) ⟨Nat.zero_le _, Nat.zero_le _⟩ dX0_part_39
      · replace hf := if_f c14 hf
        refine g_iconst C dX0_part_38 kc_m1 ?_
        exact g_iret C E rfl (re_i hf) (re_s hf) ⟨Nat.zero_le _, Nat.zero_le _⟩ dX0_part_39
    · replace hf := if_f c8 hf
      refine g_iconst C dX0_part_38 kc_m1 ?_
      exact g_iret C E rfl (re_i hf) (re_s hf) ⟨Nat.zero_le _, Nat.zero_le _⟩ dX0_part_39
  · replace hf := if_f c4 hf
    refine g_iconst C dX0_part_38 kc_m1 ?_
    exact g_iret C E rfl (re_i hf) (re_s hf) ⟨Nat.zero_le _, Nat.zero_le _⟩ dX0_part_39
def xw_isLed_L7 (n : Nat) (v3 : Int32) (k8 : Sto → Int64 → Option (Bool × Sto)) : Nat → Sto → Int64 → Int32 → Option (Bool × Sto)
  | 0, _, _, _ => none
  | k + 1, s2, v4, v5 =>
    if v5 ≤ v3 then
      k8 s2 v4
    else
      vl (fun (v10 : Int64) =>
        xw_isLed_L7 n v3 k8 k s2 v10 (v5 + (-1 : Int32))) fun j11 =>
      if (lg_cmp ((lshr v4 v5) &&& (1 : Int64)) (1 : Int64)) = 0 then
        gd (inb v5 60) <|
        nn (rdR s2 16 v5) fun q14 =>
        pgI s2 q14 3 1 fun v16 =>
        if v16 = (-1 : Int32) then
          j11 v4
        else
          pgI s2 q14 3 2 fun v19 =>
          vl (v4 ||| ((lshl (1 : Int64) v16) ||| (lshl (1 : Int64) v19))) fun v21 =>
          j11 v21
      else
        j11 v4
def xw_isLed (n : Nat) (s : Sto) (a1 : Int32) (a2 : Int32) : Option (Bool × Sto) :=
  vl (lshl (1 : Int64) a1) fun v1 =>
  xw_isLed_L7 n a2
      (fun (s6 : Sto) (v7 : Int64) =>
        if (lg_cmp ((lshr v7 a2) &&& (1 : Int64)) (1 : Int64)) = 0 then
          some (true, s6)
        else
          some (false, s6))
      n s v1 a1
theorem w_xw_isLed_L7  {l : Launch} {n : Nat} {v3 : Int32} {k8 : Sto → Int64 → Option (Bool × Sto)} {g : Gam} {A : Nat → Prop} {X : FX} {si sF : Sto} {rF : Bool} (C : CX xCfg g A 6 X cX0_isLed RX0 (some .boolean) 1 12) (E : EX xCfg g A X si sF (some (.int (bI rF))) 0 0) (hX : X.2.1 = l) (Hk8 : ∀ (s6 : Sto) (v7 : Int64), k8 s6 v7 = some (rF, sF) → TG xCfg g A 6 X 0 0 s6 72 [(2, .int v3), (3, .long v7)] []) : ∀ (k : Nat) (s2 : Sto) (v4 : Int64) (v5 : Int32), xw_isLed_L7 n v3 k8 k s2 v4 v5 = some (rF, sF) → TG xCfg g A 6 X 0 0 s2 7 [(0, .ref (g.1 0)), (2, .int v3), (3, .long v4), (5, .int v5)] [] := by
  intro k
  induction k with
  | zero => intro s2 v4 v5 hf; rw [xw_isLed_L7] at hf; cases hf
  | succ k ih =>
    intro s2 v4 v5 hf
    rw [xw_isLed_L7] at hf
    refine g_iload C dX0_isLed_7 3 rfl ?_
    refine g_iload_n C dX0_isLed_9 1 rfl ?_
    refine g_icmp_le 72 C dX0_isLed_10 rfl (fun c9 => ?_) (fun c9 => ?_)
    · replace hf := if_t c9 hf
      exact g_sub [1, 2] rfl (Hk8 _ _ hf)
    · replace hf := if_f c9 hf
      refine g_lload_n C dX0_isLed_13 2 rfl ?_
      refine g_iload C dX0_isLed_14 3 rfl ?_
      refine g_lshr C dX0_isLed_16 ?_
      refine g_lconst C dX0_isLed_17 kl_1 ?_
      refine g_land C dX0_isLed_18 ?_
      refine g_lconst C dX0_isLed_19 kl_1 ?_
      refine g_lcmp C dX0_isLed_20 ?_
      refine vl_n hf (fun j11 hj11 hf => ?_)
      have Hj11 : ∀ (v10 : Int64), j11 v10 = some (rF, sF) → TG xCfg g A 6 X 0 0 s2 66 [(0, .ref (g.1 0)), (2, .int v3), (3, .long v10), (5, .int v5)] [] := by
        clear hf; subst hj11
        intro v10 hf
        refine g_iinc (q := 3) (lv' := [(5, .int (v5 + (-1 : Int32))), (0, .ref (g.1 0)), (2, .int v3), (3, .long v10)]) C dX0_isLed_66 rfl kc_m1 (by decide) rfl ?_
        refine g_goto 7 C dX0_isLed_69 rfl ?_
        exact g_sub [1, 2, 3, 0] rfl (ih _ _ _ hf)
      clear hj11
      refine g_if_ne 66 C dX0_isLed_21 rfl (fun c12 => ?_) (fun c12 => ?_)
      · replace hf := if_t c12 hf
        refine g_aload_n C dX0_isLed_24 0 rfl ?_
        refine g_getS 16 C oX0 fX0_118 rfl dX0_isLed_25 ?_
        refine g_iload C dX0_isLed_28 3 rfl ?_
        refine gd_n hf (fun c13 hf => ?_)
        refine g_aald3 C rX16 rfl c13 dX0_isLed_30 ?_
        refine nn_n hf (fun q14 hq15 hf => ?_)
        refine pgI_n hf (fun v16 hv17 hf => ?_)
        refine g_pgetQ C fX0_501 hq15 hv17 dX0_isLed_31 ?_
        refine g_iconst C dX0_isLed_34 kc_m1 ?_
        refine g_icmp_eq 66 C dX0_isLed_35 rfl (fun c18 => ?_) (fun c18 => ?_)
        · replace hf := if_t c18 hf
          exact g_sub [0, 1, 2, 3] rfl (Hj11 _ hf)
        · replace hf := if_f c18 hf
          refine g_lload_n C dX0_isLed_38 2 rfl ?_
          refine g_lconst C dX0_isLed_39 kl_1 ?_
          refine g_aload_n C dX0_isLed_40 0 rfl ?_
          refine g_getS 16 C oX0 fX0_118 rfl dX0_isLed_41 ?_
          refine g_iload C dX0_isLed_44 3 rfl ?_
          refine g_aald3 C rX16 rfl c13 dX0_isLed_46 ?_
          refine g_pgetQ C fX0_501 hq15 hv17 dX0_isLed_47 ?_
          refine g_lshl C dX0_isLed_50 ?_
          refine g_lconst C dX0_isLed_51 kl_1 ?_
          refine g_aload_n C dX0_isLed_52 0 rfl ?_
          refine g_getS 16 C oX0 fX0_118 rfl dX0_isLed_53 ?_
          refine g_iload C dX0_isLed_56 3 rfl ?_
          refine g_aald3 C rX16 rfl c13 dX0_isLed_58 ?_
          refine pgI_n hf (fun v19 hv20 hf => ?_)
          refine g_pgetQ C fX0_504 hq15 hv20 dX0_isLed_59 ?_
          refine g_lshl C dX0_isLed_62 ?_
          refine g_lor C dX0_isLed_63 ?_
          refine g_lor C dX0_isLed_64 ?_
          refine vl_n hf (fun v21 hv21 hf => ?_)
          refine g_lstore_n (i := 3) (lv' := [(3, .long v21), (0, .ref (g.1 0)), (2, .int v3), (5, .int v5)]) C dX0_isLed_65 rfl hv21 (by decide) rfl ?_
          exact g_sub [1, 2, 0, 3] rfl (Hj11 _ hf)
      · replace hf := if_f c12 hf
        exact g_sub [0, 1, 2, 3] rfl (Hj11 _ hf)
theorem w_xw_isLed {l : Launch} {n : Nat} {s sF : Sto} {a1 : Int32} {a2 : Int32} {rF : Bool} (hf : xw_isLed n s a1 a2 = some (rF, sF)) : Ct xCfg l yX0_isLed cX0_isLed 6 (some .boolean) { frames := 1, cells := 0, slots := 0, locals := 12 } (fun g => [.ref (g.1 0), .int a1, .int a2]) s sF (fun _ => some (.int (bI rF))) := by
  refine Ct_of pn_X0 (fun g => Nat.le_of_ble_eq_true rfl) (fun g A X C E hX => ?_)
  rw [xw_isLed] at hf
  show TG xCfg g A 6 X 0 0 s 0 [(0, .ref (g.1 0)), (1, .int a1), (2, .int a2)] []
  refine g_lconst C dX0_isLed_0 kl_1 ?_
  refine g_iload_n C dX0_isLed_1 1 rfl ?_
  refine g_lshl C dX0_isLed_2 ?_
  refine vl_n hf (fun v1 hv1 hf => ?_)
  refine g_lstore_n (i := 3) (lv' := [(3, .long v1), (0, .ref (g.1 0)), (1, .int a1), (2, .int a2)]) C dX0_isLed_3 rfl hv1 (by decide) rfl ?_
  refine g_iload_n C dX0_isLed_4 2 rfl ?_
  refine g_istore (i := 5) (lv' := [(5, .int a1), (3, .long v1), (0, .ref (g.1 0)), (1, .int a1), (2, .int a2)]) C dX0_isLed_5 rfl (by decide) rfl ?_
  refine g_sub [2, 4, 1, 0] rfl (w_xw_isLed_L7 C E hX (fun s6 v7 hf => ?_) _ _ _ _ hf)
  refine g_lload_n C dX0_isLed_72 1 rfl ?_
  refine g_iload_n C dX0_isLed_73 0 rfl ?_
  refine g_lshr C dX0_isLed_74 ?_
  refine g_lconst C dX0_isLed_75 kl_1 ?_
  refine g_land C dX0_isLed_76 ?_
  refine g_lconst C dX0_isLed_77 kl_1 ?_
  refine g_lcmp C dX0_isLed_78 ?_
  refine g_if_ne 86 C dX0_isLed_79 rfl (fun c22 => ?_) (fun c22 => ?_)
  · replace hf := if_t c22 hf
    refine g_iconst C dX0_isLed_82 kc_1 ?_
    refine g_goto 87 C dX0_isLed_83 rfl ?_
    exact g_iret (v := bI true) C E (bI_nar _) (re_z hf) (re_s hf) ⟨Nat.zero_le _, Nat.zero_le _⟩ dX0_isLed_87
  · replace hf := if_f c22 hf
    refine g_iconst C dX0_isLed_86 kc_0 ?_
    exact g_iret (v := bI false) C E (bI_nar _) (re_z hf) (re_s hf) ⟨Nat.zero_le _, Nat.zero_le _⟩ dX0_isLed_87
def xw_housesOf_L4 (n : Nat) (v2 : Int32) : Nat → Sto → Int32 → Int32 → Option (Int32 × Sto)
  | 0, _, _, _ => none
  | k + 1, s1, v3, v4 =>
    if v2 < v4 then
      bd (jw_I_bitCount n s1 v3) fun r6 s7 =>
      some (r6, s7)
    else
      gd (inb v4 60) <|
      nn (rdR s1 16 v4) fun q10 =>
      pgI s1 q10 3 1 fun v12 =>
      vl (fun (s14 : Sto) (v15 : Int32) =>
        xw_housesOf_L4 n v2 k s14 v15 (v4 + (1 : Int32))) fun j16 =>
      if v12 = (-1 : Int32) then
        bd (xw_isLed n s1 v2 v4) fun r18 s19 =>
        if r18 = true then
          nn (rdR s19 16 v4) fun q22 =>
          pgI s19 q22 3 0 fun v24 =>
          vl (v3 ||| (ishl (1 : Int32) v24)) fun v26 =>
          j16 s19 v26
        else
          j16 s19 v3
      else
        j16 s1 v3
def xw_housesOf (n : Nat) (s : Sto) (a1 : Int32) : Option (Int32 × Sto) :=
  xw_housesOf_L4 n a1
      n s (0 : Int32) (0 : Int32)
theorem w_xw_housesOf_L4  {l : Launch} {n : Nat} {v2 : Int32} {g : Gam} {A : Nat → Prop} {X : FX} {si sF : Sto} {rF : Int32} (C : CX xCfg g A 4 X cX0_housesOf RX0 (some .int) 2 37) (E : EX xCfg g A X si sF (some (.int rF)) 0 0) (hX : X.2.1 = l) : ∀ (k : Nat) (s1 : Sto) (v3 : Int32) (v4 : Int32), xw_housesOf_L4 n v2 k s1 v3 v4 = some (rF, sF) → TG xCfg g A 4 X 0 0 s1 4 [(0, .ref (g.1 0)), (1, .int v2), (2, .int v3), (3, .int v4)] [] := by
  intro k
  induction k with
  | zero => intro s1 v3 v4 hf; rw [xw_housesOf_L4] at hf; cases hf
  | succ k ih =>
    intro s1 v3 v4 hf
    rw [xw_housesOf_L4] at hf
    refine g_iload_n C dX0_housesOf_4 3 rfl ?_
    refine g_iload_n C dX0_housesOf_5 1 rfl ?_
    refine g_icmp_gt 51 C dX0_housesOf_6 rfl (fun c5 => ?_) (fun c5 => ?_)
    · replace hf := if_t c5 hf
      refine g_iload_n C dX0_housesOf_51 2 rfl ?_
      refine bd_n hf (fun r6 s7 h8 hf => ?_)
      refine g_callS0 (As := [.int v3]) (rest := []) (stk := [.int r6]) C (w_jw_I_bitCount h8) hX rfl q964 q965 q111 q966 msJ9_bitCount rfl ⟨Nat.le_of_ble_eq_true rfl, Nat.le_of_ble_eq_true rfl⟩ (Nat.le_of_ble_eq_true rfl) dX0_housesOf_52 rfl ?_
      exact g_iret C E rfl (re_i hf) (re_s hf) ⟨Nat.zero_le _, Nat.zero_le _⟩ dX0_housesOf_55
    · replace hf := if_f c5 hf
      refine g_aload_n C dX0_housesOf_9 0 rfl ?_
      refine g_getS 16 C oX0 fX0_118 rfl dX0_housesOf_10 ?_
      refine g_iload_n C dX0_housesOf_13 3 rfl ?_
      refine gd_n hf (fun c9 hf => ?_)
      refine g_aald3 C rX16 rfl c9 dX0_housesOf_14 ?_
      refine nn_n hf (fun q10 hq11 hf => ?_)
      refine pgI_n hf (fun v12 hv13 hf => ?_)
      refine g_pgetQ C fX0_501 hq11 hv13 dX0_housesOf_15 ?_
      refine g_iconst C dX0_housesOf_18 kc_m1 ?_
      refine vl_n hf (fun j16 hj16 hf => ?_)
      have Hj16 : ∀ (s14 : Sto) (v15 : Int32), j16 s14 v15 = some (rF, sF) → TG xCfg g A 4 X 0 0 s14 45 [(0, .ref (g.1 0)), (1, .int v2), (2, .int v15), (3, .int v4)] [] := by
        clear hf; subst hj16
        intro s14 v15 hf
        refine g_iinc (q := 3) (lv' := [(3, .int (v4 + (1 : Int32))), (0, .ref (g.1 0)), (1, .int v2), (2, .int v15)]) C dX0_housesOf_45 rfl kc_1 (by decide) rfl ?_
        refine g_goto 4 C dX0_housesOf_48 rfl ?_
        exact g_sub [1, 2, 3, 0] rfl (ih _ _ _ hf)
      clear hj16
      refine g_icmp_ne 45 C dX0_housesOf_19 rfl (fun c17 => ?_) (fun c17 => ?_)
      · replace hf := if_t c17 hf
        refine g_aload_n C dX0_housesOf_22 0 rfl ?_
        refine g_iload_n C dX0_housesOf_23 1 rfl ?_
        refine g_iload_n C dX0_housesOf_24 3 rfl ?_
        refine bd_n hf (fun r18 s19 h20 hf => ?_)
        refine g_callV0 (As := [.int v2, .int v4]) (rest := []) (stk := [.int (bI r18)]) C (w_xw_isLed h20) hX oX0 rfl rfl q960 q962 qs40 q88 q963 mdX0_isLed rfl ⟨Nat.le_of_ble_eq_true rfl, Nat.le_of_ble_eq_true rfl⟩ (Nat.le_of_ble_eq_true rfl) dX0_housesOf_25 rfl ?_
        refine g_ifZ_eq 45 C dX0_housesOf_28 rfl (fun c21 => ?_) (fun c21 => ?_)
        · replace hf := if_t c21 hf
          refine g_iload_n C dX0_housesOf_31 2 rfl ?_
          refine g_iconst C dX0_housesOf_32 kc_1 ?_
          refine g_aload_n C dX0_housesOf_33 0 rfl ?_
          refine g_getS 16 C oX0 fX0_118 rfl dX0_housesOf_34 ?_
          refine g_iload_n C dX0_housesOf_37 3 rfl ?_
          refine g_aald3 C rX16 rfl c9 dX0_housesOf_38 ?_
          refine nn_n hf (fun q22 hq23 hf => ?_)
          refine pgI_n hf (fun v24 hv25 hf => ?_)
          refine g_pgetQ C fX0_520 hq23 hv25 dX0_housesOf_39 ?_
          refine g_ishl C dX0_housesOf_42 ?_
          refine g_ior C dX0_housesOf_43 ?_
          refine vl_n hf (fun v26 hv26 hf => ?_)
          refine g_istore_n (i := 2) (lv' := [(2, .int v26), (0, .ref (g.1 0)), (1, .int v2), (3, .int v4)]) C dX0_housesOf_44 rfl hv26 (by decide) rfl ?_
          exact g_sub [1, 2, 0, 3] rfl (Hj16 _ _ hf)
        · replace hf := if_f c21 hf
          exact g_sub [0, 1, 2, 3] rfl (Hj16 _ _ hf)
      · replace hf := if_f c17 hf
        exact g_sub [0, 1, 2, 3] rfl (Hj16 _ _ hf)
theorem w_xw_housesOf {l : Launch} {n : Nat} {s sF : Sto} {a1 : Int32} {rF : Int32} (hf : xw_housesOf n s a1 = some (rF, sF)) : Ct xCfg l yX0_housesOf cX0_housesOf 4 (some .int) { frames := 2, cells := 0, slots := 0, locals := 37 } (fun g => [.ref (g.1 0), .int a1]) s sF (fun _ => some (.int rF)) := by
  refine Ct_of pn_X0 (fun g => Nat.le_of_ble_eq_true rfl) (fun g A X C E hX => ?_)
  rw [xw_housesOf] at hf
  show TG xCfg g A 4 X 0 0 s 0 [(0, .ref (g.1 0)), (1, .int a1)] []
  refine g_iconst C dX0_housesOf_0 kc_0 ?_
  refine g_istore_n (i := 2) (lv' := [(2, .int (0 : Int32)), (0, .ref (g.1 0)), (1, .int a1)]) C dX0_housesOf_1 rfl rfl (by decide) rfl ?_
  refine g_iconst C dX0_housesOf_2 kc_0 ?_
  refine g_istore_n (i := 3) (lv' := [(3, .int (0 : Int32)), (2, .int (0 : Int32)), (0, .ref (g.1 0)), (1, .int a1)]) C dX0_housesOf_3 rfl rfl (by decide) rfl ?_
  refine g_sub [2, 3, 1, 0] rfl (w_xw_housesOf_L4 C E hX _ _ _ _ hf)
def xw_lent (n : Nat) (s : Sto) (a1 : Int32) (a2 : Int32) : Option (Int32 × Sto) :=
  bd (xw_isLeaven n s a1) fun r1 s2 =>
  if r1 = true then
    gd (inb a1 60) <|
    if a2 = (0 : Int32) then
      nn (rdR s2 16 a1) fun q11 =>
      pgI s2 q11 3 3 fun v13 =>
      some (v13, s2)
    else
      if a2 = (1 : Int32) then
        nn (rdR s2 16 a1) fun q15 =>
        pgI s2 q15 3 0 fun v17 =>
        some (v17, s2)
      else
        if a2 = (2 : Int32) then
          nn (rdR s2 16 a1) fun q19 =>
          pgI s2 q19 3 1 fun v21 =>
          some (v21, s2)
        else
          if a2 = (3 : Int32) then
            nn (rdR s2 16 a1) fun q23 =>
            pgI s2 q23 3 2 fun v25 =>
            some (v25, s2)
          else
            if a2 = (4 : Int32) then
              bd (xw_housesOf n s2 a1) fun r27 s28 =>
              some (r27, s28)
            else
              some ((-2 : Int32), s2)
  else
    some ((-2 : Int32), s2)
theorem w_xw_lent {l : Launch} {n : Nat} {s sF : Sto} {a1 : Int32} {a2 : Int32} {rF : Int32} (hf : xw_lent n s a1 a2 = some (rF, sF)) : Ct xCfg l yX0_lent cX0_lent 4 (some .int) { frames := 3, cells := 0, slots := 0, locals := 60 } (fun g => [.ref (g.1 0), .int a1, .int a2]) s sF (fun _ => some (.int rF)) := by
  refine Ct_of pn_X0 (fun g => Nat.le_of_ble_eq_true rfl) (fun g A X C E hX => ?_)
  rw [xw_lent] at hf
  show TG xCfg g A 4 X 0 0 s 0 [(0, .ref (g.1 0)), (1, .int a1), (2, .int a2)] []
  refine g_aload_n C dX0_lent_0 0 rfl ?_
  refine g_iload_n C dX0_lent_1 1 rfl ?_
  refine bd_n hf (fun r1 s2 h3 hf => ?_)
  refine g_callV0 (As := [.int a1]) (rest := []) (stk := [.int (bI r1)]) C (w_xw_isLeaven h3) hX oX0 rfl rfl q913 q915 qs37 q88 q916 mdX0_isLeaven rfl ⟨Nat.le_of_ble_eq_true rfl, Nat.le_of_ble_eq_true rfl⟩ (Nat.le_of_ble_eq_true rfl) dX0_lent_2 rfl ?_
  refine g_ifZ_ne 11 C dX0_lent_5 rfl (fun c4 => ?_) (fun c4 => ?_)
  · replace hf := if_t c4 hf
    refine g_aload_n C dX0_lent_11 0 rfl ?_
    refine g_getS 16 C oX0 fX0_118 rfl dX0_lent_12 ?_
    refine g_iload_n C dX0_lent_15 1 rfl ?_
    refine gd_n hf (fun c5 hf => ?_)
    refine g_aald3 C rX16 rfl c5 dX0_lent_16 ?_
    refine g_storeQ_n (i := 3) (lv' := [(3, va_rf (rdR s2 16 a1)), (0, .ref (g.1 0)), (1, .int a1), (2, .int a2)]) C dX0_lent_17 rfl (by decide) rfl ?_
    refine g_iload_n C dX0_lent_18 3 rfl ?_
    by_cases c6 : a2 = (0 : Int32)
    · replace hf := if_t c6 hf
      refine g_tableIn 0 52 C dX0_lent_19 c6 (by decide) (by decide) rfl rfl ?_
      refine g_loadQ_n C dX0_lent_52 0 rfl ?_
      refine nn_n hf (fun q11 hq12 hf => ?_)
      refine pgI_n hf (fun v13 hv14 hf => ?_)
      refine g_pgetQ C fX0_493 hq12 hv14 dX0_lent_53 ?_
      exact g_iret C E rfl (re_i hf) (re_s hf) ⟨Nat.zero_le _, Nat.zero_le _⟩ dX0_lent_56
    replace hf := if_f c6 hf
    by_cases c7 : a2 = (1 : Int32)
    · replace hf := if_t c7 hf
      refine g_tableIn 1 57 C dX0_lent_19 c7 (by decide) (by decide) rfl rfl ?_
      refine g_loadQ_n C dX0_lent_57 0 rfl ?_
      refine nn_n hf (fun q15 hq16 hf => ?_)
      refine pgI_n hf (fun v17 hv18 hf => ?_)
      refine g_pgetQ C fX0_520 hq16 hv18 dX0_lent_58 ?_
      exact g_iret C E rfl (re_i hf) (re_s hf) ⟨Nat.zero_le _, Nat.zero_le _⟩ dX0_lent_61
    replace hf := if_f c7 hf
    by_cases c8 : a2 = (2 : Int32)
    · replace hf := if_t c8 hf
      refine g_tableIn 2 62 C dX0_lent_19 c8 (by decide) (by decide) rfl rfl ?_
      refine g_loadQ_n C dX0_lent_62 0 rfl ?_
      refine nn_n hf (fun q19 hq20 hf => ?_)
      refine pgI_n hf (fun v21 hv22 hf => ?_)
      refine g_pgetQ C fX0_501 hq20 hv22 dX0_lent_63 ?_
      exact g_iret C E rfl (re_i hf) (re_s hf) ⟨Nat.zero_le _, Nat.zero_le _⟩ dX0_lent_66
    replace hf := if_f c8 hf
    by_cases c9 : a2 = (3 : Int32)
    · replace hf := if_t c9 hf
      refine g_tableIn 3 67 C dX0_lent_19 c9 (by decide) (by decide) rfl rfl ?_
      refine g_loadQ_n C dX0_lent_67 0 rfl ?_
      refine nn_n hf (fun q23 hq24 hf => ?_)
      refine pgI_n hf (fun v25 hv26 hf => ?_)
      refine g_pgetQ C fX0_504 hq24 hv26 dX0_lent_68 ?_
      exact g_iret C E rfl (re_i hf) (re_s hf) ⟨Nat.zero_le _, Nat.zero_le _⟩ dX0_lent_71
    replace hf := if_f c9 hf
    by_cases c10 : a2 = (4 : Int32)
    · replace hf := if_t c10 hf
      refine g_tableIn 4 72 C dX0_lent_19 c10 (by decide) (by decide) rfl rfl ?_
      refine g_aload_n C dX0_lent_72 1 rfl ?_
      refine g_iload_n C dX0_lent_73 2 rfl ?_
      refine bd_n hf (fun r27 s28 h29 hf => ?_)
      refine g_callV0 (As := [.int a1]) (rest := []) (stk := [.int r27]) C (w_xw_housesOf h29) hX oX0 rfl rfl q956 q958 qs39 q88 q959 mdX0_housesOf rfl ⟨Nat.le_of_ble_eq_true rfl, Nat.le_of_ble_eq_true rfl⟩ (Nat.le_of_ble_eq_true rfl) dX0_lent_74 rfl ?_
      exact g_iret C E rfl (re_i hf) (re_s hf) ⟨Nat.zero_le _, Nat.zero_le _⟩ dX0_lent_77
    replace hf := if_f c10 hf
    refine g_tableD 78 C dX0_lent_19 (sw_d [(0 : Int32), (1 : Int32), (2 : Int32), (3 : Int32), (4 : Int32)] (List.forall_mem_cons.mpr ⟨c6, (List.forall_mem_cons.mpr ⟨c7, (List.forall_mem_cons.mpr ⟨c8, (List.forall_mem_cons.mpr ⟨c9, (List.forall_mem_cons.mpr ⟨c10, (fun _ h => absurd h List.not_mem_nil)⟩)⟩)⟩)⟩)⟩) (by decide +kernel) (by decide)) rfl ?_
    refine g_bipush C dX0_lent_78 kb_m2 ?_
    exact g_iret C E rfl (re_i hf) (re_s hf) ⟨Nat.zero_le _, Nat.zero_le _⟩ dX0_lent_80
  · replace hf := if_f c4 hf
    refine g_bipush C dX0_lent_8 kb_m2 ?_
    exact g_iret C E rfl (re_i hf) (re_s hf) ⟨Nat.zero_le _, Nat.zero_le _⟩ dX0_lent_10
def xw_led (n : Nat) (s : Sto) (a1 : Int32) (a2 : Int32) : Option (Int32 × Sto) :=
  bd (xw_isLeaven n s a1) fun r1 s2 =>
  if r1 = true then
    bd (xw_isLeaven n s2 a2) fun r5 s6 =>
    if r5 = true then
      bd (xw_isLed n s6 a1 a2) fun r9 s10 =>
      if r9 = true then
        some ((1 : Int32), s10)
      else
        some ((0 : Int32), s10)
    else
      some ((-1 : Int32), s6)
  else
    some ((-1 : Int32), s2)
theorem w_xw_led {l : Launch} {n : Nat} {s sF : Sto} {a1 : Int32} {a2 : Int32} {rF : Int32} (hf : xw_led n s a1 a2 = some (rF, sF)) : Ct xCfg l yX0_led cX0_led 3 (some .int) { frames := 3, cells := 0, slots := 0, locals := 55 } (fun g => [.ref (g.1 0), .int a1, .int a2]) s sF (fun _ => some (.int rF)) := by
  refine Ct_of pn_X0 (fun g => Nat.le_of_ble_eq_true rfl) (fun g A X C E hX => ?_)
  rw [xw_led] at hf
  show TG xCfg g A 3 X 0 0 s 0 [(0, .ref (g.1 0)), (1, .int a1), (2, .int a2)] []
  refine g_aload_n C dX0_led_0 0 rfl ?_
  refine g_iload_n C dX0_led_1 1 rfl ?_
  refine bd_n hf (fun r1 s2 h3 hf => ?_)
  refine g_callV0 (As := [.int a1]) (rest := []) (stk := [.int (bI r1)]) C (w_xw_isLeaven h3) hX oX0 rfl rfl q913 q915 qs37 q88 q916 mdX0_isLeaven rfl ⟨Nat.le_of_ble_eq_true rfl, Nat.le_of_ble_eq_true rfl⟩ (Nat.le_of_ble_eq_true rfl) dX0_led_2 rfl ?_
  refine g_ifZ_eq 33 C dX0_led_5 rfl (fun c4 => ?_) (fun c4 => ?_)
  · replace hf := if_t c4 hf
    refine g_aload_n C dX0_led_8 0 rfl ?_
    refine g_iload_n C dX0_led_9 2 rfl ?_
    refine bd_n hf (fun r5 s6 h7 hf => ?_)
    refine g_callV0 (As := [.int a2]) (rest := []) (stk := [.int (bI r5)]) C (w_xw_isLeaven h7) hX oX0 rfl rfl q913 q915 qs37 q88 q916 mdX0_isLeaven rfl ⟨Nat.le_of_ble_eq_true rfl, Nat.le_of_ble_eq_true rfl⟩ (Nat.le_of_ble_eq_true rfl) dX0_led_10 rfl ?_
    refine g_ifZ_eq 33 C dX0_led_13 rfl (fun c8 => ?_) (fun c8 => ?_)
    · replace hf := if_t c8 hf
      refine g_aload_n C dX0_led_16 0 rfl ?_
      refine g_iload_n C dX0_led_17 1 rfl ?_
      refine g_iload_n C dX0_led_18 2 rfl ?_
      refine bd_n hf (fun r9 s10 h11 hf => ?_)
      refine g_callV0 (As := [.int a1, .int a2]) (rest := []) (stk := [.int (bI r9)]) C (w_xw_isLed h11) hX oX0 rfl rfl q960 q962 qs40 q88 q963 mdX0_isLed rfl ⟨Nat.le_of_ble_eq_true rfl, Nat.le_of_ble_eq_true rfl⟩ (Nat.le_of_ble_eq_true rfl) dX0_led_19 rfl ?_
      refine g_ifZ_eq 29 C dX0_led_22 rfl (fun c12 => ?_) (fun c12 => ?_)
      · replace hf := if_t c12 hf
        refine g_iconst C dX0_led_25 kc_1 ?_
        refine g_goto 34 C dX0_led_26 rfl ?_
        exact g_iret C E rfl (re_i hf) (re_s hf) ⟨Nat.zero_le _, Nat.zero_le _⟩ dX0_led_34
      · replace hf := if_f c12 hf
        refine g_iconst C dX0_led_29 kc_0 ?_
        refine g_goto 34 C dX0_led_30 rfl ?_
        exact g_iret C E rfl (re_i hf) (re_s hf) ⟨Nat.zero_le _, Nat.zero_le _⟩ dX0_led_34
    · replace hf := if_f c8 hf
      refine g_iconst C dX0_led_33 kc_m1 ?_
      exact g_iret C E rfl (re_i hf) (re_s hf) ⟨Nat.zero_le _, Nat.zero_le _⟩ dX0_led_34
  · replace hf := if_f c4 hf
    refine g_iconst C dX0_led_33 kc_m1 ?_
    exact g_iret C E rfl (re_i hf) (re_s hf) ⟨Nat.zero_le _, Nat.zero_le _⟩ dX0_led_34
def xw_rise (n : Nat) (s : Sto) (a1 : Int32) (a2 : Int32) (a3 : Int32) : Option (Bool × Sto) :=
  bd (xw_isIn n s a1 (0 : Int32) (7 : Int32)) fun r1 s2 =>
  if r1 = true then
    bd (xw_isIn n s2 a2 (0 : Int32) (7 : Int32)) fun r5 s6 =>
    if r5 = true then
      bd (xw_isIn n s6 a3 (0 : Int32) (9 : Int32)) fun r9 s10 =>
      if r9 = true then
        gd (inb a1 8) <|
        gd (isA xCfg (308 + (a1).toNatClampNeg) 0) <|
        gd (inb a2 (xlen xCfg (308 + (a1).toNatClampNeg))) <|
        vl (wr s10 (308 + (a1).toNatClampNeg) a2 a3) fun s16 =>
        some (true, s16)
      else
        some (false, s10)
    else
      some (false, s6)
  else
    some (false, s2)
theorem w_xw_rise {l : Launch} {n : Nat} {s sF : Sto} {a1 : Int32} {a2 : Int32} {a3 : Int32} {rF : Bool} (hf : xw_rise n s a1 a2 a3 = some (rF, sF)) : Ct xCfg l yX0_rise cX0_rise 4 (some .boolean) { frames := 2, cells := 0, slots := 0, locals := 34 } (fun g => [.ref (g.1 0), .int a1, .int a2, .int a3]) s sF (fun _ => some (.int (bI rF))) := by
  refine Ct_of pn_X0 (fun g => Nat.le_of_ble_eq_true rfl) (fun g A X C E hX => ?_)
  rw [xw_rise] at hf
  show TG xCfg g A 4 X 0 0 s 0 [(0, .ref (g.1 0)), (1, .int a1), (2, .int a2), (3, .int a3)] []
  refine g_iload_n C dX0_rise_0 1 rfl ?_
  refine g_iconst C dX0_rise_1 kc_0 ?_
  refine g_bipush C dX0_rise_2 kb_7 ?_
  refine bd_n hf (fun r1 s2 h3 hf => ?_)
  refine g_callS0 (As := [.int a1, .int (0 : Int32), .int (7 : Int32)]) (rest := []) (stk := [.int (bI r1)]) C (w_xw_isIn h3) hX rfl q381 q382 q88 q383 msX0_isIn rfl ⟨Nat.le_of_ble_eq_true rfl, Nat.le_of_ble_eq_true rfl⟩ (Nat.le_of_ble_eq_true rfl) dX0_rise_4 rfl ?_
  refine g_ifZ_eq 30 C dX0_rise_7 rfl (fun c4 => ?_) (fun c4 => ?_)
  · replace hf := if_t c4 hf
    refine g_iload_n C dX0_rise_10 2 rfl ?_
    refine g_iconst C dX0_rise_11 kc_0 ?_
    refine g_bipush C dX0_rise_12 kb_7 ?_
    refine bd_n hf (fun r5 s6 h7 hf => ?_)
    refine g_callS0 (As := [.int a2, .int (0 : Int32), .int (7 : Int32)]) (rest := []) (stk := [.int (bI r5)]) C (w_xw_isIn h7) hX rfl q381 q382 q88 q383 msX0_isIn rfl ⟨Nat.le_of_ble_eq_true rfl, Nat.le_of_ble_eq_true rfl⟩ (Nat.le_of_ble_eq_true rfl) dX0_rise_14 rfl ?_
    refine g_ifZ_eq 30 C dX0_rise_17 rfl (fun c8 => ?_) (fun c8 => ?_)
    · replace hf := if_t c8 hf
      refine g_iload_n C dX0_rise_20 3 rfl ?_
      refine g_iconst C dX0_rise_21 kc_0 ?_
      refine g_bipush C dX0_rise_22 kb_9 ?_
      refine bd_n hf (fun r9 s10 h11 hf => ?_)
      refine g_callS0 (As := [.int a3, .int (0 : Int32), .int (9 : Int32)]) (rest := []) (stk := [.int (bI r9)]) C (w_xw_isIn h11) hX rfl q381 q382 q88 q383 msX0_isIn rfl ⟨Nat.le_of_ble_eq_true rfl, Nat.le_of_ble_eq_true rfl⟩ (Nat.le_of_ble_eq_true rfl) dX0_rise_24 rfl ?_
      refine g_ifZ_ne 32 C dX0_rise_27 rfl (fun c12 => ?_) (fun c12 => ?_)
      · replace hf := if_t c12 hf
        refine g_aload_n C dX0_rise_32 0 rfl ?_
        refine g_getS 18 C oX0 fX0_126 rfl dX0_rise_33 ?_
        refine g_iload_n C dX0_rise_36 1 rfl ?_
        refine gd_n hf (fun c13 hf => ?_)
        refine g_aald5 C rX18 rfl c13 dX0_rise_37 ?_
        refine g_iload_n C dX0_rise_38 2 rfl ?_
        refine g_iload_n C dX0_rise_39 3 rfl ?_
        refine gd_n hf (fun c14 hf => ?_)
        refine gd_n hf (fun c15 hf => ?_)
        refine vl_n hf (fun s16 hs16 hf => ?_)
        refine g_iast C (isA_s c14) rfl c15 hs16 dX0_rise_40 ?_
        refine g_iconst C dX0_rise_41 kc_1 ?_
        exact g_iret (v := bI true) C E (bI_nar _) (re_z hf) (re_s hf) ⟨Nat.zero_le _, Nat.zero_le _⟩ dX0_rise_42
      · replace hf := if_f c12 hf
        refine g_iconst C dX0_rise_30 kc_0 ?_
        exact g_iret (v := bI false) C E (bI_nar _) (re_z hf) (re_s hf) ⟨Nat.zero_le _, Nat.zero_le _⟩ dX0_rise_31
    · replace hf := if_f c8 hf
      refine g_iconst C dX0_rise_30 kc_0 ?_
      exact g_iret (v := bI false) C E (bI_nar _) (re_z hf) (re_s hf) ⟨Nat.zero_le _, Nat.zero_le _⟩ dX0_rise_31
  · replace hf := if_f c4 hf
    refine g_iconst C dX0_rise_30 kc_0 ?_
    exact g_iret (v := bI false) C E (bI_nar _) (re_z hf) (re_s hf) ⟨Nat.zero_le _, Nat.zero_le _⟩ dX0_rise_31
def xw_findsOdds_L72 (n : Nat) (v38 : Option Nat) (v39 : Option Nat) (v40 : Int32) (v42 : Nat) (v43 : Int32) (k47 : Sto → Int64 → Option (Unit × Sto)) : Nat → Sto → Int64 → Int32 → Option (Unit × Sto)
  | 0, _, _, _ => none
  | k + 1, s37, v41, v44 =>
    if v43 ≤ v44 then
      k47 s37 v41
    else
      gd (isA xCfg v42 0) <|
      gd (inb v44 (xlen xCfg v42)) <|
      vl (rd s37 v42 v44) fun v51 =>
      vl (v41 + (Int32.toInt64 v51)) fun v52 =>
      xw_findsOdds_L72 n v38 v39 v40 v42 v43 k47 k s37 v52 (v44 + (1 : Int32))
def xw_findsOdds_L34 (n : Nat) (v21 : Option Nat) (v22 : Option Nat) (k25 : Sto → Option (Unit × Sto)) : Nat → Sto → Int32 → Option (Unit × Sto)
  | 0, _, _ => none
  | k + 1, s20, v23 =>
    nn v22 fun q26 =>
    pal (paI s20 q26 1) fun n28 f29 =>
    if (Int32.ofNat n28) ≤ v23 then
      k25 s20
    else
      if (lg_cmp (s20.2.1 0 35) (0 : Int64)) ≤ 0 then
        k25 s20
      else
        gd (inb v23 n28) <|
        gd (inb (f29 (v23).toNatClampNeg) 8) <|
        gd (isA xCfg (308 + ((f29 (v23).toNatClampNeg)).toNatClampNeg) 0) <|
        vl (Int32.ofNat (xlen xCfg (308 + ((f29 (v23).toNatClampNeg)).toNatClampNeg))) fun v36 =>
        xw_findsOdds_L72 n v21 v22 v23 (308 + ((f29 (v23).toNatClampNeg)).toNatClampNeg) v36
            (fun (s45 : Sto) (v46 : Int64) =>
              pal (paI s45 q26 1) fun n53 f54 =>
              gd (inb v23 n53) <|
              gd (inb (f54 (v23).toNatClampNeg) 8) <|
              nn v21 fun q58 =>
              pal (paI s45 q58 1) fun n60 f61 =>
              gd (inb v23 n60) <|
              gd (isA xCfg (308 + ((f54 (v23).toNatClampNeg)).toNatClampNeg) 0) <|
              gd (inb (f61 (v23).toNatClampNeg) (xlen xCfg (308 + ((f54 (v23).toNatClampNeg)).toNatClampNeg))) <|
              vl (sL s45 0 35 ((s45.2.1 0 35) * (Int32.toInt64 (rd s45 (308 + ((f54 (v23).toNatClampNeg)).toNatClampNeg) (f61 (v23).toNatClampNeg))))) fun s66 =>
              vl (sL s66 0 36 ((s66.2.1 0 36) * v46)) fun s67 =>
              xw_findsOdds_L34 n v21 v22 k25 k s67 (v23 + (1 : Int32)))
            n s20 (0 : Int64) (0 : Int32)
def xw_findsOdds (n : Nat) (s : Sto) (a1 : Int32) (a2 : Option Nat) : Option (Unit × Sto) :=
  gd (inb a1 9) <|
  nn (rdR s 5 a1) fun q2 =>
  pgQ s q2 2 3 fun v4 =>
  nn v4 fun q6 =>
  pal (paI s q6 1) fun n8 f9 =>
  nn a2 fun q11 =>
  pal (paI s q11 1) fun n13 f14 =>
  vl (fun (t16 : Int64) =>
    vl (sL s 0 35 t16) fun s18 =>
    vl (sL s18 0 36 (1 : Int64)) fun s19 =>
    xw_findsOdds_L34 n a2 v4
        (fun (s24 : Sto) =>
          vl (fun (s68 : Sto) =>
            bd (xw_common n s68 (s68.2.1 0 35) (s68.2.1 0 36)) fun r70 s71 =>
            gd (decide (¬ r70 = 0)) <|
            vl (sL s71 0 35 ((s71.2.1 0 35) / r70)) fun s74 =>
            vl (sL s74 0 36 ((s74.2.1 0 36) / r70)) fun s75 =>
            some ((), s75)) fun j69 =>
          if (lg_cmp (s24.2.1 0 35) (0 : Int64)) = 0 then
            vl (sL s24 0 36 (1 : Int64)) fun s77 =>
            j69 s77
          else
            j69 s24)
        n s19 (0 : Int32)) fun j17 =>
  if (Int32.ofNat n8) = (Int32.ofNat n13) then
    j17 (1 : Int64)
  else
    j17 (0 : Int64)
theorem w_xw_findsOdds_L72  {l : Launch} {n : Nat} {v38 : Option Nat} {v39 : Option Nat} {v40 : Int32} {v42 : Nat} {v43 : Int32} {k47 : Sto → Int64 → Option (Unit × Sto)} {g : Gam} {A : Nat → Prop} {X : FX} {si sF : Sto} {rF : Unit} (C : CX xCfg g A 11 X cX0_findsOdds RX0 none 2 41) (E : EX xCfg g A X si sF none 0 0) (hX : X.2.1 = l) (Hk47 : ∀ (s45 : Sto) (v46 : Int64), k47 s45 v46 = some (rF, sF) → TG xCfg g A 11 X 0 0 s45 100 [(0, .ref (g.1 0)), (2, va_rf v38), (3, va_rf v39), (4, .int v40), (5, .long v46)] []) : ∀ (k : Nat) (s37 : Sto) (v41 : Int64) (v44 : Int32), xw_findsOdds_L72 n v38 v39 v40 v42 v43 k47 k s37 v41 v44 = some (rF, sF) → TG xCfg g A 11 X 0 0 s37 72 [(0, .ref (g.1 0)), (2, va_rf v38), (3, va_rf v39), (4, .int v40), (5, .long v41), (7, .ref (g.1 v42)), (8, .int v43), (9, .int v44)] [] := by
  intro k
  induction k with
  | zero => intro s37 v41 v44 hf; rw [xw_findsOdds_L72] at hf; cases hf
  | succ k ih =>
    intro s37 v41 v44 hf
    rw [xw_findsOdds_L72] at hf
    refine g_iload C dX0_findsOdds_72 7 rfl ?_
    refine g_iload C dX0_findsOdds_74 6 rfl ?_
    refine g_icmp_ge 100 C dX0_findsOdds_76 rfl (fun c48 => ?_) (fun c48 => ?_)
    · replace hf := if_t c48 hf
      exact g_sub [0, 1, 2, 3, 4] rfl (Hk47 _ _ hf)
    · replace hf := if_f c48 hf
      refine g_aload C dX0_findsOdds_79 5 rfl ?_
      refine g_iload C dX0_findsOdds_81 7 rfl ?_
      refine gd_n hf (fun c49 hf => ?_)
      refine gd_n hf (fun c50 hf => ?_)
      refine g_iald C (isA_s c49) rfl c50 dX0_findsOdds_83 ?_
      refine vl_n hf (fun v51 hv51 hf => ?_)
      refine g_istore (i := 10) (lv' := [(10, .int v51), (0, .ref (g.1 0)), (2, va_rf v38), (3, va_rf v39), (4, .int v40), (5, .long v41), (7, .ref (g.1 v42)), (8, .int v43), (9, .int v44)]) C dX0_findsOdds_84 hv51 (by decide) rfl ?_
      refine g_lload C dX0_findsOdds_86 5 rfl ?_
      refine g_iload C dX0_findsOdds_88 0 rfl ?_
      refine g_i2l C dX0_findsOdds_90 ?_
      refine g_ladd C dX0_findsOdds_91 ?_
      refine vl_n hf (fun v52 hv52 hf => ?_)
      refine g_lstore (i := 5) (lv' := [(5, .long v52), (10, .int v51), (0, .ref (g.1 0)), (2, va_rf v38), (3, va_rf v39), (4, .int v40), (7, .ref (g.1 v42)), (8, .int v43), (9, .int v44)]) C dX0_findsOdds_92 hv52 (by decide) rfl ?_
      refine g_iinc (q := 8) (lv' := [(9, .int (v44 + (1 : Int32))), (5, .long v52), (10, .int v51), (0, .ref (g.1 0)), (2, va_rf v38), (3, va_rf v39), (4, .int v40), (7, .ref (g.1 v42)), (8, .int v43)]) C dX0_findsOdds_94 rfl kc_1 (by decide) rfl ?_
      refine g_goto 72 C dX0_findsOdds_97 rfl ?_
      exact g_sub [3, 4, 5, 6, 1, 7, 8, 0] rfl (ih _ _ _ hf)
theorem w_xw_findsOdds_L34  {l : Launch} {n : Nat} {v21 : Option Nat} {v22 : Option Nat} {k25 : Sto → Option (Unit × Sto)} {g : Gam} {A : Nat → Prop} {X : FX} {si sF : Sto} {rF : Unit} (C : CX xCfg g A 11 X cX0_findsOdds RX0 none 2 41) (E : EX xCfg g A X si sF none 0 0) (hX : X.2.1 = l) (Hk25 : ∀ (s24 : Sto), k25 s24 = some (rF, sF) → TG xCfg g A 11 X 0 0 s24 141 [(0, .ref (g.1 0))] []) : ∀ (k : Nat) (s20 : Sto) (v23 : Int32), xw_findsOdds_L34 n v21 v22 k25 k s20 v23 = some (rF, sF) → TG xCfg g A 11 X 0 0 s20 34 [(0, .ref (g.1 0)), (2, va_rf v21), (3, va_rf v22), (4, .int v23)] [] := by
  intro k
  induction k with
  | zero => intro s20 v23 hf; rw [xw_findsOdds_L34] at hf; cases hf
  | succ k ih =>
    intro s20 v23 hf
    rw [xw_findsOdds_L34] at hf
    refine g_iload C dX0_findsOdds_34 3 rfl ?_
    refine g_loadQ_n C dX0_findsOdds_36 2 rfl ?_
    refine nn_n hf (fun q26 hq27 hf => ?_)
    refine pal_n hf (fun n28 f29 hp30 hf => ?_)
    refine g_plenBQ C hq27 hp30 rfl dX0_findsOdds_37 ?_
    refine g_icmp_ge 141 C dX0_findsOdds_38 rfl (fun c31 => ?_) (fun c31 => ?_)
    · replace hf := if_t c31 hf
      exact g_sub [0] rfl (Hk25 _ hf)
    · replace hf := if_f c31 hf
      refine g_aload_n C dX0_findsOdds_41 0 rfl ?_
      refine g_getJ C oX0 fX0_528 dX0_findsOdds_42 ?_
      refine g_lconst C dX0_findsOdds_45 kl_0 ?_
      refine g_lcmp C dX0_findsOdds_46 ?_
      refine g_if_le 141 C dX0_findsOdds_47 rfl (fun c32 => ?_) (fun c32 => ?_)
      · replace hf := if_t c32 hf
        exact g_sub [0] rfl (Hk25 _ hf)
      · replace hf := if_f c32 hf
        refine g_lconst C dX0_findsOdds_50 kl_0 ?_
        refine g_lstore (i := 5) (lv' := [(5, .long (0 : Int64)), (0, .ref (g.1 0)), (2, va_rf v21), (3, va_rf v22), (4, .int v23)]) C dX0_findsOdds_51 rfl (by decide) rfl ?_
        refine g_aload_n C dX0_findsOdds_53 1 rfl ?_
        refine g_getS 18 C oX0 fX0_126 rfl dX0_findsOdds_54 ?_
        refine g_loadQ_n C dX0_findsOdds_57 3 rfl ?_
        refine g_iload C dX0_findsOdds_58 4 rfl ?_
        refine gd_n hf (fun c33 hf => ?_)
        refine g_pbaldQ C hq27 hp30 rfl c33 dX0_findsOdds_60 ?_
        refine gd_n hf (fun c34 hf => ?_)
        refine g_aald5 C rX18 rfl c34 dX0_findsOdds_61 ?_
        refine g_astore (i := 7) (lv' := [(7, .ref (g.1 (308 + ((f29 (v23).toNatClampNeg)).toNatClampNeg))), (5, .long (0 : Int64)), (0, .ref (g.1 0)), (2, va_rf v21), (3, va_rf v22), (4, .int v23)]) C dX0_findsOdds_62 rfl (by decide) rfl ?_
        refine g_aload C dX0_findsOdds_64 0 rfl ?_
        refine gd_n hf (fun c35 hf => ?_)
        refine g_alen0 C (isA_r c35) rfl rfl dX0_findsOdds_66 ?_
        refine vl_n hf (fun v36 hv36 hf => ?_)
        refine g_istore (i := 8) (lv' := [(8, .int v36), (7, .ref (g.1 (308 + ((f29 (v23).toNatClampNeg)).toNatClampNeg))), (5, .long (0 : Int64)), (0, .ref (g.1 0)), (2, va_rf v21), (3, va_rf v22), (4, .int v23)]) C dX0_findsOdds_67 hv36 (by decide) rfl ?_
        refine g_iconst C dX0_findsOdds_69 kc_0 ?_
        refine g_istore (i := 9) (lv' := [(9, .int (0 : Int32)), (8, .int v36), (7, .ref (g.1 (308 + ((f29 (v23).toNatClampNeg)).toNatClampNeg))), (5, .long (0 : Int64)), (0, .ref (g.1 0)), (2, va_rf v21), (3, va_rf v22), (4, .int v23)]) C dX0_findsOdds_70 rfl (by decide) rfl ?_
        refine g_sub [4, 5, 6, 7, 3, 2, 1, 0] rfl (w_xw_findsOdds_L72 C E hX (fun s45 v46 hf => ?_) _ _ _ _ hf)
        refine g_aload_n C dX0_findsOdds_100 0 rfl ?_
        refine g_dup C dX0_findsOdds_101 rfl ?_
        refine g_getJ C oX0 fX0_528 dX0_findsOdds_102 ?_
        refine g_aload_n C dX0_findsOdds_105 0 rfl ?_
        refine g_getS 18 C oX0 fX0_126 rfl dX0_findsOdds_106 ?_
        refine g_loadQ_n C dX0_findsOdds_109 2 rfl ?_
        refine g_iload C dX0_findsOdds_110 3 rfl ?_
        refine pal_n hf (fun n53 f54 hp55 hf => ?_)
        refine gd_n hf (fun c56 hf => ?_)
        refine g_pbaldQ C hq27 hp55 rfl c56 dX0_findsOdds_112 ?_
        refine gd_n hf (fun c57 hf => ?_)
        refine g_aald5 C rX18 rfl c57 dX0_findsOdds_113 ?_
        refine g_loadQ_n C dX0_findsOdds_114 1 rfl ?_
        refine g_iload C dX0_findsOdds_115 3 rfl ?_
        refine nn_n hf (fun q58 hq59 hf => ?_)
        refine pal_n hf (fun n60 f61 hp62 hf => ?_)
        refine gd_n hf (fun c63 hf => ?_)
        refine g_pbaldQ C hq59 hp62 rfl c63 dX0_findsOdds_117 ?_
        refine gd_n hf (fun c64 hf => ?_)
        refine gd_n hf (fun c65 hf => ?_)
        refine g_iald C (isA_s c64) rfl c65 dX0_findsOdds_118 ?_
        refine g_i2l C dX0_findsOdds_119 ?_
        refine g_lmul C dX0_findsOdds_120 ?_
        refine vl_n hf (fun s66 hs66 hf => ?_)
        refine g_putJ C oX0 pX0_528 hs66 dX0_findsOdds_121 ?_
        refine g_aload_n C dX0_findsOdds_124 0 rfl ?_
        refine g_dup C dX0_findsOdds_125 rfl ?_
        refine g_getJ C oX0 fX0_532 dX0_findsOdds_126 ?_
        refine g_lload C dX0_findsOdds_129 4 rfl ?_
        refine g_lmul C dX0_findsOdds_131 ?_
        refine vl_n hf (fun s67 hs67 hf => ?_)
        refine g_putJ C oX0 pX0_532 hs67 dX0_findsOdds_132 ?_
        refine g_iinc (q := 3) (lv' := [(4, .int (v23 + (1 : Int32))), (0, .ref (g.1 0)), (2, va_rf v21), (3, va_rf v22), (5, .long v46)]) C dX0_findsOdds_135 rfl kc_1 (by decide) (by simp [va_rf_cat]) ?_
        refine g_goto 34 C dX0_findsOdds_138 rfl ?_
        exact g_sub [1, 2, 3, 0] rfl (ih _ _ hf)
theorem w_xw_findsOdds {l : Launch} {n : Nat} {s sF : Sto} {a1 : Int32} {a2 : Option Nat} {rF : Unit} (hf : xw_findsOdds n s a1 a2 = some (rF, sF)) : Ct xCfg l yX0_findsOdds cX0_findsOdds 11 none { frames := 2, cells := 0, slots := 0, locals := 41 } (fun g => [.ref (g.1 0), .int a1, va_rf a2]) s sF (fun _ => none) := by
  refine Ct_of pn_X0 (fun g => by cases a2 <;> exact Nat.le_of_ble_eq_true rfl) (fun g A X C E hX => ?_)
  rw [xw_findsOdds] at hf
  show TG xCfg g A 11 X 0 0 s 0 [(0, .ref (g.1 0)), (1, .int a1), (2, va_rf a2)] []
  refine g_aload_n C dX0_findsOdds_0 0 rfl ?_
  refine g_getS 5 C oX0 fX0_68 rfl dX0_findsOdds_1 ?_
  refine g_iload_n C dX0_findsOdds_4 1 rfl ?_
  refine gd_n hf (fun c1 hf => ?_)
  refine g_aald3 C rX5 rfl c1 dX0_findsOdds_5 ?_
  refine nn_n hf (fun q2 hq3 hf => ?_)
  refine pgQ_n hf (fun v4 hv5 hf => ?_)
  refine g_pgetQ C fX0_444 hq3 hv5 dX0_findsOdds_6 ?_
  refine g_storeQ_n (i := 3) (lv' := [(3, va_rf v4), (0, .ref (g.1 0)), (1, .int a1), (2, va_rf a2)]) C dX0_findsOdds_9 rfl (by decide) (by simp [va_rf_cat]) ?_
  refine g_aload_n C dX0_findsOdds_10 1 rfl ?_
  refine g_loadQ_n C dX0_findsOdds_11 0 rfl ?_
  refine nn_n hf (fun q6 hq7 hf => ?_)
  refine pal_n hf (fun n8 f9 hp10 hf => ?_)
  refine g_plenBQ C hq7 hp10 rfl dX0_findsOdds_12 ?_
  refine g_loadQ_n C dX0_findsOdds_13 3 rfl ?_
  refine nn_n hf (fun q11 hq12 hf => ?_)
  refine pal_n hf (fun n13 f14 hp15 hf => ?_)
  refine g_plenBQ C hq12 hp15 rfl dX0_findsOdds_14 ?_
  refine vl_n hf (fun j17 hj17 hf => ?_)
  have Hj17 : ∀ (t16 : Int64), j17 t16 = some (rF, sF) → TG xCfg g A 11 X 0 0 s 23 [(0, .ref (g.1 0)), (2, va_rf a2), (3, va_rf v4)] [.long t16, .ref (g.1 0)] := by
    clear hf; subst hj17
    intro t16 hf
    refine vl_n hf (fun s18 hs18 hf => ?_)
    refine g_putJ C oX0 pX0_528 hs18 dX0_findsOdds_23 ?_
    refine g_aload_n C dX0_findsOdds_26 0 rfl ?_
    refine g_lconst C dX0_findsOdds_27 kl_1 ?_
    refine vl_n hf (fun s19 hs19 hf => ?_)
    refine g_putJ C oX0 pX0_532 hs19 dX0_findsOdds_28 ?_
    refine g_iconst C dX0_findsOdds_31 kc_0 ?_
    refine g_istore (i := 4) (lv' := [(4, .int (0 : Int32)), (0, .ref (g.1 0)), (2, va_rf a2), (3, va_rf v4)]) C dX0_findsOdds_32 rfl (by decide) (by simp [va_rf_cat]) ?_
    refine g_sub [1, 2, 3, 0] rfl (w_xw_findsOdds_L34 C E hX (fun s24 hf => ?_) _ _ _ hf)
    refine g_aload_n C dX0_findsOdds_141 0 rfl ?_
    refine g_getJ C oX0 fX0_528 dX0_findsOdds_142 ?_
    refine g_lconst C dX0_findsOdds_145 kl_0 ?_
    refine g_lcmp C dX0_findsOdds_146 ?_
    refine vl_n hf (fun j69 hj69 hf => ?_)
    have Hj69 : ∀ (s68 : Sto), j69 s68 = some (rF, sF) → TG xCfg g A 11 X 0 0 s68 155 [(0, .ref (g.1 0))] [] := by
      clear hf; subst hj69
      intro s68 hf
      refine g_aload_n C dX0_findsOdds_155 0 rfl ?_
      refine g_getJ C oX0 fX0_528 dX0_findsOdds_156 ?_
      refine g_aload_n C dX0_findsOdds_159 0 rfl ?_
      refine g_getJ C oX0 fX0_532 dX0_findsOdds_160 ?_
      refine bd_n hf (fun r70 s71 h72 hf => ?_)
      refine g_callS0 (As := [.long (s68.2.1 0 35), .long (s68.2.1 0 36)]) (rest := []) (stk := [.long r70]) C (w_xw_common h72) hX rfl q949 q950 q88 q951 msX0_common rfl ⟨Nat.le_of_ble_eq_true rfl, Nat.le_of_ble_eq_true rfl⟩ (Nat.le_of_ble_eq_true rfl) dX0_findsOdds_163 rfl ?_
      refine g_lstore (i := 4) (lv' := [(4, .long r70), (0, .ref (g.1 0))]) C dX0_findsOdds_166 rfl (by decide) rfl ?_
      refine g_aload_n C dX0_findsOdds_168 1 rfl ?_
      refine g_dup C dX0_findsOdds_169 rfl ?_
      refine g_getJ C oX0 fX0_528 dX0_findsOdds_170 ?_
      refine g_lload C dX0_findsOdds_173 0 rfl ?_
      refine gd_n hf (fun c73 hf => ?_)
      refine g_ldiv C dX0_findsOdds_175 c73 ?_
      refine vl_n hf (fun s74 hs74 hf => ?_)
      refine g_putJ C oX0 pX0_528 hs74 dX0_findsOdds_176 ?_
      refine g_aload_n C dX0_findsOdds_179 1 rfl ?_
      refine g_dup C dX0_findsOdds_180 rfl ?_
      refine g_getJ C oX0 fX0_532 dX0_findsOdds_181 ?_
      refine g_lload C dX0_findsOdds_184 0 rfl ?_
      refine g_ldiv C dX0_findsOdds_186 c73 ?_
      refine vl_n hf (fun s75 hs75 hf => ?_)
      refine g_putJ C oX0 pX0_532 hs75 dX0_findsOdds_187 ?_
      exact g_vret C E rfl (re_s hf) ⟨Nat.zero_le _, Nat.zero_le _⟩ dX0_findsOdds_190
    clear hj69
    refine g_if_ne 155 C dX0_findsOdds_147 rfl (fun c76 => ?_) (fun c76 => ?_)
    · replace hf := if_t c76 hf
      refine g_aload_n C dX0_findsOdds_150 0 rfl ?_
      refine g_lconst C dX0_findsOdds_151 kl_1 ?_
      refine vl_n hf (fun s77 hs77 hf => ?_)
      refine g_putJ C oX0 pX0_532 hs77 dX0_findsOdds_152 ?_
      exact g_sub [0] rfl (Hj69 _ hf)
    · replace hf := if_f c76 hf
      exact g_sub [0] rfl (Hj69 _ hf)
  clear hj17
  refine g_icmp_ne 22 C dX0_findsOdds_15 rfl (fun c78 => ?_) (fun c78 => ?_)
  · replace hf := if_t c78 hf
    refine g_lconst C dX0_findsOdds_18 kl_1 ?_
    refine g_goto 23 C dX0_findsOdds_19 rfl ?_
    exact g_sub [1, 3, 0] rfl (Hj17 _ hf)
  · replace hf := if_f c78 hf
    refine g_lconst C dX0_findsOdds_22 kl_0 ?_
    exact g_sub [1, 3, 0] rfl (Hj17 _ hf)
def xw_owe (n : Nat) (s : Sto) (a1 : Int32) (a2 : Int32) (a3 : Int32) : Option (Bool × Sto) :=
  bd (xw_isHouse n s a1) fun r1 s2 =>
  if r1 = true then
    bd (xw_isHouse n s2 a2) fun r5 s6 =>
    if r5 = true then
      if a1 = a2 then
        some (false, s6)
      else
        bd (xw_isIn n s6 a3 (-99999 : Int32) (99999 : Int32)) fun r10 s11 =>
        if r10 = true then
          gd (inb a1 9) <|
          gd (isA xCfg (324 + (a1).toNatClampNeg) 0) <|
          gd (inb a2 (xlen xCfg (324 + (a1).toNatClampNeg))) <|
          vl (wr s11 (324 + (a1).toNatClampNeg) a2 ((rd s11 (324 + (a1).toNatClampNeg) a2) + a3)) fun s17 =>
          some (true, s17)
        else
          some (false, s11)
    else
      some (false, s6)
  else
    some (false, s2)
theorem w_xw_owe {l : Launch} {n : Nat} {s sF : Sto} {a1 : Int32} {a2 : Int32} {a3 : Int32} {rF : Bool} (hf : xw_owe n s a1 a2 a3 = some (rF, sF)) : Ct xCfg l yX0_owe cX0_owe 4 (some .boolean) { frames := 3, cells := 0, slots := 0, locals := 55 } (fun g => [.ref (g.1 0), .int a1, .int a2, .int a3]) s sF (fun _ => some (.int (bI rF))) := by
  refine Ct_of pn_X0 (fun g => Nat.le_of_ble_eq_true rfl) (fun g A X C E hX => ?_)
  rw [xw_owe] at hf
  show TG xCfg g A 4 X 0 0 s 0 [(0, .ref (g.1 0)), (1, .int a1), (2, .int a2), (3, .int a3)] []
  refine g_aload_n C dX0_owe_0 0 rfl ?_
  refine g_iload_n C dX0_owe_1 1 rfl ?_
  refine bd_n hf (fun r1 s2 h3 hf => ?_)
  refine g_callV0 (As := [.int a1]) (rest := []) (stk := [.int (bI r1)]) C (w_xw_isHouse h3) hX oX0 rfl rfl q766 q768 qs20 q88 q769 mdX0_isHouse rfl ⟨Nat.le_of_ble_eq_true rfl, Nat.le_of_ble_eq_true rfl⟩ (Nat.le_of_ble_eq_true rfl) dX0_owe_2 rfl ?_
  refine g_ifZ_eq 33 C dX0_owe_5 rfl (fun c4 => ?_) (fun c4 => ?_)
  · replace hf := if_t c4 hf
    refine g_aload_n C dX0_owe_8 0 rfl ?_
    refine g_iload_n C dX0_owe_9 2 rfl ?_
    refine bd_n hf (fun r5 s6 h7 hf => ?_)
    refine g_callV0 (As := [.int a2]) (rest := []) (stk := [.int (bI r5)]) C (w_xw_isHouse h7) hX oX0 rfl rfl q766 q768 qs20 q88 q769 mdX0_isHouse rfl ⟨Nat.le_of_ble_eq_true rfl, Nat.le_of_ble_eq_true rfl⟩ (Nat.le_of_ble_eq_true rfl) dX0_owe_10 rfl ?_
    refine g_ifZ_eq 33 C dX0_owe_13 rfl (fun c8 => ?_) (fun c8 => ?_)
    · replace hf := if_t c8 hf
      refine g_iload_n C dX0_owe_16 1 rfl ?_
      refine g_iload_n C dX0_owe_17 2 rfl ?_
      refine g_icmp_eq 33 C dX0_owe_18 rfl (fun c9 => ?_) (fun c9 => ?_)
      · replace hf := if_t c9 hf
        refine g_iconst C dX0_owe_33 kc_0 ?_
        exact g_iret (v := bI false) C E (bI_nar _) (re_z hf) (re_s hf) ⟨Nat.zero_le _, Nat.zero_le _⟩ dX0_owe_34
      · replace hf := if_f c9 hf
        refine g_iload_n C dX0_owe_21 3 rfl ?_
        refine g_ldcw C dX0_owe_22 q999 ?_
        refine g_ldc C dX0_owe_25 q469 ?_
        refine bd_n hf (fun r10 s11 h12 hf => ?_)
        refine g_callS0 (As := [.int a3, .int (-99999 : Int32), .int (99999 : Int32)]) (rest := []) (stk := [.int (bI r10)]) C (w_xw_isIn h12) hX rfl q381 q382 q88 q383 msX0_isIn rfl ⟨Nat.le_of_ble_eq_true rfl, Nat.le_of_ble_eq_true rfl⟩ (Nat.le_of_ble_eq_true rfl) dX0_owe_27 rfl ?_
        refine g_ifZ_ne 35 C dX0_owe_30 rfl (fun c13 => ?_) (fun c13 => ?_)
        · replace hf := if_t c13 hf
          refine g_aload_n C dX0_owe_35 0 rfl ?_
          refine g_getS 19 C oX0 fX0_129 rfl dX0_owe_36 ?_
          refine g_iload_n C dX0_owe_39 1 rfl ?_
          refine gd_n hf (fun c14 hf => ?_)
          refine g_aald5 C rX19 rfl c14 dX0_owe_40 ?_
          refine g_iload_n C dX0_owe_41 2 rfl ?_
          refine g_dup2 C dX0_owe_42 rfl rfl ?_
          refine gd_n hf (fun c15 hf => ?_)
          refine gd_n hf (fun c16 hf => ?_)
          refine g_iald C (isA_s c15) rfl c16 dX0_owe_43 ?_
          refine g_iload_n C dX0_owe_44 3 rfl ?_
          refine g_iadd C dX0_owe_45 ?_
          refine vl_n hf (fun s17 hs17 hf => ?_)
          refine g_iast C (isA_s c15) rfl c16 hs17 dX0_owe_46 ?_
          refine g_iconst C dX0_owe_47 kc_1 ?_
          exact g_iret (v := bI true) C E (bI_nar _) (re_z hf) (re_s hf) ⟨Nat.zero_le _, Nat.zero_le _⟩ dX0_owe_48
        · replace hf := if_f c13 hf
          refine g_iconst C dX0_owe_33 kc_0 ?_
          exact g_iret (v := bI false) C E (bI_nar _) (re_z hf) (re_s hf) ⟨Nat.zero_le _, Nat.zero_le _⟩ dX0_owe_34
    · replace hf := if_f c8 hf
      refine g_iconst C dX0_owe_33 kc_0 ?_
      exact g_iret (v := bI false) C E (bI_nar _) (re_z hf) (re_s hf) ⟨Nat.zero_le _, Nat.zero_le _⟩ dX0_owe_34
  · replace hf := if_f c4 hf
    refine g_iconst C dX0_owe_33 kc_0 ?_
    exact g_iret (v := bI false) C E (bI_nar _) (re_z hf) (re_s hf) ⟨Nat.zero_le _, Nat.zero_le _⟩ dX0_owe_34
def xw_mostGroups_L10 (n : Nat) (v3 : Int32) (v4 : Int32) : Nat → Sto → Int32 → Int32 → Option (Int32 × Sto)
  | 0, _, _, _ => none
  | k + 1, s2, v5, v6 =>
    if v6 ≤ 0 then
      some (v5, s2)
    else
      vl (fun (s8 : Sto) (v9 : Int32) =>
        vl ((v6 - (1 : Int32)) &&& v3) fun v11 =>
        xw_mostGroups_L10 n v3 v4 k s8 v9 v11) fun j10 =>
      if (v6 &&& v4) = 0 then
        j10 s2 v5
      else
        gd (inb v6 512) <|
        if (rd s2 21 v6) = 0 then
          gd (inb (v3 &&& (v6 ^^^ (-1 : Int32))) 512) <|
          vl (mmax v5 ((1 : Int32) + (rd s2 20 (v3 &&& (v6 ^^^ (-1 : Int32)))))) fun v16 =>
          j10 s2 v16
        else
          j10 s2 v5
def xw_mostGroups (n : Nat) (s : Sto) (a1 : Int32) : Option (Int32 × Sto) :=
  vl (a1 &&& (-a1)) fun v1 =>
  xw_mostGroups_L10 n a1 v1
      n s (0 : Int32) a1
theorem w_xw_mostGroups_L10  {l : Launch} {n : Nat} {v3 : Int32} {v4 : Int32} {g : Gam} {A : Nat → Prop} {X : FX} {si sF : Sto} {rF : Int32} (C : CX xCfg g A 5 X cX0_mostGroups RX0 (some .int) 2 40) (E : EX xCfg g A X si sF (some (.int rF)) 0 0) (hX : X.2.1 = l) : ∀ (k : Nat) (s2 : Sto) (v5 : Int32) (v6 : Int32), xw_mostGroups_L10 n v3 v4 k s2 v5 v6 = some (rF, sF) → TG xCfg g A 5 X 0 0 s2 10 [(0, .ref (g.1 0)), (1, .int v3), (2, .int v4), (3, .int v5), (4, .int v6)] [] := by
  intro k
  induction k with
  | zero => intro s2 v5 v6 hf; rw [xw_mostGroups_L10] at hf; cases hf
  | succ k ih =>
    intro s2 v5 v6 hf
    rw [xw_mostGroups_L10] at hf
    refine g_iload C dX0_mostGroups_10 4 rfl ?_
    refine g_if_le 61 C dX0_mostGroups_12 rfl (fun c7 => ?_) (fun c7 => ?_)
    · replace hf := if_t c7 hf
      refine g_iload_n C dX0_mostGroups_61 3 rfl ?_
      exact g_iret C E rfl (re_i hf) (re_s hf) ⟨Nat.zero_le _, Nat.zero_le _⟩ dX0_mostGroups_62
    · replace hf := if_f c7 hf
      refine g_iload C dX0_mostGroups_15 4 rfl ?_
      refine g_iload_n C dX0_mostGroups_17 2 rfl ?_
      refine g_iand C dX0_mostGroups_18 ?_
      refine vl_n hf (fun j10 hj10 hf => ?_)
      have Hj10 : ∀ (s8 : Sto) (v9 : Int32), j10 s8 v9 = some (rF, sF) → TG xCfg g A 5 X 0 0 s8 50 [(0, .ref (g.1 0)), (1, .int v3), (2, .int v4), (3, .int v9), (4, .int v6)] [] := by
        clear hf; subst hj10
        intro s8 v9 hf
        refine g_iload C dX0_mostGroups_50 4 rfl ?_
        refine g_iconst C dX0_mostGroups_52 kc_1 ?_
        refine g_isub C dX0_mostGroups_53 ?_
        refine g_iload_n C dX0_mostGroups_54 1 rfl ?_
        refine g_iand C dX0_mostGroups_55 ?_
        refine vl_n hf (fun v11 hv11 hf => ?_)
        refine g_istore (i := 4) (lv' := [(4, .int v11), (0, .ref (g.1 0)), (1, .int v3), (2, .int v4), (3, .int v9)]) C dX0_mostGroups_56 hv11 (by decide) rfl ?_
        refine g_goto 10 C dX0_mostGroups_58 rfl ?_
        exact g_sub [1, 2, 3, 4, 0] rfl (ih _ _ _ hf)
      clear hj10
      refine g_if_eq 50 C dX0_mostGroups_19 rfl (fun c12 => ?_) (fun c12 => ?_)
      · replace hf := if_t c12 hf
        exact g_sub [0, 1, 2, 3, 4] rfl (Hj10 _ _ hf)
      · replace hf := if_f c12 hf
        refine g_aload_n C dX0_mostGroups_22 0 rfl ?_
        refine g_getS 21 C oX0 fX0_135 rfl dX0_mostGroups_23 ?_
        refine g_iload C dX0_mostGroups_26 4 rfl ?_
        refine gd_n hf (fun c13 hf => ?_)
        refine g_iald C aX21 rfl c13 dX0_mostGroups_28 ?_
        refine g_if_ne 50 C dX0_mostGroups_29 rfl (fun c14 => ?_) (fun c14 => ?_)
        · replace hf := if_t c14 hf
          refine g_iload_n C dX0_mostGroups_32 3 rfl ?_
          refine g_iconst C dX0_mostGroups_33 kc_1 ?_
          refine g_aload_n C dX0_mostGroups_34 0 rfl ?_
          refine g_getS 20 C oX0 fX0_132 rfl dX0_mostGroups_35 ?_
          refine g_iload_n C dX0_mostGroups_38 1 rfl ?_
          refine g_iload C dX0_mostGroups_39 4 rfl ?_
          refine g_iconst C dX0_mostGroups_41 kc_m1 ?_
          refine g_ixor C dX0_mostGroups_42 ?_
          refine g_iand C dX0_mostGroups_43 ?_
          refine gd_n hf (fun c15 hf => ?_)
          refine g_iald C aX20 rfl c15 dX0_mostGroups_44 ?_
          refine g_iadd C dX0_mostGroups_45 ?_
          refine g_mmax C q847 (Nat.le_of_ble_eq_true rfl) (Nat.le_of_ble_eq_true rfl) (Nat.le_of_ble_eq_true rfl) ⟨Nat.zero_le _, Nat.zero_le _⟩ dX0_mostGroups_46 ?_
          refine vl_n hf (fun v16 hv16 hf => ?_)
          refine g_istore_n (i := 3) (lv' := [(3, .int v16), (0, .ref (g.1 0)), (1, .int v3), (2, .int v4), (4, .int v6)]) C dX0_mostGroups_49 rfl hv16 (by decide) rfl ?_
          exact g_sub [1, 2, 3, 0, 4] rfl (Hj10 _ _ hf)
        · replace hf := if_f c14 hf
          exact g_sub [0, 1, 2, 3, 4] rfl (Hj10 _ _ hf)
theorem w_xw_mostGroups {l : Launch} {n : Nat} {s sF : Sto} {a1 : Int32} {rF : Int32} (hf : xw_mostGroups n s a1 = some (rF, sF)) : Ct xCfg l yX0_mostGroups cX0_mostGroups 5 (some .int) { frames := 2, cells := 0, slots := 0, locals := 40 } (fun g => [.ref (g.1 0), .int a1]) s sF (fun _ => some (.int rF)) := by
  refine Ct_of pn_X0 (fun g => Nat.le_of_ble_eq_true rfl) (fun g A X C E hX => ?_)
  rw [xw_mostGroups] at hf
  show TG xCfg g A 5 X 0 0 s 0 [(0, .ref (g.1 0)), (1, .int a1)] []
  refine g_iload_n C dX0_mostGroups_0 1 rfl ?_
  refine g_iload_n C dX0_mostGroups_1 1 rfl ?_
  refine g_ineg C dX0_mostGroups_2 ?_
  refine g_iand C dX0_mostGroups_3 ?_
  refine vl_n hf (fun v1 hv1 hf => ?_)
  refine g_istore_n (i := 2) (lv' := [(2, .int v1), (0, .ref (g.1 0)), (1, .int a1)]) C dX0_mostGroups_4 rfl hv1 (by decide) rfl ?_
  refine g_iconst C dX0_mostGroups_5 kc_0 ?_
  refine g_istore_n (i := 3) (lv' := [(3, .int (0 : Int32)), (2, .int v1), (0, .ref (g.1 0)), (1, .int a1)]) C dX0_mostGroups_6 rfl rfl (by decide) rfl ?_
  refine g_iload_n C dX0_mostGroups_7 3 rfl ?_
  refine g_istore (i := 4) (lv' := [(4, .int a1), (3, .int (0 : Int32)), (2, .int v1), (0, .ref (g.1 0)), (1, .int a1)]) C dX0_mostGroups_8 rfl (by decide) rfl ?_
  refine g_sub [3, 4, 2, 1, 0] rfl (w_xw_mostGroups_L10 C E hX _ _ _ _ hf)
def xw_payments_L4 (n : Nat) (k6 : Sto → Int32 → Option (Int32 × Sto)) : Nat → Sto → Int32 → Int32 → Option (Int32 × Sto)
  | 0, _, _, _ => none
  | k + 1, s1, v2, v3 =>
    if (s1.1 0 14) ≤ v3 then
      k6 s1 v2
    else
      bd (xw_netOf n s1 v3) fun r8 s9 =>
      vl (fun (t11 : Int32) =>
        vl (v2 ||| t11) fun v13 =>
        xw_payments_L4 n k6 k s9 v13 (v3 + (1 : Int32))) fun j12 =>
      if r8 = 0 then
        j12 (0 : Int32)
      else
        j12 (ishl (1 : Int32) v3)
def xw_payments_L38 (n : Nat) (v16 : Int32) (k19 : Sto → Option (Int32 × Sto)) : Nat → Sto → Int32 → Option (Int32 × Sto)
  | 0, _, _ => none
  | k + 1, s15, v17 =>
    if (ishl (1 : Int32) (s15.1 0 14)) ≤ v17 then
      k19 s15
    else
      bd (jw_I_numberOfTrailingZeros n s15 v17) fun r21 s22 =>
      gd (inb (v17 &&& (v17 - (1 : Int32))) 512) <|
      bd (xw_netOf n s22 r21) fun r25 s26 =>
      gd (inb v17 512) <|
      vl (wr s26 21 v17 ((rd s22 21 (v17 &&& (v17 - (1 : Int32)))) + r25)) fun s29 =>
      vl (fun (s30 : Sto) =>
        xw_payments_L38 n v16 k19 k s30 (v17 + (1 : Int32))) fun j31 =>
      if (v17 &&& (v16 ^^^ (-1 : Int32))) = 0 then
        bd (xw_mostGroups n s29 v17) fun r33 s34 =>
        vl (wr s34 20 v17 r33) fun s36 =>
        j31 s36
      else
        j31 s29
def xw_payments (n : Nat) (s : Sto) : Option (Int32 × Sto) :=
  xw_payments_L4 n
      (fun (s4 : Sto) (v5 : Int32) =>
        xw_payments_L38 n v5
            (fun (s18 : Sto) =>
              bd (jw_I_bitCount n s18 v5) fun r37 s38 =>
              if v5 = 0 then
                some ((r37 - (0 : Int32)), s38)
              else
                gd (inb v5 512) <|
                some ((r37 - (rd s38 20 v5)), s38))
            n s4 (1 : Int32))
      n s (0 : Int32) (0 : Int32)
theorem w_xw_payments_L4  {l : Launch} {n : Nat} {k6 : Sto → Int32 → Option (Int32 × Sto)} {g : Gam} {A : Nat → Prop} {X : FX} {si sF : Sto} {rF : Int32} (C : CX xCfg g A 4 X cX0_payments RX0 (some .int) 3 64) (E : EX xCfg g A X si sF (some (.int rF)) 0 0) (hX : X.2.1 = l) (Hk6 : ∀ (s4 : Sto) (v5 : Int32), k6 s4 v5 = some (rF, sF) → TG xCfg g A 4 X 0 0 s4 36 [(0, .ref (g.1 0)), (1, .int v5)] []) : ∀ (k : Nat) (s1 : Sto) (v2 : Int32) (v3 : Int32), xw_payments_L4 n k6 k s1 v2 v3 = some (rF, sF) → TG xCfg g A 4 X 0 0 s1 4 [(0, .ref (g.1 0)), (1, .int v2), (2, .int v3)] [] := by
  intro k
  induction k with
  | zero => intro s1 v2 v3 hf; rw [xw_payments_L4] at hf; cases hf
  | succ k ih =>
    intro s1 v2 v3 hf
    rw [xw_payments_L4] at hf
    refine g_iload_n C dX0_payments_4 2 rfl ?_
    refine g_aload_n C dX0_payments_5 0 rfl ?_
    refine g_getI C oX0 fX0_325 dX0_payments_6 ?_
    refine g_icmp_ge 36 C dX0_payments_9 rfl (fun c7 => ?_) (fun c7 => ?_)
    · replace hf := if_t c7 hf
      exact g_sub [0, 1] rfl (Hk6 _ _ hf)
    · replace hf := if_f c7 hf
      refine g_iload_n C dX0_payments_12 1 rfl ?_
      refine g_aload_n C dX0_payments_13 0 rfl ?_
      refine g_iload_n C dX0_payments_14 2 rfl ?_
      refine bd_n hf (fun r8 s9 h10 hf => ?_)
      refine g_callV0 (As := [.int v3]) (rest := [.int v2]) (stk := [.int r8, .int v2]) C (w_xw_netOf h10) hX oX0 rfl rfl q791 q793 qs24 q88 q794 mdX0_netOf rfl ⟨Nat.le_of_ble_eq_true rfl, Nat.le_of_ble_eq_true rfl⟩ (Nat.le_of_ble_eq_true rfl) dX0_payments_15 rfl ?_
      refine vl_n hf (fun j12 hj12 hf => ?_)
      have Hj12 : ∀ (t11 : Int32), j12 t11 = some (rF, sF) → TG xCfg g A 4 X 0 0 s9 28 [(0, .ref (g.1 0)), (2, .int v3)] [.int t11, .int v2] := by
        clear hf; subst hj12
        intro t11 hf
        refine g_ior C dX0_payments_28 ?_
        refine vl_n hf (fun v13 hv13 hf => ?_)
        refine g_istore_n (i := 1) (lv' := [(1, .int v13), (0, .ref (g.1 0)), (2, .int v3)]) C dX0_payments_29 rfl hv13 (by decide) rfl ?_
        refine g_iinc (q := 2) (lv' := [(2, .int (v3 + (1 : Int32))), (1, .int v13), (0, .ref (g.1 0))]) C dX0_payments_30 rfl kc_1 (by decide) rfl ?_
        refine g_goto 4 C dX0_payments_33 rfl ?_
        exact g_sub [2, 1, 0] rfl (ih _ _ _ hf)
      clear hj12
      refine g_if_eq 27 C dX0_payments_18 rfl (fun c14 => ?_) (fun c14 => ?_)
      · replace hf := if_t c14 hf
        refine g_iconst C dX0_payments_27 kc_0 ?_
        exact g_sub [0, 2] rfl (Hj12 _ hf)
      · replace hf := if_f c14 hf
        refine g_iconst C dX0_payments_21 kc_1 ?_
        refine g_iload_n C dX0_payments_22 2 rfl ?_
        refine g_ishl C dX0_payments_23 ?_
        refine g_goto 28 C dX0_payments_24 rfl ?_
        exact g_sub [0, 2] rfl (Hj12 _ hf)
theorem w_xw_payments_L38  {l : Launch} {n : Nat} {v16 : Int32} {k19 : Sto → Option (Int32 × Sto)} {g : Gam} {A : Nat → Prop} {X : FX} {si sF : Sto} {rF : Int32} (C : CX xCfg g A 4 X cX0_payments RX0 (some .int) 3 64) (E : EX xCfg g A X si sF (some (.int rF)) 0 0) (hX : X.2.1 = l) (Hk19 : ∀ (s18 : Sto), k19 s18 = some (rF, sF) → TG xCfg g A 4 X 0 0 s18 100 [(0, .ref (g.1 0)), (1, .int v16)] []) : ∀ (k : Nat) (s15 : Sto) (v17 : Int32), xw_payments_L38 n v16 k19 k s15 v17 = some (rF, sF) → TG xCfg g A 4 X 0 0 s15 38 [(0, .ref (g.1 0)), (1, .int v16), (2, .int v17)] [] := by
  intro k
  induction k with
  | zero => intro s15 v17 hf; rw [xw_payments_L38] at hf; cases hf
  | succ k ih =>
    intro s15 v17 hf
    rw [xw_payments_L38] at hf
    refine g_iload_n C dX0_payments_38 2 rfl ?_
    refine g_iconst C dX0_payments_39 kc_1 ?_
    refine g_aload_n C dX0_payments_40 0 rfl ?_
    refine g_getI C oX0 fX0_325 dX0_payments_41 ?_
    refine g_ishl C dX0_payments_44 ?_
    refine g_icmp_ge 100 C dX0_payments_45 rfl (fun c20 => ?_) (fun c20 => ?_)
    · replace hf := if_t c20 hf
      exact g_sub [0, 1] rfl (Hk19 _ hf)
    · replace hf := if_f c20 hf
      refine g_iload_n C dX0_payments_48 2 rfl ?_
      refine bd_n hf (fun r21 s22 h23 hf => ?_)
      refine g_callS0 (As := [.int v17]) (rest := []) (stk := [.int r21]) C (w_jw_I_numberOfTrailingZeros h23) hX rfl q882 q883 q111 q884 msJ9_numberOfTrailingZeros rfl ⟨Nat.le_of_ble_eq_true rfl, Nat.le_of_ble_eq_true rfl⟩ (Nat.le_of_ble_eq_true rfl) dX0_payments_49 rfl ?_
      refine g_istore_n (i := 3) (lv' := [(3, .int r21), (0, .ref (g.1 0)), (1, .int v16), (2, .int v17)]) C dX0_payments_52 rfl rfl (by decide) rfl ?_
      refine g_aload_n C dX0_payments_53 1 rfl ?_
      refine g_getS 21 C oX0 fX0_135 rfl dX0_payments_54 ?_
      refine g_iload_n C dX0_payments_57 3 rfl ?_
      refine g_aload_n C dX0_payments_58 1 rfl ?_
      refine g_getS 21 C oX0 fX0_135 rfl dX0_payments_59 ?_
      refine g_iload_n C dX0_payments_62 3 rfl ?_
      refine g_iload_n C dX0_payments_63 3 rfl ?_
      refine g_iconst C dX0_payments_64 kc_1 ?_
      refine g_isub C dX0_payments_65 ?_
      refine g_iand C dX0_payments_66 ?_
      refine gd_n hf (fun c24 hf => ?_)
      refine g_iald C aX21 rfl c24 dX0_payments_67 ?_
      refine g_aload_n C dX0_payments_68 1 rfl ?_
      refine g_iload_n C dX0_payments_69 0 rfl ?_
      refine bd_n hf (fun r25 s26 h27 hf => ?_)
      refine g_callV0 (As := [.int r21]) (rest := [.int (rd s22 21 (v17 &&& (v17 - (1 : Int32)))), .int v17, .ref (g.1 21)]) (stk := [.int r25, .int (rd s22 21 (v17 &&& (v17 - (1 : Int32)))), .int v17, .ref (g.1 21)]) C (w_xw_netOf h27) hX oX0 rfl rfl q791 q793 qs24 q88 q794 mdX0_netOf rfl ⟨Nat.le_of_ble_eq_true rfl, Nat.le_of_ble_eq_true rfl⟩ (Nat.le_of_ble_eq_true rfl) dX0_payments_70 rfl ?_
      refine g_iadd C dX0_payments_73 ?_
      refine gd_n hf (fun c28 hf => ?_)
      refine vl_n hf (fun s29 hs29 hf => ?_)
      refine g_iast C aX21 rfl c28 hs29 dX0_payments_74 ?_
      refine g_iload_n C dX0_payments_75 3 rfl ?_
      refine g_iload_n C dX0_payments_76 2 rfl ?_
      refine g_iconst C dX0_payments_77 kc_m1 ?_
      refine g_ixor C dX0_payments_78 ?_
      refine g_iand C dX0_payments_79 ?_
      refine vl_n hf (fun j31 hj31 hf => ?_)
      have Hj31 : ∀ (s30 : Sto), j31 s30 = some (rF, sF) → TG xCfg g A 4 X 0 0 s30 94 [(0, .ref (g.1 0)), (1, .int v16), (2, .int v17)] [] := by
        clear hf; subst hj31
        intro s30 hf
        refine g_iinc (q := 2) (lv' := [(2, .int (v17 + (1 : Int32))), (0, .ref (g.1 0)), (1, .int v16)]) C dX0_payments_94 rfl kc_1 (by decide) rfl ?_
        refine g_goto 38 C dX0_payments_97 rfl ?_
        exact g_sub [1, 2, 0] rfl (ih _ _ hf)
      clear hj31
      refine g_if_ne 94 C dX0_payments_80 rfl (fun c32 => ?_) (fun c32 => ?_)
      · replace hf := if_t c32 hf
        refine g_aload_n C dX0_payments_83 1 rfl ?_
        refine g_getS 20 C oX0 fX0_132 rfl dX0_payments_84 ?_
        refine g_iload_n C dX0_payments_87 3 rfl ?_
        refine g_aload_n C dX0_payments_88 1 rfl ?_
        refine g_iload_n C dX0_payments_89 3 rfl ?_
        refine bd_n hf (fun r33 s34 h35 hf => ?_)
        refine g_callV0 (As := [.int v17]) (rest := [.int v17, .ref (g.1 20)]) (stk := [.int r33, .int v17, .ref (g.1 20)]) C (w_xw_mostGroups h35) hX oX0 rfl rfl q1004 q1006 qs43 q88 q1007 mdX0_mostGroups rfl ⟨Nat.le_of_ble_eq_true rfl, Nat.le_of_ble_eq_true rfl⟩ (Nat.le_of_ble_eq_true rfl) dX0_payments_90 rfl ?_
        refine vl_n hf (fun s36 hs36 hf => ?_)
        refine g_iast C aX20 rfl c28 hs36 dX0_payments_93 ?_
        exact g_sub [1, 2, 3] rfl (Hj31 _ hf)
      · replace hf := if_f c32 hf
        exact g_sub [1, 2, 3] rfl (Hj31 _ hf)
theorem w_xw_payments {l : Launch} {n : Nat} {s sF : Sto} {rF : Int32} (hf : xw_payments n s  = some (rF, sF)) : Ct xCfg l yX0_payments cX0_payments 4 (some .int) { frames := 3, cells := 0, slots := 0, locals := 64 } (fun g => [.ref (g.1 0)]) s sF (fun _ => some (.int rF)) := by
  refine Ct_of pn_X0 (fun g => Nat.le_of_ble_eq_true rfl) (fun g A X C E hX => ?_)
  rw [xw_payments] at hf
  show TG xCfg g A 4 X 0 0 s 0 [(0, .ref (g.1 0))] []
  refine g_iconst C dX0_payments_0 kc_0 ?_
  refine g_istore_n (i := 1) (lv' := [(1, .int (0 : Int32)), (0, .ref (g.1 0))]) C dX0_payments_1 rfl rfl (by decide) rfl ?_
  refine g_iconst C dX0_payments_2 kc_0 ?_
  refine g_istore_n (i := 2) (lv' := [(2, .int (0 : Int32)), (1, .int (0 : Int32)), (0, .ref (g.1 0))]) C dX0_payments_3 rfl rfl (by decide) rfl ?_
  refine g_sub [2, 1, 0] rfl (w_xw_payments_L4 C E hX (fun s4 v5 hf => ?_) _ _ _ _ hf)
  refine g_iconst C dX0_payments_36 kc_1 ?_
  refine g_istore_n (i := 2) (lv' := [(2, .int (1 : Int32)), (0, .ref (g.1 0)), (1, .int v5)]) C dX0_payments_37 rfl rfl (by decide) rfl ?_
  refine g_sub [1, 2, 0] rfl (w_xw_payments_L38 C E hX (fun s18 hf => ?_) _ _ _ hf)
  refine g_iload_n C dX0_payments_100 1 rfl ?_
  refine bd_n hf (fun r37 s38 h39 hf => ?_)
  refine g_callS0 (As := [.int v5]) (rest := []) (stk := [.int r37]) C (w_jw_I_bitCount h39) hX rfl q964 q965 q111 q966 msJ9_bitCount rfl ⟨Nat.le_of_ble_eq_true rfl, Nat.le_of_ble_eq_true rfl⟩ (Nat.le_of_ble_eq_true rfl) dX0_payments_101 rfl ?_
  refine g_iload_n C dX0_payments_104 1 rfl ?_
  refine g_if_ne 112 C dX0_payments_105 rfl (fun c40 => ?_) (fun c40 => ?_)
  · replace hf := if_t c40 hf
    refine g_iconst C dX0_payments_108 kc_0 ?_
    refine g_goto 118 C dX0_payments_109 rfl ?_
    refine g_isub C dX0_payments_118 ?_
    exact g_iret C E rfl (re_i hf) (re_s hf) ⟨Nat.zero_le _, Nat.zero_le _⟩ dX0_payments_119
  · replace hf := if_f c40 hf
    refine g_aload_n C dX0_payments_112 0 rfl ?_
    refine g_getS 20 C oX0 fX0_132 rfl dX0_payments_113 ?_
    refine g_iload_n C dX0_payments_116 1 rfl ?_
    refine gd_n hf (fun c41 hf => ?_)
    refine g_iald C aX20 rfl c41 dX0_payments_117 ?_
    refine g_isub C dX0_payments_118 ?_
    exact g_iret C E rfl (re_i hf) (re_s hf) ⟨Nat.zero_le _, Nat.zero_le _⟩ dX0_payments_119
def xw_copiesAll_L2 (n : Nat) (v2 : Nat) (v3 : Nat) : Nat → Sto → Int32 → Option (Unit × Sto)
  | 0, _, _ => none
  | k + 1, s1, v4 =>
    gd (isA xCfg v2 5) <|
    if (Int32.ofNat (xlen xCfg v2)) ≤ v4 then
      some ((), s1)
    else
      gd (inb v4 (xlen xCfg v2)) <|
      gd (isA xCfg v3 5) <|
      gd (inb v4 (xlen xCfg v3)) <|
      bd (xw_copies n s1 ((xext xCfg v2) + (v4).toNatClampNeg) ((xext xCfg v3) + (v4).toNatClampNeg)) fun r10 s11 =>
      xw_copiesAll_L2 n v2 v3 k s11 (v4 + (1 : Int32))
def xw_copiesAll (n : Nat) (s : Sto) (a1 : Nat) (a2 : Nat) : Option (Unit × Sto) :=
  xw_copiesAll_L2 n a1 a2
      n s (0 : Int32)
theorem w_xw_copiesAll_L2  {l : Launch} {n : Nat} {v2 : Nat} {v3 : Nat} {g : Gam} {A : Nat → Prop} {X : FX} {si sF : Sto} {rF : Unit} (C : CX xCfg g A 3 X cX0_copiesAll RX0 none 3 61) (E : EX xCfg g A X si sF none 0 0) (hX : X.2.1 = l) : ∀ (k : Nat) (s1 : Sto) (v4 : Int32), xw_copiesAll_L2 n v2 v3 k s1 v4 = some (rF, sF) → TG xCfg g A 3 X 0 0 s1 2 [(0, .ref (g.1 v2)), (1, .ref (g.1 v3)), (2, .int v4)] [] := by
  intro k
  induction k with
  | zero => intro s1 v4 hf; rw [xw_copiesAll_L2] at hf; cases hf
  | succ k ih =>
    intro s1 v4 hf
    rw [xw_copiesAll_L2] at hf
    refine g_iload_n C dX0_copiesAll_2 2 rfl ?_
    refine g_aload_n C dX0_copiesAll_3 0 rfl ?_
    refine gd_n hf (fun c5 hf => ?_)
    refine g_alen5 C (isA_r c5) rfl rfl dX0_copiesAll_4 ?_
    refine g_icmp_ge 23 C dX0_copiesAll_5 rfl (fun c6 => ?_) (fun c6 => ?_)
    · replace hf := if_t c6 hf
      exact g_vret C E rfl (re_s hf) ⟨Nat.zero_le _, Nat.zero_le _⟩ dX0_copiesAll_23
    · replace hf := if_f c6 hf
      refine g_aload_n C dX0_copiesAll_8 0 rfl ?_
      refine g_iload_n C dX0_copiesAll_9 2 rfl ?_
      refine gd_n hf (fun c7 hf => ?_)
      refine g_aald5 C (isA_r c5) rfl c7 dX0_copiesAll_10 ?_
      refine g_aload_n C dX0_copiesAll_11 1 rfl ?_
      refine g_iload_n C dX0_copiesAll_12 2 rfl ?_
      refine gd_n hf (fun c8 hf => ?_)
      refine gd_n hf (fun c9 hf => ?_)
      refine g_aald5 C (isA_r c8) rfl c9 dX0_copiesAll_13 ?_
      refine bd_n hf (fun r10 s11 h12 hf => ?_)
      refine g_callS0 (As := [.ref (g.1 ((xext xCfg v2) + (v4).toNatClampNeg)), .ref (g.1 ((xext xCfg v3) + (v4).toNatClampNeg))]) (rest := []) (stk := []) C (w_xw_copies h12) hX rfl q848 q711 q88 q712 msX0_copies rfl ⟨Nat.le_of_ble_eq_true rfl, Nat.le_of_ble_eq_true rfl⟩ (Nat.le_of_ble_eq_true rfl) dX0_copiesAll_14 rfl ?_
      refine g_iinc (q := 2) (lv' := [(2, .int (v4 + (1 : Int32))), (0, .ref (g.1 v2)), (1, .ref (g.1 v3))]) C dX0_copiesAll_17 rfl kc_1 (by decide) rfl ?_
      refine g_goto 2 C dX0_copiesAll_20 rfl ?_
      exact g_sub [1, 2, 0] rfl (ih _ _ hf)
theorem w_xw_copiesAll {l : Launch} {n : Nat} {s sF : Sto} {a1 : Nat} {a2 : Nat} {rF : Unit} (hf : xw_copiesAll n s a1 a2 = some (rF, sF)) : Ct xCfg l yX0_copiesAll cX0_copiesAll 3 none { frames := 3, cells := 0, slots := 0, locals := 61 } (fun g => [.ref (g.1 a1), .ref (g.1 a2)]) s sF (fun _ => none) := by
  refine Ct_of pn_X0 (fun g => Nat.le_of_ble_eq_true rfl) (fun g A X C E hX => ?_)
  rw [xw_copiesAll] at hf
  show TG xCfg g A 3 X 0 0 s 0 [(0, .ref (g.1 a1)), (1, .ref (g.1 a2))] []
  refine g_iconst C dX0_copiesAll_0 kc_0 ?_
  refine g_istore_n (i := 2) (lv' := [(2, .int (0 : Int32)), (0, .ref (g.1 a1)), (1, .ref (g.1 a2))]) C dX0_copiesAll_1 rfl rfl (by decide) rfl ?_
  refine g_sub [1, 2, 0] rfl (w_xw_copiesAll_L2 C E hX _ _ _ hf)
def xw_image (n : Nat) (s : Sto) (a1 : Bool) : Option (Bool × Sto) :=
  if a1 = true then
    gd (cpOk (0 : Int32) (0 : Int32) (9 : Int32) 9 9) <|
    gd (allP s 5 2 9) <|
    vl (cpR s 5 (0 : Int32) 22 (0 : Int32) (9 : Int32)) fun s4 =>
    gd (cpOk (0 : Int32) (0 : Int32) (60 : Int32) 60 60) <|
    gd (allP s4 16 3 60) <|
    vl (cpR s4 16 (0 : Int32) 23 (0 : Int32) (60 : Int32)) fun s9 =>
    bd (xw_copiesAll n s9 18 24) fun r14 s15 =>
    bd (xw_copiesAll n s15 19 25) fun r19 s20 =>
    bd (xw_copies n s20 6 26) fun r24 s25 =>
    bd (xd_become n s25 35 27) fun r28 s29 =>
    vl (sR s29 0 45 (s29.2.2.1 0 12)) fun s31 =>
    vl (sI s31 0 46 (s31.1 0 14)) fun s32 =>
    vl (sI s32 0 47 (s32.1 0 32)) fun s33 =>
    some (true, s33)
  else
    if (s.2.2.1 0 45) = none then
      some (false, s)
    else
      gd (cpOk (0 : Int32) (0 : Int32) (9 : Int32) 9 9) <|
      gd (allP s 22 2 9) <|
      vl (cpR s 22 (0 : Int32) 5 (0 : Int32) (9 : Int32)) fun s37 =>
      gd (cpOk (0 : Int32) (0 : Int32) (60 : Int32) 60 60) <|
      gd (allP s37 23 3 60) <|
      vl (cpR s37 23 (0 : Int32) 16 (0 : Int32) (60 : Int32)) fun s42 =>
      bd (xw_copiesAll n s42 24 18) fun r47 s48 =>
      bd (xw_copiesAll n s48 25 19) fun r52 s53 =>
      bd (xw_copies n s53 26 6) fun r57 s58 =>
      bd (xd_become n s58 27 35) fun r61 s62 =>
      vl (sR s62 0 12 (s62.2.2.1 0 45)) fun s64 =>
      vl (sI s64 0 14 (s64.1 0 46)) fun s65 =>
      vl (sI s65 0 32 (s65.1 0 47)) fun s66 =>
      bd (xw_forgets n s66) fun r67 s68 =>
      some (true, s68)
theorem w_xw_image {l : Launch} {n : Nat} {s sF : Sto} {a1 : Bool} {rF : Bool} (hf : xw_image n s a1 = some (rF, sF)) : Ct xCfg l yX0_image cX0_image 2 (some .boolean) { frames := 4, cells := 0, slots := 0, locals := 83 } (fun g => [.ref (g.1 0), .int (bI a1)]) s sF (fun _ => some (.int (bI rF))) := by
  refine Ct_of pn_X0 (fun g => Nat.le_of_ble_eq_true rfl) (fun g A X C E hX => ?_)
  rw [xw_image] at hf
  show TG xCfg g A 2 X 0 0 s 0 [(0, .ref (g.1 0)), (1, .int (bI a1))] []
  refine g_iload_n C dX0_image_0 1 rfl ?_
  refine g_ifZ_ne 13 C dX0_image_1 rfl (fun c1 => ?_) (fun c1 => ?_)
  · replace hf := if_t c1 hf
    refine g_iload_n C dX0_image_13 1 rfl ?_
    refine g_ifZ_eq 24 C dX0_image_14 rfl (fun _ => ?_) (fun z => absurd c1 z)
    refine g_aload_n C dX0_image_17 0 rfl ?_
    refine g_getS 5 C oX0 fX0_68 rfl dX0_image_18 ?_
    refine g_goto 28 C dX0_image_21 rfl ?_
    refine g_iconst C dX0_image_28 kc_0 ?_
    refine g_iload_n C dX0_image_29 1 rfl ?_
    refine g_ifZ_eq 40 C dX0_image_30 rfl (fun _ => ?_) (fun z => absurd c1 z)
    refine g_aload_n C dX0_image_33 0 rfl ?_
    refine g_getS 22 C oX0 fX0_138 rfl dX0_image_34 ?_
    refine g_goto 44 C dX0_image_37 rfl ?_
    refine g_iconst C dX0_image_44 kc_0 ?_
    refine g_bipush C dX0_image_45 kb_9 ?_
    refine gd_n hf (fun c5 hf => ?_)
    refine gd_n hf (fun c6 hf => ?_)
    refine vl_n hf (fun s4 hs4 hf => ?_)
    refine g_copyR (ci := 2) C rX5 rX22 rfl rfl c5 c6 q713 (Nat.le_of_ble_eq_true rfl) (Nat.le_of_ble_eq_true rfl) (Nat.le_of_ble_eq_true rfl) hs4 dX0_image_47 ?_
    refine g_iload_n C dX0_image_50 1 rfl ?_
    refine g_ifZ_eq 61 C dX0_image_51 rfl (fun _ => ?_) (fun z => absurd c1 z)
    refine g_aload_n C dX0_image_54 0 rfl ?_
    refine g_getS 16 C oX0 fX0_118 rfl dX0_image_55 ?_
    refine g_goto 65 C dX0_image_58 rfl ?_
    refine g_iconst C dX0_image_65 kc_0 ?_
    refine g_iload_n C dX0_image_66 1 rfl ?_
    refine g_ifZ_eq 77 C dX0_image_67 rfl (fun _ => ?_) (fun z => absurd c1 z)
    refine g_aload_n C dX0_image_70 0 rfl ?_
    refine g_getS 23 C oX0 fX0_141 rfl dX0_image_71 ?_
    refine g_goto 81 C dX0_image_74 rfl ?_
    refine g_iconst C dX0_image_81 kc_0 ?_
    refine g_bipush C dX0_image_82 kb_60 ?_
    refine gd_n hf (fun c10 hf => ?_)
    refine gd_n hf (fun c11 hf => ?_)
    refine vl_n hf (fun s9 hs9 hf => ?_)
    refine g_copyR (ci := 3) C rX16 rX23 rfl rfl c10 c11 q713 (Nat.le_of_ble_eq_true rfl) (Nat.le_of_ble_eq_true rfl) (Nat.le_of_ble_eq_true rfl) hs9 dX0_image_84 ?_
    refine g_iload_n C dX0_image_87 1 rfl ?_
    refine g_ifZ_eq 98 C dX0_image_88 rfl (fun _ => ?_) (fun z => absurd c1 z)
    refine g_aload_n C dX0_image_91 0 rfl ?_
    refine g_getS 18 C oX0 fX0_126 rfl dX0_image_92 ?_
    refine g_goto 102 C dX0_image_95 rfl ?_
    refine g_iload_n C dX0_image_102 1 rfl ?_
    refine g_ifZ_eq 113 C dX0_image_103 rfl (fun _ => ?_) (fun z => absurd c1 z)
    refine g_aload_n C dX0_image_106 0 rfl ?_
    refine g_getS 24 C oX0 fX0_144 rfl dX0_image_107 ?_
    refine g_goto 117 C dX0_image_110 rfl ?_
    refine bd_n hf (fun r14 s15 h16 hf => ?_)
    refine g_callS0 (As := [.ref (g.1 18), .ref (g.1 24)]) (rest := []) (stk := []) C (w_xw_copiesAll h16) hX rfl q1012 q1013 q88 q1014 msX0_copiesAll rfl ⟨Nat.le_of_ble_eq_true rfl, Nat.le_of_ble_eq_true rfl⟩ (Nat.le_of_ble_eq_true rfl) dX0_image_117 rfl ?_
    refine g_iload_n C dX0_image_120 1 rfl ?_
    refine g_ifZ_eq 131 C dX0_image_121 rfl (fun _ => ?_) (fun z => absurd c1 z)
    refine g_aload_n C dX0_image_124 0 rfl ?_
    refine g_getS 19 C oX0 fX0_129 rfl dX0_image_125 ?_
    refine g_goto 135 C dX0_image_128 rfl ?_
    refine g_iload_n C dX0_image_135 1 rfl ?_
    refine g_ifZ_eq 146 C dX0_image_136 rfl (fun _ => ?_) (fun z => absurd c1 z)
    refine g_aload_n C dX0_image_139 0 rfl ?_
    refine g_getS 25 C oX0 fX0_147 rfl dX0_image_140 ?_
    refine g_goto 150 C dX0_image_143 rfl ?_
    refine bd_n hf (fun r19 s20 h21 hf => ?_)
    refine g_callS0 (As := [.ref (g.1 19), .ref (g.1 25)]) (rest := []) (stk := []) C (w_xw_copiesAll h21) hX rfl q1012 q1013 q88 q1014 msX0_copiesAll rfl ⟨Nat.le_of_ble_eq_true rfl, Nat.le_of_ble_eq_true rfl⟩ (Nat.le_of_ble_eq_true rfl) dX0_image_150 rfl ?_
    refine g_iload_n C dX0_image_153 1 rfl ?_
    refine g_ifZ_eq 164 C dX0_image_154 rfl (fun _ => ?_) (fun z => absurd c1 z)
    refine g_aload_n C dX0_image_157 0 rfl ?_
    refine g_getS 6 C oX0 fX0_72 rfl dX0_image_158 ?_
    refine g_goto 168 C dX0_image_161 rfl ?_
    refine g_iload_n C dX0_image_168 1 rfl ?_
    refine g_ifZ_eq 179 C dX0_image_169 rfl (fun _ => ?_) (fun z => absurd c1 z)
    refine g_aload_n C dX0_image_172 0 rfl ?_
    refine g_getS 26 C oX0 fX0_150 rfl dX0_image_173 ?_
    refine g_goto 183 C dX0_image_176 rfl ?_
    refine bd_n hf (fun r24 s25 h26 hf => ?_)
    refine g_callS0 (As := [.ref (g.1 6), .ref (g.1 26)]) (rest := []) (stk := []) C (w_xw_copies h26) hX rfl q848 q711 q88 q712 msX0_copies rfl ⟨Nat.le_of_ble_eq_true rfl, Nat.le_of_ble_eq_true rfl⟩ (Nat.le_of_ble_eq_true rfl) dX0_image_183 rfl ?_
    refine g_iload_n C dX0_image_186 1 rfl ?_
    refine g_ifZ_eq 228 C dX0_image_187 rfl (fun _ => ?_) (fun z => absurd c1 z)
    refine g_aload_n C dX0_image_190 0 rfl ?_
    refine g_getS 35 C oX0 fX0_86 rfl dX0_image_191 ?_
    refine g_aload_n C dX0_image_194 0 rfl ?_
    refine g_getS 27 C oX0 fX0_82 rfl dX0_image_195 ?_
    refine bd_n hf (fun r28 s29 h30 hf => ?_)
    refine g_callV0 (As := [.ref (g.1 27)]) (rest := []) (stk := []) C (w_xd_become h30) hX oX35 rfl rfl q706 q707 q708 q90 q709 mdX2_become rfl ⟨Nat.le_of_ble_eq_true rfl, Nat.le_of_ble_eq_true rfl⟩ (Nat.le_of_ble_eq_true rfl) dX0_image_198 rfl ?_
    refine g_aload_n C dX0_image_201 0 rfl ?_
    refine g_aload_n C dX0_image_202 0 rfl ?_
    refine g_getQ C oX0 fX0_62 dX0_image_203 ?_
    refine vl_n hf (fun s31 hs31 hf => ?_)
    refine g_putQ (v := (s29.2.2.1 0 12)) C oX0 pX0_549 hs31 dX0_image_206 ?_
    refine g_aload_n C dX0_image_209 0 rfl ?_
    refine g_aload_n C dX0_image_210 0 rfl ?_
    refine g_getI C oX0 fX0_325 dX0_image_211 ?_
    refine vl_n hf (fun s32 hs32 hf => ?_)
    refine g_putI C oX0 pX0_556 rfl rfl hs32 dX0_image_214 ?_
    refine g_aload_n C dX0_image_217 0 rfl ?_
    refine g_aload_n C dX0_image_218 0 rfl ?_
    refine g_getI C oX0 fX0_487 dX0_image_219 ?_
    refine vl_n hf (fun s33 hs33 hf => ?_)
    refine g_putI C oX0 pX0_559 rfl rfl hs33 dX0_image_222 ?_
    refine g_goto 267 C dX0_image_225 rfl ?_
    refine g_iconst C dX0_image_267 kc_1 ?_
    exact g_iret (v := bI true) C E (bI_nar _) (re_z hf) (re_s hf) ⟨Nat.zero_le _, Nat.zero_le _⟩ dX0_image_268
  · replace hf := if_f c1 hf
    refine g_aload_n C dX0_image_4 0 rfl ?_
    refine g_getQ C oX0 fX0_549 dX0_image_5 ?_
    refine g_ifnonnull (r := (s.2.2.1 0 45)) 13 C dX0_image_8 rfl (fun c34 => ?_) (fun c34 => ?_)
    · replace hf := if_t c34 hf
      refine g_iconst C dX0_image_11 kc_0 ?_
      exact g_iret (v := bI false) C E (bI_nar _) (re_z hf) (re_s hf) ⟨Nat.zero_le _, Nat.zero_le _⟩ dX0_image_12
    · replace hf := if_f c34 hf
      refine g_iload_n C dX0_image_13 1 rfl ?_
      refine g_ifZ_eq 24 C dX0_image_14 rfl (fun z => absurd z c1) (fun _ => ?_)
      refine g_aload_n C dX0_image_24 0 rfl ?_
      refine g_getS 22 C oX0 fX0_138 rfl dX0_image_25 ?_
      refine g_iconst C dX0_image_28 kc_0 ?_
      refine g_iload_n C dX0_image_29 1 rfl ?_
      refine g_ifZ_eq 40 C dX0_image_30 rfl (fun z => absurd z c1) (fun _ => ?_)
      refine g_aload_n C dX0_image_40 0 rfl ?_
      refine g_getS 5 C oX0 fX0_68 rfl dX0_image_41 ?_
      refine g_iconst C dX0_image_44 kc_0 ?_
      refine g_bipush C dX0_image_45 kb_9 ?_
      refine gd_n hf (fun c38 hf => ?_)
      refine gd_n hf (fun c39 hf => ?_)
      refine vl_n hf (fun s37 hs37 hf => ?_)
      refine g_copyR (ci := 2) C rX22 rX5 rfl rfl c38 c39 q713 (Nat.le_of_ble_eq_true rfl) (Nat.le_of_ble_eq_true rfl) (Nat.le_of_ble_eq_true rfl) hs37 dX0_image_47 ?_
      refine g_iload_n C dX0_image_50 1 rfl ?_
      refine g_ifZ_eq 61 C dX0_image_51 rfl (fun z => absurd z c1) (fun _ => ?_)
      refine g_aload_n C dX0_image_61 0 rfl ?_
      refine g_getS 23 C oX0 fX0_141 rfl dX0_image_62 ?_
      refine g_iconst C dX0_image_65 kc_0 ?_
      refine g_iload_n C dX0_image_66 1 rfl ?_
      refine g_ifZ_eq 77 C dX0_image_67 rfl (fun z => absurd z c1) (fun _ => ?_)
      refine g_aload_n C dX0_image_77 0 rfl ?_
      refine g_getS 16 C oX0 fX0_118 rfl dX0_image_78 ?_
      refine g_iconst C dX0_image_81 kc_0 ?_
      refine g_bipush C dX0_image_82 kb_60 ?_
      refine gd_n hf (fun c43 hf => ?_)
      refine gd_n hf (fun c44 hf => ?_)
      refine vl_n hf (fun s42 hs42 hf => ?_)
      refine g_copyR (ci := 3) C rX23 rX16 rfl rfl c43 c44 q713 (Nat.le_of_ble_eq_true rfl) (Nat.le_of_ble_eq_true rfl) (Nat.le_of_ble_eq_true rfl) hs42 dX0_image_84 ?_
      refine g_iload_n C dX0_image_87 1 rfl ?_
      refine g_ifZ_eq 98 C dX0_image_88 rfl (fun z => absurd z c1) (fun _ => ?_)
      refine g_aload_n C dX0_image_98 0 rfl ?_
      refine g_getS 24 C oX0 fX0_144 rfl dX0_image_99 ?_
      refine g_iload_n C dX0_image_102 1 rfl ?_
      refine g_ifZ_eq 113 C dX0_image_103 rfl (fun z => absurd z c1) (fun _ => ?_)
      refine g_aload_n C dX0_image_113 0 rfl ?_
      refine g_getS 18 C oX0 fX0_126 rfl dX0_image_114 ?_
      refine bd_n hf (fun r47 s48 h49 hf => ?_)
      refine g_callS0 (As := [.ref (g.1 24), .ref (g.1 18)]) (rest := []) (stk := []) C (w_xw_copiesAll h49) hX rfl q1012 q1013 q88 q1014 msX0_copiesAll rfl ⟨Nat.le_of_ble_eq_true rfl, Nat.le_of_ble_eq_true rfl⟩ (Nat.le_of_ble_eq_true rfl) dX0_image_117 rfl ?_
      refine g_iload_n C dX0_image_120 1 rfl ?_
      refine g_ifZ_eq 131 C dX0_image_121 rfl (fun z => absurd z c1) (fun _ => ?_)
      refine g_aload_n C dX0_image_131 0 rfl ?_
      refine g_getS 25 C oX0 fX0_147 rfl dX0_image_132 ?_
      refine g_iload_n C dX0_image_135 1 rfl ?_
      refine g_ifZ_eq 146 C dX0_image_136 rfl (fun z => absurd z c1) (fun _ => ?_)
      refine g_aload_n C dX0_image_146 0 rfl ?_
      refine g_getS 19 C oX0 fX0_129 rfl dX0_image_147 ?_
      refine bd_n hf (fun r52 s53 h54 hf => ?_)
      refine g_callS0 (As := [.ref (g.1 25), .ref (g.1 19)]) (rest := []) (stk := []) C (w_xw_copiesAll h54) hX rfl q1012 q1013 q88 q1014 msX0_copiesAll rfl ⟨Nat.le_of_ble_eq_true rfl, Nat.le_of_ble_eq_true rfl⟩ (Nat.le_of_ble_eq_true rfl) dX0_image_150 rfl ?_
      refine g_iload_n C dX0_image_153 1 rfl ?_
      refine g_ifZ_eq 164 C dX0_image_154 rfl (fun z => absurd z c1) (fun _ => ?_)
      refine g_aload_n C dX0_image_164 0 rfl ?_
      refine g_getS 26 C oX0 fX0_150 rfl dX0_image_165 ?_
      refine g_iload_n C dX0_image_168 1 rfl ?_
      refine g_ifZ_eq 179 C dX0_image_169 rfl (fun z => absurd z c1) (fun _ => ?_)
      refine g_aload_n C dX0_image_179 0 rfl ?_
      refine g_getS 6 C oX0 fX0_72 rfl dX0_image_180 ?_
      refine bd_n hf (fun r57 s58 h59 hf => ?_)
      refine g_callS0 (As := [.ref (g.1 26), .ref (g.1 6)]) (rest := []) (stk := []) C (w_xw_copies h59) hX rfl q848 q711 q88 q712 msX0_copies rfl ⟨Nat.le_of_ble_eq_true rfl, Nat.le_of_ble_eq_true rfl⟩ (Nat.le_of_ble_eq_true rfl) dX0_image_183 rfl ?_
      refine g_iload_n C dX0_image_186 1 rfl ?_
      refine g_ifZ_eq 228 C dX0_image_187 rfl (fun z => absurd z c1) (fun _ => ?_)
      refine g_aload_n C dX0_image_228 0 rfl ?_
      refine g_getS 27 C oX0 fX0_82 rfl dX0_image_229 ?_
      refine g_aload_n C dX0_image_232 0 rfl ?_
      refine g_getS 35 C oX0 fX0_86 rfl dX0_image_233 ?_
      refine bd_n hf (fun r61 s62 h63 hf => ?_)
      refine g_callV0 (As := [.ref (g.1 35)]) (rest := []) (stk := []) C (w_xd_become h63) hX oX27 rfl rfl q706 q707 q708 q90 q709 mdX2_become rfl ⟨Nat.le_of_ble_eq_true rfl, Nat.le_of_ble_eq_true rfl⟩ (Nat.le_of_ble_eq_true rfl) dX0_image_236 rfl ?_
      refine g_aload_n C dX0_image_239 0 rfl ?_
      refine g_aload_n C dX0_image_240 0 rfl ?_
      refine g_getQ C oX0 fX0_549 dX0_image_241 ?_
      refine vl_n hf (fun s64 hs64 hf => ?_)
      refine g_putQ (v := (s62.2.2.1 0 45)) C oX0 pX0_62 hs64 dX0_image_244 ?_
      refine g_aload_n C dX0_image_247 0 rfl ?_
      refine g_aload_n C dX0_image_248 0 rfl ?_
      refine g_getI C oX0 fX0_556 dX0_image_249 ?_
      refine vl_n hf (fun s65 hs65 hf => ?_)
      refine g_putI C oX0 pX0_325 rfl rfl hs65 dX0_image_252 ?_
      refine g_aload_n C dX0_image_255 0 rfl ?_
      refine g_aload_n C dX0_image_256 0 rfl ?_
      refine g_getI C oX0 fX0_559 dX0_image_257 ?_
      refine vl_n hf (fun s66 hs66 hf => ?_)
      refine g_putI C oX0 pX0_487 rfl rfl hs66 dX0_image_260 ?_
      refine g_aload_n C dX0_image_263 0 rfl ?_
      refine bd_n hf (fun r67 s68 h69 hf => ?_)
      refine g_callV0 (As := []) (rest := []) (stk := []) C (w_xw_forgets h69) hX oX0 rfl rfl q758 q760 qs19 q88 q761 mdX0_forgets rfl ⟨Nat.le_of_ble_eq_true rfl, Nat.le_of_ble_eq_true rfl⟩ (Nat.le_of_ble_eq_true rfl) dX0_image_264 rfl ?_
      refine g_iconst C dX0_image_267 kc_1 ?_
      exact g_iret (v := bI true) C E (bI_nar _) (re_z hf) (re_s hf) ⟨Nat.zero_le _, Nat.zero_le _⟩ dX0_image_268
def xw_look (n : Nat) (s : Sto) (a1 : Int32) : Option (Int32 × Sto) :=
  bd (xw_isIn n s a1 (10 : Int32) (13 : Int32)) fun r1 s2 =>
  if r1 = true then
    gd (inb (a1 - (10 : Int32)) 4) <|
    some ((rd s2 6 (a1 - (10 : Int32))), s2)
  else
    if a1 = (0 : Int32) then
      some ((s2.1 0 14), s2)
    else
      if a1 = (1 : Int32) then
        some ((s2.1 27 0), s2)
      else
        if a1 = (2 : Int32) then
          some ((s2.1 27 1), s2)
        else
          if a1 = (3 : Int32) then
            some ((s2.1 0 32), s2)
          else
            if a1 = (4 : Int32) then
              nn (s2.2.2.1 0 12) fun q13 =>
              pgI s2 q13 4 2 fun v15 =>
              some (v15, s2)
            else
              if a1 = (5 : Int32) then
                some ((s2.1 0 20), s2)
              else
                if a1 = (6 : Int32) then
                  some ((s2.1 27 2), s2)
                else
                  some ((-1 : Int32), s2)
theorem w_xw_look {l : Launch} {n : Nat} {s sF : Sto} {a1 : Int32} {rF : Int32} (hf : xw_look n s a1 = some (rF, sF)) : Ct xCfg l yX0_look cX0_look 2 (some .int) { frames := 2, cells := 0, slots := 0, locals := 34 } (fun g => [.ref (g.1 0), .int a1]) s sF (fun _ => some (.int rF)) := by
  refine Ct_of pn_X0 (fun g => Nat.le_of_ble_eq_true rfl) (fun g A X C E hX => ?_)
  rw [xw_look] at hf
  show TG xCfg g A 2 X 0 0 s 0 [(0, .ref (g.1 0)), (1, .int a1)] []
  refine g_iload_n C dX0_look_0 1 rfl ?_
  refine g_bipush C dX0_look_1 kb_10 ?_
  refine g_bipush C dX0_look_3 kb_13 ?_
  refine bd_n hf (fun r1 s2 h3 hf => ?_)
  refine g_callS0 (As := [.int a1, .int (10 : Int32), .int (13 : Int32)]) (rest := []) (stk := [.int (bI r1)]) C (w_xw_isIn h3) hX rfl q381 q382 q88 q383 msX0_isIn rfl ⟨Nat.le_of_ble_eq_true rfl, Nat.le_of_ble_eq_true rfl⟩ (Nat.le_of_ble_eq_true rfl) dX0_look_5 rfl ?_
  refine g_ifZ_eq 21 C dX0_look_8 rfl (fun c4 => ?_) (fun c4 => ?_)
  · replace hf := if_t c4 hf
    refine g_aload_n C dX0_look_11 0 rfl ?_
    refine g_getS 6 C oX0 fX0_72 rfl dX0_look_12 ?_
    refine g_iload_n C dX0_look_15 1 rfl ?_
    refine g_bipush C dX0_look_16 kb_10 ?_
    refine g_isub C dX0_look_18 ?_
    refine gd_n hf (fun c5 hf => ?_)
    refine g_iald C aX6 rfl c5 dX0_look_19 ?_
    exact g_iret C E rfl (re_i hf) (re_s hf) ⟨Nat.zero_le _, Nat.zero_le _⟩ dX0_look_20
  · replace hf := if_f c4 hf
    refine g_iload_n C dX0_look_21 1 rfl ?_
    by_cases c6 : a1 = (0 : Int32)
    · replace hf := if_t c6 hf
      refine g_tableIn 0 64 C dX0_look_22 c6 (by decide) (by decide) rfl rfl ?_
      refine g_aload_n C dX0_look_64 0 rfl ?_
      refine g_getI C oX0 fX0_325 dX0_look_65 ?_
      exact g_iret C E rfl (re_i hf) (re_s hf) ⟨Nat.zero_le _, Nat.zero_le _⟩ dX0_look_68
    replace hf := if_f c6 hf
    by_cases c7 : a1 = (1 : Int32)
    · replace hf := if_t c7 hf
      refine g_tableIn 1 69 C dX0_look_22 c7 (by decide) (by decide) rfl rfl ?_
      refine g_aload_n C dX0_look_69 0 rfl ?_
      refine g_getS 27 C oX0 fX0_82 rfl dX0_look_70 ?_
      refine g_getI C oX27 fX0_372 dX0_look_73 ?_
      exact g_iret C E rfl (re_i hf) (re_s hf) ⟨Nat.zero_le _, Nat.zero_le _⟩ dX0_look_76
    replace hf := if_f c7 hf
    by_cases c8 : a1 = (2 : Int32)
    · replace hf := if_t c8 hf
      refine g_tableIn 2 77 C dX0_look_22 c8 (by decide) (by decide) rfl rfl ?_
      refine g_aload_n C dX0_look_77 0 rfl ?_
      refine g_getS 27 C oX0 fX0_82 rfl dX0_look_78 ?_
      refine g_getI C oX27 fX0_328 dX0_look_81 ?_
      exact g_iret C E rfl (re_i hf) (re_s hf) ⟨Nat.zero_le _, Nat.zero_le _⟩ dX0_look_84
    replace hf := if_f c8 hf
    by_cases c9 : a1 = (3 : Int32)
    · replace hf := if_t c9 hf
      refine g_tableIn 3 85 C dX0_look_22 c9 (by decide) (by decide) rfl rfl ?_
      refine g_aload_n C dX0_look_85 0 rfl ?_
      refine g_getI C oX0 fX0_487 dX0_look_86 ?_
      exact g_iret C E rfl (re_i hf) (re_s hf) ⟨Nat.zero_le _, Nat.zero_le _⟩ dX0_look_89
    replace hf := if_f c9 hf
    by_cases c10 : a1 = (4 : Int32)
    · replace hf := if_t c10 hf
      refine g_tableIn 4 90 C dX0_look_22 c10 (by decide) (by decide) rfl rfl ?_
      refine g_aload_n C dX0_look_90 0 rfl ?_
      refine g_getQ C oX0 fX0_62 dX0_look_91 ?_
      refine nn_n hf (fun q13 hq14 hf => ?_)
      refine pgI_n hf (fun v15 hv16 hf => ?_)
      refine g_pgetQ C fX0_298 hq14 hv16 dX0_look_94 ?_
      exact g_iret C E rfl (re_i hf) (re_s hf) ⟨Nat.zero_le _, Nat.zero_le _⟩ dX0_look_97
    replace hf := if_f c10 hf
    by_cases c11 : a1 = (5 : Int32)
    · replace hf := if_t c11 hf
      refine g_tableIn 5 98 C dX0_look_22 c11 (by decide) (by decide) rfl rfl ?_
      refine g_aload_n C dX0_look_98 0 rfl ?_
      refine g_getI C oX0 fX0_331 dX0_look_99 ?_
      exact g_iret C E rfl (re_i hf) (re_s hf) ⟨Nat.zero_le _, Nat.zero_le _⟩ dX0_look_102
    replace hf := if_f c11 hf
    by_cases c12 : a1 = (6 : Int32)
    · replace hf := if_t c12 hf
      refine g_tableIn 6 103 C dX0_look_22 c12 (by decide) (by decide) rfl rfl ?_
      refine g_aload_n C dX0_look_103 0 rfl ?_
      refine g_getS 27 C oX0 fX0_82 rfl dX0_look_104 ?_
      refine g_getI C oX27 fX0_413 dX0_look_107 ?_
      exact g_iret C E rfl (re_i hf) (re_s hf) ⟨Nat.zero_le _, Nat.zero_le _⟩ dX0_look_110
    replace hf := if_f c12 hf
    refine g_tableD 111 C dX0_look_22 (sw_d [(0 : Int32), (1 : Int32), (2 : Int32), (3 : Int32), (4 : Int32), (5 : Int32), (6 : Int32)] (List.forall_mem_cons.mpr ⟨c6, (List.forall_mem_cons.mpr ⟨c7, (List.forall_mem_cons.mpr ⟨c8, (List.forall_mem_cons.mpr ⟨c9, (List.forall_mem_cons.mpr ⟨c10, (List.forall_mem_cons.mpr ⟨c11, (List.forall_mem_cons.mpr ⟨c12, (fun _ h => absurd h List.not_mem_nil)⟩)⟩)⟩)⟩)⟩)⟩)⟩) (by decide +kernel) (by decide)) rfl ?_
    refine g_iconst C dX0_look_111 kc_m1 ?_
    exact g_iret C E rfl (re_i hf) (re_s hf) ⟨Nat.zero_le _, Nat.zero_le _⟩ dX0_look_112
def xn_of (n : Nat) (s : Sto) (th : Nat) (a1 : Nat) : Option (Int32 × Sto) :=
  pgI s th 5 0 fun v1 =>
  some (v1, s)
theorem w_xn_of {l : Launch} {n : Nat} {s sF : Sto} {th : Nat} {a1 : Nat} {rF : Int32} (hf : xn_of n s th a1 = some (rF, sF)) : Ct xCfg l yX7_of cX7_of 2 (some .int) { frames := 1, cells := 0, slots := 0, locals := 12 } (fun g => [.ref th, .ref (g.1 a1)]) s sF (fun _ => some (.int rF)) := by
  refine Ct_of pn_X7 (fun g => Nat.le_of_ble_eq_true rfl) (fun g A X C E hX => ?_)
  rw [xn_of] at hf
  show TG xCfg g A 2 X 0 0 s 0 [(0, .ref th), (1, .ref (g.1 a1))] []
  refine g_aload_n C dX7_of_0 0 rfl ?_
  refine pgI_n hf (fun v1 hv2 hf => ?_)
  refine g_pget C fX7_7 hv2 dX7_of_1 ?_
  exact g_iret C E rfl (re_i hf) (re_s hf) ⟨Nat.zero_le _, Nat.zero_le _⟩ dX7_of_4
def xo_of (n : Nat) (s : Sto) (th : Nat) (a1 : Nat) : Option (Int32 × Sto) :=
  pgI s th 6 0 fun v1 =>
  gd (isA xCfg a1 0) <|
  gd (inb v1 (xlen xCfg a1)) <|
  some ((rd s a1 v1), s)
theorem w_xo_of {l : Launch} {n : Nat} {s sF : Sto} {th : Nat} {a1 : Nat} {rF : Int32} (hf : xo_of n s th a1 = some (rF, sF)) : Ct xCfg l yX8_of cX8_of 2 (some .int) { frames := 1, cells := 0, slots := 0, locals := 12 } (fun g => [.ref th, .ref (g.1 a1)]) s sF (fun _ => some (.int rF)) := by
  refine Ct_of pn_X8 (fun g => Nat.le_of_ble_eq_true rfl) (fun g A X C E hX => ?_)
  rw [xo_of] at hf
  show TG xCfg g A 2 X 0 0 s 0 [(0, .ref th), (1, .ref (g.1 a1))] []
  refine g_aload_n C dX8_of_0 1 rfl ?_
  refine g_aload_n C dX8_of_1 0 rfl ?_
  refine pgI_n hf (fun v1 hv2 hf => ?_)
  refine g_pget C fX8_7 hv2 dX8_of_2 ?_
  refine gd_n hf (fun c3 hf => ?_)
  refine gd_n hf (fun c4 hf => ?_)
  refine g_iald C (isA_s c3) rfl c4 dX8_of_5 ?_
  exact g_iret C E rfl (re_i hf) (re_s hf) ⟨Nat.zero_le _, Nat.zero_le _⟩ dX8_of_6
def xk_of (n : Nat) (rc : Sto → Nat → Nat → Option (Int32 × Sto)) (s : Sto) (th : Nat) (a1 : Nat) : Option (Int32 × Sto) :=
  pgQ s th 7 0 fun v1 =>
  nn v1 fun q3 =>
  bd (rc s q3 a1) fun r5 s6 =>
  some (((1 : Int32) - r5), s6)
theorem w_xk_of {l : Launch} {n : Nat} {rc : Sto → Nat → Nat → Option (Int32 × Sto)} {Fr Lr : Nat} (hrc : ∀ (s sF : Sto) (a c : Nat) (rF : Int32), rc s a c = some (rF, sF) → TOf l s sF a c rF Fr Lr) {s sF : Sto} {th : Nat} {a1 : Nat} {rF : Int32} (hf : xk_of n rc s th a1 = some (rF, sF)) : Ct xCfg l yX10_of cX10_of 2 (some .int) { frames := Fr + 1, cells := 0, slots := 0, locals := Lr + 72 } (fun g => [.ref th, .ref (g.1 a1)]) s sF (fun _ => some (.int rF)) := by
  refine Ct_of pn_X10 (fun g => Nat.le_of_ble_eq_true rfl) (fun g A X C E hX => ?_)
  rw [xk_of] at hf
  show TG xCfg g A 2 X 0 0 s 0 [(0, .ref th), (1, .ref (g.1 a1))] []
  refine g_iconst C dX10_of_0 kc_1 ?_
  refine g_aload_n C dX10_of_1 0 rfl ?_
  refine pgQ_n hf (fun v1 hv2 hf => ?_)
  refine g_pget C fX10_7 hv2 dX10_of_2 ?_
  refine g_aload_n C dX10_of_5 1 rfl ?_
  refine nn_n hf (fun q3 hq4 hf => ?_)
  refine bd_n hf (fun r5 s6 h7 hf => ?_)
  refine g_callTQ (rest := [.int (1 : Int32)]) (stk := [.int r5, .int (1 : Int32)]) C (hrc _ _ _ _ _ h7) hX hq4 q805 ⟨by omega, by omega⟩ (Nat.le_of_ble_eq_true rfl) dX10_of_6 rfl ?_
  refine g_isub C dX10_of_9 ?_
  exact g_iret C E rfl (re_i hf) (re_s hf) ⟨Nat.zero_le _, Nat.zero_le _⟩ dX10_of_10
def xz_of (n : Nat) (rc : Sto → Nat → Nat → Option (Int32 × Sto)) (s : Sto) (th : Nat) (a1 : Nat) : Option (Int32 × Sto) :=
  pgQ s th 8 1 fun v1 =>
  nn v1 fun q3 =>
  bd (rc s q3 a1) fun r5 s6 =>
  pgQ s6 th 8 2 fun v8 =>
  nn v8 fun q10 =>
  bd (rc s6 q10 a1) fun r12 s13 =>
  pgI s13 th 8 0 fun v15 =>
  if v15 = (38 : Int32) then
    some ((r5 &&& r12), s13)
  else
    if v15 = (42 : Int32) then
      some ((r5 * r12), s13)
    else
      if v15 = (43 : Int32) then
        some ((r5 + r12), s13)
      else
        if v15 = (45 : Int32) then
          some ((r5 - r12), s13)
        else
          if v15 = (47 : Int32) then
            gd (decide (¬ r12 = 0)) <|
            some ((r5 / r12), s13)
          else
            if v15 = (60 : Int32) then
              if r12 ≤ r5 then
                some ((0 : Int32), s13)
              else
                some ((1 : Int32), s13)
            else
              if v15 = (61 : Int32) then
                if r5 = r12 then
                  some ((1 : Int32), s13)
                else
                  some ((0 : Int32), s13)
              else
                if v15 = (62 : Int32) then
                  if r5 ≤ r12 then
                    some ((0 : Int32), s13)
                  else
                    some ((1 : Int32), s13)
                else
                  some ((r5 ||| r12), s13)
theorem w_xz_of {l : Launch} {n : Nat} {rc : Sto → Nat → Nat → Option (Int32 × Sto)} {Fr Lr : Nat} (hrc : ∀ (s sF : Sto) (a c : Nat) (rF : Int32), rc s a c = some (rF, sF) → TOf l s sF a c rF Fr Lr) {s sF : Sto} {th : Nat} {a1 : Nat} {rF : Int32} (hf : xz_of n rc s th a1 = some (rF, sF)) : Ct xCfg l yX9_of cX9_of 4 (some .int) { frames := Fr + 1, cells := 0, slots := 0, locals := Lr + 72 } (fun g => [.ref th, .ref (g.1 a1)]) s sF (fun _ => some (.int rF)) := by
  refine Ct_of pn_X9 (fun g => Nat.le_of_ble_eq_true rfl) (fun g A X C E hX => ?_)
  rw [xz_of] at hf
  show TG xCfg g A 4 X 0 0 s 0 [(0, .ref th), (1, .ref (g.1 a1))] []
  refine g_aload_n C dX9_of_0 0 rfl ?_
  refine pgQ_n hf (fun v1 hv2 hf => ?_)
  refine g_pget C fX9_13 hv2 dX9_of_1 ?_
  refine g_aload_n C dX9_of_4 1 rfl ?_
  refine nn_n hf (fun q3 hq4 hf => ?_)
  refine bd_n hf (fun r5 s6 h7 hf => ?_)
  refine g_callTQ (rest := []) (stk := [.int r5]) C (hrc _ _ _ _ _ h7) hX hq4 q810 ⟨by omega, by omega⟩ (Nat.le_of_ble_eq_true rfl) dX9_of_5 rfl ?_
  refine g_istore_n (i := 2) (lv' := [(2, .int r5), (0, .ref th), (1, .ref (g.1 a1))]) C dX9_of_8 rfl rfl (by decide) rfl ?_
  refine g_aload_n C dX9_of_9 1 rfl ?_
  refine pgQ_n hf (fun v8 hv9 hf => ?_)
  refine g_pget C fX9_17 hv9 dX9_of_10 ?_
  refine g_aload_n C dX9_of_13 2 rfl ?_
  refine nn_n hf (fun q10 hq11 hf => ?_)
  refine bd_n hf (fun r12 s13 h14 hf => ?_)
  refine g_callTQ (rest := []) (stk := [.int r12]) C (hrc _ _ _ _ _ h14) hX hq11 q810 ⟨by omega, by omega⟩ (Nat.le_of_ble_eq_true rfl) dX9_of_14 rfl ?_
  refine g_istore_n (i := 3) (lv' := [(3, .int r12), (2, .int r5), (0, .ref th), (1, .ref (g.1 a1))]) C dX9_of_17 rfl rfl (by decide) rfl ?_
  refine g_aload_n C dX9_of_18 2 rfl ?_
  refine pgI_n hf (fun v15 hv16 hf => ?_)
  refine g_pget C fX9_7 hv16 dX9_of_19 ?_
  by_cases c17 : v15 = (38 : Int32)
  · replace hf := if_t c17 hf
    refine g_tableIn 38 185 C dX9_of_22 c17 (by decide) (by decide) rfl rfl ?_
    refine g_iload_n C dX9_of_185 1 rfl ?_
    refine g_iload_n C dX9_of_186 0 rfl ?_
    refine g_iand C dX9_of_187 ?_
    exact g_iret C E rfl (re_i hf) (re_s hf) ⟨Nat.zero_le _, Nat.zero_le _⟩ dX9_of_188
  replace hf := if_f c17 hf
  by_cases c21 : v15 = (42 : Int32)
  · replace hf := if_t c21 hf
    refine g_tableIn 42 144 C dX9_of_22 c21 (by decide) (by decide) rfl rfl ?_
    refine g_iload_n C dX9_of_144 1 rfl ?_
    refine g_iload_n C dX9_of_145 0 rfl ?_
    refine g_imul C dX9_of_146 ?_
    exact g_iret C E rfl (re_i hf) (re_s hf) ⟨Nat.zero_le _, Nat.zero_le _⟩ dX9_of_147
  replace hf := if_f c21 hf
  by_cases c22 : v15 = (43 : Int32)
  · replace hf := if_t c22 hf
    refine g_tableIn 43 136 C dX9_of_22 c22 (by decide) (by decide) rfl rfl ?_
    refine g_iload_n C dX9_of_136 1 rfl ?_
    refine g_iload_n C dX9_of_137 0 rfl ?_
    refine g_iadd C dX9_of_138 ?_
    exact g_iret C E rfl (re_i hf) (re_s hf) ⟨Nat.zero_le _, Nat.zero_le _⟩ dX9_of_139
  replace hf := if_f c22 hf
  by_cases c24 : v15 = (45 : Int32)
  · replace hf := if_t c24 hf
    refine g_tableIn 45 140 C dX9_of_22 c24 (by decide) (by decide) rfl rfl ?_
    refine g_iload_n C dX9_of_140 1 rfl ?_
    refine g_iload_n C dX9_of_141 0 rfl ?_
    refine g_isub C dX9_of_142 ?_
    exact g_iret C E rfl (re_i hf) (re_s hf) ⟨Nat.zero_le _, Nat.zero_le _⟩ dX9_of_143
  replace hf := if_f c24 hf
  by_cases c26 : v15 = (47 : Int32)
  · replace hf := if_t c26 hf
    refine g_tableIn 47 148 C dX9_of_22 c26 (by decide) (by decide) rfl rfl ?_
    refine g_iload_n C dX9_of_148 1 rfl ?_
    refine g_iload_n C dX9_of_149 0 rfl ?_
    refine gd_n hf (fun c42 hf => ?_)
    refine g_idiv C dX9_of_150 c42 ?_
    exact g_iret C E rfl (re_i hf) (re_s hf) ⟨Nat.zero_le _, Nat.zero_le _⟩ dX9_of_151
  replace hf := if_f c26 hf
  by_cases c39 : v15 = (60 : Int32)
  · replace hf := if_t c39 hf
    refine g_tableIn 60 152 C dX9_of_22 c39 (by decide) (by decide) rfl rfl ?_
    refine g_iload_n C dX9_of_152 1 rfl ?_
    refine g_iload_n C dX9_of_153 0 rfl ?_
    refine g_icmp_ge 161 C dX9_of_154 rfl (fun c43 => ?_) (fun c43 => ?_)
    · replace hf := if_t c43 hf
      refine g_iconst C dX9_of_161 kc_0 ?_
      exact g_iret C E rfl (re_i hf) (re_s hf) ⟨Nat.zero_le _, Nat.zero_le _⟩ dX9_of_162
    · replace hf := if_f c43 hf
      refine g_iconst C dX9_of_157 kc_1 ?_
      refine g_goto 162 C dX9_of_158 rfl ?_
      exact g_iret C E rfl (re_i hf) (re_s hf) ⟨Nat.zero_le _, Nat.zero_le _⟩ dX9_of_162
  replace hf := if_f c39 hf
  by_cases c40 : v15 = (61 : Int32)
  · replace hf := if_t c40 hf
    refine g_tableIn 61 163 C dX9_of_22 c40 (by decide) (by decide) rfl rfl ?_
    refine g_iload_n C dX9_of_163 1 rfl ?_
    refine g_iload_n C dX9_of_164 0 rfl ?_
    refine g_icmp_ne 172 C dX9_of_165 rfl (fun c44 => ?_) (fun c44 => ?_)
    · replace hf := if_t c44 hf
      refine g_iconst C dX9_of_168 kc_1 ?_
      refine g_goto 173 C dX9_of_169 rfl ?_
      exact g_iret C E rfl (re_i hf) (re_s hf) ⟨Nat.zero_le _, Nat.zero_le _⟩ dX9_of_173
    · replace hf := if_f c44 hf
      refine g_iconst C dX9_of_172 kc_0 ?_
      exact g_iret C E rfl (re_i hf) (re_s hf) ⟨Nat.zero_le _, Nat.zero_le _⟩ dX9_of_173
  replace hf := if_f c40 hf
  by_cases c41 : v15 = (62 : Int32)
  · replace hf := if_t c41 hf
    refine g_tableIn 62 174 C dX9_of_22 c41 (by decide) (by decide) rfl rfl ?_
    refine g_iload_n C dX9_of_174 1 rfl ?_
    refine g_iload_n C dX9_of_175 0 rfl ?_
    refine g_icmp_le 183 C dX9_of_176 rfl (fun c45 => ?_) (fun c45 => ?_)
    · replace hf := if_t c45 hf
      refine g_iconst C dX9_of_183 kc_0 ?_
      exact g_iret C E rfl (re_i hf) (re_s hf) ⟨Nat.zero_le _, Nat.zero_le _⟩ dX9_of_184
    · replace hf := if_f c45 hf
      refine g_iconst C dX9_of_179 kc_1 ?_
      refine g_goto 184 C dX9_of_180 rfl ?_
      exact g_iret C E rfl (re_i hf) (re_s hf) ⟨Nat.zero_le _, Nat.zero_le _⟩ dX9_of_184
  replace hf := if_f c41 hf
  refine g_tableD 189 C dX9_of_22 (sw_d [(38 : Int32), (42 : Int32), (43 : Int32), (45 : Int32), (47 : Int32), (60 : Int32), (61 : Int32), (62 : Int32)] (List.forall_mem_cons.mpr ⟨c17, (List.forall_mem_cons.mpr ⟨c21, (List.forall_mem_cons.mpr ⟨c22, (List.forall_mem_cons.mpr ⟨c24, (List.forall_mem_cons.mpr ⟨c26, (List.forall_mem_cons.mpr ⟨c39, (List.forall_mem_cons.mpr ⟨c40, (List.forall_mem_cons.mpr ⟨c41, (fun _ h => absurd h List.not_mem_nil)⟩)⟩)⟩)⟩)⟩)⟩)⟩)⟩) (by decide +kernel) (by decide)) rfl ?_
  refine g_iload_n C dX9_of_189 1 rfl ?_
  refine g_iload_n C dX9_of_190 0 rfl ?_
  refine g_ior C dX9_of_191 ?_
  exact g_iret C E rfl (re_i hf) (re_s hf) ⟨Nat.zero_le _, Nat.zero_le _⟩ dX9_of_192
