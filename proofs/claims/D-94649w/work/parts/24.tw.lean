/-! THE TWIN's methods: pure functions out of the bytecode, and their walks (printed by gen/twin.py) -/
set_option maxRecDepth 100000
set_option maxHeartbeats 4000000
def tw_product_L9 (n : Nat) : Nat → Sto → Option (Bool × Sto)
  | 0, _ => none
  | k + 1, s5 =>
    vl (fun (_ : Unit) =>
      vl (fun (t7 : Bool) =>
        bd (tw_next0 n s5) fun r9 s10 =>
        vl (fun (s12 : Sto) =>
          tw_product_L9 n k s12) fun j13 =>
        if t7 = true then
          vl (s10.1 0 16) fun v15 =>
          if (s10.1 0 14) = (2 : Int32) then
            if v15 = 0 then
              bd (tw_bad n s10 (2 : Int32)) fun r18 s19 =>
              some (r18, s19)
            else
              bd (tw_next0 n s10) fun r21 s22 =>
              bd (tw_lay n s22 (16 : Int32) v15) fun r24 s25 =>
              j13 s25
          else
            bd (tw_bad n s10 (1 : Int32)) fun r27 s28 =>
            some (r27, s28)
        else
          bd (tw_unit n s10) fun r30 s31 =>
          if r30 = true then
            bd (tw_lay n s31 (15 : Int32) (0 : Int32)) fun r34 s35 =>
            j13 s35
          else
            some (false, s31)) fun j8 =>
      if (s5.1 0 14) = (147 : Int32) then
        j8 true
      else
        j8 false) fun j6 =>
    if (s5.1 0 14) = (142 : Int32) then
      j6 ()
    else
      if (s5.1 0 14) = (147 : Int32) then
        j6 ()
      else
        some (true, s5)
def tw_product (n : Nat) (s : Sto) : Option (Bool × Sto) :=
  bd (tw_unit n s) fun r1 s2 =>
  if r1 = true then
    tw_product_L9 n
        n s2
  else
    some (false, s2)
theorem w_tw_product_L9  {l : Launch} {n : Nat} {g : Gam} {A : Nat → Prop} {X : FX} {si sF : Sto} {rF : Bool} (C : CX tCfg g A 3 X cX3_product RX3 (some .boolean) 10 203) (E : EX tCfg g A X si sF (some (.int (bI rF))) 0 0) (hX : X.2.1 = l) : ∀ (k : Nat) (s5 : Sto), tw_product_L9 n k s5 = some (rF, sF) → TG tCfg g A 3 X 0 0 s5 9 [(0, .ref (g.1 0))] [] := by
  intro k
  induction k with
  | zero => intro s5 hf; rw [tw_product_L9] at hf; cases hf
  | succ k ih =>
    intro s5 hf
    rw [tw_product_L9] at hf
    refine g_aload_n C dX3_product_9 0 rfl ?_
    refine g_getI C oT0 fX3_135 dX3_product_10 ?_
    refine g_sipush C dX3_product_13 ks_142 ?_
    refine vl_n hf (fun j6 hj6 hf => ?_)
    have Hj6 : ∀ (u : Unit), j6 u = some (rF, sF) → TG tCfg g A 3 X 0 0 s5 29 [(0, .ref (g.1 0))] [] := by
      clear hf; subst hj6
      intro u hf
      refine g_aload_n C dX3_product_29 0 rfl ?_
      refine g_getI C oT0 fX3_135 dX3_product_30 ?_
      refine g_sipush C dX3_product_33 ks_147 ?_
      refine vl_n hf (fun j8 hj8 hf => ?_)
      have Hj8 : ∀ (t7 : Bool), j8 t7 = some (rF, sF) → TG tCfg g A 3 X 0 0 s5 44 [(0, .ref (g.1 0))] [.int (bI t7)] := by
        clear hf; subst hj8
        intro t7 hf
        refine g_istore_n (i := 1) (lv' := [(1, .int (bI t7)), (0, .ref (g.1 0))]) C dX3_product_44 rfl rfl (by decide) rfl ?_
        refine g_aload_n C dX3_product_45 1 rfl ?_
        refine bd_n hf (fun r9 s10 h11 hf => ?_)
        refine g_callV0 (As := []) (rest := []) (stk := []) C (w_tw_next0 h11) hX oT0 rfl rfl q1153 q1155 qs44 q91 q1156 mdX3_next0 rfl ⟨Nat.le_of_ble_eq_true rfl, Nat.le_of_ble_eq_true rfl⟩ (Nat.le_of_ble_eq_true rfl) dX3_product_46 rfl ?_
        refine g_iload_n C dX3_product_49 0 rfl ?_
        refine vl_n hf (fun j13 hj13 hf => ?_)
        have Hj13 : ∀ (s12 : Sto), j13 s12 = some (rF, sF) → TG tCfg g A 3 X 0 0 s12 112 [(0, .ref (g.1 0))] [] := by
          clear hf; subst hj13
          intro s12 hf
          refine g_goto 9 C dX3_product_112 rfl ?_
          exact g_sub [0] rfl (ih _ hf)
        clear hj13
        refine g_ifZ_eq 96 C dX3_product_50 rfl (fun c14 => ?_) (fun c14 => ?_)
        · replace hf := if_t c14 hf
          refine g_aload_n C dX3_product_53 1 rfl ?_
          refine g_getI C oT0 fX3_148 dX3_product_54 ?_
          refine vl_n hf (fun v15 hv15 hf => ?_)
          refine g_istore_n (i := 2) (lv' := [(2, .int v15), (1, .int (bI t7)), (0, .ref (g.1 0))]) C dX3_product_57 rfl hv15 (by decide) rfl ?_
          refine g_aload_n C dX3_product_58 2 rfl ?_
          refine g_getI C oT0 fX3_135 dX3_product_59 ?_
          refine g_iconst C dX3_product_62 kc_2 ?_
          refine g_icmp_eq 72 C dX3_product_63 rfl (fun c16 => ?_) (fun c16 => ?_)
          · replace hf := if_t c16 hf
            refine g_iload_n C dX3_product_72 0 rfl ?_
            refine g_if_ne 82 C dX3_product_73 rfl (fun c17 => ?_) (fun c17 => ?_)
            · replace hf := if_t c17 hf
              refine g_aload_n C dX3_product_76 2 rfl ?_
              refine g_iconst C dX3_product_77 kc_2 ?_
              refine bd_n hf (fun r18 s19 h20 hf => ?_)
              refine g_callV0 (As := [.int (2 : Int32)]) (rest := []) (stk := [.int (bI r18)]) C (w_tw_bad h20) hX oT0 rfl rfl q1200 q1202 qs50 q91 q1203 mdX3_bad rfl ⟨Nat.le_of_ble_eq_true rfl, Nat.le_of_ble_eq_true rfl⟩ (Nat.le_of_ble_eq_true rfl) dX3_product_78 rfl ?_
              exact g_iret (v := bI r18) C E (bI_nar _) (re_z hf) (re_s hf) ⟨Nat.zero_le _, Nat.zero_le _⟩ dX3_product_81
            · replace hf := if_f c17 hf
              refine g_aload_n C dX3_product_82 2 rfl ?_
              refine bd_n hf (fun r21 s22 h23 hf => ?_)
              refine g_callV0 (As := []) (rest := []) (stk := []) C (w_tw_next0 h23) hX oT0 rfl rfl q1153 q1155 qs44 q91 q1156 mdX3_next0 rfl ⟨Nat.le_of_ble_eq_true rfl, Nat.le_of_ble_eq_true rfl⟩ (Nat.le_of_ble_eq_true rfl) dX3_product_83 rfl ?_
              refine g_aload_n C dX3_product_86 2 rfl ?_
              refine g_bipush C dX3_product_87 kb_16 ?_
              refine g_iload_n C dX3_product_89 0 rfl ?_
              refine bd_n hf (fun r24 s25 h26 hf => ?_)
              refine g_callV0 (As := [.int (16 : Int32), .int v15]) (rest := []) (stk := []) C (w_tw_lay h26) hX oT0 rfl rfl q1216 q1218 qs54 q91 q1219 mdX3_lay rfl ⟨Nat.le_of_ble_eq_true rfl, Nat.le_of_ble_eq_true rfl⟩ (Nat.le_of_ble_eq_true rfl) dX3_product_90 rfl ?_
              refine g_goto 112 C dX3_product_93 rfl ?_
              exact g_sub [2] rfl (Hj13 _ hf)
          · replace hf := if_f c16 hf
            refine g_aload_n C dX3_product_66 2 rfl ?_
            refine g_iconst C dX3_product_67 kc_1 ?_
            refine bd_n hf (fun r27 s28 h29 hf => ?_)
            refine g_callV0 (As := [.int (1 : Int32)]) (rest := []) (stk := [.int (bI r27)]) C (w_tw_bad h29) hX oT0 rfl rfl q1200 q1202 qs50 q91 q1203 mdX3_bad rfl ⟨Nat.le_of_ble_eq_true rfl, Nat.le_of_ble_eq_true rfl⟩ (Nat.le_of_ble_eq_true rfl) dX3_product_68 rfl ?_
            exact g_iret (v := bI r27) C E (bI_nar _) (re_z hf) (re_s hf) ⟨Nat.zero_le _, Nat.zero_le _⟩ dX3_product_71
        · replace hf := if_f c14 hf
          refine g_aload_n C dX3_product_96 1 rfl ?_
          refine bd_n hf (fun r30 s31 h32 hf => ?_)
          refine g_callV0 (As := []) (rest := []) (stk := [.int (bI r30)]) C (w_tw_unit h32) hX oT0 rfl rfl q1212 q1214 qs53 q91 q1215 mdX3_unit rfl ⟨Nat.le_of_ble_eq_true rfl, Nat.le_of_ble_eq_true rfl⟩ (Nat.le_of_ble_eq_true rfl) dX3_product_97 rfl ?_
          refine g_ifZ_ne 105 C dX3_product_100 rfl (fun c33 => ?_) (fun c33 => ?_)
          · replace hf := if_t c33 hf
            refine g_aload_n C dX3_product_105 1 rfl ?_
            refine g_bipush C dX3_product_106 kb_15 ?_
            refine g_iconst C dX3_product_108 kc_0 ?_
            refine bd_n hf (fun r34 s35 h36 hf => ?_)
            refine g_callV0 (As := [.int (15 : Int32), .int (0 : Int32)]) (rest := []) (stk := []) C (w_tw_lay h36) hX oT0 rfl rfl q1216 q1218 qs54 q91 q1219 mdX3_lay rfl ⟨Nat.le_of_ble_eq_true rfl, Nat.le_of_ble_eq_true rfl⟩ (Nat.le_of_ble_eq_true rfl) dX3_product_109 rfl ?_
            exact g_sub [1] rfl (Hj13 _ hf)
          · replace hf := if_f c33 hf
            refine g_iconst C dX3_product_103 kc_0 ?_
            exact g_iret (v := bI false) C E (bI_nar _) (re_z hf) (re_s hf) ⟨Nat.zero_le _, Nat.zero_le _⟩ dX3_product_104
      clear hj8
      refine g_icmp_ne 43 C dX3_product_36 rfl (fun c37 => ?_) (fun c37 => ?_)
      · replace hf := if_t c37 hf
        refine g_iconst C dX3_product_39 kc_1 ?_
        refine g_goto 44 C dX3_product_40 rfl ?_
        exact g_sub [0] rfl (Hj8 _ hf)
      · replace hf := if_f c37 hf
        refine g_iconst C dX3_product_43 kc_0 ?_
        exact g_sub [0] rfl (Hj8 _ hf)
    clear hj6
    refine g_icmp_eq 29 C dX3_product_16 rfl (fun c38 => ?_) (fun c38 => ?_)
    · replace hf := if_t c38 hf
      exact g_sub [0] rfl (Hj6 _ hf)
    · replace hf := if_f c38 hf
      refine g_aload_n C dX3_product_19 0 rfl ?_
      refine g_getI C oT0 fX3_135 dX3_product_20 ?_
      refine g_sipush C dX3_product_23 ks_147 ?_
      refine g_icmp_ne 115 C dX3_product_26 rfl (fun c39 => ?_) (fun c39 => ?_)
      · replace hf := if_t c39 hf
        exact g_sub [0] rfl (Hj6 _ hf)
      · replace hf := if_f c39 hf
        refine g_iconst C dX3_product_115 kc_1 ?_
        exact g_iret (v := bI true) C E (bI_nar _) (re_z hf) (re_s hf) ⟨Nat.zero_le _, Nat.zero_le _⟩ dX3_product_116
theorem w_tw_product {l : Launch} {n : Nat} {s sF : Sto} {rF : Bool} (hf : tw_product n s  = some (rF, sF)) : Ct tCfg l yX3_product cX3_product 3 (some .boolean) { frames := 10, cells := 0, slots := 0, locals := 203 } (fun g => [.ref (g.1 0)]) s sF (fun _ => some (.int (bI rF))) := by
  refine Ct_of pn_X3 (fun g => Nat.le_of_ble_eq_true rfl) (fun g A X C E hX => ?_)
  rw [tw_product] at hf
  show TG tCfg g A 3 X 0 0 s 0 [(0, .ref (g.1 0))] []
  refine g_aload_n C dX3_product_0 0 rfl ?_
  refine bd_n hf (fun r1 s2 h3 hf => ?_)
  refine g_callV0 (As := []) (rest := []) (stk := [.int (bI r1)]) C (w_tw_unit h3) hX oT0 rfl rfl q1212 q1214 qs53 q91 q1215 mdX3_unit rfl ⟨Nat.le_of_ble_eq_true rfl, Nat.le_of_ble_eq_true rfl⟩ (Nat.le_of_ble_eq_true rfl) dX3_product_1 rfl ?_
  refine g_ifZ_ne 9 C dX3_product_4 rfl (fun c4 => ?_) (fun c4 => ?_)
  · replace hf := if_t c4 hf
    refine g_sub [0] rfl (w_tw_product_L9 C E hX _ _ hf)
  · replace hf := if_f c4 hf
    refine g_iconst C dX3_product_7 kc_0 ?_
    exact g_iret (v := bI false) C E (bI_nar _) (re_z hf) (re_s hf) ⟨Nat.zero_le _, Nat.zero_le _⟩ dX3_product_8
def tw_sumUp_L9 (n : Nat) : Nat → Sto → Option (Bool × Sto)
  | 0, _ => none
  | k + 1, s5 =>
    vl (fun (_ : Unit) =>
      vl (fun (t7 : Int32) =>
        bd (tw_next0 n s5) fun r9 s10 =>
        bd (tw_product n s10) fun r12 s13 =>
        if r12 = true then
          bd (tw_lay n s13 t7 (0 : Int32)) fun r16 s17 =>
          tw_sumUp_L9 n k s17
        else
          some (false, s13)) fun j8 =>
      if (s5.1 0 14) = (143 : Int32) then
        j8 (13 : Int32)
      else
        j8 (14 : Int32)) fun j6 =>
    if (s5.1 0 14) = (143 : Int32) then
      j6 ()
    else
      if (s5.1 0 14) = (145 : Int32) then
        j6 ()
      else
        some (true, s5)
def tw_sumUp (n : Nat) (s : Sto) : Option (Bool × Sto) :=
  bd (tw_product n s) fun r1 s2 =>
  if r1 = true then
    tw_sumUp_L9 n
        n s2
  else
    some (false, s2)
theorem w_tw_sumUp_L9  {l : Launch} {n : Nat} {g : Gam} {A : Nat → Prop} {X : FX} {si sF : Sto} {rF : Bool} (C : CX tCfg g A 2 X cX3_sumUp RX3 (some .boolean) 11 225) (E : EX tCfg g A X si sF (some (.int (bI rF))) 0 0) (hX : X.2.1 = l) : ∀ (k : Nat) (s5 : Sto), tw_sumUp_L9 n k s5 = some (rF, sF) → TG tCfg g A 2 X 0 0 s5 9 [(0, .ref (g.1 0))] [] := by
  intro k
  induction k with
  | zero => intro s5 hf; rw [tw_sumUp_L9] at hf; cases hf
  | succ k ih =>
    intro s5 hf
    rw [tw_sumUp_L9] at hf
    refine g_aload_n C dX3_sumUp_9 0 rfl ?_
    refine g_getI C oT0 fX3_135 dX3_sumUp_10 ?_
    refine g_sipush C dX3_sumUp_13 ks_143 ?_
    refine vl_n hf (fun j6 hj6 hf => ?_)
    have Hj6 : ∀ (u : Unit), j6 u = some (rF, sF) → TG tCfg g A 2 X 0 0 s5 29 [(0, .ref (g.1 0))] [] := by
      clear hf; subst hj6
      intro u hf
      refine g_aload_n C dX3_sumUp_29 0 rfl ?_
      refine g_getI C oT0 fX3_135 dX3_sumUp_30 ?_
      refine g_sipush C dX3_sumUp_33 ks_143 ?_
      refine vl_n hf (fun j8 hj8 hf => ?_)
      have Hj8 : ∀ (t7 : Int32), j8 t7 = some (rF, sF) → TG tCfg g A 2 X 0 0 s5 46 [(0, .ref (g.1 0))] [.int t7] := by
        clear hf; subst hj8
        intro t7 hf
        refine g_istore_n (i := 1) (lv' := [(1, .int t7), (0, .ref (g.1 0))]) C dX3_sumUp_46 rfl rfl (by decide) rfl ?_
        refine g_aload_n C dX3_sumUp_47 1 rfl ?_
        refine bd_n hf (fun r9 s10 h11 hf => ?_)
        refine g_callV0 (As := []) (rest := []) (stk := []) C (w_tw_next0 h11) hX oT0 rfl rfl q1153 q1155 qs44 q91 q1156 mdX3_next0 rfl ⟨Nat.le_of_ble_eq_true rfl, Nat.le_of_ble_eq_true rfl⟩ (Nat.le_of_ble_eq_true rfl) dX3_sumUp_48 rfl ?_
        refine g_aload_n C dX3_sumUp_51 1 rfl ?_
        refine bd_n hf (fun r12 s13 h14 hf => ?_)
        refine g_callV0 (As := []) (rest := []) (stk := [.int (bI r12)]) C (w_tw_product h14) hX oT0 rfl rfl q1208 q1210 qs52 q91 q1211 mdX3_product rfl ⟨Nat.le_of_ble_eq_true rfl, Nat.le_of_ble_eq_true rfl⟩ (Nat.le_of_ble_eq_true rfl) dX3_sumUp_52 rfl ?_
        refine g_ifZ_ne 60 C dX3_sumUp_55 rfl (fun c15 => ?_) (fun c15 => ?_)
        · replace hf := if_t c15 hf
          refine g_aload_n C dX3_sumUp_60 1 rfl ?_
          refine g_iload_n C dX3_sumUp_61 0 rfl ?_
          refine g_iconst C dX3_sumUp_62 kc_0 ?_
          refine bd_n hf (fun r16 s17 h18 hf => ?_)
          refine g_callV0 (As := [.int t7, .int (0 : Int32)]) (rest := []) (stk := []) C (w_tw_lay h18) hX oT0 rfl rfl q1216 q1218 qs54 q91 q1219 mdX3_lay rfl ⟨Nat.le_of_ble_eq_true rfl, Nat.le_of_ble_eq_true rfl⟩ (Nat.le_of_ble_eq_true rfl) dX3_sumUp_63 rfl ?_
          refine g_goto 9 C dX3_sumUp_66 rfl ?_
          exact g_sub [1] rfl (ih _ hf)
        · replace hf := if_f c15 hf
          refine g_iconst C dX3_sumUp_58 kc_0 ?_
          exact g_iret (v := bI false) C E (bI_nar _) (re_z hf) (re_s hf) ⟨Nat.zero_le _, Nat.zero_le _⟩ dX3_sumUp_59
      clear hj8
      refine g_icmp_ne 44 C dX3_sumUp_36 rfl (fun c19 => ?_) (fun c19 => ?_)
      · replace hf := if_t c19 hf
        refine g_bipush C dX3_sumUp_39 kb_13 ?_
        refine g_goto 46 C dX3_sumUp_41 rfl ?_
        exact g_sub [0] rfl (Hj8 _ hf)
      · replace hf := if_f c19 hf
        refine g_bipush C dX3_sumUp_44 kb_14 ?_
        exact g_sub [0] rfl (Hj8 _ hf)
    clear hj6
    refine g_icmp_eq 29 C dX3_sumUp_16 rfl (fun c20 => ?_) (fun c20 => ?_)
    · replace hf := if_t c20 hf
      exact g_sub [0] rfl (Hj6 _ hf)
    · replace hf := if_f c20 hf
      refine g_aload_n C dX3_sumUp_19 0 rfl ?_
      refine g_getI C oT0 fX3_135 dX3_sumUp_20 ?_
      refine g_sipush C dX3_sumUp_23 ks_145 ?_
      refine g_icmp_ne 69 C dX3_sumUp_26 rfl (fun c21 => ?_) (fun c21 => ?_)
      · replace hf := if_t c21 hf
        exact g_sub [0] rfl (Hj6 _ hf)
      · replace hf := if_f c21 hf
        refine g_iconst C dX3_sumUp_69 kc_1 ?_
        exact g_iret (v := bI true) C E (bI_nar _) (re_z hf) (re_s hf) ⟨Nat.zero_le _, Nat.zero_le _⟩ dX3_sumUp_70
theorem w_tw_sumUp {l : Launch} {n : Nat} {s sF : Sto} {rF : Bool} (hf : tw_sumUp n s  = some (rF, sF)) : Ct tCfg l yX3_sumUp cX3_sumUp 2 (some .boolean) { frames := 11, cells := 0, slots := 0, locals := 225 } (fun g => [.ref (g.1 0)]) s sF (fun _ => some (.int (bI rF))) := by
  refine Ct_of pn_X3 (fun g => Nat.le_of_ble_eq_true rfl) (fun g A X C E hX => ?_)
  rw [tw_sumUp] at hf
  show TG tCfg g A 2 X 0 0 s 0 [(0, .ref (g.1 0))] []
  refine g_aload_n C dX3_sumUp_0 0 rfl ?_
  refine bd_n hf (fun r1 s2 h3 hf => ?_)
  refine g_callV0 (As := []) (rest := []) (stk := [.int (bI r1)]) C (w_tw_product h3) hX oT0 rfl rfl q1208 q1210 qs52 q91 q1211 mdX3_product rfl ⟨Nat.le_of_ble_eq_true rfl, Nat.le_of_ble_eq_true rfl⟩ (Nat.le_of_ble_eq_true rfl) dX3_sumUp_1 rfl ?_
  refine g_ifZ_ne 9 C dX3_sumUp_4 rfl (fun c4 => ?_) (fun c4 => ?_)
  · replace hf := if_t c4 hf
    refine g_sub [0] rfl (w_tw_sumUp_L9 C E hX _ _ hf)
  · replace hf := if_f c4 hf
    refine g_iconst C dX3_sumUp_7 kc_0 ?_
    exact g_iret (v := bI false) C E (bI_nar _) (re_z hf) (re_s hf) ⟨Nat.zero_le _, Nat.zero_le _⟩ dX3_sumUp_8
def tw_every_L9 (n : Nat) (rc : Sto → Option (Bool × Sto)) : Nat → Sto → Option (Bool × Sto)
  | 0, _ => none
  | k + 1, s5 =>
    if (s5.1 0 14) = (5 : Int32) then
      bd (tw_next0 n s5) fun r7 s8 =>
      bd (rc s8) fun r10 s11 =>
      if r10 = true then
        bd (tw_lay n s11 (21 : Int32) (0 : Int32)) fun r14 s15 =>
        tw_every_L9 n rc k s15
      else
        some (false, s11)
    else
      some (true, s5)
def tw_every (n : Nat) (rc : Sto → Option (Bool × Sto)) (s : Sto) : Option (Bool × Sto) :=
  bd (rc s) fun r1 s2 =>
  if r1 = true then
    tw_every_L9 n rc
        n s2
  else
    some (false, s2)
theorem w_tw_every_L9  {l : Launch} {n : Nat} {Fr Lr : Nat} {rc : Sto → Option (Bool × Sto)} {g : Gam} {A : Nat → Prop} {X : FX} {si sF : Sto} {rF : Bool} (C : CX tCfg g A 1 X cX3_every RX3 (some .boolean) (Fr + 9) (Lr + 242)) (E : EX tCfg g A X si sF (some (.int (bI rF))) 0 0) (hX : X.2.1 = l) (hrc : ∀ (s sF : Sto) (rF : Bool), rc s = some (rF, sF) → Ct tCfg l yX3_oneTest cX3_oneTest 2 (some .boolean) { frames := Fr, cells := 0, slots := 0, locals := Lr } (fun g => [.ref (g.1 0)]) s sF (fun _ => some (.int (bI rF)))) : ∀ (k : Nat) (s5 : Sto), tw_every_L9 n rc k s5 = some (rF, sF) → TG tCfg g A 1 X 0 0 s5 9 [(0, .ref (g.1 0))] [] := by
  intro k
  induction k with
  | zero => intro s5 hf; rw [tw_every_L9] at hf; cases hf
  | succ k ih =>
    intro s5 hf
    rw [tw_every_L9] at hf
    refine g_aload_n C dX3_every_9 0 rfl ?_
    refine g_getI C oT0 fX3_135 dX3_every_10 ?_
    refine g_iconst C dX3_every_13 kc_5 ?_
    refine g_icmp_ne 40 C dX3_every_14 rfl (fun c6 => ?_) (fun c6 => ?_)
    · replace hf := if_t c6 hf
      refine g_aload_n C dX3_every_17 0 rfl ?_
      refine bd_n hf (fun r7 s8 h9 hf => ?_)
      refine g_callV0 (As := []) (rest := []) (stk := []) C (w_tw_next0 h9) hX oT0 rfl rfl q1153 q1155 qs44 q91 q1156 mdX3_next0 rfl ⟨by (try simp only []); omega, by (try simp only []); omega⟩ (Nat.le_of_ble_eq_true rfl) dX3_every_18 rfl ?_
      refine g_aload_n C dX3_every_21 0 rfl ?_
      refine bd_n hf (fun r10 s11 h12 hf => ?_)
      refine g_callV0 (As := []) (rest := []) (stk := [.int (bI r10)]) C (hrc _ _ _ h12) hX oT0 rfl rfl q1228 q1230 qs57 q91 q1231 mdX3_oneTest rfl ⟨by (try simp only []); omega, by (try simp only []); omega⟩ (Nat.le_of_ble_eq_true rfl) dX3_every_22 rfl ?_
      refine g_ifZ_ne 30 C dX3_every_25 rfl (fun c13 => ?_) (fun c13 => ?_)
      · replace hf := if_t c13 hf
        refine g_aload_n C dX3_every_30 0 rfl ?_
        refine g_bipush C dX3_every_31 kb_21 ?_
        refine g_iconst C dX3_every_33 kc_0 ?_
        refine bd_n hf (fun r14 s15 h16 hf => ?_)
        refine g_callV0 (As := [.int (21 : Int32), .int (0 : Int32)]) (rest := []) (stk := []) C (w_tw_lay h16) hX oT0 rfl rfl q1216 q1218 qs54 q91 q1219 mdX3_lay rfl ⟨by (try simp only []); omega, by (try simp only []); omega⟩ (Nat.le_of_ble_eq_true rfl) dX3_every_34 rfl ?_
        refine g_goto 9 C dX3_every_37 rfl ?_
        exact g_sub [0] rfl (ih _ hf)
      · replace hf := if_f c13 hf
        refine g_iconst C dX3_every_28 kc_0 ?_
        exact g_iret (v := bI false) C E (bI_nar _) (re_z hf) (re_s hf) ⟨Nat.zero_le _, Nat.zero_le _⟩ dX3_every_29
    · replace hf := if_f c6 hf
      refine g_iconst C dX3_every_40 kc_1 ?_
      exact g_iret (v := bI true) C E (bI_nar _) (re_z hf) (re_s hf) ⟨Nat.zero_le _, Nat.zero_le _⟩ dX3_every_41
theorem w_tw_every {l : Launch} {n : Nat} {rc : Sto → Option (Bool × Sto)} {Fr Lr : Nat} (hrc : ∀ (s sF : Sto) (rF : Bool), rc s = some (rF, sF) → Ct tCfg l yX3_oneTest cX3_oneTest 2 (some .boolean) { frames := Fr, cells := 0, slots := 0, locals := Lr } (fun g => [.ref (g.1 0)]) s sF (fun _ => some (.int (bI rF)))) {s sF : Sto} {rF : Bool} (hf : tw_every n rc s  = some (rF, sF)) : Ct tCfg l yX3_every cX3_every 1 (some .boolean) { frames := Fr + 9, cells := 0, slots := 0, locals := Lr + 242 } (fun g => [.ref (g.1 0)]) s sF (fun _ => some (.int (bI rF))) := by
  refine Ct_of pn_X3 (fun g => Nat.le_of_ble_eq_true rfl) (fun g A X C E hX => ?_)
  rw [tw_every] at hf
  show TG tCfg g A 1 X 0 0 s 0 [(0, .ref (g.1 0))] []
  refine g_aload_n C dX3_every_0 0 rfl ?_
  refine bd_n hf (fun r1 s2 h3 hf => ?_)
  refine g_callV0 (As := []) (rest := []) (stk := [.int (bI r1)]) C (hrc _ _ _ h3) hX oT0 rfl rfl q1228 q1230 qs57 q91 q1231 mdX3_oneTest rfl ⟨by (try simp only []); omega, by (try simp only []); omega⟩ (Nat.le_of_ble_eq_true rfl) dX3_every_1 rfl ?_
  refine g_ifZ_ne 9 C dX3_every_4 rfl (fun c4 => ?_) (fun c4 => ?_)
  · replace hf := if_t c4 hf
    refine g_sub [0] rfl (w_tw_every_L9 C E hX hrc _ _ hf)
  · replace hf := if_f c4 hf
    refine g_iconst C dX3_every_7 kc_0 ?_
    exact g_iret (v := bI false) C E (bI_nar _) (re_z hf) (re_s hf) ⟨Nat.zero_le _, Nat.zero_le _⟩ dX3_every_8
def tw_any_L9 (n : Nat) (rc : Sto → Option (Bool × Sto)) : Nat → Sto → Option (Bool × Sto)
  | 0, _ => none
  | k + 1, s5 =>
    if (s5.1 0 14) = (4 : Int32) then
      bd (tw_next0 n s5) fun r7 s8 =>
      bd (tw_every n rc s8) fun r10 s11 =>
      if r10 = true then
        bd (tw_lay n s11 (22 : Int32) (0 : Int32)) fun r14 s15 =>
        tw_any_L9 n rc k s15
      else
        some (false, s11)
    else
      some (true, s5)
def tw_any (n : Nat) (rc : Sto → Option (Bool × Sto)) (s : Sto) : Option (Bool × Sto) :=
  bd (tw_every n rc s) fun r1 s2 =>
  if r1 = true then
    tw_any_L9 n rc
        n s2
  else
    some (false, s2)
theorem w_tw_any_L9  {l : Launch} {n : Nat} {Fr Lr : Nat} {rc : Sto → Option (Bool × Sto)} {g : Gam} {A : Nat → Prop} {X : FX} {si sF : Sto} {rF : Bool} (C : CX tCfg g A 1 X cX3_any RX3 (some .boolean) (Fr + 10) (Lr + 322)) (E : EX tCfg g A X si sF (some (.int (bI rF))) 0 0) (hX : X.2.1 = l) (hrc : ∀ (s sF : Sto) (rF : Bool), rc s = some (rF, sF) → Ct tCfg l yX3_oneTest cX3_oneTest 2 (some .boolean) { frames := Fr, cells := 0, slots := 0, locals := Lr } (fun g => [.ref (g.1 0)]) s sF (fun _ => some (.int (bI rF)))) : ∀ (k : Nat) (s5 : Sto), tw_any_L9 n rc k s5 = some (rF, sF) → TG tCfg g A 1 X 0 0 s5 9 [(0, .ref (g.1 0))] [] := by
  intro k
  induction k with
  | zero => intro s5 hf; rw [tw_any_L9] at hf; cases hf
  | succ k ih =>
    intro s5 hf
    rw [tw_any_L9] at hf
    refine g_aload_n C dX3_any_9 0 rfl ?_
    refine g_getI C oT0 fX3_135 dX3_any_10 ?_
    refine g_iconst C dX3_any_13 kc_4 ?_
    refine g_icmp_ne 40 C dX3_any_14 rfl (fun c6 => ?_) (fun c6 => ?_)
    · replace hf := if_t c6 hf
      refine g_aload_n C dX3_any_17 0 rfl ?_
      refine bd_n hf (fun r7 s8 h9 hf => ?_)
      refine g_callV0 (As := []) (rest := []) (stk := []) C (w_tw_next0 h9) hX oT0 rfl rfl q1153 q1155 qs44 q91 q1156 mdX3_next0 rfl ⟨by (try simp only []); omega, by (try simp only []); omega⟩ (Nat.le_of_ble_eq_true rfl) dX3_any_18 rfl ?_
      refine g_aload_n C dX3_any_21 0 rfl ?_
      refine bd_n hf (fun r10 s11 h12 hf => ?_)
      refine g_callV0 (As := []) (rest := []) (stk := [.int (bI r10)]) C (w_tw_every hrc h12) hX oT0 rfl rfl q1224 q1226 qs56 q91 q1227 mdX3_every rfl ⟨by (try simp only []); omega, by (try simp only []); omega⟩ (Nat.le_of_ble_eq_true rfl) dX3_any_22 rfl ?_
      refine g_ifZ_ne 30 C dX3_any_25 rfl (fun c13 => ?_) (fun c13 => ?_)
      · replace hf := if_t c13 hf
        refine g_aload_n C dX3_any_30 0 rfl ?_
        refine g_bipush C dX3_any_31 kb_22 ?_
        refine g_iconst C dX3_any_33 kc_0 ?_
        refine bd_n hf (fun r14 s15 h16 hf => ?_)
        refine g_callV0 (As := [.int (22 : Int32), .int (0 : Int32)]) (rest := []) (stk := []) C (w_tw_lay h16) hX oT0 rfl rfl q1216 q1218 qs54 q91 q1219 mdX3_lay rfl ⟨by (try simp only []); omega, by (try simp only []); omega⟩ (Nat.le_of_ble_eq_true rfl) dX3_any_34 rfl ?_
        refine g_goto 9 C dX3_any_37 rfl ?_
        exact g_sub [0] rfl (ih _ hf)
      · replace hf := if_f c13 hf
        refine g_iconst C dX3_any_28 kc_0 ?_
        exact g_iret (v := bI false) C E (bI_nar _) (re_z hf) (re_s hf) ⟨Nat.zero_le _, Nat.zero_le _⟩ dX3_any_29
    · replace hf := if_f c6 hf
      refine g_iconst C dX3_any_40 kc_1 ?_
      exact g_iret (v := bI true) C E (bI_nar _) (re_z hf) (re_s hf) ⟨Nat.zero_le _, Nat.zero_le _⟩ dX3_any_41
theorem w_tw_any {l : Launch} {n : Nat} {rc : Sto → Option (Bool × Sto)} {Fr Lr : Nat} (hrc : ∀ (s sF : Sto) (rF : Bool), rc s = some (rF, sF) → Ct tCfg l yX3_oneTest cX3_oneTest 2 (some .boolean) { frames := Fr, cells := 0, slots := 0, locals := Lr } (fun g => [.ref (g.1 0)]) s sF (fun _ => some (.int (bI rF)))) {s sF : Sto} {rF : Bool} (hf : tw_any n rc s  = some (rF, sF)) : Ct tCfg l yX3_any cX3_any 1 (some .boolean) { frames := Fr + 10, cells := 0, slots := 0, locals := Lr + 322 } (fun g => [.ref (g.1 0)]) s sF (fun _ => some (.int (bI rF))) := by
  refine Ct_of pn_X3 (fun g => Nat.le_of_ble_eq_true rfl) (fun g A X C E hX => ?_)
  rw [tw_any] at hf
  show TG tCfg g A 1 X 0 0 s 0 [(0, .ref (g.1 0))] []
  refine g_aload_n C dX3_any_0 0 rfl ?_
  refine bd_n hf (fun r1 s2 h3 hf => ?_)
  refine g_callV0 (As := []) (rest := []) (stk := [.int (bI r1)]) C (w_tw_every hrc h3) hX oT0 rfl rfl q1224 q1226 qs56 q91 q1227 mdX3_every rfl ⟨by (try simp only []); omega, by (try simp only []); omega⟩ (Nat.le_of_ble_eq_true rfl) dX3_any_1 rfl ?_
  refine g_ifZ_ne 9 C dX3_any_4 rfl (fun c4 => ?_) (fun c4 => ?_)
  · replace hf := if_t c4 hf
    refine g_sub [0] rfl (w_tw_any_L9 C E hX hrc _ _ hf)
  · replace hf := if_f c4 hf
    refine g_iconst C dX3_any_7 kc_0 ?_
    exact g_iret (v := bI false) C E (bI_nar _) (re_z hf) (re_s hf) ⟨Nat.zero_le _, Nat.zero_le _⟩ dX3_any_8
def tw_oneTest (n : Nat) : Nat → Sto → Option (Bool × Sto)
  | 0, _ => none
  | d + 1, s =>
    if (s.1 0 14) = (6 : Int32) then
      bd (tw_opens n s) fun r2 s3 =>
      if r2 = true then
        bd ((tw_oneTest n d) s3) fun r6 s7 =>
        if r6 = true then
          vl (sI s7 0 20 ((s7.1 0 20) - (1 : Int32))) fun s10 =>
          bd (tw_lay n s10 (20 : Int32) (0 : Int32)) fun r11 s12 =>
          some (true, s12)
        else
          some (false, s7)
      else
        some (false, s3)
    else
      if (s.1 0 14) = (140 : Int32) then
        bd (tw_opens n s) fun r15 s16 =>
        if r15 = true then
          bd (tw_any n (tw_oneTest n d) s16) fun r19 s20 =>
          if r19 = true then
            bd (tw_need n s20 (141 : Int32)) fun r23 s24 =>
            if r23 = true then
              vl (sI s24 0 20 ((s24.1 0 20) - (1 : Int32))) fun s27 =>
              some (true, s27)
            else
              some (false, s24)
          else
            some (false, s20)
        else
          some (false, s16)
      else
        bd (tw_sumUp n s) fun r28 s29 =>
        if r28 = true then
          vl (fun (t32 : Int32) =>
            if t32 = (-1 : Int32) then
              bd (tw_bad n s29 (1 : Int32)) fun r35 s36 =>
              some (r35, s36)
            else
              bd (tw_next0 n s29) fun r38 s39 =>
              bd (tw_sumUp n s39) fun r41 s42 =>
              if r41 = true then
                bd (tw_lay n s42 t32 (0 : Int32)) fun r45 s46 =>
                some (true, s46)
              else
                some (false, s42)) fun j33 =>
          if (s29.1 0 14) = (160 : Int32) then
            j33 (17 : Int32)
          else
            if (s29.1 0 14) = (161 : Int32) then
              j33 (18 : Int32)
            else
              if (s29.1 0 14) = (162 : Int32) then
                j33 (19 : Int32)
              else
                j33 (-1 : Int32)
        else
          some (false, s29)
theorem w_tw_oneTest {l : Launch} {n : Nat} : ∀ (d : Nat) (s sF : Sto) (rF : Bool), tw_oneTest n d s  = some (rF, sF) → Ct tCfg l yX3_oneTest cX3_oneTest 2 (some .boolean) { frames := 24 * d + 40, cells := 0, slots := 0, locals := 900 * d + 2000 } (fun g => [.ref (g.1 0)]) s sF (fun _ => some (.int (bI rF))) := by
  intro d
  induction d with
  | zero => intro s sF  rF hf; rw [tw_oneTest] at hf; cases hf
  | succ d ih =>
    intro s sF  rF hf
    refine Ct_of pn_X3 (fun g => Nat.le_of_ble_eq_true rfl) (fun g A X C E hX => ?_)
    rw [tw_oneTest] at hf
    show TG tCfg g A 2 X 0 0 s 0 [(0, .ref (g.1 0))] []
    refine g_aload_n C dX3_oneTest_0 0 rfl ?_
    refine g_getI C oT0 fX3_135 dX3_oneTest_1 ?_
    refine g_bipush C dX3_oneTest_4 kb_6 ?_
    refine g_icmp_ne 44 C dX3_oneTest_6 rfl (fun c1 => ?_) (fun c1 => ?_)
    · replace hf := if_t c1 hf
      refine g_aload_n C dX3_oneTest_9 0 rfl ?_
      refine bd_n hf (fun r2 s3 h4 hf => ?_)
      refine g_callV0 (As := []) (rest := []) (stk := [.int (bI r2)]) C (w_tw_opens h4) hX oT0 rfl rfl q1232 q1234 qs58 q91 q1235 mdX3_opens rfl ⟨by (try simp only []); omega, by (try simp only []); omega⟩ (Nat.le_of_ble_eq_true rfl) dX3_oneTest_10 rfl ?_
      refine g_ifZ_eq 23 C dX3_oneTest_13 rfl (fun c5 => ?_) (fun c5 => ?_)
      · replace hf := if_t c5 hf
        refine g_aload_n C dX3_oneTest_16 0 rfl ?_
        refine bd_n hf (fun r6 s7 h8 hf => ?_)
        refine g_callV0 (As := []) (rest := []) (stk := [.int (bI r6)]) C (ih _ _ _ h8) hX oT0 rfl rfl q1228 q1230 qs57 q91 q1231 mdX3_oneTest rfl ⟨by (try simp only []); omega, by (try simp only []); omega⟩ (Nat.le_of_ble_eq_true rfl) dX3_oneTest_17 rfl ?_
        refine g_ifZ_ne 25 C dX3_oneTest_20 rfl (fun c9 => ?_) (fun c9 => ?_)
        · replace hf := if_t c9 hf
          refine g_aload_n C dX3_oneTest_25 0 rfl ?_
          refine g_dup C dX3_oneTest_26 rfl ?_
          refine g_getI C oT0 fX3_166 dX3_oneTest_27 ?_
          refine g_iconst C dX3_oneTest_30 kc_1 ?_
          refine g_isub C dX3_oneTest_31 ?_
          refine vl_n hf (fun s10 hs10 hf => ?_)
          refine g_putI C oT0 pX3_166 rfl rfl hs10 dX3_oneTest_32 ?_
          refine g_aload_n C dX3_oneTest_35 0 rfl ?_
          refine g_bipush C dX3_oneTest_36 kb_20 ?_
          refine g_iconst C dX3_oneTest_38 kc_0 ?_
          refine bd_n hf (fun r11 s12 h13 hf => ?_)
          refine g_callV0 (As := [.int (20 : Int32), .int (0 : Int32)]) (rest := []) (stk := []) C (w_tw_lay h13) hX oT0 rfl rfl q1216 q1218 qs54 q91 q1219 mdX3_lay rfl ⟨by (try simp only []); omega, by (try simp only []); omega⟩ (Nat.le_of_ble_eq_true rfl) dX3_oneTest_39 rfl ?_
          refine g_iconst C dX3_oneTest_42 kc_1 ?_
          exact g_iret (v := bI true) C E (bI_nar _) (re_z hf) (re_s hf) ⟨Nat.zero_le _, Nat.zero_le _⟩ dX3_oneTest_43
        · replace hf := if_f c9 hf
          refine g_iconst C dX3_oneTest_23 kc_0 ?_
          exact g_iret (v := bI false) C E (bI_nar _) (re_z hf) (re_s hf) ⟨Nat.zero_le _, Nat.zero_le _⟩ dX3_oneTest_24
      · replace hf := if_f c5 hf
        refine g_iconst C dX3_oneTest_23 kc_0 ?_
        exact g_iret (v := bI false) C E (bI_nar _) (re_z hf) (re_s hf) ⟨Nat.zero_le _, Nat.zero_le _⟩ dX3_oneTest_24
    · replace hf := if_f c1 hf
      refine g_aload_n C dX3_oneTest_44 0 rfl ?_
      refine g_getI C oT0 fX3_135 dX3_oneTest_45 ?_
      refine g_sipush C dX3_oneTest_48 ks_140 ?_
      refine g_icmp_ne 92 C dX3_oneTest_51 rfl (fun c14 => ?_) (fun c14 => ?_)
      · replace hf := if_t c14 hf
        refine g_aload_n C dX3_oneTest_54 0 rfl ?_
        refine bd_n hf (fun r15 s16 h17 hf => ?_)
        refine g_callV0 (As := []) (rest := []) (stk := [.int (bI r15)]) C (w_tw_opens h17) hX oT0 rfl rfl q1232 q1234 qs58 q91 q1235 mdX3_opens rfl ⟨by (try simp only []); omega, by (try simp only []); omega⟩ (Nat.le_of_ble_eq_true rfl) dX3_oneTest_55 rfl ?_
        refine g_ifZ_eq 78 C dX3_oneTest_58 rfl (fun c18 => ?_) (fun c18 => ?_)
        · replace hf := if_t c18 hf
          refine g_aload_n C dX3_oneTest_61 0 rfl ?_
          refine bd_n hf (fun r19 s20 h21 hf => ?_)
          refine g_callV0 (As := []) (rest := []) (stk := [.int (bI r19)]) C (w_tw_any ih h21) hX oT0 rfl rfl q1220 q1222 qs55 q91 q1223 mdX3_any rfl ⟨by (try simp only []); omega, by (try simp only []); omega⟩ (Nat.le_of_ble_eq_true rfl) dX3_oneTest_62 rfl ?_
          refine g_ifZ_eq 78 C dX3_oneTest_65 rfl (fun c22 => ?_) (fun c22 => ?_)
          · replace hf := if_t c22 hf
            refine g_aload_n C dX3_oneTest_68 0 rfl ?_
            refine g_sipush C dX3_oneTest_69 ks_141 ?_
            refine bd_n hf (fun r23 s24 h25 hf => ?_)
            refine g_callV0 (As := [.int (141 : Int32)]) (rest := []) (stk := [.int (bI r23)]) C (w_tw_need h25) hX oT0 rfl rfl q1236 q1238 qs59 q91 q1239 mdX3_need rfl ⟨by (try simp only []); omega, by (try simp only []); omega⟩ (Nat.le_of_ble_eq_true rfl) dX3_oneTest_72 rfl ?_
            refine g_ifZ_ne 80 C dX3_oneTest_75 rfl (fun c26 => ?_) (fun c26 => ?_)
            · replace hf := if_t c26 hf
              refine g_aload_n C dX3_oneTest_80 0 rfl ?_
              refine g_dup C dX3_oneTest_81 rfl ?_
              refine g_getI C oT0 fX3_166 dX3_oneTest_82 ?_
              refine g_iconst C dX3_oneTest_85 kc_1 ?_
              refine g_isub C dX3_oneTest_86 ?_
              refine vl_n hf (fun s27 hs27 hf => ?_)
              refine g_putI C oT0 pX3_166 rfl rfl hs27 dX3_oneTest_87 ?_
              refine g_iconst C dX3_oneTest_90 kc_1 ?_
              exact g_iret (v := bI true) C E (bI_nar _) (re_z hf) (re_s hf) ⟨Nat.zero_le _, Nat.zero_le _⟩ dX3_oneTest_91
            · replace hf := if_f c26 hf
              refine g_iconst C dX3_oneTest_78 kc_0 ?_
              exact g_iret (v := bI false) C E (bI_nar _) (re_z hf) (re_s hf) ⟨Nat.zero_le _, Nat.zero_le _⟩ dX3_oneTest_79
          · replace hf := if_f c22 hf
            refine g_iconst C dX3_oneTest_78 kc_0 ?_
            exact g_iret (v := bI false) C E (bI_nar _) (re_z hf) (re_s hf) ⟨Nat.zero_le _, Nat.zero_le _⟩ dX3_oneTest_79
        · replace hf := if_f c18 hf
          refine g_iconst C dX3_oneTest_78 kc_0 ?_
          exact g_iret (v := bI false) C E (bI_nar _) (re_z hf) (re_s hf) ⟨Nat.zero_le _, Nat.zero_le _⟩ dX3_oneTest_79
      · replace hf := if_f c14 hf
        refine g_aload_n C dX3_oneTest_92 0 rfl ?_
        refine bd_n hf (fun r28 s29 h30 hf => ?_)
        refine g_callV0 (As := []) (rest := []) (stk := [.int (bI r28)]) C (w_tw_sumUp h30) hX oT0 rfl rfl q1204 q1206 qs51 q91 q1207 mdX3_sumUp rfl ⟨by (try simp only []); omega, by (try simp only []); omega⟩ (Nat.le_of_ble_eq_true rfl) dX3_oneTest_93 rfl ?_
        refine g_ifZ_ne 101 C dX3_oneTest_96 rfl (fun c31 => ?_) (fun c31 => ?_)
        · replace hf := if_t c31 hf
          refine g_aload_n C dX3_oneTest_101 0 rfl ?_
          refine g_getI C oT0 fX3_135 dX3_oneTest_102 ?_
          refine g_sipush C dX3_oneTest_105 ks_160 ?_
          refine vl_n hf (fun j33 hj33 hf => ?_)
          have Hj33 : ∀ (t32 : Int32), j33 t32 = some (rF, sF) → TG tCfg g A 2 X 0 0 s29 147 [(0, .ref (g.1 0))] [.int t32] := by
            clear hf; subst hj33
            intro t32 hf
            refine g_istore_n (i := 1) (lv' := [(1, .int t32), (0, .ref (g.1 0))]) C dX3_oneTest_147 rfl rfl (by decide) rfl ?_
            refine g_iload_n C dX3_oneTest_148 0 rfl ?_
            refine g_iconst C dX3_oneTest_149 kc_m1 ?_
            refine g_icmp_ne 159 C dX3_oneTest_150 rfl (fun c34 => ?_) (fun c34 => ?_)
            · replace hf := if_t c34 hf
              refine g_aload_n C dX3_oneTest_153 1 rfl ?_
              refine g_iconst C dX3_oneTest_154 kc_1 ?_
              refine bd_n hf (fun r35 s36 h37 hf => ?_)
              refine g_callV0 (As := [.int (1 : Int32)]) (rest := []) (stk := [.int (bI r35)]) C (w_tw_bad h37) hX oT0 rfl rfl q1200 q1202 qs50 q91 q1203 mdX3_bad rfl ⟨by (try simp only []); omega, by (try simp only []); omega⟩ (Nat.le_of_ble_eq_true rfl) dX3_oneTest_155 rfl ?_
              exact g_iret (v := bI r35) C E (bI_nar _) (re_z hf) (re_s hf) ⟨Nat.zero_le _, Nat.zero_le _⟩ dX3_oneTest_158
            · replace hf := if_f c34 hf
              refine g_aload_n C dX3_oneTest_159 1 rfl ?_
              refine bd_n hf (fun r38 s39 h40 hf => ?_)
              refine g_callV0 (As := []) (rest := []) (stk := []) C (w_tw_next0 h40) hX oT0 rfl rfl q1153 q1155 qs44 q91 q1156 mdX3_next0 rfl ⟨by (try simp only []); omega, by (try simp only []); omega⟩ (Nat.le_of_ble_eq_true rfl) dX3_oneTest_160 rfl ?_
              refine g_aload_n C dX3_oneTest_163 1 rfl ?_
              refine bd_n hf (fun r41 s42 h43 hf => ?_)
              refine g_callV0 (As := []) (rest := []) (stk := [.int (bI r41)]) C (w_tw_sumUp h43) hX oT0 rfl rfl q1204 q1206 qs51 q91 q1207 mdX3_sumUp rfl ⟨by (try simp only []); omega, by (try simp only []); omega⟩ (Nat.le_of_ble_eq_true rfl) dX3_oneTest_164 rfl ?_
              refine g_ifZ_ne 172 C dX3_oneTest_167 rfl (fun c44 => ?_) (fun c44 => ?_)
              · replace hf := if_t c44 hf
                refine g_aload_n C dX3_oneTest_172 1 rfl ?_
                refine g_iload_n C dX3_oneTest_173 0 rfl ?_
                refine g_iconst C dX3_oneTest_174 kc_0 ?_
                refine bd_n hf (fun r45 s46 h47 hf => ?_)
                refine g_callV0 (As := [.int t32, .int (0 : Int32)]) (rest := []) (stk := []) C (w_tw_lay h47) hX oT0 rfl rfl q1216 q1218 qs54 q91 q1219 mdX3_lay rfl ⟨by (try simp only []); omega, by (try simp only []); omega⟩ (Nat.le_of_ble_eq_true rfl) dX3_oneTest_175 rfl ?_
                refine g_iconst C dX3_oneTest_178 kc_1 ?_
                exact g_iret (v := bI true) C E (bI_nar _) (re_z hf) (re_s hf) ⟨Nat.zero_le _, Nat.zero_le _⟩ dX3_oneTest_179
              · replace hf := if_f c44 hf
                refine g_iconst C dX3_oneTest_170 kc_0 ?_
                exact g_iret (v := bI false) C E (bI_nar _) (re_z hf) (re_s hf) ⟨Nat.zero_le _, Nat.zero_le _⟩ dX3_oneTest_171
          clear hj33
          refine g_icmp_ne 116 C dX3_oneTest_108 rfl (fun c48 => ?_) (fun c48 => ?_)
          · replace hf := if_t c48 hf
            refine g_bipush C dX3_oneTest_111 kb_17 ?_
            refine g_goto 147 C dX3_oneTest_113 rfl ?_
            exact g_sub [0] rfl (Hj33 _ hf)
          · replace hf := if_f c48 hf
            refine g_aload_n C dX3_oneTest_116 0 rfl ?_
            refine g_getI C oT0 fX3_135 dX3_oneTest_117 ?_
            refine g_sipush C dX3_oneTest_120 ks_161 ?_
            refine g_icmp_ne 131 C dX3_oneTest_123 rfl (fun c49 => ?_) (fun c49 => ?_)
            · replace hf := if_t c49 hf
              refine g_bipush C dX3_oneTest_126 kb_18 ?_
              refine g_goto 147 C dX3_oneTest_128 rfl ?_
              exact g_sub [0] rfl (Hj33 _ hf)
            · replace hf := if_f c49 hf
              refine g_aload_n C dX3_oneTest_131 0 rfl ?_
              refine g_getI C oT0 fX3_135 dX3_oneTest_132 ?_
              refine g_sipush C dX3_oneTest_135 ks_162 ?_
              refine g_icmp_ne 146 C dX3_oneTest_138 rfl (fun c50 => ?_) (fun c50 => ?_)
              · replace hf := if_t c50 hf
                refine g_bipush C dX3_oneTest_141 kb_19 ?_
                refine g_goto 147 C dX3_oneTest_143 rfl ?_
                exact g_sub [0] rfl (Hj33 _ hf)
              · replace hf := if_f c50 hf
                refine g_iconst C dX3_oneTest_146 kc_m1 ?_
                exact g_sub [0] rfl (Hj33 _ hf)
        · replace hf := if_f c31 hf
          refine g_iconst C dX3_oneTest_99 kc_0 ?_
          exact g_iret (v := bI false) C E (bI_nar _) (re_z hf) (re_s hf) ⟨Nat.zero_le _, Nat.zero_le _⟩ dX3_oneTest_100
def tw_aLine (n : Nat) (s : Sto) : Option (Bool × Sto) :=
  if (s.1 0 14) = (20 : Int32) then
    if (s.1 0 10) = (16 : Int32) then
      bd (tw_bad n s (3 : Int32)) fun r3 s4 =>
      some (r3, s4)
    else
      vl (sI s 0 20 (0 : Int32)) fun s6 =>
      bd (tw_next0 n s6) fun r7 s8 =>
      gd (inb ((3 : Int32) * (s8.1 0 10)) 48) <|
      vl (wr s8 4 ((3 : Int32) * (s8.1 0 10)) (s8.1 0 11)) fun s11 =>
      bd (tw_sumUp n s11) fun r12 s13 =>
      if r12 = true then
        gd (inb (((3 : Int32) * (s13.1 0 10)) + (1 : Int32)) 48) <|
        vl (wr s13 4 (((3 : Int32) * (s13.1 0 10)) + (1 : Int32)) (s13.1 0 11)) fun s17 =>
        vl (fun (s18 : Sto) =>
          gd (inb (((3 : Int32) * (s18.1 0 10)) + (2 : Int32)) 48) <|
          vl (wr s18 4 (((3 : Int32) * (s18.1 0 10)) + (2 : Int32)) (s18.1 0 11)) fun s21 =>
          bd (tw_need n s21 (159 : Int32)) fun r22 s23 =>
          some (r22, s23)) fun j19 =>
        if (s17.1 0 14) = (3 : Int32) then
          bd (tw_next0 n s17) fun r26 s27 =>
          bd (tw_any n (tw_oneTest n 12) s27) fun r29 s30 =>
          if r29 = true then
            j19 s30
          else
            some (false, s30)
        else
          j19 s17
      else
        some (false, s13)
  else
    bd (tw_bad n s (1 : Int32)) fun r33 s34 =>
    some (r33, s34)
theorem w_tw_aLine {l : Launch} {n : Nat} {s sF : Sto} {rF : Bool} (hf : tw_aLine n s  = some (rF, sF)) : Ct tCfg l yX3_aLine cX3_aLine 1 (some .boolean) { frames := 339, cells := 0, slots := 0, locals := 13142 } (fun g => [.ref (g.1 0)]) s sF (fun _ => some (.int (bI rF))) := by
  refine Ct_of pn_X3 (fun g => Nat.le_of_ble_eq_true rfl) (fun g A X C E hX => ?_)
  rw [tw_aLine] at hf
  show TG tCfg g A 1 X 0 0 s 0 [(0, .ref (g.1 0))] []
  refine g_aload_n C dX3_aLine_0 0 rfl ?_
  refine g_getI C oT0 fX3_135 dX3_aLine_1 ?_
  refine g_bipush C dX3_aLine_4 kb_20 ?_
  refine g_icmp_eq 15 C dX3_aLine_6 rfl (fun c1 => ?_) (fun c1 => ?_)
  · replace hf := if_t c1 hf
    refine g_aload_n C dX3_aLine_15 0 rfl ?_
    refine g_getI C oT0 fX3_197 dX3_aLine_16 ?_
    refine g_bipush C dX3_aLine_19 kb_16 ?_
    refine g_icmp_ne 30 C dX3_aLine_21 rfl (fun c2 => ?_) (fun c2 => ?_)
    · replace hf := if_t c2 hf
      refine g_aload_n C dX3_aLine_24 0 rfl ?_
      refine g_iconst C dX3_aLine_25 kc_3 ?_
      refine bd_n hf (fun r3 s4 h5 hf => ?_)
      refine g_callV0 (As := [.int (3 : Int32)]) (rest := []) (stk := [.int (bI r3)]) C (w_tw_bad h5) hX oT0 rfl rfl q1200 q1202 qs50 q91 q1203 mdX3_bad rfl ⟨Nat.le_of_ble_eq_true rfl, Nat.le_of_ble_eq_true rfl⟩ (Nat.le_of_ble_eq_true rfl) dX3_aLine_26 rfl ?_
      exact g_iret (v := bI r3) C E (bI_nar _) (re_z hf) (re_s hf) ⟨Nat.zero_le _, Nat.zero_le _⟩ dX3_aLine_29
    · replace hf := if_f c2 hf
      refine g_aload_n C dX3_aLine_30 0 rfl ?_
      refine g_iconst C dX3_aLine_31 kc_0 ?_
      refine vl_n hf (fun s6 hs6 hf => ?_)
      refine g_putI C oT0 pX3_166 rfl rfl hs6 dX3_aLine_32 ?_
      refine g_aload_n C dX3_aLine_35 0 rfl ?_
      refine bd_n hf (fun r7 s8 h9 hf => ?_)
      refine g_callV0 (As := []) (rest := []) (stk := []) C (w_tw_next0 h9) hX oT0 rfl rfl q1153 q1155 qs44 q91 q1156 mdX3_next0 rfl ⟨Nat.le_of_ble_eq_true rfl, Nat.le_of_ble_eq_true rfl⟩ (Nat.le_of_ble_eq_true rfl) dX3_aLine_36 rfl ?_
      refine g_aload_n C dX3_aLine_39 0 rfl ?_
      refine g_getS 4 C oT0 fX3_19 rfl dX3_aLine_40 ?_
      refine g_iconst C dX3_aLine_43 kc_3 ?_
      refine g_aload_n C dX3_aLine_44 0 rfl ?_
      refine g_getI C oT0 fX3_197 dX3_aLine_45 ?_
      refine g_imul C dX3_aLine_48 ?_
      refine g_aload_n C dX3_aLine_49 0 rfl ?_
      refine g_getI C oT0 fX3_163 dX3_aLine_50 ?_
      refine gd_n hf (fun c10 hf => ?_)
      refine vl_n hf (fun s11 hs11 hf => ?_)
      refine g_iast C aT4 rfl c10 hs11 dX3_aLine_53 ?_
      refine g_aload_n C dX3_aLine_54 0 rfl ?_
      refine bd_n hf (fun r12 s13 h14 hf => ?_)
      refine g_callV0 (As := []) (rest := []) (stk := [.int (bI r12)]) C (w_tw_sumUp h14) hX oT0 rfl rfl q1204 q1206 qs51 q91 q1207 mdX3_sumUp rfl ⟨Nat.le_of_ble_eq_true rfl, Nat.le_of_ble_eq_true rfl⟩ (Nat.le_of_ble_eq_true rfl) dX3_aLine_55 rfl ?_
      refine g_ifZ_ne 63 C dX3_aLine_58 rfl (fun c15 => ?_) (fun c15 => ?_)
      · replace hf := if_t c15 hf
        refine g_aload_n C dX3_aLine_63 0 rfl ?_
        refine g_getS 4 C oT0 fX3_19 rfl dX3_aLine_64 ?_
        refine g_iconst C dX3_aLine_67 kc_3 ?_
        refine g_aload_n C dX3_aLine_68 0 rfl ?_
        refine g_getI C oT0 fX3_197 dX3_aLine_69 ?_
        refine g_imul C dX3_aLine_72 ?_
        refine g_iconst C dX3_aLine_73 kc_1 ?_
        refine g_iadd C dX3_aLine_74 ?_
        refine g_aload_n C dX3_aLine_75 0 rfl ?_
        refine g_getI C oT0 fX3_163 dX3_aLine_76 ?_
        refine gd_n hf (fun c16 hf => ?_)
        refine vl_n hf (fun s17 hs17 hf => ?_)
        refine g_iast C aT4 rfl c16 hs17 dX3_aLine_79 ?_
        refine g_aload_n C dX3_aLine_80 0 rfl ?_
        refine g_getI C oT0 fX3_135 dX3_aLine_81 ?_
        refine g_iconst C dX3_aLine_84 kc_3 ?_
        refine vl_n hf (fun j19 hj19 hf => ?_)
        have Hj19 : ∀ (s18 : Sto), j19 s18 = some (rF, sF) → TG tCfg g A 1 X 0 0 s18 101 [(0, .ref (g.1 0))] [] := by
          clear hf; subst hj19
          intro s18 hf
          refine g_aload_n C dX3_aLine_101 0 rfl ?_
          refine g_getS 4 C oT0 fX3_19 rfl dX3_aLine_102 ?_
          refine g_iconst C dX3_aLine_105 kc_3 ?_
          refine g_aload_n C dX3_aLine_106 0 rfl ?_
          refine g_getI C oT0 fX3_197 dX3_aLine_107 ?_
          refine g_imul C dX3_aLine_110 ?_
          refine g_iconst C dX3_aLine_111 kc_2 ?_
          refine g_iadd C dX3_aLine_112 ?_
          refine g_aload_n C dX3_aLine_113 0 rfl ?_
          refine g_getI C oT0 fX3_163 dX3_aLine_114 ?_
          refine gd_n hf (fun c20 hf => ?_)
          refine vl_n hf (fun s21 hs21 hf => ?_)
          refine g_iast C aT4 rfl c20 hs21 dX3_aLine_117 ?_
          refine g_aload_n C dX3_aLine_118 0 rfl ?_
          refine g_sipush C dX3_aLine_119 ks_159 ?_
          refine bd_n hf (fun r22 s23 h24 hf => ?_)
          refine g_callV0 (As := [.int (159 : Int32)]) (rest := []) (stk := [.int (bI r22)]) C (w_tw_need h24) hX oT0 rfl rfl q1236 q1238 qs59 q91 q1239 mdX3_need rfl ⟨Nat.le_of_ble_eq_true rfl, Nat.le_of_ble_eq_true rfl⟩ (Nat.le_of_ble_eq_true rfl) dX3_aLine_122 rfl ?_
          exact g_iret (v := bI r22) C E (bI_nar _) (re_z hf) (re_s hf) ⟨Nat.zero_le _, Nat.zero_le _⟩ dX3_aLine_125
        clear hj19
        refine g_icmp_ne 101 C dX3_aLine_85 rfl (fun c25 => ?_) (fun c25 => ?_)
        · replace hf := if_t c25 hf
          refine g_aload_n C dX3_aLine_88 0 rfl ?_
          refine bd_n hf (fun r26 s27 h28 hf => ?_)
          refine g_callV0 (As := []) (rest := []) (stk := []) C (w_tw_next0 h28) hX oT0 rfl rfl q1153 q1155 qs44 q91 q1156 mdX3_next0 rfl ⟨Nat.le_of_ble_eq_true rfl, Nat.le_of_ble_eq_true rfl⟩ (Nat.le_of_ble_eq_true rfl) dX3_aLine_89 rfl ?_
          refine g_aload_n C dX3_aLine_92 0 rfl ?_
          refine bd_n hf (fun r29 s30 h31 hf => ?_)
          refine g_callV0 (As := []) (rest := []) (stk := [.int (bI r29)]) C (w_tw_any (w_tw_oneTest 12) h31) hX oT0 rfl rfl q1220 q1222 qs55 q91 q1223 mdX3_any rfl ⟨Nat.le_of_ble_eq_true rfl, Nat.le_of_ble_eq_true rfl⟩ (Nat.le_of_ble_eq_true rfl) dX3_aLine_93 rfl ?_
          refine g_ifZ_ne 101 C dX3_aLine_96 rfl (fun c32 => ?_) (fun c32 => ?_)
          · replace hf := if_t c32 hf
            exact g_sub [0] rfl (Hj19 _ hf)
          · replace hf := if_f c32 hf
            refine g_iconst C dX3_aLine_99 kc_0 ?_
            exact g_iret (v := bI false) C E (bI_nar _) (re_z hf) (re_s hf) ⟨Nat.zero_le _, Nat.zero_le _⟩ dX3_aLine_100
        · replace hf := if_f c25 hf
          exact g_sub [0] rfl (Hj19 _ hf)
      · replace hf := if_f c15 hf
        refine g_iconst C dX3_aLine_61 kc_0 ?_
        exact g_iret (v := bI false) C E (bI_nar _) (re_z hf) (re_s hf) ⟨Nat.zero_le _, Nat.zero_le _⟩ dX3_aLine_62
  · replace hf := if_f c1 hf
    refine g_aload_n C dX3_aLine_9 0 rfl ?_
    refine g_iconst C dX3_aLine_10 kc_1 ?_
    refine bd_n hf (fun r33 s34 h35 hf => ?_)
    refine g_callV0 (As := [.int (1 : Int32)]) (rest := []) (stk := [.int (bI r33)]) C (w_tw_bad h35) hX oT0 rfl rfl q1200 q1202 qs50 q91 q1203 mdX3_bad rfl ⟨Nat.le_of_ble_eq_true rfl, Nat.le_of_ble_eq_true rfl⟩ (Nat.le_of_ble_eq_true rfl) dX3_aLine_11 rfl ?_
    exact g_iret (v := bI r33) C E (bI_nar _) (re_z hf) (re_s hf) ⟨Nat.zero_le _, Nat.zero_le _⟩ dX3_aLine_14
def tw_text_L26 (n : Nat) (k12 : Sto → Bool → Option (Int32 × Sto)) : Nat → Sto → Bool → Option (Int32 × Sto)
  | 0, _, _ => none
  | k + 1, s8, v9 =>
    if v9 = true then
      if (s8.1 0 14) = 0 then
        k12 s8 v9
      else
        bd (tw_aLine n s8) fun r15 s16 =>
        vl (fun (t18 : Bool) =>
          vl (sI s16 0 10 ((s16.1 0 10) + (bI t18))) fun s20 =>
          tw_text_L26 n k12 k s20 r15) fun j19 =>
        if r15 = true then
          j19 true
        else
          j19 false
    else
      k12 s8 v9
def tw_text_L112 (n : Nat) (k33 : Sto → Option (Int32 × Sto)) : Nat → Sto → Int32 → Option (Int32 × Sto)
  | 0, _, _ => none
  | k + 1, s30, v31 =>
    if (s30.1 0 10) ≤ v31 then
      k33 s30
    else
      gd (inb ((3 : Int32) * v31) 48) <|
      gd (inb ((600 : Int32) + v31) 1480) <|
      vl (wr s30 1 ((600 : Int32) + v31) (rd s30 4 ((3 : Int32) * v31))) fun s37 =>
      gd (inb (((3 : Int32) * v31) + (1 : Int32)) 48) <|
      gd (inb ((620 : Int32) + v31) 1480) <|
      vl (wr s37 1 ((620 : Int32) + v31) (rd s37 4 (((3 : Int32) * v31) + (1 : Int32)))) fun s40 =>
      gd (inb (((3 : Int32) * v31) + (2 : Int32)) 48) <|
      gd (inb ((640 : Int32) + v31) 1480) <|
      vl (wr s40 1 ((640 : Int32) + v31) (rd s40 4 (((3 : Int32) * v31) + (2 : Int32)))) fun s43 =>
      tw_text_L112 n k33 k s43 (v31 + (1 : Int32))
def tw_text_L186 (n : Nat) : Nat → Sto → Int32 → Option (Int32 × Sto)
  | 0, _, _ => none
  | k + 1, s44, v45 =>
    if ((2 : Int32) * (s44.1 0 11)) ≤ v45 then
      some ((s44.1 0 10), s44)
    else
      gd (inb v45 820) <|
      gd (inb ((660 : Int32) + v45) 1480) <|
      vl (wr s44 1 ((660 : Int32) + v45) (rd s44 5 v45)) fun s49 =>
      tw_text_L186 n k s49 (v45 + (1 : Int32))
def tw_text (n : Nat) (s : Sto) : Option (Int32 × Sto) :=
  vl (sI s 0 17 (0 : Int32)) fun s1 =>
  vl (sI s1 0 13 (0 : Int32)) fun s2 =>
  vl (sI s2 0 10 (0 : Int32)) fun s3 =>
  vl (sI s3 0 11 (0 : Int32)) fun s4 =>
  bd (tw_next0 n s4) fun r5 s6 =>
  tw_text_L26 n
      (fun (s10 : Sto) (v11 : Bool) =>
        vl (sI s10 0 12 (0 : Int32)) fun s22 =>
        vl (sI s22 0 19 (s22.1 0 17)) fun s23 =>
        vl (fun (t24 : Int32) =>
          vl (sI s23 0 21 t24) fun s26 =>
          if v11 = true then
            gd (inb (590 : Int32) 1480) <|
            vl (wr s26 1 (590 : Int32) (s26.1 0 10)) fun s29 =>
            tw_text_L112 n
                (fun (s32 : Sto) =>
                  tw_text_L186 n
                      n s32 (0 : Int32))
                n s29 (0 : Int32)
          else
            some ((-1 : Int32), s26)) fun j25 =>
        if v11 = true then
          j25 (-1 : Int32)
        else
          j25 (s23.1 0 18))
      n s6 true
theorem w_tw_text_L26  {l : Launch} {n : Nat} {k12 : Sto → Bool → Option (Int32 × Sto)} {g : Gam} {A : Nat → Prop} {X : FX} {si sF : Sto} {rF : Int32} (C : CX tCfg g A 3 X cX3_text RX3 (some .int) 340 13162) (E : EX tCfg g A X si sF (some (.int rF)) 0 0) (hX : X.2.1 = l) (Hk12 : ∀ (s10 : Sto) (v11 : Bool), k12 s10 v11 = some (rF, sF) → TG tCfg g A 3 X 0 0 s10 63 [(0, .ref (g.1 0)), (1, .int (bI v11))] []) : ∀ (k : Nat) (s8 : Sto) (v9 : Bool), tw_text_L26 n k12 k s8 v9 = some (rF, sF) → TG tCfg g A 3 X 0 0 s8 26 [(0, .ref (g.1 0)), (1, .int (bI v9))] [] := by
  intro k
  induction k with
  | zero => intro s8 v9 hf; rw [tw_text_L26] at hf; cases hf
  | succ k ih =>
    intro s8 v9 hf
    rw [tw_text_L26] at hf
    refine g_iload_n C dX3_text_26 1 rfl ?_
    refine g_ifZ_eq 63 C dX3_text_27 rfl (fun c13 => ?_) (fun c13 => ?_)
    · replace hf := if_t c13 hf
      refine g_aload_n C dX3_text_30 0 rfl ?_
      refine g_getI C oT0 fX3_135 dX3_text_31 ?_
      refine g_if_eq 63 C dX3_text_34 rfl (fun c14 => ?_) (fun c14 => ?_)
      · replace hf := if_t c14 hf
        exact g_sub [0, 1] rfl (Hk12 _ _ hf)
      · replace hf := if_f c14 hf
        refine g_aload_n C dX3_text_37 0 rfl ?_
        refine bd_n hf (fun r15 s16 h17 hf => ?_)
        refine g_callV0 (As := []) (rest := []) (stk := [.int (bI r15)]) C (w_tw_aLine h17) hX oT0 rfl rfl q1196 q1198 qs49 q91 q1199 mdX3_aLine rfl ⟨Nat.le_of_ble_eq_true rfl, Nat.le_of_ble_eq_true rfl⟩ (Nat.le_of_ble_eq_true rfl) dX3_text_38 rfl ?_
        refine g_istore_n (i := 1) (lv' := [(1, .int (bI r15)), (0, .ref (g.1 0))]) C dX3_text_41 rfl rfl (by decide) rfl ?_
        refine g_aload_n C dX3_text_42 1 rfl ?_
        refine g_dup C dX3_text_43 rfl ?_
        refine g_getI C oT0 fX3_197 dX3_text_44 ?_
        refine g_iload_n C dX3_text_47 0 rfl ?_
        refine vl_n hf (fun j19 hj19 hf => ?_)
        have Hj19 : ∀ (t18 : Bool), j19 t18 = some (rF, sF) → TG tCfg g A 3 X 0 0 s16 56 [(0, .ref (g.1 0)), (1, .int (bI r15))] [.int (bI t18), .int (s16.1 0 10), .ref (g.1 0)] := by
          clear hf; subst hj19
          intro t18 hf
          refine g_iadd C dX3_text_56 ?_
          refine vl_n hf (fun s20 hs20 hf => ?_)
          refine g_putI C oT0 pX3_197 rfl rfl hs20 dX3_text_57 ?_
          refine g_goto 26 C dX3_text_60 rfl ?_
          exact g_sub [0, 1] rfl (ih _ _ hf)
        clear hj19
        refine g_ifZ_eq 55 C dX3_text_48 rfl (fun c21 => ?_) (fun c21 => ?_)
        · replace hf := if_t c21 hf
          refine g_iconst C dX3_text_51 kc_1 ?_
          refine g_goto 56 C dX3_text_52 rfl ?_
          exact g_sub [1, 0] rfl (Hj19 _ hf)
        · replace hf := if_f c21 hf
          refine g_iconst C dX3_text_55 kc_0 ?_
          exact g_sub [1, 0] rfl (Hj19 _ hf)
    · replace hf := if_f c13 hf
      exact g_sub [0, 1] rfl (Hk12 _ _ hf)
theorem w_tw_text_L112  {l : Launch} {n : Nat} {k33 : Sto → Option (Int32 × Sto)} {g : Gam} {A : Nat → Prop} {X : FX} {si sF : Sto} {rF : Int32} (C : CX tCfg g A 3 X cX3_text RX3 (some .int) 340 13162) (E : EX tCfg g A X si sF (some (.int rF)) 0 0) (hX : X.2.1 = l) (Hk33 : ∀ (s32 : Sto), k33 s32 = some (rF, sF) → TG tCfg g A 3 X 0 0 s32 184 [(0, .ref (g.1 0))] []) : ∀ (k : Nat) (s30 : Sto) (v31 : Int32), tw_text_L112 n k33 k s30 v31 = some (rF, sF) → TG tCfg g A 3 X 0 0 s30 112 [(0, .ref (g.1 0)), (2, .int v31)] [] := by
  intro k
  induction k with
  | zero => intro s30 v31 hf; rw [tw_text_L112] at hf; cases hf
  | succ k ih =>
    intro s30 v31 hf
    rw [tw_text_L112] at hf
    refine g_iload_n C dX3_text_112 1 rfl ?_
    refine g_aload_n C dX3_text_113 0 rfl ?_
    refine g_getI C oT0 fX3_197 dX3_text_114 ?_
    refine g_icmp_ge 184 C dX3_text_117 rfl (fun c34 => ?_) (fun c34 => ?_)
    · replace hf := if_t c34 hf
      exact g_sub [0] rfl (Hk33 _ hf)
    · replace hf := if_f c34 hf
      refine g_aload_n C dX3_text_120 0 rfl ?_
      refine g_getS 1 C oT0 fX3_7 rfl dX3_text_121 ?_
      refine g_sipush C dX3_text_124 ks_600 ?_
      refine g_iload_n C dX3_text_127 1 rfl ?_
      refine g_iadd C dX3_text_128 ?_
      refine g_aload_n C dX3_text_129 0 rfl ?_
      refine g_getS 4 C oT0 fX3_19 rfl dX3_text_130 ?_
      refine g_iconst C dX3_text_133 kc_3 ?_
      refine g_iload_n C dX3_text_134 1 rfl ?_
      refine g_imul C dX3_text_135 ?_
      refine gd_n hf (fun c35 hf => ?_)
      refine g_iald C aT4 rfl c35 dX3_text_136 ?_
      refine gd_n hf (fun c36 hf => ?_)
      refine vl_n hf (fun s37 hs37 hf => ?_)
      refine g_iast C aT1 rfl c36 hs37 dX3_text_137 ?_
      refine g_aload_n C dX3_text_138 0 rfl ?_
      refine g_getS 1 C oT0 fX3_7 rfl dX3_text_139 ?_
      refine g_sipush C dX3_text_142 ks_620 ?_
      refine g_iload_n C dX3_text_145 1 rfl ?_
      refine g_iadd C dX3_text_146 ?_
      refine g_aload_n C dX3_text_147 0 rfl ?_
      refine g_getS 4 C oT0 fX3_19 rfl dX3_text_148 ?_
      refine g_iconst C dX3_text_151 kc_3 ?_
      refine g_iload_n C dX3_text_152 1 rfl ?_
      refine g_imul C dX3_text_153 ?_
      refine g_iconst C dX3_text_154 kc_1 ?_
      refine g_iadd C dX3_text_155 ?_
      refine gd_n hf (fun c38 hf => ?_)
      refine g_iald C aT4 rfl c38 dX3_text_156 ?_
      refine gd_n hf (fun c39 hf => ?_)
      refine vl_n hf (fun s40 hs40 hf => ?_)
      refine g_iast C aT1 rfl c39 hs40 dX3_text_157 ?_
      refine g_aload_n C dX3_text_158 0 rfl ?_
      refine g_getS 1 C oT0 fX3_7 rfl dX3_text_159 ?_
      refine g_sipush C dX3_text_162 ks_640 ?_
      refine g_iload_n C dX3_text_165 1 rfl ?_
      refine g_iadd C dX3_text_166 ?_
      refine g_aload_n C dX3_text_167 0 rfl ?_
      refine g_getS 4 C oT0 fX3_19 rfl dX3_text_168 ?_
      refine g_iconst C dX3_text_171 kc_3 ?_
      refine g_iload_n C dX3_text_172 1 rfl ?_
      refine g_imul C dX3_text_173 ?_
      refine g_iconst C dX3_text_174 kc_2 ?_
      refine g_iadd C dX3_text_175 ?_
      refine gd_n hf (fun c41 hf => ?_)
      refine g_iald C aT4 rfl c41 dX3_text_176 ?_
      refine gd_n hf (fun c42 hf => ?_)
      refine vl_n hf (fun s43 hs43 hf => ?_)
      refine g_iast C aT1 rfl c42 hs43 dX3_text_177 ?_
      refine g_iinc (q := 1) (lv' := [(2, .int (v31 + (1 : Int32))), (0, .ref (g.1 0))]) C dX3_text_178 rfl kc_1 (by decide) rfl ?_
      refine g_goto 112 C dX3_text_181 rfl ?_
      exact g_sub [1, 0] rfl (ih _ _ hf)
theorem w_tw_text_L186  {l : Launch} {n : Nat} {g : Gam} {A : Nat → Prop} {X : FX} {si sF : Sto} {rF : Int32} (C : CX tCfg g A 3 X cX3_text RX3 (some .int) 340 13162) (E : EX tCfg g A X si sF (some (.int rF)) 0 0) (hX : X.2.1 = l) : ∀ (k : Nat) (s44 : Sto) (v45 : Int32), tw_text_L186 n k s44 v45 = some (rF, sF) → TG tCfg g A 3 X 0 0 s44 186 [(0, .ref (g.1 0)), (2, .int v45)] [] := by
  intro k
  induction k with
  | zero => intro s44 v45 hf; rw [tw_text_L186] at hf; cases hf
  | succ k ih =>
    intro s44 v45 hf
    rw [tw_text_L186] at hf
    refine g_iload_n C dX3_text_186 1 rfl ?_
    refine g_iconst C dX3_text_187 kc_2 ?_
    refine g_aload_n C dX3_text_188 0 rfl ?_
    refine g_getI C oT0 fX3_163 dX3_text_189 ?_
    refine g_imul C dX3_text_192 ?_
    refine g_icmp_ge 218 C dX3_text_193 rfl (fun c46 => ?_) (fun c46 => ?_)
    · replace hf := if_t c46 hf
      refine g_aload_n C dX3_text_218 0 rfl ?_
      refine g_getI C oT0 fX3_197 dX3_text_219 ?_
      exact g_iret C E rfl (re_i hf) (re_s hf) ⟨Nat.zero_le _, Nat.zero_le _⟩ dX3_text_222
    · replace hf := if_f c46 hf
      refine g_aload_n C dX3_text_196 0 rfl ?_
      refine g_getS 1 C oT0 fX3_7 rfl dX3_text_197 ?_
      refine g_sipush C dX3_text_200 ks_660 ?_
      refine g_iload_n C dX3_text_203 1 rfl ?_
      refine g_iadd C dX3_text_204 ?_
      refine g_aload_n C dX3_text_205 0 rfl ?_
      refine g_getS 5 C oT0 fX3_22 rfl dX3_text_206 ?_
      refine g_iload_n C dX3_text_209 1 rfl ?_
      refine gd_n hf (fun c47 hf => ?_)
      refine g_iald C aT5 rfl c47 dX3_text_210 ?_
      refine gd_n hf (fun c48 hf => ?_)
      refine vl_n hf (fun s49 hs49 hf => ?_)
      refine g_iast C aT1 rfl c48 hs49 dX3_text_211 ?_
      refine g_iinc (q := 1) (lv' := [(2, .int (v45 + (1 : Int32))), (0, .ref (g.1 0))]) C dX3_text_212 rfl kc_1 (by decide) rfl ?_
      refine g_goto 186 C dX3_text_215 rfl ?_
      exact g_sub [1, 0] rfl (ih _ _ hf)
theorem w_tw_text {l : Launch} {n : Nat} {s sF : Sto} {rF : Int32} (hf : tw_text n s  = some (rF, sF)) : Ct tCfg l yX3_text cX3_text 3 (some .int) { frames := 340, cells := 0, slots := 0, locals := 13162 } (fun g => [.ref (g.1 0)]) s sF (fun _ => some (.int rF)) := by
  refine Ct_of pn_X3 (fun g => Nat.le_of_ble_eq_true rfl) (fun g A X C E hX => ?_)
  rw [tw_text] at hf
  show TG tCfg g A 3 X 0 0 s 0 [(0, .ref (g.1 0))] []
  refine g_aload_n C dX3_text_0 0 rfl ?_
  refine g_iconst C dX3_text_1 kc_0 ?_
  refine vl_n hf (fun s1 hs1 hf => ?_)
  refine g_putI C oT0 pX3_151 rfl rfl hs1 dX3_text_2 ?_
  refine g_aload_n C dX3_text_5 0 rfl ?_
  refine g_iconst C dX3_text_6 kc_0 ?_
  refine vl_n hf (fun s2 hs2 hf => ?_)
  refine g_putI C oT0 pX3_78 rfl rfl hs2 dX3_text_7 ?_
  refine g_aload_n C dX3_text_10 0 rfl ?_
  refine g_iconst C dX3_text_11 kc_0 ?_
  refine vl_n hf (fun s3 hs3 hf => ?_)
  refine g_putI C oT0 pX3_197 rfl rfl hs3 dX3_text_12 ?_
  refine g_aload_n C dX3_text_15 0 rfl ?_
  refine g_iconst C dX3_text_16 kc_0 ?_
  refine vl_n hf (fun s4 hs4 hf => ?_)
  refine g_putI C oT0 pX3_163 rfl rfl hs4 dX3_text_17 ?_
  refine g_aload_n C dX3_text_20 0 rfl ?_
  refine bd_n hf (fun r5 s6 h7 hf => ?_)
  refine g_callV0 (As := []) (rest := []) (stk := []) C (w_tw_next0 h7) hX oT0 rfl rfl q1153 q1155 qs44 q91 q1156 mdX3_next0 rfl ⟨Nat.le_of_ble_eq_true rfl, Nat.le_of_ble_eq_true rfl⟩ (Nat.le_of_ble_eq_true rfl) dX3_text_21 rfl ?_
  refine g_iconst C dX3_text_24 kc_1 ?_
  refine g_istore_n (i := 1) (lv' := [(1, .int (1 : Int32)), (0, .ref (g.1 0))]) C dX3_text_25 rfl rfl (by decide) rfl ?_
  refine g_sub [1, 0] rfl (w_tw_text_L26 C E hX (fun s10 v11 hf => ?_) _ _ _ hf)
  refine g_aload_n C dX3_text_63 0 rfl ?_
  refine g_iconst C dX3_text_64 kc_0 ?_
  refine vl_n hf (fun s22 hs22 hf => ?_)
  refine g_putI C oT0 pX3_75 rfl rfl hs22 dX3_text_65 ?_
  refine g_aload_n C dX3_text_68 0 rfl ?_
  refine g_aload_n C dX3_text_69 0 rfl ?_
  refine g_getI C oT0 fX3_151 dX3_text_70 ?_
  refine vl_n hf (fun s23 hs23 hf => ?_)
  refine g_putI C oT0 pX3_203 rfl rfl hs23 dX3_text_73 ?_
  refine g_aload_n C dX3_text_76 0 rfl ?_
  refine g_iload_n C dX3_text_77 1 rfl ?_
  refine vl_n hf (fun j25 hj25 hf => ?_)
  have Hj25 : ∀ (t24 : Int32), j25 t24 = some (rF, sF) → TG tCfg g A 3 X 0 0 s23 89 [(0, .ref (g.1 0)), (1, .int (bI v11))] [.int t24, .ref (g.1 0)] := by
    clear hf; subst hj25
    intro t24 hf
    refine vl_n hf (fun s26 hs26 hf => ?_)
    refine g_putI C oT0 pX3_34 rfl rfl hs26 dX3_text_89 ?_
    refine g_iload_n C dX3_text_92 1 rfl ?_
    refine g_ifZ_ne 98 C dX3_text_93 rfl (fun c27 => ?_) (fun c27 => ?_)
    · replace hf := if_t c27 hf
      refine g_aload_n C dX3_text_98 0 rfl ?_
      refine g_getS 1 C oT0 fX3_7 rfl dX3_text_99 ?_
      refine g_sipush C dX3_text_102 ks_590 ?_
      refine g_aload_n C dX3_text_105 0 rfl ?_
      refine g_getI C oT0 fX3_197 dX3_text_106 ?_
      refine gd_n hf (fun c28 hf => ?_)
      refine vl_n hf (fun s29 hs29 hf => ?_)
      refine g_iast C aT1 rfl c28 hs29 dX3_text_109 ?_
      refine g_iconst C dX3_text_110 kc_0 ?_
      refine g_istore_n (i := 2) (lv' := [(2, .int (0 : Int32)), (0, .ref (g.1 0)), (1, .int (bI v11))]) C dX3_text_111 rfl rfl (by decide) rfl ?_
      refine g_sub [1, 0] rfl (w_tw_text_L112 C E hX (fun s32 hf => ?_) _ _ _ hf)
      refine g_iconst C dX3_text_184 kc_0 ?_
      refine g_istore_n (i := 2) (lv' := [(2, .int (0 : Int32)), (0, .ref (g.1 0))]) C dX3_text_185 rfl rfl (by decide) rfl ?_
      refine g_sub [1, 0] rfl (w_tw_text_L186 C E hX _ _ _ hf)
    · replace hf := if_f c27 hf
      refine g_iconst C dX3_text_96 kc_m1 ?_
      exact g_iret C E rfl (re_i hf) (re_s hf) ⟨Nat.zero_le _, Nat.zero_le _⟩ dX3_text_97
  clear hj25
  refine g_ifZ_eq 85 C dX3_text_78 rfl (fun c50 => ?_) (fun c50 => ?_)
  · replace hf := if_t c50 hf
    refine g_iconst C dX3_text_81 kc_m1 ?_
    refine g_goto 89 C dX3_text_82 rfl ?_
    exact g_sub [0, 1] rfl (Hj25 _ hf)
  · replace hf := if_f c50 hf
    refine g_aload_n C dX3_text_85 0 rfl ?_
    refine g_getI C oT0 fX3_154 dX3_text_86 ?_
    exact g_sub [0, 1] rfl (Hj25 _ hf)
