/-! THE COMPONENT's methods that make cells or throw (printed by gen/wgen.py) -/
set_option maxRecDepth 100000
set_option maxHeartbeats 4000000
abbrev hhText : List (Nat × Nat × Nat × Nat) := [((10 : Nat), (26 : Nat), (33 : Nat), (233 : Nat)), ((10 : Nat), (26 : Nat), (59 : Nat), (0 : Nat)), ((33 : Nat), (52 : Nat), (59 : Nat), (0 : Nat))]
def yw_text (n : Nat) (kc ks : Nat) (s : Sto) (R : Int32 → Sto → Prop) : Prop :=
  vl (sI s 0 10 (0 : Int32)) fun s1 =>
  vl (sI s1 0 11 (-1 : Int32)) fun s2 =>
  spx kc ks fun kd3 kt4 kc5 ks6 =>
  yw_readsRule n kd3 kt4 s2 (fun q11 s12 =>
    gdw (isP s12 q11 9) <|
    pgIw s12 q11 9 6 fun v16 =>
    vl (sI s12 0 10 v16) fun s18 =>
    pgIw s18 q11 9 7 fun v19 =>
    vl (sI s18 0 11 v19) fun s21 =>
    vl (sI s21 0 1 (0 : Int32)) fun s22 =>
    R (-1 : Int32) s22) fun r9 s10 =>
  vl (sR s10 0 12 r9) fun s25 =>
  nnw (s25.2.2.1 0 12) fun q26 =>
  pgIw s25 q26 4 2 fun v28 =>
  vl (sI s25 0 1 (0 : Int32)) fun s30 =>
  R v28 s30
theorem w_yw_text {l : Launch} {n : Nat} {kc ks : Nat} {s : Sto} {R : Int32 → Sto → Prop} (hf : yw_text n kc ks s R) : CwH xCfg l yX0_text cX0_text 4 (some .int) hhText { frames := 431, cells := kc, slots := ks, locals := 12445 } (fun g => [.ref (g.1 0)]) s R (fun r => some (.int r)) := by
  refine CwH_of pn_X0 (fun g => Nat.le_of_ble_eq_true rfl) (fun g A X C E hX hcz hsz htab => ?_)
  rw [yw_text] at hf
  show TG xCfg g A 4 X 0 0 s 0 [(0, .ref (g.1 0))] []
  refine g_aload_n C dX0_text_0 0 rfl ?_
  refine g_iconst C dX0_text_1 kc_0 ?_
  refine vlw_n hf (fun s1 hs1 hf => ?_)
  refine g_putI C oX0 pX0_306 rfl rfl hs1 dX0_text_2 ?_
  refine g_aload_n C dX0_text_5 0 rfl ?_
  refine g_iconst C dX0_text_6 kc_m1 ?_
  refine vlw_n hf (fun s2 hs2 hf => ?_)
  refine g_putI C oX0 pX0_55 rfl rfl hs2 dX0_text_7 ?_
  refine g_aload_n C dX0_text_10 0 rfl ?_
  refine g_aload_n C dX0_text_11 0 rfl ?_
  refine spx_n hf (fun kd3 kt4 kc5 ks6 e7 e8 hf => ?_)
  refine g_ycallV (As := []) (rest := [.ref (g.1 0)]) C (w_yw_readsRule hf) hX oX0 rfl rfl q389 q391 qs1 q88 q392 mdX0_readsRule rfl ⟨Nat.le_of_ble_eq_true rfl, Nat.le_of_ble_eq_true rfl⟩ (Nat.le_of_ble_eq_true rfl) dX0_text_12 ⟨sp_a hcz e7, sp_a hsz e8⟩ (fun q11 s12 hf => ?_) (fun r9 s10 hf => ?_)
  · refine gdw_n hf (fun hx13 hf => ?_)
    have hc14 := sp_b hcz e7
    have hs15 := sp_b hsz e8
    refine g_catch C htab rfl (by decide) q388 hx13 ?_
    show TG xCfg g A 4 X (0 + kd3) (0 + kt4) s12 33 [(0, .ref (g.1 0))] [.ref q11]
    refine g_astore_n (i := 1) (lv' := [(1, .ref q11), (0, .ref (g.1 0))]) C dX0_text_33 rfl rfl (by decide) rfl ?_
    refine g_aload_n C dX0_text_34 1 rfl ?_
    refine g_aload_n C dX0_text_35 0 rfl ?_
    refine pgIw_n hf (fun v16 hv17 hf => ?_)
    refine g_pget C fX0_313 hv17 dX0_text_36 ?_
    refine vlw_n hf (fun s18 hs18 hf => ?_)
    refine g_putI C oX0 pX0_306 rfl rfl hs18 dX0_text_39 ?_
    refine g_aload_n C dX0_text_42 1 rfl ?_
    refine g_aload_n C dX0_text_43 0 rfl ?_
    refine pgIw_n hf (fun v19 hv20 hf => ?_)
    refine g_pget C fX0_316 hv20 dX0_text_44 ?_
    refine vlw_n hf (fun s21 hs21 hf => ?_)
    refine g_putI C oX0 pX0_55 rfl rfl hs21 dX0_text_47 ?_
    refine g_iconst C dX0_text_50 kc_m1 ?_
    refine g_istore_n (i := 2) (lv' := [(2, .int (-1 : Int32)), (1, .ref q11), (0, .ref (g.1 0))]) C dX0_text_51 rfl rfl (by decide) rfl ?_
    refine g_aload_n C dX0_text_52 2 rfl ?_
    refine g_iconst C dX0_text_53 kc_0 ?_
    refine vlw_n hf (fun s22 hs22 hf => ?_)
    refine g_putI C oX0 pX0_153 rfl rfl hs22 dX0_text_54 ?_
    refine g_iload_n C dX0_text_57 0 rfl ?_
    exact g_wreti (r := (-1 : Int32)) C E rfl rfl hf (le_b hc14) (le_b hs15) dX0_text_58
  have hc23 := sp_b hcz e7
  have hs24 := sp_b hsz e8
  show TG xCfg g A 4 X (0 + kd3) (0 + kt4) s10 15 [(0, .ref (g.1 0))] [va_rf r9, .ref (g.1 0)]
  refine vlw_n hf (fun s25 hs25 hf => ?_)
  refine g_putQ (v := r9) C oX0 pX0_62 hs25 dX0_text_15 ?_
  refine g_aload_n C dX0_text_18 0 rfl ?_
  refine g_getQ C oX0 fX0_62 dX0_text_19 ?_
  refine nnw_n hf (fun q26 hq27 hf => ?_)
  refine pgIw_n hf (fun v28 hv29 hf => ?_)
  refine g_pgetQ C fX0_298 hq27 hv29 dX0_text_22 ?_
  refine g_istore_n (i := 1) (lv' := [(1, .int v28), (0, .ref (g.1 0))]) C dX0_text_25 rfl rfl (by decide) rfl ?_
  refine g_aload_n C dX0_text_26 1 rfl ?_
  refine g_iconst C dX0_text_27 kc_0 ?_
  refine vlw_n hf (fun s30 hs30 hf => ?_)
  refine g_putI C oX0 pX0_153 rfl rfl hs30 dX0_text_28 ?_
  refine g_iload_n C dX0_text_31 0 rfl ?_
  exact g_wreti (r := v28) C E rfl rfl hf (le_b hc23) (le_b hs24) dX0_text_32
