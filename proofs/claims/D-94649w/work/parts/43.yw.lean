/-! THE COMPONENT's methods that make cells or throw (printed by gen/wgen.py) -/
set_option maxRecDepth 100000
set_option maxHeartbeats 4000000
def yj_Tinit (n : Nat) (kc ks : Nat) (s : Sto) (th : Nat) (a1 : Option Nat) (a2 : Option Nat) (a3 : Bool) (a4 : Bool) (R : Unit → Sto → Prop) : Prop :=
  ppow s th 9 0 fun fs1 =>
  vl (pS s th (.inr (9, fs1.set 0 (.ref th)))) fun s4 =>
  anyw fun (r5 : Option Nat) =>
  ppow s4 th 9 1 fun fs6 =>
  vl (pS s4 th (.inr (9, fs6.set 1 (va_rf r5)))) fun s9 =>
  anyw fun (r10 : Option Nat) =>
  ppow s9 th 9 2 fun fs11 =>
  vl (pS s9 th (.inr (9, fs11.set 2 (va_rf r10)))) fun s14 =>
  vl (fun (kc16 : Nat) (ks17 : Nat) (s15 : Sto) =>
    ppow s15 th 9 3 fun fs23 =>
    vl (pS s15 th (.inr (9, fs23.set 3 (va_rf a1)))) fun s26 =>
    ppow s26 th 9 0 fun fs27 =>
    vl (pS s26 th (.inr (9, fs27.set 0 (va_rf a2)))) fun s30 =>
    if a3 = true then
      R () s30
    else
      ppow s30 th 9 2 fun fs32 =>
      vl (pS s30 th (.inr (9, fs32.set 2 (va_rf none)))) fun s35 =>
      R () s35) fun j22 =>
  if a4 = true then
    False
  else
    ppow s14 th 9 1 fun fs37 =>
    vl (pS s14 th (.inr (9, fs37.set 1 (va_rf none)))) fun s40 =>
    j22 kc ks s40
theorem w_yj_Tinit {l : Launch} {n : Nat} {kc ks : Nat} {s : Sto} {th : Nat} {a1 : Option Nat} {a2 : Option Nat} {a3 : Bool} {a4 : Bool} {R : Unit → Sto → Prop} (hf : yj_Tinit n kc ks s th a1 a2 a3 a4 R) : Cw xCfg l yJ7_init_2 cJ7_init_2 5 none { frames := 2, cells := kc, slots := ks, locals := 20 } (fun g => [.ref th, va_rf a1, va_rf a2, .int (bI a3), .int (bI a4)]) s R (fun _ => none) := by
  refine Cw_of pn_J7 (fun g => by cases a1 <;> cases a2 <;> exact Nat.le_of_ble_eq_true rfl) (fun g A X C E hX hcz hsz hin => ?_)
  rw [yj_Tinit] at hf
  have hlv : lv_args 0 [.ref th, va_rf a1, va_rf a2, .int (bI a3), .int (bI a4)] = [(0, .ref th), (1, va_rf a1), (2, va_rf a2), (3, .int (bI a3)), (4, .int (bI a4))] := by simp only [lv_args, va_rf_cat]; rfl
  show TG xCfg g A 5 X 0 0 s 0 (lv_args 0 [.ref th, va_rf a1, va_rf a2, .int (bI a3), .int (bI a4)]) []
  rw [hlv]
  refine g_aload_n C dJ7_init_2_0 0 rfl ?_
  refine g_objInit C q561 (Nat.le_of_ble_eq_true rfl) (Nat.le_of_ble_eq_true rfl) (Nat.le_of_ble_eq_true rfl) dJ7_init_2_1 ?_
  refine g_aload_n C dJ7_init_2_4 0 rfl ?_
  refine g_aload_n C dJ7_init_2_5 0 rfl ?_
  refine ppow_n hf (fun fs1 hp2 hl3 hf => ?_)
  refine vlw_n hf (fun s4 hs4 hf => ?_)
  refine g_pput C pJ7_7 hp2 hl3 rfl rfl hs4 dJ7_init_2_6 ?_
  refine g_aload_n C dJ7_init_2_9 0 rfl ?_
  refine g_getZq (i := 1) C rfl q562 dJ7_init_2_10 (fun r5 => ?_)
  replace hf := hf r5
  refine ppow_n hf (fun fs6 hp7 hl8 hf => ?_)
  refine vlw_n hf (fun s9 hs9 hf => ?_)
  refine g_pput C pJ7_17 hp7 hl8 rfl (rf_fitA _) hs9 dJ7_init_2_13 ?_
  refine g_aload_n C dJ7_init_2_16 0 rfl ?_
  refine g_getZq (i := 2) C rfl q564 dJ7_init_2_17 (fun r10 => ?_)
  replace hf := hf r10
  refine ppow_n hf (fun fs11 hp12 hl13 hf => ?_)
  refine vlw_n hf (fun s14 hs14 hf => ?_)
  refine g_pput C pJ7_24 hp12 hl13 rfl (rf_fit _) hs14 dJ7_init_2_20 ?_
  refine g_iload C dJ7_init_2_23 4 rfl ?_
  refine vlw_n hf (fun j22 hj22 hf => ?_)
  have Hj22 : ∀ (kc16 : Nat) (ks17 : Nat) (s15 : Sto), j22 kc16 ks17 s15 → ∀ cz18 sz19 : Nat, cz18 + kc16 ≤ X.2.2.2.1.cells → sz19 + ks17 ≤ X.2.2.2.1.slots → TG xCfg g A 5 X cz18 sz19 s15 41 [(0, .ref th), (1, va_rf a1), (2, va_rf a2), (3, .int (bI a3))] [] := by
    clear hf; subst hj22
    intro kc16 ks17 s15 hf cz18 sz19 hc20 hs21
    refine g_aload_n C dJ7_init_2_41 0 rfl ?_
    refine g_loadQ_n C dJ7_init_2_42 1 rfl ?_
    refine ppow_n hf (fun fs23 hp24 hl25 hf => ?_)
    refine vlw_n hf (fun s26 hs26 hf => ?_)
    refine g_pput C pJ7_31 hp24 hl25 rfl (rf_fit _) hs26 dJ7_init_2_43 ?_
    refine g_aload_n C dJ7_init_2_46 0 rfl ?_
    refine g_loadQ_n C dJ7_init_2_47 2 rfl ?_
    refine ppow_n hf (fun fs27 hp28 hl29 hf => ?_)
    refine vlw_n hf (fun s30 hs30 hf => ?_)
    refine g_pput C pJ7_7 hp28 hl29 rfl (rf_fit _) hs30 dJ7_init_2_48 ?_
    refine g_iload_n C dJ7_init_2_51 3 rfl ?_
    refine g_ifZ_ne 60 C dJ7_init_2_52 rfl (fun c31 => ?_) (fun c31 => ?_)
    · replace hf := ifw_t c31 hf
      exact g_wretv (r := ()) C E rfl hf (le_b hc20) (le_b hs21) dJ7_init_2_60
    · replace hf := ifw_f c31 hf
      refine g_aload_n C dJ7_init_2_55 0 rfl ?_
      refine g_null C dJ7_init_2_56 ?_
      refine ppow_n hf (fun fs32 hp33 hl34 hf => ?_)
      refine vlw_n hf (fun s35 hs35 hf => ?_)
      refine g_pput C pJ7_24 hp33 hl34 rfl (rf_fit _) hs35 dJ7_init_2_57 ?_
      exact g_wretv (r := ()) C E rfl hf (le_b hc20) (le_b hs21) dJ7_init_2_60
  clear hj22
  refine g_ifZ_eq 36 C dJ7_init_2_25 rfl (fun c36 => ?_) (fun c36 => ?_)
  · replace hf := ifw_t c36 hf
    refine g_aload_n C dJ7_init_2_28 0 rfl ?_
    exact hf.elim
  · replace hf := ifw_f c36 hf
    refine g_aload_n C dJ7_init_2_36 0 rfl ?_
    refine g_null C dJ7_init_2_37 ?_
    refine ppow_n hf (fun fs37 hp38 hl39 hf => ?_)
    refine vlw_n hf (fun s40 hs40 hf => ?_)
    refine g_pput C pJ7_17 hp38 hl39 rfl (rf_fitA _) hs40 dJ7_init_2_38 ?_
    exact g_sub [0, 1, 2, 3] rfl (Hj22 _ _ _ hf _ _ hcz hsz)
def yj_Einit (n : Nat) (kc ks : Nat) (s : Sto) (th : Nat) (a1 : Option Nat) (a2 : Option Nat) (a3 : Bool) (a4 : Bool) (R : Unit → Sto → Prop) : Prop :=
  spx kc ks fun kd1 kt2 kc3 ks4 =>
  yj_Tinit n kd1 kt2 s th a1 a2 a3 a4 fun r7 s8 =>
  R () s8
theorem w_yj_Einit {l : Launch} {n : Nat} {kc ks : Nat} {s : Sto} {th : Nat} {a1 : Option Nat} {a2 : Option Nat} {a3 : Bool} {a4 : Bool} {R : Unit → Sto → Prop} (hf : yj_Einit n kc ks s th a1 a2 a3 a4 R) : Cw xCfg l yJ8_init cJ8_init 5 none { frames := 3, cells := kc, slots := ks, locals := 44 } (fun g => [.ref th, va_rf a1, va_rf a2, .int (bI a3), .int (bI a4)]) s R (fun _ => none) := by
  refine Cw_of pn_J8 (fun g => by cases a1 <;> cases a2 <;> exact Nat.le_of_ble_eq_true rfl) (fun g A X C E hX hcz hsz hin => ?_)
  rw [yj_Einit] at hf
  have hlv : lv_args 0 [.ref th, va_rf a1, va_rf a2, .int (bI a3), .int (bI a4)] = [(0, .ref th), (1, va_rf a1), (2, va_rf a2), (3, .int (bI a3)), (4, .int (bI a4))] := by simp only [lv_args, va_rf_cat]; rfl
  show TG xCfg g A 5 X 0 0 s 0 (lv_args 0 [.ref th, va_rf a1, va_rf a2, .int (bI a3), .int (bI a4)]) []
  rw [hlv]
  refine g_aload_n C dJ8_init_0 0 rfl ?_
  refine g_loadQ_n C dJ8_init_1 1 rfl ?_
  refine g_loadQ_n C dJ8_init_2 2 rfl ?_
  refine g_iload_n C dJ8_init_3 3 rfl ?_
  refine g_iload C dJ8_init_4 4 rfl ?_
  refine spx_n hf (fun kd1 kt2 kc3 ks4 e5 e6 hf => ?_)
  refine g_wcallI (As := [va_rf a1, va_rf a2, .int (bI a3), .int (bI a4)]) (rest := []) C (w_yj_Tinit hf) hX rfl q581 q582 q103 q583 rfl msJ7_init_2 rfl ⟨Nat.le_of_ble_eq_true rfl, Nat.le_of_ble_eq_true rfl⟩ (Nat.le_of_ble_eq_true rfl) dJ8_init_6 ⟨sp_a hcz e5, sp_a hsz e6⟩ (fun r7 s8 hf => ?_)
  have hc12 := sp_b hcz e5
  have hs13 := sp_b hsz e6
  show TG xCfg g A 5 X (0 + kd1) (0 + kt2) s8 9 [(0, .ref th), (1, va_rf a1), (2, va_rf a2), (3, .int (bI a3)), (4, .int (bI a4))] []
  exact g_wretv (r := ()) C E rfl hf (le_b hc12) (le_b hs13) dJ8_init_9
def xf_init (n : Nat) (kc ks : Nat) (s : Sto) (th : Nat) (a1 : Int32) (a2 : Int32) (R : Unit → Sto → Prop) : Prop :=
  spx kc ks fun kd1 kt2 kc3 ks4 =>
  yj_Einit n kd1 kt2 s th none none false false fun r7 s8 =>
  ppow s8 th 9 6 fun fs14 =>
  vl (pS s8 th (.inr (9, fs14.set 6 (.int a1)))) fun s17 =>
  ppow s17 th 9 7 fun fs18 =>
  vl (pS s17 th (.inr (9, fs18.set 7 (.int a2)))) fun s21 =>
  R () s21
theorem w_xf_init {l : Launch} {n : Nat} {kc ks : Nat} {s : Sto} {th : Nat} {a1 : Int32} {a2 : Int32} {R : Unit → Sto → Prop} (hf : xf_init n kc ks s th a1 a2 R) : Cw xCfg l yX5_init cX5_init 3 none { frames := 4, cells := kc, slots := ks, locals := 68 } (fun g => [.ref th, .int a1, .int a2]) s R (fun _ => none) := by
  refine Cw_of pn_X5 (fun g => Nat.le_of_ble_eq_true rfl) (fun g A X C E hX hcz hsz hin => ?_)
  rw [xf_init] at hf
  show TG xCfg g A 3 X 0 0 s 0 [(0, .ref th), (1, .int a1), (2, .int a2)] []
  refine g_aload_n C dX5_init_0 0 rfl ?_
  refine g_null C dX5_init_1 ?_
  refine g_null C dX5_init_2 ?_
  refine g_iconst C dX5_init_3 kc_0 ?_
  refine g_iconst C dX5_init_4 kc_0 ?_
  refine spx_n hf (fun kd1 kt2 kc3 ks4 e5 e6 hf => ?_)
  refine g_wcallI (As := [va_rf none, va_rf none, .int (bI false), .int (bI false)]) (rest := []) C (w_yj_Einit hf) hX rfl q578 q579 q104 q580 rfl msJ8_init rfl ⟨Nat.le_of_ble_eq_true rfl, Nat.le_of_ble_eq_true rfl⟩ (Nat.le_of_ble_eq_true rfl) dX5_init_5 ⟨sp_a hcz e5, sp_a hsz e6⟩ (fun r7 s8 hf => ?_)
  have hc12 := sp_b hcz e5
  have hs13 := sp_b hsz e6
  show TG xCfg g A 3 X (0 + kd1) (0 + kt2) s8 8 [(0, .ref th), (1, .int a1), (2, .int a2)] []
  refine g_aload_n C dX5_init_8 0 rfl ?_
  refine g_iload_n C dX5_init_9 1 rfl ?_
  refine ppow_n hf (fun fs14 hp15 hl16 hf => ?_)
  refine vlw_n hf (fun s17 hs17 hf => ?_)
  refine g_pputF C (hin rfl) pFX5_7 hp15 hl16 rfl rfl hs17 dX5_init_10 ?_
  refine g_aload_n C dX5_init_13 0 rfl ?_
  refine g_iload_n C dX5_init_14 2 rfl ?_
  refine ppow_n hf (fun fs18 hp19 hl20 hf => ?_)
  refine vlw_n hf (fun s21 hs21 hf => ?_)
  refine g_pputF C (hin rfl) pFX5_13 hp19 hl20 rfl rfl hs21 dX5_init_15 ?_
  exact g_wretv (r := ()) C E rfl hf (le_b hc12) (le_b hs13) dX5_init_18
def xm_init (n : Nat) (kc ks : Nat) (s : Sto) (th : Nat) (R : Unit → Sto → Prop) : Prop :=
  R () s
theorem w_xm_init {l : Launch} {n : Nat} {kc ks : Nat} {s : Sto} {th : Nat} {R : Unit → Sto → Prop} (hf : xm_init n kc ks s th R) : Cw xCfg l yX6_init cX6_init 1 none { frames := 2, cells := kc, slots := ks, locals := 20 } (fun g => [.ref th]) s R (fun _ => none) := by
  refine Cw_of pn_X6 (fun g => Nat.le_of_ble_eq_true rfl) (fun g A X C E hX hcz hsz hin => ?_)
  rw [xm_init] at hf
  show TG xCfg g A 1 X 0 0 s 0 [(0, .ref th)] []
  refine g_aload_n C dX6_init_0 0 rfl ?_
  refine g_objInit C q625 (Nat.le_of_ble_eq_true rfl) (Nat.le_of_ble_eq_true rfl) (Nat.le_of_ble_eq_true rfl) dX6_init_1 ?_
  exact g_wretv (r := ()) C E rfl hf (le_b hcz) (le_b hsz) dX6_init_4
def xn_init (n : Nat) (kc ks : Nat) (s : Sto) (th : Nat) (a1 : Int32) (R : Unit → Sto → Prop) : Prop :=
  spx kc ks fun kd1 kt2 kc3 ks4 =>
  xm_init n kd1 kt2 s th fun r7 s8 =>
  ppow s8 th 5 0 fun fs14 =>
  vl (pS s8 th (.inr (5, fs14.set 0 (.int a1)))) fun s17 =>
  R () s17
theorem w_xn_init {l : Launch} {n : Nat} {kc ks : Nat} {s : Sto} {th : Nat} {a1 : Int32} {R : Unit → Sto → Prop} (hf : xn_init n kc ks s th a1 R) : Cw xCfg l yX7_init cX7_init 2 none { frames := 3, cells := kc, slots := ks, locals := 40 } (fun g => [.ref th, .int a1]) s R (fun _ => none) := by
  refine Cw_of pn_X7 (fun g => Nat.le_of_ble_eq_true rfl) (fun g A X C E hX hcz hsz hin => ?_)
  rw [xn_init] at hf
  show TG xCfg g A 2 X 0 0 s 0 [(0, .ref th), (1, .int a1)] []
  refine g_aload_n C dX7_init_0 0 rfl ?_
  refine spx_n hf (fun kd1 kt2 kc3 ks4 e5 e6 hf => ?_)
  refine g_wcallIN (As := []) (rest := []) C (w_xm_init hf) hX rfl (List.mem_of_getElem? (i := 4) rfl) q623 q106 q624 rfl msX6_init rfl ⟨Nat.le_of_ble_eq_true rfl, Nat.le_of_ble_eq_true rfl⟩ (Nat.le_of_ble_eq_true rfl) dX7_init_1 ⟨sp_a hcz e5, sp_a hsz e6⟩ (fun r7 s8 hf => ?_)
  have hc12 := sp_b hcz e5
  have hs13 := sp_b hsz e6
  show TG xCfg g A 2 X (0 + kd1) (0 + kt2) s8 4 [(0, .ref th), (1, .int a1)] []
  refine g_aload_n C dX7_init_4 0 rfl ?_
  refine g_iload_n C dX7_init_5 1 rfl ?_
  refine ppow_n hf (fun fs14 hp15 hl16 hf => ?_)
  refine vlw_n hf (fun s17 hs17 hf => ?_)
  refine g_pputF C (hin rfl) pFX7_7 hp15 hl16 rfl rfl hs17 dX7_init_6 ?_
  exact g_wretv (r := ()) C E rfl hf (le_b hc12) (le_b hs13) dX7_init_9
def xo_init (n : Nat) (kc ks : Nat) (s : Sto) (th : Nat) (a1 : Int32) (R : Unit → Sto → Prop) : Prop :=
  spx kc ks fun kd1 kt2 kc3 ks4 =>
  xm_init n kd1 kt2 s th fun r7 s8 =>
  ppow s8 th 6 0 fun fs14 =>
  vl (pS s8 th (.inr (6, fs14.set 0 (.int a1)))) fun s17 =>
  R () s17
theorem w_xo_init {l : Launch} {n : Nat} {kc ks : Nat} {s : Sto} {th : Nat} {a1 : Int32} {R : Unit → Sto → Prop} (hf : xo_init n kc ks s th a1 R) : Cw xCfg l yX8_init cX8_init 2 none { frames := 3, cells := kc, slots := ks, locals := 40 } (fun g => [.ref th, .int a1]) s R (fun _ => none) := by
  refine Cw_of pn_X8 (fun g => Nat.le_of_ble_eq_true rfl) (fun g A X C E hX hcz hsz hin => ?_)
  rw [xo_init] at hf
  show TG xCfg g A 2 X 0 0 s 0 [(0, .ref th), (1, .int a1)] []
  refine g_aload_n C dX8_init_0 0 rfl ?_
  refine spx_n hf (fun kd1 kt2 kc3 ks4 e5 e6 hf => ?_)
  refine g_wcallIN (As := []) (rest := []) C (w_xm_init hf) hX rfl (List.mem_of_getElem? (i := 5) rfl) q623 q106 q624 rfl msX6_init rfl ⟨Nat.le_of_ble_eq_true rfl, Nat.le_of_ble_eq_true rfl⟩ (Nat.le_of_ble_eq_true rfl) dX8_init_1 ⟨sp_a hcz e5, sp_a hsz e6⟩ (fun r7 s8 hf => ?_)
  have hc12 := sp_b hcz e5
  have hs13 := sp_b hsz e6
  show TG xCfg g A 2 X (0 + kd1) (0 + kt2) s8 4 [(0, .ref th), (1, .int a1)] []
  refine g_aload_n C dX8_init_4 0 rfl ?_
  refine g_iload_n C dX8_init_5 1 rfl ?_
  refine ppow_n hf (fun fs14 hp15 hl16 hf => ?_)
  refine vlw_n hf (fun s17 hs17 hf => ?_)
  refine g_pputF C (hin rfl) pFX8_7 hp15 hl16 rfl rfl hs17 dX8_init_6 ?_
  exact g_wretv (r := ()) C E rfl hf (le_b hc12) (le_b hs13) dX8_init_9
def xk_init (n : Nat) (kc ks : Nat) (s : Sto) (th : Nat) (a1 : Option Nat) (R : Unit → Sto → Prop) : Prop :=
  spx kc ks fun kd1 kt2 kc3 ks4 =>
  xm_init n kd1 kt2 s th fun r7 s8 =>
  ppow s8 th 7 0 fun fs14 =>
  vl (pS s8 th (.inr (7, fs14.set 0 (va_rf a1)))) fun s17 =>
  R () s17
theorem w_xk_init {l : Launch} {n : Nat} {kc ks : Nat} {s : Sto} {th : Nat} {a1 : Option Nat} {R : Unit → Sto → Prop} (hf : xk_init n kc ks s th a1 R) : Cw xCfg l yX10_init cX10_init 2 none { frames := 3, cells := kc, slots := ks, locals := 40 } (fun g => [.ref th, va_rf a1]) s R (fun _ => none) := by
  refine Cw_of pn_X10 (fun g => by cases a1 <;> exact Nat.le_of_ble_eq_true rfl) (fun g A X C E hX hcz hsz hin => ?_)
  rw [xk_init] at hf
  show TG xCfg g A 2 X 0 0 s 0 [(0, .ref th), (1, va_rf a1)] []
  refine g_aload_n C dX10_init_0 0 rfl ?_
  refine spx_n hf (fun kd1 kt2 kc3 ks4 e5 e6 hf => ?_)
  refine g_wcallIN (As := []) (rest := []) C (w_xm_init hf) hX rfl (List.mem_of_getElem? (i := 2) rfl) q623 q106 q624 rfl msX6_init rfl ⟨Nat.le_of_ble_eq_true rfl, Nat.le_of_ble_eq_true rfl⟩ (Nat.le_of_ble_eq_true rfl) dX10_init_1 ⟨sp_a hcz e5, sp_a hsz e6⟩ (fun r7 s8 hf => ?_)
  have hc12 := sp_b hcz e5
  have hs13 := sp_b hsz e6
  show TG xCfg g A 2 X (0 + kd1) (0 + kt2) s8 4 [(0, .ref th), (1, va_rf a1)] []
  refine g_aload_n C dX10_init_4 0 rfl ?_
  refine g_loadQ_n C dX10_init_5 1 rfl ?_
  refine ppow_n hf (fun fs14 hp15 hl16 hf => ?_)
  refine vlw_n hf (fun s17 hs17 hf => ?_)
  refine g_pputF C (hin rfl) pFX10_7 hp15 hl16 rfl (rf_fit _) hs17 dX10_init_6 ?_
  exact g_wretv (r := ()) C E rfl hf (le_b hc12) (le_b hs13) dX10_init_9
def xz_init (n : Nat) (kc ks : Nat) (s : Sto) (th : Nat) (a1 : Int32) (a2 : Option Nat) (a3 : Option Nat) (R : Unit → Sto → Prop) : Prop :=
  spx kc ks fun kd1 kt2 kc3 ks4 =>
  xm_init n kd1 kt2 s th fun r7 s8 =>
  gdw (decide (i2c a1 = a1)) <|
  ppow s8 th 8 0 fun fs14 =>
  vl (pS s8 th (.inr (8, fs14.set 0 (.int a1)))) fun s17 =>
  ppow s17 th 8 1 fun fs19 =>
  vl (pS s17 th (.inr (8, fs19.set 1 (va_rf a2)))) fun s22 =>
  ppow s22 th 8 2 fun fs23 =>
  vl (pS s22 th (.inr (8, fs23.set 2 (va_rf a3)))) fun s26 =>
  R () s26
theorem w_xz_init {l : Launch} {n : Nat} {kc ks : Nat} {s : Sto} {th : Nat} {a1 : Int32} {a2 : Option Nat} {a3 : Option Nat} {R : Unit → Sto → Prop} (hf : xz_init n kc ks s th a1 a2 a3 R) : Cw xCfg l yX9_init cX9_init 4 none { frames := 3, cells := kc, slots := ks, locals := 40 } (fun g => [.ref th, .int a1, va_rf a2, va_rf a3]) s R (fun _ => none) := by
  refine Cw_of pn_X9 (fun g => by cases a2 <;> cases a3 <;> exact Nat.le_of_ble_eq_true rfl) (fun g A X C E hX hcz hsz hin => ?_)
  rw [xz_init] at hf
  have hlv : lv_args 0 [.ref th, .int a1, va_rf a2, va_rf a3] = [(0, .ref th), (1, .int a1), (2, va_rf a2), (3, va_rf a3)] := by simp only [lv_args, va_rf_cat]; rfl
  show TG xCfg g A 4 X 0 0 s 0 (lv_args 0 [.ref th, .int a1, va_rf a2, va_rf a3]) []
  rw [hlv]
  refine g_aload_n C dX9_init_0 0 rfl ?_
  refine spx_n hf (fun kd1 kt2 kc3 ks4 e5 e6 hf => ?_)
  refine g_wcallIN (As := []) (rest := []) C (w_xm_init hf) hX rfl (List.mem_of_getElem? (i := 6) rfl) q623 q106 q624 rfl msX6_init rfl ⟨Nat.le_of_ble_eq_true rfl, Nat.le_of_ble_eq_true rfl⟩ (Nat.le_of_ble_eq_true rfl) dX9_init_1 ⟨sp_a hcz e5, sp_a hsz e6⟩ (fun r7 s8 hf => ?_)
  have hc12 := sp_b hcz e5
  have hs13 := sp_b hsz e6
  show TG xCfg g A 4 X (0 + kd1) (0 + kt2) s8 4 [(0, .ref th), (1, .int a1), (2, va_rf a2), (3, va_rf a3)] []
  refine g_aload_n C dX9_init_4 0 rfl ?_
  refine g_iload_n C dX9_init_5 1 rfl ?_
  refine gdw_n hf (fun c18 hf => ?_)
  refine ppow_n hf (fun fs14 hp15 hl16 hf => ?_)
  refine vlw_n hf (fun s17 hs17 hf => ?_)
  refine g_pputF C (hin rfl) pFX9_7 hp15 hl16 (i2c_nar c18) (i2c_fit c18) hs17 dX9_init_6 ?_
  refine g_aload_n C dX9_init_9 0 rfl ?_
  refine g_loadQ_n C dX9_init_10 2 rfl ?_
  refine ppow_n hf (fun fs19 hp20 hl21 hf => ?_)
  refine vlw_n hf (fun s22 hs22 hf => ?_)
  refine g_pputF C (hin rfl) pFX9_13 hp20 hl21 rfl (rf_fit _) hs22 dX9_init_11 ?_
  refine g_aload_n C dX9_init_14 0 rfl ?_
  refine g_loadQ_n C dX9_init_15 3 rfl ?_
  refine ppow_n hf (fun fs23 hp24 hl25 hf => ?_)
  refine vlw_n hf (fun s26 hs26 hf => ?_)
  refine g_pputF C (hin rfl) pFX9_17 hp24 hl25 rfl (rf_fit _) hs26 dX9_init_16 ?_
  exact g_wretv (r := ()) C E rfl hf (le_b hc12) (le_b hs13) dX9_init_19
def xt_init (n : Nat) (kc ks : Nat) (s : Sto) (th : Nat) (R : Unit → Sto → Prop) : Prop :=
  spw kc ks 1 16 fun kc1 ks2 =>
  alw s fun q5 =>
  vl (pA s q5 (.inl (8, 16, .inr (.inr (.inr (.inr (fun _ => none))))))) fun s7 =>
  ppow s7 th 4 0 fun fs10 =>
  vl (pS s7 th (.inr (4, fs10.set 0 (.ref q5)))) fun s13 =>
  spw kc1 ks2 1 16 fun kc14 ks15 =>
  alw s13 fun q18 =>
  vl (pA s13 q18 (.inl (8, 16, .inr (.inr (.inr (.inr (fun _ => none))))))) fun s20 =>
  ppow s20 th 4 1 fun fs23 =>
  vl (pS s20 th (.inr (4, fs23.set 1 (.ref q18)))) fun s26 =>
  R () s26
theorem w_xt_init {l : Launch} {n : Nat} {kc ks : Nat} {s : Sto} {th : Nat} {R : Unit → Sto → Prop} (hf : xt_init n kc ks s th R) : Cw xCfg l yX1_init cX1_init 1 none { frames := 2, cells := kc, slots := ks, locals := 20 } (fun g => [.ref th]) s R (fun _ => none) := by
  refine Cw_of pn_X1 (fun g => Nat.le_of_ble_eq_true rfl) (fun g A X C E hX hcz hsz hin => ?_)
  rw [xt_init] at hf
  show TG xCfg g A 1 X 0 0 s 0 [(0, .ref th)] []
  refine g_aload_n C dX1_init_0 0 rfl ?_
  refine g_objInit C q143 (Nat.le_of_ble_eq_true rfl) (Nat.le_of_ble_eq_true rfl) (Nat.le_of_ble_eq_true rfl) dX1_init_1 ?_
  refine g_aload_n C dX1_init_4 0 rfl ?_
  refine g_bipush C dX1_init_5 kb_16 ?_
  refine spw_n hf (fun kc1 ks2 e3 e4 hf => ?_)
  refine g_newQ (t := 8) (N' := 16) (Cn := "DoughDebts$Term") C rfl (by decide) q144 (by decide) (by decide) (by decide) (sp_a hcz e3) (sp_a hsz e4) dX1_init_7 (fun q5 hq6 => ?_)
  replace hf := hf q5 hq6
  refine vlw_n hf (fun s7 hs7 hf => ?_)
  rw [← hs7]
  have hc8 := sp_b hcz e3
  have hs9 := sp_b hsz e4
  refine ppow_n hf (fun fs10 hp11 hl12 hf => ?_)
  refine vlw_n hf (fun s13 hs13 hf => ?_)
  refine g_pputF C (hin rfl) pFX1_11 hp11 hl12 rfl rfl hs13 dX1_init_10 ?_
  refine g_aload_n C dX1_init_13 0 rfl ?_
  refine g_bipush C dX1_init_14 kb_16 ?_
  refine spw_n hf (fun kc14 ks15 e16 e17 hf => ?_)
  refine g_newQ (t := 8) (N' := 16) (Cn := "DoughDebts$Term") C rfl (by decide) q144 (by decide) (by decide) (by decide) (sp_a hc8 e16) (sp_a hs9 e17) dX1_init_16 (fun q18 hq19 => ?_)
  replace hf := hf q18 hq19
  refine vlw_n hf (fun s20 hs20 hf => ?_)
  rw [← hs20]
  have hc21 := sp_b hc8 e16
  have hs22 := sp_b hs9 e17
  refine ppow_n hf (fun fs23 hp24 hl25 hf => ?_)
  refine vlw_n hf (fun s26 hs26 hf => ?_)
  refine g_pputF C (hin rfl) pFX1_17 hp24 hl25 rfl rfl hs26 dX1_init_19 ?_
  exact g_wretv (r := ()) C E rfl hf (le_b hc21) (le_b hs22) dX1_init_22
def xh_init (n : Nat) (kc ks : Nat) (s : Sto) (th : Nat) (a1 : Int32) (a2 : Int32) (a3 : Int32) (a4 : Option Nat) (R : Unit → Sto → Prop) : Prop :=
  ppow s th 2 0 fun fs1 =>
  vl (pS s th (.inr (2, fs1.set 0 (.int a1)))) fun s4 =>
  ppow s4 th 2 1 fun fs5 =>
  vl (pS s4 th (.inr (2, fs5.set 1 (.int a2)))) fun s8 =>
  ppow s8 th 2 2 fun fs9 =>
  vl (pS s8 th (.inr (2, fs9.set 2 (.int a3)))) fun s12 =>
  ppow s12 th 2 3 fun fs13 =>
  vl (pS s12 th (.inr (2, fs13.set 3 (va_rf a4)))) fun s16 =>
  R () s16
theorem w_xh_init {l : Launch} {n : Nat} {kc ks : Nat} {s : Sto} {th : Nat} {a1 : Int32} {a2 : Int32} {a3 : Int32} {a4 : Option Nat} {R : Unit → Sto → Prop} (hf : xh_init n kc ks s th a1 a2 a3 a4 R) : Cw xCfg l yX4_init cX4_init 5 none { frames := 2, cells := kc, slots := ks, locals := 20 } (fun g => [.ref th, .int a1, .int a2, .int a3, va_rf a4]) s R (fun _ => none) := by
  refine Cw_of pn_X4 (fun g => by cases a4 <;> exact Nat.le_of_ble_eq_true rfl) (fun g A X C E hX hcz hsz hin => ?_)
  rw [xh_init] at hf
  show TG xCfg g A 5 X 0 0 s 0 [(0, .ref th), (1, .int a1), (2, .int a2), (3, .int a3), (4, va_rf a4)] []
  refine g_aload_n C dX4_init_0 0 rfl ?_
  refine g_objInit C q740 (Nat.le_of_ble_eq_true rfl) (Nat.le_of_ble_eq_true rfl) (Nat.le_of_ble_eq_true rfl) dX4_init_1 ?_
  refine g_aload_n C dX4_init_4 0 rfl ?_
  refine g_iload_n C dX4_init_5 1 rfl ?_
  refine ppow_n hf (fun fs1 hp2 hl3 hf => ?_)
  refine vlw_n hf (fun s4 hs4 hf => ?_)
  refine g_pputF C (hin rfl) pFX4_7 hp2 hl3 rfl rfl hs4 dX4_init_6 ?_
  refine g_aload_n C dX4_init_9 0 rfl ?_
  refine g_iload_n C dX4_init_10 2 rfl ?_
  refine ppow_n hf (fun fs5 hp6 hl7 hf => ?_)
  refine vlw_n hf (fun s8 hs8 hf => ?_)
  refine g_pputF C (hin rfl) pFX4_13 hp6 hl7 rfl rfl hs8 dX4_init_11 ?_
  refine g_aload_n C dX4_init_14 0 rfl ?_
  refine g_iload_n C dX4_init_15 3 rfl ?_
  refine ppow_n hf (fun fs9 hp10 hl11 hf => ?_)
  refine vlw_n hf (fun s12 hs12 hf => ?_)
  refine g_pputF C (hin rfl) pFX4_16 hp10 hl11 rfl rfl hs12 dX4_init_16 ?_
  refine g_aload_n C dX4_init_19 0 rfl ?_
  refine g_loadQ C dX4_init_20 4 rfl ?_
  refine ppow_n hf (fun fs13 hp14 hl15 hf => ?_)
  refine vlw_n hf (fun s16 hs16 hf => ?_)
  refine g_pputF C (hin rfl) pFX4_19 hp14 hl15 rfl (rf_fitA _) hs16 dX4_init_22 ?_
  exact g_wretv (r := ()) C E rfl hf (le_b hcz) (le_b hsz) dX4_init_25
def xl_init (n : Nat) (kc ks : Nat) (s : Sto) (th : Nat) (a1 : Int32) (a2 : Int32) (a3 : Int32) (a4 : Int32) (R : Unit → Sto → Prop) : Prop :=
  ppow s th 3 0 fun fs1 =>
  vl (pS s th (.inr (3, fs1.set 0 (.int a1)))) fun s4 =>
  ppow s4 th 3 1 fun fs5 =>
  vl (pS s4 th (.inr (3, fs5.set 1 (.int a2)))) fun s8 =>
  ppow s8 th 3 2 fun fs9 =>
  vl (pS s8 th (.inr (3, fs9.set 2 (.int a3)))) fun s12 =>
  ppow s12 th 3 3 fun fs13 =>
  vl (pS s12 th (.inr (3, fs13.set 3 (.int a4)))) fun s16 =>
  R () s16
theorem w_xl_init {l : Launch} {n : Nat} {kc ks : Nat} {s : Sto} {th : Nat} {a1 : Int32} {a2 : Int32} {a3 : Int32} {a4 : Int32} {R : Unit → Sto → Prop} (hf : xl_init n kc ks s th a1 a2 a3 a4 R) : Cw xCfg l yX11_init cX11_init 5 none { frames := 2, cells := kc, slots := ks, locals := 20 } (fun g => [.ref th, .int a1, .int a2, .int a3, .int a4]) s R (fun _ => none) := by
  refine Cw_of pn_X11 (fun g => Nat.le_of_ble_eq_true rfl) (fun g A X C E hX hcz hsz hin => ?_)
  rw [xl_init] at hf
  show TG xCfg g A 5 X 0 0 s 0 [(0, .ref th), (1, .int a1), (2, .int a2), (3, .int a3), (4, .int a4)] []
  refine g_aload_n C dX11_init_0 0 rfl ?_
  refine g_objInit C q921 (Nat.le_of_ble_eq_true rfl) (Nat.le_of_ble_eq_true rfl) (Nat.le_of_ble_eq_true rfl) dX11_init_1 ?_
  refine g_aload_n C dX11_init_4 0 rfl ?_
  refine g_iload_n C dX11_init_5 1 rfl ?_
  refine ppow_n hf (fun fs1 hp2 hl3 hf => ?_)
  refine vlw_n hf (fun s4 hs4 hf => ?_)
  refine g_pputF C (hin rfl) pFX11_7 hp2 hl3 rfl rfl hs4 dX11_init_6 ?_
  refine g_aload_n C dX11_init_9 0 rfl ?_
  refine g_iload_n C dX11_init_10 2 rfl ?_
  refine ppow_n hf (fun fs5 hp6 hl7 hf => ?_)
  refine vlw_n hf (fun s8 hs8 hf => ?_)
  refine g_pputF C (hin rfl) pFX11_13 hp6 hl7 rfl rfl hs8 dX11_init_11 ?_
  refine g_aload_n C dX11_init_14 0 rfl ?_
  refine g_iload_n C dX11_init_15 3 rfl ?_
  refine ppow_n hf (fun fs9 hp10 hl11 hf => ?_)
  refine vlw_n hf (fun s12 hs12 hf => ?_)
  refine g_pputF C (hin rfl) pFX11_16 hp10 hl11 rfl rfl hs12 dX11_init_16 ?_
  refine g_aload_n C dX11_init_19 0 rfl ?_
  refine g_iload C dX11_init_20 4 rfl ?_
  refine ppow_n hf (fun fs13 hp14 hl15 hf => ?_)
  refine vlw_n hf (fun s16 hs16 hf => ?_)
  refine g_pputF C (hin rfl) pFX11_19 hp14 hl15 rfl rfl hs16 dX11_init_22 ?_
  exact g_wretv (r := ()) C E rfl hf (le_b hcz) (le_b hsz) dX11_init_25
def yj_copyOf (n : Nat) (kc ks : Nat) (s : Sto) (a2 : Int32) (R : Nat → Sto → Prop) : Prop :=
  if a2 = (400 : Int32) then
    False
  else
    gdw (inb a2 1000) <|
    spw kc ks 1 (a2).toNatClampNeg fun kc3 ks4 =>
    alw s fun q7 =>
    vl (pA s q7 (.inl (1, (a2).toNatClampNeg, .inl (fun _ => 0)))) fun s9 =>
    palw (paI s9 q7 1) fun n13 f14 =>
    gdw (cpOk (0 : Int32) (0 : Int32) (mmin (400 : Int32) a2) 400 n13) <|
    gdw (fitB s9 1 (0 : Int32) (mmin (400 : Int32) a2)) <|
    vl (pS s9 q7 (.inl (1, n13, .inl (va_cpy (s9.1 1) f14 ((0 : Int32)).toNatClampNeg ((0 : Int32)).toNatClampNeg ((mmin (400 : Int32) a2)).toNatClampNeg)))) fun s12 =>
    R q7 s12
theorem w_yj_copyOf {l : Launch} {n : Nat} {kc ks : Nat} {s : Sto} {a2 : Int32} {R : Nat → Sto → Prop} (hf : yj_copyOf n kc ks s a2 R) : Cw xCfg l yJ0_copyOf cJ0_copyOf 3 (some (.array .byte)) { frames := 2, cells := kc, slots := ks, locals := 40 } (fun g => [.ref (g.1 1), .int a2]) s R (fun r => some (.ref r)) := by
  refine Cw_of pn_J0 (fun g => Nat.le_of_ble_eq_true rfl) (fun g A X C E hX hcz hsz hin => ?_)
  rw [yj_copyOf] at hf
  show TG xCfg g A 3 X 0 0 s 0 [(0, .ref (g.1 1)), (1, .int a2)] []
  refine g_iload_n C dJ0_copyOf_0 1 rfl ?_
  refine g_aload_n C dJ0_copyOf_1 0 rfl ?_
  refine g_alen1 C rX1 rfl rfl dJ0_copyOf_2 ?_
  refine g_icmp_ne 14 C dJ0_copyOf_3 rfl (fun c1 => ?_) (fun c1 => ?_)
  · replace hf := ifw_t c1 hf
    refine g_aload_n C dJ0_copyOf_6 0 rfl ?_
    exact hf.elim
  · replace hf := ifw_f c1 hf
    refine g_iload_n C dJ0_copyOf_14 1 rfl ?_
    refine gdw_n hf (fun c2 hf => ?_)
    refine spw_n hf (fun kc3 ks4 e5 e6 hf => ?_)
    refine g_newB C rfl c2 (sp_a hcz e5) (sp_a hsz e6) dJ0_copyOf_15 (fun q7 hq8 => ?_)
    replace hf := hf q7 hq8
    refine vlw_n hf (fun s9 hs9 hf => ?_)
    rw [← hs9]
    have hc10 := sp_b hcz e5
    have hs11 := sp_b hsz e6
    refine g_astore_n (i := 2) (lv' := [(2, .ref q7), (0, .ref (g.1 1)), (1, .int a2)]) C dJ0_copyOf_17 rfl rfl (by decide) rfl ?_
    refine g_aload_n C dJ0_copyOf_18 1 rfl ?_
    refine g_iconst C dJ0_copyOf_19 kc_0 ?_
    refine g_aload_n C dJ0_copyOf_20 0 rfl ?_
    refine g_iconst C dJ0_copyOf_21 kc_0 ?_
    refine g_aload_n C dJ0_copyOf_22 1 rfl ?_
    refine g_alen1 C rX1 rfl rfl dJ0_copyOf_23 ?_
    refine g_iload_n C dJ0_copyOf_24 2 rfl ?_
    refine g_mmin C q734 (Nat.le_of_ble_eq_true rfl) (Nat.le_of_ble_eq_true rfl) (Nat.le_of_ble_eq_true rfl) ⟨le_b hc10, le_b hs11⟩ dJ0_copyOf_25 ?_
    refine palw_n hf (fun n13 f14 hp15 hf => ?_)
    refine gdw_n hf (fun c16 hf => ?_)
    refine gdw_n hf (fun c17 hf => ?_)
    refine vlw_n hf (fun s12 hs12 hf => ?_)
    refine g_copyBP C aX1 hp15 rfl c16 c17 q735 (Nat.le_of_ble_eq_true rfl) (Nat.le_of_ble_eq_true rfl) (Nat.le_of_ble_eq_true rfl) hs12 dJ0_copyOf_28 ?_
    refine g_aload_n C dJ0_copyOf_31 0 rfl ?_
    exact g_wreta (r := q7) (v := some q7) C E (Or.inr ⟨_, rfl⟩) rfl hf (le_b hc10) (le_b hs11) dJ0_copyOf_32
def yw_takesRow_L26 (n : Nat) (R : Option Nat → Sto → Prop) (v14 : Int32) (v15 : Int32) (v16 : Int32) (k25 : Nat → Nat → Sto → Prop) : Nat → Nat → Nat → Sto → Int32 → Prop
  | 0, _, _, _, _ => False
  | k + 1, kc8, ks9, s7, v17 =>
    if v16 ≤ v17 then
      k25 kc8 ks9 s7
    else
      gdw (inb v17 400) <|
      bdw (xw_isIn n s7 (rd s7 1 v17) v14 v15) fun r28 s29 =>
      if r28 = true then
        yw_takesRow_L26 n R v14 v15 v16 k25 k kc8 ks9 s29 (v17 + (1 : Int32))
      else
        R none s29
def yw_takesRow_L71 (n : Nat) (R : Option Nat → Sto → Prop) (v52 : Int32) (v53 : Int32) (v54 : Nat) : Nat → Nat → Nat → Sto → Int32 → Prop
  | 0, _, _, _, _ => False
  | k + 1, kc46, ks47, s45, v55 =>
    if v53 ≤ v55 then
      R (some v54) s45
    else
      palw (paI s45 v54 1) fun n57 f58 =>
      gdw (inb v55 n57) <|
      vl (pS s45 v54 (.inl (1, n57, .inl (upd f58 (v55).toNatClampNeg (i2b (i2b ((f58 (v55).toNatClampNeg) - v52))))))) fun s61 =>
      yw_takesRow_L71 n R v52 v53 v54 k kc46 ks47 s61 (v55 + (1 : Int32))
def yw_takesRow (n : Nat) (kc ks : Nat) (s : Sto) (a1 : Int32) (a2 : Int32) (a3 : Int32) (a4 : Int32) (R : Option Nat → Sto → Prop) : Prop :=
  vl (s.1 0 1) fun v1 =>
  vl (sI s 0 1 (0 : Int32)) fun s2 =>
  bdw (xw_isIn n s2 v1 a1 a2) fun r3 s4 =>
  if r3 = true then
    yw_takesRow_L26 n R a3 a4 v1
        (fun (kc19 : Nat) (ks20 : Nat) (s18 : Sto) =>
          spx kc19 ks20 fun kd32 kt33 kc34 ks35 =>
          yj_copyOf n kd32 kt33 s18 v1 fun r38 s39 =>
          yw_takesRow_L71 n R a3 v1 r38
              n kc34 ks35 s39 (0 : Int32))
        n kc ks s4 (0 : Int32)
  else
    R none s4
theorem w_yw_takesRow_L26 {l : Launch} {n : Nat} {R : Option Nat → Sto → Prop} {v14 : Int32} {v15 : Int32} {v16 : Int32} {k25 : Nat → Nat → Sto → Prop} {g : Gam} {A : Nat → Prop} {X : FX} {si : Sto} (C : CX xCfg g A 8 X cX0_takesRow RX0 (some (.array .byte)) 3 62) (E : EW xCfg g A X si R (fun r => some (va_rf r))) (hX : X.2.1 = l) (Hk25 : ∀ (kc19 : Nat) (ks20 : Nat) (s18 : Sto), k25 kc19 ks20 s18 → ∀ cz21 sz22 : Nat, cz21 + kc19 ≤ X.2.2.2.1.cells → sz22 + ks20 ≤ X.2.2.2.1.slots → TG xCfg g A 8 X cz21 sz22 s18 57 [(0, .ref (g.1 0)), (3, .int v14), (5, .int v16)] []) : ∀ (k kc8 ks9 : Nat) (s7 : Sto) (v17 : Int32), yw_takesRow_L26 n R v14 v15 v16 k25 k kc8 ks9 s7 v17 → ∀ cz10 sz11 : Nat, cz10 + kc8 ≤ X.2.2.2.1.cells → sz11 + ks9 ≤ X.2.2.2.1.slots → TG xCfg g A 8 X cz10 sz11 s7 26 [(0, .ref (g.1 0)), (3, .int v14), (4, .int v15), (5, .int v16), (6, .int v17)] [] := by
  intro k
  induction k with
  | zero => intro kc8 ks9 s7 v17 hf; rw [yw_takesRow_L26] at hf; exact hf.elim
  | succ k ih =>
    intro kc8 ks9 s7 v17 hf cz10 sz11 hc12 hs13
    rw [yw_takesRow_L26] at hf
    refine g_iload C dX0_takesRow_26 4 rfl ?_
    refine g_iload C dX0_takesRow_28 3 rfl ?_
    refine g_icmp_ge 57 C dX0_takesRow_30 rfl (fun c26 => ?_) (fun c26 => ?_)
    · replace hf := ifw_t c26 hf
      exact g_sub [0, 1, 3] rfl (Hk25 _ _ _ hf _ _ hc12 hs13)
    · replace hf := ifw_f c26 hf
      refine g_aload_n C dX0_takesRow_33 0 rfl ?_
      refine g_getS 1 C oX0 fX0_9 rfl dX0_takesRow_34 ?_
      refine g_iload C dX0_takesRow_37 4 rfl ?_
      refine gdw_n hf (fun c27 hf => ?_)
      refine g_bald C aX1 rfl c27 dX0_takesRow_39 ?_
      refine g_iload_n C dX0_takesRow_40 1 rfl ?_
      refine g_iload C dX0_takesRow_41 2 rfl ?_
      refine bdw_n hf (fun r28 s29 h30 hf => ?_)
      refine g_callS1 (As := [.int (rd s7 1 v17), .int v14, .int v15]) (rest := []) (stk := [.int (bI r28)]) C (w_xw_isIn h30) hX rfl q381 q382 q88 q383 msX0_isIn rfl ⟨Nat.le_of_ble_eq_true rfl, Nat.le_of_ble_eq_true rfl⟩ (Nat.le_of_ble_eq_true rfl) dX0_takesRow_43 rfl (le_b hc12) (le_b hs13) ?_
      refine g_ifZ_ne 51 C dX0_takesRow_46 rfl (fun c31 => ?_) (fun c31 => ?_)
      · replace hf := ifw_t c31 hf
        refine g_iinc (q := 4) (lv' := [(6, .int (v17 + (1 : Int32))), (0, .ref (g.1 0)), (3, .int v14), (4, .int v15), (5, .int v16)]) C dX0_takesRow_51 rfl kc_1 (by decide) rfl ?_
        refine g_goto 26 C dX0_takesRow_54 rfl ?_
        exact g_sub [1, 2, 3, 4, 0] rfl (ih _ _ _ _ hf _ _ hc12 hs13)
      · replace hf := ifw_f c31 hf
        refine g_null C dX0_takesRow_49 ?_
        exact g_wreta (r := none) (v := none) C E (Or.inr ⟨_, rfl⟩) rfl hf (le_b hc12) (le_b hs13) dX0_takesRow_50
theorem w_yw_takesRow_L71 {l : Launch} {n : Nat} {R : Option Nat → Sto → Prop} {v52 : Int32} {v53 : Int32} {v54 : Nat} {g : Gam} {A : Nat → Prop} {X : FX} {si : Sto} (C : CX xCfg g A 8 X cX0_takesRow RX0 (some (.array .byte)) 3 62) (E : EW xCfg g A X si R (fun r => some (va_rf r))) (hX : X.2.1 = l) : ∀ (k kc46 ks47 : Nat) (s45 : Sto) (v55 : Int32), yw_takesRow_L71 n R v52 v53 v54 k kc46 ks47 s45 v55 → ∀ cz48 sz49 : Nat, cz48 + kc46 ≤ X.2.2.2.1.cells → sz49 + ks47 ≤ X.2.2.2.1.slots → TG xCfg g A 8 X cz48 sz49 s45 71 [(3, .int v52), (5, .int v53), (6, .ref v54), (7, .int v55)] [] := by
  intro k
  induction k with
  | zero => intro kc46 ks47 s45 v55 hf; rw [yw_takesRow_L71] at hf; exact hf.elim
  | succ k ih =>
    intro kc46 ks47 s45 v55 hf cz48 sz49 hc50 hs51
    rw [yw_takesRow_L71] at hf
    refine g_iload C dX0_takesRow_71 3 rfl ?_
    refine g_iload C dX0_takesRow_73 1 rfl ?_
    refine g_icmp_ge 94 C dX0_takesRow_75 rfl (fun c56 => ?_) (fun c56 => ?_)
    · replace hf := ifw_t c56 hf
      refine g_aload C dX0_takesRow_94 2 rfl ?_
      exact g_wreta (r := (some v54)) (v := (some v54)) C E (Or.inr ⟨_, rfl⟩) rfl hf (le_b hc50) (le_b hs51) dX0_takesRow_96
    · replace hf := ifw_f c56 hf
      refine g_aload C dX0_takesRow_78 2 rfl ?_
      refine g_iload C dX0_takesRow_80 3 rfl ?_
      refine g_dup2 C dX0_takesRow_82 rfl rfl ?_
      refine palw_n hf (fun n57 f58 hp59 hf => ?_)
      refine gdw_n hf (fun c60 hf => ?_)
      refine g_pbald C hp59 rfl c60 dX0_takesRow_83 ?_
      refine g_iload_n C dX0_takesRow_84 0 rfl ?_
      refine g_isub C dX0_takesRow_85 ?_
      refine g_i2b C dX0_takesRow_86 ?_
      refine vlw_n hf (fun s61 hs61 hf => ?_)
      refine g_pbast C hp59 rfl c60 hs61 dX0_takesRow_87 ?_
      refine g_iinc (q := 3) (lv' := [(7, .int (v55 + (1 : Int32))), (3, .int v52), (5, .int v53), (6, .ref v54)]) C dX0_takesRow_88 rfl kc_1 (by decide) rfl ?_
      refine g_goto 71 C dX0_takesRow_91 rfl ?_
      exact g_sub [1, 2, 3, 0] rfl (ih _ _ _ _ hf _ _ hc50 hs51)
theorem w_yw_takesRow {l : Launch} {n : Nat} {kc ks : Nat} {s : Sto} {a1 : Int32} {a2 : Int32} {a3 : Int32} {a4 : Int32} {R : Option Nat → Sto → Prop} (hf : yw_takesRow n kc ks s a1 a2 a3 a4 R) : Cw xCfg l yX0_takesRow cX0_takesRow 8 (some (.array .byte)) { frames := 3, cells := kc, slots := ks, locals := 62 } (fun g => [.ref (g.1 0), .int a1, .int a2, .int a3, .int a4]) s R (fun r => some (va_rf r)) := by
  refine Cw_of pn_X0 (fun g => Nat.le_of_ble_eq_true rfl) (fun g A X C E hX hcz hsz hin => ?_)
  rw [yw_takesRow] at hf
  show TG xCfg g A 8 X 0 0 s 0 [(0, .ref (g.1 0)), (1, .int a1), (2, .int a2), (3, .int a3), (4, .int a4)] []
  refine g_aload_n C dX0_takesRow_0 0 rfl ?_
  refine g_getI C oX0 fX0_153 dX0_takesRow_1 ?_
  refine vlw_n hf (fun v1 hv1 hf => ?_)
  refine g_istore (i := 5) (lv' := [(5, .int v1), (0, .ref (g.1 0)), (1, .int a1), (2, .int a2), (3, .int a3), (4, .int a4)]) C dX0_takesRow_4 hv1 (by decide) rfl ?_
  refine g_aload_n C dX0_takesRow_6 1 rfl ?_
  refine g_iconst C dX0_takesRow_7 kc_0 ?_
  refine vlw_n hf (fun s2 hs2 hf => ?_)
  refine g_putI C oX0 pX0_153 rfl rfl hs2 dX0_takesRow_8 ?_
  refine g_iload C dX0_takesRow_11 0 rfl ?_
  refine g_iload_n C dX0_takesRow_13 2 rfl ?_
  refine g_iload_n C dX0_takesRow_14 3 rfl ?_
  refine bdw_n hf (fun r3 s4 h5 hf => ?_)
  refine g_callS1 (As := [.int v1, .int a1, .int a2]) (rest := []) (stk := [.int (bI r3)]) C (w_xw_isIn h5) hX rfl q381 q382 q88 q383 msX0_isIn rfl ⟨Nat.le_of_ble_eq_true rfl, Nat.le_of_ble_eq_true rfl⟩ (Nat.le_of_ble_eq_true rfl) dX0_takesRow_15 rfl (le_b hcz) (le_b hsz) ?_
  refine g_ifZ_ne 23 C dX0_takesRow_18 rfl (fun c6 => ?_) (fun c6 => ?_)
  · replace hf := ifw_t c6 hf
    refine g_iconst C dX0_takesRow_23 kc_0 ?_
    refine g_istore (i := 6) (lv' := [(6, .int (0 : Int32)), (5, .int v1), (0, .ref (g.1 0)), (1, .int a1), (2, .int a2), (3, .int a3), (4, .int a4)]) C dX0_takesRow_24 rfl (by decide) rfl ?_
    refine g_sub [2, 5, 6, 1, 0] rfl (w_yw_takesRow_L26 C E hX (fun kc19 ks20 s18 hf cz21 sz22 hc23 hs24 => ?_) _ _ _ _ _ hf _ _ hcz hsz)
    refine g_aload_n C dX0_takesRow_57 0 rfl ?_
    refine g_getS 1 C oX0 fX0_9 rfl dX0_takesRow_58 ?_
    refine g_iload C dX0_takesRow_61 2 rfl ?_
    refine spx_n hf (fun kd32 kt33 kc34 ks35 e36 e37 hf => ?_)
    refine g_wcallS (As := [.ref (g.1 1), .int v1]) (rest := []) C (w_yj_copyOf hf) hX rfl q724 q725 q92 q726 msJ0_copyOf rfl ⟨Nat.le_of_ble_eq_true rfl, Nat.le_of_ble_eq_true rfl⟩ (Nat.le_of_ble_eq_true rfl) dX0_takesRow_63 ⟨sp_a hc23 e36, sp_a hs24 e37⟩ (fun r38 s39 hf => ?_)
    have hc43 := sp_b hc23 e36
    have hs44 := sp_b hs24 e37
    show TG xCfg g A 8 X (cz21 + kd32) (sz22 + kt33) s39 66 [(0, .ref (g.1 0)), (3, .int a3), (5, .int v1)] [.ref r38]
    refine g_astore (i := 6) (lv' := [(6, .ref r38), (0, .ref (g.1 0)), (3, .int a3), (5, .int v1)]) C dX0_takesRow_66 rfl (by decide) rfl ?_
    refine g_iconst C dX0_takesRow_68 kc_0 ?_
    refine g_istore (i := 7) (lv' := [(7, .int (0 : Int32)), (6, .ref r38), (0, .ref (g.1 0)), (3, .int a3), (5, .int v1)]) C dX0_takesRow_69 rfl (by decide) rfl ?_
    refine g_sub [3, 4, 1, 0] rfl (w_yw_takesRow_L71 C E hX _ _ _ _ _ hf _ _ hc43 hs44)
  · replace hf := ifw_f c6 hf
    refine g_null C dX0_takesRow_21 ?_
    exact g_wreta (r := none) (v := none) C E (Or.inr ⟨_, rfl⟩) rfl hf (le_b hcz) (le_b hsz) dX0_takesRow_22
def yw_takesSeen (n : Nat) (kc ks : Nat) (s : Sto) (R : Option Nat → Sto → Prop) : Prop :=
  spx kc ks fun kd1 kt2 kc3 ks4 =>
  yw_takesRow n kd1 kt2 s (1 : Int32) (5 : Int32) (97 : Int32) (104 : Int32) fun r7 s8 =>
  R r7 s8
theorem w_yw_takesSeen {l : Launch} {n : Nat} {kc ks : Nat} {s : Sto} {R : Option Nat → Sto → Prop} (hf : yw_takesSeen n kc ks s R) : Cw xCfg l yX0_takesSeen cX0_takesSeen 1 (some (.array .byte)) { frames := 4, cells := kc, slots := ks, locals := 89 } (fun g => [.ref (g.1 0)]) s R (fun r => some (va_rf r)) := by
  refine Cw_of pn_X0 (fun g => Nat.le_of_ble_eq_true rfl) (fun g A X C E hX hcz hsz hin => ?_)
  rw [yw_takesSeen] at hf
  show TG xCfg g A 1 X 0 0 s 0 [(0, .ref (g.1 0))] []
  refine g_aload_n C dX0_takesSeen_0 0 rfl ?_
  refine g_iconst C dX0_takesSeen_1 kc_1 ?_
  refine g_iconst C dX0_takesSeen_2 kc_5 ?_
  refine g_bipush C dX0_takesSeen_3 kb_97 ?_
  refine g_bipush C dX0_takesSeen_5 kb_104 ?_
  refine spx_n hf (fun kd1 kt2 kc3 ks4 e5 e6 hf => ?_)
  refine g_wcallV (As := [.int (1 : Int32), .int (5 : Int32), .int (97 : Int32), .int (104 : Int32)]) (rest := []) C (w_yw_takesRow hf) hX oX0 rfl rfl q720 q722 qs18 q88 q723 mdX0_takesRow rfl ⟨Nat.le_of_ble_eq_true rfl, Nat.le_of_ble_eq_true rfl⟩ (Nat.le_of_ble_eq_true rfl) dX0_takesSeen_7 ⟨sp_a hcz e5, sp_a hsz e6⟩ (fun r7 s8 hf => ?_)
  have hc12 := sp_b hcz e5
  have hs13 := sp_b hsz e6
  show TG xCfg g A 1 X (0 + kd1) (0 + kt2) s8 10 [(0, .ref (g.1 0))] [va_rf r7]
  exact g_wreta (r := r7) (v := r7) C E (Or.inr ⟨_, rfl⟩) rfl hf (le_b hc12) (le_b hs13) dX0_takesSeen_10
def yw_house (n : Nat) (kc ks : Nat) (s : Sto) (a1 : Int32) (a2 : Int32) (a3 : Int32) (R : Int32 → Sto → Prop) : Prop :=
  spx kc ks fun kd1 kt2 kc3 ks4 =>
  yw_takesRow n kd1 kt2 s (1 : Int32) (5 : Int32) (97 : Int32) (104 : Int32) fun r7 s8 =>
  if r7 = none then
    R (-1 : Int32) s8
  else
    bdw (xw_isIn n s8 a1 (0 : Int32) (999 : Int32)) fun r15 s16 =>
    if r15 = true then
      bdw (xw_isIn n s16 a2 (1 : Int32) (999 : Int32)) fun r19 s20 =>
      if r19 = true then
        bdw (xw_isIn n s20 a3 (1 : Int32) (99 : Int32)) fun r23 s24 =>
        if r23 = true then
          if (s24.1 0 14) = (9 : Int32) then
            R (-1 : Int32) s24
          else
            spw kc3 ks4 1 4 fun kc28 ks29 =>
            alw s24 fun q32 =>
            vl (pA s24 q32 (.inr (2, [.int 0, .int 0, .int 0, .null]))) fun s34 =>
            spx kc28 ks29 fun kd37 kt38 kc39 ks40 =>
            xh_init n kd37 kt38 s34 q32 a1 a2 a3 r7 fun r43 s44 =>
            gdw (inb (s24.1 0 14) 9) <|
            gdw (isP s44 q32 2) <|
            vl (wrR s44 5 (s24.1 0 14) (some q32)) fun s52 =>
            vl (sI s52 0 14 ((s52.1 0 14) + (1 : Int32))) fun s55 =>
            bdw (xw_forgets n s55) fun r56 s57 =>
            R ((s57.1 0 14) - (1 : Int32)) s57
        else
          R (-1 : Int32) s24
      else
        R (-1 : Int32) s20
    else
      R (-1 : Int32) s16
theorem w_yw_house {l : Launch} {n : Nat} {kc ks : Nat} {s : Sto} {a1 : Int32} {a2 : Int32} {a3 : Int32} {R : Int32 → Sto → Prop} (hf : yw_house n kc ks s a1 a2 a3 R) : Cw xCfg l yX0_house cX0_house 5 (some .int) { frames := 4, cells := kc, slots := ks, locals := 89 } (fun g => [.ref (g.1 0), .int a1, .int a2, .int a3]) s R (fun r => some (.int r)) := by
  refine Cw_of pn_X0 (fun g => Nat.le_of_ble_eq_true rfl) (fun g A X C E hX hcz hsz hin => ?_)
  rw [yw_house] at hf
  show TG xCfg g A 5 X 0 0 s 0 [(0, .ref (g.1 0)), (1, .int a1), (2, .int a2), (3, .int a3)] []
  refine g_aload_n C dX0_house_0 0 rfl ?_
  refine g_iconst C dX0_house_1 kc_1 ?_
  refine g_iconst C dX0_house_2 kc_5 ?_
  refine g_bipush C dX0_house_3 kb_97 ?_
  refine g_bipush C dX0_house_5 kb_104 ?_
  refine spx_n hf (fun kd1 kt2 kc3 ks4 e5 e6 hf => ?_)
  refine g_wcallV (As := [.int (1 : Int32), .int (5 : Int32), .int (97 : Int32), .int (104 : Int32)]) (rest := []) C (w_yw_takesRow hf) hX oX0 rfl rfl q720 q722 qs18 q88 q723 mdX0_takesRow rfl ⟨Nat.le_of_ble_eq_true rfl, Nat.le_of_ble_eq_true rfl⟩ (Nat.le_of_ble_eq_true rfl) dX0_house_7 ⟨sp_a hcz e5, sp_a hsz e6⟩ (fun r7 s8 hf => ?_)
  have hc12 := sp_b hcz e5
  have hs13 := sp_b hsz e6
  show TG xCfg g A 5 X (0 + kd1) (0 + kt2) s8 10 [(0, .ref (g.1 0)), (1, .int a1), (2, .int a2), (3, .int a3)] [va_rf r7]
  refine g_storeQ (i := 4) (lv' := [(4, va_rf r7), (0, .ref (g.1 0)), (1, .int a1), (2, .int a2), (3, .int a3)]) C dX0_house_10 (by decide) rfl ?_
  refine g_loadQ C dX0_house_12 0 rfl ?_
  refine g_ifnull (r := r7) 58 C dX0_house_14 rfl (fun c14 => ?_) (fun c14 => ?_)
  · replace hf := ifw_t c14 hf
    refine g_iconst C dX0_house_58 kc_m1 ?_
    exact g_wreti (r := (-1 : Int32)) C E rfl rfl hf (le_b hc12) (le_b hs13) dX0_house_59
  · replace hf := ifw_f c14 hf
    refine g_iload_n C dX0_house_17 2 rfl ?_
    refine g_iconst C dX0_house_18 kc_0 ?_
    refine g_sipush C dX0_house_19 ks_999 ?_
    refine bdw_n hf (fun r15 s16 h17 hf => ?_)
    refine g_callS1 (As := [.int a1, .int (0 : Int32), .int (999 : Int32)]) (rest := []) (stk := [.int (bI r15)]) C (w_xw_isIn h17) hX rfl q381 q382 q88 q383 msX0_isIn rfl ⟨Nat.le_of_ble_eq_true rfl, Nat.le_of_ble_eq_true rfl⟩ (Nat.le_of_ble_eq_true rfl) dX0_house_22 rfl (le_b hc12) (le_b hs13) ?_
    refine g_ifZ_eq 58 C dX0_house_25 rfl (fun c18 => ?_) (fun c18 => ?_)
    · replace hf := ifw_t c18 hf
      refine g_iload_n C dX0_house_28 3 rfl ?_
      refine g_iconst C dX0_house_29 kc_1 ?_
      refine g_sipush C dX0_house_30 ks_999 ?_
      refine bdw_n hf (fun r19 s20 h21 hf => ?_)
      refine g_callS1 (As := [.int a2, .int (1 : Int32), .int (999 : Int32)]) (rest := []) (stk := [.int (bI r19)]) C (w_xw_isIn h21) hX rfl q381 q382 q88 q383 msX0_isIn rfl ⟨Nat.le_of_ble_eq_true rfl, Nat.le_of_ble_eq_true rfl⟩ (Nat.le_of_ble_eq_true rfl) dX0_house_33 rfl (le_b hc12) (le_b hs13) ?_
      refine g_ifZ_eq 58 C dX0_house_36 rfl (fun c22 => ?_) (fun c22 => ?_)
      · replace hf := ifw_t c22 hf
        refine g_iload_n C dX0_house_39 4 rfl ?_
        refine g_iconst C dX0_house_40 kc_1 ?_
        refine g_bipush C dX0_house_41 kb_99 ?_
        refine bdw_n hf (fun r23 s24 h25 hf => ?_)
        refine g_callS1 (As := [.int a3, .int (1 : Int32), .int (99 : Int32)]) (rest := []) (stk := [.int (bI r23)]) C (w_xw_isIn h25) hX rfl q381 q382 q88 q383 msX0_isIn rfl ⟨Nat.le_of_ble_eq_true rfl, Nat.le_of_ble_eq_true rfl⟩ (Nat.le_of_ble_eq_true rfl) dX0_house_43 rfl (le_b hc12) (le_b hs13) ?_
        refine g_ifZ_eq 58 C dX0_house_46 rfl (fun c26 => ?_) (fun c26 => ?_)
        · replace hf := ifw_t c26 hf
          refine g_aload_n C dX0_house_49 1 rfl ?_
          refine g_getI C oX0 fX0_325 dX0_house_50 ?_
          refine g_bipush C dX0_house_53 kb_9 ?_
          refine g_icmp_ne 60 C dX0_house_55 rfl (fun c27 => ?_) (fun c27 => ?_)
          · replace hf := ifw_t c27 hf
            refine g_iconst C dX0_house_58 kc_m1 ?_
            exact g_wreti (r := (-1 : Int32)) C E rfl rfl hf (le_b hc12) (le_b hs13) dX0_house_59
          · replace hf := ifw_f c27 hf
            refine g_aload_n C dX0_house_60 1 rfl ?_
            refine g_getS 5 C oX0 fX0_68 rfl dX0_house_61 ?_
            refine g_aload_n C dX0_house_64 1 rfl ?_
            refine g_getI C oX0 fX0_325 dX0_house_65 ?_
            refine spw_n hf (fun kc28 ks29 e30 e31 hf => ?_)
            refine g_new C nX0_66 (sp_a hc12 e30) (sp_a hs13 e31) dX0_house_68 (fun q32 hq33 => ?_)
            replace hf := hf q32 hq33
            refine vlw_n hf (fun s34 hs34 hf => ?_)
            rw [← hs34]
            have hc35 := sp_b hc12 e30
            have hs36 := sp_b hs13 e31
            refine g_dup C dX0_house_71 rfl ?_
            refine g_iload_n C dX0_house_72 2 rfl ?_
            refine g_iload_n C dX0_house_73 3 rfl ?_
            refine g_iload_n C dX0_house_74 4 rfl ?_
            refine g_loadQ C dX0_house_75 0 rfl ?_
            refine spx_n hf (fun kd37 kt38 kc39 ks40 e41 e42 hf => ?_)
            refine g_wcallI (As := [.int a1, .int a2, .int a3, va_rf r7]) (rest := [.ref q32, .int (s24.1 0 14), .ref (g.1 5)]) C (w_xh_init hf) hX rfl q737 q738 q95 q739 rfl msX4_init rfl ⟨Nat.le_of_ble_eq_true rfl, Nat.le_of_ble_eq_true rfl⟩ (Nat.le_of_ble_eq_true rfl) dX0_house_77 ⟨sp_a hc35 e41, sp_a hs36 e42⟩ (fun r43 s44 hf => ?_)
            have hc48 := sp_b hc35 e41
            have hs49 := sp_b hs36 e42
            show TG xCfg g A 5 X (((0 + kd1) + 1) + kd37) (((0 + kt2) + 4) + kt38) s44 80 [(4, va_rf r7), (0, .ref (g.1 0)), (1, .int a1), (2, .int a2), (3, .int a3)] [.ref q32, .int (s24.1 0 14), .ref (g.1 5)]
            refine gdw_n hf (fun c50 hf => ?_)
            refine gdw_n hf (fun c51 hf => ?_)
            refine vlw_n hf (fun s52 hs52 hf => ?_)
            refine (isP_s c51).elim (fun fs53 hv54 => ?_)
            refine g_aast3 C rX5 rfl rfl hv54 c50 hs52 dX0_house_80 ?_
            refine g_aload_n C dX0_house_81 1 rfl ?_
            refine g_dup C dX0_house_82 rfl ?_
            refine g_getI C oX0 fX0_325 dX0_house_83 ?_
            refine g_iconst C dX0_house_86 kc_1 ?_
            refine g_iadd C dX0_house_87 ?_
            refine vlw_n hf (fun s55 hs55 hf => ?_)
            refine g_putI C oX0 pX0_325 rfl rfl hs55 dX0_house_88 ?_
            refine g_aload_n C dX0_house_91 1 rfl ?_
            refine bdw_n hf (fun r56 s57 h58 hf => ?_)
            refine g_callV1 (As := []) (rest := []) (stk := []) C (w_xw_forgets h58) hX oX0 rfl rfl q758 q760 qs19 q88 q761 mdX0_forgets rfl ⟨Nat.le_of_ble_eq_true rfl, Nat.le_of_ble_eq_true rfl⟩ (Nat.le_of_ble_eq_true rfl) dX0_house_92 rfl (le_b hc48) (le_b hs49) ?_
            refine g_aload_n C dX0_house_95 1 rfl ?_
            refine g_getI C oX0 fX0_325 dX0_house_96 ?_
            refine g_iconst C dX0_house_99 kc_1 ?_
            refine g_isub C dX0_house_100 ?_
            exact g_wreti (r := ((s57.1 0 14) - (1 : Int32))) C E rfl rfl hf (le_b hc48) (le_b hs49) dX0_house_101
        · replace hf := ifw_f c26 hf
          refine g_iconst C dX0_house_58 kc_m1 ?_
          exact g_wreti (r := (-1 : Int32)) C E rfl rfl hf (le_b hc12) (le_b hs13) dX0_house_59
      · replace hf := ifw_f c22 hf
        refine g_iconst C dX0_house_58 kc_m1 ?_
        exact g_wreti (r := (-1 : Int32)) C E rfl rfl hf (le_b hc12) (le_b hs13) dX0_house_59
    · replace hf := ifw_f c18 hf
      refine g_iconst C dX0_house_58 kc_m1 ?_
      exact g_wreti (r := (-1 : Int32)) C E rfl rfl hf (le_b hc12) (le_b hs13) dX0_house_59
def yw_gain_L38 (n : Nat) (R : Int32 → Sto → Prop) (v26 : Int32) (v27 : Option Nat) (k38 : Nat → Nat → Sto → Int32 → Prop) : Nat → Nat → Nat → Sto → Int32 → Int32 → Prop
  | 0, _, _, _, _, _ => False
  | k + 1, kc20, ks21, s19, v28, v29 =>
    if (s19.1 0 14) ≤ v29 then
      k38 kc20 ks21 s19 v28
    else
      nnw v27 fun q40 =>
      palw (paI s19 q40 1) fun n42 f43 =>
      gdw (inb v29 n42) <|
      gdw (inb v29 9) <|
      vl (wr s19 12 v29 (f43 (v29).toNatClampNeg)) fun s47 =>
      palw (paI s47 q40 1) fun n48 f49 =>
      gdw (inb v29 n48) <|
      vl (v28 ||| (ishl (1 : Int32) (f49 (v29).toNatClampNeg))) fun v52 =>
      yw_gain_L38 n R v26 v27 k38 k kc20 ks21 s47 v52 (v29 + (1 : Int32))
def yw_gain_L101 (n : Nat) (R : Int32 → Sto → Prop) (v64 : Int32) : Nat → Nat → Nat → Sto → Int32 → Prop
  | 0, _, _, _, _ => False
  | k + 1, kc58, ks59, s57, v65 =>
    gdw (inb v65 9) <|
    if (rd s57 12 v65) = v64 then
      bdw (xw_gainAt n s57 12 v65) fun r68 s69 =>
      R r68 s69
    else
      yw_gain_L101 n R v64 k kc58 ks59 s57 (v65 + (1 : Int32))
def yw_gain (n : Nat) (kc ks : Nat) (s : Sto) (a1 : Int32) (R : Int32 → Sto → Prop) : Prop :=
  spx kc ks fun kd1 kt2 kc3 ks4 =>
  yw_takesRow n kd1 kt2 s (s.1 0 14) (s.1 0 14) (48 : Int32) (56 : Int32) fun r7 s8 =>
  if r7 = none then
    R (-1000000000 : Int32) s8
  else
    bdw (xw_isHouse n s8 a1) fun r15 s16 =>
    if r15 = true then
      yw_gain_L38 n R a1 r7
          (fun (kc32 : Nat) (ks33 : Nat) (s30 : Sto) (v31 : Int32) =>
            if v31 = ((ishl (1 : Int32) (s30.1 0 14)) - (1 : Int32)) then
              bdw (xw_findsPieces n s30 12) fun r54 s55 =>
              yw_gain_L101 n R a1
                  n kc32 ks33 s55 (0 : Int32)
            else
              R (-1000000000 : Int32) s30)
          n kc3 ks4 s16 (0 : Int32) (0 : Int32)
    else
      R (-1000000000 : Int32) s16
theorem w_yw_gain_L38 {l : Launch} {n : Nat} {R : Int32 → Sto → Prop} {v26 : Int32} {v27 : Option Nat} {k38 : Nat → Nat → Sto → Int32 → Prop} {g : Gam} {A : Nat → Prop} {X : FX} {si : Sto} (C : CX xCfg g A 5 X cX0_gain RX0 (some .int) 5 107) (E : EW xCfg g A X si R (fun r => some (.int r))) (hX : X.2.1 = l) (Hk38 : ∀ (kc32 : Nat) (ks33 : Nat) (s30 : Sto) (v31 : Int32), k38 kc32 ks33 s30 v31 → ∀ cz34 sz35 : Nat, cz34 + kc32 ≤ X.2.2.2.1.cells → sz35 + ks33 ≤ X.2.2.2.1.slots → TG xCfg g A 5 X cz34 sz35 s30 73 [(0, .ref (g.1 0)), (1, .int v26), (3, .int v31)] []) : ∀ (k kc20 ks21 : Nat) (s19 : Sto) (v28 : Int32) (v29 : Int32), yw_gain_L38 n R v26 v27 k38 k kc20 ks21 s19 v28 v29 → ∀ cz22 sz23 : Nat, cz22 + kc20 ≤ X.2.2.2.1.cells → sz23 + ks21 ≤ X.2.2.2.1.slots → TG xCfg g A 5 X cz22 sz23 s19 38 [(0, .ref (g.1 0)), (1, .int v26), (2, va_rf v27), (3, .int v28), (4, .int v29)] [] := by
  intro k
  induction k with
  | zero => intro kc20 ks21 s19 v28 v29 hf; rw [yw_gain_L38] at hf; exact hf.elim
  | succ k ih =>
    intro kc20 ks21 s19 v28 v29 hf cz22 sz23 hc24 hs25
    rw [yw_gain_L38] at hf
    refine g_iload C dX0_gain_38 4 rfl ?_
    refine g_aload_n C dX0_gain_40 0 rfl ?_
    refine g_getI C oX0 fX0_325 dX0_gain_41 ?_
    refine g_icmp_ge 73 C dX0_gain_44 rfl (fun c39 => ?_) (fun c39 => ?_)
    · replace hf := ifw_t c39 hf
      exact g_sub [0, 1, 3] rfl (Hk38 _ _ _ _ hf _ _ hc24 hs25)
    · replace hf := ifw_f c39 hf
      refine g_aload_n C dX0_gain_47 0 rfl ?_
      refine g_getS 12 C oX0 fX0_102 rfl dX0_gain_48 ?_
      refine g_iload C dX0_gain_51 4 rfl ?_
      refine g_loadQ_n C dX0_gain_53 2 rfl ?_
      refine g_iload C dX0_gain_54 4 rfl ?_
      refine nnw_n hf (fun q40 hq41 hf => ?_)
      refine palw_n hf (fun n42 f43 hp44 hf => ?_)
      refine gdw_n hf (fun c45 hf => ?_)
      refine g_pbaldQ C hq41 hp44 rfl c45 dX0_gain_56 ?_
      refine gdw_n hf (fun c46 hf => ?_)
      refine vlw_n hf (fun s47 hs47 hf => ?_)
      refine g_iast C aX12 rfl c46 hs47 dX0_gain_57 ?_
      refine g_iload_n C dX0_gain_58 3 rfl ?_
      refine g_iconst C dX0_gain_59 kc_1 ?_
      refine g_loadQ_n C dX0_gain_60 2 rfl ?_
      refine g_iload C dX0_gain_61 4 rfl ?_
      refine palw_n hf (fun n48 f49 hp50 hf => ?_)
      refine gdw_n hf (fun c51 hf => ?_)
      refine g_pbaldQ C hq41 hp50 rfl c51 dX0_gain_63 ?_
      refine g_ishl C dX0_gain_64 ?_
      refine g_ior C dX0_gain_65 ?_
      refine vlw_n hf (fun v52 hv52 hf => ?_)
      refine g_istore_n (i := 3) (lv' := [(3, .int v52), (0, .ref (g.1 0)), (1, .int v26), (2, va_rf v27), (4, .int v29)]) C dX0_gain_66 rfl hv52 (by decide) (by simp [va_rf_cat]) ?_
      refine g_iinc (q := 4) (lv' := [(4, .int (v29 + (1 : Int32))), (3, .int v52), (0, .ref (g.1 0)), (1, .int v26), (2, va_rf v27)]) C dX0_gain_67 rfl kc_1 (by decide) rfl ?_
      refine g_goto 38 C dX0_gain_70 rfl ?_
      exact g_sub [2, 3, 4, 1, 0] rfl (ih _ _ _ _ _ hf _ _ hc24 hs25)
theorem w_yw_gain_L101 {l : Launch} {n : Nat} {R : Int32 → Sto → Prop} {v64 : Int32} {g : Gam} {A : Nat → Prop} {X : FX} {si : Sto} (C : CX xCfg g A 5 X cX0_gain RX0 (some .int) 5 107) (E : EW xCfg g A X si R (fun r => some (.int r))) (hX : X.2.1 = l) : ∀ (k kc58 ks59 : Nat) (s57 : Sto) (v65 : Int32), yw_gain_L101 n R v64 k kc58 ks59 s57 v65 → ∀ cz60 sz61 : Nat, cz60 + kc58 ≤ X.2.2.2.1.cells → sz61 + ks59 ≤ X.2.2.2.1.slots → TG xCfg g A 5 X cz60 sz61 s57 101 [(0, .ref (g.1 0)), (1, .int v64), (4, .int v65)] [] := by
  intro k
  induction k with
  | zero => intro kc58 ks59 s57 v65 hf; rw [yw_gain_L101] at hf; exact hf.elim
  | succ k ih =>
    intro kc58 ks59 s57 v65 hf cz60 sz61 hc62 hs63
    rw [yw_gain_L101] at hf
    refine g_aload_n C dX0_gain_101 0 rfl ?_
    refine g_getS 12 C oX0 fX0_102 rfl dX0_gain_102 ?_
    refine g_iload C dX0_gain_105 2 rfl ?_
    refine gdw_n hf (fun c66 hf => ?_)
    refine g_iald C aX12 rfl c66 dX0_gain_107 ?_
    refine g_iload_n C dX0_gain_108 1 rfl ?_
    refine g_icmp_eq 118 C dX0_gain_109 rfl (fun c67 => ?_) (fun c67 => ?_)
    · replace hf := ifw_t c67 hf
      refine g_aload_n C dX0_gain_118 0 rfl ?_
      refine g_aload_n C dX0_gain_119 0 rfl ?_
      refine g_getS 12 C oX0 fX0_102 rfl dX0_gain_120 ?_
      refine g_iload C dX0_gain_123 2 rfl ?_
      refine bdw_n hf (fun r68 s69 h70 hf => ?_)
      refine g_callV1 (As := [.ref (g.1 12), .int v65]) (rest := []) (stk := [.int r68]) C (w_xw_gainAt h70) hX oX0 rfl rfl q866 q868 qs31 q88 q869 mdX0_gainAt rfl ⟨Nat.le_of_ble_eq_true rfl, Nat.le_of_ble_eq_true rfl⟩ (Nat.le_of_ble_eq_true rfl) dX0_gain_125 rfl (le_b hc62) (le_b hs63) ?_
      exact g_wreti (r := r68) C E rfl rfl hf (le_b hc62) (le_b hs63) dX0_gain_128
    · replace hf := ifw_f c67 hf
      refine g_iinc (q := 2) (lv' := [(4, .int (v65 + (1 : Int32))), (0, .ref (g.1 0)), (1, .int v64)]) C dX0_gain_112 rfl kc_1 (by decide) rfl ?_
      refine g_goto 101 C dX0_gain_115 rfl ?_
      exact g_sub [1, 2, 0] rfl (ih _ _ _ _ hf _ _ hc62 hs63)
theorem w_yw_gain {l : Launch} {n : Nat} {kc ks : Nat} {s : Sto} {a1 : Int32} {R : Int32 → Sto → Prop} (hf : yw_gain n kc ks s a1 R) : Cw xCfg l yX0_gain cX0_gain 5 (some .int) { frames := 5, cells := kc, slots := ks, locals := 107 } (fun g => [.ref (g.1 0), .int a1]) s R (fun r => some (.int r)) := by
  refine Cw_of pn_X0 (fun g => Nat.le_of_ble_eq_true rfl) (fun g A X C E hX hcz hsz hin => ?_)
  rw [yw_gain] at hf
  show TG xCfg g A 5 X 0 0 s 0 [(0, .ref (g.1 0)), (1, .int a1)] []
  refine g_aload_n C dX0_gain_0 0 rfl ?_
  refine g_aload_n C dX0_gain_1 0 rfl ?_
  refine g_getI C oX0 fX0_325 dX0_gain_2 ?_
  refine g_aload_n C dX0_gain_5 0 rfl ?_
  refine g_getI C oX0 fX0_325 dX0_gain_6 ?_
  refine g_bipush C dX0_gain_9 kb_48 ?_
  refine g_bipush C dX0_gain_11 kb_56 ?_
  refine spx_n hf (fun kd1 kt2 kc3 ks4 e5 e6 hf => ?_)
  refine g_wcallV (As := [.int (s.1 0 14), .int (s.1 0 14), .int (48 : Int32), .int (56 : Int32)]) (rest := []) C (w_yw_takesRow hf) hX oX0 rfl rfl q720 q722 qs18 q88 q723 mdX0_takesRow rfl ⟨Nat.le_of_ble_eq_true rfl, Nat.le_of_ble_eq_true rfl⟩ (Nat.le_of_ble_eq_true rfl) dX0_gain_13 ⟨sp_a hcz e5, sp_a hsz e6⟩ (fun r7 s8 hf => ?_)
  have hc12 := sp_b hcz e5
  have hs13 := sp_b hsz e6
  show TG xCfg g A 5 X (0 + kd1) (0 + kt2) s8 16 [(0, .ref (g.1 0)), (1, .int a1)] [va_rf r7]
  refine g_storeQ_n (i := 2) (lv' := [(2, va_rf r7), (0, .ref (g.1 0)), (1, .int a1)]) C dX0_gain_16 rfl (by decide) rfl ?_
  refine g_loadQ_n C dX0_gain_17 0 rfl ?_
  refine g_ifnull (r := r7) 29 C dX0_gain_18 rfl (fun c14 => ?_) (fun c14 => ?_)
  · replace hf := ifw_t c14 hf
    refine g_ldcw C dX0_gain_29 q857 ?_
    exact g_wreti (r := (-1000000000 : Int32)) C E rfl rfl hf (le_b hc12) (le_b hs13) dX0_gain_32
  · replace hf := ifw_f c14 hf
    refine g_aload_n C dX0_gain_21 1 rfl ?_
    refine g_iload_n C dX0_gain_22 2 rfl ?_
    refine bdw_n hf (fun r15 s16 h17 hf => ?_)
    refine g_callV1 (As := [.int a1]) (rest := []) (stk := [.int (bI r15)]) C (w_xw_isHouse h17) hX oX0 rfl rfl q766 q768 qs20 q88 q769 mdX0_isHouse rfl ⟨Nat.le_of_ble_eq_true rfl, Nat.le_of_ble_eq_true rfl⟩ (Nat.le_of_ble_eq_true rfl) dX0_gain_23 rfl (le_b hc12) (le_b hs13) ?_
    refine g_ifZ_ne 33 C dX0_gain_26 rfl (fun c18 => ?_) (fun c18 => ?_)
    · replace hf := ifw_t c18 hf
      refine g_iconst C dX0_gain_33 kc_0 ?_
      refine g_istore_n (i := 3) (lv' := [(3, .int (0 : Int32)), (2, va_rf r7), (0, .ref (g.1 0)), (1, .int a1)]) C dX0_gain_34 rfl rfl (by decide) (by simp [va_rf_cat]) ?_
      refine g_iconst C dX0_gain_35 kc_0 ?_
      refine g_istore (i := 4) (lv' := [(4, .int (0 : Int32)), (3, .int (0 : Int32)), (2, va_rf r7), (0, .ref (g.1 0)), (1, .int a1)]) C dX0_gain_36 rfl (by decide) rfl ?_
      refine g_sub [3, 4, 2, 1, 0] rfl (w_yw_gain_L38 C E hX (fun kc32 ks33 s30 v31 hf cz34 sz35 hc36 hs37 => ?_) _ _ _ _ _ _ hf _ _ hc12 hs13)
      refine g_iload_n C dX0_gain_73 2 rfl ?_
      refine g_iconst C dX0_gain_74 kc_1 ?_
      refine g_aload_n C dX0_gain_75 0 rfl ?_
      refine g_getI C oX0 fX0_325 dX0_gain_76 ?_
      refine g_ishl C dX0_gain_79 ?_
      refine g_iconst C dX0_gain_80 kc_1 ?_
      refine g_isub C dX0_gain_81 ?_
      refine g_icmp_eq 89 C dX0_gain_82 rfl (fun c53 => ?_) (fun c53 => ?_)
      · replace hf := ifw_t c53 hf
        refine g_aload_n C dX0_gain_89 0 rfl ?_
        refine g_aload_n C dX0_gain_90 0 rfl ?_
        refine g_getS 12 C oX0 fX0_102 rfl dX0_gain_91 ?_
        refine bdw_n hf (fun r54 s55 h56 hf => ?_)
        refine g_callV1 (As := [.ref (g.1 12)]) (rest := []) (stk := [.int r54]) C (w_xw_findsPieces h56) hX oX0 rfl rfl q862 q864 qs30 q88 q865 mdX0_findsPieces rfl ⟨Nat.le_of_ble_eq_true rfl, Nat.le_of_ble_eq_true rfl⟩ (Nat.le_of_ble_eq_true rfl) dX0_gain_94 rfl (le_b hc36) (le_b hs37) ?_
        refine g_pop C dX0_gain_97 rfl ?_
        refine g_iconst C dX0_gain_98 kc_0 ?_
        refine g_istore (i := 4) (lv' := [(4, .int (0 : Int32)), (0, .ref (g.1 0)), (1, .int a1), (3, .int v31)]) C dX0_gain_99 rfl (by decide) rfl ?_
        refine g_sub [1, 2, 0] rfl (w_yw_gain_L101 C E hX _ _ _ _ _ hf _ _ hc36 hs37)
      · replace hf := ifw_f c53 hf
        refine g_ldcw C dX0_gain_85 q857 ?_
        exact g_wreti (r := (-1000000000 : Int32)) C E rfl rfl hf (le_b hc36) (le_b hs37) dX0_gain_88
    · replace hf := ifw_f c18 hf
      refine g_ldcw C dX0_gain_29 q857 ?_
      exact g_wreti (r := (-1000000000 : Int32)) C E rfl rfl hf (le_b hc12) (le_b hs13) dX0_gain_32
def yw_leaven (n : Nat) (kc ks : Nat) (s : Sto) (a1 : Int32) (a2 : Int32) (R : Int32 → Sto → Prop) : Prop :=
  vl (fun (kc2 : Nat) (ks3 : Nat) (t1 : Bool) =>
    if (s.1 0 32) = (60 : Int32) then
      R (-1 : Int32) s
    else
      vl (fun (kc11 : Nat) (ks12 : Nat) (s10 : Sto) =>
        vl (fun (kc20 : Nat) (ks21 : Nat) (s18 : Sto) (t19 : Int32) =>
          if t19 ≤ (30 : Int32) then
            vl (fun (kc30 : Nat) (ks31 : Nat) (s28 : Sto) (t29 : Nat) =>
              gdw (inb (s18.1 0 32) 60) <|
              gdw (isP s28 t29 3) <|
              vl (wrR s28 16 (s18.1 0 32) (some t29)) fun s39 =>
              vl (sI s39 0 32 ((s39.1 0 32) + (1 : Int32))) fun s42 =>
              R ((s42.1 0 32) - (1 : Int32)) s42) fun j36 =>
            if t1 = true then
              spw kc20 ks21 1 4 fun kc44 ks45 =>
              alw s18 fun q48 =>
              vl (pA s18 q48 (.inr (3, [.int 0, .int 0, .int 0, .int 0]))) fun s50 =>
              spx kc44 ks45 fun kd53 kt54 kc55 ks56 =>
              xl_init n kd53 kt54 s50 q48 a1 (-1 : Int32) (-1 : Int32) (0 : Int32) fun r59 s60 =>
              j36 kc55 ks56 s60 q48
            else
              spw kc20 ks21 1 4 fun kc66 ks67 =>
              alw s18 fun q70 =>
              vl (pA s18 q70 (.inr (3, [.int 0, .int 0, .int 0, .int 0]))) fun s72 =>
              spx kc66 ks67 fun kd75 kt76 kc77 ks78 =>
              xl_init n kd75 kt76 s72 q70 (-1 : Int32) a1 a2 t19 fun r81 s82 =>
              j36 kc77 ks78 s82 q70
          else
            R (-1 : Int32) s18) fun j26 =>
        if t1 = true then
          j26 kc11 ks12 s10 (0 : Int32)
        else
          gdw (inb a1 60) <|
          nnw (rdR s10 16 a1) fun q90 =>
          pgIw s10 q90 3 3 fun v92 =>
          gdw (inb a2 60) <|
          nnw (rdR s10 16 a2) fun q95 =>
          pgIw s10 q95 3 3 fun v97 =>
          j26 kc11 ks12 s10 ((1 : Int32) + (mmax v92 v97))) fun j17 =>
      if t1 = true then
        bdw (xw_isHouse n s a1) fun r100 s101 =>
        if r100 = true then
          j17 kc2 ks3 s101
        else
          R (-1 : Int32) s101
      else
        bdw (xw_isLeaven n s a1) fun r104 s105 =>
        if r104 = true then
          bdw (xw_isLeaven n s105 a2) fun r108 s109 =>
          if r108 = true then
            j17 kc2 ks3 s109
          else
            R (-1 : Int32) s109
        else
          R (-1 : Int32) s105) fun j8 =>
  if a2 = (-1 : Int32) then
    j8 kc ks true
  else
    j8 kc ks false
theorem w_yw_leaven {l : Launch} {n : Nat} {kc ks : Nat} {s : Sto} {a1 : Int32} {a2 : Int32} {R : Int32 → Sto → Prop} (hf : yw_leaven n kc ks s a1 a2 R) : Cw xCfg l yX0_leaven cX0_leaven 5 (some .int) { frames := 3, cells := kc, slots := ks, locals := 55 } (fun g => [.ref (g.1 0), .int a1, .int a2]) s R (fun r => some (.int r)) := by
  refine Cw_of pn_X0 (fun g => Nat.le_of_ble_eq_true rfl) (fun g A X C E hX hcz hsz hin => ?_)
  rw [yw_leaven] at hf
  show TG xCfg g A 5 X 0 0 s 0 [(0, .ref (g.1 0)), (1, .int a1), (2, .int a2)] []
  refine g_iload_n C dX0_leaven_0 2 rfl ?_
  refine g_iconst C dX0_leaven_1 kc_m1 ?_
  refine vlw_n hf (fun j8 hj8 hf => ?_)
  have Hj8 : ∀ (kc2 : Nat) (ks3 : Nat) (t1 : Bool), j8 kc2 ks3 t1 → ∀ cz4 sz5 : Nat, cz4 + kc2 ≤ X.2.2.2.1.cells → sz5 + ks3 ≤ X.2.2.2.1.slots → TG xCfg g A 5 X cz4 sz5 s 10 [(0, .ref (g.1 0)), (1, .int a1), (2, .int a2)] [.int (bI t1)] := by
    clear hf; subst hj8
    intro kc2 ks3 t1 hf cz4 sz5 hc6 hs7
    refine g_istore_n (i := 3) (lv' := [(3, .int (bI t1)), (0, .ref (g.1 0)), (1, .int a1), (2, .int a2)]) C dX0_leaven_10 rfl rfl (by decide) rfl ?_
    refine g_aload_n C dX0_leaven_11 1 rfl ?_
    refine g_getI C oX0 fX0_487 dX0_leaven_12 ?_
    refine g_bipush C dX0_leaven_15 kb_60 ?_
    refine g_icmp_eq 51 C dX0_leaven_17 rfl (fun c9 => ?_) (fun c9 => ?_)
    · replace hf := ifw_t c9 hf
      refine g_iconst C dX0_leaven_51 kc_m1 ?_
      exact g_wreti (r := (-1 : Int32)) C E rfl rfl hf (le_b hc6) (le_b hs7) dX0_leaven_52
    · replace hf := ifw_f c9 hf
      refine g_iload_n C dX0_leaven_20 0 rfl ?_
      refine vlw_n hf (fun j17 hj17 hf => ?_)
      have Hj17 : ∀ (kc11 : Nat) (ks12 : Nat) (s10 : Sto), j17 kc11 ks12 s10 → ∀ cz13 sz14 : Nat, cz13 + kc11 ≤ X.2.2.2.1.cells → sz14 + ks12 ≤ X.2.2.2.1.slots → TG xCfg g A 5 X cz13 sz14 s10 53 [(0, .ref (g.1 0)), (1, .int a1), (2, .int a2), (3, .int (bI t1))] [] := by
        clear hf; subst hj17
        intro kc11 ks12 s10 hf cz13 sz14 hc15 hs16
        refine g_iload_n C dX0_leaven_53 3 rfl ?_
        refine vlw_n hf (fun j26 hj26 hf => ?_)
        have Hj26 : ∀ (kc20 : Nat) (ks21 : Nat) (s18 : Sto) (t19 : Int32), j26 kc20 ks21 s18 t19 → ∀ cz22 sz23 : Nat, cz22 + kc20 ≤ X.2.2.2.1.cells → sz23 + ks21 ≤ X.2.2.2.1.slots → TG xCfg g A 5 X cz22 sz23 s18 84 [(0, .ref (g.1 0)), (1, .int a1), (2, .int a2), (3, .int (bI t1))] [.int t19] := by
          clear hf; subst hj26
          intro kc20 ks21 s18 t19 hf cz22 sz23 hc24 hs25
          refine g_istore (i := 4) (lv' := [(4, .int t19), (0, .ref (g.1 0)), (1, .int a1), (2, .int a2), (3, .int (bI t1))]) C dX0_leaven_84 rfl (by decide) rfl ?_
          refine g_iload C dX0_leaven_86 0 rfl ?_
          refine g_bipush C dX0_leaven_88 kb_30 ?_
          refine g_icmp_le 95 C dX0_leaven_90 rfl (fun c27 => ?_) (fun c27 => ?_)
          · replace hf := ifw_t c27 hf
            refine g_aload_n C dX0_leaven_95 1 rfl ?_
            refine g_getS 16 C oX0 fX0_118 rfl dX0_leaven_96 ?_
            refine g_aload_n C dX0_leaven_99 1 rfl ?_
            refine g_getI C oX0 fX0_487 dX0_leaven_100 ?_
            refine g_iload_n C dX0_leaven_103 4 rfl ?_
            refine vlw_n hf (fun j36 hj36 hf => ?_)
            have Hj36 : ∀ (kc30 : Nat) (ks31 : Nat) (s28 : Sto) (t29 : Nat), j36 kc30 ks31 s28 t29 → ∀ cz32 sz33 : Nat, cz32 + kc30 ≤ X.2.2.2.1.cells → sz33 + ks31 ≤ X.2.2.2.1.slots → TG xCfg g A 5 X cz32 sz33 s28 133 [(0, .ref (g.1 0))] [.ref t29, .int (s18.1 0 32), .ref (g.1 16)] := by
              clear hf; subst hj36
              intro kc30 ks31 s28 t29 hf cz32 sz33 hc34 hs35
              refine gdw_n hf (fun c37 hf => ?_)
              refine gdw_n hf (fun c38 hf => ?_)
              refine vlw_n hf (fun s39 hs39 hf => ?_)
              refine (isP_s c38).elim (fun fs40 hv41 => ?_)
              refine g_aast3 C rX16 rfl rfl hv41 c37 hs39 dX0_leaven_133 ?_
              refine g_aload_n C dX0_leaven_134 0 rfl ?_
              refine g_dup C dX0_leaven_135 rfl ?_
              refine g_getI C oX0 fX0_487 dX0_leaven_136 ?_
              refine g_iconst C dX0_leaven_139 kc_1 ?_
              refine g_iadd C dX0_leaven_140 ?_
              refine vlw_n hf (fun s42 hs42 hf => ?_)
              refine g_putI C oX0 pX0_487 rfl rfl hs42 dX0_leaven_141 ?_
              refine g_aload_n C dX0_leaven_144 0 rfl ?_
              refine g_getI C oX0 fX0_487 dX0_leaven_145 ?_
              refine g_iconst C dX0_leaven_148 kc_1 ?_
              refine g_isub C dX0_leaven_149 ?_
              exact g_wreti (r := ((s42.1 0 32) - (1 : Int32))) C E rfl rfl hf (le_b hc34) (le_b hs35) dX0_leaven_150
            clear hj36
            refine g_ifZ_eq 121 C dX0_leaven_104 rfl (fun c43 => ?_) (fun c43 => ?_)
            · replace hf := ifw_t c43 hf
              refine spw_n hf (fun kc44 ks45 e46 e47 hf => ?_)
              refine g_new C nX0_116 (sp_a hc24 e46) (sp_a hs25 e47) dX0_leaven_107 (fun q48 hq49 => ?_)
              replace hf := hf q48 hq49
              refine vlw_n hf (fun s50 hs50 hf => ?_)
              rw [← hs50]
              have hc51 := sp_b hc24 e46
              have hs52 := sp_b hs25 e47
              refine g_dup C dX0_leaven_110 rfl ?_
              refine g_iload_n C dX0_leaven_111 2 rfl ?_
              refine g_iconst C dX0_leaven_112 kc_m1 ?_
              refine g_iconst C dX0_leaven_113 kc_m1 ?_
              refine g_iconst C dX0_leaven_114 kc_0 ?_
              refine spx_n hf (fun kd53 kt54 kc55 ks56 e57 e58 hf => ?_)
              refine g_wcallI (As := [.int a1, .int (-1 : Int32), .int (-1 : Int32), .int (0 : Int32)]) (rest := [.ref q48, .int (s18.1 0 32), .ref (g.1 16)]) C (w_xl_init hf) hX rfl q918 q919 q112 q920 rfl msX11_init rfl ⟨Nat.le_of_ble_eq_true rfl, Nat.le_of_ble_eq_true rfl⟩ (Nat.le_of_ble_eq_true rfl) dX0_leaven_115 ⟨sp_a hc51 e57, sp_a hs52 e58⟩ (fun r59 s60 hf => ?_)
              have hc64 := sp_b hc51 e57
              have hs65 := sp_b hs52 e58
              show TG xCfg g A 5 X ((cz22 + 1) + kd53) ((sz23 + 4) + kt54) s60 118 [(4, .int t19), (0, .ref (g.1 0)), (1, .int a1), (2, .int a2), (3, .int (bI t1))] [.ref q48, .int (s18.1 0 32), .ref (g.1 16)]
              refine g_goto 133 C dX0_leaven_118 rfl ?_
              exact g_sub [1] rfl (Hj36 _ _ _ _ hf _ _ hc64 hs65)
            · replace hf := ifw_f c43 hf
              refine spw_n hf (fun kc66 ks67 e68 e69 hf => ?_)
              refine g_new C nX0_116 (sp_a hc24 e68) (sp_a hs25 e69) dX0_leaven_121 (fun q70 hq71 => ?_)
              replace hf := hf q70 hq71
              refine vlw_n hf (fun s72 hs72 hf => ?_)
              rw [← hs72]
              have hc73 := sp_b hc24 e68
              have hs74 := sp_b hs25 e69
              refine g_dup C dX0_leaven_124 rfl ?_
              refine g_iconst C dX0_leaven_125 kc_m1 ?_
              refine g_iload_n C dX0_leaven_126 2 rfl ?_
              refine g_iload_n C dX0_leaven_127 3 rfl ?_
              refine g_iload C dX0_leaven_128 0 rfl ?_
              refine spx_n hf (fun kd75 kt76 kc77 ks78 e79 e80 hf => ?_)
              refine g_wcallI (As := [.int (-1 : Int32), .int a1, .int a2, .int t19]) (rest := [.ref q70, .int (s18.1 0 32), .ref (g.1 16)]) C (w_xl_init hf) hX rfl q918 q919 q112 q920 rfl msX11_init rfl ⟨Nat.le_of_ble_eq_true rfl, Nat.le_of_ble_eq_true rfl⟩ (Nat.le_of_ble_eq_true rfl) dX0_leaven_130 ⟨sp_a hc73 e79, sp_a hs74 e80⟩ (fun r81 s82 hf => ?_)
              have hc86 := sp_b hc73 e79
              have hs87 := sp_b hs74 e80
              show TG xCfg g A 5 X ((cz22 + 1) + kd75) ((sz23 + 4) + kt76) s82 133 [(4, .int t19), (0, .ref (g.1 0)), (1, .int a1), (2, .int a2), (3, .int (bI t1))] [.ref q70, .int (s18.1 0 32), .ref (g.1 16)]
              exact g_sub [1] rfl (Hj36 _ _ _ _ hf _ _ hc86 hs87)
          · replace hf := ifw_f c27 hf
            refine g_iconst C dX0_leaven_93 kc_m1 ?_
            exact g_wreti (r := (-1 : Int32)) C E rfl rfl hf (le_b hc24) (le_b hs25) dX0_leaven_94
        clear hj26
        refine g_ifZ_eq 61 C dX0_leaven_54 rfl (fun c88 => ?_) (fun c88 => ?_)
        · replace hf := ifw_t c88 hf
          refine g_iconst C dX0_leaven_57 kc_0 ?_
          refine g_goto 84 C dX0_leaven_58 rfl ?_
          exact g_sub [0, 1, 2, 3] rfl (Hj26 _ _ _ _ hf _ _ hc15 hs16)
        · replace hf := ifw_f c88 hf
          refine g_iconst C dX0_leaven_61 kc_1 ?_
          refine g_aload_n C dX0_leaven_62 0 rfl ?_
          refine g_getS 16 C oX0 fX0_118 rfl dX0_leaven_63 ?_
          refine g_iload_n C dX0_leaven_66 1 rfl ?_
          refine gdw_n hf (fun c89 hf => ?_)
          refine g_aald3 C rX16 rfl c89 dX0_leaven_67 ?_
          refine nnw_n hf (fun q90 hq91 hf => ?_)
          refine pgIw_n hf (fun v92 hv93 hf => ?_)
          refine g_pgetQ C fX0_493 hq91 hv93 dX0_leaven_68 ?_
          refine g_aload_n C dX0_leaven_71 0 rfl ?_
          refine g_getS 16 C oX0 fX0_118 rfl dX0_leaven_72 ?_
          refine g_iload_n C dX0_leaven_75 2 rfl ?_
          refine gdw_n hf (fun c94 hf => ?_)
          refine g_aald3 C rX16 rfl c94 dX0_leaven_76 ?_
          refine nnw_n hf (fun q95 hq96 hf => ?_)
          refine pgIw_n hf (fun v97 hv98 hf => ?_)
          refine g_pgetQ C fX0_493 hq96 hv98 dX0_leaven_77 ?_
          refine g_mmax C q847 (Nat.le_of_ble_eq_true rfl) (Nat.le_of_ble_eq_true rfl) (Nat.le_of_ble_eq_true rfl) ⟨le_b hc15, le_b hs16⟩ dX0_leaven_80 ?_
          refine g_iadd C dX0_leaven_83 ?_
          exact g_sub [0, 1, 2, 3] rfl (Hj26 _ _ _ _ hf _ _ hc15 hs16)
      clear hj17
      refine g_ifZ_eq 35 C dX0_leaven_21 rfl (fun c99 => ?_) (fun c99 => ?_)
      · replace hf := ifw_t c99 hf
        refine g_aload_n C dX0_leaven_24 1 rfl ?_
        refine g_iload_n C dX0_leaven_25 2 rfl ?_
        refine bdw_n hf (fun r100 s101 h102 hf => ?_)
        refine g_callV1 (As := [.int a1]) (rest := []) (stk := [.int (bI r100)]) C (w_xw_isHouse h102) hX oX0 rfl rfl q766 q768 qs20 q88 q769 mdX0_isHouse rfl ⟨Nat.le_of_ble_eq_true rfl, Nat.le_of_ble_eq_true rfl⟩ (Nat.le_of_ble_eq_true rfl) dX0_leaven_26 rfl (le_b hc6) (le_b hs7) ?_
        refine g_ifZ_ne 53 C dX0_leaven_29 rfl (fun c103 => ?_) (fun c103 => ?_)
        · replace hf := ifw_t c103 hf
          exact g_sub [1, 2, 3, 0] rfl (Hj17 _ _ _ hf _ _ hc6 hs7)
        · replace hf := ifw_f c103 hf
          refine g_goto 51 C dX0_leaven_32 rfl ?_
          refine g_iconst C dX0_leaven_51 kc_m1 ?_
          exact g_wreti (r := (-1 : Int32)) C E rfl rfl hf (le_b hc6) (le_b hs7) dX0_leaven_52
      · replace hf := ifw_f c99 hf
        refine g_aload_n C dX0_leaven_35 1 rfl ?_
        refine g_iload_n C dX0_leaven_36 2 rfl ?_
        refine bdw_n hf (fun r104 s105 h106 hf => ?_)
        refine g_callV1 (As := [.int a1]) (rest := []) (stk := [.int (bI r104)]) C (w_xw_isLeaven h106) hX oX0 rfl rfl q913 q915 qs37 q88 q916 mdX0_isLeaven rfl ⟨Nat.le_of_ble_eq_true rfl, Nat.le_of_ble_eq_true rfl⟩ (Nat.le_of_ble_eq_true rfl) dX0_leaven_37 rfl (le_b hc6) (le_b hs7) ?_
        refine g_ifZ_eq 51 C dX0_leaven_40 rfl (fun c107 => ?_) (fun c107 => ?_)
        · replace hf := ifw_t c107 hf
          refine g_aload_n C dX0_leaven_43 1 rfl ?_
          refine g_iload_n C dX0_leaven_44 3 rfl ?_
          refine bdw_n hf (fun r108 s109 h110 hf => ?_)
          refine g_callV1 (As := [.int a2]) (rest := []) (stk := [.int (bI r108)]) C (w_xw_isLeaven h110) hX oX0 rfl rfl q913 q915 qs37 q88 q916 mdX0_isLeaven rfl ⟨Nat.le_of_ble_eq_true rfl, Nat.le_of_ble_eq_true rfl⟩ (Nat.le_of_ble_eq_true rfl) dX0_leaven_45 rfl (le_b hc6) (le_b hs7) ?_
          refine g_ifZ_ne 53 C dX0_leaven_48 rfl (fun c111 => ?_) (fun c111 => ?_)
          · replace hf := ifw_t c111 hf
            exact g_sub [1, 2, 3, 0] rfl (Hj17 _ _ _ hf _ _ hc6 hs7)
          · replace hf := ifw_f c111 hf
            refine g_iconst C dX0_leaven_51 kc_m1 ?_
            exact g_wreti (r := (-1 : Int32)) C E rfl rfl hf (le_b hc6) (le_b hs7) dX0_leaven_52
        · replace hf := ifw_f c107 hf
          refine g_iconst C dX0_leaven_51 kc_m1 ?_
          exact g_wreti (r := (-1 : Int32)) C E rfl rfl hf (le_b hc6) (le_b hs7) dX0_leaven_52
  clear hj8
  refine g_icmp_ne 9 C dX0_leaven_2 rfl (fun c112 => ?_) (fun c112 => ?_)
  · replace hf := ifw_t c112 hf
    refine g_iconst C dX0_leaven_5 kc_1 ?_
    refine g_goto 10 C dX0_leaven_6 rfl ?_
    exact g_sub [0, 1, 2] rfl (Hj8 _ _ _ hf _ _ hcz hsz)
  · replace hf := ifw_f c112 hf
    refine g_iconst C dX0_leaven_9 kc_0 ?_
    exact g_sub [0, 1, 2] rfl (Hj8 _ _ _ hf _ _ hcz hsz)
def yw_odds (n : Nat) (kc ks : Nat) (s : Sto) (a1 : Int32) (a2 : Int32) (R : Int64 → Sto → Prop) : Prop :=
  spx kc ks fun kd1 kt2 kc3 ks4 =>
  yw_takesSeen n kd1 kt2 s fun r7 s8 =>
  if r7 = none then
    R (-1 : Int64) s8
  else
    bdw (xw_isHouse n s8 a1) fun r15 s16 =>
    if r15 = true then
      bdw (xw_isIn n s16 a2 (0 : Int32) (1 : Int32)) fun r19 s20 =>
      if r19 = true then
        bdw (xw_findsOdds n s20 a1 r7) fun r23 s24 =>
        if a2 = 0 then
          R (s24.2.1 0 35) s24
        else
          R (s24.2.1 0 36) s24
      else
        R (-1 : Int64) s20
    else
      R (-1 : Int64) s16
theorem w_yw_odds {l : Launch} {n : Nat} {kc ks : Nat} {s : Sto} {a1 : Int32} {a2 : Int32} {R : Int64 → Sto → Prop} (hf : yw_odds n kc ks s a1 a2 R) : Cw xCfg l yX0_odds cX0_odds 4 (some .long) { frames := 5, cells := kc, slots := ks, locals := 109 } (fun g => [.ref (g.1 0), .int a1, .int a2]) s R (fun r => some (.long r)) := by
  refine Cw_of pn_X0 (fun g => Nat.le_of_ble_eq_true rfl) (fun g A X C E hX hcz hsz hin => ?_)
  rw [yw_odds] at hf
  show TG xCfg g A 4 X 0 0 s 0 [(0, .ref (g.1 0)), (1, .int a1), (2, .int a2)] []
  refine g_aload_n C dX0_odds_0 0 rfl ?_
  refine spx_n hf (fun kd1 kt2 kc3 ks4 e5 e6 hf => ?_)
  refine g_wcallV (As := []) (rest := []) C (w_yw_takesSeen hf) hX oX0 rfl rfl q982 q984 qs41 q88 q985 mdX0_takesSeen rfl ⟨Nat.le_of_ble_eq_true rfl, Nat.le_of_ble_eq_true rfl⟩ (Nat.le_of_ble_eq_true rfl) dX0_odds_1 ⟨sp_a hcz e5, sp_a hsz e6⟩ (fun r7 s8 hf => ?_)
  have hc12 := sp_b hcz e5
  have hs13 := sp_b hsz e6
  show TG xCfg g A 4 X (0 + kd1) (0 + kt2) s8 4 [(0, .ref (g.1 0)), (1, .int a1), (2, .int a2)] [va_rf r7]
  refine g_storeQ_n (i := 3) (lv' := [(3, va_rf r7), (0, .ref (g.1 0)), (1, .int a1), (2, .int a2)]) C dX0_odds_4 rfl (by decide) rfl ?_
  refine g_loadQ_n C dX0_odds_5 0 rfl ?_
  refine g_ifnull (r := r7) 26 C dX0_odds_6 rfl (fun c14 => ?_) (fun c14 => ?_)
  · replace hf := ifw_t c14 hf
    refine g_ldc2 C dX0_odds_26 q986 ?_
    exact g_wretl (r := (-1 : Int64)) C E rfl hf (le_b hc12) (le_b hs13) dX0_odds_29
  · replace hf := ifw_f c14 hf
    refine g_aload_n C dX0_odds_9 1 rfl ?_
    refine g_iload_n C dX0_odds_10 2 rfl ?_
    refine bdw_n hf (fun r15 s16 h17 hf => ?_)
    refine g_callV1 (As := [.int a1]) (rest := []) (stk := [.int (bI r15)]) C (w_xw_isHouse h17) hX oX0 rfl rfl q766 q768 qs20 q88 q769 mdX0_isHouse rfl ⟨Nat.le_of_ble_eq_true rfl, Nat.le_of_ble_eq_true rfl⟩ (Nat.le_of_ble_eq_true rfl) dX0_odds_11 rfl (le_b hc12) (le_b hs13) ?_
    refine g_ifZ_eq 26 C dX0_odds_14 rfl (fun c18 => ?_) (fun c18 => ?_)
    · replace hf := ifw_t c18 hf
      refine g_iload_n C dX0_odds_17 3 rfl ?_
      refine g_iconst C dX0_odds_18 kc_0 ?_
      refine g_iconst C dX0_odds_19 kc_1 ?_
      refine bdw_n hf (fun r19 s20 h21 hf => ?_)
      refine g_callS1 (As := [.int a2, .int (0 : Int32), .int (1 : Int32)]) (rest := []) (stk := [.int (bI r19)]) C (w_xw_isIn h21) hX rfl q381 q382 q88 q383 msX0_isIn rfl ⟨Nat.le_of_ble_eq_true rfl, Nat.le_of_ble_eq_true rfl⟩ (Nat.le_of_ble_eq_true rfl) dX0_odds_20 rfl (le_b hc12) (le_b hs13) ?_
      refine g_ifZ_ne 30 C dX0_odds_23 rfl (fun c22 => ?_) (fun c22 => ?_)
      · replace hf := ifw_t c22 hf
        refine g_aload_n C dX0_odds_30 1 rfl ?_
        refine g_iload_n C dX0_odds_31 2 rfl ?_
        refine g_loadQ_n C dX0_odds_32 0 rfl ?_
        refine bdw_n hf (fun r23 s24 h25 hf => ?_)
        refine g_callV1 (As := [.int a1, va_rf r7]) (rest := []) (stk := []) C (w_xw_findsOdds h25) hX oX0 rfl rfl q987 q989 qs42 q88 q990 mdX0_findsOdds rfl ⟨Nat.le_of_ble_eq_true rfl, Nat.le_of_ble_eq_true rfl⟩ (Nat.le_of_ble_eq_true rfl) dX0_odds_33 rfl (le_b hc12) (le_b hs13) ?_
        refine g_iload_n C dX0_odds_36 3 rfl ?_
        refine g_if_ne 47 C dX0_odds_37 rfl (fun c26 => ?_) (fun c26 => ?_)
        · replace hf := ifw_t c26 hf
          refine g_aload_n C dX0_odds_40 1 rfl ?_
          refine g_getJ C oX0 fX0_528 dX0_odds_41 ?_
          refine g_goto 51 C dX0_odds_44 rfl ?_
          exact g_wretl (r := (s24.2.1 0 35)) C E rfl hf (le_b hc12) (le_b hs13) dX0_odds_51
        · replace hf := ifw_f c26 hf
          refine g_aload_n C dX0_odds_47 1 rfl ?_
          refine g_getJ C oX0 fX0_532 dX0_odds_48 ?_
          exact g_wretl (r := (s24.2.1 0 36)) C E rfl hf (le_b hc12) (le_b hs13) dX0_odds_51
      · replace hf := ifw_f c22 hf
        refine g_ldc2 C dX0_odds_26 q986 ?_
        exact g_wretl (r := (-1 : Int64)) C E rfl hf (le_b hc12) (le_b hs13) dX0_odds_29
    · replace hf := ifw_f c18 hf
      refine g_ldc2 C dX0_odds_26 q986 ?_
      exact g_wretl (r := (-1 : Int64)) C E rfl hf (le_b hc12) (le_b hs13) dX0_odds_29
def yw_whose_L35 (n : Nat) (R : Int32 → Sto → Prop) (v26 : Int32) (v27 : Option Nat) (k42 : Nat → Nat → Sto → Int32 → Bool → Prop) : Nat → Nat → Nat → Sto → Int32 → Int64 → Int64 → Bool → Int32 → Prop
  | 0, _, _, _, _, _, _, _, _ => False
  | k + 1, kc20, ks21, s19, v28, v29, v30, v31, v32 =>
    if (s19.1 0 14) ≤ v32 then
      k42 kc20 ks21 s19 v28 v31
    else
      bdw (xw_findsOdds n s19 v32 v27) fun r44 s45 =>
      vl (((s45.2.1 0 35) * v30) - (v29 * (s45.2.1 0 36))) fun v47 =>
      vl (fun (kc49 : Nat) (ks50 : Nat) (v48 : Bool) =>
        vl (fun (kc60 : Nat) (ks61 : Nat) (v56 : Int32) (v57 : Int64) (v58 : Int64) (v59 : Bool) =>
          yw_whose_L35 n R v26 v27 k42 k kc60 ks61 s45 v56 v57 v58 v59 (v32 + (1 : Int32))) fun j66 =>
        if 0 < (lg_cmp v47 (0 : Int64)) then
          vl (s45.2.1 0 35) fun v68 =>
          vl (s45.2.1 0 36) fun v69 =>
          j66 kc49 ks50 v32 v68 v69 true
        else
          j66 kc49 ks50 v28 v29 v30 v48) fun j55 =>
      if (lg_cmp v47 (0 : Int64)) = 0 then
        j55 kc20 ks21 false
      else
        j55 kc20 ks21 v31
def yw_whose (n : Nat) (kc ks : Nat) (s : Sto) (a1 : Int32) (R : Int32 → Sto → Prop) : Prop :=
  spx kc ks fun kd1 kt2 kc3 ks4 =>
  yw_takesSeen n kd1 kt2 s fun r7 s8 =>
  if r7 = none then
    R (-2 : Int32) s8
  else
    bdw (xw_isIn n s8 a1 (0 : Int32) (1 : Int32)) fun r15 s16 =>
    if r15 = true then
      yw_whose_L35 n R a1 r7
          (fun (kc36 : Nat) (ks37 : Nat) (s33 : Sto) (v34 : Int32) (v35 : Bool) =>
            if a1 = 0 then
              R v34 s33
            else
              if v35 = true then
                R (1 : Int32) s33
              else
                R (0 : Int32) s33)
          n kc3 ks4 s16 (-1 : Int32) (0 : Int64) (1 : Int64) false (0 : Int32)
    else
      R (-2 : Int32) s16
theorem w_yw_whose_L35 {l : Launch} {n : Nat} {R : Int32 → Sto → Prop} {v26 : Int32} {v27 : Option Nat} {k42 : Nat → Nat → Sto → Int32 → Bool → Prop} {g : Gam} {A : Nat → Prop} {X : FX} {si : Sto} (C : CX xCfg g A 12 X cX0_whose RX0 (some .int) 5 109) (E : EW xCfg g A X si R (fun r => some (.int r))) (hX : X.2.1 = l) (Hk42 : ∀ (kc36 : Nat) (ks37 : Nat) (s33 : Sto) (v34 : Int32) (v35 : Bool), k42 kc36 ks37 s33 v34 v35 → ∀ cz38 sz39 : Nat, cz38 + kc36 ≤ X.2.2.2.1.cells → sz39 + ks37 ≤ X.2.2.2.1.slots → TG xCfg g A 12 X cz38 sz39 s33 112 [(1, .int v26), (3, .int v34), (8, .int (bI v35))] []) : ∀ (k kc20 ks21 : Nat) (s19 : Sto) (v28 : Int32) (v29 : Int64) (v30 : Int64) (v31 : Bool) (v32 : Int32), yw_whose_L35 n R v26 v27 k42 k kc20 ks21 s19 v28 v29 v30 v31 v32 → ∀ cz22 sz23 : Nat, cz22 + kc20 ≤ X.2.2.2.1.cells → sz23 + ks21 ≤ X.2.2.2.1.slots → TG xCfg g A 12 X cz22 sz23 s19 35 [(0, .ref (g.1 0)), (1, .int v26), (2, va_rf v27), (3, .int v28), (4, .long v29), (6, .long v30), (8, .int (bI v31)), (9, .int v32)] [] := by
  intro k
  induction k with
  | zero => intro kc20 ks21 s19 v28 v29 v30 v31 v32 hf; rw [yw_whose_L35] at hf; exact hf.elim
  | succ k ih =>
    intro kc20 ks21 s19 v28 v29 v30 v31 v32 hf cz22 sz23 hc24 hs25
    rw [yw_whose_L35] at hf
    refine g_iload C dX0_whose_35 7 rfl ?_
    refine g_aload_n C dX0_whose_37 0 rfl ?_
    refine g_getI C oX0 fX0_325 dX0_whose_38 ?_
    refine g_icmp_ge 112 C dX0_whose_41 rfl (fun c43 => ?_) (fun c43 => ?_)
    · replace hf := ifw_t c43 hf
      exact g_sub [1, 3, 6] rfl (Hk42 _ _ _ _ _ hf _ _ hc24 hs25)
    · replace hf := ifw_f c43 hf
      refine g_aload_n C dX0_whose_44 0 rfl ?_
      refine g_iload C dX0_whose_45 7 rfl ?_
      refine g_loadQ_n C dX0_whose_47 2 rfl ?_
      refine bdw_n hf (fun r44 s45 h46 hf => ?_)
      refine g_callV1 (As := [.int v32, va_rf v27]) (rest := []) (stk := []) C (w_xw_findsOdds h46) hX oX0 rfl rfl q987 q989 qs42 q88 q990 mdX0_findsOdds rfl ⟨Nat.le_of_ble_eq_true rfl, Nat.le_of_ble_eq_true rfl⟩ (Nat.le_of_ble_eq_true rfl) dX0_whose_48 rfl (le_b hc24) (le_b hs25) ?_
      refine g_aload_n C dX0_whose_51 0 rfl ?_
      refine g_getJ C oX0 fX0_528 dX0_whose_52 ?_
      refine g_lload C dX0_whose_55 5 rfl ?_
      refine g_lmul C dX0_whose_57 ?_
      refine g_lload C dX0_whose_58 4 rfl ?_
      refine g_aload_n C dX0_whose_60 0 rfl ?_
      refine g_getJ C oX0 fX0_532 dX0_whose_61 ?_
      refine g_lmul C dX0_whose_64 ?_
      refine g_lsub C dX0_whose_65 ?_
      refine vlw_n hf (fun v47 hv47 hf => ?_)
      refine g_lstore (i := 10) (lv' := [(10, .long v47), (0, .ref (g.1 0)), (1, .int v26), (2, va_rf v27), (3, .int v28), (4, .long v29), (6, .long v30), (8, .int (bI v31)), (9, .int v32)]) C dX0_whose_66 hv47 (by decide) rfl ?_
      refine g_lload C dX0_whose_68 0 rfl ?_
      refine g_lconst C dX0_whose_70 kl_0 ?_
      refine g_lcmp C dX0_whose_71 ?_
      refine vlw_n hf (fun j55 hj55 hf => ?_)
      have Hj55 : ∀ (kc49 : Nat) (ks50 : Nat) (v48 : Bool), j55 kc49 ks50 v48 → ∀ cz51 sz52 : Nat, cz51 + kc49 ≤ X.2.2.2.1.cells → sz52 + ks50 ≤ X.2.2.2.1.slots → TG xCfg g A 12 X cz51 sz52 s45 78 [(0, .ref (g.1 0)), (1, .int v26), (2, va_rf v27), (3, .int v28), (4, .long v29), (6, .long v30), (8, .int (bI v48)), (9, .int v32), (10, .long v47)] [] := by
        clear hf; subst hj55
        intro kc49 ks50 v48 hf cz51 sz52 hc53 hs54
        refine g_lload C dX0_whose_78 8 rfl ?_
        refine g_lconst C dX0_whose_80 kl_0 ?_
        refine g_lcmp C dX0_whose_81 ?_
        refine vlw_n hf (fun j66 hj66 hf => ?_)
        have Hj66 : ∀ (kc60 : Nat) (ks61 : Nat) (v56 : Int32) (v57 : Int64) (v58 : Int64) (v59 : Bool), j66 kc60 ks61 v56 v57 v58 v59 → ∀ cz62 sz63 : Nat, cz62 + kc60 ≤ X.2.2.2.1.cells → sz63 + ks61 ≤ X.2.2.2.1.slots → TG xCfg g A 12 X cz62 sz63 s45 106 [(0, .ref (g.1 0)), (1, .int v26), (2, va_rf v27), (3, .int v56), (4, .long v57), (6, .long v58), (8, .int (bI v59)), (9, .int v32)] [] := by
          clear hf; subst hj66
          intro kc60 ks61 v56 v57 v58 v59 hf cz62 sz63 hc64 hs65
          refine g_iinc (q := 7) (lv' := [(9, .int (v32 + (1 : Int32))), (0, .ref (g.1 0)), (1, .int v26), (2, va_rf v27), (3, .int v56), (4, .long v57), (6, .long v58), (8, .int (bI v59))]) C dX0_whose_106 rfl kc_1 (by decide) rfl ?_
          refine g_goto 35 C dX0_whose_109 rfl ?_
          exact g_sub [1, 2, 3, 4, 5, 6, 7, 0] rfl (ih _ _ _ _ _ _ _ _ hf _ _ hc64 hs65)
        clear hj66
        refine g_if_gt 88 C dX0_whose_82 rfl (fun c67 => ?_) (fun c67 => ?_)
        · replace hf := ifw_t c67 hf
          refine g_iload C dX0_whose_88 7 rfl ?_
          refine g_istore_n (i := 3) (lv' := [(3, .int v32), (0, .ref (g.1 0)), (1, .int v26), (2, va_rf v27), (4, .long v29), (6, .long v30), (8, .int (bI v48)), (9, .int v32), (10, .long v47)]) C dX0_whose_90 rfl rfl (by decide) (by simp [va_rf_cat]) ?_
          refine g_aload_n C dX0_whose_91 1 rfl ?_
          refine g_getJ C oX0 fX0_528 dX0_whose_92 ?_
          refine vlw_n hf (fun v68 hv68 hf => ?_)
          refine g_lstore (i := 4) (lv' := [(4, .long v68), (3, .int v32), (0, .ref (g.1 0)), (1, .int v26), (2, va_rf v27), (6, .long v30), (8, .int (bI v48)), (9, .int v32), (10, .long v47)]) C dX0_whose_95 hv68 (by decide) rfl ?_
          refine g_aload_n C dX0_whose_97 2 rfl ?_
          refine g_getJ C oX0 fX0_532 dX0_whose_98 ?_
          refine vlw_n hf (fun v69 hv69 hf => ?_)
          refine g_lstore (i := 6) (lv' := [(6, .long v69), (4, .long v68), (3, .int v32), (0, .ref (g.1 0)), (1, .int v26), (2, va_rf v27), (8, .int (bI v48)), (9, .int v32), (10, .long v47)]) C dX0_whose_101 hv69 (by decide) rfl ?_
          refine g_iconst C dX0_whose_103 kc_1 ?_
          refine g_istore (i := 8) (lv' := [(8, .int (1 : Int32)), (6, .long v69), (4, .long v68), (3, .int v32), (0, .ref (g.1 0)), (1, .int v26), (2, va_rf v27), (9, .int v32), (10, .long v47)]) C dX0_whose_104 rfl (by decide) rfl ?_
          exact g_sub [4, 5, 6, 3, 2, 1, 0, 7] rfl (Hj66 _ _ _ _ _ _ hf _ _ hc53 hs54)
        · replace hf := ifw_f c67 hf
          refine g_goto 106 C dX0_whose_85 rfl ?_
          exact g_sub [0, 1, 2, 3, 4, 5, 6, 7] rfl (Hj66 _ _ _ _ _ _ hf _ _ hc53 hs54)
      clear hj55
      refine g_if_ne 78 C dX0_whose_72 rfl (fun c70 => ?_) (fun c70 => ?_)
      · replace hf := ifw_t c70 hf
        refine g_iconst C dX0_whose_75 kc_0 ?_
        refine g_istore (i := 8) (lv' := [(8, .int (0 : Int32)), (10, .long v47), (0, .ref (g.1 0)), (1, .int v26), (2, va_rf v27), (3, .int v28), (4, .long v29), (6, .long v30), (9, .int v32)]) C dX0_whose_76 rfl (by decide) rfl ?_
        exact g_sub [2, 3, 4, 5, 6, 7, 0, 8, 1] rfl (Hj55 _ _ _ hf _ _ hc24 hs25)
      · replace hf := ifw_f c70 hf
        exact g_sub [1, 2, 3, 4, 5, 6, 7, 8, 0] rfl (Hj55 _ _ _ hf _ _ hc24 hs25)
theorem w_yw_whose {l : Launch} {n : Nat} {kc ks : Nat} {s : Sto} {a1 : Int32} {R : Int32 → Sto → Prop} (hf : yw_whose n kc ks s a1 R) : Cw xCfg l yX0_whose cX0_whose 12 (some .int) { frames := 5, cells := kc, slots := ks, locals := 109 } (fun g => [.ref (g.1 0), .int a1]) s R (fun r => some (.int r)) := by
  refine Cw_of pn_X0 (fun g => Nat.le_of_ble_eq_true rfl) (fun g A X C E hX hcz hsz hin => ?_)
  rw [yw_whose] at hf
  show TG xCfg g A 12 X 0 0 s 0 [(0, .ref (g.1 0)), (1, .int a1)] []
  refine g_aload_n C dX0_whose_0 0 rfl ?_
  refine spx_n hf (fun kd1 kt2 kc3 ks4 e5 e6 hf => ?_)
  refine g_wcallV (As := []) (rest := []) C (w_yw_takesSeen hf) hX oX0 rfl rfl q982 q984 qs41 q88 q985 mdX0_takesSeen rfl ⟨Nat.le_of_ble_eq_true rfl, Nat.le_of_ble_eq_true rfl⟩ (Nat.le_of_ble_eq_true rfl) dX0_whose_1 ⟨sp_a hcz e5, sp_a hsz e6⟩ (fun r7 s8 hf => ?_)
  have hc12 := sp_b hcz e5
  have hs13 := sp_b hsz e6
  show TG xCfg g A 12 X (0 + kd1) (0 + kt2) s8 4 [(0, .ref (g.1 0)), (1, .int a1)] [va_rf r7]
  refine g_storeQ_n (i := 2) (lv' := [(2, va_rf r7), (0, .ref (g.1 0)), (1, .int a1)]) C dX0_whose_4 rfl (by decide) rfl ?_
  refine g_loadQ_n C dX0_whose_5 0 rfl ?_
  refine g_ifnull (r := r7) 18 C dX0_whose_6 rfl (fun c14 => ?_) (fun c14 => ?_)
  · replace hf := ifw_t c14 hf
    refine g_bipush C dX0_whose_18 kb_m2 ?_
    exact g_wreti (r := (-2 : Int32)) C E rfl rfl hf (le_b hc12) (le_b hs13) dX0_whose_20
  · replace hf := ifw_f c14 hf
    refine g_iload_n C dX0_whose_9 2 rfl ?_
    refine g_iconst C dX0_whose_10 kc_0 ?_
    refine g_iconst C dX0_whose_11 kc_1 ?_
    refine bdw_n hf (fun r15 s16 h17 hf => ?_)
    refine g_callS1 (As := [.int a1, .int (0 : Int32), .int (1 : Int32)]) (rest := []) (stk := [.int (bI r15)]) C (w_xw_isIn h17) hX rfl q381 q382 q88 q383 msX0_isIn rfl ⟨Nat.le_of_ble_eq_true rfl, Nat.le_of_ble_eq_true rfl⟩ (Nat.le_of_ble_eq_true rfl) dX0_whose_12 rfl (le_b hc12) (le_b hs13) ?_
    refine g_ifZ_ne 21 C dX0_whose_15 rfl (fun c18 => ?_) (fun c18 => ?_)
    · replace hf := ifw_t c18 hf
      refine g_iconst C dX0_whose_21 kc_m1 ?_
      refine g_istore_n (i := 3) (lv' := [(3, .int (-1 : Int32)), (2, va_rf r7), (0, .ref (g.1 0)), (1, .int a1)]) C dX0_whose_22 rfl rfl (by decide) (by simp [va_rf_cat]) ?_
      refine g_lconst C dX0_whose_23 kl_0 ?_
      refine g_lstore (i := 4) (lv' := [(4, .long (0 : Int64)), (3, .int (-1 : Int32)), (2, va_rf r7), (0, .ref (g.1 0)), (1, .int a1)]) C dX0_whose_24 rfl (by decide) rfl ?_
      refine g_lconst C dX0_whose_26 kl_1 ?_
      refine g_lstore (i := 6) (lv' := [(6, .long (1 : Int64)), (4, .long (0 : Int64)), (3, .int (-1 : Int32)), (2, va_rf r7), (0, .ref (g.1 0)), (1, .int a1)]) C dX0_whose_27 rfl (by decide) rfl ?_
      refine g_iconst C dX0_whose_29 kc_0 ?_
      refine g_istore (i := 8) (lv' := [(8, .int (0 : Int32)), (6, .long (1 : Int64)), (4, .long (0 : Int64)), (3, .int (-1 : Int32)), (2, va_rf r7), (0, .ref (g.1 0)), (1, .int a1)]) C dX0_whose_30 rfl (by decide) rfl ?_
      refine g_iconst C dX0_whose_32 kc_0 ?_
      refine g_istore (i := 9) (lv' := [(9, .int (0 : Int32)), (8, .int (0 : Int32)), (6, .long (1 : Int64)), (4, .long (0 : Int64)), (3, .int (-1 : Int32)), (2, va_rf r7), (0, .ref (g.1 0)), (1, .int a1)]) C dX0_whose_33 rfl (by decide) rfl ?_
      refine g_sub [6, 7, 5, 4, 3, 2, 1, 0] rfl (w_yw_whose_L35 C E hX (fun kc36 ks37 s33 v34 v35 hf cz38 sz39 hc40 hs41 => ?_) _ _ _ _ _ _ _ _ _ hf _ _ hc12 hs13)
      refine g_iload_n C dX0_whose_112 0 rfl ?_
      refine g_if_ne 120 C dX0_whose_113 rfl (fun c71 => ?_) (fun c71 => ?_)
      · replace hf := ifw_t c71 hf
        refine g_iload_n C dX0_whose_116 1 rfl ?_
        refine g_goto 130 C dX0_whose_117 rfl ?_
        exact g_wreti (r := v34) C E rfl rfl hf (le_b hc40) (le_b hs41) dX0_whose_130
      · replace hf := ifw_f c71 hf
        refine g_iload C dX0_whose_120 2 rfl ?_
        refine g_ifZ_eq 129 C dX0_whose_122 rfl (fun c72 => ?_) (fun c72 => ?_)
        · replace hf := ifw_t c72 hf
          refine g_iconst C dX0_whose_125 kc_1 ?_
          refine g_goto 130 C dX0_whose_126 rfl ?_
          exact g_wreti (r := (1 : Int32)) C E rfl rfl hf (le_b hc40) (le_b hs41) dX0_whose_130
        · replace hf := ifw_f c72 hf
          refine g_iconst C dX0_whose_129 kc_0 ?_
          exact g_wreti (r := (0 : Int32)) C E rfl rfl hf (le_b hc40) (le_b hs41) dX0_whose_130
    · replace hf := ifw_f c18 hf
      refine g_bipush C dX0_whose_18 kb_m2 ?_
      exact g_wreti (r := (-2 : Int32)) C E rfl rfl hf (le_b hc12) (le_b hs13) dX0_whose_20
def yw_must (n : Nat) (kc ks : Nat) (s : Sto) (a1 : Bool) (PX : Nat → Sto → Prop) (R : Unit → Sto → Prop) : Prop :=
  if a1 = true then
    R () s
  else
    spw kc ks 1 8 fun kc2 ks3 =>
    alw s fun q6 =>
    vl (pA s q6 (.inr (9, [.null, .null, .null, .null, .null, .int 0, .int 0, .int 0]))) fun s8 =>
    spx kc2 ks3 fun kd11 kt12 kc13 ks14 =>
    xf_init n kd11 kt12 s8 q6 (1 : Int32) (s8.1 0 7) fun r17 s18 =>
    gdw (isP s18 q6 9) <|
    PX q6 s18
theorem w_yw_must {l : Launch} {n : Nat} {kc ks : Nat} {s : Sto} {a1 : Bool} {PX : Nat → Sto → Prop} {R : Unit → Sto → Prop} (hf : yw_must n kc ks s a1 PX R) : Cx xCfg l yX0_must cX0_must 2 none { frames := 5, cells := kc, slots := ks, locals := 90 } (fun g => [.ref (g.1 0), .int (bI a1)]) s R (fun _ => none) PX := by
  refine Cx_of pn_X0 (fun g => Nat.le_of_ble_eq_true rfl) (fun g A X C E hX hcz hsz => ?_)
  rw [yw_must] at hf
  show TG xCfg g A 2 X 0 0 s 0 [(0, .ref (g.1 0)), (1, .int (bI a1))] []
  refine g_iload_n C dX0_must_0 1 rfl ?_
  refine g_ifZ_ne 17 C dX0_must_1 rfl (fun c1 => ?_) (fun c1 => ?_)
  · replace hf := ifw_t c1 hf
    exact g_yretv (r := ()) C E rfl hf (le_b hcz) (le_b hsz) dX0_must_17
  · replace hf := ifw_f c1 hf
    refine spw_n hf (fun kc2 ks3 e4 e5 hf => ?_)
    refine g_new C nX0_233 (sp_a hcz e4) (sp_a hsz e5) dX0_must_4 (fun q6 hq7 => ?_)
    replace hf := hf q6 hq7
    refine vlw_n hf (fun s8 hs8 hf => ?_)
    rw [← hs8]
    have hc9 := sp_b hcz e4
    have hs10 := sp_b hsz e5
    refine g_dup C dX0_must_7 rfl ?_
    refine g_iconst C dX0_must_8 kc_1 ?_
    refine g_aload_n C dX0_must_9 0 rfl ?_
    refine g_getI C oX0 fX0_171 dX0_must_10 ?_
    refine spx_n hf (fun kd11 kt12 kc13 ks14 e15 e16 hf => ?_)
    refine g_wcallI (As := [.int (1 : Int32), .int (s8.1 0 7)]) (rest := [.ref q6]) C (w_xf_init hf) hX rfl q575 q576 q105 q577 rfl msX5_init rfl ⟨Nat.le_of_ble_eq_true rfl, Nat.le_of_ble_eq_true rfl⟩ (Nat.le_of_ble_eq_true rfl) dX0_must_13 ⟨sp_a hc9 e15, sp_a hs10 e16⟩ (fun r17 s18 hf => ?_)
    have hc22 := sp_b hc9 e15
    have hs23 := sp_b hs10 e16
    show TG xCfg g A 2 X ((0 + 1) + kd11) ((0 + 8) + kt12) s18 16 [(0, .ref (g.1 0)), (1, .int (bI a1))] [.ref q6]
    refine gdw_n hf (fun c24 hf => ?_)
    exact g_athrow C dX0_must_16 (g_xout C E c24 rfl hf (le_b hc22) (le_b hs23))
def yw_takesSign (n : Nat) (kc ks : Nat) (s : Sto) (a1 : Int32) (PX : Nat → Sto → Prop) (R : Unit → Sto → Prop) : Prop :=
  bdw (xw_isSign n s a1) fun r1 s2 =>
  spx kc ks fun kd4 kt5 kc6 ks7 =>
  yw_must n kd4 kt5 s2 r1 (fun q s => isP s q 9 = true ∧ PX q s) fun r10 s11 =>
  bdw (xw_readNext n s11) fun r17 s18 =>
  R () s18
theorem w_yw_takesSign {l : Launch} {n : Nat} {kc ks : Nat} {s : Sto} {a1 : Int32} {PX : Nat → Sto → Prop} {R : Unit → Sto → Prop} (hf : yw_takesSign n kc ks s a1 PX R) : Cx xCfg l yX0_takesSign cX0_takesSign 2 none { frames := 8, cells := kc, slots := ks, locals := 162 } (fun g => [.ref (g.1 0), .int a1]) s R (fun _ => none) PX := by
  refine Cx_of pn_X0 (fun g => Nat.le_of_ble_eq_true rfl) (fun g A X C E hX hcz hsz => ?_)
  rw [yw_takesSign] at hf
  show TG xCfg g A 2 X 0 0 s 0 [(0, .ref (g.1 0)), (1, .int a1)] []
  refine g_aload_n C dX0_takesSign_0 0 rfl ?_
  refine g_aload_n C dX0_takesSign_1 0 rfl ?_
  refine g_iload_n C dX0_takesSign_2 1 rfl ?_
  refine bdw_n hf (fun r1 s2 h3 hf => ?_)
  refine g_callV1 (As := [.int a1]) (rest := [.ref (g.1 0)]) (stk := [.int (bI r1), .ref (g.1 0)]) C (w_xw_isSign h3) hX oX0 rfl rfl q640 q642 qs11 q88 q643 mdX0_isSign rfl ⟨Nat.le_of_ble_eq_true rfl, Nat.le_of_ble_eq_true rfl⟩ (Nat.le_of_ble_eq_true rfl) dX0_takesSign_3 rfl (le_b hcz) (le_b hsz) ?_
  refine spx_n hf (fun kd4 kt5 kc6 ks7 e8 e9 hf => ?_)
  refine g_ycallV (As := [.int (bI r1)]) (rest := []) C (w_yw_must hf) hX oX0 rfl rfl q535 q537 qs6 q88 q538 mdX0_must rfl ⟨Nat.le_of_ble_eq_true rfl, Nat.le_of_ble_eq_true rfl⟩ (Nat.le_of_ble_eq_true rfl) dX0_takesSign_6 ⟨sp_a hcz e8, sp_a hsz e9⟩ (fun q12 s13 hx14 => g_xout C E hx14.1 rfl hx14.2 (sp_a hcz e8) (sp_a hsz e9)) (fun r10 s11 hf => ?_)
  have hc15 := sp_b hcz e8
  have hs16 := sp_b hsz e9
  show TG xCfg g A 2 X (0 + kd4) (0 + kt5) s11 9 [(0, .ref (g.1 0)), (1, .int a1)] []
  refine g_aload_n C dX0_takesSign_9 0 rfl ?_
  refine bdw_n hf (fun r17 s18 h19 hf => ?_)
  refine g_callV1 (As := []) (rest := []) (stk := []) C (w_xw_readNext h19) hX oX0 rfl rfl q393 q395 qs2 q88 q396 mdX0_readNext rfl ⟨Nat.le_of_ble_eq_true rfl, Nat.le_of_ble_eq_true rfl⟩ (Nat.le_of_ble_eq_true rfl) dX0_takesSign_10 rfl (le_b hc15) (le_b hs16) ?_
  exact g_yretv (r := ()) C E rfl hf (le_b hc15) (le_b hs16) dX0_takesSign_13
def yw_unit (n : Nat) (kc ks : Nat) (s : Sto) (PX : Nat → Sto → Prop) (R : Option Nat → Sto → Prop) : Prop :=
  gdw (eOk (s.1 0 5)) <|
  if (s.1 0 5) = (Int32.ofNat (3 + 1)) then
    vl (s.1 0 8) fun v3 =>
    bdw (xw_readNext n s) fun r4 s5 =>
    spw kc ks 1 1 fun kc7 ks8 =>
    alw s5 fun q11 =>
    vl (pA s5 q11 (.inr (5, [.int 0]))) fun s13 =>
    spx kc7 ks8 fun kd16 kt17 kc18 ks19 =>
    xn_init n kd16 kt17 s13 q11 v3 fun r22 s23 =>
    R (some q11) s23
  else
    bdw (xw_wordOf n s 3) fun r29 s30 =>
    if r29 = (-1 : Int32) then
      spx kc ks fun kd33 kt34 kc35 ks36 =>
      yw_must n kd33 kt34 s30 false (fun q s => isP s q 9 = true ∧ PX q s) fun r39 s40 =>
      bdw (xw_readNext n s40) fun r46 s47 =>
      spw kc35 ks36 1 1 fun kc49 ks50 =>
      alw s47 fun q53 =>
      vl (pA s47 q53 (.inr (6, [.int 0]))) fun s55 =>
      spx kc49 ks50 fun kd58 kt59 kc60 ks61 =>
      xo_init n kd58 kt59 s55 q53 r29 fun r64 s65 =>
      R (some q53) s65
    else
      spx kc ks fun kd71 kt72 kc73 ks74 =>
      yw_must n kd71 kt72 s30 true (fun q s => isP s q 9 = true ∧ PX q s) fun r77 s78 =>
      bdw (xw_readNext n s78) fun r84 s85 =>
      spw kc73 ks74 1 1 fun kc87 ks88 =>
      alw s85 fun q91 =>
      vl (pA s85 q91 (.inr (6, [.int 0]))) fun s93 =>
      spx kc87 ks88 fun kd96 kt97 kc98 ks99 =>
      xo_init n kd96 kt97 s93 q91 r29 fun r102 s103 =>
      R (some q91) s103
theorem w_yw_unit {l : Launch} {n : Nat} {kc ks : Nat} {s : Sto} {PX : Nat → Sto → Prop} {R : Option Nat → Sto → Prop} (hf : yw_unit n kc ks s PX R) : Cx xCfg l yX0_unit cX0_unit 2 (some (.object "DoughDebts$Term")) { frames := 8, cells := kc, slots := ks, locals := 162 } (fun g => [.ref (g.1 0)]) s R (fun r => some (va_rf r)) PX := by
  refine Cx_of pn_X0 (fun g => Nat.le_of_ble_eq_true rfl) (fun g A X C E hX hcz hsz => ?_)
  rw [yw_unit] at hf
  show TG xCfg g A 2 X 0 0 s 0 [(0, .ref (g.1 0))] []
  refine g_aload_n C dX0_unit_0 0 rfl ?_
  refine g_getEf C oX0 fX0_182 dX0_unit_1 ?_
  refine g_getE (i := 3) C (by decide) rfl q473 dX0_unit_4 ?_
  refine gdw_n hf (fun c1 hf => ?_)
  refine g_acmpE_ne 28 C c1 (by decide) dX0_unit_7 rfl (fun c2 => ?_) (fun c2 => ?_)
  · replace hf := ifw_t c2 hf
    refine g_aload_n C dX0_unit_10 0 rfl ?_
    refine g_getI C oX0 fX0_198 dX0_unit_11 ?_
    refine vlw_n hf (fun v3 hv3 hf => ?_)
    refine g_istore_n (i := 1) (lv' := [(1, .int v3), (0, .ref (g.1 0))]) C dX0_unit_14 rfl hv3 (by decide) rfl ?_
    refine g_aload_n C dX0_unit_15 1 rfl ?_
    refine bdw_n hf (fun r4 s5 h6 hf => ?_)
    refine g_callV1 (As := []) (rest := []) (stk := []) C (w_xw_readNext h6) hX oX0 rfl rfl q393 q395 qs2 q88 q396 mdX0_readNext rfl ⟨Nat.le_of_ble_eq_true rfl, Nat.le_of_ble_eq_true rfl⟩ (Nat.le_of_ble_eq_true rfl) dX0_unit_16 rfl (le_b hcz) (le_b hsz) ?_
    refine spw_n hf (fun kc7 ks8 e9 e10 hf => ?_)
    refine g_new C nX0_249 (sp_a hcz e9) (sp_a hsz e10) dX0_unit_19 (fun q11 hq12 => ?_)
    replace hf := hf q11 hq12
    refine vlw_n hf (fun s13 hs13 hf => ?_)
    rw [← hs13]
    have hc14 := sp_b hcz e9
    have hs15 := sp_b hsz e10
    refine g_dup C dX0_unit_22 rfl ?_
    refine g_iload_n C dX0_unit_23 0 rfl ?_
    refine spx_n hf (fun kd16 kt17 kc18 ks19 e20 e21 hf => ?_)
    refine g_wcallI (As := [.int v3]) (rest := [.ref q11]) C (w_xn_init hf) hX rfl q619 q620 q107 q621 rfl msX7_init rfl ⟨Nat.le_of_ble_eq_true rfl, Nat.le_of_ble_eq_true rfl⟩ (Nat.le_of_ble_eq_true rfl) dX0_unit_24 ⟨sp_a hc14 e20, sp_a hs15 e21⟩ (fun r22 s23 hf => ?_)
    have hc27 := sp_b hc14 e20
    have hs28 := sp_b hs15 e21
    show TG xCfg g A 2 X ((0 + 1) + kd16) ((0 + 1) + kt17) s23 27 [(1, .int v3), (0, .ref (g.1 0))] [.ref q11]
    exact g_yreta (r := (some q11)) (v := (some q11)) C E (Or.inl ⟨_, rfl⟩) rfl hf (le_b hc27) (le_b hs28) dX0_unit_27
  · replace hf := ifw_f c2 hf
    refine g_aload_n C dX0_unit_28 0 rfl ?_
    refine g_aload_n C dX0_unit_29 0 rfl ?_
    refine g_getS 3 C oX0 fX0_41 rfl dX0_unit_30 ?_
    refine bdw_n hf (fun r29 s30 h31 hf => ?_)
    refine g_callV1 (As := [.ref (g.1 3)]) (rest := []) (stk := [.int r29]) C (w_xw_wordOf h31) hX oX0 rfl rfl q410 q412 qs4 q88 q413 mdX0_wordOf rfl ⟨Nat.le_of_ble_eq_true rfl, Nat.le_of_ble_eq_true rfl⟩ (Nat.le_of_ble_eq_true rfl) dX0_unit_33 rfl (le_b hcz) (le_b hsz) ?_
    refine g_istore_n (i := 1) (lv' := [(1, .int r29), (0, .ref (g.1 0))]) C dX0_unit_36 rfl rfl (by decide) rfl ?_
    refine g_aload_n C dX0_unit_37 1 rfl ?_
    refine g_iload_n C dX0_unit_38 0 rfl ?_
    refine g_iconst C dX0_unit_39 kc_m1 ?_
    refine g_icmp_eq 47 C dX0_unit_40 rfl (fun c32 => ?_) (fun c32 => ?_)
    · replace hf := ifw_t c32 hf
      refine g_iconst C dX0_unit_47 kc_0 ?_
      refine spx_n hf (fun kd33 kt34 kc35 ks36 e37 e38 hf => ?_)
      refine g_ycallV (As := [.int (bI false)]) (rest := []) C (w_yw_must hf) hX oX0 rfl rfl q535 q537 qs6 q88 q538 mdX0_must rfl ⟨Nat.le_of_ble_eq_true rfl, Nat.le_of_ble_eq_true rfl⟩ (Nat.le_of_ble_eq_true rfl) dX0_unit_48 ⟨sp_a hcz e37, sp_a hsz e38⟩ (fun q41 s42 hx43 => g_xout C E hx43.1 rfl hx43.2 (sp_a hcz e37) (sp_a hsz e38)) (fun r39 s40 hf => ?_)
      have hc44 := sp_b hcz e37
      have hs45 := sp_b hsz e38
      show TG xCfg g A 2 X (0 + kd33) (0 + kt34) s40 51 [(1, .int r29), (0, .ref (g.1 0))] []
      refine g_aload_n C dX0_unit_51 1 rfl ?_
      refine bdw_n hf (fun r46 s47 h48 hf => ?_)
      refine g_callV1 (As := []) (rest := []) (stk := []) C (w_xw_readNext h48) hX oX0 rfl rfl q393 q395 qs2 q88 q396 mdX0_readNext rfl ⟨Nat.le_of_ble_eq_true rfl, Nat.le_of_ble_eq_true rfl⟩ (Nat.le_of_ble_eq_true rfl) dX0_unit_52 rfl (le_b hc44) (le_b hs45) ?_
      refine spw_n hf (fun kc49 ks50 e51 e52 hf => ?_)
      refine g_new C nX0_253 (sp_a hc44 e51) (sp_a hs45 e52) dX0_unit_55 (fun q53 hq54 => ?_)
      replace hf := hf q53 hq54
      refine vlw_n hf (fun s55 hs55 hf => ?_)
      rw [← hs55]
      have hc56 := sp_b hc44 e51
      have hs57 := sp_b hs45 e52
      refine g_dup C dX0_unit_58 rfl ?_
      refine g_iload_n C dX0_unit_59 0 rfl ?_
      refine spx_n hf (fun kd58 kt59 kc60 ks61 e62 e63 hf => ?_)
      refine g_wcallI (As := [.int r29]) (rest := [.ref q53]) C (w_xo_init hf) hX rfl q632 q633 q108 q634 rfl msX8_init rfl ⟨Nat.le_of_ble_eq_true rfl, Nat.le_of_ble_eq_true rfl⟩ (Nat.le_of_ble_eq_true rfl) dX0_unit_60 ⟨sp_a hc56 e62, sp_a hs57 e63⟩ (fun r64 s65 hf => ?_)
      have hc69 := sp_b hc56 e62
      have hs70 := sp_b hs57 e63
      show TG xCfg g A 2 X (((0 + kd33) + 1) + kd58) (((0 + kt34) + 1) + kt59) s65 63 [(1, .int r29), (0, .ref (g.1 0))] [.ref q53]
      exact g_yreta (r := (some q53)) (v := (some q53)) C E (Or.inl ⟨_, rfl⟩) rfl hf (le_b hc69) (le_b hs70) dX0_unit_63
    · replace hf := ifw_f c32 hf
      refine g_iconst C dX0_unit_43 kc_1 ?_
      refine g_goto 48 C dX0_unit_44 rfl ?_
      refine spx_n hf (fun kd71 kt72 kc73 ks74 e75 e76 hf => ?_)
      refine g_ycallV (As := [.int (bI true)]) (rest := []) C (w_yw_must hf) hX oX0 rfl rfl q535 q537 qs6 q88 q538 mdX0_must rfl ⟨Nat.le_of_ble_eq_true rfl, Nat.le_of_ble_eq_true rfl⟩ (Nat.le_of_ble_eq_true rfl) dX0_unit_48 ⟨sp_a hcz e75, sp_a hsz e76⟩ (fun q79 s80 hx81 => g_xout C E hx81.1 rfl hx81.2 (sp_a hcz e75) (sp_a hsz e76)) (fun r77 s78 hf => ?_)
      have hc82 := sp_b hcz e75
      have hs83 := sp_b hsz e76
      show TG xCfg g A 2 X (0 + kd71) (0 + kt72) s78 51 [(1, .int r29), (0, .ref (g.1 0))] []
      refine g_aload_n C dX0_unit_51 1 rfl ?_
      refine bdw_n hf (fun r84 s85 h86 hf => ?_)
      refine g_callV1 (As := []) (rest := []) (stk := []) C (w_xw_readNext h86) hX oX0 rfl rfl q393 q395 qs2 q88 q396 mdX0_readNext rfl ⟨Nat.le_of_ble_eq_true rfl, Nat.le_of_ble_eq_true rfl⟩ (Nat.le_of_ble_eq_true rfl) dX0_unit_52 rfl (le_b hc82) (le_b hs83) ?_
      refine spw_n hf (fun kc87 ks88 e89 e90 hf => ?_)
      refine g_new C nX0_253 (sp_a hc82 e89) (sp_a hs83 e90) dX0_unit_55 (fun q91 hq92 => ?_)
      replace hf := hf q91 hq92
      refine vlw_n hf (fun s93 hs93 hf => ?_)
      rw [← hs93]
      have hc94 := sp_b hc82 e89
      have hs95 := sp_b hs83 e90
      refine g_dup C dX0_unit_58 rfl ?_
      refine g_iload_n C dX0_unit_59 0 rfl ?_
      refine spx_n hf (fun kd96 kt97 kc98 ks99 e100 e101 hf => ?_)
      refine g_wcallI (As := [.int r29]) (rest := [.ref q91]) C (w_xo_init hf) hX rfl q632 q633 q108 q634 rfl msX8_init rfl ⟨Nat.le_of_ble_eq_true rfl, Nat.le_of_ble_eq_true rfl⟩ (Nat.le_of_ble_eq_true rfl) dX0_unit_60 ⟨sp_a hc94 e100, sp_a hs95 e101⟩ (fun r102 s103 hf => ?_)
      have hc107 := sp_b hc94 e100
      have hs108 := sp_b hs95 e101
      show TG xCfg g A 2 X (((0 + kd71) + 1) + kd96) (((0 + kt72) + 1) + kt97) s103 63 [(1, .int r29), (0, .ref (g.1 0))] [.ref q91]
      exact g_yreta (r := (some q91)) (v := (some q91)) C E (Or.inl ⟨_, rfl⟩) rfl hf (le_b hc107) (le_b hs108) dX0_unit_63
def yw_product_L5 (n : Nat) (R : Option Nat → Sto → Prop) (PX : Nat → Sto → Prop) : Nat → Nat → Nat → Sto → Option Nat → Prop
  | 0, _, _, _, _ => False
  | k + 1, kc15, ks16, s14, v21 =>
    bdw (xw_isSign n s14 (42 : Int32)) fun r22 s23 =>
    vl (fun (kc26 : Nat) (ks27 : Nat) (s25 : Sto) =>
      vl (i2c (s25.1 0 8)) fun v33 =>
      bdw (xw_readNext n s25) fun r34 s35 =>
      vl (fun (kc38 : Nat) (ks39 : Nat) (s37 : Sto) =>
        spw kc38 ks39 1 3 fun kc45 ks46 =>
        alw s37 fun q49 =>
        vl (pA s37 q49 (.inr (8, [.int 0, .null, .null]))) fun s51 =>
        spx kc45 ks46 fun kd54 kt55 kc56 ks57 =>
        yw_unit n kd54 kt55 s51 (fun q s => isP s q 9 = true ∧ PX q s) fun r60 s61 =>
        spx kc56 ks57 fun kd67 kt68 kc69 ks70 =>
        xz_init n kd67 kt68 s61 q49 v33 v21 r60 fun r73 s74 =>
        yw_product_L5 n R PX k kc69 ks70 s74 (some q49)) fun j44 =>
      if v33 = (47 : Int32) then
        vl (fun (kc82 : Nat) (ks83 : Nat) (t81 : Bool) =>
          spx kc82 ks83 fun kd89 kt90 kc91 ks92 =>
          yw_must n kd89 kt90 s35 t81 (fun q s => isP s q 9 = true ∧ PX q s) fun r95 s96 =>
          if (s96.1 0 8) = 0 then
            spw kc91 ks92 1 8 fun kc103 ks104 =>
            alw s96 fun q107 =>
            vl (pA s96 q107 (.inr (9, [.null, .null, .null, .null, .null, .int 0, .int 0, .int 0]))) fun s109 =>
            spx kc103 ks104 fun kd112 kt113 kc114 ks115 =>
            xf_init n kd112 kt113 s109 q107 (2 : Int32) (s109.1 0 7) fun r118 s119 =>
            gdw (isP s119 q107 9) <|
            PX q107 s119
          else
            j44 kc91 ks92 s96) fun j88 =>
        gdw (eOk (s35.1 0 5)) <|
        if (s35.1 0 5) = (Int32.ofNat (3 + 1)) then
          j88 kc26 ks27 true
        else
          j88 kc26 ks27 false
      else
        j44 kc26 ks27 s35) fun j32 =>
    if r22 = true then
      j32 kc15 ks16 s23
    else
      bdw (xw_isSign n s23 (47 : Int32)) fun r129 s130 =>
      if r129 = true then
        j32 kc15 ks16 s130
      else
        R v21 s130
def yw_product (n : Nat) (kc ks : Nat) (s : Sto) (PX : Nat → Sto → Prop) (R : Option Nat → Sto → Prop) : Prop :=
  spx kc ks fun kd1 kt2 kc3 ks4 =>
  yw_unit n kd1 kt2 s (fun q s => isP s q 9 = true ∧ PX q s) fun r7 s8 =>
  yw_product_L5 n R PX
      n kc3 ks4 s8 r7
theorem w_yw_product_L5 {l : Launch} {n : Nat} {R : Option Nat → Sto → Prop} {PX : Nat → Sto → Prop} {g : Gam} {A : Nat → Prop} {X : FX} {si : Sto} (C : CX xCfg g A 3 X cX0_product RX0 (some (.object "DoughDebts$Term")) 9 183) (E : EY xCfg g A X si R (fun r => some (va_rf r)) PX) (hX : X.2.1 = l) : ∀ (k kc15 ks16 : Nat) (s14 : Sto) (v21 : Option Nat), yw_product_L5 n R PX k kc15 ks16 s14 v21 → ∀ cz17 sz18 : Nat, cz17 + kc15 ≤ X.2.2.2.1.cells → sz18 + ks16 ≤ X.2.2.2.1.slots → TG xCfg g A 3 X cz17 sz18 s14 5 [(0, .ref (g.1 0)), (1, va_rf v21)] [] := by
  intro k
  induction k with
  | zero => intro kc15 ks16 s14 v21 hf; rw [yw_product_L5] at hf; exact hf.elim
  | succ k ih =>
    intro kc15 ks16 s14 v21 hf cz17 sz18 hc19 hs20
    rw [yw_product_L5] at hf
    refine g_aload_n C dX0_product_5 0 rfl ?_
    refine g_bipush C dX0_product_6 kb_42 ?_
    refine bdw_n hf (fun r22 s23 h24 hf => ?_)
    refine g_callV1 (As := [.int (42 : Int32)]) (rest := []) (stk := [.int (bI r22)]) C (w_xw_isSign h24) hX oX0 rfl rfl q640 q642 qs11 q88 q643 mdX0_isSign rfl ⟨Nat.le_of_ble_eq_true rfl, Nat.le_of_ble_eq_true rfl⟩ (Nat.le_of_ble_eq_true rfl) dX0_product_8 rfl (le_b hc19) (le_b hs20) ?_
    refine vlw_n hf (fun j32 hj32 hf => ?_)
    have Hj32 : ∀ (kc26 : Nat) (ks27 : Nat) (s25 : Sto), j32 kc26 ks27 s25 → ∀ cz28 sz29 : Nat, cz28 + kc26 ≤ X.2.2.2.1.cells → sz29 + ks27 ≤ X.2.2.2.1.slots → TG xCfg g A 3 X cz28 sz29 s25 23 [(0, .ref (g.1 0)), (1, va_rf v21)] [] := by
      clear hf; subst hj32
      intro kc26 ks27 s25 hf cz28 sz29 hc30 hs31
      refine g_aload_n C dX0_product_23 0 rfl ?_
      refine g_getI C oX0 fX0_198 dX0_product_24 ?_
      refine g_i2c C dX0_product_27 ?_
      refine vlw_n hf (fun v33 hv33 hf => ?_)
      refine g_istore_n (i := 2) (lv' := [(2, .int v33), (0, .ref (g.1 0)), (1, va_rf v21)]) C dX0_product_28 rfl hv33 (by decide) (by simp [va_rf_cat]) ?_
      refine g_aload_n C dX0_product_29 1 rfl ?_
      refine bdw_n hf (fun r34 s35 h36 hf => ?_)
      refine g_callV1 (As := []) (rest := []) (stk := []) C (w_xw_readNext h36) hX oX0 rfl rfl q393 q395 qs2 q88 q396 mdX0_readNext rfl ⟨Nat.le_of_ble_eq_true rfl, Nat.le_of_ble_eq_true rfl⟩ (Nat.le_of_ble_eq_true rfl) dX0_product_30 rfl (le_b hc30) (le_b hs31) ?_
      refine g_iload_n C dX0_product_33 0 rfl ?_
      refine g_bipush C dX0_product_34 kb_47 ?_
      refine vlw_n hf (fun j44 hj44 hf => ?_)
      have Hj44 : ∀ (kc38 : Nat) (ks39 : Nat) (s37 : Sto), j44 kc38 ks39 s37 → ∀ cz40 sz41 : Nat, cz40 + kc38 ≤ X.2.2.2.1.cells → sz41 + ks39 ≤ X.2.2.2.1.slots → TG xCfg g A 3 X cz40 sz41 s37 78 [(0, .ref (g.1 0)), (1, va_rf v21), (2, .int v33)] [] := by
        clear hf; subst hj44
        intro kc38 ks39 s37 hf cz40 sz41 hc42 hs43
        refine spw_n hf (fun kc45 ks46 e47 e48 hf => ?_)
        refine g_new C nX0_260 (sp_a hc42 e47) (sp_a hs43 e48) dX0_product_78 (fun q49 hq50 => ?_)
        replace hf := hf q49 hq50
        refine vlw_n hf (fun s51 hs51 hf => ?_)
        rw [← hs51]
        have hc52 := sp_b hc42 e47
        have hs53 := sp_b hs43 e48
        refine g_dup C dX0_product_81 rfl ?_
        refine g_iload_n C dX0_product_82 2 rfl ?_
        refine g_loadQ_n C dX0_product_83 1 rfl ?_
        refine g_aload_n C dX0_product_84 0 rfl ?_
        refine spx_n hf (fun kd54 kt55 kc56 ks57 e58 e59 hf => ?_)
        refine g_ycallV (As := []) (rest := [va_rf v21, .int v33, .ref q49, .ref q49]) C (w_yw_unit hf) hX oX0 rfl rfl q613 q615 qs10 q88 q616 mdX0_unit rfl ⟨Nat.le_of_ble_eq_true rfl, Nat.le_of_ble_eq_true rfl⟩ (by simp only [List.map_cons, List.map_nil, va_rf_cat]; exact Nat.le_of_ble_eq_true rfl) dX0_product_85 ⟨sp_a hc52 e58, sp_a hs53 e59⟩ (fun q62 s63 hx64 => g_xout C E hx64.1 rfl hx64.2 (sp_a hc52 e58) (sp_a hs53 e59)) (fun r60 s61 hf => ?_)
        have hc65 := sp_b hc52 e58
        have hs66 := sp_b hs53 e59
        show TG xCfg g A 3 X ((cz40 + 1) + kd54) ((sz41 + 3) + kt55) s61 88 [(0, .ref (g.1 0)), (1, va_rf v21), (2, .int v33)] [va_rf r60, va_rf v21, .int v33, .ref q49, .ref q49]
        refine spx_n hf (fun kd67 kt68 kc69 ks70 e71 e72 hf => ?_)
        refine g_wcallI (As := [.int v33, va_rf v21, va_rf r60]) (rest := [.ref q49]) C (w_xz_init hf) hX rfl q646 q647 q109 q648 rfl msX9_init rfl ⟨Nat.le_of_ble_eq_true rfl, Nat.le_of_ble_eq_true rfl⟩ (Nat.le_of_ble_eq_true rfl) dX0_product_88 ⟨sp_a hc65 e71, sp_a hs66 e72⟩ (fun r73 s74 hf => ?_)
        have hc78 := sp_b hc65 e71
        have hs79 := sp_b hs66 e72
        show TG xCfg g A 3 X (((cz40 + 1) + kd54) + kd67) (((sz41 + 3) + kt55) + kt68) s74 91 [(0, .ref (g.1 0)), (1, va_rf v21), (2, .int v33)] [.ref q49]
        refine g_astore_n (i := 1) (lv' := [(1, .ref q49), (0, .ref (g.1 0)), (2, .int v33)]) C dX0_product_91 rfl rfl (by decide) rfl ?_
        refine g_goto 5 C dX0_product_92 rfl ?_
        exact g_sub [1, 0] rfl (ih _ _ _ _ hf _ _ hc78 hs79)
      clear hj44
      refine g_icmp_ne 78 C dX0_product_36 rfl (fun c80 => ?_) (fun c80 => ?_)
      · replace hf := ifw_t c80 hf
        refine g_aload_n C dX0_product_39 1 rfl ?_
        refine g_aload_n C dX0_product_40 1 rfl ?_
        refine g_getEf C oX0 fX0_182 dX0_product_41 ?_
        refine g_getE (i := 3) C (by decide) rfl q473 dX0_product_44 ?_
        refine vlw_n hf (fun j88 hj88 hf => ?_)
        have Hj88 : ∀ (kc82 : Nat) (ks83 : Nat) (t81 : Bool), j88 kc82 ks83 t81 → ∀ cz84 sz85 : Nat, cz84 + kc82 ≤ X.2.2.2.1.cells → sz85 + ks83 ≤ X.2.2.2.1.slots → TG xCfg g A 3 X cz84 sz85 s35 55 [(0, .ref (g.1 0)), (1, va_rf v21), (2, .int v33)] [.int (bI t81), .ref (g.1 0)] := by
          clear hf; subst hj88
          intro kc82 ks83 t81 hf cz84 sz85 hc86 hs87
          refine spx_n hf (fun kd89 kt90 kc91 ks92 e93 e94 hf => ?_)
          refine g_ycallV (As := [.int (bI t81)]) (rest := []) C (w_yw_must hf) hX oX0 rfl rfl q535 q537 qs6 q88 q538 mdX0_must rfl ⟨Nat.le_of_ble_eq_true rfl, Nat.le_of_ble_eq_true rfl⟩ (Nat.le_of_ble_eq_true rfl) dX0_product_55 ⟨sp_a hc86 e93, sp_a hs87 e94⟩ (fun q97 s98 hx99 => g_xout C E hx99.1 rfl hx99.2 (sp_a hc86 e93) (sp_a hs87 e94)) (fun r95 s96 hf => ?_)
          have hc100 := sp_b hc86 e93
          have hs101 := sp_b hs87 e94
          show TG xCfg g A 3 X (cz84 + kd89) (sz85 + kt90) s96 58 [(0, .ref (g.1 0)), (1, va_rf v21), (2, .int v33)] []
          refine g_aload_n C dX0_product_58 0 rfl ?_
          refine g_getI C oX0 fX0_198 dX0_product_59 ?_
          refine g_if_ne 78 C dX0_product_62 rfl (fun c102 => ?_) (fun c102 => ?_)
          · replace hf := ifw_t c102 hf
            refine spw_n hf (fun kc103 ks104 e105 e106 hf => ?_)
            refine g_new C nX0_233 (sp_a hc100 e105) (sp_a hs101 e106) dX0_product_65 (fun q107 hq108 => ?_)
            replace hf := hf q107 hq108
            refine vlw_n hf (fun s109 hs109 hf => ?_)
            rw [← hs109]
            have hc110 := sp_b hc100 e105
            have hs111 := sp_b hs101 e106
            refine g_dup C dX0_product_68 rfl ?_
            refine g_iconst C dX0_product_69 kc_2 ?_
            refine g_aload_n C dX0_product_70 0 rfl ?_
            refine g_getI C oX0 fX0_171 dX0_product_71 ?_
            refine spx_n hf (fun kd112 kt113 kc114 ks115 e116 e117 hf => ?_)
            refine g_wcallI (As := [.int (2 : Int32), .int (s109.1 0 7)]) (rest := [.ref q107]) C (w_xf_init hf) hX rfl q575 q576 q105 q577 rfl msX5_init rfl ⟨Nat.le_of_ble_eq_true rfl, Nat.le_of_ble_eq_true rfl⟩ (Nat.le_of_ble_eq_true rfl) dX0_product_74 ⟨sp_a hc110 e116, sp_a hs111 e117⟩ (fun r118 s119 hf => ?_)
            have hc123 := sp_b hc110 e116
            have hs124 := sp_b hs111 e117
            show TG xCfg g A 3 X (((cz84 + kd89) + 1) + kd112) (((sz85 + kt90) + 8) + kt113) s119 77 [(0, .ref (g.1 0)), (1, va_rf v21), (2, .int v33)] [.ref q107]
            refine gdw_n hf (fun c125 hf => ?_)
            exact g_athrow C dX0_product_77 (g_xout C E c125 rfl hf (le_b hc123) (le_b hs124))
          · replace hf := ifw_f c102 hf
            exact g_sub [0, 1, 2] rfl (Hj44 _ _ _ hf _ _ hc100 hs101)
        clear hj88
        refine gdw_n hf (fun c126 hf => ?_)
        refine g_acmpE_ne 54 C c126 (by decide) dX0_product_47 rfl (fun c127 => ?_) (fun c127 => ?_)
        · replace hf := ifw_t c127 hf
          refine g_iconst C dX0_product_50 kc_1 ?_
          refine g_goto 55 C dX0_product_51 rfl ?_
          exact g_sub [1, 2, 0] rfl (Hj88 _ _ _ hf _ _ hc30 hs31)
        · replace hf := ifw_f c127 hf
          refine g_iconst C dX0_product_54 kc_0 ?_
          exact g_sub [1, 2, 0] rfl (Hj88 _ _ _ hf _ _ hc30 hs31)
      · replace hf := ifw_f c80 hf
        exact g_sub [1, 2, 0] rfl (Hj44 _ _ _ hf _ _ hc30 hs31)
    clear hj32
    refine g_ifZ_ne 23 C dX0_product_11 rfl (fun c128 => ?_) (fun c128 => ?_)
    · replace hf := ifw_t c128 hf
      exact g_sub [0, 1] rfl (Hj32 _ _ _ hf _ _ hc19 hs20)
    · replace hf := ifw_f c128 hf
      refine g_aload_n C dX0_product_14 0 rfl ?_
      refine g_bipush C dX0_product_15 kb_47 ?_
      refine bdw_n hf (fun r129 s130 h131 hf => ?_)
      refine g_callV1 (As := [.int (47 : Int32)]) (rest := []) (stk := [.int (bI r129)]) C (w_xw_isSign h131) hX oX0 rfl rfl q640 q642 qs11 q88 q643 mdX0_isSign rfl ⟨Nat.le_of_ble_eq_true rfl, Nat.le_of_ble_eq_true rfl⟩ (Nat.le_of_ble_eq_true rfl) dX0_product_17 rfl (le_b hc19) (le_b hs20) ?_
      refine g_ifZ_eq 95 C dX0_product_20 rfl (fun c132 => ?_) (fun c132 => ?_)
      · replace hf := ifw_t c132 hf
        exact g_sub [0, 1] rfl (Hj32 _ _ _ hf _ _ hc19 hs20)
      · replace hf := ifw_f c132 hf
        refine g_loadQ_n C dX0_product_95 1 rfl ?_
        exact g_yreta (r := v21) (v := v21) C E (Or.inl ⟨_, rfl⟩) rfl hf (le_b hc19) (le_b hs20) dX0_product_96
theorem w_yw_product {l : Launch} {n : Nat} {kc ks : Nat} {s : Sto} {PX : Nat → Sto → Prop} {R : Option Nat → Sto → Prop} (hf : yw_product n kc ks s PX R) : Cx xCfg l yX0_product cX0_product 3 (some (.object "DoughDebts$Term")) { frames := 9, cells := kc, slots := ks, locals := 183 } (fun g => [.ref (g.1 0)]) s R (fun r => some (va_rf r)) PX := by
  refine Cx_of pn_X0 (fun g => Nat.le_of_ble_eq_true rfl) (fun g A X C E hX hcz hsz => ?_)
  rw [yw_product] at hf
  show TG xCfg g A 3 X 0 0 s 0 [(0, .ref (g.1 0))] []
  refine g_aload_n C dX0_product_0 0 rfl ?_
  refine spx_n hf (fun kd1 kt2 kc3 ks4 e5 e6 hf => ?_)
  refine g_ycallV (As := []) (rest := []) C (w_yw_unit hf) hX oX0 rfl rfl q613 q615 qs10 q88 q616 mdX0_unit rfl ⟨Nat.le_of_ble_eq_true rfl, Nat.le_of_ble_eq_true rfl⟩ (Nat.le_of_ble_eq_true rfl) dX0_product_1 ⟨sp_a hcz e5, sp_a hsz e6⟩ (fun q9 s10 hx11 => g_xout C E hx11.1 rfl hx11.2 (sp_a hcz e5) (sp_a hsz e6)) (fun r7 s8 hf => ?_)
  have hc12 := sp_b hcz e5
  have hs13 := sp_b hsz e6
  show TG xCfg g A 3 X (0 + kd1) (0 + kt2) s8 4 [(0, .ref (g.1 0))] [va_rf r7]
  refine g_storeQ_n (i := 1) (lv' := [(1, va_rf r7), (0, .ref (g.1 0))]) C dX0_product_4 rfl (by decide) rfl ?_
  refine g_sub [1, 0] rfl (w_yw_product_L5 C E hX _ _ _ _ _ hf _ _ hc12 hs13)
def yw_sum_L5 (n : Nat) (R : Option Nat → Sto → Prop) (PX : Nat → Sto → Prop) : Nat → Nat → Nat → Sto → Option Nat → Prop
  | 0, _, _, _, _ => False
  | k + 1, kc15, ks16, s14, v21 =>
    bdw (xw_isSign n s14 (43 : Int32)) fun r22 s23 =>
    vl (fun (kc26 : Nat) (ks27 : Nat) (s25 : Sto) =>
      vl (i2c (s25.1 0 8)) fun v33 =>
      bdw (xw_readNext n s25) fun r34 s35 =>
      spw kc26 ks27 1 3 fun kc37 ks38 =>
      alw s35 fun q41 =>
      vl (pA s35 q41 (.inr (8, [.int 0, .null, .null]))) fun s43 =>
      spx kc37 ks38 fun kd46 kt47 kc48 ks49 =>
      yw_product n kd46 kt47 s43 (fun q s => isP s q 9 = true ∧ PX q s) fun r52 s53 =>
      spx kc48 ks49 fun kd59 kt60 kc61 ks62 =>
      xz_init n kd59 kt60 s53 q41 v33 v21 r52 fun r65 s66 =>
      yw_sum_L5 n R PX k kc61 ks62 s66 (some q41)) fun j32 =>
    if r22 = true then
      j32 kc15 ks16 s23
    else
      bdw (xw_isSign n s23 (45 : Int32)) fun r73 s74 =>
      if r73 = true then
        j32 kc15 ks16 s74
      else
        R v21 s74
def yw_sum (n : Nat) (kc ks : Nat) (s : Sto) (PX : Nat → Sto → Prop) (R : Option Nat → Sto → Prop) : Prop :=
  spx kc ks fun kd1 kt2 kc3 ks4 =>
  yw_product n kd1 kt2 s (fun q s => isP s q 9 = true ∧ PX q s) fun r7 s8 =>
  yw_sum_L5 n R PX
      n kc3 ks4 s8 r7
theorem w_yw_sum_L5 {l : Launch} {n : Nat} {R : Option Nat → Sto → Prop} {PX : Nat → Sto → Prop} {g : Gam} {A : Nat → Prop} {X : FX} {si : Sto} (C : CX xCfg g A 3 X cX0_sum RX0 (some (.object "DoughDebts$Term")) 10 205) (E : EY xCfg g A X si R (fun r => some (va_rf r)) PX) (hX : X.2.1 = l) : ∀ (k kc15 ks16 : Nat) (s14 : Sto) (v21 : Option Nat), yw_sum_L5 n R PX k kc15 ks16 s14 v21 → ∀ cz17 sz18 : Nat, cz17 + kc15 ≤ X.2.2.2.1.cells → sz18 + ks16 ≤ X.2.2.2.1.slots → TG xCfg g A 3 X cz17 sz18 s14 5 [(0, .ref (g.1 0)), (1, va_rf v21)] [] := by
  intro k
  induction k with
  | zero => intro kc15 ks16 s14 v21 hf; rw [yw_sum_L5] at hf; exact hf.elim
  | succ k ih =>
    intro kc15 ks16 s14 v21 hf cz17 sz18 hc19 hs20
    rw [yw_sum_L5] at hf
    refine g_aload_n C dX0_sum_5 0 rfl ?_
    refine g_bipush C dX0_sum_6 kb_43 ?_
    refine bdw_n hf (fun r22 s23 h24 hf => ?_)
    refine g_callV1 (As := [.int (43 : Int32)]) (rest := []) (stk := [.int (bI r22)]) C (w_xw_isSign h24) hX oX0 rfl rfl q640 q642 qs11 q88 q643 mdX0_isSign rfl ⟨Nat.le_of_ble_eq_true rfl, Nat.le_of_ble_eq_true rfl⟩ (Nat.le_of_ble_eq_true rfl) dX0_sum_8 rfl (le_b hc19) (le_b hs20) ?_
    refine vlw_n hf (fun j32 hj32 hf => ?_)
    have Hj32 : ∀ (kc26 : Nat) (ks27 : Nat) (s25 : Sto), j32 kc26 ks27 s25 → ∀ cz28 sz29 : Nat, cz28 + kc26 ≤ X.2.2.2.1.cells → sz29 + ks27 ≤ X.2.2.2.1.slots → TG xCfg g A 3 X cz28 sz29 s25 23 [(0, .ref (g.1 0)), (1, va_rf v21)] [] := by
      clear hf; subst hj32
      intro kc26 ks27 s25 hf cz28 sz29 hc30 hs31
      refine g_aload_n C dX0_sum_23 0 rfl ?_
      refine g_getI C oX0 fX0_198 dX0_sum_24 ?_
      refine g_i2c C dX0_sum_27 ?_
      refine vlw_n hf (fun v33 hv33 hf => ?_)
      refine g_istore_n (i := 2) (lv' := [(2, .int v33), (0, .ref (g.1 0)), (1, va_rf v21)]) C dX0_sum_28 rfl hv33 (by decide) (by simp [va_rf_cat]) ?_
      refine g_aload_n C dX0_sum_29 1 rfl ?_
      refine bdw_n hf (fun r34 s35 h36 hf => ?_)
      refine g_callV1 (As := []) (rest := []) (stk := []) C (w_xw_readNext h36) hX oX0 rfl rfl q393 q395 qs2 q88 q396 mdX0_readNext rfl ⟨Nat.le_of_ble_eq_true rfl, Nat.le_of_ble_eq_true rfl⟩ (Nat.le_of_ble_eq_true rfl) dX0_sum_30 rfl (le_b hc30) (le_b hs31) ?_
      refine spw_n hf (fun kc37 ks38 e39 e40 hf => ?_)
      refine g_new C nX0_260 (sp_a hc30 e39) (sp_a hs31 e40) dX0_sum_33 (fun q41 hq42 => ?_)
      replace hf := hf q41 hq42
      refine vlw_n hf (fun s43 hs43 hf => ?_)
      rw [← hs43]
      have hc44 := sp_b hc30 e39
      have hs45 := sp_b hs31 e40
      refine g_dup C dX0_sum_36 rfl ?_
      refine g_iload_n C dX0_sum_37 0 rfl ?_
      refine g_loadQ_n C dX0_sum_38 2 rfl ?_
      refine g_aload_n C dX0_sum_39 1 rfl ?_
      refine spx_n hf (fun kd46 kt47 kc48 ks49 e50 e51 hf => ?_)
      refine g_ycallV (As := []) (rest := [va_rf v21, .int v33, .ref q41, .ref q41]) C (w_yw_product hf) hX oX0 rfl rfl q609 q611 qs9 q88 q612 mdX0_product rfl ⟨Nat.le_of_ble_eq_true rfl, Nat.le_of_ble_eq_true rfl⟩ (by simp only [List.map_cons, List.map_nil, va_rf_cat]; exact Nat.le_of_ble_eq_true rfl) dX0_sum_40 ⟨sp_a hc44 e50, sp_a hs45 e51⟩ (fun q54 s55 hx56 => g_xout C E hx56.1 rfl hx56.2 (sp_a hc44 e50) (sp_a hs45 e51)) (fun r52 s53 hf => ?_)
      have hc57 := sp_b hc44 e50
      have hs58 := sp_b hs45 e51
      show TG xCfg g A 3 X ((cz28 + 1) + kd46) ((sz29 + 3) + kt47) s53 43 [(2, .int v33), (0, .ref (g.1 0)), (1, va_rf v21)] [va_rf r52, va_rf v21, .int v33, .ref q41, .ref q41]
      refine spx_n hf (fun kd59 kt60 kc61 ks62 e63 e64 hf => ?_)
      refine g_wcallI (As := [.int v33, va_rf v21, va_rf r52]) (rest := [.ref q41]) C (w_xz_init hf) hX rfl q646 q647 q109 q648 rfl msX9_init rfl ⟨Nat.le_of_ble_eq_true rfl, Nat.le_of_ble_eq_true rfl⟩ (Nat.le_of_ble_eq_true rfl) dX0_sum_43 ⟨sp_a hc57 e63, sp_a hs58 e64⟩ (fun r65 s66 hf => ?_)
      have hc70 := sp_b hc57 e63
      have hs71 := sp_b hs58 e64
      show TG xCfg g A 3 X (((cz28 + 1) + kd46) + kd59) (((sz29 + 3) + kt47) + kt60) s66 46 [(2, .int v33), (0, .ref (g.1 0)), (1, va_rf v21)] [.ref q41]
      refine g_astore_n (i := 1) (lv' := [(1, .ref q41), (2, .int v33), (0, .ref (g.1 0))]) C dX0_sum_46 rfl rfl (by decide) rfl ?_
      refine g_goto 5 C dX0_sum_47 rfl ?_
      exact g_sub [2, 0] rfl (ih _ _ _ _ hf _ _ hc70 hs71)
    clear hj32
    refine g_ifZ_ne 23 C dX0_sum_11 rfl (fun c72 => ?_) (fun c72 => ?_)
    · replace hf := ifw_t c72 hf
      exact g_sub [0, 1] rfl (Hj32 _ _ _ hf _ _ hc19 hs20)
    · replace hf := ifw_f c72 hf
      refine g_aload_n C dX0_sum_14 0 rfl ?_
      refine g_bipush C dX0_sum_15 kb_45 ?_
      refine bdw_n hf (fun r73 s74 h75 hf => ?_)
      refine g_callV1 (As := [.int (45 : Int32)]) (rest := []) (stk := [.int (bI r73)]) C (w_xw_isSign h75) hX oX0 rfl rfl q640 q642 qs11 q88 q643 mdX0_isSign rfl ⟨Nat.le_of_ble_eq_true rfl, Nat.le_of_ble_eq_true rfl⟩ (Nat.le_of_ble_eq_true rfl) dX0_sum_17 rfl (le_b hc19) (le_b hs20) ?_
      refine g_ifZ_eq 50 C dX0_sum_20 rfl (fun c76 => ?_) (fun c76 => ?_)
      · replace hf := ifw_t c76 hf
        exact g_sub [0, 1] rfl (Hj32 _ _ _ hf _ _ hc19 hs20)
      · replace hf := ifw_f c76 hf
        refine g_loadQ_n C dX0_sum_50 1 rfl ?_
        exact g_yreta (r := v21) (v := v21) C E (Or.inl ⟨_, rfl⟩) rfl hf (le_b hc19) (le_b hs20) dX0_sum_51
theorem w_yw_sum {l : Launch} {n : Nat} {kc ks : Nat} {s : Sto} {PX : Nat → Sto → Prop} {R : Option Nat → Sto → Prop} (hf : yw_sum n kc ks s PX R) : Cx xCfg l yX0_sum cX0_sum 3 (some (.object "DoughDebts$Term")) { frames := 10, cells := kc, slots := ks, locals := 205 } (fun g => [.ref (g.1 0)]) s R (fun r => some (va_rf r)) PX := by
  refine Cx_of pn_X0 (fun g => Nat.le_of_ble_eq_true rfl) (fun g A X C E hX hcz hsz => ?_)
  rw [yw_sum] at hf
  show TG xCfg g A 3 X 0 0 s 0 [(0, .ref (g.1 0))] []
  refine g_aload_n C dX0_sum_0 0 rfl ?_
  refine spx_n hf (fun kd1 kt2 kc3 ks4 e5 e6 hf => ?_)
  refine g_ycallV (As := []) (rest := []) C (w_yw_product hf) hX oX0 rfl rfl q609 q611 qs9 q88 q612 mdX0_product rfl ⟨Nat.le_of_ble_eq_true rfl, Nat.le_of_ble_eq_true rfl⟩ (Nat.le_of_ble_eq_true rfl) dX0_sum_1 ⟨sp_a hcz e5, sp_a hsz e6⟩ (fun q9 s10 hx11 => g_xout C E hx11.1 rfl hx11.2 (sp_a hcz e5) (sp_a hsz e6)) (fun r7 s8 hf => ?_)
  have hc12 := sp_b hcz e5
  have hs13 := sp_b hsz e6
  show TG xCfg g A 3 X (0 + kd1) (0 + kt2) s8 4 [(0, .ref (g.1 0))] [va_rf r7]
  refine g_storeQ_n (i := 1) (lv' := [(1, va_rf r7), (0, .ref (g.1 0))]) C dX0_sum_4 rfl (by decide) rfl ?_
  refine g_sub [1, 0] rfl (w_yw_sum_L5 C E hX _ _ _ _ _ hf _ _ hc12 hs13)
def yw_opens (n : Nat) (kc ks : Nat) (s : Sto) (PX : Nat → Sto → Prop) (R : Unit → Sto → Prop) : Prop :=
  if (s.1 0 9) = (8 : Int32) then
    spw kc ks 1 8 fun kc2 ks3 =>
    alw s fun q6 =>
    vl (pA s q6 (.inr (9, [.null, .null, .null, .null, .null, .int 0, .int 0, .int 0]))) fun s8 =>
    spx kc2 ks3 fun kd11 kt12 kc13 ks14 =>
    xf_init n kd11 kt12 s8 q6 (3 : Int32) (s8.1 0 7) fun r17 s18 =>
    gdw (isP s18 q6 9) <|
    PX q6 s18
  else
    vl (sI s 0 9 ((s.1 0 9) + (1 : Int32))) fun s25 =>
    bdw (xw_readNext n s25) fun r26 s27 =>
    R () s27
theorem w_yw_opens {l : Launch} {n : Nat} {kc ks : Nat} {s : Sto} {PX : Nat → Sto → Prop} {R : Unit → Sto → Prop} (hf : yw_opens n kc ks s PX R) : Cx xCfg l yX0_opens cX0_opens 1 none { frames := 8, cells := kc, slots := ks, locals := 162 } (fun g => [.ref (g.1 0)]) s R (fun _ => none) PX := by
  refine Cx_of pn_X0 (fun g => Nat.le_of_ble_eq_true rfl) (fun g A X C E hX hcz hsz => ?_)
  rw [yw_opens] at hf
  show TG xCfg g A 1 X 0 0 s 0 [(0, .ref (g.1 0))] []
  refine g_aload_n C dX0_opens_0 0 rfl ?_
  refine g_getI C oX0 fX0_268 dX0_opens_1 ?_
  refine g_bipush C dX0_opens_4 kb_8 ?_
  refine g_icmp_ne 22 C dX0_opens_6 rfl (fun c1 => ?_) (fun c1 => ?_)
  · replace hf := ifw_t c1 hf
    refine spw_n hf (fun kc2 ks3 e4 e5 hf => ?_)
    refine g_new C nX0_233 (sp_a hcz e4) (sp_a hsz e5) dX0_opens_9 (fun q6 hq7 => ?_)
    replace hf := hf q6 hq7
    refine vlw_n hf (fun s8 hs8 hf => ?_)
    rw [← hs8]
    have hc9 := sp_b hcz e4
    have hs10 := sp_b hsz e5
    refine g_dup C dX0_opens_12 rfl ?_
    refine g_iconst C dX0_opens_13 kc_3 ?_
    refine g_aload_n C dX0_opens_14 0 rfl ?_
    refine g_getI C oX0 fX0_171 dX0_opens_15 ?_
    refine spx_n hf (fun kd11 kt12 kc13 ks14 e15 e16 hf => ?_)
    refine g_wcallI (As := [.int (3 : Int32), .int (s8.1 0 7)]) (rest := [.ref q6]) C (w_xf_init hf) hX rfl q575 q576 q105 q577 rfl msX5_init rfl ⟨Nat.le_of_ble_eq_true rfl, Nat.le_of_ble_eq_true rfl⟩ (Nat.le_of_ble_eq_true rfl) dX0_opens_18 ⟨sp_a hc9 e15, sp_a hs10 e16⟩ (fun r17 s18 hf => ?_)
    have hc22 := sp_b hc9 e15
    have hs23 := sp_b hs10 e16
    show TG xCfg g A 1 X ((0 + 1) + kd11) ((0 + 8) + kt12) s18 21 [(0, .ref (g.1 0))] [.ref q6]
    refine gdw_n hf (fun c24 hf => ?_)
    exact g_athrow C dX0_opens_21 (g_xout C E c24 rfl hf (le_b hc22) (le_b hs23))
  · replace hf := ifw_f c1 hf
    refine g_aload_n C dX0_opens_22 0 rfl ?_
    refine g_dup C dX0_opens_23 rfl ?_
    refine g_getI C oX0 fX0_268 dX0_opens_24 ?_
    refine g_iconst C dX0_opens_27 kc_1 ?_
    refine g_iadd C dX0_opens_28 ?_
    refine vlw_n hf (fun s25 hs25 hf => ?_)
    refine g_putI C oX0 pX0_268 rfl rfl hs25 dX0_opens_29 ?_
    refine g_aload_n C dX0_opens_32 0 rfl ?_
    refine bdw_n hf (fun r26 s27 h28 hf => ?_)
    refine g_callV1 (As := []) (rest := []) (stk := []) C (w_xw_readNext h28) hX oX0 rfl rfl q393 q395 qs2 q88 q396 mdX0_readNext rfl ⟨Nat.le_of_ble_eq_true rfl, Nat.le_of_ble_eq_true rfl⟩ (Nat.le_of_ble_eq_true rfl) dX0_opens_33 rfl (le_b hcz) (le_b hsz) ?_
    exact g_yretv (r := ()) C E rfl hf (le_b hcz) (le_b hsz) dX0_opens_36
def yw_both_L5 (n : Nat) (rc : Nat → Nat → Sto → (Nat → Sto → Prop) → (Option Nat → Sto → Prop) → Prop) (R : Option Nat → Sto → Prop) (PX : Nat → Sto → Prop) : Nat → Nat → Nat → Sto → Option Nat → Prop
  | 0, _, _, _, _ => False
  | k + 1, kc15, ks16, s14, v21 =>
    bdw (xw_isWord n s14 13) fun r22 s23 =>
    if r22 = true then
      bdw (xw_readNext n s23) fun r26 s27 =>
      spw kc15 ks16 1 3 fun kc29 ks30 =>
      alw s27 fun q33 =>
      vl (pA s27 q33 (.inr (8, [.int 0, .null, .null]))) fun s35 =>
      spx kc29 ks30 fun kd38 kt39 kc40 ks41 =>
      rc kd38 kt39 s35 (fun q s => isP s q 9 = true ∧ PX q s) fun r44 s45 =>
      spx kc40 ks41 fun kd51 kt52 kc53 ks54 =>
      xz_init n kd51 kt52 s45 q33 (38 : Int32) v21 r44 fun r57 s58 =>
      yw_both_L5 n rc R PX k kc53 ks54 s58 (some q33)
    else
      R v21 s23
def yw_both (n : Nat) (rc : Nat → Nat → Sto → (Nat → Sto → Prop) → (Option Nat → Sto → Prop) → Prop) (kc ks : Nat) (s : Sto) (PX : Nat → Sto → Prop) (R : Option Nat → Sto → Prop) : Prop :=
  spx kc ks fun kd1 kt2 kc3 ks4 =>
  rc kd1 kt2 s (fun q s => isP s q 9 = true ∧ PX q s) fun r7 s8 =>
  yw_both_L5 n rc R PX
      n kc3 ks4 s8 r7
theorem w_yw_both_L5 {l : Launch} {n : Nat} {Fr Lr : Nat} {rc : Nat → Nat → Sto → (Nat → Sto → Prop) → (Option Nat → Sto → Prop) → Prop} {R : Option Nat → Sto → Prop} {PX : Nat → Sto → Prop} {g : Gam} {A : Nat → Prop} {X : FX} {si : Sto} (C : CX xCfg g A 2 X cX0_both RX0 (some (.object "DoughDebts$Term")) (Fr + 8) (Lr + 222)) (E : EY xCfg g A X si R (fun r => some (va_rf r)) PX) (hX : X.2.1 = l) (hrc : ∀ (kc ks : Nat) (s : Sto) (PX : Nat → Sto → Prop) (R : Option Nat → Sto → Prop), rc kc ks s PX R → Cx xCfg l yX0_oneOf cX0_oneOf 3 (some (.object "DoughDebts$Term")) { frames := Fr, cells := kc, slots := ks, locals := Lr } (fun g => [.ref (g.1 0)]) s R (fun r => some (va_rf r)) PX) : ∀ (k kc15 ks16 : Nat) (s14 : Sto) (v21 : Option Nat), yw_both_L5 n rc R PX k kc15 ks16 s14 v21 → ∀ cz17 sz18 : Nat, cz17 + kc15 ≤ X.2.2.2.1.cells → sz18 + ks16 ≤ X.2.2.2.1.slots → TG xCfg g A 2 X cz17 sz18 s14 5 [(0, .ref (g.1 0)), (1, va_rf v21)] [] := by
  intro k
  induction k with
  | zero => intro kc15 ks16 s14 v21 hf; rw [yw_both_L5] at hf; exact hf.elim
  | succ k ih =>
    intro kc15 ks16 s14 v21 hf cz17 sz18 hc19 hs20
    rw [yw_both_L5] at hf
    refine g_aload_n C dX0_both_5 0 rfl ?_
    refine g_ldcS (tx := "and") C (List.mem_of_getElem? (i := 13) rfl) dX0_both_6 ?_
    refine bdw_n hf (fun r22 s23 h24 hf => ?_)
    refine g_callV1 (As := [.ref (g.2.2.2.1 13)]) (rest := []) (stk := [.int (bI r22)]) C (w_xw_isWord h24) hX oX0 rfl rfl q660 q662 qs12 q88 q663 mdX0_isWord rfl ⟨by (try simp only []); omega, by (try simp only []); omega⟩ (Nat.le_of_ble_eq_true rfl) dX0_both_8 rfl (le_b hc19) (le_b hs20) ?_
    refine g_ifZ_eq 36 C dX0_both_11 rfl (fun c25 => ?_) (fun c25 => ?_)
    · replace hf := ifw_t c25 hf
      refine g_aload_n C dX0_both_14 0 rfl ?_
      refine bdw_n hf (fun r26 s27 h28 hf => ?_)
      refine g_callV1 (As := []) (rest := []) (stk := []) C (w_xw_readNext h28) hX oX0 rfl rfl q393 q395 qs2 q88 q396 mdX0_readNext rfl ⟨by (try simp only []); omega, by (try simp only []); omega⟩ (Nat.le_of_ble_eq_true rfl) dX0_both_15 rfl (le_b hc19) (le_b hs20) ?_
      refine spw_n hf (fun kc29 ks30 e31 e32 hf => ?_)
      refine g_new C nX0_260 (sp_a hc19 e31) (sp_a hs20 e32) dX0_both_18 (fun q33 hq34 => ?_)
      replace hf := hf q33 hq34
      refine vlw_n hf (fun s35 hs35 hf => ?_)
      rw [← hs35]
      have hc36 := sp_b hc19 e31
      have hs37 := sp_b hs20 e32
      refine g_dup C dX0_both_21 rfl ?_
      refine g_bipush C dX0_both_22 kb_38 ?_
      refine g_loadQ_n C dX0_both_24 1 rfl ?_
      refine g_aload_n C dX0_both_25 0 rfl ?_
      refine spx_n hf (fun kd38 kt39 kc40 ks41 e42 e43 hf => ?_)
      refine g_ycallV (As := []) (rest := [va_rf v21, .int (38 : Int32), .ref q33, .ref q33]) C (hrc _ _ _ _ _ hf) hX oX0 rfl rfl q672 q674 qs15 q88 q675 mdX0_oneOf rfl ⟨by (try simp only []); omega, by (try simp only []); omega⟩ (by simp only [List.map_cons, List.map_nil, va_rf_cat]; exact Nat.le_of_ble_eq_true rfl) dX0_both_26 ⟨sp_a hc36 e42, sp_a hs37 e43⟩ (fun q46 s47 hx48 => g_xout C E hx48.1 rfl hx48.2 (sp_a hc36 e42) (sp_a hs37 e43)) (fun r44 s45 hf => ?_)
      have hc49 := sp_b hc36 e42
      have hs50 := sp_b hs37 e43
      show TG xCfg g A 2 X ((cz17 + 1) + kd38) ((sz18 + 3) + kt39) s45 29 [(0, .ref (g.1 0)), (1, va_rf v21)] [va_rf r44, va_rf v21, .int (38 : Int32), .ref q33, .ref q33]
      refine spx_n hf (fun kd51 kt52 kc53 ks54 e55 e56 hf => ?_)
      refine g_wcallI (As := [.int (38 : Int32), va_rf v21, va_rf r44]) (rest := [.ref q33]) C (w_xz_init hf) hX rfl q646 q647 q109 q648 rfl msX9_init rfl ⟨by (try simp only []); omega, by (try simp only []); omega⟩ (Nat.le_of_ble_eq_true rfl) dX0_both_29 ⟨sp_a hc49 e55, sp_a hs50 e56⟩ (fun r57 s58 hf => ?_)
      have hc62 := sp_b hc49 e55
      have hs63 := sp_b hs50 e56
      show TG xCfg g A 2 X (((cz17 + 1) + kd38) + kd51) (((sz18 + 3) + kt39) + kt52) s58 32 [(0, .ref (g.1 0)), (1, va_rf v21)] [.ref q33]
      refine g_astore_n (i := 1) (lv' := [(1, .ref q33), (0, .ref (g.1 0))]) C dX0_both_32 rfl rfl (by decide) rfl ?_
      refine g_goto 5 C dX0_both_33 rfl ?_
      exact g_sub [1, 0] rfl (ih _ _ _ _ hf _ _ hc62 hs63)
    · replace hf := ifw_f c25 hf
      refine g_loadQ_n C dX0_both_36 1 rfl ?_
      exact g_yreta (r := v21) (v := v21) C E (Or.inl ⟨_, rfl⟩) rfl hf (le_b hc19) (le_b hs20) dX0_both_37
theorem w_yw_both {l : Launch} {n : Nat} {rc : Nat → Nat → Sto → (Nat → Sto → Prop) → (Option Nat → Sto → Prop) → Prop} {Fr Lr : Nat} (hrc : ∀ (kc ks : Nat) (s : Sto) (PX : Nat → Sto → Prop) (R : Option Nat → Sto → Prop), rc kc ks s PX R → Cx xCfg l yX0_oneOf cX0_oneOf 3 (some (.object "DoughDebts$Term")) { frames := Fr, cells := kc, slots := ks, locals := Lr } (fun g => [.ref (g.1 0)]) s R (fun r => some (va_rf r)) PX) {kc ks : Nat} {s : Sto} {PX : Nat → Sto → Prop} {R : Option Nat → Sto → Prop} (hf : yw_both n rc kc ks s PX R) : Cx xCfg l yX0_both cX0_both 2 (some (.object "DoughDebts$Term")) { frames := Fr + 8, cells := kc, slots := ks, locals := Lr + 222 } (fun g => [.ref (g.1 0)]) s R (fun r => some (va_rf r)) PX := by
  refine Cx_of pn_X0 (fun g => Nat.le_of_ble_eq_true rfl) (fun g A X C E hX hcz hsz => ?_)
  rw [yw_both] at hf
  show TG xCfg g A 2 X 0 0 s 0 [(0, .ref (g.1 0))] []
  refine g_aload_n C dX0_both_0 0 rfl ?_
  refine spx_n hf (fun kd1 kt2 kc3 ks4 e5 e6 hf => ?_)
  refine g_ycallV (As := []) (rest := []) C (hrc _ _ _ _ _ hf) hX oX0 rfl rfl q672 q674 qs15 q88 q675 mdX0_oneOf rfl ⟨by (try simp only []); omega, by (try simp only []); omega⟩ (Nat.le_of_ble_eq_true rfl) dX0_both_1 ⟨sp_a hcz e5, sp_a hsz e6⟩ (fun q9 s10 hx11 => g_xout C E hx11.1 rfl hx11.2 (sp_a hcz e5) (sp_a hsz e6)) (fun r7 s8 hf => ?_)
  have hc12 := sp_b hcz e5
  have hs13 := sp_b hsz e6
  show TG xCfg g A 2 X (0 + kd1) (0 + kt2) s8 4 [(0, .ref (g.1 0))] [va_rf r7]
  refine g_storeQ_n (i := 1) (lv' := [(1, va_rf r7), (0, .ref (g.1 0))]) C dX0_both_4 rfl (by decide) rfl ?_
  refine g_sub [1, 0] rfl (w_yw_both_L5 C E hX hrc _ _ _ _ _ hf _ _ hc12 hs13)
def yw_any_L5 (n : Nat) (rc : Nat → Nat → Sto → (Nat → Sto → Prop) → (Option Nat → Sto → Prop) → Prop) (R : Option Nat → Sto → Prop) (PX : Nat → Sto → Prop) : Nat → Nat → Nat → Sto → Option Nat → Prop
  | 0, _, _, _, _ => False
  | k + 1, kc15, ks16, s14, v21 =>
    bdw (xw_isWord n s14 12) fun r22 s23 =>
    if r22 = true then
      bdw (xw_readNext n s23) fun r26 s27 =>
      spw kc15 ks16 1 3 fun kc29 ks30 =>
      alw s27 fun q33 =>
      vl (pA s27 q33 (.inr (8, [.int 0, .null, .null]))) fun s35 =>
      spx kc29 ks30 fun kd38 kt39 kc40 ks41 =>
      yw_both n rc kd38 kt39 s35 (fun q s => isP s q 9 = true ∧ PX q s) fun r44 s45 =>
      spx kc40 ks41 fun kd51 kt52 kc53 ks54 =>
      xz_init n kd51 kt52 s45 q33 (124 : Int32) v21 r44 fun r57 s58 =>
      yw_any_L5 n rc R PX k kc53 ks54 s58 (some q33)
    else
      R v21 s23
def yw_any (n : Nat) (rc : Nat → Nat → Sto → (Nat → Sto → Prop) → (Option Nat → Sto → Prop) → Prop) (kc ks : Nat) (s : Sto) (PX : Nat → Sto → Prop) (R : Option Nat → Sto → Prop) : Prop :=
  spx kc ks fun kd1 kt2 kc3 ks4 =>
  yw_both n rc kd1 kt2 s (fun q s => isP s q 9 = true ∧ PX q s) fun r7 s8 =>
  yw_any_L5 n rc R PX
      n kc3 ks4 s8 r7
theorem w_yw_any_L5 {l : Launch} {n : Nat} {Fr Lr : Nat} {rc : Nat → Nat → Sto → (Nat → Sto → Prop) → (Option Nat → Sto → Prop) → Prop} {R : Option Nat → Sto → Prop} {PX : Nat → Sto → Prop} {g : Gam} {A : Nat → Prop} {X : FX} {si : Sto} (C : CX xCfg g A 2 X cX0_any RX0 (some (.object "DoughDebts$Term")) (Fr + 9) (Lr + 303)) (E : EY xCfg g A X si R (fun r => some (va_rf r)) PX) (hX : X.2.1 = l) (hrc : ∀ (kc ks : Nat) (s : Sto) (PX : Nat → Sto → Prop) (R : Option Nat → Sto → Prop), rc kc ks s PX R → Cx xCfg l yX0_oneOf cX0_oneOf 3 (some (.object "DoughDebts$Term")) { frames := Fr, cells := kc, slots := ks, locals := Lr } (fun g => [.ref (g.1 0)]) s R (fun r => some (va_rf r)) PX) : ∀ (k kc15 ks16 : Nat) (s14 : Sto) (v21 : Option Nat), yw_any_L5 n rc R PX k kc15 ks16 s14 v21 → ∀ cz17 sz18 : Nat, cz17 + kc15 ≤ X.2.2.2.1.cells → sz18 + ks16 ≤ X.2.2.2.1.slots → TG xCfg g A 2 X cz17 sz18 s14 5 [(0, .ref (g.1 0)), (1, va_rf v21)] [] := by
  intro k
  induction k with
  | zero => intro kc15 ks16 s14 v21 hf; rw [yw_any_L5] at hf; exact hf.elim
  | succ k ih =>
    intro kc15 ks16 s14 v21 hf cz17 sz18 hc19 hs20
    rw [yw_any_L5] at hf
    refine g_aload_n C dX0_any_5 0 rfl ?_
    refine g_ldcS (tx := "or") C (List.mem_of_getElem? (i := 12) rfl) dX0_any_6 ?_
    refine bdw_n hf (fun r22 s23 h24 hf => ?_)
    refine g_callV1 (As := [.ref (g.2.2.2.1 12)]) (rest := []) (stk := [.int (bI r22)]) C (w_xw_isWord h24) hX oX0 rfl rfl q660 q662 qs12 q88 q663 mdX0_isWord rfl ⟨by (try simp only []); omega, by (try simp only []); omega⟩ (Nat.le_of_ble_eq_true rfl) dX0_any_8 rfl (le_b hc19) (le_b hs20) ?_
    refine g_ifZ_eq 36 C dX0_any_11 rfl (fun c25 => ?_) (fun c25 => ?_)
    · replace hf := ifw_t c25 hf
      refine g_aload_n C dX0_any_14 0 rfl ?_
      refine bdw_n hf (fun r26 s27 h28 hf => ?_)
      refine g_callV1 (As := []) (rest := []) (stk := []) C (w_xw_readNext h28) hX oX0 rfl rfl q393 q395 qs2 q88 q396 mdX0_readNext rfl ⟨by (try simp only []); omega, by (try simp only []); omega⟩ (Nat.le_of_ble_eq_true rfl) dX0_any_15 rfl (le_b hc19) (le_b hs20) ?_
      refine spw_n hf (fun kc29 ks30 e31 e32 hf => ?_)
      refine g_new C nX0_260 (sp_a hc19 e31) (sp_a hs20 e32) dX0_any_18 (fun q33 hq34 => ?_)
      replace hf := hf q33 hq34
      refine vlw_n hf (fun s35 hs35 hf => ?_)
      rw [← hs35]
      have hc36 := sp_b hc19 e31
      have hs37 := sp_b hs20 e32
      refine g_dup C dX0_any_21 rfl ?_
      refine g_bipush C dX0_any_22 kb_124 ?_
      refine g_loadQ_n C dX0_any_24 1 rfl ?_
      refine g_aload_n C dX0_any_25 0 rfl ?_
      refine spx_n hf (fun kd38 kt39 kc40 ks41 e42 e43 hf => ?_)
      refine g_ycallV (As := []) (rest := [va_rf v21, .int (124 : Int32), .ref q33, .ref q33]) C (w_yw_both hrc hf) hX oX0 rfl rfl q668 q670 qs14 q88 q671 mdX0_both rfl ⟨by (try simp only []); omega, by (try simp only []); omega⟩ (by simp only [List.map_cons, List.map_nil, va_rf_cat]; exact Nat.le_of_ble_eq_true rfl) dX0_any_26 ⟨sp_a hc36 e42, sp_a hs37 e43⟩ (fun q46 s47 hx48 => g_xout C E hx48.1 rfl hx48.2 (sp_a hc36 e42) (sp_a hs37 e43)) (fun r44 s45 hf => ?_)
      have hc49 := sp_b hc36 e42
      have hs50 := sp_b hs37 e43
      show TG xCfg g A 2 X ((cz17 + 1) + kd38) ((sz18 + 3) + kt39) s45 29 [(0, .ref (g.1 0)), (1, va_rf v21)] [va_rf r44, va_rf v21, .int (124 : Int32), .ref q33, .ref q33]
      refine spx_n hf (fun kd51 kt52 kc53 ks54 e55 e56 hf => ?_)
      refine g_wcallI (As := [.int (124 : Int32), va_rf v21, va_rf r44]) (rest := [.ref q33]) C (w_xz_init hf) hX rfl q646 q647 q109 q648 rfl msX9_init rfl ⟨by (try simp only []); omega, by (try simp only []); omega⟩ (Nat.le_of_ble_eq_true rfl) dX0_any_29 ⟨sp_a hc49 e55, sp_a hs50 e56⟩ (fun r57 s58 hf => ?_)
      have hc62 := sp_b hc49 e55
      have hs63 := sp_b hs50 e56
      show TG xCfg g A 2 X (((cz17 + 1) + kd38) + kd51) (((sz18 + 3) + kt39) + kt52) s58 32 [(0, .ref (g.1 0)), (1, va_rf v21)] [.ref q33]
      refine g_astore_n (i := 1) (lv' := [(1, .ref q33), (0, .ref (g.1 0))]) C dX0_any_32 rfl rfl (by decide) rfl ?_
      refine g_goto 5 C dX0_any_33 rfl ?_
      exact g_sub [1, 0] rfl (ih _ _ _ _ hf _ _ hc62 hs63)
    · replace hf := ifw_f c25 hf
      refine g_loadQ_n C dX0_any_36 1 rfl ?_
      exact g_yreta (r := v21) (v := v21) C E (Or.inl ⟨_, rfl⟩) rfl hf (le_b hc19) (le_b hs20) dX0_any_37
theorem w_yw_any {l : Launch} {n : Nat} {rc : Nat → Nat → Sto → (Nat → Sto → Prop) → (Option Nat → Sto → Prop) → Prop} {Fr Lr : Nat} (hrc : ∀ (kc ks : Nat) (s : Sto) (PX : Nat → Sto → Prop) (R : Option Nat → Sto → Prop), rc kc ks s PX R → Cx xCfg l yX0_oneOf cX0_oneOf 3 (some (.object "DoughDebts$Term")) { frames := Fr, cells := kc, slots := ks, locals := Lr } (fun g => [.ref (g.1 0)]) s R (fun r => some (va_rf r)) PX) {kc ks : Nat} {s : Sto} {PX : Nat → Sto → Prop} {R : Option Nat → Sto → Prop} (hf : yw_any n rc kc ks s PX R) : Cx xCfg l yX0_any cX0_any 2 (some (.object "DoughDebts$Term")) { frames := Fr + 9, cells := kc, slots := ks, locals := Lr + 303 } (fun g => [.ref (g.1 0)]) s R (fun r => some (va_rf r)) PX := by
  refine Cx_of pn_X0 (fun g => Nat.le_of_ble_eq_true rfl) (fun g A X C E hX hcz hsz => ?_)
  rw [yw_any] at hf
  show TG xCfg g A 2 X 0 0 s 0 [(0, .ref (g.1 0))] []
  refine g_aload_n C dX0_any_0 0 rfl ?_
  refine spx_n hf (fun kd1 kt2 kc3 ks4 e5 e6 hf => ?_)
  refine g_ycallV (As := []) (rest := []) C (w_yw_both hrc hf) hX oX0 rfl rfl q668 q670 qs14 q88 q671 mdX0_both rfl ⟨by (try simp only []); omega, by (try simp only []); omega⟩ (Nat.le_of_ble_eq_true rfl) dX0_any_1 ⟨sp_a hcz e5, sp_a hsz e6⟩ (fun q9 s10 hx11 => g_xout C E hx11.1 rfl hx11.2 (sp_a hcz e5) (sp_a hsz e6)) (fun r7 s8 hf => ?_)
  have hc12 := sp_b hcz e5
  have hs13 := sp_b hsz e6
  show TG xCfg g A 2 X (0 + kd1) (0 + kt2) s8 4 [(0, .ref (g.1 0))] [va_rf r7]
  refine g_storeQ_n (i := 1) (lv' := [(1, va_rf r7), (0, .ref (g.1 0))]) C dX0_any_4 rfl (by decide) rfl ?_
  refine g_sub [1, 0] rfl (w_yw_any_L5 C E hX hrc _ _ _ _ _ hf _ _ hc12 hs13)
def yw_oneOf (n : Nat) : Nat → Nat → Nat → Sto → (Nat → Sto → Prop) → (Option Nat → Sto → Prop) → Prop
  | 0, _, _, _, _, _ => False
  | d + 1, kc, ks, s, PX, R =>
    bdw (xw_isWord n s 14) fun r1 s2 =>
    if r1 = true then
      spx kc ks fun kd5 kt6 kc7 ks8 =>
      yw_opens n kd5 kt6 s2 (fun q s => isP s q 9 = true ∧ PX q s) fun r11 s12 =>
      spx kc7 ks8 fun kd18 kt19 kc20 ks21 =>
      (yw_oneOf n d) kd18 kt19 s12 (fun q s => isP s q 9 = true ∧ PX q s) fun r24 s25 =>
      vl (sI s25 0 9 ((s25.1 0 9) - (1 : Int32))) fun s31 =>
      spw kc20 ks21 1 1 fun kc32 ks33 =>
      alw s31 fun q36 =>
      vl (pA s31 q36 (.inr (7, [.null]))) fun s38 =>
      spx kc32 ks33 fun kd41 kt42 kc43 ks44 =>
      xk_init n kd41 kt42 s38 q36 r24 fun r47 s48 =>
      R (some q36) s48
    else
      bdw (xw_isSign n s2 (40 : Int32)) fun r54 s55 =>
      if r54 = true then
        spx kc ks fun kd58 kt59 kc60 ks61 =>
        yw_opens n kd58 kt59 s55 (fun q s => isP s q 9 = true ∧ PX q s) fun r64 s65 =>
        spx kc60 ks61 fun kd71 kt72 kc73 ks74 =>
        yw_any n (yw_oneOf n d) kd71 kt72 s65 (fun q s => isP s q 9 = true ∧ PX q s) fun r77 s78 =>
        spx kc73 ks74 fun kd84 kt85 kc86 ks87 =>
        yw_takesSign n kd84 kt85 s78 (41 : Int32) (fun q s => isP s q 9 = true ∧ PX q s) fun r90 s91 =>
        vl (sI s91 0 9 ((s91.1 0 9) - (1 : Int32))) fun s97 =>
        R r77 s97
      else
        spx kc ks fun kd98 kt99 kc100 ks101 =>
        yw_sum n kd98 kt99 s55 (fun q s => isP s q 9 = true ∧ PX q s) fun r104 s105 =>
        bdw (xw_isSign n s105 (60 : Int32)) fun r111 s112 =>
        vl (fun (kc116 : Nat) (ks117 : Nat) (s114 : Sto) (t115 : Bool) =>
          spx kc116 ks117 fun kd123 kt124 kc125 ks126 =>
          yw_must n kd123 kt124 s114 t115 (fun q s => isP s q 9 = true ∧ PX q s) fun r129 s130 =>
          vl (i2c (s130.1 0 8)) fun v136 =>
          bdw (xw_readNext n s130) fun r137 s138 =>
          spw kc125 ks126 1 3 fun kc140 ks141 =>
          alw s138 fun q144 =>
          vl (pA s138 q144 (.inr (8, [.int 0, .null, .null]))) fun s146 =>
          spx kc140 ks141 fun kd149 kt150 kc151 ks152 =>
          yw_sum n kd149 kt150 s146 (fun q s => isP s q 9 = true ∧ PX q s) fun r155 s156 =>
          spx kc151 ks152 fun kd162 kt163 kc164 ks165 =>
          xz_init n kd162 kt163 s156 q144 v136 r104 r155 fun r168 s169 =>
          R (some q144) s169) fun j122 =>
        vl (fun (kc176 : Nat) (ks177 : Nat) (s175 : Sto) =>
          j122 kc176 ks177 s175 true) fun j182 =>
        if r111 = true then
          j182 kc100 ks101 s112
        else
          bdw (xw_isSign n s112 (61 : Int32)) fun r184 s185 =>
          if r184 = true then
            j182 kc100 ks101 s185
          else
            bdw (xw_isSign n s185 (62 : Int32)) fun r188 s189 =>
            if r188 = true then
              j182 kc100 ks101 s189
            else
              j122 kc100 ks101 s189 false
theorem w_yw_oneOf {l : Launch} {n : Nat} : ∀ (d kc ks : Nat) (s : Sto) (PX : Nat → Sto → Prop) (R : Option Nat → Sto → Prop), yw_oneOf n d kc ks s PX R → Cx xCfg l yX0_oneOf cX0_oneOf 3 (some (.object "DoughDebts$Term")) { frames := 30 * d + 60, cells := kc, slots := ks, locals := 800 * d + 2500 } (fun g => [.ref (g.1 0)]) s R (fun r => some (va_rf r)) PX := by
  intro d
  induction d with
  | zero => intro kc ks s PX R hf; rw [yw_oneOf] at hf; exact hf.elim
  | succ d ih =>
    intro kc ks s PX R hf
    refine Cx_of pn_X0 (fun g => Nat.le_of_ble_eq_true rfl) (fun g A X C E hX hcz hsz => ?_)
    rw [yw_oneOf] at hf
    show TG xCfg g A 3 X 0 0 s 0 [(0, .ref (g.1 0))] []
    refine g_aload_n C dX0_oneOf_0 0 rfl ?_
    refine g_ldcS (tx := "not") C (List.mem_of_getElem? (i := 14) rfl) dX0_oneOf_1 ?_
    refine bdw_n hf (fun r1 s2 h3 hf => ?_)
    refine g_callV1 (As := [.ref (g.2.2.2.1 14)]) (rest := []) (stk := [.int (bI r1)]) C (w_xw_isWord h3) hX oX0 rfl rfl q660 q662 qs12 q88 q663 mdX0_isWord rfl ⟨by (try simp only []); omega, by (try simp only []); omega⟩ (Nat.le_of_ble_eq_true rfl) dX0_oneOf_3 rfl (le_b hcz) (le_b hsz) ?_
    refine g_ifZ_eq 37 C dX0_oneOf_6 rfl (fun c4 => ?_) (fun c4 => ?_)
    · replace hf := ifw_t c4 hf
      refine g_aload_n C dX0_oneOf_9 0 rfl ?_
      refine spx_n hf (fun kd5 kt6 kc7 ks8 e9 e10 hf => ?_)
      refine g_ycallV (As := []) (rest := []) C (w_yw_opens hf) hX oX0 rfl rfl q676 q678 qs16 q88 q679 mdX0_opens rfl ⟨by (try simp only []); omega, by (try simp only []); omega⟩ (Nat.le_of_ble_eq_true rfl) dX0_oneOf_10 ⟨sp_a hcz e9, sp_a hsz e10⟩ (fun q13 s14 hx15 => g_xout C E hx15.1 rfl hx15.2 (sp_a hcz e9) (sp_a hsz e10)) (fun r11 s12 hf => ?_)
      have hc16 := sp_b hcz e9
      have hs17 := sp_b hsz e10
      show TG xCfg g A 3 X (0 + kd5) (0 + kt6) s12 13 [(0, .ref (g.1 0))] []
      refine g_aload_n C dX0_oneOf_13 0 rfl ?_
      refine spx_n hf (fun kd18 kt19 kc20 ks21 e22 e23 hf => ?_)
      refine g_ycallV (As := []) (rest := []) C (ih _ _ _ _ _ hf) hX oX0 rfl rfl q672 q674 qs15 q88 q675 mdX0_oneOf rfl ⟨by (try simp only []); omega, by (try simp only []); omega⟩ (Nat.le_of_ble_eq_true rfl) dX0_oneOf_14 ⟨sp_a hc16 e22, sp_a hs17 e23⟩ (fun q26 s27 hx28 => g_xout C E hx28.1 rfl hx28.2 (sp_a hc16 e22) (sp_a hs17 e23)) (fun r24 s25 hf => ?_)
      have hc29 := sp_b hc16 e22
      have hs30 := sp_b hs17 e23
      show TG xCfg g A 3 X ((0 + kd5) + kd18) ((0 + kt6) + kt19) s25 17 [(0, .ref (g.1 0))] [va_rf r24]
      refine g_storeQ_n (i := 1) (lv' := [(1, va_rf r24), (0, .ref (g.1 0))]) C dX0_oneOf_17 rfl (by decide) rfl ?_
      refine g_aload_n C dX0_oneOf_18 1 rfl ?_
      refine g_dup C dX0_oneOf_19 rfl ?_
      refine g_getI C oX0 fX0_268 dX0_oneOf_20 ?_
      refine g_iconst C dX0_oneOf_23 kc_1 ?_
      refine g_isub C dX0_oneOf_24 ?_
      refine vlw_n hf (fun s31 hs31 hf => ?_)
      refine g_putI C oX0 pX0_268 rfl rfl hs31 dX0_oneOf_25 ?_
      refine spw_n hf (fun kc32 ks33 e34 e35 hf => ?_)
      refine g_new C nX0_280 (sp_a hc29 e34) (sp_a hs30 e35) dX0_oneOf_28 (fun q36 hq37 => ?_)
      replace hf := hf q36 hq37
      refine vlw_n hf (fun s38 hs38 hf => ?_)
      rw [← hs38]
      have hc39 := sp_b hc29 e34
      have hs40 := sp_b hs30 e35
      refine g_dup C dX0_oneOf_31 rfl ?_
      refine g_loadQ_n C dX0_oneOf_32 0 rfl ?_
      refine spx_n hf (fun kd41 kt42 kc43 ks44 e45 e46 hf => ?_)
      refine g_wcallI (As := [va_rf r24]) (rest := [.ref q36]) C (w_xk_init hf) hX rfl q682 q683 q110 q684 rfl msX10_init rfl ⟨by (try simp only []); omega, by (try simp only []); omega⟩ (Nat.le_of_ble_eq_true rfl) dX0_oneOf_33 ⟨sp_a hc39 e45, sp_a hs40 e46⟩ (fun r47 s48 hf => ?_)
      have hc52 := sp_b hc39 e45
      have hs53 := sp_b hs40 e46
      show TG xCfg g A 3 X ((((0 + kd5) + kd18) + 1) + kd41) ((((0 + kt6) + kt19) + 1) + kt42) s48 36 [(1, va_rf r24), (0, .ref (g.1 0))] [.ref q36]
      exact g_yreta (r := (some q36)) (v := (some q36)) C E (Or.inl ⟨_, rfl⟩) rfl hf (le_b hc52) (le_b hs53) dX0_oneOf_36
    · replace hf := ifw_f c4 hf
      refine g_aload_n C dX0_oneOf_37 0 rfl ?_
      refine g_bipush C dX0_oneOf_38 kb_40 ?_
      refine bdw_n hf (fun r54 s55 h56 hf => ?_)
      refine g_callV1 (As := [.int (40 : Int32)]) (rest := []) (stk := [.int (bI r54)]) C (w_xw_isSign h56) hX oX0 rfl rfl q640 q642 qs11 q88 q643 mdX0_isSign rfl ⟨by (try simp only []); omega, by (try simp only []); omega⟩ (Nat.le_of_ble_eq_true rfl) dX0_oneOf_40 rfl (le_b hcz) (le_b hsz) ?_
      refine g_ifZ_eq 73 C dX0_oneOf_43 rfl (fun c57 => ?_) (fun c57 => ?_)
      · replace hf := ifw_t c57 hf
        refine g_aload_n C dX0_oneOf_46 0 rfl ?_
        refine spx_n hf (fun kd58 kt59 kc60 ks61 e62 e63 hf => ?_)
        refine g_ycallV (As := []) (rest := []) C (w_yw_opens hf) hX oX0 rfl rfl q676 q678 qs16 q88 q679 mdX0_opens rfl ⟨by (try simp only []); omega, by (try simp only []); omega⟩ (Nat.le_of_ble_eq_true rfl) dX0_oneOf_47 ⟨sp_a hcz e62, sp_a hsz e63⟩ (fun q66 s67 hx68 => g_xout C E hx68.1 rfl hx68.2 (sp_a hcz e62) (sp_a hsz e63)) (fun r64 s65 hf => ?_)
        have hc69 := sp_b hcz e62
        have hs70 := sp_b hsz e63
        show TG xCfg g A 3 X (0 + kd58) (0 + kt59) s65 50 [(0, .ref (g.1 0))] []
        refine g_aload_n C dX0_oneOf_50 0 rfl ?_
        refine spx_n hf (fun kd71 kt72 kc73 ks74 e75 e76 hf => ?_)
        refine g_ycallV (As := []) (rest := []) C (w_yw_any ih hf) hX oX0 rfl rfl q664 q666 qs13 q88 q667 mdX0_any rfl ⟨by (try simp only []); omega, by (try simp only []); omega⟩ (Nat.le_of_ble_eq_true rfl) dX0_oneOf_51 ⟨sp_a hc69 e75, sp_a hs70 e76⟩ (fun q79 s80 hx81 => g_xout C E hx81.1 rfl hx81.2 (sp_a hc69 e75) (sp_a hs70 e76)) (fun r77 s78 hf => ?_)
        have hc82 := sp_b hc69 e75
        have hs83 := sp_b hs70 e76
        show TG xCfg g A 3 X ((0 + kd58) + kd71) ((0 + kt59) + kt72) s78 54 [(0, .ref (g.1 0))] [va_rf r77]
        refine g_storeQ_n (i := 1) (lv' := [(1, va_rf r77), (0, .ref (g.1 0))]) C dX0_oneOf_54 rfl (by decide) rfl ?_
        refine g_aload_n C dX0_oneOf_55 1 rfl ?_
        refine g_bipush C dX0_oneOf_56 kb_41 ?_
        refine spx_n hf (fun kd84 kt85 kc86 ks87 e88 e89 hf => ?_)
        refine g_ycallV (As := [.int (41 : Int32)]) (rest := []) C (w_yw_takesSign hf) hX oX0 rfl rfl q690 q692 qs17 q88 q693 mdX0_takesSign rfl ⟨by (try simp only []); omega, by (try simp only []); omega⟩ (Nat.le_of_ble_eq_true rfl) dX0_oneOf_58 ⟨sp_a hc82 e88, sp_a hs83 e89⟩ (fun q92 s93 hx94 => g_xout C E hx94.1 rfl hx94.2 (sp_a hc82 e88) (sp_a hs83 e89)) (fun r90 s91 hf => ?_)
        have hc95 := sp_b hc82 e88
        have hs96 := sp_b hs83 e89
        show TG xCfg g A 3 X (((0 + kd58) + kd71) + kd84) (((0 + kt59) + kt72) + kt85) s91 61 [(1, va_rf r77), (0, .ref (g.1 0))] []
        refine g_aload_n C dX0_oneOf_61 1 rfl ?_
        refine g_dup C dX0_oneOf_62 rfl ?_
        refine g_getI C oX0 fX0_268 dX0_oneOf_63 ?_
        refine g_iconst C dX0_oneOf_66 kc_1 ?_
        refine g_isub C dX0_oneOf_67 ?_
        refine vlw_n hf (fun s97 hs97 hf => ?_)
        refine g_putI C oX0 pX0_268 rfl rfl hs97 dX0_oneOf_68 ?_
        refine g_loadQ_n C dX0_oneOf_71 0 rfl ?_
        exact g_yreta (r := r77) (v := r77) C E (Or.inl ⟨_, rfl⟩) rfl hf (le_b hc95) (le_b hs96) dX0_oneOf_72
      · replace hf := ifw_f c57 hf
        refine g_aload_n C dX0_oneOf_73 0 rfl ?_
        refine spx_n hf (fun kd98 kt99 kc100 ks101 e102 e103 hf => ?_)
        refine g_ycallV (As := []) (rest := []) C (w_yw_sum hf) hX oX0 rfl rfl q605 q607 qs8 q88 q608 mdX0_sum rfl ⟨by (try simp only []); omega, by (try simp only []); omega⟩ (Nat.le_of_ble_eq_true rfl) dX0_oneOf_74 ⟨sp_a hcz e102, sp_a hsz e103⟩ (fun q106 s107 hx108 => g_xout C E hx108.1 rfl hx108.2 (sp_a hcz e102) (sp_a hsz e103)) (fun r104 s105 hf => ?_)
        have hc109 := sp_b hcz e102
        have hs110 := sp_b hsz e103
        show TG xCfg g A 3 X (0 + kd98) (0 + kt99) s105 77 [(0, .ref (g.1 0))] [va_rf r104]
        refine g_storeQ_n (i := 1) (lv' := [(1, va_rf r104), (0, .ref (g.1 0))]) C dX0_oneOf_77 rfl (by decide) rfl ?_
        refine g_aload_n C dX0_oneOf_78 1 rfl ?_
        refine g_aload_n C dX0_oneOf_79 1 rfl ?_
        refine g_bipush C dX0_oneOf_80 kb_60 ?_
        refine bdw_n hf (fun r111 s112 h113 hf => ?_)
        refine g_callV1 (As := [.int (60 : Int32)]) (rest := [.ref (g.1 0)]) (stk := [.int (bI r111), .ref (g.1 0)]) C (w_xw_isSign h113) hX oX0 rfl rfl q640 q642 qs11 q88 q643 mdX0_isSign rfl ⟨by (try simp only []); omega, by (try simp only []); omega⟩ (Nat.le_of_ble_eq_true rfl) dX0_oneOf_82 rfl (le_b hc109) (le_b hs110) ?_
        refine vlw_n hf (fun j122 hj122 hf => ?_)
        have Hj122 : ∀ (kc116 : Nat) (ks117 : Nat) (s114 : Sto) (t115 : Bool), j122 kc116 ks117 s114 t115 → ∀ cz118 sz119 : Nat, cz118 + kc116 ≤ X.2.2.2.1.cells → sz119 + ks117 ≤ X.2.2.2.1.slots → TG xCfg g A 3 X cz118 sz119 s114 111 [(0, .ref (g.1 0)), (1, va_rf r104)] [.int (bI t115), .ref (g.1 0)] := by
          clear hf; subst hj122
          intro kc116 ks117 s114 t115 hf cz118 sz119 hc120 hs121
          refine spx_n hf (fun kd123 kt124 kc125 ks126 e127 e128 hf => ?_)
          refine g_ycallV (As := [.int (bI t115)]) (rest := []) C (w_yw_must hf) hX oX0 rfl rfl q535 q537 qs6 q88 q538 mdX0_must rfl ⟨by (try simp only []); omega, by (try simp only []); omega⟩ (Nat.le_of_ble_eq_true rfl) dX0_oneOf_111 ⟨sp_a hc120 e127, sp_a hs121 e128⟩ (fun q131 s132 hx133 => g_xout C E hx133.1 rfl hx133.2 (sp_a hc120 e127) (sp_a hs121 e128)) (fun r129 s130 hf => ?_)
          have hc134 := sp_b hc120 e127
          have hs135 := sp_b hs121 e128
          show TG xCfg g A 3 X (cz118 + kd123) (sz119 + kt124) s130 114 [(0, .ref (g.1 0)), (1, va_rf r104)] []
          refine g_aload_n C dX0_oneOf_114 0 rfl ?_
          refine g_getI C oX0 fX0_198 dX0_oneOf_115 ?_
          refine g_i2c C dX0_oneOf_118 ?_
          refine vlw_n hf (fun v136 hv136 hf => ?_)
          refine g_istore_n (i := 2) (lv' := [(2, .int v136), (0, .ref (g.1 0)), (1, va_rf r104)]) C dX0_oneOf_119 rfl hv136 (by decide) (by simp [va_rf_cat]) ?_
          refine g_aload_n C dX0_oneOf_120 1 rfl ?_
          refine bdw_n hf (fun r137 s138 h139 hf => ?_)
          refine g_callV1 (As := []) (rest := []) (stk := []) C (w_xw_readNext h139) hX oX0 rfl rfl q393 q395 qs2 q88 q396 mdX0_readNext rfl ⟨by (try simp only []); omega, by (try simp only []); omega⟩ (Nat.le_of_ble_eq_true rfl) dX0_oneOf_121 rfl (le_b hc134) (le_b hs135) ?_
          refine spw_n hf (fun kc140 ks141 e142 e143 hf => ?_)
          refine g_new C nX0_260 (sp_a hc134 e142) (sp_a hs135 e143) dX0_oneOf_124 (fun q144 hq145 => ?_)
          replace hf := hf q144 hq145
          refine vlw_n hf (fun s146 hs146 hf => ?_)
          rw [← hs146]
          have hc147 := sp_b hc134 e142
          have hs148 := sp_b hs135 e143
          refine g_dup C dX0_oneOf_127 rfl ?_
          refine g_iload_n C dX0_oneOf_128 0 rfl ?_
          refine g_loadQ_n C dX0_oneOf_129 2 rfl ?_
          refine g_aload_n C dX0_oneOf_130 1 rfl ?_
          refine spx_n hf (fun kd149 kt150 kc151 ks152 e153 e154 hf => ?_)
          refine g_ycallV (As := []) (rest := [va_rf r104, .int v136, .ref q144, .ref q144]) C (w_yw_sum hf) hX oX0 rfl rfl q605 q607 qs8 q88 q608 mdX0_sum rfl ⟨by (try simp only []); omega, by (try simp only []); omega⟩ (by simp only [List.map_cons, List.map_nil, va_rf_cat]; exact Nat.le_of_ble_eq_true rfl) dX0_oneOf_131 ⟨sp_a hc147 e153, sp_a hs148 e154⟩ (fun q157 s158 hx159 => g_xout C E hx159.1 rfl hx159.2 (sp_a hc147 e153) (sp_a hs148 e154)) (fun r155 s156 hf => ?_)
          have hc160 := sp_b hc147 e153
          have hs161 := sp_b hs148 e154
          show TG xCfg g A 3 X (((cz118 + kd123) + 1) + kd149) (((sz119 + kt124) + 3) + kt150) s156 134 [(2, .int v136), (0, .ref (g.1 0)), (1, va_rf r104)] [va_rf r155, va_rf r104, .int v136, .ref q144, .ref q144]
          refine spx_n hf (fun kd162 kt163 kc164 ks165 e166 e167 hf => ?_)
          refine g_wcallI (As := [.int v136, va_rf r104, va_rf r155]) (rest := [.ref q144]) C (w_xz_init hf) hX rfl q646 q647 q109 q648 rfl msX9_init rfl ⟨by (try simp only []); omega, by (try simp only []); omega⟩ (Nat.le_of_ble_eq_true rfl) dX0_oneOf_134 ⟨sp_a hc160 e166, sp_a hs161 e167⟩ (fun r168 s169 hf => ?_)
          have hc173 := sp_b hc160 e166
          have hs174 := sp_b hs161 e167
          show TG xCfg g A 3 X ((((cz118 + kd123) + 1) + kd149) + kd162) ((((sz119 + kt124) + 3) + kt150) + kt163) s169 137 [(2, .int v136), (0, .ref (g.1 0)), (1, va_rf r104)] [.ref q144]
          exact g_yreta (r := (some q144)) (v := (some q144)) C E (Or.inl ⟨_, rfl⟩) rfl hf (le_b hc173) (le_b hs174) dX0_oneOf_137
        clear hj122
        refine vlw_n hf (fun j182 hj182 hf => ?_)
        have Hj182 : ∀ (kc176 : Nat) (ks177 : Nat) (s175 : Sto), j182 kc176 ks177 s175 → ∀ cz178 sz179 : Nat, cz178 + kc176 ≤ X.2.2.2.1.cells → sz179 + ks177 ≤ X.2.2.2.1.slots → TG xCfg g A 3 X cz178 sz179 s175 106 [(0, .ref (g.1 0)), (1, va_rf r104)] [.ref (g.1 0)] := by
          clear hf; subst hj182
          intro kc176 ks177 s175 hf cz178 sz179 hc180 hs181
          refine g_iconst C dX0_oneOf_106 kc_1 ?_
          refine g_goto 111 C dX0_oneOf_107 rfl ?_
          exact g_sub [0, 1] rfl (Hj122 _ _ _ _ hf _ _ hc180 hs181)
        clear hj182
        refine g_ifZ_ne 106 C dX0_oneOf_85 rfl (fun c183 => ?_) (fun c183 => ?_)
        · replace hf := ifw_t c183 hf
          exact g_sub [1, 0] rfl (Hj182 _ _ _ hf _ _ hc109 hs110)
        · replace hf := ifw_f c183 hf
          refine g_aload_n C dX0_oneOf_88 1 rfl ?_
          refine g_bipush C dX0_oneOf_89 kb_61 ?_
          refine bdw_n hf (fun r184 s185 h186 hf => ?_)
          refine g_callV1 (As := [.int (61 : Int32)]) (rest := [.ref (g.1 0)]) (stk := [.int (bI r184), .ref (g.1 0)]) C (w_xw_isSign h186) hX oX0 rfl rfl q640 q642 qs11 q88 q643 mdX0_isSign rfl ⟨by (try simp only []); omega, by (try simp only []); omega⟩ (Nat.le_of_ble_eq_true rfl) dX0_oneOf_91 rfl (le_b hc109) (le_b hs110) ?_
          refine g_ifZ_ne 106 C dX0_oneOf_94 rfl (fun c187 => ?_) (fun c187 => ?_)
          · replace hf := ifw_t c187 hf
            exact g_sub [1, 0] rfl (Hj182 _ _ _ hf _ _ hc109 hs110)
          · replace hf := ifw_f c187 hf
            refine g_aload_n C dX0_oneOf_97 1 rfl ?_
            refine g_bipush C dX0_oneOf_98 kb_62 ?_
            refine bdw_n hf (fun r188 s189 h190 hf => ?_)
            refine g_callV1 (As := [.int (62 : Int32)]) (rest := [.ref (g.1 0)]) (stk := [.int (bI r188), .ref (g.1 0)]) C (w_xw_isSign h190) hX oX0 rfl rfl q640 q642 qs11 q88 q643 mdX0_isSign rfl ⟨by (try simp only []); omega, by (try simp only []); omega⟩ (Nat.le_of_ble_eq_true rfl) dX0_oneOf_100 rfl (le_b hc109) (le_b hs110) ?_
            refine g_ifZ_eq 110 C dX0_oneOf_103 rfl (fun c191 => ?_) (fun c191 => ?_)
            · replace hf := ifw_t c191 hf
              exact g_sub [1, 0] rfl (Hj182 _ _ _ hf _ _ hc109 hs110)
            · replace hf := ifw_f c191 hf
              refine g_iconst C dX0_oneOf_110 kc_0 ?_
              exact g_sub [1, 0] rfl (Hj122 _ _ _ _ hf _ _ hc109 hs110)
def yw_readsRule_L22 (n : Nat) (R : Option Nat → Sto → Prop) (PX : Nat → Sto → Prop) (v35 : Nat) : Nat → Nat → Nat → Sto → Prop
  | 0, _, _, _ => False
  | k + 1, kc29, ks30, s28 =>
    gdw (eOk (s28.1 0 5)) <|
    if (s28.1 0 5) = (Int32.ofNat (0 + 1)) then
      R (some v35) s28
    else
      bdw (xw_wordOf n s28 2) fun r38 s39 =>
      vl (fun (kc42 : Nat) (ks43 : Nat) (t41 : Bool) =>
        spx kc42 ks43 fun kd49 kt50 kc51 ks52 =>
        yw_must n kd49 kt50 s39 t41 (fun q s => isP s q 9 = true ∧ PX q s) fun r55 s56 =>
        pgIw s56 v35 4 2 fun v62 =>
        if v62 = (16 : Int32) then
          spw kc51 ks52 1 8 fun kc65 ks66 =>
          alw s56 fun q69 =>
          vl (pA s56 q69 (.inr (9, [.null, .null, .null, .null, .null, .int 0, .int 0, .int 0]))) fun s71 =>
          spx kc65 ks66 fun kd74 kt75 kc76 ks77 =>
          xf_init n kd74 kt75 s71 q69 (3 : Int32) (s71.1 0 7) fun r80 s81 =>
          gdw (isP s81 q69 9) <|
          PX q69 s81
        else
          bdw (xw_readNext n s56) fun r88 s89 =>
          pgQw s89 v35 4 0 fun v91 =>
          pgIw s89 v35 4 2 fun v93 =>
          spx kc51 ks52 fun kd95 kt96 kc97 ks98 =>
          yw_sum n kd95 kt96 s89 (fun q s => isP s q 9 = true ∧ PX q s) fun r101 s102 =>
          nnw v91 fun q108 =>
          palw (paQ s102 q108 8) fun n110 f111 =>
          gdw (inb v93 n110) <|
          nnw r101 fun q114 =>
          gdw (isTm s102 q114) <|
          vl (pS s102 q108 (.inl (8, n110, .inr (.inr (.inr (.inr (va_up f111 (v93).toNatClampNeg (some q114)))))))) fun s117 =>
          bdw (xw_isWord n s117 11) fun r118 s119 =>
          vl (fun (kc122 : Nat) (ks123 : Nat) (s121 : Sto) =>
            spx kc122 ks123 fun kd129 kt130 kc131 ks132 =>
            yw_takesSign n kd129 kt130 s121 (59 : Int32) (fun q s => isP s q 9 = true ∧ PX q s) fun r135 s136 =>
            pgIw s136 v35 4 2 fun v142 =>
            ppow s136 v35 4 2 fun fs144 =>
            vl (pS s136 v35 (.inr (4, fs144.set 2 (.int (v142 + (1 : Int32)))))) fun s147 =>
            yw_readsRule_L22 n R PX v35 k kc131 ks132 s147) fun j128 =>
          if r118 = true then
            bdw (xw_readNext n s119) fun r149 s150 =>
            pgQw s150 v35 4 1 fun v152 =>
            pgIw s150 v35 4 2 fun v154 =>
            spx kc97 ks98 fun kd156 kt157 kc158 ks159 =>
            yw_any n (yw_oneOf n 12) kd156 kt157 s150 (fun q s => isP s q 9 = true ∧ PX q s) fun r162 s163 =>
            nnw v152 fun q169 =>
            palw (paQ s163 q169 8) fun n171 f172 =>
            gdw (inb v154 n171) <|
            nnw r162 fun q175 =>
            gdw (isTm s163 q175) <|
            vl (pS s163 q169 (.inl (8, n171, .inr (.inr (.inr (.inr (va_up f172 (v154).toNatClampNeg (some q175)))))))) fun s178 =>
            j128 kc158 ks159 s178
          else
            j128 kc97 ks98 s119) fun j48 =>
      if r38 = (-1 : Int32) then
        j48 kc29 ks30 false
      else
        j48 kc29 ks30 true
def yw_readsRule (n : Nat) (kc ks : Nat) (s : Sto) (PX : Nat → Sto → Prop) (R : Option Nat → Sto → Prop) : Prop :=
  spw kc ks 1 3 fun kc1 ks2 =>
  alw s fun q5 =>
  vl (pA s q5 (.inr (4, [.null, .null, .int 0]))) fun s7 =>
  spx kc1 ks2 fun kd10 kt11 kc12 ks13 =>
  xt_init n kd10 kt11 s7 q5 fun r16 s17 =>
  vl (sI s17 0 6 (0 : Int32)) fun s23 =>
  vl (sI s23 0 9 (0 : Int32)) fun s24 =>
  bdw (xw_readNext n s24) fun r25 s26 =>
  yw_readsRule_L22 n R PX q5
      n kc12 ks13 s26
theorem w_yw_readsRule_L22 {l : Launch} {n : Nat} {R : Option Nat → Sto → Prop} {PX : Nat → Sto → Prop} {v35 : Nat} {g : Gam} {A : Nat → Prop} {X : FX} {si : Sto} (C : CX xCfg g A 2 X cX0_readsRule RX0 (some (.object "DoughDebts$Text")) 430 12424) (E : EY xCfg g A X si R (fun r => some (va_rf r)) PX) (hX : X.2.1 = l) : ∀ (k kc29 ks30 : Nat) (s28 : Sto), yw_readsRule_L22 n R PX v35 k kc29 ks30 s28 → ∀ cz31 sz32 : Nat, cz31 + kc29 ≤ X.2.2.2.1.cells → sz32 + ks30 ≤ X.2.2.2.1.slots → TG xCfg g A 2 X cz31 sz32 s28 22 [(0, .ref (g.1 0)), (1, .ref v35)] [] := by
  intro k
  induction k with
  | zero => intro kc29 ks30 s28 hf; rw [yw_readsRule_L22] at hf; exact hf.elim
  | succ k ih =>
    intro kc29 ks30 s28 hf cz31 sz32 hc33 hs34
    rw [yw_readsRule_L22] at hf
    refine g_aload_n C dX0_readsRule_22 0 rfl ?_
    refine g_getEf C oX0 fX0_182 dX0_readsRule_23 ?_
    refine g_getE (i := 0) C (by decide) rfl q401 dX0_readsRule_26 ?_
    refine gdw_n hf (fun c36 hf => ?_)
    refine g_acmpE_eq 137 C c36 (by decide) dX0_readsRule_29 rfl (fun c37 => ?_) (fun c37 => ?_)
    · replace hf := ifw_t c37 hf
      refine g_aload_n C dX0_readsRule_137 1 rfl ?_
      exact g_yreta (r := (some v35)) (v := (some v35)) C E (Or.inl ⟨_, rfl⟩) rfl hf (le_b hc33) (le_b hs34) dX0_readsRule_138
    · replace hf := ifw_f c37 hf
      refine g_aload_n C dX0_readsRule_32 0 rfl ?_
      refine g_aload_n C dX0_readsRule_33 0 rfl ?_
      refine g_aload_n C dX0_readsRule_34 0 rfl ?_
      refine g_getS 2 C oX0 fX0_17 rfl dX0_readsRule_35 ?_
      refine bdw_n hf (fun r38 s39 h40 hf => ?_)
      refine g_callV1 (As := [.ref (g.1 2)]) (rest := [.ref (g.1 0)]) (stk := [.int r38, .ref (g.1 0)]) C (w_xw_wordOf h40) hX oX0 rfl rfl q410 q412 qs4 q88 q413 mdX0_wordOf rfl ⟨Nat.le_of_ble_eq_true rfl, Nat.le_of_ble_eq_true rfl⟩ (Nat.le_of_ble_eq_true rfl) dX0_readsRule_38 rfl (le_b hc33) (le_b hs34) ?_
      refine g_iconst C dX0_readsRule_41 kc_m1 ?_
      refine vlw_n hf (fun j48 hj48 hf => ?_)
      have Hj48 : ∀ (kc42 : Nat) (ks43 : Nat) (t41 : Bool), j48 kc42 ks43 t41 → ∀ cz44 sz45 : Nat, cz44 + kc42 ≤ X.2.2.2.1.cells → sz45 + ks43 ≤ X.2.2.2.1.slots → TG xCfg g A 2 X cz44 sz45 s39 50 [(0, .ref (g.1 0)), (1, .ref v35)] [.int (bI t41), .ref (g.1 0)] := by
        clear hf; subst hj48
        intro kc42 ks43 t41 hf cz44 sz45 hc46 hs47
        refine spx_n hf (fun kd49 kt50 kc51 ks52 e53 e54 hf => ?_)
        refine g_ycallV (As := [.int (bI t41)]) (rest := []) C (w_yw_must hf) hX oX0 rfl rfl q535 q537 qs6 q88 q538 mdX0_must rfl ⟨Nat.le_of_ble_eq_true rfl, Nat.le_of_ble_eq_true rfl⟩ (Nat.le_of_ble_eq_true rfl) dX0_readsRule_50 ⟨sp_a hc46 e53, sp_a hs47 e54⟩ (fun q57 s58 hx59 => g_xout C E hx59.1 rfl hx59.2 (sp_a hc46 e53) (sp_a hs47 e54)) (fun r55 s56 hf => ?_)
        have hc60 := sp_b hc46 e53
        have hs61 := sp_b hs47 e54
        show TG xCfg g A 2 X (cz44 + kd49) (sz45 + kt50) s56 53 [(0, .ref (g.1 0)), (1, .ref v35)] []
        refine g_aload_n C dX0_readsRule_53 1 rfl ?_
        refine pgIw_n hf (fun v62 hv63 hf => ?_)
        refine g_pget C fX0_298 hv63 dX0_readsRule_54 ?_
        refine g_bipush C dX0_readsRule_57 kb_16 ?_
        refine g_icmp_ne 75 C dX0_readsRule_59 rfl (fun c64 => ?_) (fun c64 => ?_)
        · replace hf := ifw_t c64 hf
          refine spw_n hf (fun kc65 ks66 e67 e68 hf => ?_)
          refine g_new C nX0_233 (sp_a hc60 e67) (sp_a hs61 e68) dX0_readsRule_62 (fun q69 hq70 => ?_)
          replace hf := hf q69 hq70
          refine vlw_n hf (fun s71 hs71 hf => ?_)
          rw [← hs71]
          have hc72 := sp_b hc60 e67
          have hs73 := sp_b hs61 e68
          refine g_dup C dX0_readsRule_65 rfl ?_
          refine g_iconst C dX0_readsRule_66 kc_3 ?_
          refine g_aload_n C dX0_readsRule_67 0 rfl ?_
          refine g_getI C oX0 fX0_171 dX0_readsRule_68 ?_
          refine spx_n hf (fun kd74 kt75 kc76 ks77 e78 e79 hf => ?_)
          refine g_wcallI (As := [.int (3 : Int32), .int (s71.1 0 7)]) (rest := [.ref q69]) C (w_xf_init hf) hX rfl q575 q576 q105 q577 rfl msX5_init rfl ⟨Nat.le_of_ble_eq_true rfl, Nat.le_of_ble_eq_true rfl⟩ (Nat.le_of_ble_eq_true rfl) dX0_readsRule_71 ⟨sp_a hc72 e78, sp_a hs73 e79⟩ (fun r80 s81 hf => ?_)
          have hc85 := sp_b hc72 e78
          have hs86 := sp_b hs73 e79
          show TG xCfg g A 2 X (((cz44 + kd49) + 1) + kd74) (((sz45 + kt50) + 8) + kt75) s81 74 [(0, .ref (g.1 0)), (1, .ref v35)] [.ref q69]
          refine gdw_n hf (fun c87 hf => ?_)
          exact g_athrow C dX0_readsRule_74 (g_xout C E c87 rfl hf (le_b hc85) (le_b hs86))
        · replace hf := ifw_f c64 hf
          refine g_aload_n C dX0_readsRule_75 0 rfl ?_
          refine bdw_n hf (fun r88 s89 h90 hf => ?_)
          refine g_callV1 (As := []) (rest := []) (stk := []) C (w_xw_readNext h90) hX oX0 rfl rfl q393 q395 qs2 q88 q396 mdX0_readNext rfl ⟨Nat.le_of_ble_eq_true rfl, Nat.le_of_ble_eq_true rfl⟩ (Nat.le_of_ble_eq_true rfl) dX0_readsRule_76 rfl (le_b hc60) (le_b hs61) ?_
          refine g_aload_n C dX0_readsRule_79 1 rfl ?_
          refine pgQw_n hf (fun v91 hv92 hf => ?_)
          refine g_pget C fX0_301 hv92 dX0_readsRule_80 ?_
          refine g_aload_n C dX0_readsRule_83 1 rfl ?_
          refine pgIw_n hf (fun v93 hv94 hf => ?_)
          refine g_pget C fX0_298 hv94 dX0_readsRule_84 ?_
          refine g_aload_n C dX0_readsRule_87 0 rfl ?_
          refine spx_n hf (fun kd95 kt96 kc97 ks98 e99 e100 hf => ?_)
          refine g_ycallV (As := []) (rest := [.int v93, va_rf v91]) C (w_yw_sum hf) hX oX0 rfl rfl q605 q607 qs8 q88 q608 mdX0_sum rfl ⟨Nat.le_of_ble_eq_true rfl, Nat.le_of_ble_eq_true rfl⟩ (by simp only [List.map_cons, List.map_nil, va_rf_cat]; exact Nat.le_of_ble_eq_true rfl) dX0_readsRule_88 ⟨sp_a hc60 e99, sp_a hs61 e100⟩ (fun q103 s104 hx105 => g_xout C E hx105.1 rfl hx105.2 (sp_a hc60 e99) (sp_a hs61 e100)) (fun r101 s102 hf => ?_)
          have hc106 := sp_b hc60 e99
          have hs107 := sp_b hs61 e100
          show TG xCfg g A 2 X ((cz44 + kd49) + kd95) ((sz45 + kt50) + kt96) s102 91 [(0, .ref (g.1 0)), (1, .ref v35)] [va_rf r101, .int v93, va_rf v91]
          refine nnw_n hf (fun q108 hq109 hf => ?_)
          refine palw_n hf (fun n110 f111 hp112 hf => ?_)
          refine gdw_n hf (fun c113 hf => ?_)
          refine nnw_n hf (fun q114 hq115 hf => ?_)
          refine gdw_n hf (fun c116 hf => ?_)
          refine vlw_n hf (fun s117 hs117 hf => ?_)
          refine g_paastTm (r := v91) (rv := r101) C hq109 hq115 hp112 c116 c113 hs117 dX0_readsRule_91 ?_
          refine g_aload_n C dX0_readsRule_92 0 rfl ?_
          refine g_ldcS (tx := "when") C (List.mem_of_getElem? (i := 11) rfl) dX0_readsRule_93 ?_
          refine bdw_n hf (fun r118 s119 h120 hf => ?_)
          refine g_callV1 (As := [.ref (g.2.2.2.1 11)]) (rest := []) (stk := [.int (bI r118)]) C (w_xw_isWord h120) hX oX0 rfl rfl q660 q662 qs12 q88 q663 mdX0_isWord rfl ⟨Nat.le_of_ble_eq_true rfl, Nat.le_of_ble_eq_true rfl⟩ (Nat.le_of_ble_eq_true rfl) dX0_readsRule_95 rfl (le_b hc106) (le_b hs107) ?_
          refine vlw_n hf (fun j128 hj128 hf => ?_)
          have Hj128 : ∀ (kc122 : Nat) (ks123 : Nat) (s121 : Sto), j128 kc122 ks123 s121 → ∀ cz124 sz125 : Nat, cz124 + kc122 ≤ X.2.2.2.1.cells → sz125 + ks123 ≤ X.2.2.2.1.slots → TG xCfg g A 2 X cz124 sz125 s121 118 [(0, .ref (g.1 0)), (1, .ref v35)] [] := by
            clear hf; subst hj128
            intro kc122 ks123 s121 hf cz124 sz125 hc126 hs127
            refine g_aload_n C dX0_readsRule_118 0 rfl ?_
            refine g_bipush C dX0_readsRule_119 kb_59 ?_
            refine spx_n hf (fun kd129 kt130 kc131 ks132 e133 e134 hf => ?_)
            refine g_ycallV (As := [.int (59 : Int32)]) (rest := []) C (w_yw_takesSign hf) hX oX0 rfl rfl q690 q692 qs17 q88 q693 mdX0_takesSign rfl ⟨Nat.le_of_ble_eq_true rfl, Nat.le_of_ble_eq_true rfl⟩ (Nat.le_of_ble_eq_true rfl) dX0_readsRule_121 ⟨sp_a hc126 e133, sp_a hs127 e134⟩ (fun q137 s138 hx139 => g_xout C E hx139.1 rfl hx139.2 (sp_a hc126 e133) (sp_a hs127 e134)) (fun r135 s136 hf => ?_)
            have hc140 := sp_b hc126 e133
            have hs141 := sp_b hs127 e134
            show TG xCfg g A 2 X (cz124 + kd129) (sz125 + kt130) s136 124 [(0, .ref (g.1 0)), (1, .ref v35)] []
            refine g_aload_n C dX0_readsRule_124 1 rfl ?_
            refine g_dup C dX0_readsRule_125 rfl ?_
            refine pgIw_n hf (fun v142 hv143 hf => ?_)
            refine g_pget C fX0_298 hv143 dX0_readsRule_126 ?_
            refine g_iconst C dX0_readsRule_129 kc_1 ?_
            refine g_iadd C dX0_readsRule_130 ?_
            refine ppow_n hf (fun fs144 hp145 hl146 hf => ?_)
            refine vlw_n hf (fun s147 hs147 hf => ?_)
            refine g_pput C pX0_298 hp145 hl146 rfl rfl hs147 dX0_readsRule_131 ?_
            refine g_goto 22 C dX0_readsRule_134 rfl ?_
            exact g_sub [0, 1] rfl (ih _ _ _ hf _ _ hc140 hs141)
          clear hj128
          refine g_ifZ_eq 118 C dX0_readsRule_98 rfl (fun c148 => ?_) (fun c148 => ?_)
          · replace hf := ifw_t c148 hf
            refine g_aload_n C dX0_readsRule_101 0 rfl ?_
            refine bdw_n hf (fun r149 s150 h151 hf => ?_)
            refine g_callV1 (As := []) (rest := []) (stk := []) C (w_xw_readNext h151) hX oX0 rfl rfl q393 q395 qs2 q88 q396 mdX0_readNext rfl ⟨Nat.le_of_ble_eq_true rfl, Nat.le_of_ble_eq_true rfl⟩ (Nat.le_of_ble_eq_true rfl) dX0_readsRule_102 rfl (le_b hc106) (le_b hs107) ?_
            refine g_aload_n C dX0_readsRule_105 1 rfl ?_
            refine pgQw_n hf (fun v152 hv153 hf => ?_)
            refine g_pget C fX0_304 hv153 dX0_readsRule_106 ?_
            refine g_aload_n C dX0_readsRule_109 1 rfl ?_
            refine pgIw_n hf (fun v154 hv155 hf => ?_)
            refine g_pget C fX0_298 hv155 dX0_readsRule_110 ?_
            refine g_aload_n C dX0_readsRule_113 0 rfl ?_
            refine spx_n hf (fun kd156 kt157 kc158 ks159 e160 e161 hf => ?_)
            refine g_ycallV (As := []) (rest := [.int v154, va_rf v152]) C (w_yw_any (w_yw_oneOf 12) hf) hX oX0 rfl rfl q664 q666 qs13 q88 q667 mdX0_any rfl ⟨Nat.le_of_ble_eq_true rfl, Nat.le_of_ble_eq_true rfl⟩ (by simp only [List.map_cons, List.map_nil, va_rf_cat]; exact Nat.le_of_ble_eq_true rfl) dX0_readsRule_114 ⟨sp_a hc106 e160, sp_a hs107 e161⟩ (fun q164 s165 hx166 => g_xout C E hx166.1 rfl hx166.2 (sp_a hc106 e160) (sp_a hs107 e161)) (fun r162 s163 hf => ?_)
            have hc167 := sp_b hc106 e160
            have hs168 := sp_b hs107 e161
            show TG xCfg g A 2 X (((cz44 + kd49) + kd95) + kd156) (((sz45 + kt50) + kt96) + kt157) s163 117 [(0, .ref (g.1 0)), (1, .ref v35)] [va_rf r162, .int v154, va_rf v152]
            refine nnw_n hf (fun q169 hq170 hf => ?_)
            refine palw_n hf (fun n171 f172 hp173 hf => ?_)
            refine gdw_n hf (fun c174 hf => ?_)
            refine nnw_n hf (fun q175 hq176 hf => ?_)
            refine gdw_n hf (fun c177 hf => ?_)
            refine vlw_n hf (fun s178 hs178 hf => ?_)
            refine g_paastTm (r := v152) (rv := r162) C hq170 hq176 hp173 c177 c174 hs178 dX0_readsRule_117 ?_
            exact g_sub [0, 1] rfl (Hj128 _ _ _ hf _ _ hc167 hs168)
          · replace hf := ifw_f c148 hf
            exact g_sub [0, 1] rfl (Hj128 _ _ _ hf _ _ hc106 hs107)
      clear hj48
      refine g_icmp_eq 49 C dX0_readsRule_42 rfl (fun c179 => ?_) (fun c179 => ?_)
      · replace hf := ifw_t c179 hf
        refine g_iconst C dX0_readsRule_49 kc_0 ?_
        exact g_sub [0, 1] rfl (Hj48 _ _ _ hf _ _ hc33 hs34)
      · replace hf := ifw_f c179 hf
        refine g_iconst C dX0_readsRule_45 kc_1 ?_
        refine g_goto 50 C dX0_readsRule_46 rfl ?_
        exact g_sub [0, 1] rfl (Hj48 _ _ _ hf _ _ hc33 hs34)
theorem w_yw_readsRule {l : Launch} {n : Nat} {kc ks : Nat} {s : Sto} {PX : Nat → Sto → Prop} {R : Option Nat → Sto → Prop} (hf : yw_readsRule n kc ks s PX R) : Cx xCfg l yX0_readsRule cX0_readsRule 2 (some (.object "DoughDebts$Text")) { frames := 430, cells := kc, slots := ks, locals := 12424 } (fun g => [.ref (g.1 0)]) s R (fun r => some (va_rf r)) PX := by
  refine Cx_of pn_X0 (fun g => Nat.le_of_ble_eq_true rfl) (fun g A X C E hX hcz hsz => ?_)
  rw [yw_readsRule] at hf
  show TG xCfg g A 2 X 0 0 s 0 [(0, .ref (g.1 0))] []
  refine spw_n hf (fun kc1 ks2 e3 e4 hf => ?_)
  refine g_new C nX0_59 (sp_a hcz e3) (sp_a hsz e4) dX0_readsRule_0 (fun q5 hq6 => ?_)
  replace hf := hf q5 hq6
  refine vlw_n hf (fun s7 hs7 hf => ?_)
  rw [← hs7]
  have hc8 := sp_b hcz e3
  have hs9 := sp_b hsz e4
  refine g_dup C dX0_readsRule_3 rfl ?_
  refine spx_n hf (fun kd10 kt11 kc12 ks13 e14 e15 hf => ?_)
  refine g_wcallIN (As := []) (rest := [.ref q5]) C (w_xt_init hf) hX rfl (List.mem_of_getElem? (i := 0) rfl) q141 q89 q142 rfl msX1_init rfl ⟨Nat.le_of_ble_eq_true rfl, Nat.le_of_ble_eq_true rfl⟩ (Nat.le_of_ble_eq_true rfl) dX0_readsRule_4 ⟨sp_a hc8 e14, sp_a hs9 e15⟩ (fun r16 s17 hf => ?_)
  have hc21 := sp_b hc8 e14
  have hs22 := sp_b hs9 e15
  show TG xCfg g A 2 X ((0 + 1) + kd10) ((0 + 3) + kt11) s17 7 [(0, .ref (g.1 0))] [.ref q5]
  refine g_astore_n (i := 1) (lv' := [(1, .ref q5), (0, .ref (g.1 0))]) C dX0_readsRule_7 rfl rfl (by decide) rfl ?_
  refine g_aload_n C dX0_readsRule_8 1 rfl ?_
  refine g_iconst C dX0_readsRule_9 kc_0 ?_
  refine vlw_n hf (fun s23 hs23 hf => ?_)
  refine g_putI C oX0 pX0_168 rfl rfl hs23 dX0_readsRule_10 ?_
  refine g_aload_n C dX0_readsRule_13 1 rfl ?_
  refine g_iconst C dX0_readsRule_14 kc_0 ?_
  refine vlw_n hf (fun s24 hs24 hf => ?_)
  refine g_putI C oX0 pX0_268 rfl rfl hs24 dX0_readsRule_15 ?_
  refine g_aload_n C dX0_readsRule_18 1 rfl ?_
  refine bdw_n hf (fun r25 s26 h27 hf => ?_)
  refine g_callV1 (As := []) (rest := []) (stk := []) C (w_xw_readNext h27) hX oX0 rfl rfl q393 q395 qs2 q88 q396 mdX0_readNext rfl ⟨Nat.le_of_ble_eq_true rfl, Nat.le_of_ble_eq_true rfl⟩ (Nat.le_of_ble_eq_true rfl) dX0_readsRule_19 rfl (le_b hc21) (le_b hs22) ?_
  refine g_sub [1, 0] rfl (w_yw_readsRule_L22 C E hX _ _ _ _ hf _ _ hc21 hs22)
