/-! wp rows: facts of constructors, fields written in them, the makers of cells  -/
set_option maxRecDepth 100000
theorem pFX2_15 : PF xCfg RX2 15 1 5 (.array .int) := ⟨RX2, TX2, 12, rfl, by decide, in_X2, q178, rfl, rfl, rfl, tyX2, tyX2_ok, nmX2⟩
theorem pFX2_19 : PF xCfg RX2 19 1 6 (.array .int) := ⟨RX2, TX2, 12, rfl, by decide, in_X2, q180, rfl, rfl, rfl, tyX2, tyX2_ok, nmX2⟩
theorem pFX2_22 : PF xCfg RX2 22 1 7 (.array .int) := ⟨RX2, TX2, 12, rfl, by decide, in_X2, q182, rfl, rfl, rfl, tyX2, tyX2_ok, nmX2⟩
theorem pFX2_25 : PF xCfg RX2 25 1 8 (.array .int) := ⟨RX2, TX2, 12, rfl, by decide, in_X2, q184, rfl, rfl, rfl, tyX2, tyX2_ok, nmX2⟩
theorem pFX2_28 : PF xCfg RX2 28 1 9 (.array .int) := ⟨RX2, TX2, 12, rfl, by decide, in_X2, q186, rfl, rfl, rfl, tyX2, tyX2_ok, nmX2⟩
theorem pFX2_31 : PF xCfg RX2 31 1 10 (.array .int) := ⟨RX2, TX2, 12, rfl, by decide, in_X2, q188, rfl, rfl, rfl, tyX2, tyX2_ok, nmX2⟩
theorem pFX2_34 : PF xCfg RX2 34 1 11 (.array .int) := ⟨RX2, TX2, 12, rfl, by decide, in_X2, q190, rfl, rfl, rfl, tyX2, tyX2_ok, nmX2⟩
theorem pFX5_7 : PF xCfg RX5 7 9 6 .int := ⟨RX5, TX5, 8, rfl, by decide, in_X5, q584, rfl, rfl, rfl, tyX5, tyX5_ok, nmX5⟩
theorem pFX5_13 : PF xCfg RX5 13 9 7 .int := ⟨RX5, TX5, 8, rfl, by decide, in_X5, q586, rfl, rfl, rfl, tyX5, tyX5_ok, nmX5⟩
theorem pFX4_7 : PF xCfg RX4 7 2 0 .int := ⟨RX4, TX4, 4, rfl, by decide, in_X4, q741, rfl, rfl, rfl, tyX4, tyX4_ok, nmX4⟩
theorem pFX4_13 : PF xCfg RX4 13 2 1 .int := ⟨RX4, TX4, 4, rfl, by decide, in_X4, q743, rfl, rfl, rfl, tyX4, tyX4_ok, nmX4⟩
theorem pFX4_16 : PF xCfg RX4 16 2 2 .int := ⟨RX4, TX4, 4, rfl, by decide, in_X4, q745, rfl, rfl, rfl, tyX4, tyX4_ok, nmX4⟩
theorem pFX4_19 : PF xCfg RX4 19 2 3 (.array .byte) := ⟨RX4, TX4, 4, rfl, by decide, in_X4, q747, rfl, rfl, rfl, tyX4, tyX4_ok, nmX4⟩
theorem pFX11_7 : PF xCfg RX11 7 3 0 .int := ⟨RX11, TX11, 4, rfl, by decide, in_X11, q922, rfl, rfl, rfl, tyX11, tyX11_ok, nmX11⟩
theorem pFX11_13 : PF xCfg RX11 13 3 1 .int := ⟨RX11, TX11, 4, rfl, by decide, in_X11, q924, rfl, rfl, rfl, tyX11, tyX11_ok, nmX11⟩
theorem pFX11_16 : PF xCfg RX11 16 3 2 .int := ⟨RX11, TX11, 4, rfl, by decide, in_X11, q926, rfl, rfl, rfl, tyX11, tyX11_ok, nmX11⟩
theorem pFX11_19 : PF xCfg RX11 19 3 3 .int := ⟨RX11, TX11, 4, rfl, by decide, in_X11, q928, rfl, rfl, rfl, tyX11, tyX11_ok, nmX11⟩
theorem pFX10_7 : PF xCfg RX10 7 7 0 (.object "DoughDebts$Term") := ⟨RX10, TX10, 1, rfl, by decide, in_X10, q686, rfl, rfl, rfl, tyX10, tyX10_ok, nmX10⟩
theorem pFX7_7 : PF xCfg RX7 7 5 0 .int := ⟨RX7, TX7, 1, rfl, by decide, in_X7, q626, rfl, rfl, rfl, tyX7, tyX7_ok, nmX7⟩
theorem pFX1_11 : PF xCfg RX1 11 4 0 (.array (.object "DoughDebts$Term")) := ⟨RX1, TX1, 3, rfl, by decide, in_X1, q146, rfl, rfl, rfl, tyX1, tyX1_ok, nmX1⟩
theorem pFX1_17 : PF xCfg RX1 17 4 1 (.array (.object "DoughDebts$Term")) := ⟨RX1, TX1, 3, rfl, by decide, in_X1, q148, rfl, rfl, rfl, tyX1, tyX1_ok, nmX1⟩
theorem pFX9_7 : PF xCfg RX9 7 8 0 .char := ⟨RX9, TX9, 3, rfl, by decide, in_X9, q650, rfl, rfl, rfl, tyX9, tyX9_ok, nmX9⟩
theorem pFX9_13 : PF xCfg RX9 13 8 1 (.object "DoughDebts$Term") := ⟨RX9, TX9, 3, rfl, by decide, in_X9, q651, rfl, rfl, rfl, tyX9, tyX9_ok, nmX9⟩
theorem pFX9_17 : PF xCfg RX9 17 8 2 (.object "DoughDebts$Term") := ⟨RX9, TX9, 3, rfl, by decide, in_X9, q652, rfl, rfl, rfl, tyX9, tyX9_ok, nmX9⟩
theorem pFX8_7 : PF xCfg RX8 7 6 0 .int := ⟨RX8, TX8, 1, rfl, by decide, in_X8, q636, rfl, rfl, rfl, tyX8, tyX8_ok, nmX8⟩
theorem pJ7_7 : PO xCfg RJ7 7 9 0 3 (.object "java/lang/Throwable") := ⟨RX5, TX5, 8, rfl, rfl, by decide, in_X5, q590, trivial, rfl, rfl, tyX5, tyX5_ok, nmX5⟩
theorem pJ7_17 : PO xCfg RJ7 17 9 1 3 (.array (.object "java/lang/StackTraceElement")) := ⟨RX5, TX5, 8, rfl, rfl, by decide, in_X5, q591, trivial, rfl, rfl, tyX5, tyX5_ok, nmX5⟩
theorem pJ7_24 : PO xCfg RJ7 24 9 2 3 (.object "java/util/List") := ⟨RX5, TX5, 8, rfl, rfl, by decide, in_X5, q592, trivial, rfl, rfl, tyX5, tyX5_ok, nmX5⟩
theorem pJ7_31 : PO xCfg RJ7 31 9 3 3 (.object "java/lang/String") := ⟨RX5, TX5, 8, rfl, rfl, by decide, in_X5, q589, trivial, rfl, rfl, tyX5, tyX5_ok, nmX5⟩
theorem pJ7_198 : PO xCfg RJ7 198 9 4 3 (.object "java/lang/Object") := ⟨RX5, TX5, 8, rfl, rfl, by decide, in_X5, q588, trivial, rfl, rfl, tyX5, tyX5_ok, nmX5⟩
theorem nX0_59 : NO xCfg RX0 59 4 3 [.null, .null, .int 0] := ⟨RX1, TX1, tyX1, rfl, in_X1, tyX1_ok, q138, q139, q89, fun j hj => by rcases (show j = 0 ∨ j = 1 ∨ j = 2 by omega) with rfl | rfl | rfl <;> rfl⟩
theorem nX0_66 : NO xCfg RX0 66 2 4 [.int 0, .int 0, .int 0, .null] := ⟨RX4, TX4, tyX4, rfl, in_X4, tyX4_ok, q160, q736, q95, fun j hj => by rcases (show j = 0 ∨ j = 1 ∨ j = 2 ∨ j = 3 by omega) with rfl | rfl | rfl | rfl <;> rfl⟩
theorem nX0_79 : NO xCfg RX0 79 1 12 [.int 0, .int 0, .int 0, .int 0, .int 0, .null, .null, .null, .null, .null, .null, .null] := ⟨RX2, TX2, tyX2, rfl, in_X2, tyX2_ok, q162, q163, q90, fun j hj => by rcases (show j = 0 ∨ j = 1 ∨ j = 2 ∨ j = 3 ∨ j = 4 ∨ j = 5 ∨ j = 6 ∨ j = 7 ∨ j = 8 ∨ j = 9 ∨ j = 10 ∨ j = 11 by omega) with rfl | rfl | rfl | rfl | rfl | rfl | rfl | rfl | rfl | rfl | rfl | rfl <;> rfl⟩
theorem nX0_116 : NO xCfg RX0 116 3 4 [.int 0, .int 0, .int 0, .int 0] := ⟨RX11, TX11, tyX11, rfl, in_X11, tyX11_ok, q221, q917, q112, fun j hj => by rcases (show j = 0 ∨ j = 1 ∨ j = 2 ∨ j = 3 by omega) with rfl | rfl | rfl | rfl <;> rfl⟩
theorem nX0_233 : NO xCfg RX0 233 9 8 [.null, .null, .null, .null, .null, .int 0, .int 0, .int 0] := ⟨RX5, TX5, tyX5, rfl, in_X5, tyX5_ok, q388, q539, q105, fun j hj => by rcases (show j = 0 ∨ j = 1 ∨ j = 2 ∨ j = 3 ∨ j = 4 ∨ j = 5 ∨ j = 6 ∨ j = 7 by omega) with rfl | rfl | rfl | rfl | rfl | rfl | rfl | rfl <;> rfl⟩
theorem nX0_249 : NO xCfg RX0 249 5 1 [.int 0] := ⟨RX7, TX7, tyX7, rfl, in_X7, tyX7_ok, q617, q618, q107, fun j hj => by rcases (show j = 0 by omega) with rfl <;> rfl⟩
theorem nX0_253 : NO xCfg RX0 253 6 1 [.int 0] := ⟨RX8, TX8, tyX8, rfl, in_X8, tyX8_ok, q630, q631, q108, fun j hj => by rcases (show j = 0 by omega) with rfl <;> rfl⟩
theorem nX0_260 : NO xCfg RX0 260 8 3 [.int 0, .null, .null] := ⟨RX9, TX9, tyX9, rfl, in_X9, tyX9_ok, q644, q645, q109, fun j hj => by rcases (show j = 0 ∨ j = 1 ∨ j = 2 by omega) with rfl | rfl | rfl <;> rfl⟩
theorem nX0_280 : NO xCfg RX0 280 7 1 [.null] := ⟨RX10, TX10, tyX10, rfl, in_X10, tyX10_ok, q680, q681, q110, fun j hj => by rcases (show j = 0 by omega) with rfl <;> rfl⟩
theorem msJ0_copyOf : yJ0_copyOf.cls ≠ "java/lang/invoke/MethodHandle" ∧ yJ0_copyOf.cls ≠ "java/lang/invoke/VarHandle" ∧ (parseMethodDescriptor yJ0_copyOf.desc).map (fun d => d.parameters.length) = some 2 := by decide +kernel
theorem msJ7_init_2 : yJ7_init_2.cls ≠ "java/lang/invoke/MethodHandle" ∧ yJ7_init_2.cls ≠ "java/lang/invoke/VarHandle" ∧ (parseMethodDescriptor yJ7_init_2.desc).map (fun d => d.parameters.length) = some 4 := by decide +kernel
theorem msJ8_init : yJ8_init.cls ≠ "java/lang/invoke/MethodHandle" ∧ yJ8_init.cls ≠ "java/lang/invoke/VarHandle" ∧ (parseMethodDescriptor yJ8_init.desc).map (fun d => d.parameters.length) = some 4 := by decide +kernel
theorem pn_J0 : plainName RJ0 = true := by decide +kernel
theorem pn_J7 : plainName RJ7 = true := by decide +kernel
theorem pn_J8 : plainName RJ8 = true := by decide +kernel
theorem spw_n {kc ks c n : Nat} {k : Nat → Nat → Prop} {P : Prop} (hf : spw kc ks c n k) (h : ∀ kc' ks', kc = kc' + c → ks = ks' + n → k kc' ks' → P) : P := by obtain ⟨a, b, e1, e2, h3⟩ := hf; exact h a b e1 e2 h3
theorem spx_n {kc ks : Nat} {k : Nat → Nat → Nat → Nat → Prop} {P : Prop} (hf : spx kc ks k) (h : ∀ c n kc' ks', kc = kc' + c → ks = ks' + n → k c n kc' ks' → P) : P := by obtain ⟨c, n, a, b, e1, e2, h3⟩ := hf; exact h c n a b e1 e2 h3
theorem ppow_n {σ : Sto} {a ci j : Nat} {k : List Value → Prop} {P : Prop} (hf : ppow σ a ci j k) (h : ∀ fs, pf σ a = some (.inr (ci, fs)) → j < fs.length → k fs → P) : P := by obtain ⟨fs, h1, h2, h3⟩ := hf; exact h fs h1 h2 h3
theorem rf_fit {C : String} (r : Option Nat) : fits (.object C) (va_rf r) = true := by cases r <;> rfl
theorem rf_fitA {t : FieldType} (r : Option Nat) : fits (.array t) (va_rf r) = true := by cases r <;> rfl
theorem i2c_fit {v : Int32} (h : decide (i2c v = v) = true) : fits .char (.int v) = true := by
  have h1 := i2c_nar h
  simp only [narrow, Value.int.injEq] at h1
  have h2 : 0 ≤ v ∧ v ≤ 65535 := by
    generalize v.toUInt32.toUInt16 = u at h1
    subst h1
    have hu := u.toNat_lt
    have e : u.toUInt32.toInt32.toInt = (u.toNat : Int) := by
      show u.toUInt32.toBitVec.toInt = _
      rw [BitVec.toInt_eq_toNat_cond]
      have e1 : u.toUInt32.toBitVec.toNat = u.toNat := UInt16.toNat_toUInt32 u
      rw [e1, if_pos (by omega)]
    rw [Int32.le_iff_toInt_le, Int32.le_iff_toInt_le, e]
    exact ⟨Int.natCast_nonneg _, by show (u.toNat : Int) ≤ 65535; omega⟩
  simp [fits, h2]
def fitB (σ : Sto) (k : Nat) (sp n : Int32) : Bool := (List.range n.toNatClampNeg).all (fun i => fits .byte (.int (σ.1 k (sp.toNatClampNeg + i))))
def isTm (σ : Sto) (v : Nat) : Bool := isP σ v 5 || isP σ v 6 || isP σ v 7 || isP σ v 8
theorem isTm_s {σ : Sto} {v : Nat} (h : isTm σ v = true) : ∃ (ci : Nat) (Cv : String) (T : u_T) (Nf : Nat) (fs : List Value), pf σ v = some (.inr (ci, fs)) ∧ xCfg.2.2.2.2.1[ci]? = some (Cv, T, Nf) ∧ (Cv, "DoughDebts$Term") ∈ kC := by
  unfold isTm at h
  simp only [Bool.or_eq_true] at h
  rcases h with ((h | h) | h) | h
  · obtain ⟨fs, h⟩ := isP_s h; exact ⟨5, _, _, _, fs, h, rfl, by decide⟩
  · obtain ⟨fs, h⟩ := isP_s h; exact ⟨6, _, _, _, fs, h, rfl, by decide⟩
  · obtain ⟨fs, h⟩ := isP_s h; exact ⟨7, _, _, _, fs, h, rfl, by decide⟩
  · obtain ⟨fs, h⟩ := isP_s h; exact ⟨8, _, _, _, fs, h, rfl, by decide⟩
section WB
variable {g : Gam} {A : Nat → Prop} {nL : Nat} {X : FX} {cells slots : Nat} {σ : Sto} {pc : Nat} {lv : List (Nat × Value)} {rest : List Value} {cc : ByteArray} {own : String} {ret : Option FieldType} {F Lc : Nat}
theorem g_paastTm {a n v : Nat} {r rv : Option Nat} {f : Nat → Option Nat} {i : Int32} {σ' : Sto} (C : CX xCfg g A nL X cc own ret F Lc) (hr : r = some a) (hrv : rv = some v) (h : paQ σ a 8 = some (n, f)) (hk : isTm σ v = true) (hin : inb i n = true) (hs : σ' = pS σ a (.inl (8, n, .inr (.inr (.inr (.inr (va_up f i.toNatClampNeg (some v)))))))) (d : decode cc pc = .ok (.aastore, 1)) (kk : TG xCfg g A nL X cells slots σ' (pc + 1) lv rest) : TG xCfg g A nL X cells slots σ pc lv (va_rf rv :: .int i :: va_rf r :: rest) := by
  subst hr; subst hrv
  obtain ⟨ci, Cv, T, Nf, fs, h1, h2, h3⟩ := isTm_s hk
  exact g_paastT C h rfl h1 h2 h3 hin hs d kk
theorem g_getZq {idx i : Nat} {C0 n0 d0 : String} (C : CX xCfg g A nL X cc own ret F Lc) (hi : kZq[i]? = some (C0, n0, d0)) (w1 : Cond.fieldLink own idx C0 n0 d0 ∈ lw_all) (d : decode cc pc = .ok (.getstatic idx, 3)) (kk : ∀ r : Option Nat, TG xCfg g A nL X cells slots σ (pc + 3) lv (va_rf r :: rest)) : TG xCfg g A nL X cells slots σ pc lv rest := by
  obtain ⟨p, l, e, R, s, m, args, below, meth, c, Q⟩ := X
  obtain ⟨hx, hb, hr, hlk, hml, hown, hts, hK, hA, hF, hLc, hKC⟩ := C
  intro H locs ls hP hD hS hl
  rcases hKC.2.2.2.2.2.2.2.2 _ (List.mem_of_getElem? hi) with h | ⟨t, h⟩
  · exact va_gets hx hb h hS hown (hts _ w1) (fun x h => h) d (kk none H locs ls hP hD hS hl)
  · exact va_gets hx hb h hS hown (hts _ w1) (fun x h => h) d (kk (some t) H locs ls hP hD hS hl)
end WB
theorem kb_124 : (Int8.ofInt 124).toInt32 = (124 : Int32) := by decide
theorem kb_38 : (Int8.ofInt 38).toInt32 = (38 : Int32) := by decide
theorem kb_56 : (Int8.ofInt 56).toInt32 = (56 : Int32) := by decide
