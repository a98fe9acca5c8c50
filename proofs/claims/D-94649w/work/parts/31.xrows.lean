/-! rows of the component: lengths, pooled receivers, calls across the nest, Term.of on any term -/
set_option maxRecDepth 100000
section XR
variable {cf : Cfg} {g : Gam} {A : Nat → Prop} {nL : Nat} {X : FX} {cells slots : Nat} {σ : Sto} {pc : Nat} {lv : List (Nat × Value)} {st rest : List Value} {cc : ByteArray} {own : String} {ret : Option FieldType} {F Lc : Nat}
theorem g_alenT {k t n : Nat} {v : Int32} {ty : FieldType} (z : vp_A) (C : CX cf g A nL X cc own ret F Lc) (e1 : (wS cf g σ)[k]? = some (g.1 k, .inl (g.2.1 t, z))) (hz : z.1 = n) (hty : cf.2.2.2.2.2[t]? = some ty) (hv : Int32.ofNat n = v) (d : decode cc pc = .ok (.arraylength, 1)) (kk : TG cf g A nL X cells slots σ (pc + 1) lv (.int v :: rest)) : TG cf g A nL X cells slots σ pc lv (.ref (g.1 k) :: rest) := by
  obtain ⟨p, l, e, R, s, m, args, below, meth, c, Q⟩ := X
  obtain ⟨hx, hb, hr, hlk, hml, hown, hts, hK, hA, hF, hLc, hKC⟩ := C
  exact fun H locs ls hP hD hS hl => va_alen hx hb hK hP k t e1 (tyl_at hty) (by rw [hz]; exact hv) d (kk H locs ls hP hD hS hl)
theorem g_alen0 {k n x : Nat} {v : Int32} {ty : FieldType} (C : CX cf g A nL X cc own ret F Lc) (a : RO cf k 0 n x) (hty : cf.2.2.2.2.2[0]? = some ty) (hv : Int32.ofNat n = v) (d : decode cc pc = .ok (.arraylength, 1)) (kk : TG cf g A nL X cells slots σ (pc + 1) lv (.int v :: rest)) : TG cf g A nL X cells slots σ pc lv (.ref (g.1 k) :: rest) := by
  refine g_alenT (t := 0) (n, .inl (σ.1 k)) C ?_ rfl hty hv d kk
  rw [wS_at a.1]
  simp only [cE, a.2]
theorem g_alen1 {k n x : Nat} {v : Int32} {ty : FieldType} (C : CX cf g A nL X cc own ret F Lc) (a : RO cf k 1 n x) (hty : cf.2.2.2.2.2[1]? = some ty) (hv : Int32.ofNat n = v) (d : decode cc pc = .ok (.arraylength, 1)) (kk : TG cf g A nL X cells slots σ (pc + 1) lv (.int v :: rest)) : TG cf g A nL X cells slots σ pc lv (.ref (g.1 k) :: rest) := by
  refine g_alenT (t := 1) (n, .inl (σ.1 k)) C ?_ rfl hty hv d kk
  rw [wS_at a.1]
  simp only [cE, a.2]
theorem g_alen2 {k n x : Nat} {v : Int32} {ty : FieldType} (C : CX cf g A nL X cc own ret F Lc) (a : RO cf k 2 n x) (hty : cf.2.2.2.2.2[2]? = some ty) (hv : Int32.ofNat n = v) (d : decode cc pc = .ok (.arraylength, 1)) (kk : TG cf g A nL X cells slots σ (pc + 1) lv (.int v :: rest)) : TG cf g A nL X cells slots σ pc lv (.ref (g.1 k) :: rest) := by
  refine g_alenT (t := 2) (n, .inr (.inl (σ.2.1 k))) C ?_ rfl hty hv d kk
  rw [wS_at a.1]
  simp only [cE, a.2]
theorem g_alen3 {k n x : Nat} {v : Int32} {ty : FieldType} (C : CX cf g A nL X cc own ret F Lc) (a : RO cf k 3 n x) (hty : cf.2.2.2.2.2[x]? = some ty) (hv : Int32.ofNat n = v) (d : decode cc pc = .ok (.arraylength, 1)) (kk : TG cf g A nL X cells slots σ (pc + 1) lv (.int v :: rest)) : TG cf g A nL X cells slots σ pc lv (.ref (g.1 k) :: rest) := by
  refine g_alenT (t := x) (n, .inr (.inr (.inr (.inr (σ.2.2.1 k))))) C ?_ rfl hty hv d kk
  rw [wS_at a.1]
  simp only [cE, a.2]
theorem g_alen5 {k n x : Nat} {v : Int32} {ty : FieldType} (C : CX cf g A nL X cc own ret F Lc) (a : RO cf k 5 n x) (hty : cf.2.2.2.2.2[3]? = some ty) (hv : Int32.ofNat n = v) (d : decode cc pc = .ok (.arraylength, 1)) (kk : TG cf g A nL X cells slots σ (pc + 1) lv (.int v :: rest)) : TG cf g A nL X cells slots σ pc lv (.ref (g.1 k) :: rest) := by
  refine g_alenT (t := 3) (n, .inr (.inr (.inr (.inr (fun j => some (g.1 (x + j))))))) C ?_ rfl hty hv d kk
  rw [wS_at a.1]
  simp only [cE, a.2]
theorem g_alen6 {k n x : Nat} {v : Int32} {ty : FieldType} (C : CX cf g A nL X cc own ret F Lc) (a : RO cf k 6 n x) (hty : cf.2.2.2.2.2[4]? = some ty) (hv : Int32.ofNat n = v) (d : decode cc pc = .ok (.arraylength, 1)) (kk : TG cf g A nL X cells slots σ (pc + 1) lv (.int v :: rest)) : TG cf g A nL X cells slots σ pc lv (.ref (g.1 k) :: rest) := by
  refine g_alenT (t := 4) (n, .inr (.inr (.inr (.inr (fun j => some (g.2.2.2.1 (x + j))))))) C ?_ rfl hty hv d kk
  rw [wS_at a.1]
  simp only [cE, a.2]
theorem g_alen7 {k n x : Nat} {v : Int32} {ty : FieldType} (C : CX cf g A nL X cc own ret F Lc) (a : RO cf k 7 n x) (hty : cf.2.2.2.2.2[x]? = some ty) (hv : Int32.ofNat n = v) (d : decode cc pc = .ok (.arraylength, 1)) (kk : TG cf g A nL X cells slots σ (pc + 1) lv (.int v :: rest)) : TG cf g A nL X cells slots σ pc lv (.ref (g.1 k) :: rest) := by
  refine g_alenT (t := x) (n, .inr (.inr (.inr (.inr (fun j => some (g.1 (σ.1 k j).toNatClampNeg)))))) C ?_ rfl hty hv d kk
  rw [wS_at a.1]
  simp only [cE, a.2]
theorem g_pgetQ {a ci j idx tag : Nat} {r : Option Nat} {v : Value} (C : CX cf g A nL X cc own ret F Lc) (f : FO cf own idx ci j tag) (hr : r = some a) (hv : pgV σ a ci j = some v) (d : decode cc pc = .ok (.getfield idx, 3)) (kk : TG cf g A nL X cells slots σ (pc + 3) lv (v :: rest)) : TG cf g A nL X cells slots σ pc lv (va_rf r :: rest) := by
  subst hr
  exact g_pget C f hv d kk
theorem g_pbaldQ {a n : Nat} {r : Option Nat} {f : Nat → Int32} {i : Int32} (C : CX cf g A nL X cc own ret F Lc) (hr : r = some a) (h : paI σ a 1 = some (n, f)) (h0 : cf.2.2.2.2.2[1]? = some .byte) (hin : inb i n = true) (d : decode cc pc = .ok (.baload, 1)) (kk : TG cf g A nL X cells slots σ (pc + 1) lv (.int (f i.toNatClampNeg) :: rest)) : TG cf g A nL X cells slots σ pc lv (.int i :: va_rf r :: rest) := by
  subst hr
  exact g_pbald C h h0 hin d kk
theorem g_plenBQ {a n : Nat} {r : Option Nat} {f : Nat → Int32} (C : CX cf g A nL X cc own ret F Lc) (hr : r = some a) (h : paI σ a 1 = some (n, f)) (h0 : cf.2.2.2.2.2[1]? = some .byte) (d : decode cc pc = .ok (.arraylength, 1)) (kk : TG cf g A nL X cells slots σ (pc + 1) lv (.int (Int32.ofNat n) :: rest)) : TG cf g A nL X cells slots σ pc lv (va_rf r :: rest) := by
  subst hr
  exact g_plenB C h h0 d kk
theorem g_paaldQ {a t n : Nat} {r : Option Nat} {Cn : String} {f : Nat → Option Nat} {i : Int32} (C : CX cf g A nL X cc own ret F Lc) (hr : r = some a) (h : paQ σ a t = some (n, f)) (h0 : cf.2.2.2.2.2[t]? = some (.object Cn)) (hin : inb i n = true) (d : decode cc pc = .ok (.aaload, 1)) (kk : TG cf g A nL X cells slots σ (pc + 1) lv (va_rf (f i.toNatClampNeg) :: rest)) : TG cf g A nL X cells slots σ pc lv (.int i :: va_rf r :: rest) := by
  subst hr
  exact g_paald C h h0 hin d kk
/-- a private static method of a nest mate -/
theorem g_callSN0 {l : Launch} {idx L n fr lo : Nat} {host : String} {y : MethodName} {b : ByteArray} {r : Option FieldType} {av : Gam → List Value} {As stk : List Value} {σ' : Sto} {rv : Gam → Option Value}
    (C : CX cf g A nL X cc own ret F Lc) (hM : Ct cf l y b L r { frames := fr, cells := 0, slots := 0, locals := lo } av σ σ' rv) (hX : X.2.1 = l) (hav : av g = As)
    (w1 : (own, idx, y, host) ∈ kM) (w2 : Cond.static y ∈ lw_all) (w3 : Cond.initialized y.cls ∈ lw_all) (w4 : Cond.code y b L r ∈ lw_all)
    (hd : y.cls ≠ "java/lang/invoke/MethodHandle" ∧ y.cls ≠ "java/lang/invoke/VarHandle" ∧ (parseMethodDescriptor y.desc).map (fun d => d.parameters.length) = some n) (hn : As.length = n)
    (hR : fr + 1 ≤ F ∧ 8 + (L + 11) + lo ≤ Lc) (hrest : (rest.map fun v => v.category).sum ≤ 8) (d : decode cc pc = .ok (.invokestatic idx, 3)) (hst : (rv g).toList ++ rest = stk)
    (kk : TG cf g A nL X 0 0 σ' (pc + 3) lv stk) : TG cf g A nL X 0 0 σ pc lv (As.reverse ++ rest) := by
  subst hst
  obtain ⟨p, l, e, R, s, m, args, below, meth, c, Q⟩ := X
  obtain ⟨hx, hb, hr, hlk, hml, hown, hts, hK, hA, hF, hLc, hKC⟩ := C
  cases hX
  intro H locs ls hP hD hS hl
  have hM := hM g H.size
  rw [hav] at hM
  have hFc := wS_free (H := H) hD hA hS.1
  refine va_callg (rv := rv g) (A1 := va_A (wS cf g σ) H.size) (B := fun t => va_P g.2.2.1 cf.2.2.2.2.1 (wS cf g σ') t.heap ∧ va_D (va_A (wS cf g σ) H.size) (wS cf g σ'))
    (va_runSN (As := As) (rest := rest) ⟨hx, hb, hml, hown, hts⟩ hM ⟨va_cnB n hts (lw_meth w4) rfl rfl rfl (hKC.2.2.2.1 _ w1) (hts _ w3) hd ⟨Nat.le_trans hR.1 hF, Nat.le_trans hR.2 hLc⟩, hts _ w2, trivial⟩
      ⟨cP_blind, fun U hU hW => ⟨rfl, by rw [hU], by rw [hU]; exact hP, va_K.moved hW.alike hK, hD.weaken (fun _ _ _ _ => trivial), hKC.call hS hFc hU hW⟩⟩ rfl hn hl.1 rfl (lv_room hrest) d ⟨Nat.zero_le _, Nat.zero_le _⟩)
    (fun st oc t h => ⟨⟨h.1.1, h.1.2⟩, h.2⟩) hS hFc hFc (fun t H1 locs1 ht hvm hB hz hk1 hS => ?_)
  obtain ⟨hP1, hD1⟩ := hB
  rw [ht] at hP1
  exact kk H1 locs1 ls hP1 (hD1.weaken (fun _ q _ h => hFc q.1 h)) hS hl
/-- a call on a pool's object -/
theorem g_callP0 {l : Launch} {a ci idx L n fr lo : Nat} {Cn : String} {y : MethodName} {b : ByteArray} {r : Option FieldType} {av : Gam → List Value} {As stk : List Value} {σ' : Sto} {rv : Gam → Option Value} {T : u_T} {Nf : Nat}
    (C : CX cf g A nL X cc own ret F Lc) (hM : Ct cf l y b L r { frames := fr, cells := 0, slots := 0, locals := lo } av σ σ' rv) (hX : X.2.1 = l) (hp : isP σ a ci = true) (hc : cf.2.2.2.2.1[ci]? = some (Cn, T, Nf)) (hav : av g = .ref a :: As)
    (w1 : Cond.methodLink own idx y ∈ lw_all) (w2 : Cond.instanceMethod y ∈ lw_all) (w3 : Cond.selects Cn y y ∈ lw_all) (w4 : Cond.initialized Cn ∈ lw_all) (w5 : Cond.code y b L r ∈ lw_all)
    (hd : y.cls = Cn ∧ y.cls ≠ "java/lang/invoke/MethodHandle" ∧ y.cls ≠ "java/lang/invoke/VarHandle" ∧ (parseMethodDescriptor y.desc).map (fun d => d.parameters.length) = some n) (hn : As.length = n)
    (hR : fr + 1 ≤ F ∧ 8 + (L + 11) + lo ≤ Lc) (hrest : (rest.map fun v => v.category).sum ≤ 8) (d : decode cc pc = .ok (.invokevirtual idx, 3)) (hst : (rv g).toList ++ rest = stk)
    (kk : TG cf g A nL X 0 0 σ' (pc + 3) lv stk) : TG cf g A nL X 0 0 σ pc lv (As.reverse ++ .ref a :: rest) := by
  subst hst
  obtain ⟨p, l, e, R, s, m, args, below, meth, c, Q⟩ := X
  obtain ⟨hx, hb, hr, hlk, hml, hown, hts, hK, hA, hF, hLc, hKC⟩ := C
  cases hX
  intro H locs ls hP hD hS hl
  have hM := hM g H.size
  rw [hav] at hM
  have hFc := wS_free (H := H) hD hA hS.1
  obtain ⟨fs, h2⟩ := isP_s hp
  obtain ⟨j, hj⟩ := pf_at (cf := cf) (g := g) h2
  refine va_callg (rv := rv g) (A1 := va_A (wS cf g σ) H.size) (B := fun t => va_P g.2.2.1 cf.2.2.2.2.1 (wS cf g σ') t.heap ∧ va_D (va_A (wS cf g σ) H.size) (wS cf g σ'))
    (va_runV (As := As) (rest := rest) ⟨hx, hb, hml, hown, hts⟩ hM (cwV n hts (lw_V w1 w2 w3 w4 w5) rfl rfl rfl hd ⟨Nat.le_trans hR.1 hF, Nat.le_trans hR.2 hLc⟩)
      ⟨cP_blind, va_recv hK hP hc hj, fun U hU hW => ⟨rfl, by rw [hU], by rw [hU]; exact hP, va_K.moved hW.alike hK, hD.weaken (fun _ _ _ _ => trivial), hKC.call hS hFc hU hW⟩⟩ rfl hn hl.1 rfl (lv_room hrest) d ⟨Nat.zero_le _, Nat.zero_le _⟩)
    (fun st oc t h => ⟨⟨h.1.1, h.1.2⟩, h.2⟩) hS hFc hFc (fun t H1 locs1 ht hvm hB hz hk1 hS => ?_)
  obtain ⟨hP1, hD1⟩ := hB
  rw [ht] at hP1
  exact kk H1 locs1 ls hP1 (hD1.weaken (fun _ q _ h => hFc q.1 h)) hS hl
theorem g_callP0Q {l : Launch} {a ci idx L n fr lo : Nat} {rr : Option Nat} {Cn : String} {y : MethodName} {b : ByteArray} {r : Option FieldType} {av : Gam → List Value} {As stk : List Value} {σ' : Sto} {rv : Gam → Option Value} {T : u_T} {Nf : Nat}
    (C : CX cf g A nL X cc own ret F Lc) (hM : Ct cf l y b L r { frames := fr, cells := 0, slots := 0, locals := lo } av σ σ' rv) (hX : X.2.1 = l) (hrr : rr = some a) (hp : isP σ a ci = true) (hc : cf.2.2.2.2.1[ci]? = some (Cn, T, Nf)) (hav : av g = .ref a :: As)
    (w1 : Cond.methodLink own idx y ∈ lw_all) (w2 : Cond.instanceMethod y ∈ lw_all) (w3 : Cond.selects Cn y y ∈ lw_all) (w4 : Cond.initialized Cn ∈ lw_all) (w5 : Cond.code y b L r ∈ lw_all)
    (hd : y.cls = Cn ∧ y.cls ≠ "java/lang/invoke/MethodHandle" ∧ y.cls ≠ "java/lang/invoke/VarHandle" ∧ (parseMethodDescriptor y.desc).map (fun d => d.parameters.length) = some n) (hn : As.length = n)
    (hR : fr + 1 ≤ F ∧ 8 + (L + 11) + lo ≤ Lc) (hrest : (rest.map fun v => v.category).sum ≤ 8) (d : decode cc pc = .ok (.invokevirtual idx, 3)) (hst : (rv g).toList ++ rest = stk)
    (kk : TG cf g A nL X 0 0 σ' (pc + 3) lv stk) : TG cf g A nL X 0 0 σ pc lv (As.reverse ++ va_rf rr :: rest) := by
  subst hrr
  exact g_callP0 C hM hX hp hc hav w1 w2 w3 w4 w5 hd hn hR hrest d hst kk
end XR
def yTof : MethodName := ⟨"DoughDebts$Term", "of", "([I)I"⟩
/-- what a term at a answers, over the array of code c: by its class -/
def TOfC (l : Launch) (ci : Nat) (Cn : String) (y : MethodName) (b : ByteArray) (L : Nat) (s sF : Sto) (a c : Nat) (rF : Int32) (Fr Lr : Nat) : Prop := isP s a ci = true ∧ (∃ (T : u_T) (Nf : Nat), xCl[ci]? = some (Cn, T, Nf)) ∧ Cond.selects Cn yTof y ∈ lw_all ∧ Cond.instanceMethod y ∈ lw_all ∧ Cond.initialized y.cls ∈ lw_all ∧ Cond.code y b L (some .int) ∈ lw_all ∧ ∃ fr lo : Nat, fr ≤ Fr ∧ 8 + (L + 11) + lo ≤ Lr ∧ Ct xCfg l y b L (some .int) { frames := fr, cells := 0, slots := 0, locals := lo } (fun g => [.ref a, .ref (g.1 c)]) s sF (fun _ => some (.int rF))
def TOf (l : Launch) (s sF : Sto) (a c : Nat) (rF : Int32) (Fr Lr : Nat) : Prop := ∃ (ci : Nat) (Cn : String) (y : MethodName) (b : ByteArray) (L : Nat), TOfC l ci Cn y b L s sF a c rF Fr Lr
section XT
variable {g : Gam} {A : Nat → Prop} {nL : Nat} {X : FX} {σ : Sto} {pc : Nat} {lv : List (Nat × Value)} {st rest : List Value} {cc : ByteArray} {own : String} {ret : Option FieldType} {F Lc : Nat}
theorem g_callT {l : Launch} {a c0 idx Fr Lr : Nat} {rF : Int32} {stk : List Value} {σ' : Sto} (C : CX xCfg g A nL X cc own ret F Lc) (hM : TOf l σ σ' a c0 rF Fr Lr) (hX : X.2.1 = l) (w1 : Cond.methodLink own idx yTof ∈ lw_all) (hR : Fr + 1 ≤ F ∧ Lr ≤ Lc) (hrest : (rest.map fun v => v.category).sum ≤ 8) (d : decode cc pc = .ok (.invokevirtual idx, 3)) (hst : .int rF :: rest = stk)
    (kk : TG xCfg g A nL X 0 0 σ' (pc + 3) lv stk) : TG xCfg g A nL X 0 0 σ pc lv (.ref (g.1 c0) :: .ref a :: rest) := by
  subst hst
  obtain ⟨p, l, e, R, s, m, args, below, meth, c, Q⟩ := X
  obtain ⟨hx, hb, hr, hlk, hml, hown, hts, hK, hA, hF, hLc, hKC⟩ := C
  cases hX
  intro H locs ls hP hD hS hl
  obtain ⟨ci, Cn, y, b, L, hp, ⟨T, Nf, hc⟩, w2, w3, w4, w5, fr, lo, hfr, hlo, hCt⟩ := hM
  have hM := hCt g H.size
  have hFc := wS_free (H := H) hD hA hS.1
  obtain ⟨fs, h2⟩ := isP_s hp
  obtain ⟨j, hj⟩ := pf_at (cf := xCfg) (g := g) h2
  have hG : GoodIn lw_all (va_wsU own idx Cn "DoughDebts$Term" yTof y (ws_ y b L (some .int))) := by
    refine lw_app ?_ (lw_meth w5)
    intro w hw
    simp only [List.mem_cons, List.not_mem_nil, or_false] at hw
    rcases hw with e | e | e | e | e
    · rw [e]; exact w1
    · rw [e]; exact q801
    · rw [e]; exact w2
    · rw [e]; exact w3
    · rw [e]; exact w4
  refine va_callg (rv := some (.int rF)) (A1 := va_A (wS xCfg g σ) H.size) (B := fun t => va_P g.2.2.1 xCfg.2.2.2.2.1 (wS xCfg g σ') t.heap ∧ va_D (va_A (wS xCfg g σ) H.size) (wS xCfg g σ'))
    (va_runU (x := yTof) (As := [.ref (g.1 c0)]) (rest := rest) ⟨hx, hb, hml, hown, hts⟩ hM (va_cwA 1 hts hG rfl rfl rfl (hKC.2.2.2.2.2.1 _ (List.mem_of_getElem? (i := 4) rfl)) (by decide +kernel) ⟨Nat.le_trans (by show fr + 1 ≤ F; omega) hF, Nat.le_trans (by show 8 + (L + 11) + lo ≤ Lc; omega) hLc⟩)
      ⟨cP_blind, va_recv hK hP hc hj, fun U hU hW => ⟨rfl, by rw [hU], by rw [hU]; exact hP, va_K.moved hW.alike hK, hD.weaken (fun _ _ _ _ => trivial), hKC.call hS hFc hU hW⟩⟩ rfl rfl hl.1 rfl (lv_room hrest) d ⟨Nat.zero_le _, Nat.zero_le _⟩)
    (fun st oc t h => ⟨⟨h.1.1, h.1.2⟩, h.2⟩) hS hFc hFc (fun t H1 locs1 ht hvm hB hz hk1 hS => ?_)
  obtain ⟨hP1, hD1⟩ := hB
  rw [ht] at hP1
  exact kk H1 locs1 ls hP1 (hD1.weaken (fun _ q _ h => hFc q.1 h)) hS hl
theorem g_callTQ {l : Launch} {a c0 idx Fr Lr : Nat} {rr : Option Nat} {rF : Int32} {stk : List Value} {σ' : Sto} (C : CX xCfg g A nL X cc own ret F Lc) (hM : TOf l σ σ' a c0 rF Fr Lr) (hX : X.2.1 = l) (hrr : rr = some a) (w1 : Cond.methodLink own idx yTof ∈ lw_all) (hR : Fr + 1 ≤ F ∧ Lr ≤ Lc) (hrest : (rest.map fun v => v.category).sum ≤ 8) (d : decode cc pc = .ok (.invokevirtual idx, 3)) (hst : .int rF :: rest = stk)
    (kk : TG xCfg g A nL X 0 0 σ' (pc + 3) lv stk) : TG xCfg g A nL X 0 0 σ pc lv (.ref (g.1 c0) :: va_rf rr :: rest) := by
  subst hrr
  exact g_callT C hM hX w1 hR hrest d hst kk
end XT
