/-! rows on the pool (cells that come and go), on arrays of references, copies, enum constants -/
set_option maxRecDepth 100000
/-- the pool's cell at an address -/
def pf (σ : Sto) (a : Nat) : Option va_E := (σ.2.2.2.find? (fun q => q.1 == a)).map (fun q => q.2)
theorem pf_mem {σ : Sto} {a : Nat} {e : va_E} (h : pf σ a = some e) : (a, e) ∈ σ.2.2.2 := by
  unfold pf at h
  obtain ⟨q, h1, h2⟩ := Option.map_eq_some_iff.mp h
  have h3 := List.find?_some h1
  have h4 : q.1 = a := beq_iff_eq.mp h3
  have h5 := List.mem_of_find?_eq_some h1
  rw [← h4, ← h2]
  exact h5
theorem pf_at {cf : Cfg} {g : Gam} {σ : Sto} {a : Nat} {e : va_E} (h : pf σ a = some e) : ∃ i : Nat, (wS cf g σ)[i]? = some (a, pE g e) := by
  obtain ⟨i, hi⟩ := List.getElem?_of_mem (pf_mem h)
  refine ⟨cf.1 + i, ?_⟩
  rw [wS_pool (by omega), show cf.1 + i - cf.1 = i by omega, hi]
  rfl
/-- the pool with the cell at a replaced -/
def pS (σ : Sto) (a : Nat) (e : va_E) : Sto := (σ.1, σ.2.1, σ.2.2.1, σ.2.2.2.map (fun q => if q.1 = a then (a, e) else q))
def pA (σ : Sto) (a : Nat) (e : va_E) : Sto := (σ.1, σ.2.1, σ.2.2.1, σ.2.2.2 ++ [(a, e)])
theorem pS_set {cf : Cfg} {g : Gam} {A : Nat → Prop} {σ : Sto} {a i : Nat} {e0 e : va_E} (hD : va_D A (wS cf g σ)) (hi : (wS cf g σ)[i]? = some (a, e0)) (hN : cf.1 ≤ i) : (wS cf g σ).set i (a, pE g e) = wS cf g (pS σ a e) := by
  have hl := (List.getElem?_eq_some_iff.mp hi).1
  apply List.ext_getElem?
  intro j
  by_cases hj : i = j
  · subst hj
    rw [List.getElem?_set_self hl, wS_pool hN]
    rw [wS_pool hN] at hi
    obtain ⟨q, h1, h2⟩ := Option.map_eq_some_iff.mp hi
    have h3 : q.1 = a := congrArg Prod.fst h2
    simp only [pS]
    rw [List.getElem?_map, h1]
    simp [h3, pC]
  · rw [List.getElem?_set_ne hj]
    by_cases hjN : j < cf.1
    · rw [wS_at hjN, wS_at hjN]
      rfl
    · have hjN : cf.1 ≤ j := Nat.le_of_not_lt hjN
      rw [wS_pool hjN, wS_pool hjN]
      simp only [pS]
      rw [List.getElem?_map]
      cases hq : σ.2.2.2[j - cf.1]? with
      | none => rfl
      | some q =>
        have h1 : (wS cf g σ)[j]? = some (pC g q) := by rw [wS_pool hjN, hq]; rfl
        have h2 : q.1 ≠ a := fun z => hj (hD.1 i j _ _ hi h1 z.symm)
        simp [h2]
theorem pA_app {cf : Cfg} {g : Gam} {σ : Sto} {a : Nat} {e : va_E} : wS cf g σ ++ [(a, pE g e)] = wS cf g (pA σ a e) := by
  unfold wS pA
  simp [pC, List.append_assoc]
  intro k hk
  exact (cE_of rfl rfl rfl).symm
theorem pf_ge {cf : Cfg} {g : Gam} {σ : Sto} {a : Nat} {e : va_E} (h : pf σ a = some e) : ∃ i : Nat, cf.1 ≤ i ∧ (wS cf g σ)[i]? = some (a, pE g e) := by
  obtain ⟨i, hi⟩ := List.getElem?_of_mem (pf_mem h)
  refine ⟨cf.1 + i, Nat.le_add_right _ _, ?_⟩
  rw [wS_pool (by omega), show cf.1 + i - cf.1 = i by omega, hi]
  rfl
/-- references out of values -/
def vR (v : Value) : Option (Option Nat) := match v with
  | .null => some none
  | .ref a => some (some a)
  | _ => none
theorem vR_rf {v : Value} {r : Option Nat} (h : vR v = some r) : v = va_rf r := by
  cases v <;> simp [vR] at h <;> subst h <;> rfl
/-- reading a field of a pool's object, and a place of a pool's array -/
def pgV (σ : Sto) (a ci j : Nat) : Option Value := match pf σ a with
  | some (.inr (c, fs)) => if c = ci then fs[j]? else none
  | _ => none
def pgI {β : Type} (σ : Sto) (a ci j : Nat) (k : Int32 → Option β) : Option β := match pgV σ a ci j with
  | some (.int v) => k v
  | _ => none
def pgQ {β : Type} (σ : Sto) (a ci j : Nat) (k : Option Nat → Option β) : Option β := match (pgV σ a ci j).bind vR with
  | some r => k r
  | _ => none
def paI (σ : Sto) (a t : Nat) : Option (Nat × (Nat → Int32)) := match pf σ a with
  | some (.inl (c, n, .inl f)) => if c = t then some (n, f) else none
  | _ => none
def paQ (σ : Sto) (a t : Nat) : Option (Nat × (Nat → Option Nat)) := match pf σ a with
  | some (.inl (c, n, .inr (.inr (.inr (.inr f))))) => if c = t then some (n, f) else none
  | _ => none
def pal {β γ : Type} (o : Option (Nat × γ)) (k : Nat → γ → Option β) : Option β := match o with
  | some x => k x.1 x.2
  | none => none
theorem pgV_s {σ : Sto} {a ci j : Nat} {v : Value} (h : pgV σ a ci j = some v) : ∃ fs : List Value, pf σ a = some (.inr (ci, fs)) ∧ fs[j]? = some v := by
  unfold pgV at h
  split at h
  · rename_i c fs e
    split at h
    · rename_i hc
      subst hc
      exact ⟨fs, e, h⟩
    · cases h
  · cases h
theorem pgI_n {β : Type} {σ : Sto} {a ci j : Nat} {k : Int32 → Option β} {x : β} {P : Prop} (hf : pgI σ a ci j k = some x) (h : ∀ v, pgV σ a ci j = some (.int v) → k v = some x → P) : P := by
  unfold pgI at hf
  split at hf
  · rename_i v e
    exact h v e hf
  · cases hf
theorem pgQ_n {β : Type} {σ : Sto} {a ci j : Nat} {k : Option Nat → Option β} {x : β} {P : Prop} (hf : pgQ σ a ci j k = some x) (h : ∀ r, pgV σ a ci j = some (va_rf r) → k r = some x → P) : P := by
  unfold pgQ at hf
  split at hf
  · rename_i r e
    obtain ⟨v, h1, h2⟩ := Option.bind_eq_some_iff.mp e
    exact h r (by rw [h1, vR_rf h2]) hf
  · cases hf
theorem pal_n {β γ : Type} {o : Option (Nat × γ)} {k : Nat → γ → Option β} {x : β} {P : Prop} (hf : pal o k = some x) (h : ∀ n f, o = some (n, f) → k n f = some x → P) : P := by
  cases o with
  | none => cases hf
  | some y => exact h y.1 y.2 rfl hf
theorem paI_s {σ : Sto} {a t n : Nat} {f : Nat → Int32} (h : paI σ a t = some (n, f)) : pf σ a = some (.inl (t, n, .inl f)) := by
  unfold paI at h
  split at h
  · rename_i c n' f' e
    split at h
    · rename_i hc
      subst hc
      cases h
      exact e
    · cases h
  · cases h
theorem paQ_s {σ : Sto} {a t n : Nat} {f : Nat → Option Nat} (h : paQ σ a t = some (n, f)) : pf σ a = some (.inl (t, n, .inr (.inr (.inr (.inr f))))) := by
  unfold paQ at h
  split at h
  · rename_i c n' f' e
    split at h
    · rename_i hc
      subst hc
      cases h
      exact e
    · cases h
  · cases h
/-- copies between arrays of ints, and of references -/
def cpOk (sp dp n : Int32) (n0 n1 : Nat) : Bool := decide (¬ sp < 0) && (decide (¬ dp < 0) && (decide (¬ n < 0) && (decide (sp.toNatClampNeg + n.toNatClampNeg ≤ n0) && decide (dp.toNatClampNeg + n.toNatClampNeg ≤ n1))))
theorem cpOk_s {sp dp n : Int32} {n0 n1 : Nat} (h : cpOk sp dp n n0 n1 = true) : ¬ sp < 0 ∧ ¬ dp < 0 ∧ ¬ n < 0 ∧ sp.toNatClampNeg + n.toNatClampNeg ≤ n0 ∧ dp.toNatClampNeg + n.toNatClampNeg ≤ n1 := by
  unfold cpOk at h
  simp only [Bool.and_eq_true] at h
  exact ⟨of_decide_eq_true h.1, of_decide_eq_true h.2.1, of_decide_eq_true h.2.2.1, of_decide_eq_true h.2.2.2.1, of_decide_eq_true h.2.2.2.2⟩
def cpI (σ : Sto) (k0 : Nat) (sp : Int32) (k1 : Nat) (dp n : Int32) : Sto := (fun a b => if a = k1 then va_cpy (σ.1 k0) (σ.1 k1) sp.toNatClampNeg dp.toNatClampNeg n.toNatClampNeg b else σ.1 a b, σ.2)
def cpR (σ : Sto) (k0 : Nat) (sp : Int32) (k1 : Nat) (dp n : Int32) : Sto := (σ.1, σ.2.1, fun a b => if a = k1 then va_cpy (σ.2.2.1 k0) (σ.2.2.1 k1) sp.toNatClampNeg dp.toNatClampNeg n.toNatClampNeg b else σ.2.2.1 a b, σ.2.2.2)
theorem cpI_ne {cf : Cfg} {g : Gam} {σ : Sto} {k0 k1 : Nat} {sp dp n : Int32} (a : Nat) (h : a ≠ k1) : cE cf g (cpI σ k0 sp k1 dp n) a = cE cf g σ a := cE_of (by funext b; simp [cpI, h]) rfl rfl
theorem cpR_ne {cf : Cfg} {g : Gam} {σ : Sto} {k0 k1 : Nat} {sp dp n : Int32} (a : Nat) (h : a ≠ k1) : cE cf g (cpR σ k0 sp k1 dp n) a = cE cf g σ a := cE_of rfl rfl (by funext b; simp [cpR, h])
theorem cpI_self {σ : Sto} {k0 k1 : Nat} {sp dp n : Int32} : (cpI σ k0 sp k1 dp n).1 k1 = va_cpy (σ.1 k0) (σ.1 k1) sp.toNatClampNeg dp.toNatClampNeg n.toNatClampNeg := by funext b; simp [cpI]
theorem cpR_self {σ : Sto} {k0 k1 : Nat} {sp dp n : Int32} : (cpR σ k0 sp k1 dp n).2.2.1 k1 = va_cpy (σ.2.2.1 k0) (σ.2.2.1 k1) sp.toNatClampNeg dp.toNatClampNeg n.toNatClampNeg := by funext b; simp [cpR]
/-- is the pool's cell at a an object of class ci? -/
def isP (σ : Sto) (a ci : Nat) : Bool := match pf σ a with
  | some (.inr (c, _)) => c == ci
  | _ => false
theorem isP_s {σ : Sto} {a ci : Nat} (h : isP σ a ci = true) : ∃ fs : List Value, pf σ a = some (.inr (ci, fs)) := by
  unfold isP at h
  split at h
  · rename_i c fs e
    have hc : c = ci := beq_iff_eq.mp h
    subst hc
    exact ⟨fs, e⟩
  · cases h
def allP (σ : Sto) (k ci n : Nat) : Bool := (List.range n).all (fun j => match σ.2.2.1 k j with | none => true | some a => isP σ a ci)
def isO (cf : Cfg) (k ci : Nat) : Bool := decide (k < cf.1) && (decide ((cf.2.1 k).1 = 4) && decide ((cf.2.1 k).2.1 = ci))
theorem isO_s {cf : Cfg} {k ci : Nat} (h : isO cf k ci = true) : OO cf k ci := by
  unfold isO at h
  simp only [Bool.and_eq_true] at h
  have h1 := of_decide_eq_true h.1
  have h2 := of_decide_eq_true h.2.1
  have h3 := of_decide_eq_true h.2.2
  refine ⟨h1, (cf.2.1 k).2.2, ?_⟩
  rw [← h2, ← h3]
def allO (cf : Cfg) (σ : Sto) (k ci n : Nat) : Bool := (List.range n).all (fun j => isO cf (σ.1 k j).toNatClampNeg ci)
def isA (cf : Cfg) (k kind : Nat) : Bool := decide (k < cf.1) && decide ((cf.2.1 k).1 = kind)
def xlen (cf : Cfg) (k : Nat) : Nat := (cf.2.1 k).2.1
theorem isA_s {cf : Cfg} {k kind : Nat} (h : isA cf k kind = true) : AO cf k kind (xlen cf k) := by
  unfold isA at h
  simp only [Bool.and_eq_true] at h
  refine ⟨of_decide_eq_true h.1, (cf.2.1 k).2.2, ?_⟩
  rw [← of_decide_eq_true h.2]
  rfl
section PR
variable {cf : Cfg} {g : Gam} {A : Nat → Prop} {nL : Nat} {X : FX} {cells slots : Nat} {σ : Sto} {pc : Nat} {lv : List (Nat × Value)} {st rest : List Value} {cc : ByteArray} {own : String} {ret : Option FieldType} {F Lc : Nat}
/-- what is fixed of a static reference array -/
def RO (cf : Cfg) (k kind n x : Nat) : Prop := k < cf.1 ∧ cf.2.1 k = (kind, n, x)
theorem g_loadQ_n {k : Fin 4} {r : Option Nat} (C : CX cf g A nL X cc own ret F Lc) (d : decode cc pc = .ok (.aload_n k, 1)) (q : Nat) (hq : lv[q]? = some ((k : Nat), va_rf r)) (k2 : TG cf g A nL X cells slots σ (pc + 1) lv (va_rf r :: rest)) : TG cf g A nL X cells slots σ pc lv rest := by
  cases r with
  | some a => exact g_aload_n C d q hq k2
  | none =>
    obtain ⟨p, l, e, R, s, m, args, below, meth, c, Q⟩ := X
    obtain ⟨hx, hb, hr, hlk, hml, hown, hts, hK, hA, hF, hLc, hKC⟩ := C
    exact fun H locs ls hP hD hS hl => lv_aload_nN hx hb d rfl (lv_at hl q hq) (k2 H locs ls hP hD hS hl)
theorem g_loadQ {i : Nat} {r : Option Nat} (C : CX cf g A nL X cc own ret F Lc) (d : decode cc pc = .ok (.aload i, 2)) (q : Nat) (hq : lv[q]? = some (i, va_rf r)) (k2 : TG cf g A nL X cells slots σ (pc + 2) lv (va_rf r :: rest)) : TG cf g A nL X cells slots σ pc lv rest := by
  cases r with
  | some a => exact g_aload C d q hq k2
  | none =>
    obtain ⟨p, l, e, R, s, m, args, below, meth, c, Q⟩ := X
    obtain ⟨hx, hb, hr, hlk, hml, hown, hts, hK, hA, hF, hLc, hKC⟩ := C
    exact fun H locs ls hP hD hS hl => lv_aloadN hx hb d (lv_at hl q hq) (k2 H locs ls hP hD hS hl)
theorem rf_filter (lv : List (Nat × Value)) (i : Nat) (r : Option Nat) : ∃ l', (i, va_rf r) :: lv.filter (fun q => !(q.1 == i) && !(q.1 + 1 == i && q.2.category == 2)) = l' := ⟨_, rfl⟩
theorem g_storeQ_n {k : Fin 4} {i : Nat} {r : Option Nat} {lv' : List (Nat × Value)} (C : CX cf g A nL X cc own ret F Lc) (d : decode cc pc = .ok (.astore_n k, 1)) (hi : (k : Nat) = i) (hn : i < nL) (hl' : (i, va_rf r) :: lv.filter (fun q => !(q.1 == i) && !(q.1 + 1 == i && q.2.category == 2)) = lv') (kk : TG cf g A nL X cells slots σ (pc + 1) lv' rest) : TG cf g A nL X cells slots σ pc lv (va_rf r :: rest) := by
  cases r with
  | some a => exact g_astore_n C d hi rfl hn hl' kk
  | none =>
    obtain ⟨p, l, e, R, s, m, args, below, meth, c, Q⟩ := X
    obtain ⟨hx, hb, hr, hlk, hml, hown, hts, hK, hA, hF, hLc, hKC⟩ := C
    exact fun H locs ls hP hD hS hl => lv_astore_nN hx hb d hi hl hn hl' (fun ls hl => kk H locs ls hP hD hS hl)
theorem g_storeQ {i : Nat} {r : Option Nat} {lv' : List (Nat × Value)} (C : CX cf g A nL X cc own ret F Lc) (d : decode cc pc = .ok (.astore i, 2)) (hn : i < nL) (hl' : (i, va_rf r) :: lv.filter (fun q => !(q.1 == i) && !(q.1 + 1 == i && q.2.category == 2)) = lv') (kk : TG cf g A nL X cells slots σ (pc + 2) lv' rest) : TG cf g A nL X cells slots σ pc lv (va_rf r :: rest) := by
  cases r with
  | some a => exact g_astore C d rfl hn hl' kk
  | none =>
    obtain ⟨p, l, e, R, s, m, args, below, meth, c, Q⟩ := X
    obtain ⟨hx, hb, hr, hlk, hml, hown, hts, hK, hA, hF, hLc, hKC⟩ := C
    exact fun H locs ls hP hD hS hl => lv_astoreN hx hb d hl hn hl' (fun ls hl => kk H locs ls hP hD hS hl)
theorem g_null (C : CX cf g A nL X cc own ret F Lc) (d : decode cc pc = .ok (.aconst_null, 1)) (k2 : TG cf g A nL X cells slots σ (pc + 1) lv (va_rf none :: rest)) : TG cf g A nL X cells slots σ pc lv rest := by
  obtain ⟨p, l, e, R, s, m, args, below, meth, c, Q⟩ := X
  obtain ⟨hx, hb, hr, hlk, hml, hown, hts, hK, hA, hF, hLc, hKC⟩ := C
  exact fun H locs ls hP hD hS hl => lv_null hx hb d (k2 H locs ls hP hD hS hl)
theorem g_ifnull {r : Option Nat} {off : Int} (tgt : Nat) (C : CX cf g A nL X cc own ret F Lc) (d : decode cc pc = .ok (.ifnull off, 3)) (ht : (pc : Int) + off = (tgt : Int)) (kt : r = none → TG cf g A nL X cells slots σ tgt lv rest) (kf : ¬ r = none → TG cf g A nL X cells slots σ (pc + 3) lv rest) : TG cf g A nL X cells slots σ pc lv (va_rf r :: rest) := by
  obtain ⟨p, l, e, R, s, m, args, below, meth, c, Q⟩ := X
  obtain ⟨hx, hb, hr, hlk, hml, hown, hts, hK, hA, hF, hLc, hKC⟩ := C
  cases r with
  | none => exact fun H locs ls hP hD hS hl => lv_ifnullN hx hb d ht (kt rfl H locs ls hP hD hS hl)
  | some a => exact fun H locs ls hP hD hS hl => lv_ifnull hx hb d (kf (fun z => by cases z) H locs ls hP hD hS hl)
theorem g_ifnonnull {r : Option Nat} {off : Int} (tgt : Nat) (C : CX cf g A nL X cc own ret F Lc) (d : decode cc pc = .ok (.ifnonnull off, 3)) (ht : (pc : Int) + off = (tgt : Int)) (kf : r = none → TG cf g A nL X cells slots σ (pc + 3) lv rest) (kt : ¬ r = none → TG cf g A nL X cells slots σ tgt lv rest) : TG cf g A nL X cells slots σ pc lv (va_rf r :: rest) := by
  obtain ⟨p, l, e, R, s, m, args, below, meth, c, Q⟩ := X
  obtain ⟨hx, hb, hr, hlk, hml, hown, hts, hK, hA, hF, hLc, hKC⟩ := C
  cases r with
  | none => exact fun H locs ls hP hD hS hl => lv_ifnonnullN hx hb d (kf rfl H locs ls hP hD hS hl)
  | some a => exact fun H locs ls hP hD hS hl => lv_ifnonnull hx hb d ht (kt (fun z => by cases z) H locs ls hP hD hS hl)
/-- fields of a pool's object -/
theorem g_pget {a ci j idx tag : Nat} {v : Value} (C : CX cf g A nL X cc own ret F Lc) (f : FO cf own idx ci j tag) (hv : pgV σ a ci j = some v) (d : decode cc pc = .ok (.getfield idx, 3)) (kk : TG cf g A nL X cells slots σ (pc + 3) lv (v :: rest)) : TG cf g A nL X cells slots σ pc lv (.ref a :: rest) := by
  obtain ⟨p, l, e, R, s, m, args, below, meth, c, Q⟩ := X
  obtain ⟨hx, hb, hr, hlk, hml, hown, hts, hK, hA, hF, hLc, hKC⟩ := C
  obtain ⟨Cn, T, Nf, f1, f2, f3, f4, f5, f6⟩ := f
  obtain ⟨fs, h1, h2⟩ := pgV_s hv
  obtain ⟨i, hi⟩ := pf_at (cf := cf) (g := g) h1
  exact fun H locs ls hP hD hS hl => va_get hx hb hts f4 hown hK hP i hi f2 j f3 (hts _ f5) (fun x h => h) h2 d (kk H locs ls hP hD hS hl)
/-- a pool's byte array -/
theorem g_pbald {a n : Nat} {f : Nat → Int32} {i : Int32} (C : CX cf g A nL X cc own ret F Lc) (h : paI σ a 1 = some (n, f)) (h0 : cf.2.2.2.2.2[1]? = some .byte) (hin : inb i n = true) (d : decode cc pc = .ok (.baload, 1)) (kk : TG cf g A nL X cells slots σ (pc + 1) lv (.int (f i.toNatClampNeg) :: rest)) : TG cf g A nL X cells slots σ pc lv (.int i :: .ref a :: rest) := by
  obtain ⟨p, l, e, R, s, m, args, below, meth, c, Q⟩ := X
  obtain ⟨hx, hb, hr, hlk, hml, hown, hts, hK, hA, hF, hLc, hKC⟩ := C
  obtain ⟨j, hj⟩ := pf_at (cf := cf) (g := g) (paI_s h)
  exact fun H locs ls hP hD hS hl => va_bald hx hb hK hP j 1 hj (tyl_at h0) (inb_in hin) d (kk H locs ls hP hD hS hl)
theorem g_plenB {a n : Nat} {f : Nat → Int32} (C : CX cf g A nL X cc own ret F Lc) (h : paI σ a 1 = some (n, f)) (h0 : cf.2.2.2.2.2[1]? = some .byte) (d : decode cc pc = .ok (.arraylength, 1)) (kk : TG cf g A nL X cells slots σ (pc + 1) lv (.int (Int32.ofNat n) :: rest)) : TG cf g A nL X cells slots σ pc lv (.ref a :: rest) := by
  obtain ⟨p, l, e, R, s, m, args, below, meth, c, Q⟩ := X
  obtain ⟨hx, hb, hr, hlk, hml, hown, hts, hK, hA, hF, hLc, hKC⟩ := C
  obtain ⟨j, hj⟩ := pf_at (cf := cf) (g := g) (paI_s h)
  exact fun H locs ls hP hD hS hl => va_alen hx hb hK hP j 1 hj (tyl_at h0) rfl d (kk H locs ls hP hD hS hl)
/-- a pool's array of references of class Cn (type number t) -/
theorem g_paald {a t n : Nat} {Cn : String} {f : Nat → Option Nat} {i : Int32} (C : CX cf g A nL X cc own ret F Lc) (h : paQ σ a t = some (n, f)) (h0 : cf.2.2.2.2.2[t]? = some (.object Cn)) (hin : inb i n = true) (d : decode cc pc = .ok (.aaload, 1)) (kk : TG cf g A nL X cells slots σ (pc + 1) lv (va_rf (f i.toNatClampNeg) :: rest)) : TG cf g A nL X cells slots σ pc lv (.int i :: .ref a :: rest) := by
  obtain ⟨p, l, e, R, s, m, args, below, meth, c, Q⟩ := X
  obtain ⟨hx, hb, hr, hlk, hml, hown, hts, hK, hA, hF, hLc, hKC⟩ := C
  obtain ⟨j, hj⟩ := pf_at (cf := cf) (g := g) (paQ_s h)
  exact fun H locs ls hP hD hS hl => va_aldq hx hb hK hP j t hj (tyl_at h0) (inb_in hin) d (kk H locs ls hP hD hS hl)
/-- static arrays of references: of the pool's objects (3), of rows (5), of texts (6), of static objects (7) -/
theorem g_aald3 {k n t : Nat} {Cn : String} {i : Int32} (C : CX cf g A nL X cc own ret F Lc) (a : RO cf k 3 n t) (h0 : cf.2.2.2.2.2[t]? = some (.object Cn)) (hin : inb i n = true) (d : decode cc pc = .ok (.aaload, 1)) (kk : TG cf g A nL X cells slots σ (pc + 1) lv (va_rf (rdR σ k i) :: rest)) : TG cf g A nL X cells slots σ pc lv (.int i :: .ref (g.1 k) :: rest) := by
  obtain ⟨p, l, e, R, s, m, args, below, meth, c, Q⟩ := X
  obtain ⟨hx, hb, hr, hlk, hml, hown, hts, hK, hA, hF, hLc, hKC⟩ := C
  have e1 : (wS cf g σ)[k]? = some (g.1 k, .inl (g.2.1 t, n, .inr (.inr (.inr (.inr (σ.2.2.1 k)))))) := by
    rw [wS_at a.1]
    simp only [cE, a.2]
  exact fun H locs ls hP hD hS hl => va_aldq hx hb hK hP k t e1 (tyl_at h0) (inb_in hin) d (kk H locs ls hP hD hS hl)
theorem g_aald6 {k n t : Nat} {i : Int32} (C : CX cf g A nL X cc own ret F Lc) (a : RO cf k 6 n t) (h0 : cf.2.2.2.2.2[4]? = some (.object "java/lang/String")) (hin : inb i n = true) (d : decode cc pc = .ok (.aaload, 1)) (kk : TG cf g A nL X cells slots σ (pc + 1) lv (.ref (g.2.2.2.1 (t + i.toNatClampNeg)) :: rest)) : TG cf g A nL X cells slots σ pc lv (.int i :: .ref (g.1 k) :: rest) := by
  obtain ⟨p, l, e, R, s, m, args, below, meth, c, Q⟩ := X
  obtain ⟨hx, hb, hr, hlk, hml, hown, hts, hK, hA, hF, hLc, hKC⟩ := C
  have e1 : (wS cf g σ)[k]? = some (g.1 k, .inl (g.2.1 4, n, .inr (.inr (.inr (.inr (fun j => some (g.2.2.2.1 (t + j)))))))) := by
    rw [wS_at a.1]
    simp only [cE, a.2]
  exact fun H locs ls hP hD hS hl => va_aldq hx hb hK hP k 4 e1 (tyl_at h0) (inb_in hin) d (kk H locs ls hP hD hS hl)
theorem g_aald7 {k n t : Nat} {Cn : String} {i : Int32} (C : CX cf g A nL X cc own ret F Lc) (a : RO cf k 7 n t) (h0 : cf.2.2.2.2.2[t]? = some (.object Cn)) (hin : inb i n = true) (d : decode cc pc = .ok (.aaload, 1)) (kk : TG cf g A nL X cells slots σ (pc + 1) lv (.ref (g.1 (rd σ k i).toNatClampNeg) :: rest)) : TG cf g A nL X cells slots σ pc lv (.int i :: .ref (g.1 k) :: rest) := by
  obtain ⟨p, l, e, R, s, m, args, below, meth, c, Q⟩ := X
  obtain ⟨hx, hb, hr, hlk, hml, hown, hts, hK, hA, hF, hLc, hKC⟩ := C
  have e1 : (wS cf g σ)[k]? = some (g.1 k, .inl (g.2.1 t, n, .inr (.inr (.inr (.inr (fun j => some (g.1 (σ.1 k j).toNatClampNeg))))))) := by
    rw [wS_at a.1]
    simp only [cE, a.2]
  exact fun H locs ls hP hD hS hl => va_aldq hx hb hK hP k t e1 (tyl_at h0) (inb_in hin) d (kk H locs ls hP hD hS hl)
theorem g_aald5 {k n t : Nat} {i : Int32} (C : CX cf g A nL X cc own ret F Lc) (a : RO cf k 5 n t) (h0 : cf.2.2.2.2.2[3]? = some (.array .int)) (hin : inb i n = true) (d : decode cc pc = .ok (.aaload, 1)) (kk : TG cf g A nL X cells slots σ (pc + 1) lv (.ref (g.1 (t + i.toNatClampNeg)) :: rest)) : TG cf g A nL X cells slots σ pc lv (.int i :: .ref (g.1 k) :: rest) := by
  obtain ⟨p, l, e, R, s, m, args, below, meth, c, Q⟩ := X
  obtain ⟨hx, hb, hr, hlk, hml, hown, hts, hK, hA, hF, hLc, hKC⟩ := C
  have e1 : (wS cf g σ)[k]? = some (g.1 k, .inl (g.2.1 3, n, .inr (.inr (.inr (.inr (fun j => some (g.1 (t + j)))))))) := by
    rw [wS_at a.1]
    simp only [cE, a.2]
  intro H locs ls hP hD hS hl
  have hin' := inb_in hin
  have hlt : i.toNatClampNeg < n := Nat.not_le.mp fun q => hin' (Or.inr q)
  exact W.aald (v := .ref (g.1 (t + i.toNatClampNeg))) (ty := .array .int) hx hb (hP k _ e1) ((hK.2 3 _ (tyl_at h0)).1 n (fun j => va_rf (some (g.1 (t + j))))) rfl (fun q => by cases q) (by show ¬ (i < 0 ∨ (arrV _ _ _).slots.size ≤ _); rw [arrV_size]; exact hin') (by show (arrV _ _ _).slots[_]? = _; rw [arrV_read _ _ hlt]; rfl) rfl rfl d (kk H locs ls hP hD hS hl)
/-- lengths -/
theorem g_alenK {k kind n x : Nat} {v : Int32} (C : CX cf g A nL X cc own ret F Lc) (a : RO cf k kind n x) (hk : kind = 0 ∨ kind = 1 ∨ kind = 2 ∨ kind = 3 ∨ kind = 6 ∨ kind = 7) (hty : ∀ t, (kind < 3 → t = kind) → (kind = 6 → t = 4) → (kind = 3 ∨ kind = 7 → t = x) → ∃ ty, cf.2.2.2.2.2[t]? = some ty) (hv : Int32.ofNat n = v) (d : decode cc pc = .ok (.arraylength, 1)) (kk : TG cf g A nL X cells slots σ (pc + 1) lv (.int v :: rest)) : TG cf g A nL X cells slots σ pc lv (.ref (g.1 k) :: rest) := by
  obtain ⟨p, l, e, R, s, m, args, below, meth, c, Q⟩ := X
  obtain ⟨hx, hb, hr, hlk, hml, hown, hts, hK, hA, hF, hLc, hKC⟩ := C
  have key : ∀ (t : Nat) (z : vp_A), (wS cf g σ)[k]? = some (g.1 k, .inl (g.2.1 t, z)) → z.1 = n → (∃ ty, cf.2.2.2.2.2[t]? = some ty) → ∀ (H : Heap) (locs : List Loc) (ls : Array Slot), va_P g.2.2.1 cf.2.2.2.2.1 (wS cf g σ) H → va_D A (wS cf g σ) → va_S A s.heap H locs → lv_has ls nL lv → W p l e R s m args below meth c H locs cells slots Q (F0 m pc ls (.ref (g.1 k) :: rest)) := by
    intro t z e1 hz hty H locs ls hP hD hS hl
    obtain ⟨ty, hty⟩ := hty
    exact va_alen hx hb hK hP k t e1 (tyl_at hty) (by rw [hz]; exact hv) d (kk H locs ls hP hD hS hl)
  have e0 := wS_at (cf := cf) (g := g) (σ := σ) a.1
  rcases hk with rfl | rfl | rfl | rfl | rfl | rfl
  · exact key 0 _ (by rw [e0]; simp only [cE, a.2]; rfl) rfl (hty 0 (fun _ => rfl) (fun h => by omega) (fun h => by omega))
  · exact key 1 _ (by rw [e0]; simp only [cE, a.2]; rfl) rfl (hty 1 (fun _ => rfl) (fun h => by omega) (fun h => by omega))
  · exact key 2 _ (by rw [e0]; simp only [cE, a.2]; rfl) rfl (hty 2 (fun _ => rfl) (fun h => by omega) (fun h => by omega))
  · exact key x _ (by rw [e0]; simp only [cE, a.2]; rfl) rfl (hty x (fun h => by omega) (fun h => by omega) (fun _ => rfl))
  · exact key 4 _ (by rw [e0]; simp only [cE, a.2]; rfl) rfl (hty 4 (fun h => by omega) (fun _ => rfl) (fun h => by omega))
  · exact key x _ (by rw [e0]; simp only [cE, a.2]; rfl) rfl (hty x (fun h => by omega) (fun h => by omega) (fun _ => rfl))
/-- stores into static arrays of references -/
theorem g_aast3 {k n t a ci : Nat} {r : vw_C} {fs : List Value} {i : Int32} {σ' : Sto} (C : CX cf g A nL X cc own ret F Lc) (ao : RO cf k 3 n t) (h0 : cf.2.2.2.2.2[t]? = some (.object r.1)) (hc : cf.2.2.2.2.1[ci]? = some r) (hv : pf σ a = some (.inr (ci, fs))) (hin : inb i n = true) (hs : σ' = wrR σ k i (some a)) (d : decode cc pc = .ok (.aastore, 1)) (kk : TG cf g A nL X cells slots σ' (pc + 1) lv rest) : TG cf g A nL X cells slots σ pc lv (.ref a :: .int i :: .ref (g.1 k) :: rest) := by
  subst hs
  obtain ⟨p, l, e, R, s, m, args, below, meth, c, Q⟩ := X
  obtain ⟨hx, hb, hr, hlk, hml, hown, hts, hK, hA, hF, hLc, hKC⟩ := C
  obtain ⟨j, hj⟩ := pf_at (cf := cf) (g := g) hv
  have e0 : (wS cf g σ)[k]? = some (g.1 k, .inl (g.2.1 t, n, .inr (.inr (.inr (.inr (σ.2.2.1 k)))))) := by
    rw [wS_at ao.1]
    simp only [cE, ao.2]
  have e1 : (wS cf g σ).set k (g.1 k, .inl (g.2.1 t, n, .inr (.inr (.inr (.inr (va_up (σ.2.2.1 k) i.toNatClampNeg (some a))))))) = wS cf g (wrR σ k i (some a)) := by
    rw [← sR_upd, ← wS_set (σ := σ) (σ' := wrR σ k i (some a)) ao.1 rfl (fun q h => cE_sR q h)]
    simp only [cE, ao.2, wrR]
  intro H locs ls hP hD hS hl
  refine va_astq hx hb hK hP hD hS k t j ci e0 (tyl_at h0) hj hc (inb_in hin) d (fun H1 locs1 hP hD hS => ?_)
  rw [e1] at hP hD
  exact kk H1 locs1 ls hP hD hS hl
/-- the stored number of a static object into an array of them -/
theorem g_aast7 {k n t ci b : Nat} {r : vw_C} {i v : Int32} {σ' : Sto} (C : CX cf g A nL X cc own ret F Lc) (ao : RO cf k 7 n t) (h0 : cf.2.2.2.2.2[t]? = some (.object r.1)) (hc : cf.2.2.2.2.1[ci]? = some r) (o : OO cf b ci) (hb' : v.toNatClampNeg = b) (hin : inb i n = true) (hs : σ' = wr σ k i v) (d : decode cc pc = .ok (.aastore, 1)) (kk : TG cf g A nL X cells slots σ' (pc + 1) lv rest) : TG cf g A nL X cells slots σ pc lv (.ref (g.1 b) :: .int i :: .ref (g.1 k) :: rest) := by
  subst hs
  obtain ⟨p, l, e, R, s, m, args, below, meth, c, Q⟩ := X
  obtain ⟨hx, hb, hr, hlk, hml, hown, hts, hK, hA, hF, hLc, hKC⟩ := C
  have e0 : (wS cf g σ)[k]? = some (g.1 k, .inl (g.2.1 t, n, .inr (.inr (.inr (.inr (fun j => some (g.1 (σ.1 k j).toNatClampNeg))))))) := by
    rw [wS_at ao.1]
    simp only [cE, ao.2]
  have e1 : (wS cf g σ).set k (g.1 k, .inl (g.2.1 t, n, .inr (.inr (.inr (.inr (va_up (fun j => some (g.1 (σ.1 k j).toNatClampNeg)) i.toNatClampNeg (some (g.1 b)))))))) = wS cf g (wr σ k i v) := by
    rw [← wS_set (σ := σ) (σ' := wr σ k i v) ao.1 rfl (fun q h => cE_sI q h)]
    have e2 : (fun j => some (g.1 ((wr σ k i v).1 k j).toNatClampNeg)) = va_up (fun j => some (g.1 (σ.1 k j).toNatClampNeg)) i.toNatClampNeg (some (g.1 b)) := by
      funext j
      by_cases hj : j = i.toNatClampNeg
      · subst hj
        simp [wr, sI, va_up, hb']
      · simp [wr, sI, va_up, hj]
    simp only [cE, ao.2, e2]
  intro H locs ls hP hD hS hl
  refine va_astq hx hb hK hP hD hS k t b ci e0 (tyl_at h0) o.at hc (inb_in hin) d (fun H1 locs1 hP hD hS => ?_)
  rw [e1] at hP hD
  exact kk H1 locs1 ls hP hD hS hl
/-- System.arraycopy -/
theorem g_copyI {k0 k1 n0 n1 idx : Nat} {sp dp n : Int32} {σ' : Sto} (C : CX cf g A nL X cc own ret F Lc) (a0 : AO cf k0 0 n0) (a1 : AO cf k1 0 n1) (h0 : cf.2.2.2.2.2[0]? = some .int) (hok : cpOk sp dp n n0 n1 = true) (w1 : Cond.methodLink own idx arraycopyName ∈ lw_all) (hF1 : 1 ≤ F) (hL1 : 40 ≤ Lc) (hrest : (rest.map fun v => v.category).sum ≤ 8) (hs : σ' = cpI σ k0 sp k1 dp n) (d : decode cc pc = .ok (.invokestatic idx, 3)) (kk : TG cf g A nL X cells slots σ' (pc + 3) lv rest) : TG cf g A nL X cells slots σ pc lv (.int n :: .int dp :: .ref (g.1 k1) :: .int sp :: .ref (g.1 k0) :: rest) := by
  subst hs
  obtain ⟨p, l, e, R, s, m, args, below, meth, c, Q⟩ := X
  obtain ⟨hx, hb, hr, hlk, hml, hown, hts, hK, hA, hF, hLc, hKC⟩ := C
  obtain ⟨g1, g2, g3, g4, g5⟩ := cpOk_s hok
  have e1 : (wS cf g σ).set k1 (g.1 k1, .inl (g.2.1 0, n1, .inl (va_cpy (σ.1 k0) (σ.1 k1) sp.toNatClampNeg dp.toNatClampNeg n.toNatClampNeg))) = wS cf g (cpI σ k0 sp k1 dp n) := by
    rw [← cpI_self, ← wS_set (σ := σ) (σ' := cpI σ k0 sp k1 dp n) a1.1 rfl (fun q h => cpI_ne q h)]
    obtain ⟨-, x, hx⟩ := a1
    simp only [cE, hx]
  have hnw : nativeFrameWords "java/lang/System" "arraycopy" 5 + 11 ≤ 32 := by decide +kernel
  intro H locs ls hP hD hS hl
  refine va_copyi hx hb (hml.trans hl.1.symm) hown (hts _ w1) (hts _ q715) (hts _ q714) (hts _ q94) hK hP hD hS k0 k1 0 0 a0.at0 a1.at0 (tyl_at h0) (tyl_at h0) rfl g1 g2 g3 g4 g5 (fun i hi => rfl) (Nat.le_trans hF1 hF) (by omega) d (fun H1 locs1 hP hD hS => ?_)
  rw [e1] at hP hD
  exact kk H1 locs1 ls hP hD hS hl
theorem va_asg_self {s : State} {D : va_G} {cl : List vw_C} {tys : List (ClassId × FieldType)} {ci : Nat} {r : vw_C} (hK : va_K D cl tys s) (hc : cl[ci]? = some r) : ∀ comp c0 : ClassId, s.vm.findClass r.1 = some comp → s.vm.findClass r.1 = some c0 → s.vm.assignable c0 comp = true := by
  intro comp c0 h1 h2
  have h3 := (hK.1 ci r hc).2
  cases h1.symm.trans h2
  cases h1.symm.trans h3.1
  exact va_assign h3
theorem g_copyR {k0 k1 n0 n1 t ci idx : Nat} {r : vw_C} {sp dp n : Int32} {σ' : Sto} (C : CX cf g A nL X cc own ret F Lc) (a0 : RO cf k0 3 n0 t) (a1 : RO cf k1 3 n1 t) (h0 : cf.2.2.2.2.2[t]? = some (.object r.1)) (hc : cf.2.2.2.2.1[ci]? = some r) (hok : cpOk sp dp n n0 n1 = true) (hal : allP σ k0 ci n0 = true) (w1 : Cond.methodLink own idx arraycopyName ∈ lw_all) (hF1 : 1 ≤ F) (hL1 : 40 ≤ Lc) (hrest : (rest.map fun v => v.category).sum ≤ 8) (hs : σ' = cpR σ k0 sp k1 dp n) (d : decode cc pc = .ok (.invokestatic idx, 3)) (kk : TG cf g A nL X cells slots σ' (pc + 3) lv rest) : TG cf g A nL X cells slots σ pc lv (.int n :: .int dp :: .ref (g.1 k1) :: .int sp :: .ref (g.1 k0) :: rest) := by
  subst hs
  obtain ⟨p, l, e, R, s, m, args, below, meth, c, Q⟩ := X
  obtain ⟨hx, hb, hr, hlk, hml, hown, hts, hK, hA, hF, hLc, hKC⟩ := C
  obtain ⟨g1, g2, g3, g4, g5⟩ := cpOk_s hok
  have e0 : ∀ k n1, RO cf k 3 n1 t → (wS cf g σ)[k]? = some (g.1 k, .inl (g.2.1 t, n1, .inr (.inr (.inr (.inr (σ.2.2.1 k)))))) := by
    intro k n1 a
    rw [wS_at a.1]
    simp only [cE, a.2]
  have e1 : (wS cf g σ).set k1 (g.1 k1, .inl (g.2.1 t, n1, .inr (.inr (.inr (.inr (va_cpy (σ.2.2.1 k0) (σ.2.2.1 k1) sp.toNatClampNeg dp.toNatClampNeg n.toNatClampNeg)))))) = wS cf g (cpR σ k0 sp k1 dp n) := by
    rw [← cpR_self, ← wS_set (σ := σ) (σ' := cpR σ k0 sp k1 dp n) a1.1 rfl (fun q h => cpR_ne q h)]
    simp only [cE, a1.2]
  have hnw : nativeFrameWords "java/lang/System" "arraycopy" 5 + 11 ≤ 32 := by decide +kernel
  intro H locs ls hP hD hS hl
  refine va_copyq (C := r.1) hx hb (hml.trans hl.1.symm) hown (hts _ w1) (hts _ q715) (hts _ q714) (hts _ q94) hK hP hD hS k0 k1 t t (e0 k0 n0 a0) (e0 k1 n1 a1) (tyl_at h0) (tyl_at h0) g1 g2 g3 g4 g5 (fun i hi y hy => ?_) (va_asg_self hK hc) (Nat.le_trans hF1 hF) (by omega) d (fun H1 locs1 hP hD hS => ?_)
  · have h1 := List.all_eq_true.mp hal (sp.toNatClampNeg + i) (List.mem_range.mpr (by omega))
    rw [hy] at h1
    obtain ⟨fs, h2⟩ := isP_s h1
    obtain ⟨j, hj⟩ := pf_at (cf := cf) (g := g) h2
    exact va_recv hK hP hc hj
  · rw [e1] at hP hD
    exact kk H1 locs1 ls hP hD hS hl
theorem g_copyO {k n0 t ci idx : Nat} {r : vw_C} {sp dp n : Int32} {σ' : Sto} (C : CX cf g A nL X cc own ret F Lc) (a0 : RO cf k 7 n0 t) (h0 : cf.2.2.2.2.2[t]? = some (.object r.1)) (hc : cf.2.2.2.2.1[ci]? = some r) (hok : cpOk sp dp n n0 n0 = true) (hal : allO cf σ k ci n0 = true) (w1 : Cond.methodLink own idx arraycopyName ∈ lw_all) (hF1 : 1 ≤ F) (hL1 : 40 ≤ Lc) (hrest : (rest.map fun v => v.category).sum ≤ 8) (hs : σ' = cpI σ k sp k dp n) (d : decode cc pc = .ok (.invokestatic idx, 3)) (kk : TG cf g A nL X cells slots σ' (pc + 3) lv rest) : TG cf g A nL X cells slots σ pc lv (.int n :: .int dp :: .ref (g.1 k) :: .int sp :: .ref (g.1 k) :: rest) := by
  subst hs
  obtain ⟨p, l, e, R, s, m, args, below, meth, c, Q⟩ := X
  obtain ⟨hx, hb, hr, hlk, hml, hown, hts, hK, hA, hF, hLc, hKC⟩ := C
  obtain ⟨g1, g2, g3, g4, g5⟩ := cpOk_s hok
  have e0 : (wS cf g σ)[k]? = some (g.1 k, .inl (g.2.1 t, n0, .inr (.inr (.inr (.inr (fun j => some (g.1 (σ.1 k j).toNatClampNeg))))))) := by
    rw [wS_at a0.1]
    simp only [cE, a0.2]
  have e1 : (wS cf g σ).set k (g.1 k, .inl (g.2.1 t, n0, .inr (.inr (.inr (.inr (va_cpy (fun j => some (g.1 (σ.1 k j).toNatClampNeg)) (fun j => some (g.1 (σ.1 k j).toNatClampNeg)) sp.toNatClampNeg dp.toNatClampNeg n.toNatClampNeg)))))) = wS cf g (cpI σ k sp k dp n) := by
    rw [← wS_set (σ := σ) (σ' := cpI σ k sp k dp n) a0.1 rfl (fun q h => cpI_ne q h)]
    have e2 : (fun j => some (g.1 ((cpI σ k sp k dp n).1 k j).toNatClampNeg)) = va_cpy (fun j => some (g.1 (σ.1 k j).toNatClampNeg)) (fun j => some (g.1 (σ.1 k j).toNatClampNeg)) sp.toNatClampNeg dp.toNatClampNeg n.toNatClampNeg := by
      rw [cpI_self]
      funext j
      unfold va_cpy
      split <;> rfl
    simp only [cE, a0.2, e2]
  have hnw : nativeFrameWords "java/lang/System" "arraycopy" 5 + 11 ≤ 32 := by decide +kernel
  intro H locs ls hP hD hS hl
  refine va_copyq (C := r.1) hx hb (hml.trans hl.1.symm) hown (hts _ w1) (hts _ q715) (hts _ q714) (hts _ q94) hK hP hD hS k k t t e0 e0 (tyl_at h0) (tyl_at h0) g1 g2 g3 g4 g5 (fun i hi y hy => ?_) (va_asg_self hK hc) (Nat.le_trans hF1 hF) (by omega) d (fun H1 locs1 hP hD hS => ?_)
  · have h1 := List.all_eq_true.mp hal (sp.toNatClampNeg + i) (List.mem_range.mpr (by omega))
    have o := isO_s h1
    cases hy
    exact va_recv hK hP hc o.at
  · rw [e1] at hP hD
    exact kk H1 locs1 ls hP hD hS hl
/-- the enum: its statics, and comparisons -/
theorem g_getE {idx i : Nat} {nm : String} (C : CX cf g A nL X cc own ret F Lc) (hi : i < 5) (hn : kNm.getD i "" = nm) (w1 : Cond.fieldLink own idx "DoughDebts$Token" nm "LDoughDebts$Token;" ∈ lw_all) (d : decode cc pc = .ok (.getstatic idx, 3)) (kk : TG cf g A nL X cells slots σ (pc + 3) lv (eV g (Int32.ofNat (i + 1)) :: rest)) : TG cf g A nL X cells slots σ pc lv rest := by
  subst hn
  obtain ⟨p, l, e, R, s, m, args, below, meth, c, Q⟩ := X
  obtain ⟨hx, hb, hr, hlk, hml, hown, hts, hK, hA, hF, hLc, hKC⟩ := C
  have e1 : eV g (Int32.ofNat (i + 1)) = .ref (g.2.2.2.2.2 i) := by
    rcases i with _ | _ | _ | _ | _ | i
    · rfl
    · rfl
    · rfl
    · rfl
    · rfl
    · omega
  rw [e1] at kk
  exact fun H locs ls hP hD hS hl => va_gets hx hb (hKC.2.2.1.1 i hi).1 hS hown (hts _ w1) (fun x h => h) d (kk H locs ls hP hD hS hl)
def eOk (v : Int32) : Bool := decide (0 ≤ v) && decide (v ≤ 5)
theorem eV_inj {s : State} (hE : va_En "DoughDebts$Token" "LDoughDebts$Token;" kNm [] g.2.2.2.2.2 A s s.heap) {x y : Int32} (hx : eOk x = true) (hy : eOk y = true) : ∃ rx ry : Option Nat, eV g x = va_rf rx ∧ eV g y = va_rf ry ∧ (rx = ry ↔ x = y) := by
  have key : ∀ v : Int32, eOk v = true → ∃ k : Nat, k ≤ 5 ∧ v = Int32.ofNat k := by
    intro v hv
    unfold eOk at hv
    rw [Bool.and_eq_true] at hv
    obtain ⟨j, hj, e⟩ := nI_of2 (M := 5) (n := 5) (by decide) (Int32.not_lt.mpr (of_decide_eq_true hv.1)) (of_decide_eq_true hv.2)
    exact ⟨j, hj, e⟩
  obtain ⟨a, ha, rfl⟩ := key x hx
  obtain ⟨b, hb, rfl⟩ := key y hy
  have e1 : ∀ k : Nat, k ≤ 5 → eV g (Int32.ofNat k) = va_rf (if k = 0 then none else some (g.2.2.2.2.2 (k - 1))) := by
    intro k hk
    rcases k with _ | _ | _ | _ | _ | _ | k
    · rfl
    · rfl
    · rfl
    · rfl
    · rfl
    · rfl
    · omega
  refine ⟨_, _, e1 a ha, e1 b hb, ?_⟩
  have e2 : Int32.ofNat a = Int32.ofNat b ↔ a = b := nI_eq (by omega) (by omega)
  rw [e2]
  by_cases h1 : a = 0
  · by_cases h2 : b = 0
    · simp [h1, h2]
    · simp [h1, h2]
      omega
  · by_cases h2 : b = 0
    · simp [h1, h2]
    · simp only [h1, h2, if_false, Option.some.injEq]
      constructor
      · intro h
        have := hE.2 (a - 1) (b - 1) (by show _ < 5; omega) (by show _ < 5; omega) h
        omega
      · intro h
        rw [h]
theorem g_acmpE_ne {x y : Int32} {off : Int} (tgt : Nat) (C : CX cf g A nL X cc own ret F Lc) (hx' : eOk x = true) (hy' : eOk y = true) (d : decode cc pc = .ok (.if_acmp .ne off, 3)) (ht : (pc : Int) + off = (tgt : Int)) (kf : x = y → TG cf g A nL X cells slots σ (pc + 3) lv rest) (kt : ¬ x = y → TG cf g A nL X cells slots σ tgt lv rest) : TG cf g A nL X cells slots σ pc lv (eV g y :: eV g x :: rest) := by
  obtain ⟨p, l, e, R, s, m, args, below, meth, c, Q⟩ := X
  obtain ⟨hx, hb, hr, hlk, hml, hown, hts, hK, hA, hF, hLc, hKC⟩ := C
  obtain ⟨rx, ry, e1, e2, e3⟩ := eV_inj hKC.2.2.1 hx' hy'
  rw [e1, e2]
  exact fun H locs ls hP hD hS hl => lv_acmp_ne hx hb d ht (fun z => kt (fun q => z (e3.mpr q)) H locs ls hP hD hS hl) (fun z => kf (e3.mp z) H locs ls hP hD hS hl)
theorem g_acmpE_eq {x y : Int32} {off : Int} (tgt : Nat) (C : CX cf g A nL X cc own ret F Lc) (hx' : eOk x = true) (hy' : eOk y = true) (d : decode cc pc = .ok (.if_acmp .eq off, 3)) (ht : (pc : Int) + off = (tgt : Int)) (kt : x = y → TG cf g A nL X cells slots σ tgt lv rest) (kf : ¬ x = y → TG cf g A nL X cells slots σ (pc + 3) lv rest) : TG cf g A nL X cells slots σ pc lv (eV g y :: eV g x :: rest) := by
  obtain ⟨p, l, e, R, s, m, args, below, meth, c, Q⟩ := X
  obtain ⟨hx, hb, hr, hlk, hml, hown, hts, hK, hA, hF, hLc, hKC⟩ := C
  obtain ⟨rx, ry, e1, e2, e3⟩ := eV_inj hKC.2.2.1 hx' hy'
  rw [e1, e2]
  exact fun H locs ls hP hD hS hl => lv_acmp_eq hx hb d ht (fun z => kt (e3.mp z) H locs ls hP hD hS hl) (fun z => kf (fun q => z (e3.mpr q)) H locs ls hP hD hS hl)
theorem g_getEf {k ci j idx : Nat} (C : CX cf g A nL X cc own ret F Lc) (o : OO cf k ci) (f : FO cf own idx ci j 4) (d : decode cc pc = .ok (.getfield idx, 3)) (kk : TG cf g A nL X cells slots σ (pc + 3) lv (eV g (σ.1 k j) :: rest)) : TG cf g A nL X cells slots σ pc lv (.ref (g.1 k) :: rest) := g_get C o f d kk
end PR
