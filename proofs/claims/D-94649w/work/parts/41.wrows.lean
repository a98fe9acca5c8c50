/-! rows of methods that make cells, or throw: pure functions into Prop (what must hold of any fresh address), contracts Cw, Cx -/
set_option maxRecDepth 100000
def gdw (b : Bool) (k : Prop) : Prop := b = true ∧ k
def bdw {α β : Type} (o : Option (α × β)) (k : α → β → Prop) : Prop := ∃ r z, o = some (r, z) ∧ k r z
def nnw (r : Option Nat) (k : Nat → Prop) : Prop := ∃ a, r = some a ∧ k a
def spw (kc ks c n : Nat) (k : Nat → Nat → Prop) : Prop := ∃ kc' ks', kc = kc' + c ∧ ks = ks' + n ∧ k kc' ks'
def spx (kc ks : Nat) (k : Nat → Nat → Nat → Nat → Prop) : Prop := ∃ c n kc' ks', kc = kc' + c ∧ ks = ks' + n ∧ k c n kc' ks'
def alw (s : Sto) (k : Nat → Prop) : Prop := ∀ q, pf s q = none → k q
def anyw {α : Type} (k : α → Prop) : Prop := ∀ x, k x
def pgIw (σ : Sto) (a ci j : Nat) (k : Int32 → Prop) : Prop := ∃ v, pgV σ a ci j = some (.int v) ∧ k v
def pgQw (σ : Sto) (a ci j : Nat) (k : Option Nat → Prop) : Prop := ∃ r, pgV σ a ci j = some (va_rf r) ∧ k r
def palw {γ : Type} (o : Option (Nat × γ)) (k : Nat → γ → Prop) : Prop := ∃ n f, o = some (n, f) ∧ k n f
def ppow (σ : Sto) (a ci j : Nat) (k : List Value → Prop) : Prop := ∃ fs, pf σ a = some (.inr (ci, fs)) ∧ j < fs.length ∧ k fs
theorem gdw_n {b : Bool} {k P : Prop} (hf : gdw b k) (h : b = true → k → P) : P := h hf.1 hf.2
theorem bdw_n {α β : Type} {o : Option (α × β)} {k : α → β → Prop} {P : Prop} (hf : bdw o k) (h : ∀ r z, o = some (r, z) → k r z → P) : P := by obtain ⟨r, z, h1, h2⟩ := hf; exact h r z h1 h2
theorem nnw_n {r : Option Nat} {k : Nat → Prop} {P : Prop} (hf : nnw r k) (h : ∀ a, r = some a → k a → P) : P := by obtain ⟨a, h1, h2⟩ := hf; exact h a h1 h2
theorem vlw_n {α : Type} {v : α} {k : α → Prop} {P : Prop} (hf : vl v k) (h : ∀ z, z = v → k z → P) : P := h v rfl hf
theorem pgIw_n {σ : Sto} {a ci j : Nat} {k : Int32 → Prop} {P : Prop} (hf : pgIw σ a ci j k) (h : ∀ v, pgV σ a ci j = some (.int v) → k v → P) : P := by obtain ⟨v, h1, h2⟩ := hf; exact h v h1 h2
theorem pgQw_n {σ : Sto} {a ci j : Nat} {k : Option Nat → Prop} {P : Prop} (hf : pgQw σ a ci j k) (h : ∀ r, pgV σ a ci j = some (va_rf r) → k r → P) : P := by obtain ⟨v, h1, h2⟩ := hf; exact h v h1 h2
theorem palw_n {γ : Type} {o : Option (Nat × γ)} {k : Nat → γ → Prop} {P : Prop} (hf : palw o k) (h : ∀ n f, o = some (n, f) → k n f → P) : P := by obtain ⟨n, f, h1, h2⟩ := hf; exact h n f h1 h2
theorem ifw_t {c : Prop} {dc : Decidable c} {a b : Prop} (h : c) (hf : @ite Prop c dc a b) : a := by rw [if_pos h] at hf; exact hf
theorem ifw_f {c : Prop} {dc : Decidable c} {a b : Prop} (h : ¬ c) (hf : @ite Prop c dc a b) : b := by rw [if_neg h] at hf; exact hf
theorem le_b {c k K : Nat} (h : c + k ≤ K) : c ≤ K := by omega
theorem sp_a {c k K a k' : Nat} (h : c + k ≤ K) (e : k = k' + a) : c + a ≤ K := by omega
theorem sp_b {c k K a k' : Nat} (h : c + k ≤ K) (e : k = k' + a) : c + a + k' ≤ K := by omega
def cQw {ρ : Type} (cf : Cfg) (g : Gam) (sz : Nat) (σ : Sto) (R : ρ → Sto → Prop) (rv : ρ → Option Value) : Array Value → State → Outcome → State → Prop := fun _ st oc t => (∃ (r : ρ) (σ' : Sto), oc = .returned (rv r) ∧ R r σ' ∧ va_P g.2.2.1 cf.2.2.2.2.1 (wS cf g σ') t.heap ∧ va_D (va_A (wS cf g σ) sz) (wS cf g σ')) ∧ va_F (va_A (wS cf g σ) sz) st t
def cXw (cf : Cfg) (g : Gam) (sz : Nat) (σ : Sto) (PX : Nat → Sto → Prop) : String → Addr → State → State → Prop := fun E q st t => (∃ σ' : Sto, E = "DoughDebts$Fault" ∧ PX q σ' ∧ va_P g.2.2.1 cf.2.2.2.2.1 (wS cf g σ') t.heap ∧ va_D (va_A (wS cf g σ) sz) (wS cf g σ')) ∧ va_F (va_A (wS cf g σ) sz) st t
def Cw {ρ : Type} (cf : Cfg) (l : Launch) (y : MethodName) (b : ByteArray) (L : Nat) (ret : Option FieldType) (rm : Room) (av : Gam → List Value) (σ : Sto) (R : ρ → Sto → Prop) (rv : ρ → Option Value) : Prop := ∀ (g : Gam) (sz : Nat), Met l y (ws_ y b L ret) rm (cP cf g sz (av g) σ) (cQw cf g sz σ R rv) rm.cells rm.slots (va_A (wS cf g σ) sz)
def Cx {ρ : Type} (cf : Cfg) (l : Launch) (y : MethodName) (b : ByteArray) (L : Nat) (ret : Option FieldType) (rm : Room) (av : Gam → List Value) (σ : Sto) (R : ρ → Sto → Prop) (rv : ρ → Option Value) (PX : Nat → Sto → Prop) : Prop := ∀ (g : Gam) (sz : Nat), vy_Met l y (ws_ y b L ret) rm (cP cf g sz (av g) σ) (cQw cf g sz σ R rv) (cXw cf g sz σ PX) rm.cells rm.slots (va_A (wS cf g σ) sz)
def EW {ρ : Type} (cf : Cfg) (g : Gam) (A : Nat → Prop) (X : FX) (σ : Sto) (R : ρ → Sto → Prop) (rv : ρ → Option Value) : Prop := match X with
  | (_, _, _, Rm, s, _, args, below, _, _, Q) => Q = MQ below (cQw cf g s.heap.size σ R rv) args s Rm.cells Rm.slots (va_A (wS cf g σ) s.heap.size) ∧ A = va_A (wS cf g σ) s.heap.size
def EY {ρ : Type} (cf : Cfg) (g : Gam) (A : Nat → Prop) (X : FX) (σ : Sto) (R : ρ → Sto → Prop) (rv : ρ → Option Value) (PX : Nat → Sto → Prop) : Prop := match X with
  | (_, _, _, Rm, s, _, args, below, _, c, Q) => Q = vy_MQ below (cQw cf g s.heap.size σ R rv) (cXw cf g s.heap.size σ PX) args s Rm.cells Rm.slots (va_A (wS cf g σ) s.heap.size) ∧ A = va_A (wS cf g σ) s.heap.size ∧ ∀ x ∈ c.exceptionTable.toList, False
theorem Cw_of {ρ : Type} {cf : Cfg} {l : Launch} {y : MethodName} {b : ByteArray} {L : Nat} {ret : Option FieldType} {F Lc mc ms : Nat} {av : Gam → List Value} {σ : Sto} {R : ρ → Sto → Prop} {rv : ρ → Option Value} (hy : plainName y.cls = true) (hL : ∀ g, (lg_sl (av g)).length ≤ L)
    (body : ∀ (g : Gam) (A : Nat → Prop) (X : FX), CX cf g A L X b y.cls ret F Lc → EW cf g A X σ R rv → X.2.1 = l → 0 + mc ≤ X.2.2.2.1.cells → 0 + ms ≤ X.2.2.2.1.slots → (y.name = "<init>" → X.2.2.2.2.2.2.2.2.1.name = "<init>") → TG cf g A L X 0 0 σ 0 (lv_args 0 (av g)) []) : Cw cf l y b L ret { frames := F, cells := mc, slots := ms, locals := Lc } av σ R rv := by
  intro g sz
  refine Met.ofW (cc := b) (maxL := L) (ret := ret) hy rfl ?_
  intro p e s m args below meth c s₁ B hml hv
  obtain ⟨rfl, hsz, hP, hK, hD0, hKC⟩ := hv
  subst hsz
  have hts := atoms_spec (ws := ws_ y b L ret) B.pre
  have hts : ∀ w ∈ lw_all, w.before _ s = true := fun w h => hts w (List.mem_cons_of_mem _ h)
  have hD := hD0.self (sz := s.heap.size)
  have hl := lv_entry (av g) (n := L) (hL g)
  rw [lg_entry_eq]
  have K := body g (va_A (wS cf g σ) s.heap.size) (p, l, e, { frames := F, cells := mc, slots := ms, locals := Lc }, s, m, (av g).toArray, below, meth, c, MQ below (cQw cf g s.heap.size σ R rv) (av g).toArray s mc ms (va_A (wS cf g σ) s.heap.size))
    ⟨B.exec, B.bytes, B.returns, B.notSynchronized, hml, findClass_of_methodNamed B.named, hts, hK, fun q h => Or.inr h, Nat.le_refl _, Nat.le_refl _, hKC⟩ ⟨rfl, rfl⟩ rfl (by show 0 + mc ≤ mc; omega) (by show 0 + ms ≤ ms; omega) (fun h => by rw [← h]; exact (name_of_methodNamed B.named B.method).1)
  exact K s.heap [] _ hP hD va_S.rf hl
theorem Cx_of {ρ : Type} {cf : Cfg} {l : Launch} {y : MethodName} {b : ByteArray} {L : Nat} {ret : Option FieldType} {F Lc mc ms : Nat} {av : Gam → List Value} {σ : Sto} {R : ρ → Sto → Prop} {rv : ρ → Option Value} {PX : Nat → Sto → Prop} (hy : plainName y.cls = true) (hL : ∀ g, (lg_sl (av g)).length ≤ L)
    (body : ∀ (g : Gam) (A : Nat → Prop) (X : FX), CX cf g A L X b y.cls ret F Lc → EY cf g A X σ R rv PX → X.2.1 = l → 0 + mc ≤ X.2.2.2.1.cells → 0 + ms ≤ X.2.2.2.1.slots → TG cf g A L X 0 0 σ 0 (lv_args 0 (av g)) []) : Cx cf l y b L ret { frames := F, cells := mc, slots := ms, locals := Lc } av σ R rv PX := by
  intro g sz
  refine vy_ofW (cc := b) (maxL := L) (ret := ret) hy rfl ?_
  intro p e s m args below meth c s₁ B hml hxt hv
  obtain ⟨rfl, hsz, hP, hK, hD0, hKC⟩ := hv
  subst hsz
  have hts := atoms_spec (ws := ws_ y b L ret) B.pre
  have hts : ∀ w ∈ lw_all, w.before _ s = true := fun w h => hts w (List.mem_cons_of_mem _ h)
  have hD := hD0.self (sz := s.heap.size)
  have hl := lv_entry (av g) (n := L) (hL g)
  rw [lg_entry_eq]
  have K := body g (va_A (wS cf g σ) s.heap.size) (p, l, e, { frames := F, cells := mc, slots := ms, locals := Lc }, s, m, (av g).toArray, below, meth, c, vy_MQ below (cQw cf g s.heap.size σ R rv) (cXw cf g s.heap.size σ PX) (av g).toArray s mc ms (va_A (wS cf g σ) s.heap.size))
    ⟨B.exec, B.bytes, B.returns, B.notSynchronized, hml, findClass_of_methodNamed B.named, hts, hK, fun q h => Or.inr h, Nat.le_refl _, Nat.le_refl _, hKC⟩ ⟨rfl, rfl, hxt⟩ rfl (by show 0 + mc ≤ mc; omega) (by show 0 + ms ≤ ms; omega)
  exact K s.heap [] _ hP hD va_S.rf hl
/-- a class that is made by new -/
def NO (cf : Cfg) (own : String) (idx ci N : Nat) (fs : List Value) : Prop := ∃ (Cn : String) (T : u_T) (ty : Nat → FieldType), cf.2.2.2.2.1[ci]? = some (Cn, T, N) ∧ (∀ w ∈ u_ws Cn T N, w ∈ lw_all) ∧ (∀ k, k < N → parseFieldDescriptor (T k).2.2.1 = some (ty k)) ∧ Cond.classLink own idx Cn ∈ lw_all ∧ Cond.instantiable Cn N ∈ lw_all ∧ Cond.initialized Cn ∈ lw_all ∧ ∀ j, j < N → defaultValue (ty j) = vp_V fs j
/-- a final field, written in a constructor; one that isn't final -/
def PF (cf : Cfg) (own : String) (idx ci j : Nat) (ty : FieldType) : Prop := ∃ (Cn : String) (T : u_T) (Nf : Nat), cf.2.2.2.2.1[ci]? = some (Cn, T, Nf) ∧ j < Nf ∧ (∀ w ∈ u_ws Cn T Nf, w ∈ lw_all) ∧ Cond.fieldLink own idx (T j).1 (T j).2.1 (T j).2.2.1 ∈ lw_all ∧ (T j).1 = own ∧ (T j).2.2.2 = true ∧ parseFieldDescriptor (T j).2.2.1 = some ty ∧ ∃ ty0 : Nat → FieldType, (∀ k, k < Nf → parseFieldDescriptor (T k).2.2.1 = some (ty0 k)) ∧ (∀ a, a < Nf → ∀ b, b < Nf → a ≠ b → (T a).2.1 ≠ (T b).2.1)
theorem pf_none {cf : Cfg} {g : Gam} {A : Nat → Prop} {σ : Sto} {q : Nat} {e' : va_E} (hD : va_D A (wS cf g σ ++ [(q, e')])) : pf σ q = none := by
  cases h : pf σ q with
  | none => rfl
  | some e =>
    obtain ⟨i, hi⟩ := pf_at (cf := cf) (g := g) h
    have hl := (List.getElem?_eq_some_iff.mp hi).1
    have h1 : (wS cf g σ ++ [(q, e')])[i]? = some (q, pE g e) := by rw [List.getElem?_append_left hl]; exact hi
    have h2 : (wS cf g σ ++ [(q, e')])[(wS cf g σ).length]? = some (q, e') := by rw [List.getElem?_append_right (Nat.le_refl _), Nat.sub_self]; rfl
    have h3 := hD.1 _ _ _ _ h1 h2 rfl
    omega
section WR
variable {cf : Cfg} {g : Gam} {A : Nat → Prop} {nL : Nat} {X : FX} {cells slots : Nat} {σ : Sto} {pc : Nat} {lv : List (Nat × Value)} {st rest : List Value} {cc : ByteArray} {own : String} {ret : Option FieldType} {F Lc : Nat} {ρ : Type} {σ0 : Sto} {R : ρ → Sto → Prop} {rv : ρ → Option Value} {PX : Nat → Sto → Prop}
/-- the goal with q thrown over the frame -/
def TX (cf : Cfg) (g : Gam) (A : Nat → Prop) (nL : Nat) (X : FX) (cells slots : Nat) (σ : Sto) (pc : Nat) (lv : List (Nat × Value)) (st : List Value) (q : Nat) : Prop := match X with
  | (p, l, e, R, s, m, args, below, meth, c, Q) => ∀ (H : Heap) (locs : List Loc) (ls : Array Slot), va_P g.2.2.1 cf.2.2.2.2.1 (wS cf g σ) H → va_D A (wS cf g σ) → va_S A s.heap H locs → lv_has ls nL lv → vy_W p l e R s m args below meth c H locs cells slots Q (F0 m pc ls st) q
theorem g_athrow {q : Nat} (C : CX cf g A nL X cc own ret F Lc) (d : decode cc pc = .ok (.athrow, 1)) (k : TX cf g A nL X cells slots σ pc lv rest q) : TG cf g A nL X cells slots σ pc lv (.ref q :: rest) := by
  obtain ⟨p, l, e, R, s, m, args, below, meth, c, Q⟩ := X
  obtain ⟨hx, hb, hr, hlk, hml, hown, hts, hK, hA, hF, hLc, hKC⟩ := C
  exact fun H locs ls hP hD hS hl => vy_athrow hx hb d (k H locs ls hP hD hS hl)
theorem g_xout {q ci : Nat} {T : u_T} {Nf : Nat} (C : CX cf g A nL X cc own ret F Lc) (E : EY cf g A X σ0 R rv PX) (hp : isP σ q ci = true) (hc : cf.2.2.2.2.1[ci]? = some ("DoughDebts$Fault", T, Nf)) (hx : PX q σ) (hc1 : cells ≤ X.2.2.2.1.cells) (hs1 : slots ≤ X.2.2.2.1.slots) : TX cf g A nL X cells slots σ pc lv st q := by
  obtain ⟨p, l, e, R, s, m, args, below, meth, c, Q⟩ := X
  obtain ⟨hx', hb, hr, hlk, hml, hown, hts, hK, hA, hF, hLc, hKC⟩ := C
  obtain ⟨rfl, rfl, hxt⟩ := E
  intro H locs ls hP hD hS hl
  obtain ⟨fs, h2⟩ := isP_s hp
  obtain ⟨j, hj⟩ := pf_at (cf := cf) (g := g) h2
  obtain ⟨r, h1, cell, q1, q2, q3, q4⟩ := hP j _ hj
  cases Option.some.inj (h1.symm.trans hc)
  exact vy_out (fun x h => (hxt x h).elim) hlk q1 q3 (by rw [q2]; exact (hK.1 ci _ hc).2.1) (fun t ht ha => ⟨⟨σ, rfl, hx, by rw [ht]; exact hP, hD⟩, hS.F ht⟩) hS.2.2 hc1 hs1
theorem g_wreti {r : ρ} {v : Int32} {ty : FieldType} (C : CX cf g A nL X cc own (some ty) F Lc) (E : EW cf g A X σ0 R rv) (hn : narrow ty (.int v) = .int v) (hv : rv r = some (.int v)) (hR : R r σ) (hc : cells ≤ X.2.2.2.1.cells) (hs : slots ≤ X.2.2.2.1.slots) (d : decode cc pc = .ok (.ireturn, 1)) : TG cf g A nL X cells slots σ pc lv [.int v] := by
  obtain ⟨p, l, e, R', s, m, args, below, meth, c, Q⟩ := X
  obtain ⟨hx, hb, hr, hlk, hml, hown, hts, hK, hA, hF, hLc, hKC⟩ := C
  obtain ⟨rfl, rfl⟩ := E
  exact fun H locs ls hP hD hS hl => W.widen hc hs (W.zret hx hb hr hn (fun t ht hW => ⟨⟨r, σ, by rw [hv], hR, by rw [ht]; exact hP, hD⟩, hS.F ht⟩) hS.2.2 d hlk)
theorem g_yreti {r : ρ} {v : Int32} {ty : FieldType} (C : CX cf g A nL X cc own (some ty) F Lc) (E : EY cf g A X σ0 R rv PX) (hn : narrow ty (.int v) = .int v) (hv : rv r = some (.int v)) (hR : R r σ) (hc : cells ≤ X.2.2.2.1.cells) (hs : slots ≤ X.2.2.2.1.slots) (d : decode cc pc = .ok (.ireturn, 1)) : TG cf g A nL X cells slots σ pc lv [.int v] := by
  obtain ⟨p, l, e, R', s, m, args, below, meth, c, Q⟩ := X
  obtain ⟨hx, hb, hr, hlk, hml, hown, hts, hK, hA, hF, hLc, hKC⟩ := C
  obtain ⟨rfl, rfl, -⟩ := E
  exact fun H locs ls hP hD hS hl => vy_ret (W.widen hc hs (W.zret hx hb hr hn (fun t ht hW => ⟨⟨r, σ, by rw [hv], hR, by rw [ht]; exact hP, hD⟩, hS.F ht⟩) hS.2.2 d hlk))
theorem g_wretl {r : ρ} {v : Int64} (C : CX cf g A nL X cc own (some .long) F Lc) (E : EW cf g A X σ0 R rv) (hv : rv r = some (.long v)) (hR : R r σ) (hc : cells ≤ X.2.2.2.1.cells) (hs : slots ≤ X.2.2.2.1.slots) (d : decode cc pc = .ok (.lreturn, 1)) : TG cf g A nL X cells slots σ pc lv [.long v] := by
  obtain ⟨p, l, e, R', s, m, args, below, meth, c, Q⟩ := X
  obtain ⟨hx, hb, hr, hlk, hml, hown, hts, hK, hA, hF, hLc, hKC⟩ := C
  obtain ⟨rfl, rfl⟩ := E
  exact fun H locs ls hP hD hS hl => W.widen hc hs (W.lret hx hb hr (fun t ht hW => ⟨⟨r, σ, by rw [hv], hR, by rw [ht]; exact hP, hD⟩, hS.F ht⟩) hS.2.2 d hlk)
theorem g_yretl {r : ρ} {v : Int64} (C : CX cf g A nL X cc own (some .long) F Lc) (E : EY cf g A X σ0 R rv PX) (hv : rv r = some (.long v)) (hR : R r σ) (hc : cells ≤ X.2.2.2.1.cells) (hs : slots ≤ X.2.2.2.1.slots) (d : decode cc pc = .ok (.lreturn, 1)) : TG cf g A nL X cells slots σ pc lv [.long v] := by
  obtain ⟨p, l, e, R', s, m, args, below, meth, c, Q⟩ := X
  obtain ⟨hx, hb, hr, hlk, hml, hown, hts, hK, hA, hF, hLc, hKC⟩ := C
  obtain ⟨rfl, rfl, -⟩ := E
  exact fun H locs ls hP hD hS hl => vy_ret (W.widen hc hs (W.lret hx hb hr (fun t ht hW => ⟨⟨r, σ, by rw [hv], hR, by rw [ht]; exact hP, hD⟩, hS.F ht⟩) hS.2.2 d hlk))
theorem g_wreta {r : ρ} {v : Option Nat} {ty : FieldType} (C : CX cf g A nL X cc own (some ty) F Lc) (E : EW cf g A X σ0 R rv) (hrt : (∃ n, ty = .object n) ∨ ∃ t, ty = .array t) (hv : rv r = some (va_rf v)) (hR : R r σ) (hc : cells ≤ X.2.2.2.1.cells) (hs : slots ≤ X.2.2.2.1.slots) (d : decode cc pc = .ok (.areturn, 1)) : TG cf g A nL X cells slots σ pc lv [va_rf v] := by
  obtain ⟨p, l, e, R', s, m, args, below, meth, c, Q⟩ := X
  obtain ⟨hx, hb, hr, hlk, hml, hown, hts, hK, hA, hF, hLc, hKC⟩ := C
  obtain ⟨rfl, rfl⟩ := E
  exact fun H locs ls hP hD hS hl => W.widen hc hs (W.aret hx hb hr hrt (va_rf_or v) (fun t ht hW => ⟨⟨r, σ, by rw [hv], hR, by rw [ht]; exact hP, hD⟩, hS.F ht⟩) hS.2.2 d hlk)
theorem g_yreta {r : ρ} {v : Option Nat} {ty : FieldType} (C : CX cf g A nL X cc own (some ty) F Lc) (E : EY cf g A X σ0 R rv PX) (hrt : (∃ n, ty = .object n) ∨ ∃ t, ty = .array t) (hv : rv r = some (va_rf v)) (hR : R r σ) (hc : cells ≤ X.2.2.2.1.cells) (hs : slots ≤ X.2.2.2.1.slots) (d : decode cc pc = .ok (.areturn, 1)) : TG cf g A nL X cells slots σ pc lv [va_rf v] := by
  obtain ⟨p, l, e, R', s, m, args, below, meth, c, Q⟩ := X
  obtain ⟨hx, hb, hr, hlk, hml, hown, hts, hK, hA, hF, hLc, hKC⟩ := C
  obtain ⟨rfl, rfl, -⟩ := E
  exact fun H locs ls hP hD hS hl => vy_ret (W.widen hc hs (W.aret hx hb hr hrt (va_rf_or v) (fun t ht hW => ⟨⟨r, σ, by rw [hv], hR, by rw [ht]; exact hP, hD⟩, hS.F ht⟩) hS.2.2 d hlk))
theorem g_wretv {r : ρ} (C : CX cf g A nL X cc own none F Lc) (E : EW cf g A X σ0 R rv) (hv : rv r = none) (hR : R r σ) (hc : cells ≤ X.2.2.2.1.cells) (hs : slots ≤ X.2.2.2.1.slots) (d : decode cc pc = .ok (.return_, 1)) : TG cf g A nL X cells slots σ pc lv [] := by
  obtain ⟨p, l, e, R', s, m, args, below, meth, c, Q⟩ := X
  obtain ⟨hx, hb, hr, hlk, hml, hown, hts, hK, hA, hF, hLc, hKC⟩ := C
  obtain ⟨rfl, rfl⟩ := E
  exact fun H locs ls hP hD hS hl => W.widen hc hs (W.vret hx hb hr (fun t ht hW => ⟨⟨r, σ, by rw [hv], hR, by rw [ht]; exact hP, hD⟩, hS.F ht⟩) hS.2.2 d hlk)
theorem g_yretv {r : ρ} (C : CX cf g A nL X cc own none F Lc) (E : EY cf g A X σ0 R rv PX) (hv : rv r = none) (hR : R r σ) (hc : cells ≤ X.2.2.2.1.cells) (hs : slots ≤ X.2.2.2.1.slots) (d : decode cc pc = .ok (.return_, 1)) : TG cf g A nL X cells slots σ pc lv [] := by
  obtain ⟨p, l, e, R', s, m, args, below, meth, c, Q⟩ := X
  obtain ⟨hx, hb, hr, hlk, hml, hown, hts, hK, hA, hF, hLc, hKC⟩ := C
  obtain ⟨rfl, rfl, -⟩ := E
  exact fun H locs ls hP hD hS hl => vy_ret (W.widen hc hs (W.vret hx hb hr (fun t ht hW => ⟨⟨r, σ, by rw [hv], hR, by rw [ht]; exact hP, hD⟩, hS.F ht⟩) hS.2.2 d hlk))
/-- new, newarray, anewarray -/
theorem g_new {idx ci N : Nat} {fs : List Value} (C : CX cf g A nL X cc own ret F Lc) (no : NO cf own idx ci N fs) (hc : cells + 1 ≤ X.2.2.2.1.cells) (hs : slots + N ≤ X.2.2.2.1.slots) (d : decode cc pc = .ok (.new idx, 3)) (kk : ∀ q, pf σ q = none → TG cf g A nL X (cells + 1) (slots + N) (pA σ q (.inr (ci, fs))) (pc + 3) lv (.ref q :: rest)) : TG cf g A nL X cells slots σ pc lv rest := by
  obtain ⟨p, l, e, R', s, m, args, below, meth, c, Q⟩ := X
  obtain ⟨hx, hb, hr, hlk, hml, hown, hts, hK, hA, hF, hLc, hKC⟩ := C
  obtain ⟨Cn, T, ty, n1, n2, n3, n4, n5, n6, n7⟩ := no
  intro H locs ls hP hD hS hl
  refine va_new (ci := ci) (fs := fs) hx hb hts n2 ty n3 hown (hts _ n4) (hts _ n5) (hts _ n6) hK hP hD hS hA n1 n7 hc hs d (fun q H1 hP hD hS => ?_)
  have e1 : wS cf g σ ++ [(q, .inr (ci, fs))] = wS cf g (pA σ q (.inr (ci, fs))) := pA_app (e := .inr (ci, fs))
  have hq := pf_none hD
  have e2 : wS cf g σ ++ [(q, .inr (ci, fs))] = wS cf g (pA σ q (.inr (ci, fs))) := e1
  rw [e2] at hP hD
  exact kk q hq H1 locs ls hP hD hS hl
theorem g_newB {n : Int32} (C : CX cf g A nL X cc own ret F Lc) (h1 : cf.2.2.2.2.2[1]? = some .byte) (hn : inb n 1000 = true) (hc : cells + 1 ≤ X.2.2.2.1.cells) (hs : slots + n.toNatClampNeg ≤ X.2.2.2.1.slots) (d : decode cc pc = .ok (.newarray .byte, 2)) (kk : ∀ q, pf σ q = none → TG cf g A nL X (cells + 1) (slots + n.toNatClampNeg) (pA σ q (.inl (1, n.toNatClampNeg, .inl (fun _ => 0)))) (pc + 2) lv (.ref q :: rest)) : TG cf g A nL X cells slots σ pc lv (.int n :: rest) := by
  obtain ⟨p, l, e, R', s, m, args, below, meth, c, Q⟩ := X
  obtain ⟨hx, hb, hr, hlk, hml, hown, hts, hK, hA, hF, hLc, hKC⟩ := C
  have hin := inb_in hn
  have hlt : n.toNatClampNeg < 1000 := Nat.not_le.mp fun q => hin (Or.inr q)
  intro H locs ls hP hD hS hl
  refine va_newa (atype := .byte) (a0 := (n.toNatClampNeg, .inl (fun _ => 0))) hx hb (hts _ q159) rfl hK hP hD hS hA (fun cA => rfl) (fun q => hin (Or.inl q)) rfl (by show n.toNatClampNeg * 1 ≤ _; omega) hc hs d (fun q cA H1 hK2 hP hD hS => ?_)
  have e3 : (tyl cf g ++ [(cA, FieldType.byte)])[(tyl cf g).length]? = some (cA, .byte) := by rw [List.getElem?_append_right (Nat.le_refl _), Nat.sub_self]; rfl
  have e4 : cA = g.2.1 1 := Option.some.inj ((hK2.2 _ _ e3).2.symm.trans (hK.2 _ _ (tyl_at h1)).2)
  subst e4
  have hq := pf_none hD
  have e2 : wS cf g σ ++ [(q, .inl (g.2.1 1, n.toNatClampNeg, .inl (fun _ => 0)))] = wS cf g (pA σ q (.inl (1, n.toNatClampNeg, .inl (fun _ => 0)))) := pA_app (e := .inl (1, n.toNatClampNeg, .inl (fun _ => 0)))
  rw [e2] at hP hD
  exact kk q hq H1 locs ls hP hD hS hl
theorem g_newQ {idx t N' : Nat} {n : Int32} {Cn : String} (C : CX cf g A nL X cc own ret F Lc) (ht : cf.2.2.2.2.2[t]? = some (.object Cn)) (hO : Cn ∈ kO) (w1 : Cond.classLink own idx Cn ∈ lw_all) (hn : ¬ n < 0) (hN : n.toNatClampNeg = N') (hb' : N' * 4 ≤ 536870912) (hc : cells + 1 ≤ X.2.2.2.1.cells) (hs : slots + N' ≤ X.2.2.2.1.slots) (d : decode cc pc = .ok (.anewarray idx, 3)) (kk : ∀ q, pf σ q = none → TG cf g A nL X (cells + 1) (slots + N') (pA σ q (.inl (t, N', .inr (.inr (.inr (.inr (fun _ => none))))))) (pc + 3) lv (.ref q :: rest)) : TG cf g A nL X cells slots σ pc lv (.int n :: rest) := by
  obtain ⟨p, l, e, R', s, m, args, below, meth, c, Q⟩ := X
  obtain ⟨hx, hb, hr, hlk, hml, hown, hts, hK, hA, hF, hLc, hKC⟩ := C
  intro H locs ls hP hD hS hl
  refine va_newq hx hb hown (hts _ w1) (hKC.2.2.2.2.2.2.1 _ hO) hK hP hD hS hA hn hN hb' hc hs d (fun q cA H1 hK2 hP hD hS => ?_)
  have e3 : (tyl cf g ++ [(cA, FieldType.object Cn)])[(tyl cf g).length]? = some (cA, .object Cn) := by rw [List.getElem?_append_right (Nat.le_refl _), Nat.sub_self]; rfl
  obtain ⟨-, kA, comp, -, -, -, e5⟩ := hK2.2 _ _ e3
  obtain ⟨-, kB, comp2, -, -, -, e6⟩ := hK.2 _ _ (tyl_at ht)
  have e4 : cA = g.2.1 t := Option.some.inj (e5.symm.trans e6)
  subst e4
  have hq := pf_none hD
  have e2 : wS cf g σ ++ [(q, .inl (g.2.1 t, N', .inr (.inr (.inr (.inr (fun _ => none))))))] = wS cf g (pA σ q (.inl (t, N', .inr (.inr (.inr (.inr (fun _ => none))))))) := pA_app (e := .inl (t, N', .inr (.inr (.inr (.inr (fun _ => none))))))
  rw [e2] at hP hD
  exact kk q hq H1 locs ls hP hD hS hl
/-- a pool object's field -/
theorem g_pputF {a ci j idx : Nat} {ty : FieldType} {v : Value} {fs : List Value} {σ' : Sto} (C : CX cf g A nL X cc own ret F Lc) (hin2 : X.2.2.2.2.2.2.2.2.1.name = "<init>") (f : PF cf own idx ci j ty) (hp : pf σ a = some (.inr (ci, fs))) (hl9 : j < fs.length) (hn : narrow ty v = v) (hfit : fits ty v = true) (hs : σ' = pS σ a (.inr (ci, fs.set j v))) (d : decode cc pc = .ok (.putfield idx, 3)) (kk : TG cf g A nL X cells slots σ' (pc + 3) lv rest) : TG cf g A nL X cells slots σ pc lv (v :: .ref a :: rest) := by
  subst hs
  obtain ⟨p, l, e, R', s, m, args, below, meth, c, Q⟩ := X
  obtain ⟨hx, hb, hr, hlk, hml, hown, hts, hK, hA, hF, hLc, hKC⟩ := C
  obtain ⟨Cn, T, Nf, f2, f3, f4, f5, f6, f7, f8, ty0, f9, f10⟩ := f
  obtain ⟨i, hN, hi⟩ := pf_ge (cf := cf) (g := g) hp
  intro H locs ls hP hD hS hl
  have e1 : (wS cf g σ).set i (a, .inr (ci, fs.set j v)) = wS cf g (pS σ a (.inr (ci, fs.set j v))) := pS_set (e := .inr (ci, fs.set j v)) hD hi hN
  refine va_putF hx hb hts f4 ty0 f9 f10 hown hK hP hD hS i hi f2 j f3 (hts _ f5) (fun x h => h) f7 hin2 f6 f8 hn hfit hl9 d (fun H1 locs1 hP hD hS => ?_)
  rw [e1] at hP hD
  exact kk H1 locs1 ls hP hD hS hl
theorem g_pput {a ci j idx tag : Nat} {ty : FieldType} {v : Value} {fs : List Value} {σ' : Sto} (C : CX cf g A nL X cc own ret F Lc) (f : PO cf own idx ci j tag ty) (hp : pf σ a = some (.inr (ci, fs))) (hl9 : j < fs.length) (hn : narrow ty v = v) (hfit : fits ty v = true) (hs : σ' = pS σ a (.inr (ci, fs.set j v))) (d : decode cc pc = .ok (.putfield idx, 3)) (kk : TG cf g A nL X cells slots σ' (pc + 3) lv rest) : TG cf g A nL X cells slots σ pc lv (v :: .ref a :: rest) := by
  subst hs
  obtain ⟨p, l, e, R', s, m, args, below, meth, c, Q⟩ := X
  obtain ⟨hx, hb, hr, hlk, hml, hown, hts, hK, hA, hF, hLc, hKC⟩ := C
  obtain ⟨Cn, T, Nf, f1, f2, f3, f4, f5, f6, f7, f8, ty0, f9, f10⟩ := f
  obtain ⟨i, hN, hi⟩ := pf_ge (cf := cf) (g := g) hp
  intro H locs ls hP hD hS hl
  have e1 : (wS cf g σ).set i (a, .inr (ci, fs.set j v)) = wS cf g (pS σ a (.inr (ci, fs.set j v))) := pS_set (e := .inr (ci, fs.set j v)) hD hi hN
  refine va_put hx hb hts f4 ty0 f9 f10 hown hK hP hD hS i hi f2 j f3 (hts _ f5) (fun x h => h) f7 f8 hn hfit hl9 d (fun H1 locs1 hP hD hS => ?_)
  rw [e1] at hP hD
  exact kk H1 locs1 ls hP hD hS hl
/-- stores into the pool's arrays -/
theorem g_pbast {a n : Nat} {f : Nat → Int32} {i v : Int32} {σ' : Sto} (C : CX cf g A nL X cc own ret F Lc) (h : paI σ a 1 = some (n, f)) (h0 : cf.2.2.2.2.2[1]? = some .byte) (hin : inb i n = true) (hs : σ' = pS σ a (.inl (1, n, .inl (upd f i.toNatClampNeg (i2b v))))) (d : decode cc pc = .ok (.bastore, 1)) (kk : TG cf g A nL X cells slots σ' (pc + 1) lv rest) : TG cf g A nL X cells slots σ pc lv (.int v :: .int i :: .ref a :: rest) := by
  subst hs
  obtain ⟨p, l, e, R', s, m, args, below, meth, c, Q⟩ := X
  obtain ⟨hx, hb, hr, hlk, hml, hown, hts, hK, hA, hF, hLc, hKC⟩ := C
  obtain ⟨j, hN, hj⟩ := pf_ge (cf := cf) (g := g) (paI_s h)
  intro H locs ls hP hD hS hl
  have e1 : (wS cf g σ).set j (a, .inl (g.2.1 1, n, .inl (upd f i.toNatClampNeg (vp_nar .byte v)))) = wS cf g (pS σ a (.inl (1, n, .inl (upd f i.toNatClampNeg (i2b v))))) := pS_set (e := .inl (1, n, .inl (upd f i.toNatClampNeg (i2b v)))) hD hj hN
  refine va_bast hx hb hK hP hD hS j 1 hj (tyl_at h0) (inb_in hin) d (fun H1 locs1 hP hD hS => ?_)
  rw [e1] at hP hD
  exact kk H1 locs1 ls hP hD hS hl
/-- .. of terms: an object of any of the term classes -/
theorem g_paastT {a t n v ci : Nat} {Cn Cv : String} {T : u_T} {Nf : Nat} {f : Nat → Option Nat} {fs : List Value} {i : Int32} {σ' : Sto} (C : CX cf g A nL X cc own ret F Lc) (h : paQ σ a t = some (n, f)) (h0 : cf.2.2.2.2.2[t]? = some (.object Cn)) (hv : pf σ v = some (.inr (ci, fs))) (hc : cf.2.2.2.2.1[ci]? = some (Cv, T, Nf)) (hcast : (Cv, Cn) ∈ kC) (hin : inb i n = true) (hs : σ' = pS σ a (.inl (t, n, .inr (.inr (.inr (.inr (va_up f i.toNatClampNeg (some v)))))))) (d : decode cc pc = .ok (.aastore, 1)) (kk : TG cf g A nL X cells slots σ' (pc + 1) lv rest) : TG cf g A nL X cells slots σ pc lv (.ref v :: .int i :: .ref a :: rest) := by
  subst hs
  obtain ⟨p, l, e, R', s, m, args, below, meth, c, Q⟩ := X
  obtain ⟨hx, hb, hr, hlk, hml, hown, hts, hK, hA, hF, hLc, hKC⟩ := C
  obtain ⟨j, hN, hj⟩ := pf_ge (cf := cf) (g := g) (paQ_s h)
  obtain ⟨jv, hjv⟩ := pf_at (cf := cf) (g := g) hv
  have hlt : i.toNatClampNeg < n := Nat.not_le.mp fun q => inb_in hin (Or.inr q)
  have hi0 : ¬ i < 0 := fun q => inb_in hin (Or.inl q)
  intro H locs ls hP hD hS hl
  have e1 : (wS cf g σ).set j (a, .inl (g.2.1 t, n, .inr (.inr (.inr (.inr (va_up f i.toNatClampNeg (some v))))))) = wS cf g (pS σ a (.inl (t, n, .inr (.inr (.inr (.inr (va_up f i.toNatClampNeg (some v)))))))) := pS_set (e := .inl (t, n, .inr (.inr (.inr (.inr (va_up f i.toNatClampNeg (some v))))))) hD hj hN
  obtain ⟨r', hr', cellV, g1, g2, g3, -⟩ := hP jv _ hjv
  cases Option.some.inj (hr'.symm.trans hc)
  have hcls := (hK.1 ci _ hc).2
  obtain ⟨kA, comp, k1, k2, k3, -⟩ := (hK.2 t _ (tyl_at h0)).2
  obtain ⟨c3, c4, hc3, hc4, hasg⟩ := Cond.castable_spec (hKC.2.2.2.2.1 _ hcast)
  cases Option.some.inj (hc3.symm.trans hcls.1)
  cases Option.some.inj (hc4.symm.trans k3)
  obtain ⟨kC, hkC, -⟩ := hcls.2
  obtain ⟨kcomp, hkcomp, -⟩ := Vm.findClass_spec k3
  refine W.aast hx hb (hP j _ hj) (fun q h => by cases h) (fun h => by cases h) k1 k2 rfl hkcomp ⟨hi0, by show _ < (arrV _ _ _).slots.size; rw [arrV_size]; exact hlt⟩ g1 (fun q h => by rw [g3] at h; cases h) (by rw [g2]; exact hkC) (by rw [g2]; exact hasg) rfl rfl d fun H1 e z oq => ?_
  have hP1 := hP.set (e := .inl (g.2.1 t, n, .inr (.inr (.inr (.inr (va_up f i.toNatClampNeg (some v))))))) hD hj (by
    show H1[a]? = some (vp_cell _ _)
    rw [e]
    show some ((vp_cell (g.2.1 t) (n, .inr (.inr (.inr (.inr f))))).setSlot i.toNatClampNeg (.ref v)) = _
    rw [vp_cell_q, vp_cell_q, arrV_store]
    congr 2
    funext q
    by_cases hq : q = i.toNatClampNeg
    · subst hq
      simp [updV, va_up, va_rf]
    · simp [updV, va_up, hq]) oq
  have hD1 := hD.set (e := .inl (g.2.1 t, n, .inr (.inr (.inr (.inr (va_up f i.toNatClampNeg (some v))))))) hj
  rw [e1] at hP1 hD1
  exact kk H1 _ ls hP1 hD1 (hS.put z oq (hD.2 j _ hj)) hl
/-- System.arraycopy of a static byte array into one of the pool -/
theorem g_copyBP {k a n0 n1 idx : Nat} {f : Nat → Int32} {sp dp n : Int32} {σ' : Sto} (C : CX cf g A nL X cc own ret F Lc) (a0 : AO cf k 1 n0) (h : paI σ a 1 = some (n1, f)) (h0 : cf.2.2.2.2.2[1]? = some .byte) (hok : cpOk sp dp n n0 n1 = true) (hfit : ((List.range n.toNatClampNeg).all (fun i => fits .byte (.int (σ.1 k (sp.toNatClampNeg + i))))) = true) (w1 : Cond.methodLink own idx arraycopyName ∈ lw_all) (hF1 : 1 ≤ F) (hL1 : 40 ≤ Lc) (hrest : (rest.map fun v => v.category).sum ≤ 8) (hs : σ' = pS σ a (.inl (1, n1, .inl (va_cpy (σ.1 k) f sp.toNatClampNeg dp.toNatClampNeg n.toNatClampNeg)))) (d : decode cc pc = .ok (.invokestatic idx, 3)) (kk : TG cf g A nL X cells slots σ' (pc + 3) lv rest) : TG cf g A nL X cells slots σ pc lv (.int n :: .int dp :: .ref a :: .int sp :: .ref (g.1 k) :: rest) := by
  subst hs
  obtain ⟨p, l, e, R', s, m, args, below, meth, c, Q⟩ := X
  obtain ⟨hx, hb, hr, hlk, hml, hown, hts, hK, hA, hF, hLc, hKC⟩ := C
  obtain ⟨g1, g2, g3, g4, g5⟩ := cpOk_s hok
  obtain ⟨j, hN, hj⟩ := pf_ge (cf := cf) (g := g) (paI_s h)
  have hnw : nativeFrameWords "java/lang/System" "arraycopy" 5 + 11 ≤ 32 := by decide +kernel
  intro H locs ls hP hD hS hl
  have e1 : (wS cf g σ).set j (a, .inl (g.2.1 1, n1, .inl (va_cpy (σ.1 k) f sp.toNatClampNeg dp.toNatClampNeg n.toNatClampNeg))) = wS cf g (pS σ a (.inl (1, n1, .inl (va_cpy (σ.1 k) f sp.toNatClampNeg dp.toNatClampNeg n.toNatClampNeg)))) := pS_set (e := .inl (1, n1, .inl (va_cpy (σ.1 k) f sp.toNatClampNeg dp.toNatClampNeg n.toNatClampNeg))) hD hj hN
  refine va_copyi hx hb (hml.trans hl.1.symm) hown (hts _ w1) (hts _ q715) (hts _ q714) (hts _ q94) hK hP hD hS k j 1 1 a0.at1 hj (tyl_at h0) (tyl_at h0) rfl g1 g2 g3 g4 g5 (fun i hi => List.all_eq_true.mp hfit i (List.mem_range.mpr hi)) (Nat.le_trans hF1 hF) (by omega) d (fun H1 locs1 hP hD hS => ?_)
  rw [e1] at hP hD
  exact kk H1 locs1 ls hP hD hS hl
/-- Object's constructor -/
theorem g_objInit {a idx : Nat} (C : CX cf g A nL X cc own ret F Lc) (w1 : Cond.methodLink own idx Lib.objectInit ∈ lw_all) (hF1 : 1 ≤ F) (hL1 : 20 ≤ Lc) (hrest : (rest.map fun v => v.category).sum ≤ 8) (d : decode cc pc = .ok (.invokespecial idx, 3)) (kk : TG cf g A nL X cells slots σ (pc + 3) lv rest) : TG cf g A nL X cells slots σ pc lv (.ref a :: rest) := by
  obtain ⟨p, l, e, R', s, m, args, below, meth, c, Q⟩ := X
  obtain ⟨hx, hb, hr, hlk, hml, hown, hts, hK, hA, hF, hLc, hKC⟩ := C
  exact fun H locs ls hP hD hS hl => W.objInit hx hb hown (hts _ w1) (hts _ q119) (hts _ q120) rfl (hl.1.trans hml.symm) rfl d (Nat.le_trans hF1 hF) (by show 2 * 0 + _ + 12 ≤ _; omega) (kk H locs ls hP hD hS hl)
theorem va_callw {p : Program} {l : Launch} {e : Env} {R0 : Room} {s : State} {m : MethodId} {args : Array Value} {below : List Frame} {meth : Method} {c : Code} {H : Heap} {locs : List Loc} {Q : State → Prop} {ls : Array Slot} {st0 : List Value} {A0 A1 : Nat → Prop} {H0 : Heap} {mc ms : Nat} {free : Addr → Prop} {Qa : State → Outcome → State → Prop} {B : Sto → State → Prop}
    (hr : va_Run p l e R0 s m args below meth c H locs cells slots mc ms (F0 m pc ls st0) rest Qa free) (hq : ∀ st oc t, Qa st oc t → (∃ (r : ρ) (σ' : Sto), oc = .returned (rv r) ∧ R r σ' ∧ B σ' t) ∧ va_F A1 st t) (hS : va_S A0 H0 H locs) (hA : ∀ q, A1 q → A0 q) (hf : ∀ q, free q → A0 q)
    (kk : ∀ (r : ρ) (σ' : Sto) (t : State) (H1 : Heap) (locs1 : List Loc), t.heap = H1 → R r σ' → B σ' t → va_S A0 H0 H1 locs1 → W p l e R0 s m args below meth c H1 locs1 (cells + mc) (slots + ms) Q (F0 m (pc + 3) ls ((rv r).toList ++ rest))) : W p l e R0 s m args below meth c H locs cells slots Q (F0 m pc ls st0) := by
  intro T hT X
  obtain ⟨v, st₀, t, T', L, h0, X', hL, e1, e2, hQ, st⟩ := hr T hT X
  obtain ⟨⟨r, σ', hv, hR, hb⟩, hz, hk⟩ := hq _ _ _ hQ
  cases hv
  rw [h0] at hz hk
  obtain ⟨t2, a1, b1⟩ := kk r σ' t T'.heap (locs ++ L) e1.symm hR hb
    ⟨Nat.le_trans hS.1 (by rw [e1]; exact hz), fun q h1 h2 => by rw [e1, hk q (Nat.lt_of_lt_of_le h1 hS.1) (fun z => h2 (hA q z))]; exact hS.2.1 q h1 h2, fun q hq => by
      rcases List.mem_append.mp hq with h | h
      · exact hS.2.2 q h
      · exact hf _ (hL q h)⟩ T' rfl X'
  exact ⟨t2, st t2 a1, b1⟩
theorem vy_callw {p : Program} {l : Launch} {e : Env} {R0 : Room} {s : State} {m : MethodId} {args : Array Value} {below : List Frame} {meth : Method} {c : Code} {H : Heap} {locs : List Loc} {Q : State → Prop} {ls : Array Slot} {st0 : List Value} {A0 A1 : Nat → Prop} {H0 : Heap} {mc ms : Nat} {free : Addr → Prop} {Qa : State → Outcome → State → Prop} {XC : String → Addr → State → State → Prop} {B : Sto → State → Prop} {BX : Nat → Sto → State → Prop}
    (hr : vy_Run p l e R0 s m args below meth c H locs cells slots mc ms (F0 m pc ls st0) rest Qa XC free) (hq : ∀ st oc t, Qa st oc t → (∃ (r : ρ) (σ' : Sto), oc = .returned (rv r) ∧ R r σ' ∧ B σ' t) ∧ va_F A1 st t) (hqx : ∀ E q st t, XC E q st t → (∃ σ' : Sto, E = "DoughDebts$Fault" ∧ BX q σ' t) ∧ va_F A1 st t) (hS : va_S A0 H0 H locs) (hA : ∀ q, A1 q → A0 q) (hf : ∀ q, free q → A0 q)
    (kx : ∀ (q : Nat) (σ' : Sto) (t : State) (H1 : Heap) (locs1 : List Loc) (ce : Cell), t.heap = H1 → BX q σ' t → va_S A0 H0 H1 locs1 → H1[q]? = some ce → ce.vm = .none → s.vm.findClass "DoughDebts$Fault" = some ce.cls → vy_W p l e R0 s m args below meth c H1 locs1 (cells + mc) (slots + ms) Q (F0 m pc ls rest) q)
    (kk : ∀ (r : ρ) (σ' : Sto) (t : State) (H1 : Heap) (locs1 : List Loc), t.heap = H1 → R r σ' → B σ' t → va_S A0 H0 H1 locs1 → W p l e R0 s m args below meth c H1 locs1 (cells + mc) (slots + ms) Q (F0 m (pc + 3) ls ((rv r).toList ++ rest))) : W p l e R0 s m args below meth c H locs cells slots Q (F0 m pc ls st0) := by
  intro T hT X
  rcases hr T hT X with ⟨v, st₀, t, T', L, h0, X', hL, e1, e2, hQ, st⟩ | ⟨q, st₀, t, T', L, E, ce, h0, X', hL, e1, e2, hQ, hce, hcv, hcl, st⟩
  · obtain ⟨⟨r, σ', hv, hR, hb⟩, hF⟩ := hq _ _ _ hQ
    cases hv
    obtain ⟨k1, k2, k3⟩ := vy_keep h0 e1 hS (fun q _ h => hA q h) hf hL hF
    obtain ⟨t2, a1, b1⟩ := kk r σ' t T'.heap (locs ++ L) e1.symm hR hb k3 T' rfl X'
    exact ⟨t2, st t2 a1, b1⟩
  · obtain ⟨⟨σ', rfl, hb⟩, hF⟩ := hqx _ _ _ _ hQ
    obtain ⟨k1, k2, k3⟩ := vy_keep h0 e1 hS (fun q _ h => hA q h) hf hL hF
    obtain ⟨t2, a1, b1⟩ := kx q σ' t T'.heap (locs ++ L) ce e1.symm hb k3 (by rw [e1]; exact hce) hcv hcl T' rfl X'
    exact ⟨t2, st.trans a1, b1⟩
theorem g_wcallV {l : Launch} {idx L n : Nat} {y : MethodName} {b : ByteArray} {r0 : Option FieldType} {rm : Room} {av : Gam → List Value} {As : List Value} {ρ : Type} {R1 : ρ → Sto → Prop} {rv1 : ρ → Option Value} {k ci : Nat} {Cn : String} {T : u_T} {Nf : Nat} (C : CX cf g A nL X cc own ret F Lc) (hM : Cw cf l y b L r0 rm av σ R1 rv1) (hX : X.2.1 = l) (o : OO cf k ci) (hc : cf.2.2.2.2.1[ci]? = some (Cn, T, Nf)) (hav : av g = .ref (g.1 k) :: As) (w1 : Cond.methodLink own idx y ∈ lw_all) (w2 : Cond.instanceMethod y ∈ lw_all) (w3 : Cond.selects Cn y y ∈ lw_all) (w4 : Cond.initialized Cn ∈ lw_all) (w5 : Cond.code y b L r0 ∈ lw_all) (hd : y.cls = Cn ∧ y.cls ≠ "java/lang/invoke/MethodHandle" ∧ y.cls ≠ "java/lang/invoke/VarHandle" ∧ (parseMethodDescriptor y.desc).map (fun d => d.parameters.length) = some n) (hn : As.length = n) (hR : rm.frames + 1 ≤ F ∧ 8 + (L + 11) + rm.locals ≤ Lc) (hrest : (rest.map fun v => v.category).sum ≤ 8) (d : decode cc pc = .ok (.invokevirtual idx, 3)) (hroom : cells + rm.cells ≤ X.2.2.2.1.cells ∧ slots + rm.slots ≤ X.2.2.2.1.slots) (kk : ∀ (r : ρ) (σ' : Sto), R1 r σ' → TG cf g A nL X (cells + rm.cells) (slots + rm.slots) σ' (pc + 3) lv ((rv1 r).toList ++ rest)) : TG cf g A nL X cells slots σ pc lv (As.reverse ++ .ref (g.1 k) :: rest) := by
  obtain ⟨p, l, e, R', s, m, args, below, meth, c, Q⟩ := X
  obtain ⟨hx, hb, hr, hlk, hml, hown, hts, hK, hA, hF, hLc, hKC⟩ := C
  cases hX
  intro H locs ls hP hD hS hl
  have hM := hM g H.size
  rw [hav] at hM
  have hFc := wS_free (H := H) hD hA hS.1
  refine va_callw (rv := rv1) (R := R1) (A1 := va_A (wS cf g σ) H.size) (B := fun σ' t => va_P g.2.2.1 cf.2.2.2.2.1 (wS cf g σ') t.heap ∧ va_D (va_A (wS cf g σ) H.size) (wS cf g σ')) (va_runV (As := As) (rest := rest) ⟨hx, hb, hml, hown, hts⟩ hM (cwV n hts (lw_V w1 w2 w3 w4 w5) rfl rfl rfl hd ⟨Nat.le_trans hR.1 hF, Nat.le_trans hR.2 hLc⟩) ⟨cP_blind, va_recv hK hP hc o.at, fun U hU hW => ⟨rfl, by rw [hU], by rw [hU]; exact hP, va_K.moved hW.alike hK, hD.weaken (fun _ _ _ _ => trivial), hKC.call hS hFc hU hW⟩⟩ rfl hn hl.1 rfl (lv_room hrest) d hroom)
    (fun st oc t h => by obtain ⟨⟨r, σ', h1, h2, h3⟩, h4⟩ := h; exact ⟨⟨r, σ', h1, h2, h3⟩, h4⟩) hS hFc hFc (fun r σ' t H1 locs1 ht hR1 hB hS => ?_)
  obtain ⟨hP1, hD1⟩ := hB
  rw [ht] at hP1
  exact kk r σ' hR1 H1 locs1 ls hP1 (hD1.weaken (fun _ q _ h => hFc q.1 h)) hS hl
theorem g_wcallS {l : Launch} {idx L n : Nat} {y : MethodName} {b : ByteArray} {r0 : Option FieldType} {rm : Room} {av : Gam → List Value} {As : List Value} {ρ : Type} {R1 : ρ → Sto → Prop} {rv1 : ρ → Option Value} (C : CX cf g A nL X cc own ret F Lc) (hM : Cw cf l y b L r0 rm av σ R1 rv1) (hX : X.2.1 = l) (hav : av g = As) (w1 : Cond.methodLink own idx y ∈ lw_all) (w2 : Cond.static y ∈ lw_all) (w3 : Cond.initialized y.cls ∈ lw_all) (w4 : Cond.code y b L r0 ∈ lw_all) (hd : y.cls ≠ "java/lang/invoke/MethodHandle" ∧ y.cls ≠ "java/lang/invoke/VarHandle" ∧ (parseMethodDescriptor y.desc).map (fun d => d.parameters.length) = some n) (hn : As.length = n) (hR : rm.frames + 1 ≤ F ∧ 8 + (L + 11) + rm.locals ≤ Lc) (hrest : (rest.map fun v => v.category).sum ≤ 8) (d : decode cc pc = .ok (.invokestatic idx, 3)) (hroom : cells + rm.cells ≤ X.2.2.2.1.cells ∧ slots + rm.slots ≤ X.2.2.2.1.slots) (kk : ∀ (r : ρ) (σ' : Sto), R1 r σ' → TG cf g A nL X (cells + rm.cells) (slots + rm.slots) σ' (pc + 3) lv ((rv1 r).toList ++ rest)) : TG cf g A nL X cells slots σ pc lv (As.reverse ++ rest) := by
  obtain ⟨p, l, e, R', s, m, args, below, meth, c, Q⟩ := X
  obtain ⟨hx, hb, hr, hlk, hml, hown, hts, hK, hA, hF, hLc, hKC⟩ := C
  cases hX
  intro H locs ls hP hD hS hl
  have hM := hM g H.size
  rw [hav] at hM
  have hFc := wS_free (H := H) hD hA hS.1
  refine va_callw (rv := rv1) (R := R1) (A1 := va_A (wS cf g σ) H.size) (B := fun σ' t => va_P g.2.2.1 cf.2.2.2.2.1 (wS cf g σ') t.heap ∧ va_D (va_A (wS cf g σ) H.size) (wS cf g σ')) (va_runS (As := As) (rest := rest) ⟨hx, hb, hml, hown, hts⟩ hM (va_cwS n hts (lw_S w1 w2 w3 w4) rfl rfl rfl hd ⟨Nat.le_trans hR.1 hF, Nat.le_trans hR.2 hLc⟩) ⟨cP_blind, fun U hU hW => ⟨rfl, by rw [hU], by rw [hU]; exact hP, va_K.moved hW.alike hK, hD.weaken (fun _ _ _ _ => trivial), hKC.call hS hFc hU hW⟩⟩ rfl hn hl.1 rfl (lv_room hrest) d hroom)
    (fun st oc t h => by obtain ⟨⟨r, σ', h1, h2, h3⟩, h4⟩ := h; exact ⟨⟨r, σ', h1, h2, h3⟩, h4⟩) hS hFc hFc (fun r σ' t H1 locs1 ht hR1 hB hS => ?_)
  obtain ⟨hP1, hD1⟩ := hB
  rw [ht] at hP1
  exact kk r σ' hR1 H1 locs1 ls hP1 (hD1.weaken (fun _ q _ h => hFc q.1 h)) hS hl
theorem g_wcallI {l : Launch} {idx L n : Nat} {y : MethodName} {b : ByteArray} {rm : Room} {av : Gam → List Value} {As : List Value} {ρ : Type} {R1 : ρ → Sto → Prop} {rv1 : ρ → Option Value} {a : Nat} (C : CX cf g A nL X cc own ret F Lc) (hM : Cw cf l y b L none rm av σ R1 rv1) (hX : X.2.1 = l) (hav : av g = .ref a :: As) (w1 : Cond.methodLink own idx y ∈ lw_all) (w2 : Cond.instanceMethod y ∈ lw_all) (w3 : Cond.initialized y.cls ∈ lw_all) (w4 : Cond.code y b L none ∈ lw_all) (hy1 : y.name = "<init>") (hd : y.cls ≠ "java/lang/invoke/MethodHandle" ∧ y.cls ≠ "java/lang/invoke/VarHandle" ∧ (parseMethodDescriptor y.desc).map (fun d => d.parameters.length) = some n) (hn : As.length = n) (hR : rm.frames + 1 ≤ F ∧ 8 + (L + 11) + rm.locals ≤ Lc) (hrest : (rest.map fun v => v.category).sum ≤ 8) (d : decode cc pc = .ok (.invokespecial idx, 3)) (hroom : cells + rm.cells ≤ X.2.2.2.1.cells ∧ slots + rm.slots ≤ X.2.2.2.1.slots) (kk : ∀ (r : ρ) (σ' : Sto), R1 r σ' → TG cf g A nL X (cells + rm.cells) (slots + rm.slots) σ' (pc + 3) lv ((rv1 r).toList ++ rest)) : TG cf g A nL X cells slots σ pc lv (As.reverse ++ .ref a :: rest) := by
  obtain ⟨p, l, e, R', s, m, args, below, meth, c, Q⟩ := X
  obtain ⟨hx, hb, hr, hlk, hml, hown, hts, hK, hA, hF, hLc, hKC⟩ := C
  cases hX
  intro H locs ls hP hD hS hl
  have hM := hM g H.size
  rw [hav] at hM
  have hFc := wS_free (H := H) hD hA hS.1
  refine va_callw (rv := rv1) (R := R1) (A1 := va_A (wS cf g σ) H.size) (B := fun σ' t => va_P g.2.2.1 cf.2.2.2.2.1 (wS cf g σ') t.heap ∧ va_D (va_A (wS cf g σ) H.size) (wS cf g σ')) (va_runI (As := As) (rest := rest) ⟨hx, hb, hml, hown, hts⟩ hM (cwI n hts (lw_meth w4) rfl rfl rfl (hts _ w3) (hts _ w1) (hts _ w2) hy1 hd ⟨Nat.le_trans hR.1 hF, Nat.le_trans hR.2 hLc⟩) ⟨cP_blind, fun U hU hW => ⟨rfl, by rw [hU], by rw [hU]; exact hP, va_K.moved hW.alike hK, hD.weaken (fun _ _ _ _ => trivial), hKC.call hS hFc hU hW⟩⟩ rfl hn hl.1 rfl (lv_room hrest) d hroom)
    (fun st oc t h => by obtain ⟨⟨r, σ', h1, h2, h3⟩, h4⟩ := h; exact ⟨⟨r, σ', h1, h2, h3⟩, h4⟩) hS hFc hFc (fun r σ' t H1 locs1 ht hR1 hB hS => ?_)
  obtain ⟨hP1, hD1⟩ := hB
  rw [ht] at hP1
  exact kk r σ' hR1 H1 locs1 ls hP1 (hD1.weaken (fun _ q _ h => hFc q.1 h)) hS hl
theorem g_wcallIN {l : Launch} {idx L n : Nat} {y : MethodName} {b : ByteArray} {rm : Room} {av : Gam → List Value} {As : List Value} {ρ : Type} {R1 : ρ → Sto → Prop} {rv1 : ρ → Option Value} {a : Nat} (C : CX cf g A nL X cc own ret F Lc) (hM : Cw cf l y b L none rm av σ R1 rv1) (hX : X.2.1 = l) (hav : av g = .ref a :: As) {host : String} (w1 : (own, idx, y, host) ∈ kM) (w2 : Cond.instanceMethod y ∈ lw_all) (w3 : Cond.initialized y.cls ∈ lw_all) (w4 : Cond.code y b L none ∈ lw_all) (hy1 : y.name = "<init>") (hd : y.cls ≠ "java/lang/invoke/MethodHandle" ∧ y.cls ≠ "java/lang/invoke/VarHandle" ∧ (parseMethodDescriptor y.desc).map (fun d => d.parameters.length) = some n) (hn : As.length = n) (hR : rm.frames + 1 ≤ F ∧ 8 + (L + 11) + rm.locals ≤ Lc) (hrest : (rest.map fun v => v.category).sum ≤ 8) (d : decode cc pc = .ok (.invokespecial idx, 3)) (hroom : cells + rm.cells ≤ X.2.2.2.1.cells ∧ slots + rm.slots ≤ X.2.2.2.1.slots) (kk : ∀ (r : ρ) (σ' : Sto), R1 r σ' → TG cf g A nL X (cells + rm.cells) (slots + rm.slots) σ' (pc + 3) lv ((rv1 r).toList ++ rest)) : TG cf g A nL X cells slots σ pc lv (As.reverse ++ .ref a :: rest) := by
  obtain ⟨p, l, e, R', s, m, args, below, meth, c, Q⟩ := X
  obtain ⟨hx, hb, hr, hlk, hml, hown, hts, hK, hA, hF, hLc, hKC⟩ := C
  cases hX
  intro H locs ls hP hD hS hl
  have hM := hM g H.size
  rw [hav] at hM
  have hFc := wS_free (H := H) hD hA hS.1
  refine va_callw (rv := rv1) (R := R1) (A1 := va_A (wS cf g σ) H.size) (B := fun σ' t => va_P g.2.2.1 cf.2.2.2.2.1 (wS cf g σ') t.heap ∧ va_D (va_A (wS cf g σ) H.size) (wS cf g σ')) (va_runIN (As := As) (rest := rest) ⟨hx, hb, hml, hown, hts⟩ hM ⟨va_cnB n hts (lw_meth w4) rfl rfl rfl (hKC.2.2.2.1 _ w1) (hts _ w3) hd ⟨Nat.le_trans hR.1 hF, Nat.le_trans hR.2 hLc⟩, hy1, hts _ w2⟩ ⟨cP_blind, fun U hU hW => ⟨rfl, by rw [hU], by rw [hU]; exact hP, va_K.moved hW.alike hK, hD.weaken (fun _ _ _ _ => trivial), hKC.call hS hFc hU hW⟩⟩ rfl hn hl.1 rfl (lv_room hrest) d hroom)
    (fun st oc t h => by obtain ⟨⟨r, σ', h1, h2, h3⟩, h4⟩ := h; exact ⟨⟨r, σ', h1, h2, h3⟩, h4⟩) hS hFc hFc (fun r σ' t H1 locs1 ht hR1 hB hS => ?_)
  obtain ⟨hP1, hD1⟩ := hB
  rw [ht] at hP1
  exact kk r σ' hR1 H1 locs1 ls hP1 (hD1.weaken (fun _ q _ h => hFc q.1 h)) hS hl
theorem g_ycallV {l : Launch} {idx L n : Nat} {y : MethodName} {b : ByteArray} {r0 : Option FieldType} {rm : Room} {av : Gam → List Value} {As : List Value} {ρ : Type} {R1 : ρ → Sto → Prop} {rv1 : ρ → Option Value} {PX1 : Nat → Sto → Prop} {k ci : Nat} {Cn : String} {T : u_T} {Nf : Nat} (C : CX cf g A nL X cc own ret F Lc) (hM : Cx cf l y b L r0 rm av σ R1 rv1 PX1) (hX : X.2.1 = l) (o : OO cf k ci) (hc : cf.2.2.2.2.1[ci]? = some (Cn, T, Nf)) (hav : av g = .ref (g.1 k) :: As) (w1 : Cond.methodLink own idx y ∈ lw_all) (w2 : Cond.instanceMethod y ∈ lw_all) (w3 : Cond.selects Cn y y ∈ lw_all) (w4 : Cond.initialized Cn ∈ lw_all) (w5 : Cond.code y b L r0 ∈ lw_all) (hd : y.cls = Cn ∧ y.cls ≠ "java/lang/invoke/MethodHandle" ∧ y.cls ≠ "java/lang/invoke/VarHandle" ∧ (parseMethodDescriptor y.desc).map (fun d => d.parameters.length) = some n) (hn : As.length = n) (hR : rm.frames + 1 ≤ F ∧ 8 + (L + 11) + rm.locals ≤ Lc) (hrest : (rest.map fun v => v.category).sum ≤ 8) (d : decode cc pc = .ok (.invokevirtual idx, 3)) (hroom : cells + rm.cells ≤ X.2.2.2.1.cells ∧ slots + rm.slots ≤ X.2.2.2.1.slots) (kx : ∀ (q : Nat) (σ' : Sto), PX1 q σ' → TX cf g A nL X (cells + rm.cells) (slots + rm.slots) σ' pc lv rest q) (kk : ∀ (r : ρ) (σ' : Sto), R1 r σ' → TG cf g A nL X (cells + rm.cells) (slots + rm.slots) σ' (pc + 3) lv ((rv1 r).toList ++ rest)) : TG cf g A nL X cells slots σ pc lv (As.reverse ++ .ref (g.1 k) :: rest) := by
  obtain ⟨p, l, e, R', s, m, args, below, meth, c, Q⟩ := X
  obtain ⟨hx, hb, hr, hlk, hml, hown, hts, hK, hA, hF, hLc, hKC⟩ := C
  cases hX
  intro H locs ls hP hD hS hl
  have hM := hM g H.size
  rw [hav] at hM
  have hFc := wS_free (H := H) hD hA hS.1
  refine vy_callw (rv := rv1) (R := R1) (A1 := va_A (wS cf g σ) H.size) (B := fun σ' t => va_P g.2.2.1 cf.2.2.2.2.1 (wS cf g σ') t.heap ∧ va_D (va_A (wS cf g σ) H.size) (wS cf g σ')) (BX := fun q σ' t => PX1 q σ' ∧ va_P g.2.2.1 cf.2.2.2.2.1 (wS cf g σ') t.heap ∧ va_D (va_A (wS cf g σ) H.size) (wS cf g σ')) (vy_runV (As := As) (rest := rest) ⟨hx, hb, hml, hown, hts⟩ hM (cwV n hts (lw_V w1 w2 w3 w4 w5) rfl rfl rfl hd ⟨Nat.le_trans hR.1 hF, Nat.le_trans hR.2 hLc⟩) ⟨cP_blind, va_recv hK hP hc o.at, fun U hU hW => ⟨rfl, by rw [hU], by rw [hU]; exact hP, va_K.moved hW.alike hK, hD.weaken (fun _ _ _ _ => trivial), hKC.call hS hFc hU hW⟩⟩ rfl hn hl.1 rfl (lv_room hrest) d hroom)
    (fun st oc t h => by obtain ⟨⟨r, σ', h1, h2, h3⟩, h4⟩ := h; exact ⟨⟨r, σ', h1, h2, h3⟩, h4⟩) (fun E q st t h => by obtain ⟨⟨σ', h1, h2⟩, h3⟩ := h; exact ⟨⟨σ', h1, h2⟩, h3⟩) hS hFc hFc (fun q σ' t H1 locs1 ce ht hBX hS h4 h5 h6 => by obtain ⟨hp, hP1, hD1⟩ := hBX; rw [ht] at hP1; exact kx q σ' hp H1 locs1 ls hP1 (hD1.weaken (fun _ q _ h => hFc q.1 h)) hS hl) (fun r σ' t H1 locs1 ht hR1 hB hS => ?_)
  obtain ⟨hP1, hD1⟩ := hB
  rw [ht] at hP1
  exact kk r σ' hR1 H1 locs1 ls hP1 (hD1.weaken (fun _ q _ h => hFc q.1 h)) hS hl
theorem g_callV1 {l : Launch} {k ci idx L n fr lo : Nat} {Cn : String} {y : MethodName} {b : ByteArray} {r : Option FieldType} {av : Gam → List Value} {As stk : List Value} {σ' : Sto} {rv : Gam → Option Value} {T : u_T} {Nf : Nat}
    (C : CX cf g A nL X cc own ret F Lc) (hM : Ct cf l y b L r { frames := fr, cells := 0, slots := 0, locals := lo } av σ σ' rv) (hX : X.2.1 = l) (o : OO cf k ci) (hc : cf.2.2.2.2.1[ci]? = some (Cn, T, Nf)) (hav : av g = .ref (g.1 k) :: As)
    (w1 : Cond.methodLink own idx y ∈ lw_all) (w2 : Cond.instanceMethod y ∈ lw_all) (w3 : Cond.selects Cn y y ∈ lw_all) (w4 : Cond.initialized Cn ∈ lw_all) (w5 : Cond.code y b L r ∈ lw_all)
    (hd : y.cls = Cn ∧ y.cls ≠ "java/lang/invoke/MethodHandle" ∧ y.cls ≠ "java/lang/invoke/VarHandle" ∧ (parseMethodDescriptor y.desc).map (fun d => d.parameters.length) = some n) (hn : As.length = n)
    (hR : fr + 1 ≤ F ∧ 8 + (L + 11) + lo ≤ Lc) (hrest : (rest.map fun v => v.category).sum ≤ 8) (d : decode cc pc = .ok (.invokevirtual idx, 3)) (hst : (rv g).toList ++ rest = stk) (hcz : cells ≤ X.2.2.2.1.cells) (hsz : slots ≤ X.2.2.2.1.slots)
    (kk : TG cf g A nL X cells slots σ' (pc + 3) lv stk) : TG cf g A nL X cells slots σ pc lv (As.reverse ++ .ref (g.1 k) :: rest) := by
  subst hst
  exact g_callV C hM hX o hc hav w1 w2 w3 w4 w5 hd hn hR hrest d ⟨hcz, hsz⟩ kk
theorem g_callS1 {l : Launch} {idx L n fr lo : Nat} {y : MethodName} {b : ByteArray} {r : Option FieldType} {av : Gam → List Value} {As stk : List Value} {σ' : Sto} {rv : Gam → Option Value}
    (C : CX cf g A nL X cc own ret F Lc) (hM : Ct cf l y b L r { frames := fr, cells := 0, slots := 0, locals := lo } av σ σ' rv) (hX : X.2.1 = l) (hav : av g = As)
    (w1 : Cond.methodLink own idx y ∈ lw_all) (w2 : Cond.static y ∈ lw_all) (w3 : Cond.initialized y.cls ∈ lw_all) (w4 : Cond.code y b L r ∈ lw_all)
    (hd : y.cls ≠ "java/lang/invoke/MethodHandle" ∧ y.cls ≠ "java/lang/invoke/VarHandle" ∧ (parseMethodDescriptor y.desc).map (fun d => d.parameters.length) = some n) (hn : As.length = n)
    (hR : fr + 1 ≤ F ∧ 8 + (L + 11) + lo ≤ Lc) (hrest : (rest.map fun v => v.category).sum ≤ 8) (d : decode cc pc = .ok (.invokestatic idx, 3)) (hst : (rv g).toList ++ rest = stk) (hcz : cells ≤ X.2.2.2.1.cells) (hsz : slots ≤ X.2.2.2.1.slots)
    (kk : TG cf g A nL X cells slots σ' (pc + 3) lv stk) : TG cf g A nL X cells slots σ pc lv (As.reverse ++ rest) := by
  subst hst
  exact g_callS C hM hX hav w1 w2 w3 w4 hd hn hR hrest d ⟨hcz, hsz⟩ kk
end WR
