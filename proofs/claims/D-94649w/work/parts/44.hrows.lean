/-! text: a method with a table of its own -/
set_option maxRecDepth 100000
theorem met_ofWH {l : Launch} {y : MethodName} {ws ws' : List Cond} {rm : Room} {Pc : Array Value → State → Prop} {Qc : Array Value → State → Outcome → State → Prop} {mc ms : Nat} {free : Addr → Prop} {cc : ByteArray} {maxL : Nat} {ret : Option FieldType} {hh : List (Nat × Nat × Nat × Nat)}
    (hy : plainName y.cls = true) (hw : ws = Cond.codeWith y cc maxL ret hh :: ws')
    (body : ∀ p e s m args below meth c s₁, BodyLoose p l y (headSpec ws rm) cc maxL ret e s m args below meth c s₁ → c.maxLocals = maxL → Pc args s →
      W p l e (headSpec ws rm).room s m args below meth c s.heap [] 0 0 (MQ below Qc args s mc ms free) (entryFrame m args maxL)) : Met l y ws rm Pc Qc mc ms free := by
  refine MetFree.of_bodyS (code := cc) (maxLocals := maxL) (ret := ret) hy ?_ ?_
  · intro args s m h hn
    obtain ⟨m9, meth, c, hn9, h1, h2, h3, h4, -, h5, h6, -⟩ := Cond.codeWith_spec (atoms_spec (ws := ws) h _ (by rw [hw]; exact List.mem_cons_self))
    cases hn.symm.trans hn9
    exact ⟨meth, c, h1, h2, h3, h4, h5, h6⟩
  · intro p e s m args below meth c s₁ B hml hP _
    have hh0 : s₁.heap = s.heap := by rw [B.state]; rfl
    obtain ⟨t, a1, o, b1, b2, b3⟩ := body p e s m args below meth c s₁ B hml hP s₁ hh0 (Stand.of_body B)
    exact ⟨t, o, a1, b1, b2, b3⟩
def CwH {ρ : Type} (cf : Cfg) (l : Launch) (y : MethodName) (b : ByteArray) (L : Nat) (ret : Option FieldType) (hh : List (Nat × Nat × Nat × Nat)) (rm : Room) (av : Gam → List Value) (σ : Sto) (R : ρ → Sto → Prop) (rv : ρ → Option Value) : Prop := ∀ (g : Gam) (sz : Nat), Met l y (wsW_ y b L ret hh) rm (cP cf g sz (av g) σ) (cQw cf g sz σ R rv) rm.cells rm.slots (va_A (wS cf g σ) sz)
theorem CwH_of {ρ : Type} {cf : Cfg} {l : Launch} {y : MethodName} {b : ByteArray} {L : Nat} {ret : Option FieldType} {hh : List (Nat × Nat × Nat × Nat)} {F Lc mc ms : Nat} {av : Gam → List Value} {σ : Sto} {R : ρ → Sto → Prop} {rv : ρ → Option Value} (hy : plainName y.cls = true) (hL : ∀ g, (lg_sl (av g)).length ≤ L)
    (body : ∀ (g : Gam) (A : Nat → Prop) (X : FX), CX cf g A L X b y.cls ret F Lc → EW cf g A X σ R rv → X.2.1 = l → 0 + mc ≤ X.2.2.2.1.cells → 0 + ms ≤ X.2.2.2.1.slots → X.2.2.2.2.2.2.2.2.2.1.exceptionTable.toList = tableOf hh → TG cf g A L X 0 0 σ 0 (lv_args 0 (av g)) []) : CwH cf l y b L ret hh { frames := F, cells := mc, slots := ms, locals := Lc } av σ R rv := by
  intro g sz
  refine met_ofWH (cc := b) (maxL := L) (ret := ret) hy rfl ?_
  intro p e s m args below meth c s₁ B hml hv
  obtain ⟨rfl, hsz, hP, hK, hD0, hKC⟩ := hv
  subst hsz
  have hts0 := atoms_spec (ws := wsW_ y b L ret hh) B.pre
  have htab := vy_table (x := y) B (hts0 _ List.mem_cons_self)
  have hts : ∀ w ∈ lw_all, w.before _ s = true := fun w h => hts0 w (List.mem_cons_of_mem _ h)
  have hD := hD0.self (sz := s.heap.size)
  have hl := lv_entry (av g) (n := L) (hL g)
  rw [lg_entry_eq]
  have K := body g (va_A (wS cf g σ) s.heap.size) (p, l, e, { frames := F, cells := mc, slots := ms, locals := Lc }, s, m, (av g).toArray, below, meth, c, MQ below (cQw cf g s.heap.size σ R rv) (av g).toArray s mc ms (va_A (wS cf g σ) s.heap.size))
    ⟨B.exec, B.bytes, B.returns, B.notSynchronized, hml, findClass_of_methodNamed B.named, hts, hK, fun q h => Or.inr h, Nat.le_refl _, Nat.le_refl _, hKC⟩ ⟨rfl, rfl⟩ rfl (by show 0 + mc ≤ mc; omega) (by show 0 + ms ≤ ms; omega) htab
  exact K s.heap [] _ hP hD va_S.rf hl
section HR
variable {g : Gam} {A : Nat → Prop} {nL : Nat} {X : FX} {cells slots : Nat} {σ : Sto} {pc : Nat} {lv : List (Nat × Value)} {st rest : List Value} {cc : ByteArray} {own : String} {ret : Option FieldType} {F Lc : Nat}
theorem g_catch {q : Nat} {x : ExceptionTableEntry} {suf : List ExceptionTableEntry} (C : CX xCfg g A nL X cc own ret F Lc) (ht : X.2.2.2.2.2.2.2.2.2.1.exceptionTable.toList = x :: suf) (hx : covers x pc = true) (h0 : x.catchType ≠ 0) (w1 : Cond.classLink own x.catchType "DoughDebts$Fault" ∈ lw_all) (hp : isP σ q 9 = true) (kk : TG xCfg g A nL X cells slots σ x.handlerPc lv [.ref q]) : TX xCfg g A nL X cells slots σ pc lv st q := by
  obtain ⟨p, l, e, R, s, m, args, below, meth, c, Q⟩ := X
  obtain ⟨hx', hb, hr, hlk, hml, hown, hts, hK, hA, hF, hLc, hKC⟩ := C
  intro H locs ls hP hD hS hl
  obtain ⟨fs, h2⟩ := isP_s hp
  obtain ⟨j, hj⟩ := pf_at (cf := xCfg) (g := g) h2
  obtain ⟨r, h1, cell, q1, q2, q3, q4⟩ := hP j _ hj
  have hc : xCfg.2.2.2.2.1[9]? = some ("DoughDebts$Fault", TX5, 8) := rfl
  cases Option.some.inj (h1.symm.trans hc)
  exact vy_catch hown [] x suf ht (fun z hz => nomatch hz) hx h0 (hts _ w1) (hKC.2.2.2.2.1 _ (List.mem_of_getElem? (i := 0) rfl)) q1 q3 (by rw [q2]; exact (hK.1 9 _ hc).2.1) (kk H locs ls hP hD hS hl)
end HR
