/-! constructors of the two big objects (printed by gen/cgen.py) -/
set_option maxRecDepth 100000
set_option maxHeartbeats 8000000
theorem cS_congr {n : Nat} {q q' : Nat → Nat} {e e' : Nat → va_E} (h1 : ∀ k, k < n → q k = q' k) (h2 : ∀ k, k < n → e k = e' k) : cS n q e = cS n q' e' := by
  unfold cS
  simp only [Prod.mk.injEq, true_and]
  apply List.map_congr_left
  intro i hi
  have := List.mem_range.mp hi
  rw [h1 i this, h2 i this]
def cPA (cf : Cfg) (g : Gam) (sz : Nat) (av : List Value) (σ : Sto) : Array Value → State → Prop := fun a U => cP cf g sz av σ a U ∧ AOI U
/-- a constructor's contract, at one naming g -/
def Cg {ρ : Type} (cf : Cfg) (g : Gam) (l : Launch) (y : MethodName) (b : ByteArray) (L : Nat) (ret : Option FieldType) (rm : Room) (av : List Value) (σ : Sto) (R : ρ → Sto → Prop) (rv : ρ → Option Value) : Prop := ∀ sz : Nat, Met l y (ws_ y b L ret) rm (cPA cf g sz av σ) (cQw cf g sz σ R rv) rm.cells rm.slots (va_A (wS cf g σ) sz)
theorem Cg_of {ρ : Type} {cf : Cfg} {g : Gam} {l : Launch} {y : MethodName} {b : ByteArray} {L : Nat} {ret : Option FieldType} {F Lc mc ms : Nat} {av : List Value} {σ : Sto} {R : ρ → Sto → Prop} {rv : ρ → Option Value} (hy : plainName y.cls = true) (hL : (lg_sl av).length ≤ L)
    (body : ∀ (A : Nat → Prop) (X : FX), CX cf g A L X b y.cls ret F Lc → EW cf g A X σ R rv → X.2.1 = l → 0 + mc ≤ X.2.2.2.1.cells → 0 + ms ≤ X.2.2.2.1.slots → (y.name = "<init>" → X.2.2.2.2.2.2.2.2.1.name = "<init>") → AOI X.2.2.2.2.1 → TG cf g A L X 0 0 σ 0 (lv_args 0 av) []) : Cg cf g l y b L ret { frames := F, cells := mc, slots := ms, locals := Lc } av σ R rv := by
  intro sz
  refine Met.ofW (cc := b) (maxL := L) (ret := ret) hy rfl ?_
  intro p e s m args below meth c s₁ B hml hv
  obtain ⟨⟨rfl, hsz, hP, hK, hD0, hKC⟩, hAO⟩ := hv
  subst hsz
  have hts := atoms_spec (ws := ws_ y b L ret) B.pre
  have hts : ∀ w ∈ lw_all, w.before _ s = true := fun w h => hts w (List.mem_cons_of_mem _ h)
  have hD := hD0.self (sz := s.heap.size)
  have hl := lv_entry av (n := L) hL
  rw [lg_entry_eq]
  have K := body (va_A (wS cf g σ) s.heap.size) (p, l, e, { frames := F, cells := mc, slots := ms, locals := Lc }, s, m, av.toArray, below, meth, c, MQ below (cQw cf g s.heap.size σ R rv) av.toArray s mc ms (va_A (wS cf g σ) s.heap.size))
    ⟨B.exec, B.bytes, B.returns, B.notSynchronized, hml, findClass_of_methodNamed B.named, hts, hK, fun q h => Or.inr h, Nat.le_refl _, Nat.le_refl _, hKC⟩ ⟨rfl, rfl⟩ rfl (by show 0 + mc ≤ mc; omega) (by show 0 + ms ≤ ms; omega) (fun h => by rw [← h]; exact (name_of_methodNamed B.named B.method).1) hAO
  exact K s.heap [] _ hP hD va_S.rf hl
/-- a world with the cells of one more Days, Text: object i and its arrays -/
def dq (q : Nat → Nat) (m : Nat) (a : Nat → Nat) : Nat → Nat := fun k => if k < m then q k else a (k - m)
def dDays (a : Nat → Nat) : va_E := .inr (1, [.int 0, .int 0, .int 0, .int (-1), .int 0, .ref (a 0), .ref (a 1), .ref (a 2), .ref (a 3), .ref (a 4), .ref (a 5), .ref (a 6)])
def de (e : Nat → va_E) (m i : Nat) (a : Nat → Nat) : Nat → va_E := fun k => if k < m then (if k = i then dDays a else e k) else .inl (0, 9, .inl (fun _ => 0))
def tText (a : Nat → Nat) : va_E := .inr (4, [.ref (a 0), .ref (a 1), .int 0])
def te (e : Nat → va_E) (m i : Nat) (a : Nat → Nat) : Nat → va_E := fun k => if k < m then (if k = i then tText a else e k) else .inl (8, 16, .inr (.inr (.inr (.inr (fun _ => none)))))
def nmA (l : List Nat) : Nat → Nat := fun j => l.getD j 0
theorem pFX0_9 : PF xCfg RX0 9 0 0 (.array .byte) := ⟨RX0, TX0, 48, rfl, by decide, in_X0, q223, rfl, rfl, rfl, tyX0, tyX0_ok, nmX0⟩
theorem pFX0_17 : PF xCfg RX0 17 0 2 (.array (.object "java/lang/String")) := ⟨RX0, TX0, 48, rfl, by decide, in_X0, q225, rfl, rfl, rfl, tyX0, tyX0_ok, nmX0⟩
theorem pFX0_41 : PF xCfg RX0 41 0 3 (.array (.object "java/lang/String")) := ⟨RX0, TX0, 48, rfl, by decide, in_X0, q226, rfl, rfl, rfl, tyX0, tyX0_ok, nmX0⟩
theorem pFX0_52 : PF xCfg RX0 52 0 4 (.array (.object "java/lang/String")) := ⟨RX0, TX0, 48, rfl, by decide, in_X0, q227, rfl, rfl, rfl, tyX0, tyX0_ok, nmX0⟩
theorem pFX0_68 : PF xCfg RX0 68 0 13 (.array (.object "DoughDebts$House")) := ⟨RX0, TX0, 48, rfl, by decide, in_X0, q236, rfl, rfl, rfl, tyX0, tyX0_ok, nmX0⟩
theorem pFX0_72 : PF xCfg RX0 72 0 15 (.array .int) := ⟨RX0, TX0, 48, rfl, by decide, in_X0, q238, rfl, rfl, rfl, tyX0, tyX0_ok, nmX0⟩
theorem pFX0_76 : PF xCfg RX0 76 0 16 (.array .int) := ⟨RX0, TX0, 48, rfl, by decide, in_X0, q239, rfl, rfl, rfl, tyX0, tyX0_ok, nmX0⟩
theorem pFX0_82 : PF xCfg RX0 82 0 17 (.object "DoughDebts$Days") := ⟨RX0, TX0, 48, rfl, by decide, in_X0, q240, rfl, rfl, rfl, tyX0, tyX0_ok, nmX0⟩
theorem pFX0_86 : PF xCfg RX0 86 0 18 (.object "DoughDebts$Days") := ⟨RX0, TX0, 48, rfl, by decide, in_X0, q241, rfl, rfl, rfl, tyX0, tyX0_ok, nmX0⟩
theorem pFX0_89 : PF xCfg RX0 89 0 19 (.array (.object "DoughDebts$Days")) := ⟨RX0, TX0, 48, rfl, by decide, in_X0, q242, rfl, rfl, rfl, tyX0, tyX0_ok, nmX0⟩
theorem pFX0_93 : PF xCfg RX0 93 0 21 (.array .int) := ⟨RX0, TX0, 48, rfl, by decide, in_X0, q244, rfl, rfl, rfl, tyX0, tyX0_ok, nmX0⟩
theorem pFX0_96 : PF xCfg RX0 96 0 22 (.array .int) := ⟨RX0, TX0, 48, rfl, by decide, in_X0, q245, rfl, rfl, rfl, tyX0, tyX0_ok, nmX0⟩
theorem pFX0_99 : PF xCfg RX0 99 0 23 (.array .int) := ⟨RX0, TX0, 48, rfl, by decide, in_X0, q246, rfl, rfl, rfl, tyX0, tyX0_ok, nmX0⟩
theorem pFX0_102 : PF xCfg RX0 102 0 25 (.array .int) := ⟨RX0, TX0, 48, rfl, by decide, in_X0, q248, rfl, rfl, rfl, tyX0, tyX0_ok, nmX0⟩
theorem pFX0_105 : PF xCfg RX0 105 0 26 (.array .int) := ⟨RX0, TX0, 48, rfl, by decide, in_X0, q249, rfl, rfl, rfl, tyX0, tyX0_ok, nmX0⟩
theorem pFX0_108 : PF xCfg RX0 108 0 27 (.array .int) := ⟨RX0, TX0, 48, rfl, by decide, in_X0, q250, rfl, rfl, rfl, tyX0, tyX0_ok, nmX0⟩
theorem pFX0_113 : PF xCfg RX0 113 0 30 (.array (.array .int)) := ⟨RX0, TX0, 48, rfl, by decide, in_X0, q253, rfl, rfl, rfl, tyX0, tyX0_ok, nmX0⟩
theorem pFX0_118 : PF xCfg RX0 118 0 31 (.array (.object "DoughDebts$Leaven")) := ⟨RX0, TX0, 48, rfl, by decide, in_X0, q254, rfl, rfl, rfl, tyX0, tyX0_ok, nmX0⟩
theorem pFX0_122 : PF xCfg RX0 122 0 33 (.array .long) := ⟨RX0, TX0, 48, rfl, by decide, in_X0, q256, rfl, rfl, rfl, tyX0, tyX0_ok, nmX0⟩
theorem pFX0_126 : PF xCfg RX0 126 0 34 (.array (.array .int)) := ⟨RX0, TX0, 48, rfl, by decide, in_X0, q257, rfl, rfl, rfl, tyX0, tyX0_ok, nmX0⟩
theorem pFX0_129 : PF xCfg RX0 129 0 37 (.array (.array .int)) := ⟨RX0, TX0, 48, rfl, by decide, in_X0, q260, rfl, rfl, rfl, tyX0, tyX0_ok, nmX0⟩
theorem pFX0_132 : PF xCfg RX0 132 0 38 (.array .int) := ⟨RX0, TX0, 48, rfl, by decide, in_X0, q261, rfl, rfl, rfl, tyX0, tyX0_ok, nmX0⟩
theorem pFX0_135 : PF xCfg RX0 135 0 39 (.array .int) := ⟨RX0, TX0, 48, rfl, by decide, in_X0, q262, rfl, rfl, rfl, tyX0, tyX0_ok, nmX0⟩
theorem pFX0_138 : PF xCfg RX0 138 0 40 (.array (.object "DoughDebts$House")) := ⟨RX0, TX0, 48, rfl, by decide, in_X0, q263, rfl, rfl, rfl, tyX0, tyX0_ok, nmX0⟩
theorem pFX0_141 : PF xCfg RX0 141 0 41 (.array (.object "DoughDebts$Leaven")) := ⟨RX0, TX0, 48, rfl, by decide, in_X0, q264, rfl, rfl, rfl, tyX0, tyX0_ok, nmX0⟩
theorem pFX0_144 : PF xCfg RX0 144 0 42 (.array (.array .int)) := ⟨RX0, TX0, 48, rfl, by decide, in_X0, q265, rfl, rfl, rfl, tyX0, tyX0_ok, nmX0⟩
theorem pFX0_147 : PF xCfg RX0 147 0 43 (.array (.array .int)) := ⟨RX0, TX0, 48, rfl, by decide, in_X0, q266, rfl, rfl, rfl, tyX0, tyX0_ok, nmX0⟩
theorem pFX0_150 : PF xCfg RX0 150 0 44 (.array .int) := ⟨RX0, TX0, 48, rfl, by decide, in_X0, q267, rfl, rfl, rfl, tyX0, tyX0_ok, nmX0⟩
theorem pFX3_7 : PF tCfg RX3 7 0 0 (.array .int) := ⟨RX3, TX3, 36, rfl, by decide, in_X3, q1025, rfl, rfl, rfl, tyX3, tyX3_ok, nmX3⟩
theorem pFX3_13 : PF tCfg RX3 13 0 1 (.array .int) := ⟨RX3, TX3, 36, rfl, by decide, in_X3, q1026, rfl, rfl, rfl, tyX3, tyX3_ok, nmX3⟩
theorem pFX3_16 : PF tCfg RX3 16 0 2 (.array .int) := ⟨RX3, TX3, 36, rfl, by decide, in_X3, q1027, rfl, rfl, rfl, tyX3, tyX3_ok, nmX3⟩
theorem pFX3_19 : PF tCfg RX3 19 0 5 (.array .int) := ⟨RX3, TX3, 36, rfl, by decide, in_X3, q1030, rfl, rfl, rfl, tyX3, tyX3_ok, nmX3⟩
theorem pFX3_22 : PF tCfg RX3 22 0 6 (.array .int) := ⟨RX3, TX3, 36, rfl, by decide, in_X3, q1031, rfl, rfl, rfl, tyX3, tyX3_ok, nmX3⟩
theorem pFX3_25 : PF tCfg RX3 25 0 7 (.array .int) := ⟨RX3, TX3, 36, rfl, by decide, in_X3, q1032, rfl, rfl, rfl, tyX3, tyX3_ok, nmX3⟩
theorem pFX3_28 : PF tCfg RX3 28 0 8 (.array .int) := ⟨RX3, TX3, 36, rfl, by decide, in_X3, q1033, rfl, rfl, rfl, tyX3, tyX3_ok, nmX3⟩
theorem pFX3_31 : PF tCfg RX3 31 0 9 (.array .int) := ⟨RX3, TX3, 36, rfl, by decide, in_X3, q1034, rfl, rfl, rfl, tyX3, tyX3_ok, nmX3⟩
theorem pFX3_38 : PF tCfg RX3 38 0 22 (.array .int) := ⟨RX3, TX3, 36, rfl, by decide, in_X3, q1047, rfl, rfl, rfl, tyX3, tyX3_ok, nmX3⟩
theorem pFX3_41 : PF tCfg RX3 41 0 23 (.array .int) := ⟨RX3, TX3, 36, rfl, by decide, in_X3, q1048, rfl, rfl, rfl, tyX3, tyX3_ok, nmX3⟩
theorem pFX3_44 : PF tCfg RX3 44 0 25 (.array .int) := ⟨RX3, TX3, 36, rfl, by decide, in_X3, q1050, rfl, rfl, rfl, tyX3, tyX3_ok, nmX3⟩
theorem pFX3_47 : PF tCfg RX3 47 0 26 (.array .int) := ⟨RX3, TX3, 36, rfl, by decide, in_X3, q1051, rfl, rfl, rfl, tyX3, tyX3_ok, nmX3⟩
theorem pFX3_50 : PF tCfg RX3 50 0 27 (.array .int) := ⟨RX3, TX3, 36, rfl, by decide, in_X3, q1052, rfl, rfl, rfl, tyX3, tyX3_ok, nmX3⟩
theorem pFX3_53 : PF tCfg RX3 53 0 28 (.array .int) := ⟨RX3, TX3, 36, rfl, by decide, in_X3, q1053, rfl, rfl, rfl, tyX3, tyX3_ok, nmX3⟩
theorem pFX3_56 : PF tCfg RX3 56 0 31 (.array .int) := ⟨RX3, TX3, 36, rfl, by decide, in_X3, q1056, rfl, rfl, rfl, tyX3, tyX3_ok, nmX3⟩
theorem pFX3_59 : PF tCfg RX3 59 0 32 (.array .long) := ⟨RX3, TX3, 36, rfl, by decide, in_X3, q1057, rfl, rfl, rfl, tyX3, tyX3_ok, nmX3⟩
theorem pFX3_63 : PF tCfg RX3 63 0 35 (.array .int) := ⟨RX3, TX3, 36, rfl, by decide, in_X3, q1060, rfl, rfl, rfl, tyX3, tyX3_ok, nmX3⟩
theorem kb_11 : (Int8.ofInt 11).toInt32 = (11 : Int32) := by decide
theorem ks_1440 : (Int16.ofInt 1440).toInt32 = (1440 : Int32) := by decide
theorem ks_1809 : (Int16.ofInt 1809).toInt32 = (1809 : Int32) := by decide
theorem ks_201 : (Int16.ofInt 201).toInt32 = (201 : Int32) := by decide
theorem ks_420 : (Int16.ofInt 420).toInt32 = (420 : Int32) := by decide
theorem ks_512 : (Int16.ofInt 512).toInt32 = (512 : Int32) := by decide
theorem ks_820 : (Int16.ofInt 820).toInt32 = (820 : Int32) := by decide
/-- the same cell, two descriptions of it -/
def sameE (x y : va_E) : Prop := x = y ∨ ∃ (t n : Nat) (f f' : Nat → Option Nat), x = .inl (t, n, .inr (.inr (.inr (.inr f)))) ∧ y = .inl (t, n, .inr (.inr (.inr (.inr f')))) ∧ ∀ j, j < n → f j = f' j
/-- the place in the order of making, of a code -/
def xIx (k : Nat) : Nat := if k < 5 then k else if k < 8 then k + 3 else if k = 8 then 27 else if k < 15 then k + 83 else if k = 15 then 98 else if k < 19 then k + 284 else if k = 19 then 311 else if k < 25 then k + 301 else if k = 25 then 334 else if k = 26 then 344 else if k < 43 then k - 16 else if k < 107 then k - 15 else if k < 308 then k - 8 else if k < 316 then k - 5 else if k < 324 then k + 10 else if k < 333 then k - 12 else k + 2
/-- the component's numbers at the start -/
def xI0 (k j : Nat) : Int32 := if k = 0 then (if j = 11 then -1 else 0) else if k = 6 then upd (upd (upd (upd (fun _ => 0) (Int32.toNatClampNeg 0) 10) (Int32.toNatClampNeg 1) 1) (Int32.toNatClampNeg 2) 1) (Int32.toNatClampNeg 3) 0 j else if k = 7 then upd (upd (upd (upd (fun _ => 0) (Int32.toNatClampNeg 0) 99) (Int32.toNatClampNeg 1) 99) (Int32.toNatClampNeg 2) 99) (Int32.toNatClampNeg 3) 100 j else if k = 8 then Int32.ofNat (43 + 8 * j) else if 27 ≤ k ∧ k < 107 ∧ (k - 27) % 8 = 0 then (if j = 3 then -1 else 0) else if 308 ≤ k ∧ k < 316 then upd (fun _ => 0) (Int32.toNatClampNeg (Int32.ofNat (k - 308))) 9 j else 0
def x0 (a b c : Nat) : Sto := (xI0, fun _ _ => 0, fun k j => if k = 0 ∧ j = 12 then some a else none, [(a, .inr (4, [.ref b, .ref c, .int 0])), (b, .inl (8, 16, .inr (.inr (.inr (.inr (fun _ => none)))))), (c, .inl (8, 16, .inr (.inr (.inr (.inr (fun _ => none))))))])
def xRaw (g : Gam) (q : Nat → Nat) (e : Nat → va_E) : Prop :=
  e 0 = .inr (0, [.ref (q 1), .int 0, .ref (q 2), .ref (q 3), .ref (q 4), .null, .int 0, .int 0, .int 0, .int 0, .int 0, .int (-1), .ref (q 5), .ref (q 8), .int 0, .ref (q 9), .ref (q 10), .ref (q 11), .ref (q 19), .ref (q 27), .int 0, .ref (q 92), .ref (q 93), .ref (q 94), .int 0, .ref (q 95), .ref (q 96), .ref (q 97), .int 0, .int 0, .ref (q 98), .ref (q 300), .int 0, .ref (q 301), .ref (q 302), .long 0, .long 0, .ref (q 311), .ref (q 321), .ref (q 322), .ref (q 323), .ref (q 324), .ref (q 325), .ref (q 334), .ref (q 344), .null, .int 0, .int 0]) ∧
  e 1 = .inl (1, 400, .inl (fun _ => 0)) ∧
  e 2 = .inl (4, 1, .inr (.inr (.inr (.inr (va_up (fun _ => none) (Int32.toNatClampNeg 0) (some (g.2.2.2.1 0))))))) ∧
  e 3 = .inl (4, 10, .inr (.inr (.inr (.inr (va_up (va_up (va_up (va_up (va_up (va_up (va_up (va_up (va_up (va_up (fun _ => none) (Int32.toNatClampNeg 0) (some (g.2.2.2.1 1))) (Int32.toNatClampNeg 1) (some (g.2.2.2.1 2))) (Int32.toNatClampNeg 2) (some (g.2.2.2.1 3))) (Int32.toNatClampNeg 3) (some (g.2.2.2.1 4))) (Int32.toNatClampNeg 4) (some (g.2.2.2.1 5))) (Int32.toNatClampNeg 5) (some (g.2.2.2.1 6))) (Int32.toNatClampNeg 6) (some (g.2.2.2.1 7))) (Int32.toNatClampNeg 7) (some (g.2.2.2.1 8))) (Int32.toNatClampNeg 8) (some (g.2.2.2.1 9))) (Int32.toNatClampNeg 9) (some (g.2.2.2.1 10))))))) ∧
  e 4 = .inl (4, 4, .inr (.inr (.inr (.inr (va_up (va_up (va_up (va_up (fun _ => none) (Int32.toNatClampNeg 0) (some (g.2.2.2.1 11))) (Int32.toNatClampNeg 1) (some (g.2.2.2.1 12))) (Int32.toNatClampNeg 2) (some (g.2.2.2.1 13))) (Int32.toNatClampNeg 3) (some (g.2.2.2.1 14))))))) ∧
  e 8 = .inl (5, 9, .inr (.inr (.inr (.inr (fun _ => none))))) ∧
  e 9 = .inl (0, 4, .inl (upd (upd (upd (upd (fun _ => 0) (Int32.toNatClampNeg 0) 10) (Int32.toNatClampNeg 1) 1) (Int32.toNatClampNeg 2) 1) (Int32.toNatClampNeg 3) 0)) ∧
  e 10 = .inl (0, 4, .inl (upd (upd (upd (upd (fun _ => 0) (Int32.toNatClampNeg 0) 99) (Int32.toNatClampNeg 1) 99) (Int32.toNatClampNeg 2) 99) (Int32.toNatClampNeg 3) 100)) ∧
  e 27 = .inl (7, 8, .inr (.inr (.inr (.inr (va_up (va_up (va_up (va_up (va_up (va_up (va_up (va_up (fun _ => none) (Int32.toNatClampNeg 0) (some (q 28))) (Int32.toNatClampNeg 1) (some (q 36))) (Int32.toNatClampNeg 2) (some (q 44))) (Int32.toNatClampNeg 3) (some (q 52))) (Int32.toNatClampNeg 4) (some (q 60))) (Int32.toNatClampNeg 5) (some (q 68))) (Int32.toNatClampNeg 6) (some (q 76))) (Int32.toNatClampNeg 7) (some (q 84))))))) ∧
  e 92 = .inl (0, 10, .inl (fun _ => 0)) ∧
  e 93 = .inl (0, 9, .inl (fun _ => 0)) ∧
  e 94 = .inl (0, 9, .inl (fun _ => 0)) ∧
  e 95 = .inl (0, 9, .inl (fun _ => 0)) ∧
  e 96 = .inl (0, 9, .inl (fun _ => 0)) ∧
  e 97 = .inl (0, 9, .inl (fun _ => 0)) ∧
  e 98 = .inl (3, 201, .inr (.inr (.inr (.inr (fun j => some (q 98 + 1 + j)))))) ∧
  e 300 = .inl (6, 60, .inr (.inr (.inr (.inr (fun _ => none))))) ∧
  e 301 = .inl (2, 60, .inr (.inl (fun _ => 0))) ∧
  e 302 = .inl (3, 8, .inr (.inr (.inr (.inr (fun j => some (q 302 + 1 + j)))))) ∧
  e 311 = .inl (3, 9, .inr (.inr (.inr (.inr (fun j => some (q 311 + 1 + j)))))) ∧
  e 321 = .inl (0, 512, .inl (fun _ => 0)) ∧
  e 322 = .inl (0, 512, .inl (fun _ => 0)) ∧
  e 323 = .inl (5, 9, .inr (.inr (.inr (.inr (fun _ => none))))) ∧
  e 324 = .inl (6, 60, .inr (.inr (.inr (.inr (fun _ => none))))) ∧
  e 325 = .inl (3, 8, .inr (.inr (.inr (.inr (fun j => some (q 325 + 1 + j)))))) ∧
  e 334 = .inl (3, 9, .inr (.inr (.inr (.inr (fun j => some (q 334 + 1 + j)))))) ∧
  e 344 = .inl (0, 4, .inl (fun _ => 0)) ∧
  e 11 = .inr (1, [.int 0, .int 0, .int 0, .int (-1), .int 0, .ref (q 12), .ref (q 13), .ref (q 14), .ref (q 15), .ref (q 16), .ref (q 17), .ref (q 18)]) ∧
  e 12 = .inl (0, 9, .inl (fun _ => 0)) ∧
  e 13 = .inl (0, 9, .inl (fun _ => 0)) ∧
  e 14 = .inl (0, 9, .inl (fun _ => 0)) ∧
  e 15 = .inl (0, 9, .inl (fun _ => 0)) ∧
  e 16 = .inl (0, 9, .inl (fun _ => 0)) ∧
  e 17 = .inl (0, 9, .inl (fun _ => 0)) ∧
  e 18 = .inl (0, 9, .inl (fun _ => 0)) ∧
  e 19 = .inr (1, [.int 0, .int 0, .int 0, .int (-1), .int 0, .ref (q 20), .ref (q 21), .ref (q 22), .ref (q 23), .ref (q 24), .ref (q 25), .ref (q 26)]) ∧
  e 20 = .inl (0, 9, .inl (fun _ => 0)) ∧
  e 21 = .inl (0, 9, .inl (fun _ => 0)) ∧
  e 22 = .inl (0, 9, .inl (fun _ => 0)) ∧
  e 23 = .inl (0, 9, .inl (fun _ => 0)) ∧
  e 24 = .inl (0, 9, .inl (fun _ => 0)) ∧
  e 25 = .inl (0, 9, .inl (fun _ => 0)) ∧
  e 26 = .inl (0, 9, .inl (fun _ => 0)) ∧
  e 28 = .inr (1, [.int 0, .int 0, .int 0, .int (-1), .int 0, .ref (q 29), .ref (q 30), .ref (q 31), .ref (q 32), .ref (q 33), .ref (q 34), .ref (q 35)]) ∧
  e 29 = .inl (0, 9, .inl (fun _ => 0)) ∧
  e 30 = .inl (0, 9, .inl (fun _ => 0)) ∧
  e 31 = .inl (0, 9, .inl (fun _ => 0)) ∧
  e 32 = .inl (0, 9, .inl (fun _ => 0)) ∧
  e 33 = .inl (0, 9, .inl (fun _ => 0)) ∧
  e 34 = .inl (0, 9, .inl (fun _ => 0)) ∧
  e 35 = .inl (0, 9, .inl (fun _ => 0)) ∧
  e 36 = .inr (1, [.int 0, .int 0, .int 0, .int (-1), .int 0, .ref (q 37), .ref (q 38), .ref (q 39), .ref (q 40), .ref (q 41), .ref (q 42), .ref (q 43)]) ∧
  e 37 = .inl (0, 9, .inl (fun _ => 0)) ∧
  e 38 = .inl (0, 9, .inl (fun _ => 0)) ∧
  e 39 = .inl (0, 9, .inl (fun _ => 0)) ∧
  e 40 = .inl (0, 9, .inl (fun _ => 0)) ∧
  e 41 = .inl (0, 9, .inl (fun _ => 0)) ∧
  e 42 = .inl (0, 9, .inl (fun _ => 0)) ∧
  e 43 = .inl (0, 9, .inl (fun _ => 0)) ∧
  e 44 = .inr (1, [.int 0, .int 0, .int 0, .int (-1), .int 0, .ref (q 45), .ref (q 46), .ref (q 47), .ref (q 48), .ref (q 49), .ref (q 50), .ref (q 51)]) ∧
  e 45 = .inl (0, 9, .inl (fun _ => 0)) ∧
  e 46 = .inl (0, 9, .inl (fun _ => 0)) ∧
  e 47 = .inl (0, 9, .inl (fun _ => 0)) ∧
  e 48 = .inl (0, 9, .inl (fun _ => 0)) ∧
  e 49 = .inl (0, 9, .inl (fun _ => 0)) ∧
  e 50 = .inl (0, 9, .inl (fun _ => 0)) ∧
  e 51 = .inl (0, 9, .inl (fun _ => 0)) ∧
  e 52 = .inr (1, [.int 0, .int 0, .int 0, .int (-1), .int 0, .ref (q 53), .ref (q 54), .ref (q 55), .ref (q 56), .ref (q 57), .ref (q 58), .ref (q 59)]) ∧
  e 53 = .inl (0, 9, .inl (fun _ => 0)) ∧
  e 54 = .inl (0, 9, .inl (fun _ => 0)) ∧
  e 55 = .inl (0, 9, .inl (fun _ => 0)) ∧
  e 56 = .inl (0, 9, .inl (fun _ => 0)) ∧
  e 57 = .inl (0, 9, .inl (fun _ => 0)) ∧
  e 58 = .inl (0, 9, .inl (fun _ => 0)) ∧
  e 59 = .inl (0, 9, .inl (fun _ => 0)) ∧
  e 60 = .inr (1, [.int 0, .int 0, .int 0, .int (-1), .int 0, .ref (q 61), .ref (q 62), .ref (q 63), .ref (q 64), .ref (q 65), .ref (q 66), .ref (q 67)]) ∧
  e 61 = .inl (0, 9, .inl (fun _ => 0)) ∧
  e 62 = .inl (0, 9, .inl (fun _ => 0)) ∧
  e 63 = .inl (0, 9, .inl (fun _ => 0)) ∧
  e 64 = .inl (0, 9, .inl (fun _ => 0)) ∧
  e 65 = .inl (0, 9, .inl (fun _ => 0)) ∧
  e 66 = .inl (0, 9, .inl (fun _ => 0)) ∧
  e 67 = .inl (0, 9, .inl (fun _ => 0)) ∧
  e 68 = .inr (1, [.int 0, .int 0, .int 0, .int (-1), .int 0, .ref (q 69), .ref (q 70), .ref (q 71), .ref (q 72), .ref (q 73), .ref (q 74), .ref (q 75)]) ∧
  e 69 = .inl (0, 9, .inl (fun _ => 0)) ∧
  e 70 = .inl (0, 9, .inl (fun _ => 0)) ∧
  e 71 = .inl (0, 9, .inl (fun _ => 0)) ∧
  e 72 = .inl (0, 9, .inl (fun _ => 0)) ∧
  e 73 = .inl (0, 9, .inl (fun _ => 0)) ∧
  e 74 = .inl (0, 9, .inl (fun _ => 0)) ∧
  e 75 = .inl (0, 9, .inl (fun _ => 0)) ∧
  e 76 = .inr (1, [.int 0, .int 0, .int 0, .int (-1), .int 0, .ref (q 77), .ref (q 78), .ref (q 79), .ref (q 80), .ref (q 81), .ref (q 82), .ref (q 83)]) ∧
  e 77 = .inl (0, 9, .inl (fun _ => 0)) ∧
  e 78 = .inl (0, 9, .inl (fun _ => 0)) ∧
  e 79 = .inl (0, 9, .inl (fun _ => 0)) ∧
  e 80 = .inl (0, 9, .inl (fun _ => 0)) ∧
  e 81 = .inl (0, 9, .inl (fun _ => 0)) ∧
  e 82 = .inl (0, 9, .inl (fun _ => 0)) ∧
  e 83 = .inl (0, 9, .inl (fun _ => 0)) ∧
  e 84 = .inr (1, [.int 0, .int 0, .int 0, .int (-1), .int 0, .ref (q 85), .ref (q 86), .ref (q 87), .ref (q 88), .ref (q 89), .ref (q 90), .ref (q 91)]) ∧
  e 85 = .inl (0, 9, .inl (fun _ => 0)) ∧
  e 86 = .inl (0, 9, .inl (fun _ => 0)) ∧
  e 87 = .inl (0, 9, .inl (fun _ => 0)) ∧
  e 88 = .inl (0, 9, .inl (fun _ => 0)) ∧
  e 89 = .inl (0, 9, .inl (fun _ => 0)) ∧
  e 90 = .inl (0, 9, .inl (fun _ => 0)) ∧
  e 91 = .inl (0, 9, .inl (fun _ => 0)) ∧
  e 303 = .inl (0, 8, .inl (upd (fun _ => 0) (Int32.toNatClampNeg 0) 9)) ∧
  e 304 = .inl (0, 8, .inl (upd (fun _ => 0) (Int32.toNatClampNeg 1) 9)) ∧
  e 305 = .inl (0, 8, .inl (upd (fun _ => 0) (Int32.toNatClampNeg 2) 9)) ∧
  e 306 = .inl (0, 8, .inl (upd (fun _ => 0) (Int32.toNatClampNeg 3) 9)) ∧
  e 307 = .inl (0, 8, .inl (upd (fun _ => 0) (Int32.toNatClampNeg 4) 9)) ∧
  e 308 = .inl (0, 8, .inl (upd (fun _ => 0) (Int32.toNatClampNeg 5) 9)) ∧
  e 309 = .inl (0, 8, .inl (upd (fun _ => 0) (Int32.toNatClampNeg 6) 9)) ∧
  e 310 = .inl (0, 8, .inl (upd (fun _ => 0) (Int32.toNatClampNeg 7) 9)) ∧
  e 5 = .inr (4, [.ref (q 6), .ref (q 7), .int 0]) ∧
  e 6 = .inl (8, 16, .inr (.inr (.inr (.inr (fun _ => none))))) ∧
  e 7 = .inl (8, 16, .inr (.inr (.inr (.inr (fun _ => none))))) ∧
  (∀ j, j < 201 → e (99 + j) = .inl (0, 9, .inl (fun _ => 0))) ∧
  (∀ j, j < 8 → e (326 + j) = .inl (0, 8, .inl (fun _ => 0))) ∧
  (∀ j, j < 9 → e (312 + j) = .inl (0, 9, .inl (fun _ => 0))) ∧
  (∀ j, j < 9 → e (335 + j) = .inl (0, 9, .inl (fun _ => 0))) ∧
  (∀ j, j < 201 → q (99 + j) = q 98 + 1 + j) ∧
  (∀ j, j < 8 → q (326 + j) = q 325 + 1 + j) ∧
  (∀ j, j < 9 → q (312 + j) = q 311 + 1 + j) ∧
  (∀ j, j < 9 → q (335 + j) = q 334 + 1 + j) ∧
  (∀ j, j < 8 → q (303 + j) = q 302 + 1 + j)
def tRaw (q : Nat → Nat) (e : Nat → va_E) : Prop :=
  e 0 = .inr (0, [.ref (q 1), .ref (q 2), .ref (q 3), .int 0, .int 0, .ref (q 4), .ref (q 5), .ref (q 6), .ref (q 7), .ref (q 8), .int 0, .int 0, .int 0, .int 0, .int 0, .int 0, .int 0, .int 0, .int 0, .int 0, .int 0, .int (-1), .ref (q 9), .ref (q 10), .int 0, .ref (q 11), .ref (q 12), .ref (q 13), .ref (q 14), .int 0, .int 0, .ref (q 15), .ref (q 16), .long 0, .long 0, .ref (q 17)]) ∧
  e 1 = .inl (0, 1480, .inl (upd (upd (upd (upd (upd (upd (upd (upd (upd (upd (upd (upd (fun _ => 0) (Int32.toNatClampNeg 0) 10) (Int32.toNatClampNeg 1) 1) (Int32.toNatClampNeg 2) 1) (Int32.toNatClampNeg 9) (-1)) (Int32.toNatClampNeg (270 + 9 * 0)) 9) (Int32.toNatClampNeg (270 + 9 * 1)) 9) (Int32.toNatClampNeg (270 + 9 * 2)) 9) (Int32.toNatClampNeg (270 + 9 * 3)) 9) (Int32.toNatClampNeg (270 + 9 * 4)) 9) (Int32.toNatClampNeg (270 + 9 * 5)) 9) (Int32.toNatClampNeg (270 + 9 * 6)) 9) (Int32.toNatClampNeg (270 + 9 * 7)) 9)) ∧
  e 2 = .inl (0, 1480, .inl (fun _ => 0)) ∧
  e 3 = .inl (0, 1440, .inl (fun _ => 0)) ∧
  e 4 = .inl (0, 48, .inl (fun _ => 0)) ∧
  e 5 = .inl (0, 820, .inl (fun _ => 0)) ∧
  e 6 = .inl (0, 400, .inl (fun _ => 0)) ∧
  e 7 = .inl (0, 420, .inl (fun _ => 0)) ∧
  e 8 = .inl (0, 11, .inl (fun _ => 0)) ∧
  e 9 = .inl (0, 9, .inl (fun _ => 0)) ∧
  e 10 = .inl (0, 9, .inl (fun _ => 0)) ∧
  e 11 = .inl (0, 9, .inl (fun _ => 0)) ∧
  e 12 = .inl (0, 9, .inl (fun _ => 0)) ∧
  e 13 = .inl (0, 9, .inl (fun _ => 0)) ∧
  e 14 = .inl (0, 9, .inl (fun _ => 0)) ∧
  e 15 = .inl (0, 1809, .inl (fun _ => 0)) ∧
  e 16 = .inl (2, 60, .inr (.inl (fun _ => 0))) ∧
  e 17 = .inl (0, 512, .inl (fun _ => 0))
theorem mq_lt {q : Nat → Nat} {n a k : Nat} (h : k < n) : mq q n a k = q k := if_pos h
theorem mq_at {q : Nat → Nat} {n a : Nat} : mq q n a n = a := by simp [mq]
theorem mq_gt {q : Nat → Nat} {n a k : Nat} (h : n ≤ k) : mq q n a k = a + (k - n) := if_neg (by omega)
theorem me_lt {e : Nat → va_E} {n a N K k : Nat} (h : k < n) : me e n a N K k = e k := if_pos h
theorem me_at {e : Nat → va_E} {n a N K : Nat} : me e n a N K n = .inl (3, N, .inr (.inr (.inr (.inr (fun j => some (a + 1 + j)))))) := by simp [me]
theorem me_gt {e : Nat → va_E} {n a N K k : Nat} (h : n < k) : me e n a N K k = .inl (0, K, .inl (fun _ => 0)) := (if_neg (by omega)).trans (if_neg (by omega))
theorem dq_lt {q : Nat → Nat} {m k : Nat} {a : Nat → Nat} (h : k < m) : dq q m a k = q k := if_pos h
theorem dq_ge {q : Nat → Nat} {m k : Nat} {a : Nat → Nat} (h : m ≤ k) : dq q m a k = a (k - m) := if_neg (by omega)
theorem de_lt {e : Nat → va_E} {m i k : Nat} {a : Nat → Nat} (h : k < m) (h2 : k ≠ i) : de e m i a k = e k := (if_pos h).trans (if_neg h2)
theorem de_obj {e : Nat → va_E} {m i : Nat} {a : Nat → Nat} (h : i < m) : de e m i a i = dDays a := (if_pos h).trans (if_pos rfl)
theorem de_ge {e : Nat → va_E} {m i k : Nat} {a : Nat → Nat} (h : m ≤ k) : de e m i a k = .inl (0, 9, .inl (fun _ => 0)) := if_neg (by omega)
theorem te_lt {e : Nat → va_E} {m i k : Nat} {a : Nat → Nat} (h : k < m) (h2 : k ≠ i) : te e m i a k = e k := (if_pos h).trans (if_neg h2)
theorem te_obj {e : Nat → va_E} {m i : Nat} {a : Nat → Nat} (h : i < m) : te e m i a i = tText a := (if_pos h).trans (if_pos rfl)
theorem te_ge {e : Nat → va_E} {m i k : Nat} {a : Nat → Nat} (h : m ≤ k) : te e m i a k = .inl (8, 16, .inr (.inr (.inr (.inr (fun _ => none))))) := if_neg (by omega)
def xEnd (g : Gam) (th : Nat) (σ' : Sto) : Prop := ∃ (q : Nat → Nat) (e : Nat → va_E), σ' = cS 345 q e ∧ q 0 = th ∧ xRaw g q e
def tI0 (k j : Nat) : Int32 := if k = 0 then (if j = 21 then -1 else 0) else if k = 1 then upd (upd (upd (upd (upd (upd (upd (upd (upd (upd (upd (upd (fun _ => 0) (Int32.toNatClampNeg 0) 10) (Int32.toNatClampNeg 1) 1) (Int32.toNatClampNeg 2) 1) (Int32.toNatClampNeg 9) (-1)) (Int32.toNatClampNeg (270 + 9 * 0)) 9) (Int32.toNatClampNeg (270 + 9 * 1)) 9) (Int32.toNatClampNeg (270 + 9 * 2)) 9) (Int32.toNatClampNeg (270 + 9 * 3)) 9) (Int32.toNatClampNeg (270 + 9 * 4)) 9) (Int32.toNatClampNeg (270 + 9 * 5)) 9) (Int32.toNatClampNeg (270 + 9 * 6)) 9) (Int32.toNatClampNeg (270 + 9 * 7)) 9 j else 0
def t0 : Sto := (tI0, fun _ _ => 0, fun _ _ => none, [])
def tEnd (g : Gam) (th : Nat) (σ' : Sto) : Prop := ∃ (q : Nat → Nat) (e : Nat → va_E), σ' = cS 18 q e ∧ q 0 = th ∧ tRaw q e
theorem xTb_hi (r : Nat) : xTb (r + 107) = if r + 107 < 107 then (if (r + 107 - 27) % 8 = 0 then (4, 1, 0) else (0, 9, 0)) else if 308 ≤ r + 107 ∧ r + 107 < 324 then (0, 8, 0) else (0, 9, 0) := rfl
theorem x_start {g : Gam} {q : Nat → Nat} {e : Nat → va_E} (h : xRaw g q e) (k : Nat) (hk : k < 342) : sameE (pE g (e (xIx k))) (cE xCfg (fun k => q (xIx k), g.2) (x0 (q 5) (q 6) (q 7)) k) := by
  obtain ⟨g0, g1, g2, g3, g4, g5, g6, g7, g8, g9, g10, g11, g12, g13, g14, g15, g16, g17, g18, g19, g20, g21, g22, g23, g24, g25, g26, g27, g28, g29, g30, g31, g32, g33, g34, g35, g36, g37, g38, g39, g40, g41, g42, g43, g44, g45, g46, g47, g48, g49, g50, g51, g52, g53, g54, g55, g56, g57, g58, g59, g60, g61, g62, g63, g64, g65, g66, g67, g68, g69, g70, g71, g72, g73, g74, g75, g76, g77, g78, g79, g80, g81, g82, g83, g84, g85, g86, g87, g88, g89, g90, g91, g92, g93, g94, g95, g96, g97, g98, g99, g100, g101, g102, g103, g104, g105, g106, g308, g309, g310, g311, g312, g313, g314, g315, u5, u6, u7, r107, r316, r324, r333, s107, s316, s324, s333, s308⟩ := h
  by_cases h1 : k < 107
  · match k, h1 with
    | 0, _ =>
      show sameE (pE g (e 0)) _
      rw [g0]
      exact Or.inl rfl
    | 1, _ =>
      show sameE (pE g (e 1)) _
      rw [g1]
      exact Or.inl rfl
    | 2, _ =>
      show sameE (pE g (e 2)) _
      rw [g2]
      exact Or.inr ⟨_, _, _, _, rfl, rfl, fun j hj => by match j, hj with | 0, _ => rfl⟩
    | 3, _ =>
      show sameE (pE g (e 3)) _
      rw [g3]
      exact Or.inr ⟨_, _, _, _, rfl, rfl, fun j hj => by match j, hj with | 0, _ => rfl | 1, _ => rfl | 2, _ => rfl | 3, _ => rfl | 4, _ => rfl | 5, _ => rfl | 6, _ => rfl | 7, _ => rfl | 8, _ => rfl | 9, _ => rfl⟩
    | 4, _ =>
      show sameE (pE g (e 4)) _
      rw [g4]
      exact Or.inr ⟨_, _, _, _, rfl, rfl, fun j hj => by match j, hj with | 0, _ => rfl | 1, _ => rfl | 2, _ => rfl | 3, _ => rfl⟩
    | 5, _ =>
      show sameE (pE g (e 8)) _
      rw [g5]
      exact Or.inl rfl
    | 6, _ =>
      show sameE (pE g (e 9)) _
      rw [g6]
      exact Or.inl rfl
    | 7, _ =>
      show sameE (pE g (e 10)) _
      rw [g7]
      exact Or.inl rfl
    | 8, _ =>
      show sameE (pE g (e 27)) _
      rw [g8]
      exact Or.inr ⟨_, _, _, _, rfl, rfl, fun j hj => by match j, hj with | 0, _ => rfl | 1, _ => rfl | 2, _ => rfl | 3, _ => rfl | 4, _ => rfl | 5, _ => rfl | 6, _ => rfl | 7, _ => rfl⟩
    | 9, _ =>
      show sameE (pE g (e 92)) _
      rw [g9]
      exact Or.inl rfl
    | 10, _ =>
      show sameE (pE g (e 93)) _
      rw [g10]
      exact Or.inl rfl
    | 11, _ =>
      show sameE (pE g (e 94)) _
      rw [g11]
      exact Or.inl rfl
    | 12, _ =>
      show sameE (pE g (e 95)) _
      rw [g12]
      exact Or.inl rfl
    | 13, _ =>
      show sameE (pE g (e 96)) _
      rw [g13]
      exact Or.inl rfl
    | 14, _ =>
      show sameE (pE g (e 97)) _
      rw [g14]
      exact Or.inl rfl
    | 15, _ =>
      show sameE (pE g (e 98)) _
      rw [g15]
      refine Or.inr ⟨_, _, _, _, rfl, rfl, fun j (hj : j < 201) => ?_⟩
      have hx : xIx (107 + j) = 99 + j := by simp (disch := omega) only [xIx, if_pos, if_neg]; omega
      show some _ = some (q (xIx (107 + j)))
      rw [hx, s107 j hj]
    | 16, _ =>
      show sameE (pE g (e 300)) _
      rw [g16]
      exact Or.inl rfl
    | 17, _ =>
      show sameE (pE g (e 301)) _
      rw [g17]
      exact Or.inl rfl
    | 18, _ =>
      show sameE (pE g (e 302)) _
      rw [g18]
      refine Or.inr ⟨_, _, _, _, rfl, rfl, fun j (hj : j < 8) => ?_⟩
      have hx : xIx (308 + j) = 303 + j := by simp (disch := omega) only [xIx, if_pos, if_neg]; omega
      show some _ = some (q (xIx (308 + j)))
      rw [hx, s308 j hj]
    | 19, _ =>
      show sameE (pE g (e 311)) _
      rw [g19]
      refine Or.inr ⟨_, _, _, _, rfl, rfl, fun j (hj : j < 9) => ?_⟩
      have hx : xIx (324 + j) = 312 + j := by simp (disch := omega) only [xIx, if_pos, if_neg]; omega
      show some _ = some (q (xIx (324 + j)))
      rw [hx, s324 j hj]
    | 20, _ =>
      show sameE (pE g (e 321)) _
      rw [g20]
      exact Or.inl rfl
    | 21, _ =>
      show sameE (pE g (e 322)) _
      rw [g21]
      exact Or.inl rfl
    | 22, _ =>
      show sameE (pE g (e 323)) _
      rw [g22]
      exact Or.inl rfl
    | 23, _ =>
      show sameE (pE g (e 324)) _
      rw [g23]
      exact Or.inl rfl
    | 24, _ =>
      show sameE (pE g (e 325)) _
      rw [g24]
      refine Or.inr ⟨_, _, _, _, rfl, rfl, fun j (hj : j < 8) => ?_⟩
      have hx : xIx (316 + j) = 326 + j := by simp (disch := omega) only [xIx, if_pos, if_neg]; omega
      show some _ = some (q (xIx (316 + j)))
      rw [hx, s316 j hj]
    | 25, _ =>
      show sameE (pE g (e 334)) _
      rw [g25]
      refine Or.inr ⟨_, _, _, _, rfl, rfl, fun j (hj : j < 9) => ?_⟩
      have hx : xIx (333 + j) = 335 + j := by simp (disch := omega) only [xIx, if_pos, if_neg]; omega
      show some _ = some (q (xIx (333 + j)))
      rw [hx, s333 j hj]
    | 26, _ =>
      show sameE (pE g (e 344)) _
      rw [g26]
      exact Or.inl rfl
    | 27, _ =>
      show sameE (pE g (e 11)) _
      rw [g27]
      exact Or.inl rfl
    | 28, _ =>
      show sameE (pE g (e 12)) _
      rw [g28]
      exact Or.inl rfl
    | 29, _ =>
      show sameE (pE g (e 13)) _
      rw [g29]
      exact Or.inl rfl
    | 30, _ =>
      show sameE (pE g (e 14)) _
      rw [g30]
      exact Or.inl rfl
    | 31, _ =>
      show sameE (pE g (e 15)) _
      rw [g31]
      exact Or.inl rfl
    | 32, _ =>
      show sameE (pE g (e 16)) _
      rw [g32]
      exact Or.inl rfl
    | 33, _ =>
      show sameE (pE g (e 17)) _
      rw [g33]
      exact Or.inl rfl
    | 34, _ =>
      show sameE (pE g (e 18)) _
      rw [g34]
      exact Or.inl rfl
    | 35, _ =>
      show sameE (pE g (e 19)) _
      rw [g35]
      exact Or.inl rfl
    | 36, _ =>
      show sameE (pE g (e 20)) _
      rw [g36]
      exact Or.inl rfl
    | 37, _ =>
      show sameE (pE g (e 21)) _
      rw [g37]
      exact Or.inl rfl
    | 38, _ =>
      show sameE (pE g (e 22)) _
      rw [g38]
      exact Or.inl rfl
    | 39, _ =>
      show sameE (pE g (e 23)) _
      rw [g39]
      exact Or.inl rfl
    | 40, _ =>
      show sameE (pE g (e 24)) _
      rw [g40]
      exact Or.inl rfl
    | 41, _ =>
      show sameE (pE g (e 25)) _
      rw [g41]
      exact Or.inl rfl
    | 42, _ =>
      show sameE (pE g (e 26)) _
      rw [g42]
      exact Or.inl rfl
    | 43, _ =>
      show sameE (pE g (e 28)) _
      rw [g43]
      exact Or.inl rfl
    | 44, _ =>
      show sameE (pE g (e 29)) _
      rw [g44]
      exact Or.inl rfl
    | 45, _ =>
      show sameE (pE g (e 30)) _
      rw [g45]
      exact Or.inl rfl
    | 46, _ =>
      show sameE (pE g (e 31)) _
      rw [g46]
      exact Or.inl rfl
    | 47, _ =>
      show sameE (pE g (e 32)) _
      rw [g47]
      exact Or.inl rfl
    | 48, _ =>
      show sameE (pE g (e 33)) _
      rw [g48]
      exact Or.inl rfl
    | 49, _ =>
      show sameE (pE g (e 34)) _
      rw [g49]
      exact Or.inl rfl
    | 50, _ =>
      show sameE (pE g (e 35)) _
      rw [g50]
      exact Or.inl rfl
    | 51, _ =>
      show sameE (pE g (e 36)) _
      rw [g51]
      exact Or.inl rfl
    | 52, _ =>
      show sameE (pE g (e 37)) _
      rw [g52]
      exact Or.inl rfl
    | 53, _ =>
      show sameE (pE g (e 38)) _
      rw [g53]
      exact Or.inl rfl
    | 54, _ =>
      show sameE (pE g (e 39)) _
      rw [g54]
      exact Or.inl rfl
    | 55, _ =>
      show sameE (pE g (e 40)) _
      rw [g55]
      exact Or.inl rfl
    | 56, _ =>
      show sameE (pE g (e 41)) _
      rw [g56]
      exact Or.inl rfl
    | 57, _ =>
      show sameE (pE g (e 42)) _
      rw [g57]
      exact Or.inl rfl
    | 58, _ =>
      show sameE (pE g (e 43)) _
      rw [g58]
      exact Or.inl rfl
    | 59, _ =>
      show sameE (pE g (e 44)) _
      rw [g59]
      exact Or.inl rfl
    | 60, _ =>
      show sameE (pE g (e 45)) _
      rw [g60]
      exact Or.inl rfl
    | 61, _ =>
      show sameE (pE g (e 46)) _
      rw [g61]
      exact Or.inl rfl
    | 62, _ =>
      show sameE (pE g (e 47)) _
      rw [g62]
      exact Or.inl rfl
    | 63, _ =>
      show sameE (pE g (e 48)) _
      rw [g63]
      exact Or.inl rfl
    | 64, _ =>
      show sameE (pE g (e 49)) _
      rw [g64]
      exact Or.inl rfl
    | 65, _ =>
      show sameE (pE g (e 50)) _
      rw [g65]
      exact Or.inl rfl
    | 66, _ =>
      show sameE (pE g (e 51)) _
      rw [g66]
      exact Or.inl rfl
    | 67, _ =>
      show sameE (pE g (e 52)) _
      rw [g67]
      exact Or.inl rfl
    | 68, _ =>
      show sameE (pE g (e 53)) _
      rw [g68]
      exact Or.inl rfl
    | 69, _ =>
      show sameE (pE g (e 54)) _
      rw [g69]
      exact Or.inl rfl
    | 70, _ =>
      show sameE (pE g (e 55)) _
      rw [g70]
      exact Or.inl rfl
    | 71, _ =>
      show sameE (pE g (e 56)) _
      rw [g71]
      exact Or.inl rfl
    | 72, _ =>
      show sameE (pE g (e 57)) _
      rw [g72]
      exact Or.inl rfl
    | 73, _ =>
      show sameE (pE g (e 58)) _
      rw [g73]
      exact Or.inl rfl
    | 74, _ =>
      show sameE (pE g (e 59)) _
      rw [g74]
      exact Or.inl rfl
    | 75, _ =>
      show sameE (pE g (e 60)) _
      rw [g75]
      exact Or.inl rfl
    | 76, _ =>
      show sameE (pE g (e 61)) _
      rw [g76]
      exact Or.inl rfl
    | 77, _ =>
      show sameE (pE g (e 62)) _
      rw [g77]
      exact Or.inl rfl
    | 78, _ =>
      show sameE (pE g (e 63)) _
      rw [g78]
      exact Or.inl rfl
    | 79, _ =>
      show sameE (pE g (e 64)) _
      rw [g79]
      exact Or.inl rfl
    | 80, _ =>
      show sameE (pE g (e 65)) _
      rw [g80]
      exact Or.inl rfl
    | 81, _ =>
      show sameE (pE g (e 66)) _
      rw [g81]
      exact Or.inl rfl
    | 82, _ =>
      show sameE (pE g (e 67)) _
      rw [g82]
      exact Or.inl rfl
    | 83, _ =>
      show sameE (pE g (e 68)) _
      rw [g83]
      exact Or.inl rfl
    | 84, _ =>
      show sameE (pE g (e 69)) _
      rw [g84]
      exact Or.inl rfl
    | 85, _ =>
      show sameE (pE g (e 70)) _
      rw [g85]
      exact Or.inl rfl
    | 86, _ =>
      show sameE (pE g (e 71)) _
      rw [g86]
      exact Or.inl rfl
    | 87, _ =>
      show sameE (pE g (e 72)) _
      rw [g87]
      exact Or.inl rfl
    | 88, _ =>
      show sameE (pE g (e 73)) _
      rw [g88]
      exact Or.inl rfl
    | 89, _ =>
      show sameE (pE g (e 74)) _
      rw [g89]
      exact Or.inl rfl
    | 90, _ =>
      show sameE (pE g (e 75)) _
      rw [g90]
      exact Or.inl rfl
    | 91, _ =>
      show sameE (pE g (e 76)) _
      rw [g91]
      exact Or.inl rfl
    | 92, _ =>
      show sameE (pE g (e 77)) _
      rw [g92]
      exact Or.inl rfl
    | 93, _ =>
      show sameE (pE g (e 78)) _
      rw [g93]
      exact Or.inl rfl
    | 94, _ =>
      show sameE (pE g (e 79)) _
      rw [g94]
      exact Or.inl rfl
    | 95, _ =>
      show sameE (pE g (e 80)) _
      rw [g95]
      exact Or.inl rfl
    | 96, _ =>
      show sameE (pE g (e 81)) _
      rw [g96]
      exact Or.inl rfl
    | 97, _ =>
      show sameE (pE g (e 82)) _
      rw [g97]
      exact Or.inl rfl
    | 98, _ =>
      show sameE (pE g (e 83)) _
      rw [g98]
      exact Or.inl rfl
    | 99, _ =>
      show sameE (pE g (e 84)) _
      rw [g99]
      exact Or.inl rfl
    | 100, _ =>
      show sameE (pE g (e 85)) _
      rw [g100]
      exact Or.inl rfl
    | 101, _ =>
      show sameE (pE g (e 86)) _
      rw [g101]
      exact Or.inl rfl
    | 102, _ =>
      show sameE (pE g (e 87)) _
      rw [g102]
      exact Or.inl rfl
    | 103, _ =>
      show sameE (pE g (e 88)) _
      rw [g103]
      exact Or.inl rfl
    | 104, _ =>
      show sameE (pE g (e 89)) _
      rw [g104]
      exact Or.inl rfl
    | 105, _ =>
      show sameE (pE g (e 90)) _
      rw [g105]
      exact Or.inl rfl
    | 106, _ =>
      show sameE (pE g (e 91)) _
      rw [g106]
      exact Or.inl rfl
    | n + 107, h => exact absurd h (by omega)
  · by_cases h2 : 308 ≤ k ∧ k < 316
    · obtain ⟨r, rfl⟩ : ∃ r, k = r + 308 := ⟨k - 308, by omega⟩
      have h3 : r < 8 := by omega
      match r, h3 with
      | 0, _ =>
        show sameE (pE g (e 303)) _
        rw [g308]
        exact Or.inl rfl
      | 1, _ =>
        show sameE (pE g (e 304)) _
        rw [g309]
        exact Or.inl rfl
      | 2, _ =>
        show sameE (pE g (e 305)) _
        rw [g310]
        exact Or.inl rfl
      | 3, _ =>
        show sameE (pE g (e 306)) _
        rw [g311]
        exact Or.inl rfl
      | 4, _ =>
        show sameE (pE g (e 307)) _
        rw [g312]
        exact Or.inl rfl
      | 5, _ =>
        show sameE (pE g (e 308)) _
        rw [g313]
        exact Or.inl rfl
      | 6, _ =>
        show sameE (pE g (e 309)) _
        rw [g314]
        exact Or.inl rfl
      | 7, _ =>
        show sameE (pE g (e 310)) _
        rw [g315]
        exact Or.inl rfl
      | n + 8, h => exact absurd h (by omega)
    · left
      obtain ⟨r, rfl⟩ : ∃ r, k = r + 107 := ⟨k - 107, by omega⟩
      have hz : (fun j => xI0 (r + 107) j) = fun _ => 0 := by
        funext j
        simp (disch := omega) only [xI0, if_neg]
      rcases (show r + 107 < 308 ∨ (316 ≤ r + 107 ∧ r + 107 < 324) ∨ (324 ≤ r + 107 ∧ r + 107 < 333) ∨ 333 ≤ r + 107 by omega) with h | h | h | h
      · have hx : xIx (r + 107) = 99 + (r + 107 - 107) := by simp (disch := omega) only [xIx, if_pos, if_neg]; omega
        rw [hx, r107 _ (by omega)]
        have ht : xCfg.2.1 (r + 107) = (0, 9, 0) := by show xTb (r + 107) = _; rw [xTb_hi]; simp (disch := omega) only [if_pos, if_neg]
        simp only [cE, ht]
        exact congrArg (fun f => (Sum.inl (g.2.1 0, 9, Sum.inl f) : va_E)) hz.symm
      · have hx : xIx (r + 107) = 326 + (r + 107 - 316) := by simp (disch := omega) only [xIx, if_pos, if_neg]; omega
        rw [hx, r316 _ (by omega)]
        have ht : xCfg.2.1 (r + 107) = (0, 8, 0) := by show xTb (r + 107) = _; rw [xTb_hi]; simp (disch := omega) only [if_pos, if_neg]
        simp only [cE, ht]
        exact congrArg (fun f => (Sum.inl (g.2.1 0, 8, Sum.inl f) : va_E)) hz.symm
      · have hx : xIx (r + 107) = 312 + (r + 107 - 324) := by simp (disch := omega) only [xIx, if_pos, if_neg]; omega
        rw [hx, r324 _ (by omega)]
        have ht : xCfg.2.1 (r + 107) = (0, 9, 0) := by show xTb (r + 107) = _; rw [xTb_hi]; simp (disch := omega) only [if_pos, if_neg]
        simp only [cE, ht]
        exact congrArg (fun f => (Sum.inl (g.2.1 0, 9, Sum.inl f) : va_E)) hz.symm
      · have hx : xIx (r + 107) = 335 + (r + 107 - 333) := by simp (disch := omega) only [xIx, if_pos, if_neg]; omega
        rw [hx, r333 _ (by omega)]
        have ht : xCfg.2.1 (r + 107) = (0, 9, 0) := by show xTb (r + 107) = _; rw [xTb_hi]; simp (disch := omega) only [if_pos, if_neg]
        simp only [cE, ht]
        exact congrArg (fun f => (Sum.inl (g.2.1 0, 9, Sum.inl f) : va_E)) hz.symm
theorem xEnd_of {g : Gam} {q : Nat → Nat} {e : Nat → va_E} {x0 x1 x2 x3 x4 x5 x6 x7 x8 x9 x10 x11 x12 x13 x14 x15 x16 x17 x18 x19 x20 x21 x22 x23 x24 x25 x26 x27 x28 x29 x30 x31 x32 x33 x34 x35 x36 x37 x38 x39 x40 x41 x42 x43 x44 x45 x46 x47 x48 x49 x50 x51 x52 x53 x54 x55 x56 x57 x58 x59 x60 x61 x62 x63 x64 x65 x66 x67 x68 x69 x70 x71 x72 x73 x74 x75 x76 x77 x78 x79 x80 x81 x82 x83 x84 x85 x86 x87 x88 x89 x90 x91 x92 x93 x94 x95 x96 x97 x98 x300 x301 x302 x311 x321 x322 x323 x324 x325 x334 x344 : Nat}
    (hq0 : q 0 = x0)
    (hq1 : q 1 = x1)
    (hq2 : q 2 = x2)
    (hq3 : q 3 = x3)
    (hq4 : q 4 = x4)
    (hq5 : q 5 = x5)
    (hq6 : q 6 = x6)
    (hq7 : q 7 = x7)
    (hq8 : q 8 = x8)
    (hq9 : q 9 = x9)
    (hq10 : q 10 = x10)
    (hq11 : q 11 = x11)
    (hq12 : q 12 = x12)
    (hq13 : q 13 = x13)
    (hq14 : q 14 = x14)
    (hq15 : q 15 = x15)
    (hq16 : q 16 = x16)
    (hq17 : q 17 = x17)
    (hq18 : q 18 = x18)
    (hq19 : q 19 = x19)
    (hq20 : q 20 = x20)
    (hq21 : q 21 = x21)
    (hq22 : q 22 = x22)
    (hq23 : q 23 = x23)
    (hq24 : q 24 = x24)
    (hq25 : q 25 = x25)
    (hq26 : q 26 = x26)
    (hq27 : q 27 = x27)
    (hq28 : q 28 = x28)
    (hq29 : q 29 = x29)
    (hq30 : q 30 = x30)
    (hq31 : q 31 = x31)
    (hq32 : q 32 = x32)
    (hq33 : q 33 = x33)
    (hq34 : q 34 = x34)
    (hq35 : q 35 = x35)
    (hq36 : q 36 = x36)
    (hq37 : q 37 = x37)
    (hq38 : q 38 = x38)
    (hq39 : q 39 = x39)
    (hq40 : q 40 = x40)
    (hq41 : q 41 = x41)
    (hq42 : q 42 = x42)
    (hq43 : q 43 = x43)
    (hq44 : q 44 = x44)
    (hq45 : q 45 = x45)
    (hq46 : q 46 = x46)
    (hq47 : q 47 = x47)
    (hq48 : q 48 = x48)
    (hq49 : q 49 = x49)
    (hq50 : q 50 = x50)
    (hq51 : q 51 = x51)
    (hq52 : q 52 = x52)
    (hq53 : q 53 = x53)
    (hq54 : q 54 = x54)
    (hq55 : q 55 = x55)
    (hq56 : q 56 = x56)
    (hq57 : q 57 = x57)
    (hq58 : q 58 = x58)
    (hq59 : q 59 = x59)
    (hq60 : q 60 = x60)
    (hq61 : q 61 = x61)
    (hq62 : q 62 = x62)
    (hq63 : q 63 = x63)
    (hq64 : q 64 = x64)
    (hq65 : q 65 = x65)
    (hq66 : q 66 = x66)
    (hq67 : q 67 = x67)
    (hq68 : q 68 = x68)
    (hq69 : q 69 = x69)
    (hq70 : q 70 = x70)
    (hq71 : q 71 = x71)
    (hq72 : q 72 = x72)
    (hq73 : q 73 = x73)
    (hq74 : q 74 = x74)
    (hq75 : q 75 = x75)
    (hq76 : q 76 = x76)
    (hq77 : q 77 = x77)
    (hq78 : q 78 = x78)
    (hq79 : q 79 = x79)
    (hq80 : q 80 = x80)
    (hq81 : q 81 = x81)
    (hq82 : q 82 = x82)
    (hq83 : q 83 = x83)
    (hq84 : q 84 = x84)
    (hq85 : q 85 = x85)
    (hq86 : q 86 = x86)
    (hq87 : q 87 = x87)
    (hq88 : q 88 = x88)
    (hq89 : q 89 = x89)
    (hq90 : q 90 = x90)
    (hq91 : q 91 = x91)
    (hq92 : q 92 = x92)
    (hq93 : q 93 = x93)
    (hq94 : q 94 = x94)
    (hq95 : q 95 = x95)
    (hq96 : q 96 = x96)
    (hq97 : q 97 = x97)
    (hq98 : q 98 = x98)
    (hq300 : q 300 = x300)
    (hq301 : q 301 = x301)
    (hq302 : q 302 = x302)
    (hq311 : q 311 = x311)
    (hq321 : q 321 = x321)
    (hq322 : q 322 = x322)
    (hq323 : q 323 = x323)
    (hq324 : q 324 = x324)
    (hq325 : q 325 = x325)
    (hq334 : q 334 = x334)
    (hq344 : q 344 = x344)
    (f0 : e 0 = .inr (0, [.ref x1, .int 0, .ref x2, .ref x3, .ref x4, .null, .int 0, .int 0, .int 0, .int 0, .int 0, .int (-1), .ref x5, .ref x8, .int 0, .ref x9, .ref x10, .ref x11, .ref x19, .ref x27, .int 0, .ref x92, .ref x93, .ref x94, .int 0, .ref x95, .ref x96, .ref x97, .int 0, .int 0, .ref x98, .ref x300, .int 0, .ref x301, .ref x302, .long 0, .long 0, .ref x311, .ref x321, .ref x322, .ref x323, .ref x324, .ref x325, .ref x334, .ref x344, .null, .int 0, .int 0]))
    (f1 : e 1 = .inl (1, 400, .inl (fun _ => 0)))
    (f2 : e 2 = .inl (4, 1, .inr (.inr (.inr (.inr (va_up (fun _ => none) (Int32.toNatClampNeg 0) (some (g.2.2.2.1 0))))))))
    (f3 : e 3 = .inl (4, 10, .inr (.inr (.inr (.inr (va_up (va_up (va_up (va_up (va_up (va_up (va_up (va_up (va_up (va_up (fun _ => none) (Int32.toNatClampNeg 0) (some (g.2.2.2.1 1))) (Int32.toNatClampNeg 1) (some (g.2.2.2.1 2))) (Int32.toNatClampNeg 2) (some (g.2.2.2.1 3))) (Int32.toNatClampNeg 3) (some (g.2.2.2.1 4))) (Int32.toNatClampNeg 4) (some (g.2.2.2.1 5))) (Int32.toNatClampNeg 5) (some (g.2.2.2.1 6))) (Int32.toNatClampNeg 6) (some (g.2.2.2.1 7))) (Int32.toNatClampNeg 7) (some (g.2.2.2.1 8))) (Int32.toNatClampNeg 8) (some (g.2.2.2.1 9))) (Int32.toNatClampNeg 9) (some (g.2.2.2.1 10))))))))
    (f4 : e 4 = .inl (4, 4, .inr (.inr (.inr (.inr (va_up (va_up (va_up (va_up (fun _ => none) (Int32.toNatClampNeg 0) (some (g.2.2.2.1 11))) (Int32.toNatClampNeg 1) (some (g.2.2.2.1 12))) (Int32.toNatClampNeg 2) (some (g.2.2.2.1 13))) (Int32.toNatClampNeg 3) (some (g.2.2.2.1 14))))))))
    (f5 : e 8 = .inl (5, 9, .inr (.inr (.inr (.inr (fun _ => none))))))
    (f6 : e 9 = .inl (0, 4, .inl (upd (upd (upd (upd (fun _ => 0) (Int32.toNatClampNeg 0) 10) (Int32.toNatClampNeg 1) 1) (Int32.toNatClampNeg 2) 1) (Int32.toNatClampNeg 3) 0)))
    (f7 : e 10 = .inl (0, 4, .inl (upd (upd (upd (upd (fun _ => 0) (Int32.toNatClampNeg 0) 99) (Int32.toNatClampNeg 1) 99) (Int32.toNatClampNeg 2) 99) (Int32.toNatClampNeg 3) 100)))
    (f8 : e 27 = .inl (7, 8, .inr (.inr (.inr (.inr (va_up (va_up (va_up (va_up (va_up (va_up (va_up (va_up (fun _ => none) (Int32.toNatClampNeg 0) (some x28)) (Int32.toNatClampNeg 1) (some x36)) (Int32.toNatClampNeg 2) (some x44)) (Int32.toNatClampNeg 3) (some x52)) (Int32.toNatClampNeg 4) (some x60)) (Int32.toNatClampNeg 5) (some x68)) (Int32.toNatClampNeg 6) (some x76)) (Int32.toNatClampNeg 7) (some x84)))))))
    (f9 : e 92 = .inl (0, 10, .inl (fun _ => 0)))
    (f10 : e 93 = .inl (0, 9, .inl (fun _ => 0)))
    (f11 : e 94 = .inl (0, 9, .inl (fun _ => 0)))
    (f12 : e 95 = .inl (0, 9, .inl (fun _ => 0)))
    (f13 : e 96 = .inl (0, 9, .inl (fun _ => 0)))
    (f14 : e 97 = .inl (0, 9, .inl (fun _ => 0)))
    (f15 : e 98 = .inl (3, 201, .inr (.inr (.inr (.inr (fun j => some (x98 + 1 + j)))))))
    (f16 : e 300 = .inl (6, 60, .inr (.inr (.inr (.inr (fun _ => none))))))
    (f17 : e 301 = .inl (2, 60, .inr (.inl (fun _ => 0))))
    (f18 : e 302 = .inl (3, 8, .inr (.inr (.inr (.inr (fun j => some (x302 + 1 + j)))))))
    (f19 : e 311 = .inl (3, 9, .inr (.inr (.inr (.inr (fun j => some (x311 + 1 + j)))))))
    (f20 : e 321 = .inl (0, 512, .inl (fun _ => 0)))
    (f21 : e 322 = .inl (0, 512, .inl (fun _ => 0)))
    (f22 : e 323 = .inl (5, 9, .inr (.inr (.inr (.inr (fun _ => none))))))
    (f23 : e 324 = .inl (6, 60, .inr (.inr (.inr (.inr (fun _ => none))))))
    (f24 : e 325 = .inl (3, 8, .inr (.inr (.inr (.inr (fun j => some (x325 + 1 + j)))))))
    (f25 : e 334 = .inl (3, 9, .inr (.inr (.inr (.inr (fun j => some (x334 + 1 + j)))))))
    (f26 : e 344 = .inl (0, 4, .inl (fun _ => 0)))
    (f27 : e 11 = .inr (1, [.int 0, .int 0, .int 0, .int (-1), .int 0, .ref x12, .ref x13, .ref x14, .ref x15, .ref x16, .ref x17, .ref x18]))
    (f28 : e 12 = .inl (0, 9, .inl (fun _ => 0)))
    (f29 : e 13 = .inl (0, 9, .inl (fun _ => 0)))
    (f30 : e 14 = .inl (0, 9, .inl (fun _ => 0)))
    (f31 : e 15 = .inl (0, 9, .inl (fun _ => 0)))
    (f32 : e 16 = .inl (0, 9, .inl (fun _ => 0)))
    (f33 : e 17 = .inl (0, 9, .inl (fun _ => 0)))
    (f34 : e 18 = .inl (0, 9, .inl (fun _ => 0)))
    (f35 : e 19 = .inr (1, [.int 0, .int 0, .int 0, .int (-1), .int 0, .ref x20, .ref x21, .ref x22, .ref x23, .ref x24, .ref x25, .ref x26]))
    (f36 : e 20 = .inl (0, 9, .inl (fun _ => 0)))
    (f37 : e 21 = .inl (0, 9, .inl (fun _ => 0)))
    (f38 : e 22 = .inl (0, 9, .inl (fun _ => 0)))
    (f39 : e 23 = .inl (0, 9, .inl (fun _ => 0)))
    (f40 : e 24 = .inl (0, 9, .inl (fun _ => 0)))
    (f41 : e 25 = .inl (0, 9, .inl (fun _ => 0)))
    (f42 : e 26 = .inl (0, 9, .inl (fun _ => 0)))
    (f43 : e 28 = .inr (1, [.int 0, .int 0, .int 0, .int (-1), .int 0, .ref x29, .ref x30, .ref x31, .ref x32, .ref x33, .ref x34, .ref x35]))
    (f44 : e 29 = .inl (0, 9, .inl (fun _ => 0)))
    (f45 : e 30 = .inl (0, 9, .inl (fun _ => 0)))
    (f46 : e 31 = .inl (0, 9, .inl (fun _ => 0)))
    (f47 : e 32 = .inl (0, 9, .inl (fun _ => 0)))
    (f48 : e 33 = .inl (0, 9, .inl (fun _ => 0)))
    (f49 : e 34 = .inl (0, 9, .inl (fun _ => 0)))
    (f50 : e 35 = .inl (0, 9, .inl (fun _ => 0)))
    (f51 : e 36 = .inr (1, [.int 0, .int 0, .int 0, .int (-1), .int 0, .ref x37, .ref x38, .ref x39, .ref x40, .ref x41, .ref x42, .ref x43]))
    (f52 : e 37 = .inl (0, 9, .inl (fun _ => 0)))
    (f53 : e 38 = .inl (0, 9, .inl (fun _ => 0)))
    (f54 : e 39 = .inl (0, 9, .inl (fun _ => 0)))
    (f55 : e 40 = .inl (0, 9, .inl (fun _ => 0)))
    (f56 : e 41 = .inl (0, 9, .inl (fun _ => 0)))
    (f57 : e 42 = .inl (0, 9, .inl (fun _ => 0)))
    (f58 : e 43 = .inl (0, 9, .inl (fun _ => 0)))
    (f59 : e 44 = .inr (1, [.int 0, .int 0, .int 0, .int (-1), .int 0, .ref x45, .ref x46, .ref x47, .ref x48, .ref x49, .ref x50, .ref x51]))
    (f60 : e 45 = .inl (0, 9, .inl (fun _ => 0)))
    (f61 : e 46 = .inl (0, 9, .inl (fun _ => 0)))
    (f62 : e 47 = .inl (0, 9, .inl (fun _ => 0)))
    (f63 : e 48 = .inl (0, 9, .inl (fun _ => 0)))
    (f64 : e 49 = .inl (0, 9, .inl (fun _ => 0)))
    (f65 : e 50 = .inl (0, 9, .inl (fun _ => 0)))
    (f66 : e 51 = .inl (0, 9, .inl (fun _ => 0)))
    (f67 : e 52 = .inr (1, [.int 0, .int 0, .int 0, .int (-1), .int 0, .ref x53, .ref x54, .ref x55, .ref x56, .ref x57, .ref x58, .ref x59]))
    (f68 : e 53 = .inl (0, 9, .inl (fun _ => 0)))
    (f69 : e 54 = .inl (0, 9, .inl (fun _ => 0)))
    (f70 : e 55 = .inl (0, 9, .inl (fun _ => 0)))
    (f71 : e 56 = .inl (0, 9, .inl (fun _ => 0)))
    (f72 : e 57 = .inl (0, 9, .inl (fun _ => 0)))
    (f73 : e 58 = .inl (0, 9, .inl (fun _ => 0)))
    (f74 : e 59 = .inl (0, 9, .inl (fun _ => 0)))
    (f75 : e 60 = .inr (1, [.int 0, .int 0, .int 0, .int (-1), .int 0, .ref x61, .ref x62, .ref x63, .ref x64, .ref x65, .ref x66, .ref x67]))
    (f76 : e 61 = .inl (0, 9, .inl (fun _ => 0)))
    (f77 : e 62 = .inl (0, 9, .inl (fun _ => 0)))
    (f78 : e 63 = .inl (0, 9, .inl (fun _ => 0)))
    (f79 : e 64 = .inl (0, 9, .inl (fun _ => 0)))
    (f80 : e 65 = .inl (0, 9, .inl (fun _ => 0)))
    (f81 : e 66 = .inl (0, 9, .inl (fun _ => 0)))
    (f82 : e 67 = .inl (0, 9, .inl (fun _ => 0)))
    (f83 : e 68 = .inr (1, [.int 0, .int 0, .int 0, .int (-1), .int 0, .ref x69, .ref x70, .ref x71, .ref x72, .ref x73, .ref x74, .ref x75]))
    (f84 : e 69 = .inl (0, 9, .inl (fun _ => 0)))
    (f85 : e 70 = .inl (0, 9, .inl (fun _ => 0)))
    (f86 : e 71 = .inl (0, 9, .inl (fun _ => 0)))
    (f87 : e 72 = .inl (0, 9, .inl (fun _ => 0)))
    (f88 : e 73 = .inl (0, 9, .inl (fun _ => 0)))
    (f89 : e 74 = .inl (0, 9, .inl (fun _ => 0)))
    (f90 : e 75 = .inl (0, 9, .inl (fun _ => 0)))
    (f91 : e 76 = .inr (1, [.int 0, .int 0, .int 0, .int (-1), .int 0, .ref x77, .ref x78, .ref x79, .ref x80, .ref x81, .ref x82, .ref x83]))
    (f92 : e 77 = .inl (0, 9, .inl (fun _ => 0)))
    (f93 : e 78 = .inl (0, 9, .inl (fun _ => 0)))
    (f94 : e 79 = .inl (0, 9, .inl (fun _ => 0)))
    (f95 : e 80 = .inl (0, 9, .inl (fun _ => 0)))
    (f96 : e 81 = .inl (0, 9, .inl (fun _ => 0)))
    (f97 : e 82 = .inl (0, 9, .inl (fun _ => 0)))
    (f98 : e 83 = .inl (0, 9, .inl (fun _ => 0)))
    (f99 : e 84 = .inr (1, [.int 0, .int 0, .int 0, .int (-1), .int 0, .ref x85, .ref x86, .ref x87, .ref x88, .ref x89, .ref x90, .ref x91]))
    (f100 : e 85 = .inl (0, 9, .inl (fun _ => 0)))
    (f101 : e 86 = .inl (0, 9, .inl (fun _ => 0)))
    (f102 : e 87 = .inl (0, 9, .inl (fun _ => 0)))
    (f103 : e 88 = .inl (0, 9, .inl (fun _ => 0)))
    (f104 : e 89 = .inl (0, 9, .inl (fun _ => 0)))
    (f105 : e 90 = .inl (0, 9, .inl (fun _ => 0)))
    (f106 : e 91 = .inl (0, 9, .inl (fun _ => 0)))
    (f107 : e 303 = .inl (0, 8, .inl (upd (fun _ => 0) (Int32.toNatClampNeg 0) 9)))
    (f108 : e 304 = .inl (0, 8, .inl (upd (fun _ => 0) (Int32.toNatClampNeg 1) 9)))
    (f109 : e 305 = .inl (0, 8, .inl (upd (fun _ => 0) (Int32.toNatClampNeg 2) 9)))
    (f110 : e 306 = .inl (0, 8, .inl (upd (fun _ => 0) (Int32.toNatClampNeg 3) 9)))
    (f111 : e 307 = .inl (0, 8, .inl (upd (fun _ => 0) (Int32.toNatClampNeg 4) 9)))
    (f112 : e 308 = .inl (0, 8, .inl (upd (fun _ => 0) (Int32.toNatClampNeg 5) 9)))
    (f113 : e 309 = .inl (0, 8, .inl (upd (fun _ => 0) (Int32.toNatClampNeg 6) 9)))
    (f114 : e 310 = .inl (0, 8, .inl (upd (fun _ => 0) (Int32.toNatClampNeg 7) 9)))
    (f115 : e 5 = .inr (4, [.ref x6, .ref x7, .int 0]))
    (f116 : e 6 = .inl (8, 16, .inr (.inr (.inr (.inr (fun _ => none))))))
    (f117 : e 7 = .inl (8, 16, .inr (.inr (.inr (.inr (fun _ => none))))))
    (f118 : (∀ j, j < 201 → e (99 + j) = .inl (0, 9, .inl (fun _ => 0))))
    (f119 : (∀ j, j < 8 → e (326 + j) = .inl (0, 8, .inl (fun _ => 0))))
    (f120 : (∀ j, j < 9 → e (312 + j) = .inl (0, 9, .inl (fun _ => 0))))
    (f121 : (∀ j, j < 9 → e (335 + j) = .inl (0, 9, .inl (fun _ => 0))))
    (f122 : (∀ j, j < 201 → q (99 + j) = x98 + 1 + j))
    (f123 : (∀ j, j < 8 → q (326 + j) = x325 + 1 + j))
    (f124 : (∀ j, j < 9 → q (312 + j) = x311 + 1 + j))
    (f125 : (∀ j, j < 9 → q (335 + j) = x334 + 1 + j))
    (f126 : (∀ j, j < 8 → q (303 + j) = x302 + 1 + j))
    : xEnd g x0 (cS 345 q e) := by
  subst hq0
  subst hq1
  subst hq2
  subst hq3
  subst hq4
  subst hq5
  subst hq6
  subst hq7
  subst hq8
  subst hq9
  subst hq10
  subst hq11
  subst hq12
  subst hq13
  subst hq14
  subst hq15
  subst hq16
  subst hq17
  subst hq18
  subst hq19
  subst hq20
  subst hq21
  subst hq22
  subst hq23
  subst hq24
  subst hq25
  subst hq26
  subst hq27
  subst hq28
  subst hq29
  subst hq30
  subst hq31
  subst hq32
  subst hq33
  subst hq34
  subst hq35
  subst hq36
  subst hq37
  subst hq38
  subst hq39
  subst hq40
  subst hq41
  subst hq42
  subst hq43
  subst hq44
  subst hq45
  subst hq46
  subst hq47
  subst hq48
  subst hq49
  subst hq50
  subst hq51
  subst hq52
  subst hq53
  subst hq54
  subst hq55
  subst hq56
  subst hq57
  subst hq58
  subst hq59
  subst hq60
  subst hq61
  subst hq62
  subst hq63
  subst hq64
  subst hq65
  subst hq66
  subst hq67
  subst hq68
  subst hq69
  subst hq70
  subst hq71
  subst hq72
  subst hq73
  subst hq74
  subst hq75
  subst hq76
  subst hq77
  subst hq78
  subst hq79
  subst hq80
  subst hq81
  subst hq82
  subst hq83
  subst hq84
  subst hq85
  subst hq86
  subst hq87
  subst hq88
  subst hq89
  subst hq90
  subst hq91
  subst hq92
  subst hq93
  subst hq94
  subst hq95
  subst hq96
  subst hq97
  subst hq98
  subst hq300
  subst hq301
  subst hq302
  subst hq311
  subst hq321
  subst hq322
  subst hq323
  subst hq324
  subst hq325
  subst hq334
  subst hq344
  exact ⟨q, e, rfl, rfl, f0, f1, f2, f3, f4, f5, f6, f7, f8, f9, f10, f11, f12, f13, f14, f15, f16, f17, f18, f19, f20, f21, f22, f23, f24, f25, f26, f27, f28, f29, f30, f31, f32, f33, f34, f35, f36, f37, f38, f39, f40, f41, f42, f43, f44, f45, f46, f47, f48, f49, f50, f51, f52, f53, f54, f55, f56, f57, f58, f59, f60, f61, f62, f63, f64, f65, f66, f67, f68, f69, f70, f71, f72, f73, f74, f75, f76, f77, f78, f79, f80, f81, f82, f83, f84, f85, f86, f87, f88, f89, f90, f91, f92, f93, f94, f95, f96, f97, f98, f99, f100, f101, f102, f103, f104, f105, f106, f107, f108, f109, f110, f111, f112, f113, f114, f115, f116, f117, f118, f119, f120, f121, f122, f123, f124, f125, f126⟩
theorem t_start {g : Gam} {q : Nat → Nat} {e : Nat → va_E} (h : tRaw q e) (k : Nat) (hk : k < 18) : pE g (e k) = cE tCfg (q, g.2) t0 k := by
  obtain ⟨h0, h1, h2, h3, h4, h5, h6, h7, h8, h9, h10, h11, h12, h13, h14, h15, h16, h17⟩ := h
  match k, hk with
  | 0, _ => rw [h0]; rfl
  | 1, _ => rw [h1]; rfl
  | 2, _ => rw [h2]; rfl
  | 3, _ => rw [h3]; rfl
  | 4, _ => rw [h4]; rfl
  | 5, _ => rw [h5]; rfl
  | 6, _ => rw [h6]; rfl
  | 7, _ => rw [h7]; rfl
  | 8, _ => rw [h8]; rfl
  | 9, _ => rw [h9]; rfl
  | 10, _ => rw [h10]; rfl
  | 11, _ => rw [h11]; rfl
  | 12, _ => rw [h12]; rfl
  | 13, _ => rw [h13]; rfl
  | 14, _ => rw [h14]; rfl
  | 15, _ => rw [h15]; rfl
  | 16, _ => rw [h16]; rfl
  | 17, _ => rw [h17]; rfl
  | n + 18, h => exact absurd h (by omega)
theorem w_cDays {l : Launch} {m i : Nat} {q : Nat → Nat} {e : Nat → va_E} (hi : i < m) (he : e i = .inr (1, [.int 0, .int 0, .int 0, .int 0, .int 0, .null, .null, .null, .null, .null, .null, .null])) : Cw (c0 xCfg) l yX2_init cX2_init 1 none { frames := 2, cells := 7, slots := 63, locals := 20 } (fun _ => [.ref (q i)]) (cS m q e) (fun (_ : Unit) σ' => ∃ a : Nat → Nat, σ' = cS (m + 7) (dq q m a) (de e m i a)) (fun _ => none) := by
  refine Cw_of pn_X2 (fun g => Nat.le_of_ble_eq_true rfl) (fun g A X C E hX hcz hsz hin => ?_)
  show TG (c0 xCfg) g A 1 X 0 0 (cS m q e) 0 [(0, .ref (q i))] []
  refine g_aload_n C dX2_init_0 0 rfl ?_
  refine g_objInit C q167 (Nat.le_of_ble_eq_true rfl) (Nat.le_of_ble_eq_true rfl) (Nat.le_of_ble_eq_true rfl) dX2_init_1 ?_
  refine g_aload_n C dX2_init_4 0 rfl ?_
  refine g_iconst C dX2_init_5 kc_m1 ?_
  refine g_cput (i := i) (fs' := [.int 0, .int 0, .int 0, .int (-1), .int 0, .null, .null, .null, .null, .null, .null, .null]) C pX2_9 (by omega) rfl he (Nat.le_of_ble_eq_true rfl) rfl rfl rfl dX2_init_6 ?_
  refine g_aload_n C dX2_init_9 0 rfl ?_
  refine g_bipush C dX2_init_10 kb_9 ?_
  refine g_cnewI (N' := 9) C rfl (by decide) rfl (by decide) (Nat.le_trans (Nat.le_of_ble_eq_true rfl) hcz) (Nat.le_trans (Nat.le_of_ble_eq_true rfl) hsz) dX2_init_12 (fun a0 => ?_)
  refine g_cputF (i := i) (fs' := [.int 0, .int 0, .int 0, .int (-1), .int 0, .ref a0, .null, .null, .null, .null, .null, .null]) C (hin rfl) pFX2_15 (by omega) ((up_ne (by omega)).trans (rfl)) ((up_ne (by omega)).trans up_eq) (Nat.le_of_ble_eq_true rfl) rfl rfl rfl dX2_init_14 ?_
  refine g_aload_n C dX2_init_17 0 rfl ?_
  refine g_bipush C dX2_init_18 kb_9 ?_
  refine g_cnewI (N' := 9) C rfl (by decide) rfl (by decide) (Nat.le_trans (Nat.le_of_ble_eq_true rfl) hcz) (Nat.le_trans (Nat.le_of_ble_eq_true rfl) hsz) dX2_init_20 (fun a1 => ?_)
  refine g_cputF (i := i) (fs' := [.int 0, .int 0, .int 0, .int (-1), .int 0, .ref a0, .ref a1, .null, .null, .null, .null, .null]) C (hin rfl) pFX2_19 (by omega) ((up_ne (by omega)).trans ((up_ne (by omega)).trans (rfl))) ((up_ne (by omega)).trans up_eq) (Nat.le_of_ble_eq_true rfl) rfl rfl rfl dX2_init_22 ?_
  refine g_aload_n C dX2_init_25 0 rfl ?_
  refine g_bipush C dX2_init_26 kb_9 ?_
  refine g_cnewI (N' := 9) C rfl (by decide) rfl (by decide) (Nat.le_trans (Nat.le_of_ble_eq_true rfl) hcz) (Nat.le_trans (Nat.le_of_ble_eq_true rfl) hsz) dX2_init_28 (fun a2 => ?_)
  refine g_cputF (i := i) (fs' := [.int 0, .int 0, .int 0, .int (-1), .int 0, .ref a0, .ref a1, .ref a2, .null, .null, .null, .null]) C (hin rfl) pFX2_22 (by omega) ((up_ne (by omega)).trans ((up_ne (by omega)).trans ((up_ne (by omega)).trans (rfl)))) ((up_ne (by omega)).trans up_eq) (Nat.le_of_ble_eq_true rfl) rfl rfl rfl dX2_init_30 ?_
  refine g_aload_n C dX2_init_33 0 rfl ?_
  refine g_bipush C dX2_init_34 kb_9 ?_
  refine g_cnewI (N' := 9) C rfl (by decide) rfl (by decide) (Nat.le_trans (Nat.le_of_ble_eq_true rfl) hcz) (Nat.le_trans (Nat.le_of_ble_eq_true rfl) hsz) dX2_init_36 (fun a3 => ?_)
  refine g_cputF (i := i) (fs' := [.int 0, .int 0, .int 0, .int (-1), .int 0, .ref a0, .ref a1, .ref a2, .ref a3, .null, .null, .null]) C (hin rfl) pFX2_25 (by omega) ((up_ne (by omega)).trans ((up_ne (by omega)).trans ((up_ne (by omega)).trans ((up_ne (by omega)).trans (rfl))))) ((up_ne (by omega)).trans up_eq) (Nat.le_of_ble_eq_true rfl) rfl rfl rfl dX2_init_38 ?_
  refine g_aload_n C dX2_init_41 0 rfl ?_
  refine g_bipush C dX2_init_42 kb_9 ?_
  refine g_cnewI (N' := 9) C rfl (by decide) rfl (by decide) (Nat.le_trans (Nat.le_of_ble_eq_true rfl) hcz) (Nat.le_trans (Nat.le_of_ble_eq_true rfl) hsz) dX2_init_44 (fun a4 => ?_)
  refine g_cputF (i := i) (fs' := [.int 0, .int 0, .int 0, .int (-1), .int 0, .ref a0, .ref a1, .ref a2, .ref a3, .ref a4, .null, .null]) C (hin rfl) pFX2_28 (by omega) ((up_ne (by omega)).trans ((up_ne (by omega)).trans ((up_ne (by omega)).trans ((up_ne (by omega)).trans ((up_ne (by omega)).trans (rfl)))))) ((up_ne (by omega)).trans up_eq) (Nat.le_of_ble_eq_true rfl) rfl rfl rfl dX2_init_46 ?_
  refine g_aload_n C dX2_init_49 0 rfl ?_
  refine g_bipush C dX2_init_50 kb_9 ?_
  refine g_cnewI (N' := 9) C rfl (by decide) rfl (by decide) (Nat.le_trans (Nat.le_of_ble_eq_true rfl) hcz) (Nat.le_trans (Nat.le_of_ble_eq_true rfl) hsz) dX2_init_52 (fun a5 => ?_)
  refine g_cputF (i := i) (fs' := [.int 0, .int 0, .int 0, .int (-1), .int 0, .ref a0, .ref a1, .ref a2, .ref a3, .ref a4, .ref a5, .null]) C (hin rfl) pFX2_31 (by omega) ((up_ne (by omega)).trans ((up_ne (by omega)).trans ((up_ne (by omega)).trans ((up_ne (by omega)).trans ((up_ne (by omega)).trans ((up_ne (by omega)).trans (rfl))))))) ((up_ne (by omega)).trans up_eq) (Nat.le_of_ble_eq_true rfl) rfl rfl rfl dX2_init_54 ?_
  refine g_aload_n C dX2_init_57 0 rfl ?_
  refine g_bipush C dX2_init_58 kb_9 ?_
  refine g_cnewI (N' := 9) C rfl (by decide) rfl (by decide) (Nat.le_trans (Nat.le_of_ble_eq_true rfl) hcz) (Nat.le_trans (Nat.le_of_ble_eq_true rfl) hsz) dX2_init_60 (fun a6 => ?_)
  refine g_cputF (i := i) (fs' := [.int 0, .int 0, .int 0, .int (-1), .int 0, .ref a0, .ref a1, .ref a2, .ref a3, .ref a4, .ref a5, .ref a6]) C (hin rfl) pFX2_34 (by omega) ((up_ne (by omega)).trans ((up_ne (by omega)).trans ((up_ne (by omega)).trans ((up_ne (by omega)).trans ((up_ne (by omega)).trans ((up_ne (by omega)).trans ((up_ne (by omega)).trans (rfl)))))))) ((up_ne (by omega)).trans up_eq) (Nat.le_of_ble_eq_true rfl) rfl rfl rfl dX2_init_62 ?_
  refine g_wretv (r := ()) C E rfl ⟨nmA [a0, a1, a2, a3, a4, a5, a6], ?_⟩ (Nat.le_trans (Nat.le_of_ble_eq_true rfl) hcz) (Nat.le_trans (Nat.le_of_ble_eq_true rfl) hsz) dX2_init_65
  refine cS_congr (fun k hk => ?_) (fun k hk => ?_)
  · rcases (show k < m ∨ k = m ∨ k = m + 1 ∨ k = m + 2 ∨ k = m + 3 ∨ k = m + 4 ∨ k = m + 5 ∨ k = m + 6 by omega) with h | h | h | h | h | h | h | h
    · simp only [dq, if_pos h]
      refine (up_ne (by omega)).trans ?_; refine (up_ne (by omega)).trans ?_; refine (up_ne (by omega)).trans ?_; refine (up_ne (by omega)).trans ?_; refine (up_ne (by omega)).trans ?_; refine (up_ne (by omega)).trans ?_; refine (up_ne (by omega)).trans ?_; rfl
    · rw [h]; refine (up_ne (by omega)).trans ?_; refine (up_ne (by omega)).trans ?_; refine (up_ne (by omega)).trans ?_; refine (up_ne (by omega)).trans ?_; refine (up_ne (by omega)).trans ?_; refine (up_ne (by omega)).trans ?_; refine up_eq.trans ?_; simp only [dq]; rw [if_neg (by omega)]; rw [Nat.sub_self]; rfl
    · rw [h]; refine (up_ne (by omega)).trans ?_; refine (up_ne (by omega)).trans ?_; refine (up_ne (by omega)).trans ?_; refine (up_ne (by omega)).trans ?_; refine (up_ne (by omega)).trans ?_; refine up_eq.trans ?_; simp only [dq]; rw [if_neg (by omega)]; rw [show m + 1 - m = 1 by omega]; rfl
    · rw [h]; refine (up_ne (by omega)).trans ?_; refine (up_ne (by omega)).trans ?_; refine (up_ne (by omega)).trans ?_; refine (up_ne (by omega)).trans ?_; refine up_eq.trans ?_; simp only [dq]; rw [if_neg (by omega)]; rw [show m + 2 - m = 2 by omega]; rfl
    · rw [h]; refine (up_ne (by omega)).trans ?_; refine (up_ne (by omega)).trans ?_; refine (up_ne (by omega)).trans ?_; refine up_eq.trans ?_; simp only [dq]; rw [if_neg (by omega)]; rw [show m + 3 - m = 3 by omega]; rfl
    · rw [h]; refine (up_ne (by omega)).trans ?_; refine (up_ne (by omega)).trans ?_; refine up_eq.trans ?_; simp only [dq]; rw [if_neg (by omega)]; rw [show m + 4 - m = 4 by omega]; rfl
    · rw [h]; refine (up_ne (by omega)).trans ?_; refine up_eq.trans ?_; simp only [dq]; rw [if_neg (by omega)]; rw [show m + 5 - m = 5 by omega]; rfl
    · rw [h]; refine up_eq.trans ?_; simp only [dq]; rw [if_neg (by omega)]; rw [show m + 6 - m = 6 by omega]; rfl
  · rcases (show k < m ∨ k = m ∨ k = m + 1 ∨ k = m + 2 ∨ k = m + 3 ∨ k = m + 4 ∨ k = m + 5 ∨ k = m + 6 by omega) with h | h | h | h | h | h | h | h
    · simp only [de, if_pos h]
      by_cases hk2 : k = i
      · subst hk2; rw [if_pos rfl]; exact up_eq
      · rw [if_neg hk2]; simp only [up, if_neg hk2, if_neg (show ¬ k = m by omega), if_neg (show ¬ k = m + 1 by omega), if_neg (show ¬ k = m + 2 by omega), if_neg (show ¬ k = m + 3 by omega), if_neg (show ¬ k = m + 4 by omega), if_neg (show ¬ k = m + 5 by omega), if_neg (show ¬ k = m + 6 by omega), Nat.add_assoc, Nat.reduceAdd]
    · rw [h]; simp only [de]; rw [if_neg (by omega)]; simp only [up, Nat.add_assoc, Nat.reduceAdd, if_neg (show ¬ m = i by omega), if_neg (show ¬ m = m + 1 by omega), if_neg (show ¬ m = m + 2 by omega), if_neg (show ¬ m = m + 3 by omega), if_neg (show ¬ m = m + 4 by omega), if_neg (show ¬ m = m + 5 by omega), if_neg (show ¬ m = m + 6 by omega), if_true]
    · rw [h]; simp only [de]; rw [if_neg (by omega)]; simp only [up, Nat.add_assoc, Nat.reduceAdd, if_neg (show ¬ m + 1 = i by omega), if_neg (show ¬ m + 1 = m + 2 by omega), if_neg (show ¬ m + 1 = m + 3 by omega), if_neg (show ¬ m + 1 = m + 4 by omega), if_neg (show ¬ m + 1 = m + 5 by omega), if_neg (show ¬ m + 1 = m + 6 by omega), if_true]
    · rw [h]; simp only [de]; rw [if_neg (by omega)]; simp only [up, Nat.add_assoc, Nat.reduceAdd, if_neg (show ¬ m + 2 = i by omega), if_neg (show ¬ m + 2 = m + 3 by omega), if_neg (show ¬ m + 2 = m + 4 by omega), if_neg (show ¬ m + 2 = m + 5 by omega), if_neg (show ¬ m + 2 = m + 6 by omega), if_true]
    · rw [h]; simp only [de]; rw [if_neg (by omega)]; simp only [up, Nat.add_assoc, Nat.reduceAdd, if_neg (show ¬ m + 3 = i by omega), if_neg (show ¬ m + 3 = m + 4 by omega), if_neg (show ¬ m + 3 = m + 5 by omega), if_neg (show ¬ m + 3 = m + 6 by omega), if_true]
    · rw [h]; simp only [de]; rw [if_neg (by omega)]; simp only [up, Nat.add_assoc, Nat.reduceAdd, if_neg (show ¬ m + 4 = i by omega), if_neg (show ¬ m + 4 = m + 5 by omega), if_neg (show ¬ m + 4 = m + 6 by omega), if_true]
    · rw [h]; simp only [de]; rw [if_neg (by omega)]; simp only [up, Nat.add_assoc, Nat.reduceAdd, if_neg (show ¬ m + 5 = i by omega), if_neg (show ¬ m + 5 = m + 6 by omega), if_true]
    · rw [h]; simp only [de]; rw [if_neg (by omega)]; simp only [up, Nat.add_assoc, Nat.reduceAdd, if_neg (show ¬ m + 6 = i by omega), if_true]
theorem w_cText {l : Launch} {m i : Nat} {q : Nat → Nat} {e : Nat → va_E} (hi : i < m) (he : e i = .inr (4, [.null, .null, .int 0])) : Cw (c0 xCfg) l yX1_init cX1_init 1 none { frames := 2, cells := 2, slots := 32, locals := 20 } (fun _ => [.ref (q i)]) (cS m q e) (fun (_ : Unit) σ' => ∃ a : Nat → Nat, σ' = cS (m + 2) (dq q m a) (te e m i a)) (fun _ => none) := by
  refine Cw_of pn_X1 (fun g => Nat.le_of_ble_eq_true rfl) (fun g A X C E hX hcz hsz hin => ?_)
  show TG (c0 xCfg) g A 1 X 0 0 (cS m q e) 0 [(0, .ref (q i))] []
  refine g_aload_n C dX1_init_0 0 rfl ?_
  refine g_objInit C q143 (Nat.le_of_ble_eq_true rfl) (Nat.le_of_ble_eq_true rfl) (Nat.le_of_ble_eq_true rfl) dX1_init_1 ?_
  refine g_aload_n C dX1_init_4 0 rfl ?_
  refine g_bipush C dX1_init_5 kb_16 ?_
  refine g_cnewQ (t := 8) (N' := 16) (Cn := "DoughDebts$Term") C rfl (by decide) q144 (by decide) rfl (by decide) (Nat.le_trans (Nat.le_of_ble_eq_true rfl) hcz) (Nat.le_trans (Nat.le_of_ble_eq_true rfl) hsz) dX1_init_7 (fun a0 => ?_)
  refine g_cputF (i := i) (fs' := [.ref a0, .null, .int 0]) C (hin rfl) pFX1_11 (by omega) ((up_ne (by omega)).trans (rfl)) ((up_ne (by omega)).trans he) (Nat.le_of_ble_eq_true rfl) rfl rfl rfl dX1_init_10 ?_
  refine g_aload_n C dX1_init_13 0 rfl ?_
  refine g_bipush C dX1_init_14 kb_16 ?_
  refine g_cnewQ (t := 8) (N' := 16) (Cn := "DoughDebts$Term") C rfl (by decide) q144 (by decide) rfl (by decide) (Nat.le_trans (Nat.le_of_ble_eq_true rfl) hcz) (Nat.le_trans (Nat.le_of_ble_eq_true rfl) hsz) dX1_init_16 (fun a1 => ?_)
  refine g_cputF (i := i) (fs' := [.ref a0, .ref a1, .int 0]) C (hin rfl) pFX1_17 (by omega) ((up_ne (by omega)).trans ((up_ne (by omega)).trans (rfl))) ((up_ne (by omega)).trans up_eq) (Nat.le_of_ble_eq_true rfl) rfl rfl rfl dX1_init_19 ?_
  refine g_wretv (r := ()) C E rfl ⟨nmA [a0, a1], ?_⟩ (Nat.le_trans (Nat.le_of_ble_eq_true rfl) hcz) (Nat.le_trans (Nat.le_of_ble_eq_true rfl) hsz) dX1_init_22
  refine cS_congr (fun k hk => ?_) (fun k hk => ?_)
  · rcases (show k < m ∨ k = m ∨ k = m + 1 by omega) with h | h | h
    · simp only [dq, if_pos h]
      refine (up_ne (by omega)).trans ?_; refine (up_ne (by omega)).trans ?_; rfl
    · rw [h]; refine (up_ne (by omega)).trans ?_; refine up_eq.trans ?_; simp only [dq]; rw [if_neg (by omega)]; rw [Nat.sub_self]; rfl
    · rw [h]; refine up_eq.trans ?_; simp only [dq]; rw [if_neg (by omega)]; rw [show m + 1 - m = 1 by omega]; rfl
  · rcases (show k < m ∨ k = m ∨ k = m + 1 by omega) with h | h | h
    · simp only [te, if_pos h]
      by_cases hk2 : k = i
      · subst hk2; rw [if_pos rfl]; exact up_eq
      · rw [if_neg hk2]; simp only [up, if_neg hk2, if_neg (show ¬ k = m by omega), if_neg (show ¬ k = m + 1 by omega), Nat.add_assoc, Nat.reduceAdd]
    · rw [h]; simp only [te]; rw [if_neg (by omega)]; simp only [up, Nat.add_assoc, Nat.reduceAdd, if_neg (show ¬ m = i by omega), if_neg (show ¬ m = m + 1 by omega), if_true]
    · rw [h]; simp only [te]; rw [if_neg (by omega)]; simp only [up, Nat.add_assoc, Nat.reduceAdd, if_neg (show ¬ m + 1 = i by omega), if_true]
theorem w_cx {l : Launch} {g : Gam} {th : Nat} : Cg (c0 xCfg) g l yX0_init cX0_init 2 none { frames := 3, cells := 344, slots := 4831, locals := 40 } [.ref th] (cS 1 (fun _ => th) (fun _ => .inr (0, [.null, .int 0, .null, .null, .null, .null, .int 0, .int 0, .int 0, .int 0, .int 0, .int 0, .null, .null, .int 0, .null, .null, .null, .null, .null, .int 0, .null, .null, .null, .int 0, .null, .null, .null, .int 0, .int 0, .null, .null, .int 0, .null, .null, .long 0, .long 0, .null, .null, .null, .null, .null, .null, .null, .null, .null, .int 0, .int 0]))) (fun (_ : Unit) σ' => xEnd g th σ') (fun _ => none) := by
  refine Cg_of pn_X0 (Nat.le_of_ble_eq_true rfl) (fun A X C E hX hcz hsz hin hAO => ?_)
  show TG (c0 xCfg) g A 2 X 0 0 _ 0 [(0, .ref th)] []
  refine g_aload_n C dX0_init_0 0 rfl ?_
  refine g_objInit C q118 (Nat.le_of_ble_eq_true rfl) (Nat.le_of_ble_eq_true rfl) (Nat.le_of_ble_eq_true rfl) dX0_init_1 ?_
  refine g_aload_n C dX0_init_4 0 rfl ?_
  refine g_sipush C dX0_init_5 ks_400 ?_
  refine g_cnewB (N' := 400) C rfl (by decide) rfl (by decide) (Nat.le_trans (Nat.le_of_ble_eq_true rfl) hcz) (Nat.le_trans (Nat.le_of_ble_eq_true rfl) hsz) dX0_init_8 (fun a0 => ?_)
  refine g_cputF (i := 0) (fs' := [.ref a0, .int 0, .null, .null, .null, .null, .int 0, .int 0, .int 0, .int 0, .int 0, .int 0, .null, .null, .int 0, .null, .null, .null, .null, .null, .int 0, .null, .null, .null, .int 0, .null, .null, .null, .int 0, .int 0, .null, .null, .int 0, .null, .null, .long 0, .long 0, .null, .null, .null, .null, .null, .null, .null, .null, .null, .int 0, .int 0]) C (hin rfl) pFX0_9 (Nat.le_of_ble_eq_true rfl) rfl rfl (Nat.le_of_ble_eq_true rfl) rfl rfl rfl dX0_init_10 ?_
  refine g_aload_n C dX0_init_13 0 rfl ?_
  refine g_iconst C dX0_init_14 kc_1 ?_
  refine g_cnewQ (t := 4) (N' := 1) (Cn := "java/lang/String") C rfl (by decide) q121 (by decide) rfl (by decide) (Nat.le_trans (Nat.le_of_ble_eq_true rfl) hcz) (Nat.le_trans (Nat.le_of_ble_eq_true rfl) hsz) dX0_init_15 (fun a1 => ?_)
  refine g_dup C dX0_init_18 rfl ?_
  refine g_iconst C dX0_init_19 kc_0 ?_
  refine g_ldcS (tx := "worth") C (List.mem_of_getElem? (i := 0) rfl) dX0_init_20 ?_
  refine g_caastS (i := 2) C rfl (Nat.le_of_ble_eq_true rfl) rfl rfl (by decide) (by decide) dX0_init_22 ?_
  refine g_cputF (i := 0) (fs' := [.ref a0, .int 0, .ref a1, .null, .null, .null, .int 0, .int 0, .int 0, .int 0, .int 0, .int 0, .null, .null, .int 0, .null, .null, .null, .null, .null, .int 0, .null, .null, .null, .int 0, .null, .null, .null, .int 0, .int 0, .null, .null, .int 0, .null, .null, .long 0, .long 0, .null, .null, .null, .null, .null, .null, .null, .null, .null, .int 0, .int 0]) C (hin rfl) pFX0_17 (Nat.le_of_ble_eq_true rfl) rfl rfl (Nat.le_of_ble_eq_true rfl) rfl rfl rfl dX0_init_23 ?_
  refine g_aload_n C dX0_init_26 0 rfl ?_
  refine g_bipush C dX0_init_27 kb_10 ?_
  refine g_cnewQ (t := 4) (N' := 10) (Cn := "java/lang/String") C rfl (by decide) q121 (by decide) rfl (by decide) (Nat.le_trans (Nat.le_of_ble_eq_true rfl) hcz) (Nat.le_trans (Nat.le_of_ble_eq_true rfl) hsz) dX0_init_29 (fun a2 => ?_)
  refine g_dup C dX0_init_32 rfl ?_
  refine g_iconst C dX0_init_33 kc_0 ?_
  refine g_ldcS (tx := "size") C (List.mem_of_getElem? (i := 1) rfl) dX0_init_34 ?_
  refine g_caastS (i := 3) C rfl (Nat.le_of_ble_eq_true rfl) rfl rfl (by decide) (by decide) dX0_init_36 ?_
  refine g_dup C dX0_init_37 rfl ?_
  refine g_iconst C dX0_init_38 kc_1 ?_
  refine g_ldcS (tx := "need") C (List.mem_of_getElem? (i := 2) rfl) dX0_init_39 ?_
  refine g_caastS (i := 3) C rfl (Nat.le_of_ble_eq_true rfl) rfl rfl (by decide) (by decide) dX0_init_41 ?_
  refine g_dup C dX0_init_42 rfl ?_
  refine g_iconst C dX0_init_43 kc_2 ?_
  refine g_ldcS (tx := "dough") C (List.mem_of_getElem? (i := 3) rfl) dX0_init_44 ?_
  refine g_caastS (i := 3) C rfl (Nat.le_of_ble_eq_true rfl) rfl rfl (by decide) (by decide) dX0_init_46 ?_
  refine g_dup C dX0_init_47 rfl ?_
  refine g_iconst C dX0_init_48 kc_3 ?_
  refine g_ldcS (tx := "bread") C (List.mem_of_getElem? (i := 4) rfl) dX0_init_49 ?_
  refine g_caastS (i := 3) C rfl (Nat.le_of_ble_eq_true rfl) rfl rfl (by decide) (by decide) dX0_init_51 ?_
  refine g_dup C dX0_init_52 rfl ?_
  refine g_iconst C dX0_init_53 kc_4 ?_
  refine g_ldcS (tx := "wood") C (List.mem_of_getElem? (i := 5) rfl) dX0_init_54 ?_
  refine g_caastS (i := 3) C rfl (Nat.le_of_ble_eq_true rfl) rfl rfl (by decide) (by decide) dX0_init_56 ?_
  refine g_dup C dX0_init_57 rfl ?_
  refine g_iconst C dX0_init_58 kc_5 ?_
  refine g_ldcS (tx := "first") C (List.mem_of_getElem? (i := 6) rfl) dX0_init_59 ?_
  refine g_caastS (i := 3) C rfl (Nat.le_of_ble_eq_true rfl) rfl rfl (by decide) (by decide) dX0_init_61 ?_
  refine g_dup C dX0_init_62 rfl ?_
  refine g_bipush C dX0_init_63 kb_6 ?_
  refine g_ldcS (tx := "sour") C (List.mem_of_getElem? (i := 7) rfl) dX0_init_65 ?_
  refine g_caastS (i := 3) C rfl (Nat.le_of_ble_eq_true rfl) rfl rfl (by decide) (by decide) dX0_init_67 ?_
  refine g_dup C dX0_init_68 rfl ?_
  refine g_bipush C dX0_init_69 kb_7 ?_
  refine g_ldcS (tx := "house") C (List.mem_of_getElem? (i := 8) rfl) dX0_init_71 ?_
  refine g_caastS (i := 3) C rfl (Nat.le_of_ble_eq_true rfl) rfl rfl (by decide) (by decide) dX0_init_73 ?_
  refine g_dup C dX0_init_74 rfl ?_
  refine g_bipush C dX0_init_75 kb_8 ?_
  refine g_ldcS (tx := "day") C (List.mem_of_getElem? (i := 9) rfl) dX0_init_77 ?_
  refine g_caastS (i := 3) C rfl (Nat.le_of_ble_eq_true rfl) rfl rfl (by decide) (by decide) dX0_init_79 ?_
  refine g_dup C dX0_init_80 rfl ?_
  refine g_bipush C dX0_init_81 kb_9 ?_
  refine g_ldcS (tx := "owes") C (List.mem_of_getElem? (i := 10) rfl) dX0_init_83 ?_
  refine g_caastS (i := 3) C rfl (Nat.le_of_ble_eq_true rfl) rfl rfl (by decide) (by decide) dX0_init_85 ?_
  refine g_cputF (i := 0) (fs' := [.ref a0, .int 0, .ref a1, .ref a2, .null, .null, .int 0, .int 0, .int 0, .int 0, .int 0, .int 0, .null, .null, .int 0, .null, .null, .null, .null, .null, .int 0, .null, .null, .null, .int 0, .null, .null, .null, .int 0, .int 0, .null, .null, .int 0, .null, .null, .long 0, .long 0, .null, .null, .null, .null, .null, .null, .null, .null, .null, .int 0, .int 0]) C (hin rfl) pFX0_41 (Nat.le_of_ble_eq_true rfl) rfl rfl (Nat.le_of_ble_eq_true rfl) rfl rfl rfl dX0_init_86 ?_
  refine g_aload_n C dX0_init_89 0 rfl ?_
  refine g_iconst C dX0_init_90 kc_4 ?_
  refine g_cnewQ (t := 4) (N' := 4) (Cn := "java/lang/String") C rfl (by decide) q121 (by decide) rfl (by decide) (Nat.le_trans (Nat.le_of_ble_eq_true rfl) hcz) (Nat.le_trans (Nat.le_of_ble_eq_true rfl) hsz) dX0_init_91 (fun a3 => ?_)
  refine g_dup C dX0_init_94 rfl ?_
  refine g_iconst C dX0_init_95 kc_0 ?_
  refine g_ldcS (tx := "when") C (List.mem_of_getElem? (i := 11) rfl) dX0_init_96 ?_
  refine g_caastS (i := 4) C rfl (Nat.le_of_ble_eq_true rfl) rfl rfl (by decide) (by decide) dX0_init_98 ?_
  refine g_dup C dX0_init_99 rfl ?_
  refine g_iconst C dX0_init_100 kc_1 ?_
  refine g_ldcS (tx := "or") C (List.mem_of_getElem? (i := 12) rfl) dX0_init_101 ?_
  refine g_caastS (i := 4) C rfl (Nat.le_of_ble_eq_true rfl) rfl rfl (by decide) (by decide) dX0_init_103 ?_
  refine g_dup C dX0_init_104 rfl ?_
  refine g_iconst C dX0_init_105 kc_2 ?_
  refine g_ldcS (tx := "and") C (List.mem_of_getElem? (i := 13) rfl) dX0_init_106 ?_
  refine g_caastS (i := 4) C rfl (Nat.le_of_ble_eq_true rfl) rfl rfl (by decide) (by decide) dX0_init_108 ?_
  refine g_dup C dX0_init_109 rfl ?_
  refine g_iconst C dX0_init_110 kc_3 ?_
  refine g_ldcS (tx := "not") C (List.mem_of_getElem? (i := 14) rfl) dX0_init_111 ?_
  refine g_caastS (i := 4) C rfl (Nat.le_of_ble_eq_true rfl) rfl rfl (by decide) (by decide) dX0_init_113 ?_
  refine g_cputF (i := 0) (fs' := [.ref a0, .int 0, .ref a1, .ref a2, .ref a3, .null, .int 0, .int 0, .int 0, .int 0, .int 0, .int 0, .null, .null, .int 0, .null, .null, .null, .null, .null, .int 0, .null, .null, .null, .int 0, .null, .null, .null, .int 0, .int 0, .null, .null, .int 0, .null, .null, .long 0, .long 0, .null, .null, .null, .null, .null, .null, .null, .null, .null, .int 0, .int 0]) C (hin rfl) pFX0_52 (Nat.le_of_ble_eq_true rfl) rfl rfl (Nat.le_of_ble_eq_true rfl) rfl rfl rfl dX0_init_114 ?_
  refine g_aload_n C dX0_init_117 0 rfl ?_
  refine g_iconst C dX0_init_118 kc_m1 ?_
  refine g_cput (i := 0) (fs' := [.ref a0, .int 0, .ref a1, .ref a2, .ref a3, .null, .int 0, .int 0, .int 0, .int 0, .int 0, .int (-1 : Int32), .null, .null, .int 0, .null, .null, .null, .null, .null, .int 0, .null, .null, .null, .int 0, .null, .null, .null, .int 0, .int 0, .null, .null, .int 0, .null, .null, .long 0, .long 0, .null, .null, .null, .null, .null, .null, .null, .null, .null, .int 0, .int 0]) C pX0_55 (Nat.le_of_ble_eq_true rfl) rfl rfl (Nat.le_of_ble_eq_true rfl) rfl rfl rfl dX0_init_119 ?_
  refine g_aload_n C dX0_init_122 0 rfl ?_
  refine g_cnew C nX0_59 (Nat.le_trans (Nat.le_of_ble_eq_true rfl) hcz) (Nat.le_trans (Nat.le_of_ble_eq_true rfl) hsz) dX0_init_123 (fun a4 => ?_)
  refine g_dup C dX0_init_126 rfl ?_
  refine g_wcallIN (As := []) (rest := [.ref a4, .ref th]) C (w_cText (i := 5) (Nat.le_of_ble_eq_true rfl) rfl) hX rfl (List.mem_of_getElem? (i := 0) rfl) q141 q89 q142 rfl msX1_init rfl ⟨(Nat.le_of_ble_eq_true rfl), (Nat.le_of_ble_eq_true rfl)⟩ (Nat.le_of_ble_eq_true rfl) dX0_init_127 ⟨Nat.le_trans (Nat.le_of_ble_eq_true rfl) hcz, Nat.le_trans (Nat.le_of_ble_eq_true rfl) hsz⟩ (fun _ _ hR => ?_)
  obtain ⟨b5, rfl⟩ := hR
  refine g_cput (i := 0) (fs' := [.ref a0, .int 0, .ref a1, .ref a2, .ref a3, .null, .int 0, .int 0, .int 0, .int 0, .int 0, .int (-1 : Int32), .ref a4, .null, .int 0, .null, .null, .null, .null, .null, .int 0, .null, .null, .null, .int 0, .null, .null, .null, .int 0, .int 0, .null, .null, .int 0, .null, .null, .long 0, .long 0, .null, .null, .null, .null, .null, .null, .null, .null, .null, .int 0, .int 0]) C pX0_62 (Nat.le_of_ble_eq_true rfl) rfl rfl (Nat.le_of_ble_eq_true rfl) rfl rfl rfl dX0_init_130 ?_
  refine g_aload_n C dX0_init_133 0 rfl ?_
  refine g_bipush C dX0_init_134 kb_9 ?_
  refine g_cnewQ (t := 5) (N' := 9) (Cn := "DoughDebts$House") C rfl (by decide) q160 (by decide) rfl (by decide) (Nat.le_trans (Nat.le_of_ble_eq_true rfl) hcz) (Nat.le_trans (Nat.le_of_ble_eq_true rfl) hsz) dX0_init_136 (fun a6 => ?_)
  refine g_cputF (i := 0) (fs' := [.ref a0, .int 0, .ref a1, .ref a2, .ref a3, .null, .int 0, .int 0, .int 0, .int 0, .int 0, .int (-1 : Int32), .ref a4, .ref a6, .int 0, .null, .null, .null, .null, .null, .int 0, .null, .null, .null, .int 0, .null, .null, .null, .int 0, .int 0, .null, .null, .int 0, .null, .null, .long 0, .long 0, .null, .null, .null, .null, .null, .null, .null, .null, .null, .int 0, .int 0]) C (hin rfl) pFX0_68 (Nat.le_of_ble_eq_true rfl) rfl rfl (Nat.le_of_ble_eq_true rfl) rfl rfl rfl dX0_init_139 ?_
  refine g_aload_n C dX0_init_142 0 rfl ?_
  refine g_iconst C dX0_init_143 kc_4 ?_
  refine g_cnewI (N' := 4) C rfl (by decide) rfl (by decide) (Nat.le_trans (Nat.le_of_ble_eq_true rfl) hcz) (Nat.le_trans (Nat.le_of_ble_eq_true rfl) hsz) dX0_init_144 (fun a7 => ?_)
  refine g_dup C dX0_init_146 rfl ?_
  refine g_iconst C dX0_init_147 kc_0 ?_
  refine g_bipush C dX0_init_148 kb_10 ?_
  refine g_ciast (i := 9) C rfl (Nat.le_of_ble_eq_true rfl) rfl rfl (by decide) dX0_init_150 ?_
  refine g_dup C dX0_init_151 rfl ?_
  refine g_iconst C dX0_init_152 kc_1 ?_
  refine g_iconst C dX0_init_153 kc_1 ?_
  refine g_ciast (i := 9) C rfl (Nat.le_of_ble_eq_true rfl) rfl rfl (by decide) dX0_init_154 ?_
  refine g_dup C dX0_init_155 rfl ?_
  refine g_iconst C dX0_init_156 kc_2 ?_
  refine g_iconst C dX0_init_157 kc_1 ?_
  refine g_ciast (i := 9) C rfl (Nat.le_of_ble_eq_true rfl) rfl rfl (by decide) dX0_init_158 ?_
  refine g_dup C dX0_init_159 rfl ?_
  refine g_iconst C dX0_init_160 kc_3 ?_
  refine g_iconst C dX0_init_161 kc_0 ?_
  refine g_ciast (i := 9) C rfl (Nat.le_of_ble_eq_true rfl) rfl rfl (by decide) dX0_init_162 ?_
  refine g_cputF (i := 0) (fs' := [.ref a0, .int 0, .ref a1, .ref a2, .ref a3, .null, .int 0, .int 0, .int 0, .int 0, .int 0, .int (-1 : Int32), .ref a4, .ref a6, .int 0, .ref a7, .null, .null, .null, .null, .int 0, .null, .null, .null, .int 0, .null, .null, .null, .int 0, .int 0, .null, .null, .int 0, .null, .null, .long 0, .long 0, .null, .null, .null, .null, .null, .null, .null, .null, .null, .int 0, .int 0]) C (hin rfl) pFX0_72 (Nat.le_of_ble_eq_true rfl) rfl rfl (Nat.le_of_ble_eq_true rfl) rfl rfl rfl dX0_init_163 ?_
  refine g_aload_n C dX0_init_166 0 rfl ?_
  refine g_iconst C dX0_init_167 kc_4 ?_
  refine g_cnewI (N' := 4) C rfl (by decide) rfl (by decide) (Nat.le_trans (Nat.le_of_ble_eq_true rfl) hcz) (Nat.le_trans (Nat.le_of_ble_eq_true rfl) hsz) dX0_init_168 (fun a8 => ?_)
  refine g_dup C dX0_init_170 rfl ?_
  refine g_iconst C dX0_init_171 kc_0 ?_
  refine g_bipush C dX0_init_172 kb_99 ?_
  refine g_ciast (i := 10) C rfl (Nat.le_of_ble_eq_true rfl) rfl rfl (by decide) dX0_init_174 ?_
  refine g_dup C dX0_init_175 rfl ?_
  refine g_iconst C dX0_init_176 kc_1 ?_
  refine g_bipush C dX0_init_177 kb_99 ?_
  refine g_ciast (i := 10) C rfl (Nat.le_of_ble_eq_true rfl) rfl rfl (by decide) dX0_init_179 ?_
  refine g_dup C dX0_init_180 rfl ?_
  refine g_iconst C dX0_init_181 kc_2 ?_
  refine g_bipush C dX0_init_182 kb_99 ?_
  refine g_ciast (i := 10) C rfl (Nat.le_of_ble_eq_true rfl) rfl rfl (by decide) dX0_init_184 ?_
  refine g_dup C dX0_init_185 rfl ?_
  refine g_iconst C dX0_init_186 kc_3 ?_
  refine g_bipush C dX0_init_187 kb_100 ?_
  refine g_ciast (i := 10) C rfl (Nat.le_of_ble_eq_true rfl) rfl rfl (by decide) dX0_init_189 ?_
  refine g_cputF (i := 0) (fs' := [.ref a0, .int 0, .ref a1, .ref a2, .ref a3, .null, .int 0, .int 0, .int 0, .int 0, .int 0, .int (-1 : Int32), .ref a4, .ref a6, .int 0, .ref a7, .ref a8, .null, .null, .null, .int 0, .null, .null, .null, .int 0, .null, .null, .null, .int 0, .int 0, .null, .null, .int 0, .null, .null, .long 0, .long 0, .null, .null, .null, .null, .null, .null, .null, .null, .null, .int 0, .int 0]) C (hin rfl) pFX0_76 (Nat.le_of_ble_eq_true rfl) rfl rfl (Nat.le_of_ble_eq_true rfl) rfl rfl rfl dX0_init_190 ?_
  refine g_aload_n C dX0_init_193 0 rfl ?_
  refine g_cnew C nX0_79 (Nat.le_trans (Nat.le_of_ble_eq_true rfl) hcz) (Nat.le_trans (Nat.le_of_ble_eq_true rfl) hsz) dX0_init_194 (fun a9 => ?_)
  refine g_dup C dX0_init_197 rfl ?_
  refine g_wcallIN (As := []) (rest := [.ref a9, .ref th]) C (w_cDays (i := 11) (Nat.le_of_ble_eq_true rfl) rfl) hX rfl (List.mem_of_getElem? (i := 1) rfl) q165 q90 q166 rfl msX2_init rfl ⟨(Nat.le_of_ble_eq_true rfl), (Nat.le_of_ble_eq_true rfl)⟩ (Nat.le_of_ble_eq_true rfl) dX0_init_198 ⟨Nat.le_trans (Nat.le_of_ble_eq_true rfl) hcz, Nat.le_trans (Nat.le_of_ble_eq_true rfl) hsz⟩ (fun _ _ hR => ?_)
  obtain ⟨b10, rfl⟩ := hR
  refine g_cputF (i := 0) (fs' := [.ref a0, .int 0, .ref a1, .ref a2, .ref a3, .null, .int 0, .int 0, .int 0, .int 0, .int 0, .int (-1 : Int32), .ref a4, .ref a6, .int 0, .ref a7, .ref a8, .ref a9, .null, .null, .int 0, .null, .null, .null, .int 0, .null, .null, .null, .int 0, .int 0, .null, .null, .int 0, .null, .null, .long 0, .long 0, .null, .null, .null, .null, .null, .null, .null, .null, .null, .int 0, .int 0]) C (hin rfl) pFX0_82 (Nat.le_of_ble_eq_true rfl) rfl rfl (Nat.le_of_ble_eq_true rfl) rfl rfl rfl dX0_init_201 ?_
  refine g_aload_n C dX0_init_204 0 rfl ?_
  refine g_cnew C nX0_79 (Nat.le_trans (Nat.le_of_ble_eq_true rfl) hcz) (Nat.le_trans (Nat.le_of_ble_eq_true rfl) hsz) dX0_init_205 (fun a11 => ?_)
  refine g_dup C dX0_init_208 rfl ?_
  refine g_wcallIN (As := []) (rest := [.ref a11, .ref th]) C (w_cDays (i := 19) (Nat.le_of_ble_eq_true rfl) rfl) hX rfl (List.mem_of_getElem? (i := 1) rfl) q165 q90 q166 rfl msX2_init rfl ⟨(Nat.le_of_ble_eq_true rfl), (Nat.le_of_ble_eq_true rfl)⟩ (Nat.le_of_ble_eq_true rfl) dX0_init_209 ⟨Nat.le_trans (Nat.le_of_ble_eq_true rfl) hcz, Nat.le_trans (Nat.le_of_ble_eq_true rfl) hsz⟩ (fun _ _ hR => ?_)
  obtain ⟨b12, rfl⟩ := hR
  refine g_cputF (i := 0) (fs' := [.ref a0, .int 0, .ref a1, .ref a2, .ref a3, .null, .int 0, .int 0, .int 0, .int 0, .int 0, .int (-1 : Int32), .ref a4, .ref a6, .int 0, .ref a7, .ref a8, .ref a9, .ref a11, .null, .int 0, .null, .null, .null, .int 0, .null, .null, .null, .int 0, .int 0, .null, .null, .int 0, .null, .null, .long 0, .long 0, .null, .null, .null, .null, .null, .null, .null, .null, .null, .int 0, .int 0]) C (hin rfl) pFX0_86 (Nat.le_of_ble_eq_true rfl) rfl rfl (Nat.le_of_ble_eq_true rfl) rfl rfl rfl dX0_init_212 ?_
  refine g_aload_n C dX0_init_215 0 rfl ?_
  refine g_bipush C dX0_init_216 kb_8 ?_
  refine g_cnewQ (t := 7) (N' := 8) (Cn := "DoughDebts$Days") C rfl (by decide) q162 (by decide) rfl (by decide) (Nat.le_trans (Nat.le_of_ble_eq_true rfl) hcz) (Nat.le_trans (Nat.le_of_ble_eq_true rfl) hsz) dX0_init_218 (fun a13 => ?_)
  refine g_dup C dX0_init_221 rfl ?_
  refine g_iconst C dX0_init_222 kc_0 ?_
  refine g_cnew C nX0_79 (Nat.le_trans (Nat.le_of_ble_eq_true rfl) hcz) (Nat.le_trans (Nat.le_of_ble_eq_true rfl) hsz) dX0_init_223 (fun a14 => ?_)
  refine g_dup C dX0_init_226 rfl ?_
  refine g_wcallIN (As := []) (rest := [.ref a14, .int (0 : Int32), .ref a13, .ref a13, .ref th]) C (w_cDays (i := 28) (Nat.le_of_ble_eq_true rfl) rfl) hX rfl (List.mem_of_getElem? (i := 1) rfl) q165 q90 q166 rfl msX2_init rfl ⟨(Nat.le_of_ble_eq_true rfl), (Nat.le_of_ble_eq_true rfl)⟩ (Nat.le_of_ble_eq_true rfl) dX0_init_227 ⟨Nat.le_trans (Nat.le_of_ble_eq_true rfl) hcz, Nat.le_trans (Nat.le_of_ble_eq_true rfl) hsz⟩ (fun _ _ hR => ?_)
  obtain ⟨b15, rfl⟩ := hR
  refine g_caastO (i := 27) (j := 28) C rfl (Nat.le_of_ble_eq_true rfl) rfl rfl (Nat.le_of_ble_eq_true rfl) rfl rfl rfl (by decide) dX0_init_230 ?_
  refine g_dup C dX0_init_231 rfl ?_
  refine g_iconst C dX0_init_232 kc_1 ?_
  refine g_cnew C nX0_79 (Nat.le_trans (Nat.le_of_ble_eq_true rfl) hcz) (Nat.le_trans (Nat.le_of_ble_eq_true rfl) hsz) dX0_init_233 (fun a16 => ?_)
  refine g_dup C dX0_init_236 rfl ?_
  refine g_wcallIN (As := []) (rest := [.ref a16, .int (1 : Int32), .ref a13, .ref a13, .ref th]) C (w_cDays (i := 36) (Nat.le_of_ble_eq_true rfl) rfl) hX rfl (List.mem_of_getElem? (i := 1) rfl) q165 q90 q166 rfl msX2_init rfl ⟨(Nat.le_of_ble_eq_true rfl), (Nat.le_of_ble_eq_true rfl)⟩ (Nat.le_of_ble_eq_true rfl) dX0_init_237 ⟨Nat.le_trans (Nat.le_of_ble_eq_true rfl) hcz, Nat.le_trans (Nat.le_of_ble_eq_true rfl) hsz⟩ (fun _ _ hR => ?_)
  obtain ⟨b17, rfl⟩ := hR
  refine g_caastO (i := 27) (j := 36) C rfl (Nat.le_of_ble_eq_true rfl) rfl rfl (Nat.le_of_ble_eq_true rfl) rfl rfl rfl (by decide) dX0_init_240 ?_
  refine g_dup C dX0_init_241 rfl ?_
  refine g_iconst C dX0_init_242 kc_2 ?_
  refine g_cnew C nX0_79 (Nat.le_trans (Nat.le_of_ble_eq_true rfl) hcz) (Nat.le_trans (Nat.le_of_ble_eq_true rfl) hsz) dX0_init_243 (fun a18 => ?_)
  refine g_dup C dX0_init_246 rfl ?_
  refine g_wcallIN (As := []) (rest := [.ref a18, .int (2 : Int32), .ref a13, .ref a13, .ref th]) C (w_cDays (i := 44) (Nat.le_of_ble_eq_true rfl) rfl) hX rfl (List.mem_of_getElem? (i := 1) rfl) q165 q90 q166 rfl msX2_init rfl ⟨(Nat.le_of_ble_eq_true rfl), (Nat.le_of_ble_eq_true rfl)⟩ (Nat.le_of_ble_eq_true rfl) dX0_init_247 ⟨Nat.le_trans (Nat.le_of_ble_eq_true rfl) hcz, Nat.le_trans (Nat.le_of_ble_eq_true rfl) hsz⟩ (fun _ _ hR => ?_)
  obtain ⟨b19, rfl⟩ := hR
  refine g_caastO (i := 27) (j := 44) C rfl (Nat.le_of_ble_eq_true rfl) rfl rfl (Nat.le_of_ble_eq_true rfl) rfl rfl rfl (by decide) dX0_init_250 ?_
  refine g_dup C dX0_init_251 rfl ?_
  refine g_iconst C dX0_init_252 kc_3 ?_
  refine g_cnew C nX0_79 (Nat.le_trans (Nat.le_of_ble_eq_true rfl) hcz) (Nat.le_trans (Nat.le_of_ble_eq_true rfl) hsz) dX0_init_253 (fun a20 => ?_)
  refine g_dup C dX0_init_256 rfl ?_
  refine g_wcallIN (As := []) (rest := [.ref a20, .int (3 : Int32), .ref a13, .ref a13, .ref th]) C (w_cDays (i := 52) (Nat.le_of_ble_eq_true rfl) rfl) hX rfl (List.mem_of_getElem? (i := 1) rfl) q165 q90 q166 rfl msX2_init rfl ⟨(Nat.le_of_ble_eq_true rfl), (Nat.le_of_ble_eq_true rfl)⟩ (Nat.le_of_ble_eq_true rfl) dX0_init_257 ⟨Nat.le_trans (Nat.le_of_ble_eq_true rfl) hcz, Nat.le_trans (Nat.le_of_ble_eq_true rfl) hsz⟩ (fun _ _ hR => ?_)
  obtain ⟨b21, rfl⟩ := hR
  refine g_caastO (i := 27) (j := 52) C rfl (Nat.le_of_ble_eq_true rfl) rfl rfl (Nat.le_of_ble_eq_true rfl) rfl rfl rfl (by decide) dX0_init_260 ?_
  refine g_dup C dX0_init_261 rfl ?_
  refine g_iconst C dX0_init_262 kc_4 ?_
  refine g_cnew C nX0_79 (Nat.le_trans (Nat.le_of_ble_eq_true rfl) hcz) (Nat.le_trans (Nat.le_of_ble_eq_true rfl) hsz) dX0_init_263 (fun a22 => ?_)
  refine g_dup C dX0_init_266 rfl ?_
  refine g_wcallIN (As := []) (rest := [.ref a22, .int (4 : Int32), .ref a13, .ref a13, .ref th]) C (w_cDays (i := 60) (Nat.le_of_ble_eq_true rfl) rfl) hX rfl (List.mem_of_getElem? (i := 1) rfl) q165 q90 q166 rfl msX2_init rfl ⟨(Nat.le_of_ble_eq_true rfl), (Nat.le_of_ble_eq_true rfl)⟩ (Nat.le_of_ble_eq_true rfl) dX0_init_267 ⟨Nat.le_trans (Nat.le_of_ble_eq_true rfl) hcz, Nat.le_trans (Nat.le_of_ble_eq_true rfl) hsz⟩ (fun _ _ hR => ?_)
  obtain ⟨b23, rfl⟩ := hR
  refine g_caastO (i := 27) (j := 60) C rfl (Nat.le_of_ble_eq_true rfl) rfl rfl (Nat.le_of_ble_eq_true rfl) rfl rfl rfl (by decide) dX0_init_270 ?_
  refine g_dup C dX0_init_271 rfl ?_
  refine g_iconst C dX0_init_272 kc_5 ?_
  refine g_cnew C nX0_79 (Nat.le_trans (Nat.le_of_ble_eq_true rfl) hcz) (Nat.le_trans (Nat.le_of_ble_eq_true rfl) hsz) dX0_init_273 (fun a24 => ?_)
  refine g_dup C dX0_init_276 rfl ?_
  refine g_wcallIN (As := []) (rest := [.ref a24, .int (5 : Int32), .ref a13, .ref a13, .ref th]) C (w_cDays (i := 68) (Nat.le_of_ble_eq_true rfl) rfl) hX rfl (List.mem_of_getElem? (i := 1) rfl) q165 q90 q166 rfl msX2_init rfl ⟨(Nat.le_of_ble_eq_true rfl), (Nat.le_of_ble_eq_true rfl)⟩ (Nat.le_of_ble_eq_true rfl) dX0_init_277 ⟨Nat.le_trans (Nat.le_of_ble_eq_true rfl) hcz, Nat.le_trans (Nat.le_of_ble_eq_true rfl) hsz⟩ (fun _ _ hR => ?_)
  obtain ⟨b25, rfl⟩ := hR
  refine g_caastO (i := 27) (j := 68) C rfl (Nat.le_of_ble_eq_true rfl) rfl rfl (Nat.le_of_ble_eq_true rfl) rfl rfl rfl (by decide) dX0_init_280 ?_
  refine g_dup C dX0_init_281 rfl ?_
  refine g_bipush C dX0_init_282 kb_6 ?_
  refine g_cnew C nX0_79 (Nat.le_trans (Nat.le_of_ble_eq_true rfl) hcz) (Nat.le_trans (Nat.le_of_ble_eq_true rfl) hsz) dX0_init_284 (fun a26 => ?_)
  refine g_dup C dX0_init_287 rfl ?_
  refine g_wcallIN (As := []) (rest := [.ref a26, .int (6 : Int32), .ref a13, .ref a13, .ref th]) C (w_cDays (i := 76) (Nat.le_of_ble_eq_true rfl) rfl) hX rfl (List.mem_of_getElem? (i := 1) rfl) q165 q90 q166 rfl msX2_init rfl ⟨(Nat.le_of_ble_eq_true rfl), (Nat.le_of_ble_eq_true rfl)⟩ (Nat.le_of_ble_eq_true rfl) dX0_init_288 ⟨Nat.le_trans (Nat.le_of_ble_eq_true rfl) hcz, Nat.le_trans (Nat.le_of_ble_eq_true rfl) hsz⟩ (fun _ _ hR => ?_)
  obtain ⟨b27, rfl⟩ := hR
  refine g_caastO (i := 27) (j := 76) C rfl (Nat.le_of_ble_eq_true rfl) rfl rfl (Nat.le_of_ble_eq_true rfl) rfl rfl rfl (by decide) dX0_init_291 ?_
  refine g_dup C dX0_init_292 rfl ?_
  refine g_bipush C dX0_init_293 kb_7 ?_
  refine g_cnew C nX0_79 (Nat.le_trans (Nat.le_of_ble_eq_true rfl) hcz) (Nat.le_trans (Nat.le_of_ble_eq_true rfl) hsz) dX0_init_295 (fun a28 => ?_)
  refine g_dup C dX0_init_298 rfl ?_
  refine g_wcallIN (As := []) (rest := [.ref a28, .int (7 : Int32), .ref a13, .ref a13, .ref th]) C (w_cDays (i := 84) (Nat.le_of_ble_eq_true rfl) rfl) hX rfl (List.mem_of_getElem? (i := 1) rfl) q165 q90 q166 rfl msX2_init rfl ⟨(Nat.le_of_ble_eq_true rfl), (Nat.le_of_ble_eq_true rfl)⟩ (Nat.le_of_ble_eq_true rfl) dX0_init_299 ⟨Nat.le_trans (Nat.le_of_ble_eq_true rfl) hcz, Nat.le_trans (Nat.le_of_ble_eq_true rfl) hsz⟩ (fun _ _ hR => ?_)
  obtain ⟨b29, rfl⟩ := hR
  refine g_caastO (i := 27) (j := 84) C rfl (Nat.le_of_ble_eq_true rfl) rfl rfl (Nat.le_of_ble_eq_true rfl) rfl rfl rfl (by decide) dX0_init_302 ?_
  refine g_cputF (i := 0) (fs' := [.ref a0, .int 0, .ref a1, .ref a2, .ref a3, .null, .int 0, .int 0, .int 0, .int 0, .int 0, .int (-1 : Int32), .ref a4, .ref a6, .int 0, .ref a7, .ref a8, .ref a9, .ref a11, .ref a13, .int 0, .null, .null, .null, .int 0, .null, .null, .null, .int 0, .int 0, .null, .null, .int 0, .null, .null, .long 0, .long 0, .null, .null, .null, .null, .null, .null, .null, .null, .null, .int 0, .int 0]) C (hin rfl) pFX0_89 (Nat.le_of_ble_eq_true rfl) rfl rfl (Nat.le_of_ble_eq_true rfl) rfl rfl rfl dX0_init_303 ?_
  refine g_aload_n C dX0_init_306 0 rfl ?_
  refine g_bipush C dX0_init_307 kb_10 ?_
  refine g_cnewI (N' := 10) C rfl (by decide) rfl (by decide) (Nat.le_trans (Nat.le_of_ble_eq_true rfl) hcz) (Nat.le_trans (Nat.le_of_ble_eq_true rfl) hsz) dX0_init_309 (fun a30 => ?_)
  refine g_cputF (i := 0) (fs' := [.ref a0, .int 0, .ref a1, .ref a2, .ref a3, .null, .int 0, .int 0, .int 0, .int 0, .int 0, .int (-1 : Int32), .ref a4, .ref a6, .int 0, .ref a7, .ref a8, .ref a9, .ref a11, .ref a13, .int 0, .ref a30, .null, .null, .int 0, .null, .null, .null, .int 0, .int 0, .null, .null, .int 0, .null, .null, .long 0, .long 0, .null, .null, .null, .null, .null, .null, .null, .null, .null, .int 0, .int 0]) C (hin rfl) pFX0_93 (Nat.le_of_ble_eq_true rfl) rfl rfl (Nat.le_of_ble_eq_true rfl) rfl rfl rfl dX0_init_311 ?_
  refine g_aload_n C dX0_init_314 0 rfl ?_
  refine g_bipush C dX0_init_315 kb_9 ?_
  refine g_cnewI (N' := 9) C rfl (by decide) rfl (by decide) (Nat.le_trans (Nat.le_of_ble_eq_true rfl) hcz) (Nat.le_trans (Nat.le_of_ble_eq_true rfl) hsz) dX0_init_317 (fun a31 => ?_)
  refine g_cputF (i := 0) (fs' := [.ref a0, .int 0, .ref a1, .ref a2, .ref a3, .null, .int 0, .int 0, .int 0, .int 0, .int 0, .int (-1 : Int32), .ref a4, .ref a6, .int 0, .ref a7, .ref a8, .ref a9, .ref a11, .ref a13, .int 0, .ref a30, .ref a31, .null, .int 0, .null, .null, .null, .int 0, .int 0, .null, .null, .int 0, .null, .null, .long 0, .long 0, .null, .null, .null, .null, .null, .null, .null, .null, .null, .int 0, .int 0]) C (hin rfl) pFX0_96 (Nat.le_of_ble_eq_true rfl) rfl rfl (Nat.le_of_ble_eq_true rfl) rfl rfl rfl dX0_init_319 ?_
  refine g_aload_n C dX0_init_322 0 rfl ?_
  refine g_bipush C dX0_init_323 kb_9 ?_
  refine g_cnewI (N' := 9) C rfl (by decide) rfl (by decide) (Nat.le_trans (Nat.le_of_ble_eq_true rfl) hcz) (Nat.le_trans (Nat.le_of_ble_eq_true rfl) hsz) dX0_init_325 (fun a32 => ?_)
  refine g_cputF (i := 0) (fs' := [.ref a0, .int 0, .ref a1, .ref a2, .ref a3, .null, .int 0, .int 0, .int 0, .int 0, .int 0, .int (-1 : Int32), .ref a4, .ref a6, .int 0, .ref a7, .ref a8, .ref a9, .ref a11, .ref a13, .int 0, .ref a30, .ref a31, .ref a32, .int 0, .null, .null, .null, .int 0, .int 0, .null, .null, .int 0, .null, .null, .long 0, .long 0, .null, .null, .null, .null, .null, .null, .null, .null, .null, .int 0, .int 0]) C (hin rfl) pFX0_99 (Nat.le_of_ble_eq_true rfl) rfl rfl (Nat.le_of_ble_eq_true rfl) rfl rfl rfl dX0_init_327 ?_
  refine g_aload_n C dX0_init_330 0 rfl ?_
  refine g_bipush C dX0_init_331 kb_9 ?_
  refine g_cnewI (N' := 9) C rfl (by decide) rfl (by decide) (Nat.le_trans (Nat.le_of_ble_eq_true rfl) hcz) (Nat.le_trans (Nat.le_of_ble_eq_true rfl) hsz) dX0_init_333 (fun a33 => ?_)
  refine g_cputF (i := 0) (fs' := [.ref a0, .int 0, .ref a1, .ref a2, .ref a3, .null, .int 0, .int 0, .int 0, .int 0, .int 0, .int (-1 : Int32), .ref a4, .ref a6, .int 0, .ref a7, .ref a8, .ref a9, .ref a11, .ref a13, .int 0, .ref a30, .ref a31, .ref a32, .int 0, .ref a33, .null, .null, .int 0, .int 0, .null, .null, .int 0, .null, .null, .long 0, .long 0, .null, .null, .null, .null, .null, .null, .null, .null, .null, .int 0, .int 0]) C (hin rfl) pFX0_102 (Nat.le_of_ble_eq_true rfl) rfl rfl (Nat.le_of_ble_eq_true rfl) rfl rfl rfl dX0_init_335 ?_
  refine g_aload_n C dX0_init_338 0 rfl ?_
  refine g_bipush C dX0_init_339 kb_9 ?_
  refine g_cnewI (N' := 9) C rfl (by decide) rfl (by decide) (Nat.le_trans (Nat.le_of_ble_eq_true rfl) hcz) (Nat.le_trans (Nat.le_of_ble_eq_true rfl) hsz) dX0_init_341 (fun a34 => ?_)
  refine g_cputF (i := 0) (fs' := [.ref a0, .int 0, .ref a1, .ref a2, .ref a3, .null, .int 0, .int 0, .int 0, .int 0, .int 0, .int (-1 : Int32), .ref a4, .ref a6, .int 0, .ref a7, .ref a8, .ref a9, .ref a11, .ref a13, .int 0, .ref a30, .ref a31, .ref a32, .int 0, .ref a33, .ref a34, .null, .int 0, .int 0, .null, .null, .int 0, .null, .null, .long 0, .long 0, .null, .null, .null, .null, .null, .null, .null, .null, .null, .int 0, .int 0]) C (hin rfl) pFX0_105 (Nat.le_of_ble_eq_true rfl) rfl rfl (Nat.le_of_ble_eq_true rfl) rfl rfl rfl dX0_init_343 ?_
  refine g_aload_n C dX0_init_346 0 rfl ?_
  refine g_bipush C dX0_init_347 kb_9 ?_
  refine g_cnewI (N' := 9) C rfl (by decide) rfl (by decide) (Nat.le_trans (Nat.le_of_ble_eq_true rfl) hcz) (Nat.le_trans (Nat.le_of_ble_eq_true rfl) hsz) dX0_init_349 (fun a35 => ?_)
  refine g_cputF (i := 0) (fs' := [.ref a0, .int 0, .ref a1, .ref a2, .ref a3, .null, .int 0, .int 0, .int 0, .int 0, .int 0, .int (-1 : Int32), .ref a4, .ref a6, .int 0, .ref a7, .ref a8, .ref a9, .ref a11, .ref a13, .int 0, .ref a30, .ref a31, .ref a32, .int 0, .ref a33, .ref a34, .ref a35, .int 0, .int 0, .null, .null, .int 0, .null, .null, .long 0, .long 0, .null, .null, .null, .null, .null, .null, .null, .null, .null, .int 0, .int 0]) C (hin rfl) pFX0_108 (Nat.le_of_ble_eq_true rfl) rfl rfl (Nat.le_of_ble_eq_true rfl) rfl rfl rfl dX0_init_351 ?_
  refine g_aload_n C dX0_init_354 0 rfl ?_
  refine g_sipush C dX0_init_355 ks_201 ?_
  refine g_bipush C dX0_init_358 kb_9 ?_
  refine g_cmulti (N := 201) (K := 9) C hAO rfl rfl q219 (by decide) (by decide) rfl rfl (by decide) (by decide) (by decide) (Nat.le_trans (Nat.le_of_ble_eq_true rfl) hcz) (Nat.le_trans (Nat.le_of_ble_eq_true rfl) hsz) dX0_init_360 (fun a36 => ?_)
  refine g_cputF (i := 0) (fs' := [.ref a0, .int 0, .ref a1, .ref a2, .ref a3, .null, .int 0, .int 0, .int 0, .int 0, .int 0, .int (-1 : Int32), .ref a4, .ref a6, .int 0, .ref a7, .ref a8, .ref a9, .ref a11, .ref a13, .int 0, .ref a30, .ref a31, .ref a32, .int 0, .ref a33, .ref a34, .ref a35, .int 0, .int 0, .ref a36, .null, .int 0, .null, .null, .long 0, .long 0, .null, .null, .null, .null, .null, .null, .null, .null, .null, .int 0, .int 0]) C (hin rfl) pFX0_113 (Nat.le_of_ble_eq_true rfl) rfl rfl (Nat.le_of_ble_eq_true rfl) rfl rfl rfl dX0_init_364 ?_
  refine g_aload_n C dX0_init_367 0 rfl ?_
  refine g_bipush C dX0_init_368 kb_60 ?_
  refine g_cnewQ (t := 6) (N' := 60) (Cn := "DoughDebts$Leaven") C rfl (by decide) q221 (by decide) rfl (by decide) (Nat.le_trans (Nat.le_of_ble_eq_true rfl) hcz) (Nat.le_trans (Nat.le_of_ble_eq_true rfl) hsz) dX0_init_370 (fun a37 => ?_)
  refine g_cputF (i := 0) (fs' := [.ref a0, .int 0, .ref a1, .ref a2, .ref a3, .null, .int 0, .int 0, .int 0, .int 0, .int 0, .int (-1 : Int32), .ref a4, .ref a6, .int 0, .ref a7, .ref a8, .ref a9, .ref a11, .ref a13, .int 0, .ref a30, .ref a31, .ref a32, .int 0, .ref a33, .ref a34, .ref a35, .int 0, .int 0, .ref a36, .ref a37, .int 0, .null, .null, .long 0, .long 0, .null, .null, .null, .null, .null, .null, .null, .null, .null, .int 0, .int 0]) C (hin rfl) pFX0_118 (Nat.le_of_ble_eq_true rfl) rfl rfl (Nat.le_of_ble_eq_true rfl) rfl rfl rfl dX0_init_373 ?_
  refine g_aload_n C dX0_init_376 0 rfl ?_
  refine g_bipush C dX0_init_377 kb_60 ?_
  refine g_cnewJ (N' := 60) C rfl (by decide) rfl (by decide) (Nat.le_trans (Nat.le_of_ble_eq_true rfl) hcz) (Nat.le_trans (Nat.le_of_ble_eq_true rfl) hsz) dX0_init_379 (fun a38 => ?_)
  refine g_cputF (i := 0) (fs' := [.ref a0, .int 0, .ref a1, .ref a2, .ref a3, .null, .int 0, .int 0, .int 0, .int 0, .int 0, .int (-1 : Int32), .ref a4, .ref a6, .int 0, .ref a7, .ref a8, .ref a9, .ref a11, .ref a13, .int 0, .ref a30, .ref a31, .ref a32, .int 0, .ref a33, .ref a34, .ref a35, .int 0, .int 0, .ref a36, .ref a37, .int 0, .ref a38, .null, .long 0, .long 0, .null, .null, .null, .null, .null, .null, .null, .null, .null, .int 0, .int 0]) C (hin rfl) pFX0_122 (Nat.le_of_ble_eq_true rfl) rfl rfl (Nat.le_of_ble_eq_true rfl) rfl rfl rfl dX0_init_381 ?_
  refine g_aload_n C dX0_init_384 0 rfl ?_
  refine g_bipush C dX0_init_385 kb_8 ?_
  refine g_bipush C dX0_init_387 kb_8 ?_
  refine g_cmulti (N := 8) (K := 8) C hAO rfl rfl q219 (by decide) (by decide) rfl rfl (by decide) (by decide) (by decide) (Nat.le_trans (Nat.le_of_ble_eq_true rfl) hcz) (Nat.le_trans (Nat.le_of_ble_eq_true rfl) hsz) dX0_init_389 (fun a39 => ?_)
  refine g_cputF (i := 0) (fs' := [.ref a0, .int 0, .ref a1, .ref a2, .ref a3, .null, .int 0, .int 0, .int 0, .int 0, .int 0, .int (-1 : Int32), .ref a4, .ref a6, .int 0, .ref a7, .ref a8, .ref a9, .ref a11, .ref a13, .int 0, .ref a30, .ref a31, .ref a32, .int 0, .ref a33, .ref a34, .ref a35, .int 0, .int 0, .ref a36, .ref a37, .int 0, .ref a38, .ref a39, .long 0, .long 0, .null, .null, .null, .null, .null, .null, .null, .null, .null, .int 0, .int 0]) C (hin rfl) pFX0_126 (Nat.le_of_ble_eq_true rfl) rfl rfl (Nat.le_of_ble_eq_true rfl) rfl rfl rfl dX0_init_393 ?_
  refine g_aload_n C dX0_init_396 0 rfl ?_
  refine g_bipush C dX0_init_397 kb_9 ?_
  refine g_bipush C dX0_init_399 kb_9 ?_
  refine g_cmulti (N := 9) (K := 9) C hAO rfl rfl q219 (by decide) (by decide) rfl rfl (by decide) (by decide) (by decide) (Nat.le_trans (Nat.le_of_ble_eq_true rfl) hcz) (Nat.le_trans (Nat.le_of_ble_eq_true rfl) hsz) dX0_init_401 (fun a40 => ?_)
  refine g_cputF (i := 0) (fs' := [.ref a0, .int 0, .ref a1, .ref a2, .ref a3, .null, .int 0, .int 0, .int 0, .int 0, .int 0, .int (-1 : Int32), .ref a4, .ref a6, .int 0, .ref a7, .ref a8, .ref a9, .ref a11, .ref a13, .int 0, .ref a30, .ref a31, .ref a32, .int 0, .ref a33, .ref a34, .ref a35, .int 0, .int 0, .ref a36, .ref a37, .int 0, .ref a38, .ref a39, .long 0, .long 0, .ref a40, .null, .null, .null, .null, .null, .null, .null, .null, .int 0, .int 0]) C (hin rfl) pFX0_129 (Nat.le_of_ble_eq_true rfl) rfl rfl (Nat.le_of_ble_eq_true rfl) rfl rfl rfl dX0_init_405 ?_
  refine g_aload_n C dX0_init_408 0 rfl ?_
  refine g_sipush C dX0_init_409 ks_512 ?_
  refine g_cnewI (N' := 512) C rfl (by decide) rfl (by decide) (Nat.le_trans (Nat.le_of_ble_eq_true rfl) hcz) (Nat.le_trans (Nat.le_of_ble_eq_true rfl) hsz) dX0_init_412 (fun a41 => ?_)
  refine g_cputF (i := 0) (fs' := [.ref a0, .int 0, .ref a1, .ref a2, .ref a3, .null, .int 0, .int 0, .int 0, .int 0, .int 0, .int (-1 : Int32), .ref a4, .ref a6, .int 0, .ref a7, .ref a8, .ref a9, .ref a11, .ref a13, .int 0, .ref a30, .ref a31, .ref a32, .int 0, .ref a33, .ref a34, .ref a35, .int 0, .int 0, .ref a36, .ref a37, .int 0, .ref a38, .ref a39, .long 0, .long 0, .ref a40, .ref a41, .null, .null, .null, .null, .null, .null, .null, .int 0, .int 0]) C (hin rfl) pFX0_132 (Nat.le_of_ble_eq_true rfl) rfl rfl (Nat.le_of_ble_eq_true rfl) rfl rfl rfl dX0_init_414 ?_
  refine g_aload_n C dX0_init_417 0 rfl ?_
  refine g_sipush C dX0_init_418 ks_512 ?_
  refine g_cnewI (N' := 512) C rfl (by decide) rfl (by decide) (Nat.le_trans (Nat.le_of_ble_eq_true rfl) hcz) (Nat.le_trans (Nat.le_of_ble_eq_true rfl) hsz) dX0_init_421 (fun a42 => ?_)
  refine g_cputF (i := 0) (fs' := [.ref a0, .int 0, .ref a1, .ref a2, .ref a3, .null, .int 0, .int 0, .int 0, .int 0, .int 0, .int (-1 : Int32), .ref a4, .ref a6, .int 0, .ref a7, .ref a8, .ref a9, .ref a11, .ref a13, .int 0, .ref a30, .ref a31, .ref a32, .int 0, .ref a33, .ref a34, .ref a35, .int 0, .int 0, .ref a36, .ref a37, .int 0, .ref a38, .ref a39, .long 0, .long 0, .ref a40, .ref a41, .ref a42, .null, .null, .null, .null, .null, .null, .int 0, .int 0]) C (hin rfl) pFX0_135 (Nat.le_of_ble_eq_true rfl) rfl rfl (Nat.le_of_ble_eq_true rfl) rfl rfl rfl dX0_init_423 ?_
  refine g_aload_n C dX0_init_426 0 rfl ?_
  refine g_bipush C dX0_init_427 kb_9 ?_
  refine g_cnewQ (t := 5) (N' := 9) (Cn := "DoughDebts$House") C rfl (by decide) q160 (by decide) rfl (by decide) (Nat.le_trans (Nat.le_of_ble_eq_true rfl) hcz) (Nat.le_trans (Nat.le_of_ble_eq_true rfl) hsz) dX0_init_429 (fun a43 => ?_)
  refine g_cputF (i := 0) (fs' := [.ref a0, .int 0, .ref a1, .ref a2, .ref a3, .null, .int 0, .int 0, .int 0, .int 0, .int 0, .int (-1 : Int32), .ref a4, .ref a6, .int 0, .ref a7, .ref a8, .ref a9, .ref a11, .ref a13, .int 0, .ref a30, .ref a31, .ref a32, .int 0, .ref a33, .ref a34, .ref a35, .int 0, .int 0, .ref a36, .ref a37, .int 0, .ref a38, .ref a39, .long 0, .long 0, .ref a40, .ref a41, .ref a42, .ref a43, .null, .null, .null, .null, .null, .int 0, .int 0]) C (hin rfl) pFX0_138 (Nat.le_of_ble_eq_true rfl) rfl rfl (Nat.le_of_ble_eq_true rfl) rfl rfl rfl dX0_init_432 ?_
  refine g_aload_n C dX0_init_435 0 rfl ?_
  refine g_bipush C dX0_init_436 kb_60 ?_
  refine g_cnewQ (t := 6) (N' := 60) (Cn := "DoughDebts$Leaven") C rfl (by decide) q221 (by decide) rfl (by decide) (Nat.le_trans (Nat.le_of_ble_eq_true rfl) hcz) (Nat.le_trans (Nat.le_of_ble_eq_true rfl) hsz) dX0_init_438 (fun a44 => ?_)
  refine g_cputF (i := 0) (fs' := [.ref a0, .int 0, .ref a1, .ref a2, .ref a3, .null, .int 0, .int 0, .int 0, .int 0, .int 0, .int (-1 : Int32), .ref a4, .ref a6, .int 0, .ref a7, .ref a8, .ref a9, .ref a11, .ref a13, .int 0, .ref a30, .ref a31, .ref a32, .int 0, .ref a33, .ref a34, .ref a35, .int 0, .int 0, .ref a36, .ref a37, .int 0, .ref a38, .ref a39, .long 0, .long 0, .ref a40, .ref a41, .ref a42, .ref a43, .ref a44, .null, .null, .null, .null, .int 0, .int 0]) C (hin rfl) pFX0_141 (Nat.le_of_ble_eq_true rfl) rfl rfl (Nat.le_of_ble_eq_true rfl) rfl rfl rfl dX0_init_441 ?_
  refine g_aload_n C dX0_init_444 0 rfl ?_
  refine g_bipush C dX0_init_445 kb_8 ?_
  refine g_bipush C dX0_init_447 kb_8 ?_
  refine g_cmulti (N := 8) (K := 8) C hAO rfl rfl q219 (by decide) (by decide) rfl rfl (by decide) (by decide) (by decide) (Nat.le_trans (Nat.le_of_ble_eq_true rfl) hcz) (Nat.le_trans (Nat.le_of_ble_eq_true rfl) hsz) dX0_init_449 (fun a45 => ?_)
  refine g_cputF (i := 0) (fs' := [.ref a0, .int 0, .ref a1, .ref a2, .ref a3, .null, .int 0, .int 0, .int 0, .int 0, .int 0, .int (-1 : Int32), .ref a4, .ref a6, .int 0, .ref a7, .ref a8, .ref a9, .ref a11, .ref a13, .int 0, .ref a30, .ref a31, .ref a32, .int 0, .ref a33, .ref a34, .ref a35, .int 0, .int 0, .ref a36, .ref a37, .int 0, .ref a38, .ref a39, .long 0, .long 0, .ref a40, .ref a41, .ref a42, .ref a43, .ref a44, .ref a45, .null, .null, .null, .int 0, .int 0]) C (hin rfl) pFX0_144 (Nat.le_of_ble_eq_true rfl) rfl rfl (Nat.le_of_ble_eq_true rfl) rfl rfl rfl dX0_init_453 ?_
  refine g_aload_n C dX0_init_456 0 rfl ?_
  refine g_bipush C dX0_init_457 kb_9 ?_
  refine g_bipush C dX0_init_459 kb_9 ?_
  refine g_cmulti (N := 9) (K := 9) C hAO rfl rfl q219 (by decide) (by decide) rfl rfl (by decide) (by decide) (by decide) (Nat.le_trans (Nat.le_of_ble_eq_true rfl) hcz) (Nat.le_trans (Nat.le_of_ble_eq_true rfl) hsz) dX0_init_461 (fun a46 => ?_)
  refine g_cputF (i := 0) (fs' := [.ref a0, .int 0, .ref a1, .ref a2, .ref a3, .null, .int 0, .int 0, .int 0, .int 0, .int 0, .int (-1 : Int32), .ref a4, .ref a6, .int 0, .ref a7, .ref a8, .ref a9, .ref a11, .ref a13, .int 0, .ref a30, .ref a31, .ref a32, .int 0, .ref a33, .ref a34, .ref a35, .int 0, .int 0, .ref a36, .ref a37, .int 0, .ref a38, .ref a39, .long 0, .long 0, .ref a40, .ref a41, .ref a42, .ref a43, .ref a44, .ref a45, .ref a46, .null, .null, .int 0, .int 0]) C (hin rfl) pFX0_147 (Nat.le_of_ble_eq_true rfl) rfl rfl (Nat.le_of_ble_eq_true rfl) rfl rfl rfl dX0_init_465 ?_
  refine g_aload_n C dX0_init_468 0 rfl ?_
  refine g_iconst C dX0_init_469 kc_4 ?_
  refine g_cnewI (N' := 4) C rfl (by decide) rfl (by decide) (Nat.le_trans (Nat.le_of_ble_eq_true rfl) hcz) (Nat.le_trans (Nat.le_of_ble_eq_true rfl) hsz) dX0_init_470 (fun a47 => ?_)
  refine g_cputF (i := 0) (fs' := [.ref a0, .int 0, .ref a1, .ref a2, .ref a3, .null, .int 0, .int 0, .int 0, .int 0, .int 0, .int (-1 : Int32), .ref a4, .ref a6, .int 0, .ref a7, .ref a8, .ref a9, .ref a11, .ref a13, .int 0, .ref a30, .ref a31, .ref a32, .int 0, .ref a33, .ref a34, .ref a35, .int 0, .int 0, .ref a36, .ref a37, .int 0, .ref a38, .ref a39, .long 0, .long 0, .ref a40, .ref a41, .ref a42, .ref a43, .ref a44, .ref a45, .ref a46, .ref a47, .null, .int 0, .int 0]) C (hin rfl) pFX0_150 (Nat.le_of_ble_eq_true rfl) rfl rfl (Nat.le_of_ble_eq_true rfl) rfl rfl rfl dX0_init_472 ?_
  refine g_iconst C dX0_init_475 kc_0 ?_
  refine g_istore_n (i := 1) (lv' := [(1, .int (0 : Int32)), (0, .ref th)]) C dX0_init_476 rfl rfl (by decide) rfl ?_
  refine g_iload_n C dX0_init_477 0 rfl ?_
  refine g_bipush C dX0_init_478 kb_8 ?_
  refine g_icmp_ge 499 C dX0_init_480 rfl (fun h => absurd h (by decide)) (fun _ => ?_)
  refine g_aload_n C dX0_init_483 1 rfl ?_
  refine g_cget (i := 0) (v := .ref a39) C fX0_126 (Nat.le_of_ble_eq_true rfl) rfl rfl rfl dX0_init_484 ?_
  refine g_iload_n C dX0_init_487 0 rfl ?_
  refine g_caald (i := 302) C rfl (Nat.le_of_ble_eq_true rfl) rfl rfl rfl dX0_init_488 ?_
  refine g_iload_n C dX0_init_489 0 rfl ?_
  refine g_bipush C dX0_init_490 kb_9 ?_
  refine g_ciast (i := 303) C rfl (Nat.le_of_ble_eq_true rfl) (by rw [show Int32.toNatClampNeg (0 : Int32) = 0 by decide]; rfl) rfl (by decide) dX0_init_492 ?_
  refine g_iinc (lv' := [(1, .int (1 : Int32)), (0, .ref th)]) C dX0_init_493 (q := 0) rfl kc_1 (by decide) rfl ?_
  refine g_goto 477 C dX0_init_496 rfl ?_
  refine g_iload_n C dX0_init_477 0 rfl ?_
  refine g_bipush C dX0_init_478 kb_8 ?_
  refine g_icmp_ge 499 C dX0_init_480 rfl (fun h => absurd h (by decide)) (fun _ => ?_)
  refine g_aload_n C dX0_init_483 1 rfl ?_
  refine g_cget (i := 0) (v := .ref a39) C fX0_126 (Nat.le_of_ble_eq_true rfl) rfl rfl rfl dX0_init_484 ?_
  refine g_iload_n C dX0_init_487 0 rfl ?_
  refine g_caald (i := 302) C rfl (Nat.le_of_ble_eq_true rfl) rfl rfl rfl dX0_init_488 ?_
  refine g_iload_n C dX0_init_489 0 rfl ?_
  refine g_bipush C dX0_init_490 kb_9 ?_
  refine g_ciast (i := 304) C rfl (Nat.le_of_ble_eq_true rfl) (by rw [show Int32.toNatClampNeg (1 : Int32) = 1 by decide]; rfl) rfl (by decide) dX0_init_492 ?_
  refine g_iinc (lv' := [(1, .int (2 : Int32)), (0, .ref th)]) C dX0_init_493 (q := 0) rfl kc_1 (by decide) rfl ?_
  refine g_goto 477 C dX0_init_496 rfl ?_
  refine g_iload_n C dX0_init_477 0 rfl ?_
  refine g_bipush C dX0_init_478 kb_8 ?_
  refine g_icmp_ge 499 C dX0_init_480 rfl (fun h => absurd h (by decide)) (fun _ => ?_)
  refine g_aload_n C dX0_init_483 1 rfl ?_
  refine g_cget (i := 0) (v := .ref a39) C fX0_126 (Nat.le_of_ble_eq_true rfl) rfl rfl rfl dX0_init_484 ?_
  refine g_iload_n C dX0_init_487 0 rfl ?_
  refine g_caald (i := 302) C rfl (Nat.le_of_ble_eq_true rfl) rfl rfl rfl dX0_init_488 ?_
  refine g_iload_n C dX0_init_489 0 rfl ?_
  refine g_bipush C dX0_init_490 kb_9 ?_
  refine g_ciast (i := 305) C rfl (Nat.le_of_ble_eq_true rfl) (by rw [show Int32.toNatClampNeg (2 : Int32) = 2 by decide]; rfl) rfl (by decide) dX0_init_492 ?_
  refine g_iinc (lv' := [(1, .int (3 : Int32)), (0, .ref th)]) C dX0_init_493 (q := 0) rfl kc_1 (by decide) rfl ?_
  refine g_goto 477 C dX0_init_496 rfl ?_
  refine g_iload_n C dX0_init_477 0 rfl ?_
  refine g_bipush C dX0_init_478 kb_8 ?_
  refine g_icmp_ge 499 C dX0_init_480 rfl (fun h => absurd h (by decide)) (fun _ => ?_)
  refine g_aload_n C dX0_init_483 1 rfl ?_
  refine g_cget (i := 0) (v := .ref a39) C fX0_126 (Nat.le_of_ble_eq_true rfl) rfl rfl rfl dX0_init_484 ?_
  refine g_iload_n C dX0_init_487 0 rfl ?_
  refine g_caald (i := 302) C rfl (Nat.le_of_ble_eq_true rfl) rfl rfl rfl dX0_init_488 ?_
  refine g_iload_n C dX0_init_489 0 rfl ?_
  refine g_bipush C dX0_init_490 kb_9 ?_
  refine g_ciast (i := 306) C rfl (Nat.le_of_ble_eq_true rfl) (by rw [show Int32.toNatClampNeg (3 : Int32) = 3 by decide]; rfl) rfl (by decide) dX0_init_492 ?_
  refine g_iinc (lv' := [(1, .int (4 : Int32)), (0, .ref th)]) C dX0_init_493 (q := 0) rfl kc_1 (by decide) rfl ?_
  refine g_goto 477 C dX0_init_496 rfl ?_
  refine g_iload_n C dX0_init_477 0 rfl ?_
  refine g_bipush C dX0_init_478 kb_8 ?_
  refine g_icmp_ge 499 C dX0_init_480 rfl (fun h => absurd h (by decide)) (fun _ => ?_)
  refine g_aload_n C dX0_init_483 1 rfl ?_
  refine g_cget (i := 0) (v := .ref a39) C fX0_126 (Nat.le_of_ble_eq_true rfl) rfl rfl rfl dX0_init_484 ?_
  refine g_iload_n C dX0_init_487 0 rfl ?_
  refine g_caald (i := 302) C rfl (Nat.le_of_ble_eq_true rfl) rfl rfl rfl dX0_init_488 ?_
  refine g_iload_n C dX0_init_489 0 rfl ?_
  refine g_bipush C dX0_init_490 kb_9 ?_
  refine g_ciast (i := 307) C rfl (Nat.le_of_ble_eq_true rfl) (by rw [show Int32.toNatClampNeg (4 : Int32) = 4 by decide]; rfl) rfl (by decide) dX0_init_492 ?_
  refine g_iinc (lv' := [(1, .int (5 : Int32)), (0, .ref th)]) C dX0_init_493 (q := 0) rfl kc_1 (by decide) rfl ?_
  refine g_goto 477 C dX0_init_496 rfl ?_
  refine g_iload_n C dX0_init_477 0 rfl ?_
  refine g_bipush C dX0_init_478 kb_8 ?_
  refine g_icmp_ge 499 C dX0_init_480 rfl (fun h => absurd h (by decide)) (fun _ => ?_)
  refine g_aload_n C dX0_init_483 1 rfl ?_
  refine g_cget (i := 0) (v := .ref a39) C fX0_126 (Nat.le_of_ble_eq_true rfl) rfl rfl rfl dX0_init_484 ?_
  refine g_iload_n C dX0_init_487 0 rfl ?_
  refine g_caald (i := 302) C rfl (Nat.le_of_ble_eq_true rfl) rfl rfl rfl dX0_init_488 ?_
  refine g_iload_n C dX0_init_489 0 rfl ?_
  refine g_bipush C dX0_init_490 kb_9 ?_
  refine g_ciast (i := 308) C rfl (Nat.le_of_ble_eq_true rfl) (by rw [show Int32.toNatClampNeg (5 : Int32) = 5 by decide]; rfl) rfl (by decide) dX0_init_492 ?_
  refine g_iinc (lv' := [(1, .int (6 : Int32)), (0, .ref th)]) C dX0_init_493 (q := 0) rfl kc_1 (by decide) rfl ?_
  refine g_goto 477 C dX0_init_496 rfl ?_
  refine g_iload_n C dX0_init_477 0 rfl ?_
  refine g_bipush C dX0_init_478 kb_8 ?_
  refine g_icmp_ge 499 C dX0_init_480 rfl (fun h => absurd h (by decide)) (fun _ => ?_)
  refine g_aload_n C dX0_init_483 1 rfl ?_
  refine g_cget (i := 0) (v := .ref a39) C fX0_126 (Nat.le_of_ble_eq_true rfl) rfl rfl rfl dX0_init_484 ?_
  refine g_iload_n C dX0_init_487 0 rfl ?_
  refine g_caald (i := 302) C rfl (Nat.le_of_ble_eq_true rfl) rfl rfl rfl dX0_init_488 ?_
  refine g_iload_n C dX0_init_489 0 rfl ?_
  refine g_bipush C dX0_init_490 kb_9 ?_
  refine g_ciast (i := 309) C rfl (Nat.le_of_ble_eq_true rfl) (by rw [show Int32.toNatClampNeg (6 : Int32) = 6 by decide]; rfl) rfl (by decide) dX0_init_492 ?_
  refine g_iinc (lv' := [(1, .int (7 : Int32)), (0, .ref th)]) C dX0_init_493 (q := 0) rfl kc_1 (by decide) rfl ?_
  refine g_goto 477 C dX0_init_496 rfl ?_
  refine g_iload_n C dX0_init_477 0 rfl ?_
  refine g_bipush C dX0_init_478 kb_8 ?_
  refine g_icmp_ge 499 C dX0_init_480 rfl (fun h => absurd h (by decide)) (fun _ => ?_)
  refine g_aload_n C dX0_init_483 1 rfl ?_
  refine g_cget (i := 0) (v := .ref a39) C fX0_126 (Nat.le_of_ble_eq_true rfl) rfl rfl rfl dX0_init_484 ?_
  refine g_iload_n C dX0_init_487 0 rfl ?_
  refine g_caald (i := 302) C rfl (Nat.le_of_ble_eq_true rfl) rfl rfl rfl dX0_init_488 ?_
  refine g_iload_n C dX0_init_489 0 rfl ?_
  refine g_bipush C dX0_init_490 kb_9 ?_
  refine g_ciast (i := 310) C rfl (Nat.le_of_ble_eq_true rfl) (by rw [show Int32.toNatClampNeg (7 : Int32) = 7 by decide]; rfl) rfl (by decide) dX0_init_492 ?_
  refine g_iinc (lv' := [(1, .int (8 : Int32)), (0, .ref th)]) C dX0_init_493 (q := 0) rfl kc_1 (by decide) rfl ?_
  refine g_goto 477 C dX0_init_496 rfl ?_
  refine g_iload_n C dX0_init_477 0 rfl ?_
  refine g_bipush C dX0_init_478 kb_8 ?_
  refine g_icmp_ge 499 C dX0_init_480 rfl (fun _ => ?_) (fun h => absurd (by decide) h)
  refine g_wretv (r := ()) C E rfl ?_ (Nat.le_trans (Nat.le_of_ble_eq_true rfl) hcz) (Nat.le_trans (Nat.le_of_ble_eq_true rfl) hsz) dX0_init_499
  refine xEnd_of (x0 := th) (x1 := a0) (x2 := a1) (x3 := a2) (x4 := a3) (x5 := a4) (x6 := (b5 0)) (x7 := (b5 1)) (x8 := a6) (x9 := a7) (x10 := a8) (x11 := a9) (x12 := (b10 0)) (x13 := (b10 1)) (x14 := (b10 2)) (x15 := (b10 3)) (x16 := (b10 4)) (x17 := (b10 5)) (x18 := (b10 6)) (x19 := a11) (x20 := (b12 0)) (x21 := (b12 1)) (x22 := (b12 2)) (x23 := (b12 3)) (x24 := (b12 4)) (x25 := (b12 5)) (x26 := (b12 6)) (x27 := a13) (x28 := a14) (x29 := (b15 0)) (x30 := (b15 1)) (x31 := (b15 2)) (x32 := (b15 3)) (x33 := (b15 4)) (x34 := (b15 5)) (x35 := (b15 6)) (x36 := a16) (x37 := (b17 0)) (x38 := (b17 1)) (x39 := (b17 2)) (x40 := (b17 3)) (x41 := (b17 4)) (x42 := (b17 5)) (x43 := (b17 6)) (x44 := a18) (x45 := (b19 0)) (x46 := (b19 1)) (x47 := (b19 2)) (x48 := (b19 3)) (x49 := (b19 4)) (x50 := (b19 5)) (x51 := (b19 6)) (x52 := a20) (x53 := (b21 0)) (x54 := (b21 1)) (x55 := (b21 2)) (x56 := (b21 3)) (x57 := (b21 4)) (x58 := (b21 5)) (x59 := (b21 6)) (x60 := a22) (x61 := (b23 0)) (x62 := (b23 1)) (x63 := (b23 2)) (x64 := (b23 3)) (x65 := (b23 4)) (x66 := (b23 5)) (x67 := (b23 6)) (x68 := a24) (x69 := (b25 0)) (x70 := (b25 1)) (x71 := (b25 2)) (x72 := (b25 3)) (x73 := (b25 4)) (x74 := (b25 5)) (x75 := (b25 6)) (x76 := a26) (x77 := (b27 0)) (x78 := (b27 1)) (x79 := (b27 2)) (x80 := (b27 3)) (x81 := (b27 4)) (x82 := (b27 5)) (x83 := (b27 6)) (x84 := a28) (x85 := (b29 0)) (x86 := (b29 1)) (x87 := (b29 2)) (x88 := (b29 3)) (x89 := (b29 4)) (x90 := (b29 5)) (x91 := (b29 6)) (x92 := a30) (x93 := a31) (x94 := a32) (x95 := a33) (x96 := a34) (x97 := a35) (x98 := a36) (x300 := a37) (x301 := a38) (x302 := a39) (x311 := a40) (x321 := a41) (x322 := a42) (x323 := a43) (x324 := a44) (x325 := a45) (x334 := a46) (x344 := a47) ?_ ?_ ?_ ?_ ?_ ?_ ?_ ?_ ?_ ?_ ?_ ?_ ?_ ?_ ?_ ?_ ?_ ?_ ?_ ?_ ?_ ?_ ?_ ?_ ?_ ?_ ?_ ?_ ?_ ?_ ?_ ?_ ?_ ?_ ?_ ?_ ?_ ?_ ?_ ?_ ?_ ?_ ?_ ?_ ?_ ?_ ?_ ?_ ?_ ?_ ?_ ?_ ?_ ?_ ?_ ?_ ?_ ?_ ?_ ?_ ?_ ?_ ?_ ?_ ?_ ?_ ?_ ?_ ?_ ?_ ?_ ?_ ?_ ?_ ?_ ?_ ?_ ?_ ?_ ?_ ?_ ?_ ?_ ?_ ?_ ?_ ?_ ?_ ?_ ?_ ?_ ?_ ?_ ?_ ?_ ?_ ?_ ?_ ?_ ?_ ?_ ?_ ?_ ?_ ?_ ?_ ?_ ?_ ?_ ?_ ?_ ?_ ?_ ?_ ?_ ?_ ?_ ?_ ?_ ?_ ?_ ?_ ?_ ?_ ?_ ?_ ?_ ?_ ?_ ?_ ?_ ?_ ?_ ?_ ?_ ?_ ?_ ?_ ?_ ?_ ?_ ?_ ?_ ?_ ?_ ?_ ?_ ?_ ?_ ?_ ?_ ?_ ?_ ?_ ?_ ?_ ?_ ?_ ?_ ?_ ?_ ?_ ?_ ?_ ?_ ?_ ?_ ?_ ?_ ?_ ?_ ?_ ?_ ?_ ?_ ?_ ?_ ?_ ?_ ?_ ?_ ?_ ?_ ?_ ?_ ?_ ?_ ?_ ?_ ?_ ?_ ?_ ?_ ?_ ?_ ?_ ?_ ?_ ?_ ?_ ?_ ?_ ?_ ?_ ?_ ?_ ?_ ?_ ?_ ?_ ?_ ?_ ?_ ?_ ?_ ?_ ?_ ?_ ?_ ?_ ?_ ?_ ?_ ?_ ?_ ?_ ?_ ?_ ?_ ?_ ?_ ?_ ?_ ?_ ?_ ?_ ?_
  · refine (up_ne (Nat.ne_of_beq_eq_false rfl)).trans ?_
    refine (mq_lt (Nat.le_of_ble_eq_true rfl)).trans ?_
    refine (mq_lt (Nat.le_of_ble_eq_true rfl)).trans ?_
    iterate 4 refine (up_ne (Nat.ne_of_beq_eq_false rfl)).trans ?_
    refine (mq_lt (Nat.le_of_ble_eq_true rfl)).trans ?_
    refine (mq_lt (Nat.le_of_ble_eq_true rfl)).trans ?_
    iterate 2 refine (up_ne (Nat.ne_of_beq_eq_false rfl)).trans ?_
    refine (mq_lt (Nat.le_of_ble_eq_true rfl)).trans ?_
    iterate 6 refine (up_ne (Nat.ne_of_beq_eq_false rfl)).trans ?_
    refine (dq_lt (Nat.le_of_ble_eq_true rfl)).trans ?_
    refine (up_ne (Nat.ne_of_beq_eq_false rfl)).trans ?_
    refine (dq_lt (Nat.le_of_ble_eq_true rfl)).trans ?_
    refine (up_ne (Nat.ne_of_beq_eq_false rfl)).trans ?_
    refine (dq_lt (Nat.le_of_ble_eq_true rfl)).trans ?_
    refine (up_ne (Nat.ne_of_beq_eq_false rfl)).trans ?_
    refine (dq_lt (Nat.le_of_ble_eq_true rfl)).trans ?_
    refine (up_ne (Nat.ne_of_beq_eq_false rfl)).trans ?_
    refine (dq_lt (Nat.le_of_ble_eq_true rfl)).trans ?_
    refine (up_ne (Nat.ne_of_beq_eq_false rfl)).trans ?_
    refine (dq_lt (Nat.le_of_ble_eq_true rfl)).trans ?_
    refine (up_ne (Nat.ne_of_beq_eq_false rfl)).trans ?_
    refine (dq_lt (Nat.le_of_ble_eq_true rfl)).trans ?_
    refine (up_ne (Nat.ne_of_beq_eq_false rfl)).trans ?_
    refine (dq_lt (Nat.le_of_ble_eq_true rfl)).trans ?_
    iterate 2 refine (up_ne (Nat.ne_of_beq_eq_false rfl)).trans ?_
    refine (dq_lt (Nat.le_of_ble_eq_true rfl)).trans ?_
    refine (up_ne (Nat.ne_of_beq_eq_false rfl)).trans ?_
    refine (dq_lt (Nat.le_of_ble_eq_true rfl)).trans ?_
    iterate 4 refine (up_ne (Nat.ne_of_beq_eq_false rfl)).trans ?_
    refine (dq_lt (Nat.le_of_ble_eq_true rfl)).trans ?_
    iterate 5 refine (up_ne (Nat.ne_of_beq_eq_false rfl)).trans ?_
    exact rfl
  · refine (up_ne (Nat.ne_of_beq_eq_false rfl)).trans ?_
    refine (mq_lt (Nat.le_of_ble_eq_true rfl)).trans ?_
    refine (mq_lt (Nat.le_of_ble_eq_true rfl)).trans ?_
    iterate 4 refine (up_ne (Nat.ne_of_beq_eq_false rfl)).trans ?_
    refine (mq_lt (Nat.le_of_ble_eq_true rfl)).trans ?_
    refine (mq_lt (Nat.le_of_ble_eq_true rfl)).trans ?_
    iterate 2 refine (up_ne (Nat.ne_of_beq_eq_false rfl)).trans ?_
    refine (mq_lt (Nat.le_of_ble_eq_true rfl)).trans ?_
    iterate 6 refine (up_ne (Nat.ne_of_beq_eq_false rfl)).trans ?_
    refine (dq_lt (Nat.le_of_ble_eq_true rfl)).trans ?_
    refine (up_ne (Nat.ne_of_beq_eq_false rfl)).trans ?_
    refine (dq_lt (Nat.le_of_ble_eq_true rfl)).trans ?_
    refine (up_ne (Nat.ne_of_beq_eq_false rfl)).trans ?_
    refine (dq_lt (Nat.le_of_ble_eq_true rfl)).trans ?_
    refine (up_ne (Nat.ne_of_beq_eq_false rfl)).trans ?_
    refine (dq_lt (Nat.le_of_ble_eq_true rfl)).trans ?_
    refine (up_ne (Nat.ne_of_beq_eq_false rfl)).trans ?_
    refine (dq_lt (Nat.le_of_ble_eq_true rfl)).trans ?_
    refine (up_ne (Nat.ne_of_beq_eq_false rfl)).trans ?_
    refine (dq_lt (Nat.le_of_ble_eq_true rfl)).trans ?_
    refine (up_ne (Nat.ne_of_beq_eq_false rfl)).trans ?_
    refine (dq_lt (Nat.le_of_ble_eq_true rfl)).trans ?_
    refine (up_ne (Nat.ne_of_beq_eq_false rfl)).trans ?_
    refine (dq_lt (Nat.le_of_ble_eq_true rfl)).trans ?_
    iterate 2 refine (up_ne (Nat.ne_of_beq_eq_false rfl)).trans ?_
    refine (dq_lt (Nat.le_of_ble_eq_true rfl)).trans ?_
    refine (up_ne (Nat.ne_of_beq_eq_false rfl)).trans ?_
    refine (dq_lt (Nat.le_of_ble_eq_true rfl)).trans ?_
    iterate 4 refine (up_ne (Nat.ne_of_beq_eq_false rfl)).trans ?_
    refine (dq_lt (Nat.le_of_ble_eq_true rfl)).trans ?_
    iterate 4 refine (up_ne (Nat.ne_of_beq_eq_false rfl)).trans ?_
    exact up_eq
  · refine (up_ne (Nat.ne_of_beq_eq_false rfl)).trans ?_
    refine (mq_lt (Nat.le_of_ble_eq_true rfl)).trans ?_
    refine (mq_lt (Nat.le_of_ble_eq_true rfl)).trans ?_
    iterate 4 refine (up_ne (Nat.ne_of_beq_eq_false rfl)).trans ?_
    refine (mq_lt (Nat.le_of_ble_eq_true rfl)).trans ?_
    refine (mq_lt (Nat.le_of_ble_eq_true rfl)).trans ?_
    iterate 2 refine (up_ne (Nat.ne_of_beq_eq_false rfl)).trans ?_
    refine (mq_lt (Nat.le_of_ble_eq_true rfl)).trans ?_
    iterate 6 refine (up_ne (Nat.ne_of_beq_eq_false rfl)).trans ?_
    refine (dq_lt (Nat.le_of_ble_eq_true rfl)).trans ?_
    refine (up_ne (Nat.ne_of_beq_eq_false rfl)).trans ?_
    refine (dq_lt (Nat.le_of_ble_eq_true rfl)).trans ?_
    refine (up_ne (Nat.ne_of_beq_eq_false rfl)).trans ?_
    refine (dq_lt (Nat.le_of_ble_eq_true rfl)).trans ?_
    refine (up_ne (Nat.ne_of_beq_eq_false rfl)).trans ?_
    refine (dq_lt (Nat.le_of_ble_eq_true rfl)).trans ?_
    refine (up_ne (Nat.ne_of_beq_eq_false rfl)).trans ?_
    refine (dq_lt (Nat.le_of_ble_eq_true rfl)).trans ?_
    refine (up_ne (Nat.ne_of_beq_eq_false rfl)).trans ?_
    refine (dq_lt (Nat.le_of_ble_eq_true rfl)).trans ?_
    refine (up_ne (Nat.ne_of_beq_eq_false rfl)).trans ?_
    refine (dq_lt (Nat.le_of_ble_eq_true rfl)).trans ?_
    refine (up_ne (Nat.ne_of_beq_eq_false rfl)).trans ?_
    refine (dq_lt (Nat.le_of_ble_eq_true rfl)).trans ?_
    iterate 2 refine (up_ne (Nat.ne_of_beq_eq_false rfl)).trans ?_
    refine (dq_lt (Nat.le_of_ble_eq_true rfl)).trans ?_
    refine (up_ne (Nat.ne_of_beq_eq_false rfl)).trans ?_
    refine (dq_lt (Nat.le_of_ble_eq_true rfl)).trans ?_
    iterate 4 refine (up_ne (Nat.ne_of_beq_eq_false rfl)).trans ?_
    refine (dq_lt (Nat.le_of_ble_eq_true rfl)).trans ?_
    iterate 3 refine (up_ne (Nat.ne_of_beq_eq_false rfl)).trans ?_
    exact up_eq
  · refine (up_ne (Nat.ne_of_beq_eq_false rfl)).trans ?_
    refine (mq_lt (Nat.le_of_ble_eq_true rfl)).trans ?_
    refine (mq_lt (Nat.le_of_ble_eq_true rfl)).trans ?_
    iterate 4 refine (up_ne (Nat.ne_of_beq_eq_false rfl)).trans ?_
    refine (mq_lt (Nat.le_of_ble_eq_true rfl)).trans ?_
    refine (mq_lt (Nat.le_of_ble_eq_true rfl)).trans ?_
    iterate 2 refine (up_ne (Nat.ne_of_beq_eq_false rfl)).trans ?_
    refine (mq_lt (Nat.le_of_ble_eq_true rfl)).trans ?_
    iterate 6 refine (up_ne (Nat.ne_of_beq_eq_false rfl)).trans ?_
    refine (dq_lt (Nat.le_of_ble_eq_true rfl)).trans ?_
    refine (up_ne (Nat.ne_of_beq_eq_false rfl)).trans ?_
    refine (dq_lt (Nat.le_of_ble_eq_true rfl)).trans ?_
    refine (up_ne (Nat.ne_of_beq_eq_false rfl)).trans ?_
    refine (dq_lt (Nat.le_of_ble_eq_true rfl)).trans ?_
    refine (up_ne (Nat.ne_of_beq_eq_false rfl)).trans ?_
    refine (dq_lt (Nat.le_of_ble_eq_true rfl)).trans ?_
    refine (up_ne (Nat.ne_of_beq_eq_false rfl)).trans ?_
    refine (dq_lt (Nat.le_of_ble_eq_true rfl)).trans ?_
    refine (up_ne (Nat.ne_of_beq_eq_false rfl)).trans ?_
    refine (dq_lt (Nat.le_of_ble_eq_true rfl)).trans ?_
    refine (up_ne (Nat.ne_of_beq_eq_false rfl)).trans ?_
    refine (dq_lt (Nat.le_of_ble_eq_true rfl)).trans ?_
    refine (up_ne (Nat.ne_of_beq_eq_false rfl)).trans ?_
    refine (dq_lt (Nat.le_of_ble_eq_true rfl)).trans ?_
    iterate 2 refine (up_ne (Nat.ne_of_beq_eq_false rfl)).trans ?_
    refine (dq_lt (Nat.le_of_ble_eq_true rfl)).trans ?_
    refine (up_ne (Nat.ne_of_beq_eq_false rfl)).trans ?_
    refine (dq_lt (Nat.le_of_ble_eq_true rfl)).trans ?_
    iterate 4 refine (up_ne (Nat.ne_of_beq_eq_false rfl)).trans ?_
    refine (dq_lt (Nat.le_of_ble_eq_true rfl)).trans ?_
    iterate 2 refine (up_ne (Nat.ne_of_beq_eq_false rfl)).trans ?_
    exact up_eq
  · refine (up_ne (Nat.ne_of_beq_eq_false rfl)).trans ?_
    refine (mq_lt (Nat.le_of_ble_eq_true rfl)).trans ?_
    refine (mq_lt (Nat.le_of_ble_eq_true rfl)).trans ?_
    iterate 4 refine (up_ne (Nat.ne_of_beq_eq_false rfl)).trans ?_
    refine (mq_lt (Nat.le_of_ble_eq_true rfl)).trans ?_
    refine (mq_lt (Nat.le_of_ble_eq_true rfl)).trans ?_
    iterate 2 refine (up_ne (Nat.ne_of_beq_eq_false rfl)).trans ?_
    refine (mq_lt (Nat.le_of_ble_eq_true rfl)).trans ?_
    iterate 6 refine (up_ne (Nat.ne_of_beq_eq_false rfl)).trans ?_
    refine (dq_lt (Nat.le_of_ble_eq_true rfl)).trans ?_
    refine (up_ne (Nat.ne_of_beq_eq_false rfl)).trans ?_
    refine (dq_lt (Nat.le_of_ble_eq_true rfl)).trans ?_
    refine (up_ne (Nat.ne_of_beq_eq_false rfl)).trans ?_
    refine (dq_lt (Nat.le_of_ble_eq_true rfl)).trans ?_
    refine (up_ne (Nat.ne_of_beq_eq_false rfl)).trans ?_
    refine (dq_lt (Nat.le_of_ble_eq_true rfl)).trans ?_
    refine (up_ne (Nat.ne_of_beq_eq_false rfl)).trans ?_
    refine (dq_lt (Nat.le_of_ble_eq_true rfl)).trans ?_
    refine (up_ne (Nat.ne_of_beq_eq_false rfl)).trans ?_
    refine (dq_lt (Nat.le_of_ble_eq_true rfl)).trans ?_
    refine (up_ne (Nat.ne_of_beq_eq_false rfl)).trans ?_
    refine (dq_lt (Nat.le_of_ble_eq_true rfl)).trans ?_
    refine (up_ne (Nat.ne_of_beq_eq_false rfl)).trans ?_
    refine (dq_lt (Nat.le_of_ble_eq_true rfl)).trans ?_
    iterate 2 refine (up_ne (Nat.ne_of_beq_eq_false rfl)).trans ?_
    refine (dq_lt (Nat.le_of_ble_eq_true rfl)).trans ?_
    refine (up_ne (Nat.ne_of_beq_eq_false rfl)).trans ?_
    refine (dq_lt (Nat.le_of_ble_eq_true rfl)).trans ?_
    iterate 4 refine (up_ne (Nat.ne_of_beq_eq_false rfl)).trans ?_
    refine (dq_lt (Nat.le_of_ble_eq_true rfl)).trans ?_
    refine (up_ne (Nat.ne_of_beq_eq_false rfl)).trans ?_
    exact up_eq
  · refine (up_ne (Nat.ne_of_beq_eq_false rfl)).trans ?_
    refine (mq_lt (Nat.le_of_ble_eq_true rfl)).trans ?_
    refine (mq_lt (Nat.le_of_ble_eq_true rfl)).trans ?_
    iterate 4 refine (up_ne (Nat.ne_of_beq_eq_false rfl)).trans ?_
    refine (mq_lt (Nat.le_of_ble_eq_true rfl)).trans ?_
    refine (mq_lt (Nat.le_of_ble_eq_true rfl)).trans ?_
    iterate 2 refine (up_ne (Nat.ne_of_beq_eq_false rfl)).trans ?_
    refine (mq_lt (Nat.le_of_ble_eq_true rfl)).trans ?_
    iterate 6 refine (up_ne (Nat.ne_of_beq_eq_false rfl)).trans ?_
    refine (dq_lt (Nat.le_of_ble_eq_true rfl)).trans ?_
    refine (up_ne (Nat.ne_of_beq_eq_false rfl)).trans ?_
    refine (dq_lt (Nat.le_of_ble_eq_true rfl)).trans ?_
    refine (up_ne (Nat.ne_of_beq_eq_false rfl)).trans ?_
    refine (dq_lt (Nat.le_of_ble_eq_true rfl)).trans ?_
    refine (up_ne (Nat.ne_of_beq_eq_false rfl)).trans ?_
    refine (dq_lt (Nat.le_of_ble_eq_true rfl)).trans ?_
    refine (up_ne (Nat.ne_of_beq_eq_false rfl)).trans ?_
    refine (dq_lt (Nat.le_of_ble_eq_true rfl)).trans ?_
    refine (up_ne (Nat.ne_of_beq_eq_false rfl)).trans ?_
    refine (dq_lt (Nat.le_of_ble_eq_true rfl)).trans ?_
    refine (up_ne (Nat.ne_of_beq_eq_false rfl)).trans ?_
    refine (dq_lt (Nat.le_of_ble_eq_true rfl)).trans ?_
    refine (up_ne (Nat.ne_of_beq_eq_false rfl)).trans ?_
    refine (dq_lt (Nat.le_of_ble_eq_true rfl)).trans ?_
    iterate 2 refine (up_ne (Nat.ne_of_beq_eq_false rfl)).trans ?_
    refine (dq_lt (Nat.le_of_ble_eq_true rfl)).trans ?_
    refine (up_ne (Nat.ne_of_beq_eq_false rfl)).trans ?_
    refine (dq_lt (Nat.le_of_ble_eq_true rfl)).trans ?_
    iterate 4 refine (up_ne (Nat.ne_of_beq_eq_false rfl)).trans ?_
    refine (dq_lt (Nat.le_of_ble_eq_true rfl)).trans ?_
    exact up_eq
  · refine (up_ne (Nat.ne_of_beq_eq_false rfl)).trans ?_
    refine (mq_lt (Nat.le_of_ble_eq_true rfl)).trans ?_
    refine (mq_lt (Nat.le_of_ble_eq_true rfl)).trans ?_
    iterate 4 refine (up_ne (Nat.ne_of_beq_eq_false rfl)).trans ?_
    refine (mq_lt (Nat.le_of_ble_eq_true rfl)).trans ?_
    refine (mq_lt (Nat.le_of_ble_eq_true rfl)).trans ?_
    iterate 2 refine (up_ne (Nat.ne_of_beq_eq_false rfl)).trans ?_
    refine (mq_lt (Nat.le_of_ble_eq_true rfl)).trans ?_
    iterate 6 refine (up_ne (Nat.ne_of_beq_eq_false rfl)).trans ?_
    refine (dq_lt (Nat.le_of_ble_eq_true rfl)).trans ?_
    refine (up_ne (Nat.ne_of_beq_eq_false rfl)).trans ?_
    refine (dq_lt (Nat.le_of_ble_eq_true rfl)).trans ?_
    refine (up_ne (Nat.ne_of_beq_eq_false rfl)).trans ?_
    refine (dq_lt (Nat.le_of_ble_eq_true rfl)).trans ?_
    refine (up_ne (Nat.ne_of_beq_eq_false rfl)).trans ?_
    refine (dq_lt (Nat.le_of_ble_eq_true rfl)).trans ?_
    refine (up_ne (Nat.ne_of_beq_eq_false rfl)).trans ?_
    refine (dq_lt (Nat.le_of_ble_eq_true rfl)).trans ?_
    refine (up_ne (Nat.ne_of_beq_eq_false rfl)).trans ?_
    refine (dq_lt (Nat.le_of_ble_eq_true rfl)).trans ?_
    refine (up_ne (Nat.ne_of_beq_eq_false rfl)).trans ?_
    refine (dq_lt (Nat.le_of_ble_eq_true rfl)).trans ?_
    refine (up_ne (Nat.ne_of_beq_eq_false rfl)).trans ?_
    refine (dq_lt (Nat.le_of_ble_eq_true rfl)).trans ?_
    iterate 2 refine (up_ne (Nat.ne_of_beq_eq_false rfl)).trans ?_
    refine (dq_lt (Nat.le_of_ble_eq_true rfl)).trans ?_
    refine (up_ne (Nat.ne_of_beq_eq_false rfl)).trans ?_
    refine (dq_lt (Nat.le_of_ble_eq_true rfl)).trans ?_
    iterate 4 refine (up_ne (Nat.ne_of_beq_eq_false rfl)).trans ?_
    exact dq_ge (Nat.le_of_ble_eq_true rfl)
  · refine (up_ne (Nat.ne_of_beq_eq_false rfl)).trans ?_
    refine (mq_lt (Nat.le_of_ble_eq_true rfl)).trans ?_
    refine (mq_lt (Nat.le_of_ble_eq_true rfl)).trans ?_
    iterate 4 refine (up_ne (Nat.ne_of_beq_eq_false rfl)).trans ?_
    refine (mq_lt (Nat.le_of_ble_eq_true rfl)).trans ?_
    refine (mq_lt (Nat.le_of_ble_eq_true rfl)).trans ?_
    iterate 2 refine (up_ne (Nat.ne_of_beq_eq_false rfl)).trans ?_
    refine (mq_lt (Nat.le_of_ble_eq_true rfl)).trans ?_
    iterate 6 refine (up_ne (Nat.ne_of_beq_eq_false rfl)).trans ?_
    refine (dq_lt (Nat.le_of_ble_eq_true rfl)).trans ?_
    refine (up_ne (Nat.ne_of_beq_eq_false rfl)).trans ?_
    refine (dq_lt (Nat.le_of_ble_eq_true rfl)).trans ?_
    refine (up_ne (Nat.ne_of_beq_eq_false rfl)).trans ?_
    refine (dq_lt (Nat.le_of_ble_eq_true rfl)).trans ?_
    refine (up_ne (Nat.ne_of_beq_eq_false rfl)).trans ?_
    refine (dq_lt (Nat.le_of_ble_eq_true rfl)).trans ?_
    refine (up_ne (Nat.ne_of_beq_eq_false rfl)).trans ?_
    refine (dq_lt (Nat.le_of_ble_eq_true rfl)).trans ?_
    refine (up_ne (Nat.ne_of_beq_eq_false rfl)).trans ?_
    refine (dq_lt (Nat.le_of_ble_eq_true rfl)).trans ?_
    refine (up_ne (Nat.ne_of_beq_eq_false rfl)).trans ?_
    refine (dq_lt (Nat.le_of_ble_eq_true rfl)).trans ?_
    refine (up_ne (Nat.ne_of_beq_eq_false rfl)).trans ?_
    refine (dq_lt (Nat.le_of_ble_eq_true rfl)).trans ?_
    iterate 2 refine (up_ne (Nat.ne_of_beq_eq_false rfl)).trans ?_
    refine (dq_lt (Nat.le_of_ble_eq_true rfl)).trans ?_
    refine (up_ne (Nat.ne_of_beq_eq_false rfl)).trans ?_
    refine (dq_lt (Nat.le_of_ble_eq_true rfl)).trans ?_
    iterate 4 refine (up_ne (Nat.ne_of_beq_eq_false rfl)).trans ?_
    exact dq_ge (Nat.le_of_ble_eq_true rfl)
  · refine (up_ne (Nat.ne_of_beq_eq_false rfl)).trans ?_
    refine (mq_lt (Nat.le_of_ble_eq_true rfl)).trans ?_
    refine (mq_lt (Nat.le_of_ble_eq_true rfl)).trans ?_
    iterate 4 refine (up_ne (Nat.ne_of_beq_eq_false rfl)).trans ?_
    refine (mq_lt (Nat.le_of_ble_eq_true rfl)).trans ?_
    refine (mq_lt (Nat.le_of_ble_eq_true rfl)).trans ?_
    iterate 2 refine (up_ne (Nat.ne_of_beq_eq_false rfl)).trans ?_
    refine (mq_lt (Nat.le_of_ble_eq_true rfl)).trans ?_
    iterate 6 refine (up_ne (Nat.ne_of_beq_eq_false rfl)).trans ?_
    refine (dq_lt (Nat.le_of_ble_eq_true rfl)).trans ?_
    refine (up_ne (Nat.ne_of_beq_eq_false rfl)).trans ?_
    refine (dq_lt (Nat.le_of_ble_eq_true rfl)).trans ?_
    refine (up_ne (Nat.ne_of_beq_eq_false rfl)).trans ?_
    refine (dq_lt (Nat.le_of_ble_eq_true rfl)).trans ?_
    refine (up_ne (Nat.ne_of_beq_eq_false rfl)).trans ?_
    refine (dq_lt (Nat.le_of_ble_eq_true rfl)).trans ?_
    refine (up_ne (Nat.ne_of_beq_eq_false rfl)).trans ?_
    refine (dq_lt (Nat.le_of_ble_eq_true rfl)).trans ?_
    refine (up_ne (Nat.ne_of_beq_eq_false rfl)).trans ?_
    refine (dq_lt (Nat.le_of_ble_eq_true rfl)).trans ?_
    refine (up_ne (Nat.ne_of_beq_eq_false rfl)).trans ?_
    refine (dq_lt (Nat.le_of_ble_eq_true rfl)).trans ?_
    refine (up_ne (Nat.ne_of_beq_eq_false rfl)).trans ?_
    refine (dq_lt (Nat.le_of_ble_eq_true rfl)).trans ?_
    iterate 2 refine (up_ne (Nat.ne_of_beq_eq_false rfl)).trans ?_
    refine (dq_lt (Nat.le_of_ble_eq_true rfl)).trans ?_
    refine (up_ne (Nat.ne_of_beq_eq_false rfl)).trans ?_
    refine (dq_lt (Nat.le_of_ble_eq_true rfl)).trans ?_
    iterate 3 refine (up_ne (Nat.ne_of_beq_eq_false rfl)).trans ?_
    exact up_eq
  · refine (up_ne (Nat.ne_of_beq_eq_false rfl)).trans ?_
    refine (mq_lt (Nat.le_of_ble_eq_true rfl)).trans ?_
    refine (mq_lt (Nat.le_of_ble_eq_true rfl)).trans ?_
    iterate 4 refine (up_ne (Nat.ne_of_beq_eq_false rfl)).trans ?_
    refine (mq_lt (Nat.le_of_ble_eq_true rfl)).trans ?_
    refine (mq_lt (Nat.le_of_ble_eq_true rfl)).trans ?_
    iterate 2 refine (up_ne (Nat.ne_of_beq_eq_false rfl)).trans ?_
    refine (mq_lt (Nat.le_of_ble_eq_true rfl)).trans ?_
    iterate 6 refine (up_ne (Nat.ne_of_beq_eq_false rfl)).trans ?_
    refine (dq_lt (Nat.le_of_ble_eq_true rfl)).trans ?_
    refine (up_ne (Nat.ne_of_beq_eq_false rfl)).trans ?_
    refine (dq_lt (Nat.le_of_ble_eq_true rfl)).trans ?_
    refine (up_ne (Nat.ne_of_beq_eq_false rfl)).trans ?_
    refine (dq_lt (Nat.le_of_ble_eq_true rfl)).trans ?_
    refine (up_ne (Nat.ne_of_beq_eq_false rfl)).trans ?_
    refine (dq_lt (Nat.le_of_ble_eq_true rfl)).trans ?_
    refine (up_ne (Nat.ne_of_beq_eq_false rfl)).trans ?_
    refine (dq_lt (Nat.le_of_ble_eq_true rfl)).trans ?_
    refine (up_ne (Nat.ne_of_beq_eq_false rfl)).trans ?_
    refine (dq_lt (Nat.le_of_ble_eq_true rfl)).trans ?_
    refine (up_ne (Nat.ne_of_beq_eq_false rfl)).trans ?_
    refine (dq_lt (Nat.le_of_ble_eq_true rfl)).trans ?_
    refine (up_ne (Nat.ne_of_beq_eq_false rfl)).trans ?_
    refine (dq_lt (Nat.le_of_ble_eq_true rfl)).trans ?_
    iterate 2 refine (up_ne (Nat.ne_of_beq_eq_false rfl)).trans ?_
    refine (dq_lt (Nat.le_of_ble_eq_true rfl)).trans ?_
    refine (up_ne (Nat.ne_of_beq_eq_false rfl)).trans ?_
    refine (dq_lt (Nat.le_of_ble_eq_true rfl)).trans ?_
    iterate 2 refine (up_ne (Nat.ne_of_beq_eq_false rfl)).trans ?_
    exact up_eq
  · refine (up_ne (Nat.ne_of_beq_eq_false rfl)).trans ?_
    refine (mq_lt (Nat.le_of_ble_eq_true rfl)).trans ?_
    refine (mq_lt (Nat.le_of_ble_eq_true rfl)).trans ?_
    iterate 4 refine (up_ne (Nat.ne_of_beq_eq_false rfl)).trans ?_
    refine (mq_lt (Nat.le_of_ble_eq_true rfl)).trans ?_
    refine (mq_lt (Nat.le_of_ble_eq_true rfl)).trans ?_
    iterate 2 refine (up_ne (Nat.ne_of_beq_eq_false rfl)).trans ?_
    refine (mq_lt (Nat.le_of_ble_eq_true rfl)).trans ?_
    iterate 6 refine (up_ne (Nat.ne_of_beq_eq_false rfl)).trans ?_
    refine (dq_lt (Nat.le_of_ble_eq_true rfl)).trans ?_
    refine (up_ne (Nat.ne_of_beq_eq_false rfl)).trans ?_
    refine (dq_lt (Nat.le_of_ble_eq_true rfl)).trans ?_
    refine (up_ne (Nat.ne_of_beq_eq_false rfl)).trans ?_
    refine (dq_lt (Nat.le_of_ble_eq_true rfl)).trans ?_
    refine (up_ne (Nat.ne_of_beq_eq_false rfl)).trans ?_
    refine (dq_lt (Nat.le_of_ble_eq_true rfl)).trans ?_
    refine (up_ne (Nat.ne_of_beq_eq_false rfl)).trans ?_
    refine (dq_lt (Nat.le_of_ble_eq_true rfl)).trans ?_
    refine (up_ne (Nat.ne_of_beq_eq_false rfl)).trans ?_
    refine (dq_lt (Nat.le_of_ble_eq_true rfl)).trans ?_
    refine (up_ne (Nat.ne_of_beq_eq_false rfl)).trans ?_
    refine (dq_lt (Nat.le_of_ble_eq_true rfl)).trans ?_
    refine (up_ne (Nat.ne_of_beq_eq_false rfl)).trans ?_
    refine (dq_lt (Nat.le_of_ble_eq_true rfl)).trans ?_
    iterate 2 refine (up_ne (Nat.ne_of_beq_eq_false rfl)).trans ?_
    refine (dq_lt (Nat.le_of_ble_eq_true rfl)).trans ?_
    refine (up_ne (Nat.ne_of_beq_eq_false rfl)).trans ?_
    refine (dq_lt (Nat.le_of_ble_eq_true rfl)).trans ?_
    refine (up_ne (Nat.ne_of_beq_eq_false rfl)).trans ?_
    exact up_eq
  · refine (up_ne (Nat.ne_of_beq_eq_false rfl)).trans ?_
    refine (mq_lt (Nat.le_of_ble_eq_true rfl)).trans ?_
    refine (mq_lt (Nat.le_of_ble_eq_true rfl)).trans ?_
    iterate 4 refine (up_ne (Nat.ne_of_beq_eq_false rfl)).trans ?_
    refine (mq_lt (Nat.le_of_ble_eq_true rfl)).trans ?_
    refine (mq_lt (Nat.le_of_ble_eq_true rfl)).trans ?_
    iterate 2 refine (up_ne (Nat.ne_of_beq_eq_false rfl)).trans ?_
    refine (mq_lt (Nat.le_of_ble_eq_true rfl)).trans ?_
    iterate 6 refine (up_ne (Nat.ne_of_beq_eq_false rfl)).trans ?_
    refine (dq_lt (Nat.le_of_ble_eq_true rfl)).trans ?_
    refine (up_ne (Nat.ne_of_beq_eq_false rfl)).trans ?_
    refine (dq_lt (Nat.le_of_ble_eq_true rfl)).trans ?_
    refine (up_ne (Nat.ne_of_beq_eq_false rfl)).trans ?_
    refine (dq_lt (Nat.le_of_ble_eq_true rfl)).trans ?_
    refine (up_ne (Nat.ne_of_beq_eq_false rfl)).trans ?_
    refine (dq_lt (Nat.le_of_ble_eq_true rfl)).trans ?_
    refine (up_ne (Nat.ne_of_beq_eq_false rfl)).trans ?_
    refine (dq_lt (Nat.le_of_ble_eq_true rfl)).trans ?_
    refine (up_ne (Nat.ne_of_beq_eq_false rfl)).trans ?_
    refine (dq_lt (Nat.le_of_ble_eq_true rfl)).trans ?_
    refine (up_ne (Nat.ne_of_beq_eq_false rfl)).trans ?_
    refine (dq_lt (Nat.le_of_ble_eq_true rfl)).trans ?_
    refine (up_ne (Nat.ne_of_beq_eq_false rfl)).trans ?_
    refine (dq_lt (Nat.le_of_ble_eq_true rfl)).trans ?_
    iterate 2 refine (up_ne (Nat.ne_of_beq_eq_false rfl)).trans ?_
    refine (dq_lt (Nat.le_of_ble_eq_true rfl)).trans ?_
    refine (up_ne (Nat.ne_of_beq_eq_false rfl)).trans ?_
    refine (dq_lt (Nat.le_of_ble_eq_true rfl)).trans ?_
    exact up_eq
  · refine (up_ne (Nat.ne_of_beq_eq_false rfl)).trans ?_
    refine (mq_lt (Nat.le_of_ble_eq_true rfl)).trans ?_
    refine (mq_lt (Nat.le_of_ble_eq_true rfl)).trans ?_
    iterate 4 refine (up_ne (Nat.ne_of_beq_eq_false rfl)).trans ?_
    refine (mq_lt (Nat.le_of_ble_eq_true rfl)).trans ?_
    refine (mq_lt (Nat.le_of_ble_eq_true rfl)).trans ?_
    iterate 2 refine (up_ne (Nat.ne_of_beq_eq_false rfl)).trans ?_
    refine (mq_lt (Nat.le_of_ble_eq_true rfl)).trans ?_
    iterate 6 refine (up_ne (Nat.ne_of_beq_eq_false rfl)).trans ?_
    refine (dq_lt (Nat.le_of_ble_eq_true rfl)).trans ?_
    refine (up_ne (Nat.ne_of_beq_eq_false rfl)).trans ?_
    refine (dq_lt (Nat.le_of_ble_eq_true rfl)).trans ?_
    refine (up_ne (Nat.ne_of_beq_eq_false rfl)).trans ?_
    refine (dq_lt (Nat.le_of_ble_eq_true rfl)).trans ?_
    refine (up_ne (Nat.ne_of_beq_eq_false rfl)).trans ?_
    refine (dq_lt (Nat.le_of_ble_eq_true rfl)).trans ?_
    refine (up_ne (Nat.ne_of_beq_eq_false rfl)).trans ?_
    refine (dq_lt (Nat.le_of_ble_eq_true rfl)).trans ?_
    refine (up_ne (Nat.ne_of_beq_eq_false rfl)).trans ?_
    refine (dq_lt (Nat.le_of_ble_eq_true rfl)).trans ?_
    refine (up_ne (Nat.ne_of_beq_eq_false rfl)).trans ?_
    refine (dq_lt (Nat.le_of_ble_eq_true rfl)).trans ?_
    refine (up_ne (Nat.ne_of_beq_eq_false rfl)).trans ?_
    refine (dq_lt (Nat.le_of_ble_eq_true rfl)).trans ?_
    iterate 2 refine (up_ne (Nat.ne_of_beq_eq_false rfl)).trans ?_
    refine (dq_lt (Nat.le_of_ble_eq_true rfl)).trans ?_
    refine (up_ne (Nat.ne_of_beq_eq_false rfl)).trans ?_
    exact dq_ge (Nat.le_of_ble_eq_true rfl)
  · refine (up_ne (Nat.ne_of_beq_eq_false rfl)).trans ?_
    refine (mq_lt (Nat.le_of_ble_eq_true rfl)).trans ?_
    refine (mq_lt (Nat.le_of_ble_eq_true rfl)).trans ?_
    iterate 4 refine (up_ne (Nat.ne_of_beq_eq_false rfl)).trans ?_
    refine (mq_lt (Nat.le_of_ble_eq_true rfl)).trans ?_
    refine (mq_lt (Nat.le_of_ble_eq_true rfl)).trans ?_
    iterate 2 refine (up_ne (Nat.ne_of_beq_eq_false rfl)).trans ?_
    refine (mq_lt (Nat.le_of_ble_eq_true rfl)).trans ?_
    iterate 6 refine (up_ne (Nat.ne_of_beq_eq_false rfl)).trans ?_
    refine (dq_lt (Nat.le_of_ble_eq_true rfl)).trans ?_
    refine (up_ne (Nat.ne_of_beq_eq_false rfl)).trans ?_
    refine (dq_lt (Nat.le_of_ble_eq_true rfl)).trans ?_
    refine (up_ne (Nat.ne_of_beq_eq_false rfl)).trans ?_
    refine (dq_lt (Nat.le_of_ble_eq_true rfl)).trans ?_
    refine (up_ne (Nat.ne_of_beq_eq_false rfl)).trans ?_
    refine (dq_lt (Nat.le_of_ble_eq_true rfl)).trans ?_
    refine (up_ne (Nat.ne_of_beq_eq_false rfl)).trans ?_
    refine (dq_lt (Nat.le_of_ble_eq_true rfl)).trans ?_
    refine (up_ne (Nat.ne_of_beq_eq_false rfl)).trans ?_
    refine (dq_lt (Nat.le_of_ble_eq_true rfl)).trans ?_
    refine (up_ne (Nat.ne_of_beq_eq_false rfl)).trans ?_
    refine (dq_lt (Nat.le_of_ble_eq_true rfl)).trans ?_
    refine (up_ne (Nat.ne_of_beq_eq_false rfl)).trans ?_
    refine (dq_lt (Nat.le_of_ble_eq_true rfl)).trans ?_
    iterate 2 refine (up_ne (Nat.ne_of_beq_eq_false rfl)).trans ?_
    refine (dq_lt (Nat.le_of_ble_eq_true rfl)).trans ?_
    refine (up_ne (Nat.ne_of_beq_eq_false rfl)).trans ?_
    exact dq_ge (Nat.le_of_ble_eq_true rfl)
  · refine (up_ne (Nat.ne_of_beq_eq_false rfl)).trans ?_
    refine (mq_lt (Nat.le_of_ble_eq_true rfl)).trans ?_
    refine (mq_lt (Nat.le_of_ble_eq_true rfl)).trans ?_
    iterate 4 refine (up_ne (Nat.ne_of_beq_eq_false rfl)).trans ?_
    refine (mq_lt (Nat.le_of_ble_eq_true rfl)).trans ?_
    refine (mq_lt (Nat.le_of_ble_eq_true rfl)).trans ?_
    iterate 2 refine (up_ne (Nat.ne_of_beq_eq_false rfl)).trans ?_
    refine (mq_lt (Nat.le_of_ble_eq_true rfl)).trans ?_
    iterate 6 refine (up_ne (Nat.ne_of_beq_eq_false rfl)).trans ?_
    refine (dq_lt (Nat.le_of_ble_eq_true rfl)).trans ?_
    refine (up_ne (Nat.ne_of_beq_eq_false rfl)).trans ?_
    refine (dq_lt (Nat.le_of_ble_eq_true rfl)).trans ?_
    refine (up_ne (Nat.ne_of_beq_eq_false rfl)).trans ?_
    refine (dq_lt (Nat.le_of_ble_eq_true rfl)).trans ?_
    refine (up_ne (Nat.ne_of_beq_eq_false rfl)).trans ?_
    refine (dq_lt (Nat.le_of_ble_eq_true rfl)).trans ?_
    refine (up_ne (Nat.ne_of_beq_eq_false rfl)).trans ?_
    refine (dq_lt (Nat.le_of_ble_eq_true rfl)).trans ?_
    refine (up_ne (Nat.ne_of_beq_eq_false rfl)).trans ?_
    refine (dq_lt (Nat.le_of_ble_eq_true rfl)).trans ?_
    refine (up_ne (Nat.ne_of_beq_eq_false rfl)).trans ?_
    refine (dq_lt (Nat.le_of_ble_eq_true rfl)).trans ?_
    refine (up_ne (Nat.ne_of_beq_eq_false rfl)).trans ?_
    refine (dq_lt (Nat.le_of_ble_eq_true rfl)).trans ?_
    iterate 2 refine (up_ne (Nat.ne_of_beq_eq_false rfl)).trans ?_
    refine (dq_lt (Nat.le_of_ble_eq_true rfl)).trans ?_
    refine (up_ne (Nat.ne_of_beq_eq_false rfl)).trans ?_
    exact dq_ge (Nat.le_of_ble_eq_true rfl)
  · refine (up_ne (Nat.ne_of_beq_eq_false rfl)).trans ?_
    refine (mq_lt (Nat.le_of_ble_eq_true rfl)).trans ?_
    refine (mq_lt (Nat.le_of_ble_eq_true rfl)).trans ?_
    iterate 4 refine (up_ne (Nat.ne_of_beq_eq_false rfl)).trans ?_
    refine (mq_lt (Nat.le_of_ble_eq_true rfl)).trans ?_
    refine (mq_lt (Nat.le_of_ble_eq_true rfl)).trans ?_
    iterate 2 refine (up_ne (Nat.ne_of_beq_eq_false rfl)).trans ?_
    refine (mq_lt (Nat.le_of_ble_eq_true rfl)).trans ?_
    iterate 6 refine (up_ne (Nat.ne_of_beq_eq_false rfl)).trans ?_
    refine (dq_lt (Nat.le_of_ble_eq_true rfl)).trans ?_
    refine (up_ne (Nat.ne_of_beq_eq_false rfl)).trans ?_
    refine (dq_lt (Nat.le_of_ble_eq_true rfl)).trans ?_
    refine (up_ne (Nat.ne_of_beq_eq_false rfl)).trans ?_
    refine (dq_lt (Nat.le_of_ble_eq_true rfl)).trans ?_
    refine (up_ne (Nat.ne_of_beq_eq_false rfl)).trans ?_
    refine (dq_lt (Nat.le_of_ble_eq_true rfl)).trans ?_
    refine (up_ne (Nat.ne_of_beq_eq_false rfl)).trans ?_
    refine (dq_lt (Nat.le_of_ble_eq_true rfl)).trans ?_
    refine (up_ne (Nat.ne_of_beq_eq_false rfl)).trans ?_
    refine (dq_lt (Nat.le_of_ble_eq_true rfl)).trans ?_
    refine (up_ne (Nat.ne_of_beq_eq_false rfl)).trans ?_
    refine (dq_lt (Nat.le_of_ble_eq_true rfl)).trans ?_
    refine (up_ne (Nat.ne_of_beq_eq_false rfl)).trans ?_
    refine (dq_lt (Nat.le_of_ble_eq_true rfl)).trans ?_
    iterate 2 refine (up_ne (Nat.ne_of_beq_eq_false rfl)).trans ?_
    refine (dq_lt (Nat.le_of_ble_eq_true rfl)).trans ?_
    refine (up_ne (Nat.ne_of_beq_eq_false rfl)).trans ?_
    exact dq_ge (Nat.le_of_ble_eq_true rfl)
  · refine (up_ne (Nat.ne_of_beq_eq_false rfl)).trans ?_
    refine (mq_lt (Nat.le_of_ble_eq_true rfl)).trans ?_
    refine (mq_lt (Nat.le_of_ble_eq_true rfl)).trans ?_
    iterate 4 refine (up_ne (Nat.ne_of_beq_eq_false rfl)).trans ?_
    refine (mq_lt (Nat.le_of_ble_eq_true rfl)).trans ?_
    refine (mq_lt (Nat.le_of_ble_eq_true rfl)).trans ?_
    iterate 2 refine (up_ne (Nat.ne_of_beq_eq_false rfl)).trans ?_
    refine (mq_lt (Nat.le_of_ble_eq_true rfl)).trans ?_
    iterate 6 refine (up_ne (Nat.ne_of_beq_eq_false rfl)).trans ?_
    refine (dq_lt (Nat.le_of_ble_eq_true rfl)).trans ?_
    refine (up_ne (Nat.ne_of_beq_eq_false rfl)).trans ?_
    refine (dq_lt (Nat.le_of_ble_eq_true rfl)).trans ?_
    refine (up_ne (Nat.ne_of_beq_eq_false rfl)).trans ?_
    refine (dq_lt (Nat.le_of_ble_eq_true rfl)).trans ?_
    refine (up_ne (Nat.ne_of_beq_eq_false rfl)).trans ?_
    refine (dq_lt (Nat.le_of_ble_eq_true rfl)).trans ?_
    refine (up_ne (Nat.ne_of_beq_eq_false rfl)).trans ?_
    refine (dq_lt (Nat.le_of_ble_eq_true rfl)).trans ?_
    refine (up_ne (Nat.ne_of_beq_eq_false rfl)).trans ?_
    refine (dq_lt (Nat.le_of_ble_eq_true rfl)).trans ?_
    refine (up_ne (Nat.ne_of_beq_eq_false rfl)).trans ?_
    refine (dq_lt (Nat.le_of_ble_eq_true rfl)).trans ?_
    refine (up_ne (Nat.ne_of_beq_eq_false rfl)).trans ?_
    refine (dq_lt (Nat.le_of_ble_eq_true rfl)).trans ?_
    iterate 2 refine (up_ne (Nat.ne_of_beq_eq_false rfl)).trans ?_
    refine (dq_lt (Nat.le_of_ble_eq_true rfl)).trans ?_
    refine (up_ne (Nat.ne_of_beq_eq_false rfl)).trans ?_
    exact dq_ge (Nat.le_of_ble_eq_true rfl)
  · refine (up_ne (Nat.ne_of_beq_eq_false rfl)).trans ?_
    refine (mq_lt (Nat.le_of_ble_eq_true rfl)).trans ?_
    refine (mq_lt (Nat.le_of_ble_eq_true rfl)).trans ?_
    iterate 4 refine (up_ne (Nat.ne_of_beq_eq_false rfl)).trans ?_
    refine (mq_lt (Nat.le_of_ble_eq_true rfl)).trans ?_
    refine (mq_lt (Nat.le_of_ble_eq_true rfl)).trans ?_
    iterate 2 refine (up_ne (Nat.ne_of_beq_eq_false rfl)).trans ?_
    refine (mq_lt (Nat.le_of_ble_eq_true rfl)).trans ?_
    iterate 6 refine (up_ne (Nat.ne_of_beq_eq_false rfl)).trans ?_
    refine (dq_lt (Nat.le_of_ble_eq_true rfl)).trans ?_
    refine (up_ne (Nat.ne_of_beq_eq_false rfl)).trans ?_
    refine (dq_lt (Nat.le_of_ble_eq_true rfl)).trans ?_
    refine (up_ne (Nat.ne_of_beq_eq_false rfl)).trans ?_
    refine (dq_lt (Nat.le_of_ble_eq_true rfl)).trans ?_
    refine (up_ne (Nat.ne_of_beq_eq_false rfl)).trans ?_
    refine (dq_lt (Nat.le_of_ble_eq_true rfl)).trans ?_
    refine (up_ne (Nat.ne_of_beq_eq_false rfl)).trans ?_
    refine (dq_lt (Nat.le_of_ble_eq_true rfl)).trans ?_
    refine (up_ne (Nat.ne_of_beq_eq_false rfl)).trans ?_
    refine (dq_lt (Nat.le_of_ble_eq_true rfl)).trans ?_
    refine (up_ne (Nat.ne_of_beq_eq_false rfl)).trans ?_
    refine (dq_lt (Nat.le_of_ble_eq_true rfl)).trans ?_
    refine (up_ne (Nat.ne_of_beq_eq_false rfl)).trans ?_
    refine (dq_lt (Nat.le_of_ble_eq_true rfl)).trans ?_
    iterate 2 refine (up_ne (Nat.ne_of_beq_eq_false rfl)).trans ?_
    refine (dq_lt (Nat.le_of_ble_eq_true rfl)).trans ?_
    refine (up_ne (Nat.ne_of_beq_eq_false rfl)).trans ?_
    exact dq_ge (Nat.le_of_ble_eq_true rfl)
  · refine (up_ne (Nat.ne_of_beq_eq_false rfl)).trans ?_
    refine (mq_lt (Nat.le_of_ble_eq_true rfl)).trans ?_
    refine (mq_lt (Nat.le_of_ble_eq_true rfl)).trans ?_
    iterate 4 refine (up_ne (Nat.ne_of_beq_eq_false rfl)).trans ?_
    refine (mq_lt (Nat.le_of_ble_eq_true rfl)).trans ?_
    refine (mq_lt (Nat.le_of_ble_eq_true rfl)).trans ?_
    iterate 2 refine (up_ne (Nat.ne_of_beq_eq_false rfl)).trans ?_
    refine (mq_lt (Nat.le_of_ble_eq_true rfl)).trans ?_
    iterate 6 refine (up_ne (Nat.ne_of_beq_eq_false rfl)).trans ?_
    refine (dq_lt (Nat.le_of_ble_eq_true rfl)).trans ?_
    refine (up_ne (Nat.ne_of_beq_eq_false rfl)).trans ?_
    refine (dq_lt (Nat.le_of_ble_eq_true rfl)).trans ?_
    refine (up_ne (Nat.ne_of_beq_eq_false rfl)).trans ?_
    refine (dq_lt (Nat.le_of_ble_eq_true rfl)).trans ?_
    refine (up_ne (Nat.ne_of_beq_eq_false rfl)).trans ?_
    refine (dq_lt (Nat.le_of_ble_eq_true rfl)).trans ?_
    refine (up_ne (Nat.ne_of_beq_eq_false rfl)).trans ?_
    refine (dq_lt (Nat.le_of_ble_eq_true rfl)).trans ?_
    refine (up_ne (Nat.ne_of_beq_eq_false rfl)).trans ?_
    refine (dq_lt (Nat.le_of_ble_eq_true rfl)).trans ?_
    refine (up_ne (Nat.ne_of_beq_eq_false rfl)).trans ?_
    refine (dq_lt (Nat.le_of_ble_eq_true rfl)).trans ?_
    refine (up_ne (Nat.ne_of_beq_eq_false rfl)).trans ?_
    refine (dq_lt (Nat.le_of_ble_eq_true rfl)).trans ?_
    iterate 2 refine (up_ne (Nat.ne_of_beq_eq_false rfl)).trans ?_
    refine (dq_lt (Nat.le_of_ble_eq_true rfl)).trans ?_
    refine (up_ne (Nat.ne_of_beq_eq_false rfl)).trans ?_
    exact dq_ge (Nat.le_of_ble_eq_true rfl)
  · refine (up_ne (Nat.ne_of_beq_eq_false rfl)).trans ?_
    refine (mq_lt (Nat.le_of_ble_eq_true rfl)).trans ?_
    refine (mq_lt (Nat.le_of_ble_eq_true rfl)).trans ?_
    iterate 4 refine (up_ne (Nat.ne_of_beq_eq_false rfl)).trans ?_
    refine (mq_lt (Nat.le_of_ble_eq_true rfl)).trans ?_
    refine (mq_lt (Nat.le_of_ble_eq_true rfl)).trans ?_
    iterate 2 refine (up_ne (Nat.ne_of_beq_eq_false rfl)).trans ?_
    refine (mq_lt (Nat.le_of_ble_eq_true rfl)).trans ?_
    iterate 6 refine (up_ne (Nat.ne_of_beq_eq_false rfl)).trans ?_
    refine (dq_lt (Nat.le_of_ble_eq_true rfl)).trans ?_
    refine (up_ne (Nat.ne_of_beq_eq_false rfl)).trans ?_
    refine (dq_lt (Nat.le_of_ble_eq_true rfl)).trans ?_
    refine (up_ne (Nat.ne_of_beq_eq_false rfl)).trans ?_
    refine (dq_lt (Nat.le_of_ble_eq_true rfl)).trans ?_
    refine (up_ne (Nat.ne_of_beq_eq_false rfl)).trans ?_
    refine (dq_lt (Nat.le_of_ble_eq_true rfl)).trans ?_
    refine (up_ne (Nat.ne_of_beq_eq_false rfl)).trans ?_
    refine (dq_lt (Nat.le_of_ble_eq_true rfl)).trans ?_
    refine (up_ne (Nat.ne_of_beq_eq_false rfl)).trans ?_
    refine (dq_lt (Nat.le_of_ble_eq_true rfl)).trans ?_
    refine (up_ne (Nat.ne_of_beq_eq_false rfl)).trans ?_
    refine (dq_lt (Nat.le_of_ble_eq_true rfl)).trans ?_
    refine (up_ne (Nat.ne_of_beq_eq_false rfl)).trans ?_
    refine (dq_lt (Nat.le_of_ble_eq_true rfl)).trans ?_
    iterate 2 refine (up_ne (Nat.ne_of_beq_eq_false rfl)).trans ?_
    refine (dq_lt (Nat.le_of_ble_eq_true rfl)).trans ?_
    exact up_eq
  · refine (up_ne (Nat.ne_of_beq_eq_false rfl)).trans ?_
    refine (mq_lt (Nat.le_of_ble_eq_true rfl)).trans ?_
    refine (mq_lt (Nat.le_of_ble_eq_true rfl)).trans ?_
    iterate 4 refine (up_ne (Nat.ne_of_beq_eq_false rfl)).trans ?_
    refine (mq_lt (Nat.le_of_ble_eq_true rfl)).trans ?_
    refine (mq_lt (Nat.le_of_ble_eq_true rfl)).trans ?_
    iterate 2 refine (up_ne (Nat.ne_of_beq_eq_false rfl)).trans ?_
    refine (mq_lt (Nat.le_of_ble_eq_true rfl)).trans ?_
    iterate 6 refine (up_ne (Nat.ne_of_beq_eq_false rfl)).trans ?_
    refine (dq_lt (Nat.le_of_ble_eq_true rfl)).trans ?_
    refine (up_ne (Nat.ne_of_beq_eq_false rfl)).trans ?_
    refine (dq_lt (Nat.le_of_ble_eq_true rfl)).trans ?_
    refine (up_ne (Nat.ne_of_beq_eq_false rfl)).trans ?_
    refine (dq_lt (Nat.le_of_ble_eq_true rfl)).trans ?_
    refine (up_ne (Nat.ne_of_beq_eq_false rfl)).trans ?_
    refine (dq_lt (Nat.le_of_ble_eq_true rfl)).trans ?_
    refine (up_ne (Nat.ne_of_beq_eq_false rfl)).trans ?_
    refine (dq_lt (Nat.le_of_ble_eq_true rfl)).trans ?_
    refine (up_ne (Nat.ne_of_beq_eq_false rfl)).trans ?_
    refine (dq_lt (Nat.le_of_ble_eq_true rfl)).trans ?_
    refine (up_ne (Nat.ne_of_beq_eq_false rfl)).trans ?_
    refine (dq_lt (Nat.le_of_ble_eq_true rfl)).trans ?_
    refine (up_ne (Nat.ne_of_beq_eq_false rfl)).trans ?_
    refine (dq_lt (Nat.le_of_ble_eq_true rfl)).trans ?_
    iterate 2 refine (up_ne (Nat.ne_of_beq_eq_false rfl)).trans ?_
    exact dq_ge (Nat.le_of_ble_eq_true rfl)
  · refine (up_ne (Nat.ne_of_beq_eq_false rfl)).trans ?_
    refine (mq_lt (Nat.le_of_ble_eq_true rfl)).trans ?_
    refine (mq_lt (Nat.le_of_ble_eq_true rfl)).trans ?_
    iterate 4 refine (up_ne (Nat.ne_of_beq_eq_false rfl)).trans ?_
    refine (mq_lt (Nat.le_of_ble_eq_true rfl)).trans ?_
    refine (mq_lt (Nat.le_of_ble_eq_true rfl)).trans ?_
    iterate 2 refine (up_ne (Nat.ne_of_beq_eq_false rfl)).trans ?_
    refine (mq_lt (Nat.le_of_ble_eq_true rfl)).trans ?_
    iterate 6 refine (up_ne (Nat.ne_of_beq_eq_false rfl)).trans ?_
    refine (dq_lt (Nat.le_of_ble_eq_true rfl)).trans ?_
    refine (up_ne (Nat.ne_of_beq_eq_false rfl)).trans ?_
    refine (dq_lt (Nat.le_of_ble_eq_true rfl)).trans ?_
    refine (up_ne (Nat.ne_of_beq_eq_false rfl)).trans ?_
    refine (dq_lt (Nat.le_of_ble_eq_true rfl)).trans ?_
    refine (up_ne (Nat.ne_of_beq_eq_false rfl)).trans ?_
    refine (dq_lt (Nat.le_of_ble_eq_true rfl)).trans ?_
    refine (up_ne (Nat.ne_of_beq_eq_false rfl)).trans ?_
    refine (dq_lt (Nat.le_of_ble_eq_true rfl)).trans ?_
    refine (up_ne (Nat.ne_of_beq_eq_false rfl)).trans ?_
    refine (dq_lt (Nat.le_of_ble_eq_true rfl)).trans ?_
    refine (up_ne (Nat.ne_of_beq_eq_false rfl)).trans ?_
    refine (dq_lt (Nat.le_of_ble_eq_true rfl)).trans ?_
    refine (up_ne (Nat.ne_of_beq_eq_false rfl)).trans ?_
    refine (dq_lt (Nat.le_of_ble_eq_true rfl)).trans ?_
    iterate 2 refine (up_ne (Nat.ne_of_beq_eq_false rfl)).trans ?_
    exact dq_ge (Nat.le_of_ble_eq_true rfl)
  · refine (up_ne (Nat.ne_of_beq_eq_false rfl)).trans ?_
    refine (mq_lt (Nat.le_of_ble_eq_true rfl)).trans ?_
    refine (mq_lt (Nat.le_of_ble_eq_true rfl)).trans ?_
    iterate 4 refine (up_ne (Nat.ne_of_beq_eq_false rfl)).trans ?_
    refine (mq_lt (Nat.le_of_ble_eq_true rfl)).trans ?_
    refine (mq_lt (Nat.le_of_ble_eq_true rfl)).trans ?_
    iterate 2 refine (up_ne (Nat.ne_of_beq_eq_false rfl)).trans ?_
    refine (mq_lt (Nat.le_of_ble_eq_true rfl)).trans ?_
    iterate 6 refine (up_ne (Nat.ne_of_beq_eq_false rfl)).trans ?_
    refine (dq_lt (Nat.le_of_ble_eq_true rfl)).trans ?_
    refine (up_ne (Nat.ne_of_beq_eq_false rfl)).trans ?_
    refine (dq_lt (Nat.le_of_ble_eq_true rfl)).trans ?_
    refine (up_ne (Nat.ne_of_beq_eq_false rfl)).trans ?_
    refine (dq_lt (Nat.le_of_ble_eq_true rfl)).trans ?_
    refine (up_ne (Nat.ne_of_beq_eq_false rfl)).trans ?_
    refine (dq_lt (Nat.le_of_ble_eq_true rfl)).trans ?_
    refine (up_ne (Nat.ne_of_beq_eq_false rfl)).trans ?_
    refine (dq_lt (Nat.le_of_ble_eq_true rfl)).trans ?_
    refine (up_ne (Nat.ne_of_beq_eq_false rfl)).trans ?_
    refine (dq_lt (Nat.le_of_ble_eq_true rfl)).trans ?_
    refine (up_ne (Nat.ne_of_beq_eq_false rfl)).trans ?_
    refine (dq_lt (Nat.le_of_ble_eq_true rfl)).trans ?_
    refine (up_ne (Nat.ne_of_beq_eq_false rfl)).trans ?_
    refine (dq_lt (Nat.le_of_ble_eq_true rfl)).trans ?_
    iterate 2 refine (up_ne (Nat.ne_of_beq_eq_false rfl)).trans ?_
    exact dq_ge (Nat.le_of_ble_eq_true rfl)
  · refine (up_ne (Nat.ne_of_beq_eq_false rfl)).trans ?_
    refine (mq_lt (Nat.le_of_ble_eq_true rfl)).trans ?_
    refine (mq_lt (Nat.le_of_ble_eq_true rfl)).trans ?_
    iterate 4 refine (up_ne (Nat.ne_of_beq_eq_false rfl)).trans ?_
    refine (mq_lt (Nat.le_of_ble_eq_true rfl)).trans ?_
    refine (mq_lt (Nat.le_of_ble_eq_true rfl)).trans ?_
    iterate 2 refine (up_ne (Nat.ne_of_beq_eq_false rfl)).trans ?_
    refine (mq_lt (Nat.le_of_ble_eq_true rfl)).trans ?_
    iterate 6 refine (up_ne (Nat.ne_of_beq_eq_false rfl)).trans ?_
    refine (dq_lt (Nat.le_of_ble_eq_true rfl)).trans ?_
    refine (up_ne (Nat.ne_of_beq_eq_false rfl)).trans ?_
    refine (dq_lt (Nat.le_of_ble_eq_true rfl)).trans ?_
    refine (up_ne (Nat.ne_of_beq_eq_false rfl)).trans ?_
    refine (dq_lt (Nat.le_of_ble_eq_true rfl)).trans ?_
    refine (up_ne (Nat.ne_of_beq_eq_false rfl)).trans ?_
    refine (dq_lt (Nat.le_of_ble_eq_true rfl)).trans ?_
    refine (up_ne (Nat.ne_of_beq_eq_false rfl)).trans ?_
    refine (dq_lt (Nat.le_of_ble_eq_true rfl)).trans ?_
    refine (up_ne (Nat.ne_of_beq_eq_false rfl)).trans ?_
    refine (dq_lt (Nat.le_of_ble_eq_true rfl)).trans ?_
    refine (up_ne (Nat.ne_of_beq_eq_false rfl)).trans ?_
    refine (dq_lt (Nat.le_of_ble_eq_true rfl)).trans ?_
    refine (up_ne (Nat.ne_of_beq_eq_false rfl)).trans ?_
    refine (dq_lt (Nat.le_of_ble_eq_true rfl)).trans ?_
    iterate 2 refine (up_ne (Nat.ne_of_beq_eq_false rfl)).trans ?_
    exact dq_ge (Nat.le_of_ble_eq_true rfl)
  · refine (up_ne (Nat.ne_of_beq_eq_false rfl)).trans ?_
    refine (mq_lt (Nat.le_of_ble_eq_true rfl)).trans ?_
    refine (mq_lt (Nat.le_of_ble_eq_true rfl)).trans ?_
    iterate 4 refine (up_ne (Nat.ne_of_beq_eq_false rfl)).trans ?_
    refine (mq_lt (Nat.le_of_ble_eq_true rfl)).trans ?_
    refine (mq_lt (Nat.le_of_ble_eq_true rfl)).trans ?_
    iterate 2 refine (up_ne (Nat.ne_of_beq_eq_false rfl)).trans ?_
    refine (mq_lt (Nat.le_of_ble_eq_true rfl)).trans ?_
    iterate 6 refine (up_ne (Nat.ne_of_beq_eq_false rfl)).trans ?_
    refine (dq_lt (Nat.le_of_ble_eq_true rfl)).trans ?_
    refine (up_ne (Nat.ne_of_beq_eq_false rfl)).trans ?_
    refine (dq_lt (Nat.le_of_ble_eq_true rfl)).trans ?_
    refine (up_ne (Nat.ne_of_beq_eq_false rfl)).trans ?_
    refine (dq_lt (Nat.le_of_ble_eq_true rfl)).trans ?_
    refine (up_ne (Nat.ne_of_beq_eq_false rfl)).trans ?_
    refine (dq_lt (Nat.le_of_ble_eq_true rfl)).trans ?_
    refine (up_ne (Nat.ne_of_beq_eq_false rfl)).trans ?_
    refine (dq_lt (Nat.le_of_ble_eq_true rfl)).trans ?_
    refine (up_ne (Nat.ne_of_beq_eq_false rfl)).trans ?_
    refine (dq_lt (Nat.le_of_ble_eq_true rfl)).trans ?_
    refine (up_ne (Nat.ne_of_beq_eq_false rfl)).trans ?_
    refine (dq_lt (Nat.le_of_ble_eq_true rfl)).trans ?_
    refine (up_ne (Nat.ne_of_beq_eq_false rfl)).trans ?_
    refine (dq_lt (Nat.le_of_ble_eq_true rfl)).trans ?_
    iterate 2 refine (up_ne (Nat.ne_of_beq_eq_false rfl)).trans ?_
    exact dq_ge (Nat.le_of_ble_eq_true rfl)
  · refine (up_ne (Nat.ne_of_beq_eq_false rfl)).trans ?_
    refine (mq_lt (Nat.le_of_ble_eq_true rfl)).trans ?_
    refine (mq_lt (Nat.le_of_ble_eq_true rfl)).trans ?_
    iterate 4 refine (up_ne (Nat.ne_of_beq_eq_false rfl)).trans ?_
    refine (mq_lt (Nat.le_of_ble_eq_true rfl)).trans ?_
    refine (mq_lt (Nat.le_of_ble_eq_true rfl)).trans ?_
    iterate 2 refine (up_ne (Nat.ne_of_beq_eq_false rfl)).trans ?_
    refine (mq_lt (Nat.le_of_ble_eq_true rfl)).trans ?_
    iterate 6 refine (up_ne (Nat.ne_of_beq_eq_false rfl)).trans ?_
    refine (dq_lt (Nat.le_of_ble_eq_true rfl)).trans ?_
    refine (up_ne (Nat.ne_of_beq_eq_false rfl)).trans ?_
    refine (dq_lt (Nat.le_of_ble_eq_true rfl)).trans ?_
    refine (up_ne (Nat.ne_of_beq_eq_false rfl)).trans ?_
    refine (dq_lt (Nat.le_of_ble_eq_true rfl)).trans ?_
    refine (up_ne (Nat.ne_of_beq_eq_false rfl)).trans ?_
    refine (dq_lt (Nat.le_of_ble_eq_true rfl)).trans ?_
    refine (up_ne (Nat.ne_of_beq_eq_false rfl)).trans ?_
    refine (dq_lt (Nat.le_of_ble_eq_true rfl)).trans ?_
    refine (up_ne (Nat.ne_of_beq_eq_false rfl)).trans ?_
    refine (dq_lt (Nat.le_of_ble_eq_true rfl)).trans ?_
    refine (up_ne (Nat.ne_of_beq_eq_false rfl)).trans ?_
    refine (dq_lt (Nat.le_of_ble_eq_true rfl)).trans ?_
    refine (up_ne (Nat.ne_of_beq_eq_false rfl)).trans ?_
    refine (dq_lt (Nat.le_of_ble_eq_true rfl)).trans ?_
    iterate 2 refine (up_ne (Nat.ne_of_beq_eq_false rfl)).trans ?_
    exact dq_ge (Nat.le_of_ble_eq_true rfl)
  · refine (up_ne (Nat.ne_of_beq_eq_false rfl)).trans ?_
    refine (mq_lt (Nat.le_of_ble_eq_true rfl)).trans ?_
    refine (mq_lt (Nat.le_of_ble_eq_true rfl)).trans ?_
    iterate 4 refine (up_ne (Nat.ne_of_beq_eq_false rfl)).trans ?_
    refine (mq_lt (Nat.le_of_ble_eq_true rfl)).trans ?_
    refine (mq_lt (Nat.le_of_ble_eq_true rfl)).trans ?_
    iterate 2 refine (up_ne (Nat.ne_of_beq_eq_false rfl)).trans ?_
    refine (mq_lt (Nat.le_of_ble_eq_true rfl)).trans ?_
    iterate 6 refine (up_ne (Nat.ne_of_beq_eq_false rfl)).trans ?_
    refine (dq_lt (Nat.le_of_ble_eq_true rfl)).trans ?_
    refine (up_ne (Nat.ne_of_beq_eq_false rfl)).trans ?_
    refine (dq_lt (Nat.le_of_ble_eq_true rfl)).trans ?_
    refine (up_ne (Nat.ne_of_beq_eq_false rfl)).trans ?_
    refine (dq_lt (Nat.le_of_ble_eq_true rfl)).trans ?_
    refine (up_ne (Nat.ne_of_beq_eq_false rfl)).trans ?_
    refine (dq_lt (Nat.le_of_ble_eq_true rfl)).trans ?_
    refine (up_ne (Nat.ne_of_beq_eq_false rfl)).trans ?_
    refine (dq_lt (Nat.le_of_ble_eq_true rfl)).trans ?_
    refine (up_ne (Nat.ne_of_beq_eq_false rfl)).trans ?_
    refine (dq_lt (Nat.le_of_ble_eq_true rfl)).trans ?_
    refine (up_ne (Nat.ne_of_beq_eq_false rfl)).trans ?_
    refine (dq_lt (Nat.le_of_ble_eq_true rfl)).trans ?_
    refine (up_ne (Nat.ne_of_beq_eq_false rfl)).trans ?_
    refine (dq_lt (Nat.le_of_ble_eq_true rfl)).trans ?_
    iterate 2 refine (up_ne (Nat.ne_of_beq_eq_false rfl)).trans ?_
    exact dq_ge (Nat.le_of_ble_eq_true rfl)
  · refine (up_ne (Nat.ne_of_beq_eq_false rfl)).trans ?_
    refine (mq_lt (Nat.le_of_ble_eq_true rfl)).trans ?_
    refine (mq_lt (Nat.le_of_ble_eq_true rfl)).trans ?_
    iterate 4 refine (up_ne (Nat.ne_of_beq_eq_false rfl)).trans ?_
    refine (mq_lt (Nat.le_of_ble_eq_true rfl)).trans ?_
    refine (mq_lt (Nat.le_of_ble_eq_true rfl)).trans ?_
    iterate 2 refine (up_ne (Nat.ne_of_beq_eq_false rfl)).trans ?_
    refine (mq_lt (Nat.le_of_ble_eq_true rfl)).trans ?_
    iterate 6 refine (up_ne (Nat.ne_of_beq_eq_false rfl)).trans ?_
    refine (dq_lt (Nat.le_of_ble_eq_true rfl)).trans ?_
    refine (up_ne (Nat.ne_of_beq_eq_false rfl)).trans ?_
    refine (dq_lt (Nat.le_of_ble_eq_true rfl)).trans ?_
    refine (up_ne (Nat.ne_of_beq_eq_false rfl)).trans ?_
    refine (dq_lt (Nat.le_of_ble_eq_true rfl)).trans ?_
    refine (up_ne (Nat.ne_of_beq_eq_false rfl)).trans ?_
    refine (dq_lt (Nat.le_of_ble_eq_true rfl)).trans ?_
    refine (up_ne (Nat.ne_of_beq_eq_false rfl)).trans ?_
    refine (dq_lt (Nat.le_of_ble_eq_true rfl)).trans ?_
    refine (up_ne (Nat.ne_of_beq_eq_false rfl)).trans ?_
    refine (dq_lt (Nat.le_of_ble_eq_true rfl)).trans ?_
    refine (up_ne (Nat.ne_of_beq_eq_false rfl)).trans ?_
    refine (dq_lt (Nat.le_of_ble_eq_true rfl)).trans ?_
    refine (up_ne (Nat.ne_of_beq_eq_false rfl)).trans ?_
    refine (dq_lt (Nat.le_of_ble_eq_true rfl)).trans ?_
    refine (up_ne (Nat.ne_of_beq_eq_false rfl)).trans ?_
    exact up_eq
  · refine (up_ne (Nat.ne_of_beq_eq_false rfl)).trans ?_
    refine (mq_lt (Nat.le_of_ble_eq_true rfl)).trans ?_
    refine (mq_lt (Nat.le_of_ble_eq_true rfl)).trans ?_
    iterate 4 refine (up_ne (Nat.ne_of_beq_eq_false rfl)).trans ?_
    refine (mq_lt (Nat.le_of_ble_eq_true rfl)).trans ?_
    refine (mq_lt (Nat.le_of_ble_eq_true rfl)).trans ?_
    iterate 2 refine (up_ne (Nat.ne_of_beq_eq_false rfl)).trans ?_
    refine (mq_lt (Nat.le_of_ble_eq_true rfl)).trans ?_
    iterate 6 refine (up_ne (Nat.ne_of_beq_eq_false rfl)).trans ?_
    refine (dq_lt (Nat.le_of_ble_eq_true rfl)).trans ?_
    refine (up_ne (Nat.ne_of_beq_eq_false rfl)).trans ?_
    refine (dq_lt (Nat.le_of_ble_eq_true rfl)).trans ?_
    refine (up_ne (Nat.ne_of_beq_eq_false rfl)).trans ?_
    refine (dq_lt (Nat.le_of_ble_eq_true rfl)).trans ?_
    refine (up_ne (Nat.ne_of_beq_eq_false rfl)).trans ?_
    refine (dq_lt (Nat.le_of_ble_eq_true rfl)).trans ?_
    refine (up_ne (Nat.ne_of_beq_eq_false rfl)).trans ?_
    refine (dq_lt (Nat.le_of_ble_eq_true rfl)).trans ?_
    refine (up_ne (Nat.ne_of_beq_eq_false rfl)).trans ?_
    refine (dq_lt (Nat.le_of_ble_eq_true rfl)).trans ?_
    refine (up_ne (Nat.ne_of_beq_eq_false rfl)).trans ?_
    refine (dq_lt (Nat.le_of_ble_eq_true rfl)).trans ?_
    refine (up_ne (Nat.ne_of_beq_eq_false rfl)).trans ?_
    refine (dq_lt (Nat.le_of_ble_eq_true rfl)).trans ?_
    exact up_eq
  · refine (up_ne (Nat.ne_of_beq_eq_false rfl)).trans ?_
    refine (mq_lt (Nat.le_of_ble_eq_true rfl)).trans ?_
    refine (mq_lt (Nat.le_of_ble_eq_true rfl)).trans ?_
    iterate 4 refine (up_ne (Nat.ne_of_beq_eq_false rfl)).trans ?_
    refine (mq_lt (Nat.le_of_ble_eq_true rfl)).trans ?_
    refine (mq_lt (Nat.le_of_ble_eq_true rfl)).trans ?_
    iterate 2 refine (up_ne (Nat.ne_of_beq_eq_false rfl)).trans ?_
    refine (mq_lt (Nat.le_of_ble_eq_true rfl)).trans ?_
    iterate 6 refine (up_ne (Nat.ne_of_beq_eq_false rfl)).trans ?_
    refine (dq_lt (Nat.le_of_ble_eq_true rfl)).trans ?_
    refine (up_ne (Nat.ne_of_beq_eq_false rfl)).trans ?_
    refine (dq_lt (Nat.le_of_ble_eq_true rfl)).trans ?_
    refine (up_ne (Nat.ne_of_beq_eq_false rfl)).trans ?_
    refine (dq_lt (Nat.le_of_ble_eq_true rfl)).trans ?_
    refine (up_ne (Nat.ne_of_beq_eq_false rfl)).trans ?_
    refine (dq_lt (Nat.le_of_ble_eq_true rfl)).trans ?_
    refine (up_ne (Nat.ne_of_beq_eq_false rfl)).trans ?_
    refine (dq_lt (Nat.le_of_ble_eq_true rfl)).trans ?_
    refine (up_ne (Nat.ne_of_beq_eq_false rfl)).trans ?_
    refine (dq_lt (Nat.le_of_ble_eq_true rfl)).trans ?_
    refine (up_ne (Nat.ne_of_beq_eq_false rfl)).trans ?_
    refine (dq_lt (Nat.le_of_ble_eq_true rfl)).trans ?_
    refine (up_ne (Nat.ne_of_beq_eq_false rfl)).trans ?_
    exact dq_ge (Nat.le_of_ble_eq_true rfl)
  · refine (up_ne (Nat.ne_of_beq_eq_false rfl)).trans ?_
    refine (mq_lt (Nat.le_of_ble_eq_true rfl)).trans ?_
    refine (mq_lt (Nat.le_of_ble_eq_true rfl)).trans ?_
    iterate 4 refine (up_ne (Nat.ne_of_beq_eq_false rfl)).trans ?_
    refine (mq_lt (Nat.le_of_ble_eq_true rfl)).trans ?_
    refine (mq_lt (Nat.le_of_ble_eq_true rfl)).trans ?_
    iterate 2 refine (up_ne (Nat.ne_of_beq_eq_false rfl)).trans ?_
    refine (mq_lt (Nat.le_of_ble_eq_true rfl)).trans ?_
    iterate 6 refine (up_ne (Nat.ne_of_beq_eq_false rfl)).trans ?_
    refine (dq_lt (Nat.le_of_ble_eq_true rfl)).trans ?_
    refine (up_ne (Nat.ne_of_beq_eq_false rfl)).trans ?_
    refine (dq_lt (Nat.le_of_ble_eq_true rfl)).trans ?_
    refine (up_ne (Nat.ne_of_beq_eq_false rfl)).trans ?_
    refine (dq_lt (Nat.le_of_ble_eq_true rfl)).trans ?_
    refine (up_ne (Nat.ne_of_beq_eq_false rfl)).trans ?_
    refine (dq_lt (Nat.le_of_ble_eq_true rfl)).trans ?_
    refine (up_ne (Nat.ne_of_beq_eq_false rfl)).trans ?_
    refine (dq_lt (Nat.le_of_ble_eq_true rfl)).trans ?_
    refine (up_ne (Nat.ne_of_beq_eq_false rfl)).trans ?_
    refine (dq_lt (Nat.le_of_ble_eq_true rfl)).trans ?_
    refine (up_ne (Nat.ne_of_beq_eq_false rfl)).trans ?_
    refine (dq_lt (Nat.le_of_ble_eq_true rfl)).trans ?_
    refine (up_ne (Nat.ne_of_beq_eq_false rfl)).trans ?_
    exact dq_ge (Nat.le_of_ble_eq_true rfl)
  · refine (up_ne (Nat.ne_of_beq_eq_false rfl)).trans ?_
    refine (mq_lt (Nat.le_of_ble_eq_true rfl)).trans ?_
    refine (mq_lt (Nat.le_of_ble_eq_true rfl)).trans ?_
    iterate 4 refine (up_ne (Nat.ne_of_beq_eq_false rfl)).trans ?_
    refine (mq_lt (Nat.le_of_ble_eq_true rfl)).trans ?_
    refine (mq_lt (Nat.le_of_ble_eq_true rfl)).trans ?_
    iterate 2 refine (up_ne (Nat.ne_of_beq_eq_false rfl)).trans ?_
    refine (mq_lt (Nat.le_of_ble_eq_true rfl)).trans ?_
    iterate 6 refine (up_ne (Nat.ne_of_beq_eq_false rfl)).trans ?_
    refine (dq_lt (Nat.le_of_ble_eq_true rfl)).trans ?_
    refine (up_ne (Nat.ne_of_beq_eq_false rfl)).trans ?_
    refine (dq_lt (Nat.le_of_ble_eq_true rfl)).trans ?_
    refine (up_ne (Nat.ne_of_beq_eq_false rfl)).trans ?_
    refine (dq_lt (Nat.le_of_ble_eq_true rfl)).trans ?_
    refine (up_ne (Nat.ne_of_beq_eq_false rfl)).trans ?_
    refine (dq_lt (Nat.le_of_ble_eq_true rfl)).trans ?_
    refine (up_ne (Nat.ne_of_beq_eq_false rfl)).trans ?_
    refine (dq_lt (Nat.le_of_ble_eq_true rfl)).trans ?_
    refine (up_ne (Nat.ne_of_beq_eq_false rfl)).trans ?_
    refine (dq_lt (Nat.le_of_ble_eq_true rfl)).trans ?_
    refine (up_ne (Nat.ne_of_beq_eq_false rfl)).trans ?_
    refine (dq_lt (Nat.le_of_ble_eq_true rfl)).trans ?_
    refine (up_ne (Nat.ne_of_beq_eq_false rfl)).trans ?_
    exact dq_ge (Nat.le_of_ble_eq_true rfl)
  · refine (up_ne (Nat.ne_of_beq_eq_false rfl)).trans ?_
    refine (mq_lt (Nat.le_of_ble_eq_true rfl)).trans ?_
    refine (mq_lt (Nat.le_of_ble_eq_true rfl)).trans ?_
    iterate 4 refine (up_ne (Nat.ne_of_beq_eq_false rfl)).trans ?_
    refine (mq_lt (Nat.le_of_ble_eq_true rfl)).trans ?_
    refine (mq_lt (Nat.le_of_ble_eq_true rfl)).trans ?_
    iterate 2 refine (up_ne (Nat.ne_of_beq_eq_false rfl)).trans ?_
    refine (mq_lt (Nat.le_of_ble_eq_true rfl)).trans ?_
    iterate 6 refine (up_ne (Nat.ne_of_beq_eq_false rfl)).trans ?_
    refine (dq_lt (Nat.le_of_ble_eq_true rfl)).trans ?_
    refine (up_ne (Nat.ne_of_beq_eq_false rfl)).trans ?_
    refine (dq_lt (Nat.le_of_ble_eq_true rfl)).trans ?_
    refine (up_ne (Nat.ne_of_beq_eq_false rfl)).trans ?_
    refine (dq_lt (Nat.le_of_ble_eq_true rfl)).trans ?_
    refine (up_ne (Nat.ne_of_beq_eq_false rfl)).trans ?_
    refine (dq_lt (Nat.le_of_ble_eq_true rfl)).trans ?_
    refine (up_ne (Nat.ne_of_beq_eq_false rfl)).trans ?_
    refine (dq_lt (Nat.le_of_ble_eq_true rfl)).trans ?_
    refine (up_ne (Nat.ne_of_beq_eq_false rfl)).trans ?_
    refine (dq_lt (Nat.le_of_ble_eq_true rfl)).trans ?_
    refine (up_ne (Nat.ne_of_beq_eq_false rfl)).trans ?_
    refine (dq_lt (Nat.le_of_ble_eq_true rfl)).trans ?_
    refine (up_ne (Nat.ne_of_beq_eq_false rfl)).trans ?_
    exact dq_ge (Nat.le_of_ble_eq_true rfl)
  · refine (up_ne (Nat.ne_of_beq_eq_false rfl)).trans ?_
    refine (mq_lt (Nat.le_of_ble_eq_true rfl)).trans ?_
    refine (mq_lt (Nat.le_of_ble_eq_true rfl)).trans ?_
    iterate 4 refine (up_ne (Nat.ne_of_beq_eq_false rfl)).trans ?_
    refine (mq_lt (Nat.le_of_ble_eq_true rfl)).trans ?_
    refine (mq_lt (Nat.le_of_ble_eq_true rfl)).trans ?_
    iterate 2 refine (up_ne (Nat.ne_of_beq_eq_false rfl)).trans ?_
    refine (mq_lt (Nat.le_of_ble_eq_true rfl)).trans ?_
    iterate 6 refine (up_ne (Nat.ne_of_beq_eq_false rfl)).trans ?_
    refine (dq_lt (Nat.le_of_ble_eq_true rfl)).trans ?_
    refine (up_ne (Nat.ne_of_beq_eq_false rfl)).trans ?_
    refine (dq_lt (Nat.le_of_ble_eq_true rfl)).trans ?_
    refine (up_ne (Nat.ne_of_beq_eq_false rfl)).trans ?_
    refine (dq_lt (Nat.le_of_ble_eq_true rfl)).trans ?_
    refine (up_ne (Nat.ne_of_beq_eq_false rfl)).trans ?_
    refine (dq_lt (Nat.le_of_ble_eq_true rfl)).trans ?_
    refine (up_ne (Nat.ne_of_beq_eq_false rfl)).trans ?_
    refine (dq_lt (Nat.le_of_ble_eq_true rfl)).trans ?_
    refine (up_ne (Nat.ne_of_beq_eq_false rfl)).trans ?_
    refine (dq_lt (Nat.le_of_ble_eq_true rfl)).trans ?_
    refine (up_ne (Nat.ne_of_beq_eq_false rfl)).trans ?_
    refine (dq_lt (Nat.le_of_ble_eq_true rfl)).trans ?_
    refine (up_ne (Nat.ne_of_beq_eq_false rfl)).trans ?_
    exact dq_ge (Nat.le_of_ble_eq_true rfl)
  · refine (up_ne (Nat.ne_of_beq_eq_false rfl)).trans ?_
    refine (mq_lt (Nat.le_of_ble_eq_true rfl)).trans ?_
    refine (mq_lt (Nat.le_of_ble_eq_true rfl)).trans ?_
    iterate 4 refine (up_ne (Nat.ne_of_beq_eq_false rfl)).trans ?_
    refine (mq_lt (Nat.le_of_ble_eq_true rfl)).trans ?_
    refine (mq_lt (Nat.le_of_ble_eq_true rfl)).trans ?_
    iterate 2 refine (up_ne (Nat.ne_of_beq_eq_false rfl)).trans ?_
    refine (mq_lt (Nat.le_of_ble_eq_true rfl)).trans ?_
    iterate 6 refine (up_ne (Nat.ne_of_beq_eq_false rfl)).trans ?_
    refine (dq_lt (Nat.le_of_ble_eq_true rfl)).trans ?_
    refine (up_ne (Nat.ne_of_beq_eq_false rfl)).trans ?_
    refine (dq_lt (Nat.le_of_ble_eq_true rfl)).trans ?_
    refine (up_ne (Nat.ne_of_beq_eq_false rfl)).trans ?_
    refine (dq_lt (Nat.le_of_ble_eq_true rfl)).trans ?_
    refine (up_ne (Nat.ne_of_beq_eq_false rfl)).trans ?_
    refine (dq_lt (Nat.le_of_ble_eq_true rfl)).trans ?_
    refine (up_ne (Nat.ne_of_beq_eq_false rfl)).trans ?_
    refine (dq_lt (Nat.le_of_ble_eq_true rfl)).trans ?_
    refine (up_ne (Nat.ne_of_beq_eq_false rfl)).trans ?_
    refine (dq_lt (Nat.le_of_ble_eq_true rfl)).trans ?_
    refine (up_ne (Nat.ne_of_beq_eq_false rfl)).trans ?_
    refine (dq_lt (Nat.le_of_ble_eq_true rfl)).trans ?_
    refine (up_ne (Nat.ne_of_beq_eq_false rfl)).trans ?_
    exact dq_ge (Nat.le_of_ble_eq_true rfl)
  · refine (up_ne (Nat.ne_of_beq_eq_false rfl)).trans ?_
    refine (mq_lt (Nat.le_of_ble_eq_true rfl)).trans ?_
    refine (mq_lt (Nat.le_of_ble_eq_true rfl)).trans ?_
    iterate 4 refine (up_ne (Nat.ne_of_beq_eq_false rfl)).trans ?_
    refine (mq_lt (Nat.le_of_ble_eq_true rfl)).trans ?_
    refine (mq_lt (Nat.le_of_ble_eq_true rfl)).trans ?_
    iterate 2 refine (up_ne (Nat.ne_of_beq_eq_false rfl)).trans ?_
    refine (mq_lt (Nat.le_of_ble_eq_true rfl)).trans ?_
    iterate 6 refine (up_ne (Nat.ne_of_beq_eq_false rfl)).trans ?_
    refine (dq_lt (Nat.le_of_ble_eq_true rfl)).trans ?_
    refine (up_ne (Nat.ne_of_beq_eq_false rfl)).trans ?_
    refine (dq_lt (Nat.le_of_ble_eq_true rfl)).trans ?_
    refine (up_ne (Nat.ne_of_beq_eq_false rfl)).trans ?_
    refine (dq_lt (Nat.le_of_ble_eq_true rfl)).trans ?_
    refine (up_ne (Nat.ne_of_beq_eq_false rfl)).trans ?_
    refine (dq_lt (Nat.le_of_ble_eq_true rfl)).trans ?_
    refine (up_ne (Nat.ne_of_beq_eq_false rfl)).trans ?_
    refine (dq_lt (Nat.le_of_ble_eq_true rfl)).trans ?_
    refine (up_ne (Nat.ne_of_beq_eq_false rfl)).trans ?_
    refine (dq_lt (Nat.le_of_ble_eq_true rfl)).trans ?_
    refine (up_ne (Nat.ne_of_beq_eq_false rfl)).trans ?_
    refine (dq_lt (Nat.le_of_ble_eq_true rfl)).trans ?_
    refine (up_ne (Nat.ne_of_beq_eq_false rfl)).trans ?_
    exact dq_ge (Nat.le_of_ble_eq_true rfl)
  · refine (up_ne (Nat.ne_of_beq_eq_false rfl)).trans ?_
    refine (mq_lt (Nat.le_of_ble_eq_true rfl)).trans ?_
    refine (mq_lt (Nat.le_of_ble_eq_true rfl)).trans ?_
    iterate 4 refine (up_ne (Nat.ne_of_beq_eq_false rfl)).trans ?_
    refine (mq_lt (Nat.le_of_ble_eq_true rfl)).trans ?_
    refine (mq_lt (Nat.le_of_ble_eq_true rfl)).trans ?_
    iterate 2 refine (up_ne (Nat.ne_of_beq_eq_false rfl)).trans ?_
    refine (mq_lt (Nat.le_of_ble_eq_true rfl)).trans ?_
    iterate 6 refine (up_ne (Nat.ne_of_beq_eq_false rfl)).trans ?_
    refine (dq_lt (Nat.le_of_ble_eq_true rfl)).trans ?_
    refine (up_ne (Nat.ne_of_beq_eq_false rfl)).trans ?_
    refine (dq_lt (Nat.le_of_ble_eq_true rfl)).trans ?_
    refine (up_ne (Nat.ne_of_beq_eq_false rfl)).trans ?_
    refine (dq_lt (Nat.le_of_ble_eq_true rfl)).trans ?_
    refine (up_ne (Nat.ne_of_beq_eq_false rfl)).trans ?_
    refine (dq_lt (Nat.le_of_ble_eq_true rfl)).trans ?_
    refine (up_ne (Nat.ne_of_beq_eq_false rfl)).trans ?_
    refine (dq_lt (Nat.le_of_ble_eq_true rfl)).trans ?_
    refine (up_ne (Nat.ne_of_beq_eq_false rfl)).trans ?_
    refine (dq_lt (Nat.le_of_ble_eq_true rfl)).trans ?_
    refine (up_ne (Nat.ne_of_beq_eq_false rfl)).trans ?_
    refine (dq_lt (Nat.le_of_ble_eq_true rfl)).trans ?_
    exact up_eq
  · refine (up_ne (Nat.ne_of_beq_eq_false rfl)).trans ?_
    refine (mq_lt (Nat.le_of_ble_eq_true rfl)).trans ?_
    refine (mq_lt (Nat.le_of_ble_eq_true rfl)).trans ?_
    iterate 4 refine (up_ne (Nat.ne_of_beq_eq_false rfl)).trans ?_
    refine (mq_lt (Nat.le_of_ble_eq_true rfl)).trans ?_
    refine (mq_lt (Nat.le_of_ble_eq_true rfl)).trans ?_
    iterate 2 refine (up_ne (Nat.ne_of_beq_eq_false rfl)).trans ?_
    refine (mq_lt (Nat.le_of_ble_eq_true rfl)).trans ?_
    iterate 6 refine (up_ne (Nat.ne_of_beq_eq_false rfl)).trans ?_
    refine (dq_lt (Nat.le_of_ble_eq_true rfl)).trans ?_
    refine (up_ne (Nat.ne_of_beq_eq_false rfl)).trans ?_
    refine (dq_lt (Nat.le_of_ble_eq_true rfl)).trans ?_
    refine (up_ne (Nat.ne_of_beq_eq_false rfl)).trans ?_
    refine (dq_lt (Nat.le_of_ble_eq_true rfl)).trans ?_
    refine (up_ne (Nat.ne_of_beq_eq_false rfl)).trans ?_
    refine (dq_lt (Nat.le_of_ble_eq_true rfl)).trans ?_
    refine (up_ne (Nat.ne_of_beq_eq_false rfl)).trans ?_
    refine (dq_lt (Nat.le_of_ble_eq_true rfl)).trans ?_
    refine (up_ne (Nat.ne_of_beq_eq_false rfl)).trans ?_
    refine (dq_lt (Nat.le_of_ble_eq_true rfl)).trans ?_
    refine (up_ne (Nat.ne_of_beq_eq_false rfl)).trans ?_
    exact dq_ge (Nat.le_of_ble_eq_true rfl)
  · refine (up_ne (Nat.ne_of_beq_eq_false rfl)).trans ?_
    refine (mq_lt (Nat.le_of_ble_eq_true rfl)).trans ?_
    refine (mq_lt (Nat.le_of_ble_eq_true rfl)).trans ?_
    iterate 4 refine (up_ne (Nat.ne_of_beq_eq_false rfl)).trans ?_
    refine (mq_lt (Nat.le_of_ble_eq_true rfl)).trans ?_
    refine (mq_lt (Nat.le_of_ble_eq_true rfl)).trans ?_
    iterate 2 refine (up_ne (Nat.ne_of_beq_eq_false rfl)).trans ?_
    refine (mq_lt (Nat.le_of_ble_eq_true rfl)).trans ?_
    iterate 6 refine (up_ne (Nat.ne_of_beq_eq_false rfl)).trans ?_
    refine (dq_lt (Nat.le_of_ble_eq_true rfl)).trans ?_
    refine (up_ne (Nat.ne_of_beq_eq_false rfl)).trans ?_
    refine (dq_lt (Nat.le_of_ble_eq_true rfl)).trans ?_
    refine (up_ne (Nat.ne_of_beq_eq_false rfl)).trans ?_
    refine (dq_lt (Nat.le_of_ble_eq_true rfl)).trans ?_
    refine (up_ne (Nat.ne_of_beq_eq_false rfl)).trans ?_
    refine (dq_lt (Nat.le_of_ble_eq_true rfl)).trans ?_
    refine (up_ne (Nat.ne_of_beq_eq_false rfl)).trans ?_
    refine (dq_lt (Nat.le_of_ble_eq_true rfl)).trans ?_
    refine (up_ne (Nat.ne_of_beq_eq_false rfl)).trans ?_
    refine (dq_lt (Nat.le_of_ble_eq_true rfl)).trans ?_
    refine (up_ne (Nat.ne_of_beq_eq_false rfl)).trans ?_
    exact dq_ge (Nat.le_of_ble_eq_true rfl)
  · refine (up_ne (Nat.ne_of_beq_eq_false rfl)).trans ?_
    refine (mq_lt (Nat.le_of_ble_eq_true rfl)).trans ?_
    refine (mq_lt (Nat.le_of_ble_eq_true rfl)).trans ?_
    iterate 4 refine (up_ne (Nat.ne_of_beq_eq_false rfl)).trans ?_
    refine (mq_lt (Nat.le_of_ble_eq_true rfl)).trans ?_
    refine (mq_lt (Nat.le_of_ble_eq_true rfl)).trans ?_
    iterate 2 refine (up_ne (Nat.ne_of_beq_eq_false rfl)).trans ?_
    refine (mq_lt (Nat.le_of_ble_eq_true rfl)).trans ?_
    iterate 6 refine (up_ne (Nat.ne_of_beq_eq_false rfl)).trans ?_
    refine (dq_lt (Nat.le_of_ble_eq_true rfl)).trans ?_
    refine (up_ne (Nat.ne_of_beq_eq_false rfl)).trans ?_
    refine (dq_lt (Nat.le_of_ble_eq_true rfl)).trans ?_
    refine (up_ne (Nat.ne_of_beq_eq_false rfl)).trans ?_
    refine (dq_lt (Nat.le_of_ble_eq_true rfl)).trans ?_
    refine (up_ne (Nat.ne_of_beq_eq_false rfl)).trans ?_
    refine (dq_lt (Nat.le_of_ble_eq_true rfl)).trans ?_
    refine (up_ne (Nat.ne_of_beq_eq_false rfl)).trans ?_
    refine (dq_lt (Nat.le_of_ble_eq_true rfl)).trans ?_
    refine (up_ne (Nat.ne_of_beq_eq_false rfl)).trans ?_
    refine (dq_lt (Nat.le_of_ble_eq_true rfl)).trans ?_
    refine (up_ne (Nat.ne_of_beq_eq_false rfl)).trans ?_
    exact dq_ge (Nat.le_of_ble_eq_true rfl)
  · refine (up_ne (Nat.ne_of_beq_eq_false rfl)).trans ?_
    refine (mq_lt (Nat.le_of_ble_eq_true rfl)).trans ?_
    refine (mq_lt (Nat.le_of_ble_eq_true rfl)).trans ?_
    iterate 4 refine (up_ne (Nat.ne_of_beq_eq_false rfl)).trans ?_
    refine (mq_lt (Nat.le_of_ble_eq_true rfl)).trans ?_
    refine (mq_lt (Nat.le_of_ble_eq_true rfl)).trans ?_
    iterate 2 refine (up_ne (Nat.ne_of_beq_eq_false rfl)).trans ?_
    refine (mq_lt (Nat.le_of_ble_eq_true rfl)).trans ?_
    iterate 6 refine (up_ne (Nat.ne_of_beq_eq_false rfl)).trans ?_
    refine (dq_lt (Nat.le_of_ble_eq_true rfl)).trans ?_
    refine (up_ne (Nat.ne_of_beq_eq_false rfl)).trans ?_
    refine (dq_lt (Nat.le_of_ble_eq_true rfl)).trans ?_
    refine (up_ne (Nat.ne_of_beq_eq_false rfl)).trans ?_
    refine (dq_lt (Nat.le_of_ble_eq_true rfl)).trans ?_
    refine (up_ne (Nat.ne_of_beq_eq_false rfl)).trans ?_
    refine (dq_lt (Nat.le_of_ble_eq_true rfl)).trans ?_
    refine (up_ne (Nat.ne_of_beq_eq_false rfl)).trans ?_
    refine (dq_lt (Nat.le_of_ble_eq_true rfl)).trans ?_
    refine (up_ne (Nat.ne_of_beq_eq_false rfl)).trans ?_
    refine (dq_lt (Nat.le_of_ble_eq_true rfl)).trans ?_
    refine (up_ne (Nat.ne_of_beq_eq_false rfl)).trans ?_
    exact dq_ge (Nat.le_of_ble_eq_true rfl)
  · refine (up_ne (Nat.ne_of_beq_eq_false rfl)).trans ?_
    refine (mq_lt (Nat.le_of_ble_eq_true rfl)).trans ?_
    refine (mq_lt (Nat.le_of_ble_eq_true rfl)).trans ?_
    iterate 4 refine (up_ne (Nat.ne_of_beq_eq_false rfl)).trans ?_
    refine (mq_lt (Nat.le_of_ble_eq_true rfl)).trans ?_
    refine (mq_lt (Nat.le_of_ble_eq_true rfl)).trans ?_
    iterate 2 refine (up_ne (Nat.ne_of_beq_eq_false rfl)).trans ?_
    refine (mq_lt (Nat.le_of_ble_eq_true rfl)).trans ?_
    iterate 6 refine (up_ne (Nat.ne_of_beq_eq_false rfl)).trans ?_
    refine (dq_lt (Nat.le_of_ble_eq_true rfl)).trans ?_
    refine (up_ne (Nat.ne_of_beq_eq_false rfl)).trans ?_
    refine (dq_lt (Nat.le_of_ble_eq_true rfl)).trans ?_
    refine (up_ne (Nat.ne_of_beq_eq_false rfl)).trans ?_
    refine (dq_lt (Nat.le_of_ble_eq_true rfl)).trans ?_
    refine (up_ne (Nat.ne_of_beq_eq_false rfl)).trans ?_
    refine (dq_lt (Nat.le_of_ble_eq_true rfl)).trans ?_
    refine (up_ne (Nat.ne_of_beq_eq_false rfl)).trans ?_
    refine (dq_lt (Nat.le_of_ble_eq_true rfl)).trans ?_
    refine (up_ne (Nat.ne_of_beq_eq_false rfl)).trans ?_
    refine (dq_lt (Nat.le_of_ble_eq_true rfl)).trans ?_
    refine (up_ne (Nat.ne_of_beq_eq_false rfl)).trans ?_
    exact dq_ge (Nat.le_of_ble_eq_true rfl)
  · refine (up_ne (Nat.ne_of_beq_eq_false rfl)).trans ?_
    refine (mq_lt (Nat.le_of_ble_eq_true rfl)).trans ?_
    refine (mq_lt (Nat.le_of_ble_eq_true rfl)).trans ?_
    iterate 4 refine (up_ne (Nat.ne_of_beq_eq_false rfl)).trans ?_
    refine (mq_lt (Nat.le_of_ble_eq_true rfl)).trans ?_
    refine (mq_lt (Nat.le_of_ble_eq_true rfl)).trans ?_
    iterate 2 refine (up_ne (Nat.ne_of_beq_eq_false rfl)).trans ?_
    refine (mq_lt (Nat.le_of_ble_eq_true rfl)).trans ?_
    iterate 6 refine (up_ne (Nat.ne_of_beq_eq_false rfl)).trans ?_
    refine (dq_lt (Nat.le_of_ble_eq_true rfl)).trans ?_
    refine (up_ne (Nat.ne_of_beq_eq_false rfl)).trans ?_
    refine (dq_lt (Nat.le_of_ble_eq_true rfl)).trans ?_
    refine (up_ne (Nat.ne_of_beq_eq_false rfl)).trans ?_
    refine (dq_lt (Nat.le_of_ble_eq_true rfl)).trans ?_
    refine (up_ne (Nat.ne_of_beq_eq_false rfl)).trans ?_
    refine (dq_lt (Nat.le_of_ble_eq_true rfl)).trans ?_
    refine (up_ne (Nat.ne_of_beq_eq_false rfl)).trans ?_
    refine (dq_lt (Nat.le_of_ble_eq_true rfl)).trans ?_
    refine (up_ne (Nat.ne_of_beq_eq_false rfl)).trans ?_
    refine (dq_lt (Nat.le_of_ble_eq_true rfl)).trans ?_
    refine (up_ne (Nat.ne_of_beq_eq_false rfl)).trans ?_
    exact dq_ge (Nat.le_of_ble_eq_true rfl)
  · refine (up_ne (Nat.ne_of_beq_eq_false rfl)).trans ?_
    refine (mq_lt (Nat.le_of_ble_eq_true rfl)).trans ?_
    refine (mq_lt (Nat.le_of_ble_eq_true rfl)).trans ?_
    iterate 4 refine (up_ne (Nat.ne_of_beq_eq_false rfl)).trans ?_
    refine (mq_lt (Nat.le_of_ble_eq_true rfl)).trans ?_
    refine (mq_lt (Nat.le_of_ble_eq_true rfl)).trans ?_
    iterate 2 refine (up_ne (Nat.ne_of_beq_eq_false rfl)).trans ?_
    refine (mq_lt (Nat.le_of_ble_eq_true rfl)).trans ?_
    iterate 6 refine (up_ne (Nat.ne_of_beq_eq_false rfl)).trans ?_
    refine (dq_lt (Nat.le_of_ble_eq_true rfl)).trans ?_
    refine (up_ne (Nat.ne_of_beq_eq_false rfl)).trans ?_
    refine (dq_lt (Nat.le_of_ble_eq_true rfl)).trans ?_
    refine (up_ne (Nat.ne_of_beq_eq_false rfl)).trans ?_
    refine (dq_lt (Nat.le_of_ble_eq_true rfl)).trans ?_
    refine (up_ne (Nat.ne_of_beq_eq_false rfl)).trans ?_
    refine (dq_lt (Nat.le_of_ble_eq_true rfl)).trans ?_
    refine (up_ne (Nat.ne_of_beq_eq_false rfl)).trans ?_
    refine (dq_lt (Nat.le_of_ble_eq_true rfl)).trans ?_
    refine (up_ne (Nat.ne_of_beq_eq_false rfl)).trans ?_
    refine (dq_lt (Nat.le_of_ble_eq_true rfl)).trans ?_
    refine (up_ne (Nat.ne_of_beq_eq_false rfl)).trans ?_
    exact dq_ge (Nat.le_of_ble_eq_true rfl)
  · refine (up_ne (Nat.ne_of_beq_eq_false rfl)).trans ?_
    refine (mq_lt (Nat.le_of_ble_eq_true rfl)).trans ?_
    refine (mq_lt (Nat.le_of_ble_eq_true rfl)).trans ?_
    iterate 4 refine (up_ne (Nat.ne_of_beq_eq_false rfl)).trans ?_
    refine (mq_lt (Nat.le_of_ble_eq_true rfl)).trans ?_
    refine (mq_lt (Nat.le_of_ble_eq_true rfl)).trans ?_
    iterate 2 refine (up_ne (Nat.ne_of_beq_eq_false rfl)).trans ?_
    refine (mq_lt (Nat.le_of_ble_eq_true rfl)).trans ?_
    iterate 6 refine (up_ne (Nat.ne_of_beq_eq_false rfl)).trans ?_
    refine (dq_lt (Nat.le_of_ble_eq_true rfl)).trans ?_
    refine (up_ne (Nat.ne_of_beq_eq_false rfl)).trans ?_
    refine (dq_lt (Nat.le_of_ble_eq_true rfl)).trans ?_
    refine (up_ne (Nat.ne_of_beq_eq_false rfl)).trans ?_
    refine (dq_lt (Nat.le_of_ble_eq_true rfl)).trans ?_
    refine (up_ne (Nat.ne_of_beq_eq_false rfl)).trans ?_
    refine (dq_lt (Nat.le_of_ble_eq_true rfl)).trans ?_
    refine (up_ne (Nat.ne_of_beq_eq_false rfl)).trans ?_
    refine (dq_lt (Nat.le_of_ble_eq_true rfl)).trans ?_
    refine (up_ne (Nat.ne_of_beq_eq_false rfl)).trans ?_
    refine (dq_lt (Nat.le_of_ble_eq_true rfl)).trans ?_
    exact up_eq
  · refine (up_ne (Nat.ne_of_beq_eq_false rfl)).trans ?_
    refine (mq_lt (Nat.le_of_ble_eq_true rfl)).trans ?_
    refine (mq_lt (Nat.le_of_ble_eq_true rfl)).trans ?_
    iterate 4 refine (up_ne (Nat.ne_of_beq_eq_false rfl)).trans ?_
    refine (mq_lt (Nat.le_of_ble_eq_true rfl)).trans ?_
    refine (mq_lt (Nat.le_of_ble_eq_true rfl)).trans ?_
    iterate 2 refine (up_ne (Nat.ne_of_beq_eq_false rfl)).trans ?_
    refine (mq_lt (Nat.le_of_ble_eq_true rfl)).trans ?_
    iterate 6 refine (up_ne (Nat.ne_of_beq_eq_false rfl)).trans ?_
    refine (dq_lt (Nat.le_of_ble_eq_true rfl)).trans ?_
    refine (up_ne (Nat.ne_of_beq_eq_false rfl)).trans ?_
    refine (dq_lt (Nat.le_of_ble_eq_true rfl)).trans ?_
    refine (up_ne (Nat.ne_of_beq_eq_false rfl)).trans ?_
    refine (dq_lt (Nat.le_of_ble_eq_true rfl)).trans ?_
    refine (up_ne (Nat.ne_of_beq_eq_false rfl)).trans ?_
    refine (dq_lt (Nat.le_of_ble_eq_true rfl)).trans ?_
    refine (up_ne (Nat.ne_of_beq_eq_false rfl)).trans ?_
    refine (dq_lt (Nat.le_of_ble_eq_true rfl)).trans ?_
    refine (up_ne (Nat.ne_of_beq_eq_false rfl)).trans ?_
    exact dq_ge (Nat.le_of_ble_eq_true rfl)
  · refine (up_ne (Nat.ne_of_beq_eq_false rfl)).trans ?_
    refine (mq_lt (Nat.le_of_ble_eq_true rfl)).trans ?_
    refine (mq_lt (Nat.le_of_ble_eq_true rfl)).trans ?_
    iterate 4 refine (up_ne (Nat.ne_of_beq_eq_false rfl)).trans ?_
    refine (mq_lt (Nat.le_of_ble_eq_true rfl)).trans ?_
    refine (mq_lt (Nat.le_of_ble_eq_true rfl)).trans ?_
    iterate 2 refine (up_ne (Nat.ne_of_beq_eq_false rfl)).trans ?_
    refine (mq_lt (Nat.le_of_ble_eq_true rfl)).trans ?_
    iterate 6 refine (up_ne (Nat.ne_of_beq_eq_false rfl)).trans ?_
    refine (dq_lt (Nat.le_of_ble_eq_true rfl)).trans ?_
    refine (up_ne (Nat.ne_of_beq_eq_false rfl)).trans ?_
    refine (dq_lt (Nat.le_of_ble_eq_true rfl)).trans ?_
    refine (up_ne (Nat.ne_of_beq_eq_false rfl)).trans ?_
    refine (dq_lt (Nat.le_of_ble_eq_true rfl)).trans ?_
    refine (up_ne (Nat.ne_of_beq_eq_false rfl)).trans ?_
    refine (dq_lt (Nat.le_of_ble_eq_true rfl)).trans ?_
    refine (up_ne (Nat.ne_of_beq_eq_false rfl)).trans ?_
    refine (dq_lt (Nat.le_of_ble_eq_true rfl)).trans ?_
    refine (up_ne (Nat.ne_of_beq_eq_false rfl)).trans ?_
    exact dq_ge (Nat.le_of_ble_eq_true rfl)
  · refine (up_ne (Nat.ne_of_beq_eq_false rfl)).trans ?_
    refine (mq_lt (Nat.le_of_ble_eq_true rfl)).trans ?_
    refine (mq_lt (Nat.le_of_ble_eq_true rfl)).trans ?_
    iterate 4 refine (up_ne (Nat.ne_of_beq_eq_false rfl)).trans ?_
    refine (mq_lt (Nat.le_of_ble_eq_true rfl)).trans ?_
    refine (mq_lt (Nat.le_of_ble_eq_true rfl)).trans ?_
    iterate 2 refine (up_ne (Nat.ne_of_beq_eq_false rfl)).trans ?_
    refine (mq_lt (Nat.le_of_ble_eq_true rfl)).trans ?_
    iterate 6 refine (up_ne (Nat.ne_of_beq_eq_false rfl)).trans ?_
    refine (dq_lt (Nat.le_of_ble_eq_true rfl)).trans ?_
    refine (up_ne (Nat.ne_of_beq_eq_false rfl)).trans ?_
    refine (dq_lt (Nat.le_of_ble_eq_true rfl)).trans ?_
    refine (up_ne (Nat.ne_of_beq_eq_false rfl)).trans ?_
    refine (dq_lt (Nat.le_of_ble_eq_true rfl)).trans ?_
    refine (up_ne (Nat.ne_of_beq_eq_false rfl)).trans ?_
    refine (dq_lt (Nat.le_of_ble_eq_true rfl)).trans ?_
    refine (up_ne (Nat.ne_of_beq_eq_false rfl)).trans ?_
    refine (dq_lt (Nat.le_of_ble_eq_true rfl)).trans ?_
    refine (up_ne (Nat.ne_of_beq_eq_false rfl)).trans ?_
    exact dq_ge (Nat.le_of_ble_eq_true rfl)
  · refine (up_ne (Nat.ne_of_beq_eq_false rfl)).trans ?_
    refine (mq_lt (Nat.le_of_ble_eq_true rfl)).trans ?_
    refine (mq_lt (Nat.le_of_ble_eq_true rfl)).trans ?_
    iterate 4 refine (up_ne (Nat.ne_of_beq_eq_false rfl)).trans ?_
    refine (mq_lt (Nat.le_of_ble_eq_true rfl)).trans ?_
    refine (mq_lt (Nat.le_of_ble_eq_true rfl)).trans ?_
    iterate 2 refine (up_ne (Nat.ne_of_beq_eq_false rfl)).trans ?_
    refine (mq_lt (Nat.le_of_ble_eq_true rfl)).trans ?_
    iterate 6 refine (up_ne (Nat.ne_of_beq_eq_false rfl)).trans ?_
    refine (dq_lt (Nat.le_of_ble_eq_true rfl)).trans ?_
    refine (up_ne (Nat.ne_of_beq_eq_false rfl)).trans ?_
    refine (dq_lt (Nat.le_of_ble_eq_true rfl)).trans ?_
    refine (up_ne (Nat.ne_of_beq_eq_false rfl)).trans ?_
    refine (dq_lt (Nat.le_of_ble_eq_true rfl)).trans ?_
    refine (up_ne (Nat.ne_of_beq_eq_false rfl)).trans ?_
    refine (dq_lt (Nat.le_of_ble_eq_true rfl)).trans ?_
    refine (up_ne (Nat.ne_of_beq_eq_false rfl)).trans ?_
    refine (dq_lt (Nat.le_of_ble_eq_true rfl)).trans ?_
    refine (up_ne (Nat.ne_of_beq_eq_false rfl)).trans ?_
    exact dq_ge (Nat.le_of_ble_eq_true rfl)
  · refine (up_ne (Nat.ne_of_beq_eq_false rfl)).trans ?_
    refine (mq_lt (Nat.le_of_ble_eq_true rfl)).trans ?_
    refine (mq_lt (Nat.le_of_ble_eq_true rfl)).trans ?_
    iterate 4 refine (up_ne (Nat.ne_of_beq_eq_false rfl)).trans ?_
    refine (mq_lt (Nat.le_of_ble_eq_true rfl)).trans ?_
    refine (mq_lt (Nat.le_of_ble_eq_true rfl)).trans ?_
    iterate 2 refine (up_ne (Nat.ne_of_beq_eq_false rfl)).trans ?_
    refine (mq_lt (Nat.le_of_ble_eq_true rfl)).trans ?_
    iterate 6 refine (up_ne (Nat.ne_of_beq_eq_false rfl)).trans ?_
    refine (dq_lt (Nat.le_of_ble_eq_true rfl)).trans ?_
    refine (up_ne (Nat.ne_of_beq_eq_false rfl)).trans ?_
    refine (dq_lt (Nat.le_of_ble_eq_true rfl)).trans ?_
    refine (up_ne (Nat.ne_of_beq_eq_false rfl)).trans ?_
    refine (dq_lt (Nat.le_of_ble_eq_true rfl)).trans ?_
    refine (up_ne (Nat.ne_of_beq_eq_false rfl)).trans ?_
    refine (dq_lt (Nat.le_of_ble_eq_true rfl)).trans ?_
    refine (up_ne (Nat.ne_of_beq_eq_false rfl)).trans ?_
    refine (dq_lt (Nat.le_of_ble_eq_true rfl)).trans ?_
    refine (up_ne (Nat.ne_of_beq_eq_false rfl)).trans ?_
    exact dq_ge (Nat.le_of_ble_eq_true rfl)
  · refine (up_ne (Nat.ne_of_beq_eq_false rfl)).trans ?_
    refine (mq_lt (Nat.le_of_ble_eq_true rfl)).trans ?_
    refine (mq_lt (Nat.le_of_ble_eq_true rfl)).trans ?_
    iterate 4 refine (up_ne (Nat.ne_of_beq_eq_false rfl)).trans ?_
    refine (mq_lt (Nat.le_of_ble_eq_true rfl)).trans ?_
    refine (mq_lt (Nat.le_of_ble_eq_true rfl)).trans ?_
    iterate 2 refine (up_ne (Nat.ne_of_beq_eq_false rfl)).trans ?_
    refine (mq_lt (Nat.le_of_ble_eq_true rfl)).trans ?_
    iterate 6 refine (up_ne (Nat.ne_of_beq_eq_false rfl)).trans ?_
    refine (dq_lt (Nat.le_of_ble_eq_true rfl)).trans ?_
    refine (up_ne (Nat.ne_of_beq_eq_false rfl)).trans ?_
    refine (dq_lt (Nat.le_of_ble_eq_true rfl)).trans ?_
    refine (up_ne (Nat.ne_of_beq_eq_false rfl)).trans ?_
    refine (dq_lt (Nat.le_of_ble_eq_true rfl)).trans ?_
    refine (up_ne (Nat.ne_of_beq_eq_false rfl)).trans ?_
    refine (dq_lt (Nat.le_of_ble_eq_true rfl)).trans ?_
    refine (up_ne (Nat.ne_of_beq_eq_false rfl)).trans ?_
    refine (dq_lt (Nat.le_of_ble_eq_true rfl)).trans ?_
    refine (up_ne (Nat.ne_of_beq_eq_false rfl)).trans ?_
    exact dq_ge (Nat.le_of_ble_eq_true rfl)
  · refine (up_ne (Nat.ne_of_beq_eq_false rfl)).trans ?_
    refine (mq_lt (Nat.le_of_ble_eq_true rfl)).trans ?_
    refine (mq_lt (Nat.le_of_ble_eq_true rfl)).trans ?_
    iterate 4 refine (up_ne (Nat.ne_of_beq_eq_false rfl)).trans ?_
    refine (mq_lt (Nat.le_of_ble_eq_true rfl)).trans ?_
    refine (mq_lt (Nat.le_of_ble_eq_true rfl)).trans ?_
    iterate 2 refine (up_ne (Nat.ne_of_beq_eq_false rfl)).trans ?_
    refine (mq_lt (Nat.le_of_ble_eq_true rfl)).trans ?_
    iterate 6 refine (up_ne (Nat.ne_of_beq_eq_false rfl)).trans ?_
    refine (dq_lt (Nat.le_of_ble_eq_true rfl)).trans ?_
    refine (up_ne (Nat.ne_of_beq_eq_false rfl)).trans ?_
    refine (dq_lt (Nat.le_of_ble_eq_true rfl)).trans ?_
    refine (up_ne (Nat.ne_of_beq_eq_false rfl)).trans ?_
    refine (dq_lt (Nat.le_of_ble_eq_true rfl)).trans ?_
    refine (up_ne (Nat.ne_of_beq_eq_false rfl)).trans ?_
    refine (dq_lt (Nat.le_of_ble_eq_true rfl)).trans ?_
    refine (up_ne (Nat.ne_of_beq_eq_false rfl)).trans ?_
    refine (dq_lt (Nat.le_of_ble_eq_true rfl)).trans ?_
    refine (up_ne (Nat.ne_of_beq_eq_false rfl)).trans ?_
    exact dq_ge (Nat.le_of_ble_eq_true rfl)
  · refine (up_ne (Nat.ne_of_beq_eq_false rfl)).trans ?_
    refine (mq_lt (Nat.le_of_ble_eq_true rfl)).trans ?_
    refine (mq_lt (Nat.le_of_ble_eq_true rfl)).trans ?_
    iterate 4 refine (up_ne (Nat.ne_of_beq_eq_false rfl)).trans ?_
    refine (mq_lt (Nat.le_of_ble_eq_true rfl)).trans ?_
    refine (mq_lt (Nat.le_of_ble_eq_true rfl)).trans ?_
    iterate 2 refine (up_ne (Nat.ne_of_beq_eq_false rfl)).trans ?_
    refine (mq_lt (Nat.le_of_ble_eq_true rfl)).trans ?_
    iterate 6 refine (up_ne (Nat.ne_of_beq_eq_false rfl)).trans ?_
    refine (dq_lt (Nat.le_of_ble_eq_true rfl)).trans ?_
    refine (up_ne (Nat.ne_of_beq_eq_false rfl)).trans ?_
    refine (dq_lt (Nat.le_of_ble_eq_true rfl)).trans ?_
    refine (up_ne (Nat.ne_of_beq_eq_false rfl)).trans ?_
    refine (dq_lt (Nat.le_of_ble_eq_true rfl)).trans ?_
    refine (up_ne (Nat.ne_of_beq_eq_false rfl)).trans ?_
    refine (dq_lt (Nat.le_of_ble_eq_true rfl)).trans ?_
    refine (up_ne (Nat.ne_of_beq_eq_false rfl)).trans ?_
    refine (dq_lt (Nat.le_of_ble_eq_true rfl)).trans ?_
    exact up_eq
  · refine (up_ne (Nat.ne_of_beq_eq_false rfl)).trans ?_
    refine (mq_lt (Nat.le_of_ble_eq_true rfl)).trans ?_
    refine (mq_lt (Nat.le_of_ble_eq_true rfl)).trans ?_
    iterate 4 refine (up_ne (Nat.ne_of_beq_eq_false rfl)).trans ?_
    refine (mq_lt (Nat.le_of_ble_eq_true rfl)).trans ?_
    refine (mq_lt (Nat.le_of_ble_eq_true rfl)).trans ?_
    iterate 2 refine (up_ne (Nat.ne_of_beq_eq_false rfl)).trans ?_
    refine (mq_lt (Nat.le_of_ble_eq_true rfl)).trans ?_
    iterate 6 refine (up_ne (Nat.ne_of_beq_eq_false rfl)).trans ?_
    refine (dq_lt (Nat.le_of_ble_eq_true rfl)).trans ?_
    refine (up_ne (Nat.ne_of_beq_eq_false rfl)).trans ?_
    refine (dq_lt (Nat.le_of_ble_eq_true rfl)).trans ?_
    refine (up_ne (Nat.ne_of_beq_eq_false rfl)).trans ?_
    refine (dq_lt (Nat.le_of_ble_eq_true rfl)).trans ?_
    refine (up_ne (Nat.ne_of_beq_eq_false rfl)).trans ?_
    refine (dq_lt (Nat.le_of_ble_eq_true rfl)).trans ?_
    refine (up_ne (Nat.ne_of_beq_eq_false rfl)).trans ?_
    exact dq_ge (Nat.le_of_ble_eq_true rfl)
  · refine (up_ne (Nat.ne_of_beq_eq_false rfl)).trans ?_
    refine (mq_lt (Nat.le_of_ble_eq_true rfl)).trans ?_
    refine (mq_lt (Nat.le_of_ble_eq_true rfl)).trans ?_
    iterate 4 refine (up_ne (Nat.ne_of_beq_eq_false rfl)).trans ?_
    refine (mq_lt (Nat.le_of_ble_eq_true rfl)).trans ?_
    refine (mq_lt (Nat.le_of_ble_eq_true rfl)).trans ?_
    iterate 2 refine (up_ne (Nat.ne_of_beq_eq_false rfl)).trans ?_
    refine (mq_lt (Nat.le_of_ble_eq_true rfl)).trans ?_
    iterate 6 refine (up_ne (Nat.ne_of_beq_eq_false rfl)).trans ?_
    refine (dq_lt (Nat.le_of_ble_eq_true rfl)).trans ?_
    refine (up_ne (Nat.ne_of_beq_eq_false rfl)).trans ?_
    refine (dq_lt (Nat.le_of_ble_eq_true rfl)).trans ?_
    refine (up_ne (Nat.ne_of_beq_eq_false rfl)).trans ?_
    refine (dq_lt (Nat.le_of_ble_eq_true rfl)).trans ?_
    refine (up_ne (Nat.ne_of_beq_eq_false rfl)).trans ?_
    refine (dq_lt (Nat.le_of_ble_eq_true rfl)).trans ?_
    refine (up_ne (Nat.ne_of_beq_eq_false rfl)).trans ?_
    exact dq_ge (Nat.le_of_ble_eq_true rfl)
  · refine (up_ne (Nat.ne_of_beq_eq_false rfl)).trans ?_
    refine (mq_lt (Nat.le_of_ble_eq_true rfl)).trans ?_
    refine (mq_lt (Nat.le_of_ble_eq_true rfl)).trans ?_
    iterate 4 refine (up_ne (Nat.ne_of_beq_eq_false rfl)).trans ?_
    refine (mq_lt (Nat.le_of_ble_eq_true rfl)).trans ?_
    refine (mq_lt (Nat.le_of_ble_eq_true rfl)).trans ?_
    iterate 2 refine (up_ne (Nat.ne_of_beq_eq_false rfl)).trans ?_
    refine (mq_lt (Nat.le_of_ble_eq_true rfl)).trans ?_
    iterate 6 refine (up_ne (Nat.ne_of_beq_eq_false rfl)).trans ?_
    refine (dq_lt (Nat.le_of_ble_eq_true rfl)).trans ?_
    refine (up_ne (Nat.ne_of_beq_eq_false rfl)).trans ?_
    refine (dq_lt (Nat.le_of_ble_eq_true rfl)).trans ?_
    refine (up_ne (Nat.ne_of_beq_eq_false rfl)).trans ?_
    refine (dq_lt (Nat.le_of_ble_eq_true rfl)).trans ?_
    refine (up_ne (Nat.ne_of_beq_eq_false rfl)).trans ?_
    refine (dq_lt (Nat.le_of_ble_eq_true rfl)).trans ?_
    refine (up_ne (Nat.ne_of_beq_eq_false rfl)).trans ?_
    exact dq_ge (Nat.le_of_ble_eq_true rfl)
  · refine (up_ne (Nat.ne_of_beq_eq_false rfl)).trans ?_
    refine (mq_lt (Nat.le_of_ble_eq_true rfl)).trans ?_
    refine (mq_lt (Nat.le_of_ble_eq_true rfl)).trans ?_
    iterate 4 refine (up_ne (Nat.ne_of_beq_eq_false rfl)).trans ?_
    refine (mq_lt (Nat.le_of_ble_eq_true rfl)).trans ?_
    refine (mq_lt (Nat.le_of_ble_eq_true rfl)).trans ?_
    iterate 2 refine (up_ne (Nat.ne_of_beq_eq_false rfl)).trans ?_
    refine (mq_lt (Nat.le_of_ble_eq_true rfl)).trans ?_
    iterate 6 refine (up_ne (Nat.ne_of_beq_eq_false rfl)).trans ?_
    refine (dq_lt (Nat.le_of_ble_eq_true rfl)).trans ?_
    refine (up_ne (Nat.ne_of_beq_eq_false rfl)).trans ?_
    refine (dq_lt (Nat.le_of_ble_eq_true rfl)).trans ?_
    refine (up_ne (Nat.ne_of_beq_eq_false rfl)).trans ?_
    refine (dq_lt (Nat.le_of_ble_eq_true rfl)).trans ?_
    refine (up_ne (Nat.ne_of_beq_eq_false rfl)).trans ?_
    refine (dq_lt (Nat.le_of_ble_eq_true rfl)).trans ?_
    refine (up_ne (Nat.ne_of_beq_eq_false rfl)).trans ?_
    exact dq_ge (Nat.le_of_ble_eq_true rfl)
  · refine (up_ne (Nat.ne_of_beq_eq_false rfl)).trans ?_
    refine (mq_lt (Nat.le_of_ble_eq_true rfl)).trans ?_
    refine (mq_lt (Nat.le_of_ble_eq_true rfl)).trans ?_
    iterate 4 refine (up_ne (Nat.ne_of_beq_eq_false rfl)).trans ?_
    refine (mq_lt (Nat.le_of_ble_eq_true rfl)).trans ?_
    refine (mq_lt (Nat.le_of_ble_eq_true rfl)).trans ?_
    iterate 2 refine (up_ne (Nat.ne_of_beq_eq_false rfl)).trans ?_
    refine (mq_lt (Nat.le_of_ble_eq_true rfl)).trans ?_
    iterate 6 refine (up_ne (Nat.ne_of_beq_eq_false rfl)).trans ?_
    refine (dq_lt (Nat.le_of_ble_eq_true rfl)).trans ?_
    refine (up_ne (Nat.ne_of_beq_eq_false rfl)).trans ?_
    refine (dq_lt (Nat.le_of_ble_eq_true rfl)).trans ?_
    refine (up_ne (Nat.ne_of_beq_eq_false rfl)).trans ?_
    refine (dq_lt (Nat.le_of_ble_eq_true rfl)).trans ?_
    refine (up_ne (Nat.ne_of_beq_eq_false rfl)).trans ?_
    refine (dq_lt (Nat.le_of_ble_eq_true rfl)).trans ?_
    refine (up_ne (Nat.ne_of_beq_eq_false rfl)).trans ?_
    exact dq_ge (Nat.le_of_ble_eq_true rfl)
  · refine (up_ne (Nat.ne_of_beq_eq_false rfl)).trans ?_
    refine (mq_lt (Nat.le_of_ble_eq_true rfl)).trans ?_
    refine (mq_lt (Nat.le_of_ble_eq_true rfl)).trans ?_
    iterate 4 refine (up_ne (Nat.ne_of_beq_eq_false rfl)).trans ?_
    refine (mq_lt (Nat.le_of_ble_eq_true rfl)).trans ?_
    refine (mq_lt (Nat.le_of_ble_eq_true rfl)).trans ?_
    iterate 2 refine (up_ne (Nat.ne_of_beq_eq_false rfl)).trans ?_
    refine (mq_lt (Nat.le_of_ble_eq_true rfl)).trans ?_
    iterate 6 refine (up_ne (Nat.ne_of_beq_eq_false rfl)).trans ?_
    refine (dq_lt (Nat.le_of_ble_eq_true rfl)).trans ?_
    refine (up_ne (Nat.ne_of_beq_eq_false rfl)).trans ?_
    refine (dq_lt (Nat.le_of_ble_eq_true rfl)).trans ?_
    refine (up_ne (Nat.ne_of_beq_eq_false rfl)).trans ?_
    refine (dq_lt (Nat.le_of_ble_eq_true rfl)).trans ?_
    refine (up_ne (Nat.ne_of_beq_eq_false rfl)).trans ?_
    refine (dq_lt (Nat.le_of_ble_eq_true rfl)).trans ?_
    refine (up_ne (Nat.ne_of_beq_eq_false rfl)).trans ?_
    exact dq_ge (Nat.le_of_ble_eq_true rfl)
  · refine (up_ne (Nat.ne_of_beq_eq_false rfl)).trans ?_
    refine (mq_lt (Nat.le_of_ble_eq_true rfl)).trans ?_
    refine (mq_lt (Nat.le_of_ble_eq_true rfl)).trans ?_
    iterate 4 refine (up_ne (Nat.ne_of_beq_eq_false rfl)).trans ?_
    refine (mq_lt (Nat.le_of_ble_eq_true rfl)).trans ?_
    refine (mq_lt (Nat.le_of_ble_eq_true rfl)).trans ?_
    iterate 2 refine (up_ne (Nat.ne_of_beq_eq_false rfl)).trans ?_
    refine (mq_lt (Nat.le_of_ble_eq_true rfl)).trans ?_
    iterate 6 refine (up_ne (Nat.ne_of_beq_eq_false rfl)).trans ?_
    refine (dq_lt (Nat.le_of_ble_eq_true rfl)).trans ?_
    refine (up_ne (Nat.ne_of_beq_eq_false rfl)).trans ?_
    refine (dq_lt (Nat.le_of_ble_eq_true rfl)).trans ?_
    refine (up_ne (Nat.ne_of_beq_eq_false rfl)).trans ?_
    refine (dq_lt (Nat.le_of_ble_eq_true rfl)).trans ?_
    refine (up_ne (Nat.ne_of_beq_eq_false rfl)).trans ?_
    refine (dq_lt (Nat.le_of_ble_eq_true rfl)).trans ?_
    refine (up_ne (Nat.ne_of_beq_eq_false rfl)).trans ?_
    exact dq_ge (Nat.le_of_ble_eq_true rfl)
  · refine (up_ne (Nat.ne_of_beq_eq_false rfl)).trans ?_
    refine (mq_lt (Nat.le_of_ble_eq_true rfl)).trans ?_
    refine (mq_lt (Nat.le_of_ble_eq_true rfl)).trans ?_
    iterate 4 refine (up_ne (Nat.ne_of_beq_eq_false rfl)).trans ?_
    refine (mq_lt (Nat.le_of_ble_eq_true rfl)).trans ?_
    refine (mq_lt (Nat.le_of_ble_eq_true rfl)).trans ?_
    iterate 2 refine (up_ne (Nat.ne_of_beq_eq_false rfl)).trans ?_
    refine (mq_lt (Nat.le_of_ble_eq_true rfl)).trans ?_
    iterate 6 refine (up_ne (Nat.ne_of_beq_eq_false rfl)).trans ?_
    refine (dq_lt (Nat.le_of_ble_eq_true rfl)).trans ?_
    refine (up_ne (Nat.ne_of_beq_eq_false rfl)).trans ?_
    refine (dq_lt (Nat.le_of_ble_eq_true rfl)).trans ?_
    refine (up_ne (Nat.ne_of_beq_eq_false rfl)).trans ?_
    refine (dq_lt (Nat.le_of_ble_eq_true rfl)).trans ?_
    refine (up_ne (Nat.ne_of_beq_eq_false rfl)).trans ?_
    refine (dq_lt (Nat.le_of_ble_eq_true rfl)).trans ?_
    exact up_eq
  · refine (up_ne (Nat.ne_of_beq_eq_false rfl)).trans ?_
    refine (mq_lt (Nat.le_of_ble_eq_true rfl)).trans ?_
    refine (mq_lt (Nat.le_of_ble_eq_true rfl)).trans ?_
    iterate 4 refine (up_ne (Nat.ne_of_beq_eq_false rfl)).trans ?_
    refine (mq_lt (Nat.le_of_ble_eq_true rfl)).trans ?_
    refine (mq_lt (Nat.le_of_ble_eq_true rfl)).trans ?_
    iterate 2 refine (up_ne (Nat.ne_of_beq_eq_false rfl)).trans ?_
    refine (mq_lt (Nat.le_of_ble_eq_true rfl)).trans ?_
    iterate 6 refine (up_ne (Nat.ne_of_beq_eq_false rfl)).trans ?_
    refine (dq_lt (Nat.le_of_ble_eq_true rfl)).trans ?_
    refine (up_ne (Nat.ne_of_beq_eq_false rfl)).trans ?_
    refine (dq_lt (Nat.le_of_ble_eq_true rfl)).trans ?_
    refine (up_ne (Nat.ne_of_beq_eq_false rfl)).trans ?_
    refine (dq_lt (Nat.le_of_ble_eq_true rfl)).trans ?_
    refine (up_ne (Nat.ne_of_beq_eq_false rfl)).trans ?_
    exact dq_ge (Nat.le_of_ble_eq_true rfl)
  · refine (up_ne (Nat.ne_of_beq_eq_false rfl)).trans ?_
    refine (mq_lt (Nat.le_of_ble_eq_true rfl)).trans ?_
    refine (mq_lt (Nat.le_of_ble_eq_true rfl)).trans ?_
    iterate 4 refine (up_ne (Nat.ne_of_beq_eq_false rfl)).trans ?_
    refine (mq_lt (Nat.le_of_ble_eq_true rfl)).trans ?_
    refine (mq_lt (Nat.le_of_ble_eq_true rfl)).trans ?_
    iterate 2 refine (up_ne (Nat.ne_of_beq_eq_false rfl)).trans ?_
    refine (mq_lt (Nat.le_of_ble_eq_true rfl)).trans ?_
    iterate 6 refine (up_ne (Nat.ne_of_beq_eq_false rfl)).trans ?_
    refine (dq_lt (Nat.le_of_ble_eq_true rfl)).trans ?_
    refine (up_ne (Nat.ne_of_beq_eq_false rfl)).trans ?_
    refine (dq_lt (Nat.le_of_ble_eq_true rfl)).trans ?_
    refine (up_ne (Nat.ne_of_beq_eq_false rfl)).trans ?_
    refine (dq_lt (Nat.le_of_ble_eq_true rfl)).trans ?_
    refine (up_ne (Nat.ne_of_beq_eq_false rfl)).trans ?_
    exact dq_ge (Nat.le_of_ble_eq_true rfl)
  · refine (up_ne (Nat.ne_of_beq_eq_false rfl)).trans ?_
    refine (mq_lt (Nat.le_of_ble_eq_true rfl)).trans ?_
    refine (mq_lt (Nat.le_of_ble_eq_true rfl)).trans ?_
    iterate 4 refine (up_ne (Nat.ne_of_beq_eq_false rfl)).trans ?_
    refine (mq_lt (Nat.le_of_ble_eq_true rfl)).trans ?_
    refine (mq_lt (Nat.le_of_ble_eq_true rfl)).trans ?_
    iterate 2 refine (up_ne (Nat.ne_of_beq_eq_false rfl)).trans ?_
    refine (mq_lt (Nat.le_of_ble_eq_true rfl)).trans ?_
    iterate 6 refine (up_ne (Nat.ne_of_beq_eq_false rfl)).trans ?_
    refine (dq_lt (Nat.le_of_ble_eq_true rfl)).trans ?_
    refine (up_ne (Nat.ne_of_beq_eq_false rfl)).trans ?_
    refine (dq_lt (Nat.le_of_ble_eq_true rfl)).trans ?_
    refine (up_ne (Nat.ne_of_beq_eq_false rfl)).trans ?_
    refine (dq_lt (Nat.le_of_ble_eq_true rfl)).trans ?_
    refine (up_ne (Nat.ne_of_beq_eq_false rfl)).trans ?_
    exact dq_ge (Nat.le_of_ble_eq_true rfl)
  · refine (up_ne (Nat.ne_of_beq_eq_false rfl)).trans ?_
    refine (mq_lt (Nat.le_of_ble_eq_true rfl)).trans ?_
    refine (mq_lt (Nat.le_of_ble_eq_true rfl)).trans ?_
    iterate 4 refine (up_ne (Nat.ne_of_beq_eq_false rfl)).trans ?_
    refine (mq_lt (Nat.le_of_ble_eq_true rfl)).trans ?_
    refine (mq_lt (Nat.le_of_ble_eq_true rfl)).trans ?_
    iterate 2 refine (up_ne (Nat.ne_of_beq_eq_false rfl)).trans ?_
    refine (mq_lt (Nat.le_of_ble_eq_true rfl)).trans ?_
    iterate 6 refine (up_ne (Nat.ne_of_beq_eq_false rfl)).trans ?_
    refine (dq_lt (Nat.le_of_ble_eq_true rfl)).trans ?_
    refine (up_ne (Nat.ne_of_beq_eq_false rfl)).trans ?_
    refine (dq_lt (Nat.le_of_ble_eq_true rfl)).trans ?_
    refine (up_ne (Nat.ne_of_beq_eq_false rfl)).trans ?_
    refine (dq_lt (Nat.le_of_ble_eq_true rfl)).trans ?_
    refine (up_ne (Nat.ne_of_beq_eq_false rfl)).trans ?_
    exact dq_ge (Nat.le_of_ble_eq_true rfl)
  · refine (up_ne (Nat.ne_of_beq_eq_false rfl)).trans ?_
    refine (mq_lt (Nat.le_of_ble_eq_true rfl)).trans ?_
    refine (mq_lt (Nat.le_of_ble_eq_true rfl)).trans ?_
    iterate 4 refine (up_ne (Nat.ne_of_beq_eq_false rfl)).trans ?_
    refine (mq_lt (Nat.le_of_ble_eq_true rfl)).trans ?_
    refine (mq_lt (Nat.le_of_ble_eq_true rfl)).trans ?_
    iterate 2 refine (up_ne (Nat.ne_of_beq_eq_false rfl)).trans ?_
    refine (mq_lt (Nat.le_of_ble_eq_true rfl)).trans ?_
    iterate 6 refine (up_ne (Nat.ne_of_beq_eq_false rfl)).trans ?_
    refine (dq_lt (Nat.le_of_ble_eq_true rfl)).trans ?_
    refine (up_ne (Nat.ne_of_beq_eq_false rfl)).trans ?_
    refine (dq_lt (Nat.le_of_ble_eq_true rfl)).trans ?_
    refine (up_ne (Nat.ne_of_beq_eq_false rfl)).trans ?_
    refine (dq_lt (Nat.le_of_ble_eq_true rfl)).trans ?_
    refine (up_ne (Nat.ne_of_beq_eq_false rfl)).trans ?_
    exact dq_ge (Nat.le_of_ble_eq_true rfl)
  · refine (up_ne (Nat.ne_of_beq_eq_false rfl)).trans ?_
    refine (mq_lt (Nat.le_of_ble_eq_true rfl)).trans ?_
    refine (mq_lt (Nat.le_of_ble_eq_true rfl)).trans ?_
    iterate 4 refine (up_ne (Nat.ne_of_beq_eq_false rfl)).trans ?_
    refine (mq_lt (Nat.le_of_ble_eq_true rfl)).trans ?_
    refine (mq_lt (Nat.le_of_ble_eq_true rfl)).trans ?_
    iterate 2 refine (up_ne (Nat.ne_of_beq_eq_false rfl)).trans ?_
    refine (mq_lt (Nat.le_of_ble_eq_true rfl)).trans ?_
    iterate 6 refine (up_ne (Nat.ne_of_beq_eq_false rfl)).trans ?_
    refine (dq_lt (Nat.le_of_ble_eq_true rfl)).trans ?_
    refine (up_ne (Nat.ne_of_beq_eq_false rfl)).trans ?_
    refine (dq_lt (Nat.le_of_ble_eq_true rfl)).trans ?_
    refine (up_ne (Nat.ne_of_beq_eq_false rfl)).trans ?_
    refine (dq_lt (Nat.le_of_ble_eq_true rfl)).trans ?_
    refine (up_ne (Nat.ne_of_beq_eq_false rfl)).trans ?_
    exact dq_ge (Nat.le_of_ble_eq_true rfl)
  · refine (up_ne (Nat.ne_of_beq_eq_false rfl)).trans ?_
    refine (mq_lt (Nat.le_of_ble_eq_true rfl)).trans ?_
    refine (mq_lt (Nat.le_of_ble_eq_true rfl)).trans ?_
    iterate 4 refine (up_ne (Nat.ne_of_beq_eq_false rfl)).trans ?_
    refine (mq_lt (Nat.le_of_ble_eq_true rfl)).trans ?_
    refine (mq_lt (Nat.le_of_ble_eq_true rfl)).trans ?_
    iterate 2 refine (up_ne (Nat.ne_of_beq_eq_false rfl)).trans ?_
    refine (mq_lt (Nat.le_of_ble_eq_true rfl)).trans ?_
    iterate 6 refine (up_ne (Nat.ne_of_beq_eq_false rfl)).trans ?_
    refine (dq_lt (Nat.le_of_ble_eq_true rfl)).trans ?_
    refine (up_ne (Nat.ne_of_beq_eq_false rfl)).trans ?_
    refine (dq_lt (Nat.le_of_ble_eq_true rfl)).trans ?_
    refine (up_ne (Nat.ne_of_beq_eq_false rfl)).trans ?_
    refine (dq_lt (Nat.le_of_ble_eq_true rfl)).trans ?_
    refine (up_ne (Nat.ne_of_beq_eq_false rfl)).trans ?_
    exact dq_ge (Nat.le_of_ble_eq_true rfl)
  · refine (up_ne (Nat.ne_of_beq_eq_false rfl)).trans ?_
    refine (mq_lt (Nat.le_of_ble_eq_true rfl)).trans ?_
    refine (mq_lt (Nat.le_of_ble_eq_true rfl)).trans ?_
    iterate 4 refine (up_ne (Nat.ne_of_beq_eq_false rfl)).trans ?_
    refine (mq_lt (Nat.le_of_ble_eq_true rfl)).trans ?_
    refine (mq_lt (Nat.le_of_ble_eq_true rfl)).trans ?_
    iterate 2 refine (up_ne (Nat.ne_of_beq_eq_false rfl)).trans ?_
    refine (mq_lt (Nat.le_of_ble_eq_true rfl)).trans ?_
    iterate 6 refine (up_ne (Nat.ne_of_beq_eq_false rfl)).trans ?_
    refine (dq_lt (Nat.le_of_ble_eq_true rfl)).trans ?_
    refine (up_ne (Nat.ne_of_beq_eq_false rfl)).trans ?_
    refine (dq_lt (Nat.le_of_ble_eq_true rfl)).trans ?_
    refine (up_ne (Nat.ne_of_beq_eq_false rfl)).trans ?_
    refine (dq_lt (Nat.le_of_ble_eq_true rfl)).trans ?_
    exact up_eq
  · refine (up_ne (Nat.ne_of_beq_eq_false rfl)).trans ?_
    refine (mq_lt (Nat.le_of_ble_eq_true rfl)).trans ?_
    refine (mq_lt (Nat.le_of_ble_eq_true rfl)).trans ?_
    iterate 4 refine (up_ne (Nat.ne_of_beq_eq_false rfl)).trans ?_
    refine (mq_lt (Nat.le_of_ble_eq_true rfl)).trans ?_
    refine (mq_lt (Nat.le_of_ble_eq_true rfl)).trans ?_
    iterate 2 refine (up_ne (Nat.ne_of_beq_eq_false rfl)).trans ?_
    refine (mq_lt (Nat.le_of_ble_eq_true rfl)).trans ?_
    iterate 6 refine (up_ne (Nat.ne_of_beq_eq_false rfl)).trans ?_
    refine (dq_lt (Nat.le_of_ble_eq_true rfl)).trans ?_
    refine (up_ne (Nat.ne_of_beq_eq_false rfl)).trans ?_
    refine (dq_lt (Nat.le_of_ble_eq_true rfl)).trans ?_
    refine (up_ne (Nat.ne_of_beq_eq_false rfl)).trans ?_
    exact dq_ge (Nat.le_of_ble_eq_true rfl)
  · refine (up_ne (Nat.ne_of_beq_eq_false rfl)).trans ?_
    refine (mq_lt (Nat.le_of_ble_eq_true rfl)).trans ?_
    refine (mq_lt (Nat.le_of_ble_eq_true rfl)).trans ?_
    iterate 4 refine (up_ne (Nat.ne_of_beq_eq_false rfl)).trans ?_
    refine (mq_lt (Nat.le_of_ble_eq_true rfl)).trans ?_
    refine (mq_lt (Nat.le_of_ble_eq_true rfl)).trans ?_
    iterate 2 refine (up_ne (Nat.ne_of_beq_eq_false rfl)).trans ?_
    refine (mq_lt (Nat.le_of_ble_eq_true rfl)).trans ?_
    iterate 6 refine (up_ne (Nat.ne_of_beq_eq_false rfl)).trans ?_
    refine (dq_lt (Nat.le_of_ble_eq_true rfl)).trans ?_
    refine (up_ne (Nat.ne_of_beq_eq_false rfl)).trans ?_
    refine (dq_lt (Nat.le_of_ble_eq_true rfl)).trans ?_
    refine (up_ne (Nat.ne_of_beq_eq_false rfl)).trans ?_
    exact dq_ge (Nat.le_of_ble_eq_true rfl)
  · refine (up_ne (Nat.ne_of_beq_eq_false rfl)).trans ?_
    refine (mq_lt (Nat.le_of_ble_eq_true rfl)).trans ?_
    refine (mq_lt (Nat.le_of_ble_eq_true rfl)).trans ?_
    iterate 4 refine (up_ne (Nat.ne_of_beq_eq_false rfl)).trans ?_
    refine (mq_lt (Nat.le_of_ble_eq_true rfl)).trans ?_
    refine (mq_lt (Nat.le_of_ble_eq_true rfl)).trans ?_
    iterate 2 refine (up_ne (Nat.ne_of_beq_eq_false rfl)).trans ?_
    refine (mq_lt (Nat.le_of_ble_eq_true rfl)).trans ?_
    iterate 6 refine (up_ne (Nat.ne_of_beq_eq_false rfl)).trans ?_
    refine (dq_lt (Nat.le_of_ble_eq_true rfl)).trans ?_
    refine (up_ne (Nat.ne_of_beq_eq_false rfl)).trans ?_
    refine (dq_lt (Nat.le_of_ble_eq_true rfl)).trans ?_
    refine (up_ne (Nat.ne_of_beq_eq_false rfl)).trans ?_
    exact dq_ge (Nat.le_of_ble_eq_true rfl)
  · refine (up_ne (Nat.ne_of_beq_eq_false rfl)).trans ?_
    refine (mq_lt (Nat.le_of_ble_eq_true rfl)).trans ?_
    refine (mq_lt (Nat.le_of_ble_eq_true rfl)).trans ?_
    iterate 4 refine (up_ne (Nat.ne_of_beq_eq_false rfl)).trans ?_
    refine (mq_lt (Nat.le_of_ble_eq_true rfl)).trans ?_
    refine (mq_lt (Nat.le_of_ble_eq_true rfl)).trans ?_
    iterate 2 refine (up_ne (Nat.ne_of_beq_eq_false rfl)).trans ?_
    refine (mq_lt (Nat.le_of_ble_eq_true rfl)).trans ?_
    iterate 6 refine (up_ne (Nat.ne_of_beq_eq_false rfl)).trans ?_
    refine (dq_lt (Nat.le_of_ble_eq_true rfl)).trans ?_
    refine (up_ne (Nat.ne_of_beq_eq_false rfl)).trans ?_
    refine (dq_lt (Nat.le_of_ble_eq_true rfl)).trans ?_
    refine (up_ne (Nat.ne_of_beq_eq_false rfl)).trans ?_
    exact dq_ge (Nat.le_of_ble_eq_true rfl)
  · refine (up_ne (Nat.ne_of_beq_eq_false rfl)).trans ?_
    refine (mq_lt (Nat.le_of_ble_eq_true rfl)).trans ?_
    refine (mq_lt (Nat.le_of_ble_eq_true rfl)).trans ?_
    iterate 4 refine (up_ne (Nat.ne_of_beq_eq_false rfl)).trans ?_
    refine (mq_lt (Nat.le_of_ble_eq_true rfl)).trans ?_
    refine (mq_lt (Nat.le_of_ble_eq_true rfl)).trans ?_
    iterate 2 refine (up_ne (Nat.ne_of_beq_eq_false rfl)).trans ?_
    refine (mq_lt (Nat.le_of_ble_eq_true rfl)).trans ?_
    iterate 6 refine (up_ne (Nat.ne_of_beq_eq_false rfl)).trans ?_
    refine (dq_lt (Nat.le_of_ble_eq_true rfl)).trans ?_
    refine (up_ne (Nat.ne_of_beq_eq_false rfl)).trans ?_
    refine (dq_lt (Nat.le_of_ble_eq_true rfl)).trans ?_
    refine (up_ne (Nat.ne_of_beq_eq_false rfl)).trans ?_
    exact dq_ge (Nat.le_of_ble_eq_true rfl)
  · refine (up_ne (Nat.ne_of_beq_eq_false rfl)).trans ?_
    refine (mq_lt (Nat.le_of_ble_eq_true rfl)).trans ?_
    refine (mq_lt (Nat.le_of_ble_eq_true rfl)).trans ?_
    iterate 4 refine (up_ne (Nat.ne_of_beq_eq_false rfl)).trans ?_
    refine (mq_lt (Nat.le_of_ble_eq_true rfl)).trans ?_
    refine (mq_lt (Nat.le_of_ble_eq_true rfl)).trans ?_
    iterate 2 refine (up_ne (Nat.ne_of_beq_eq_false rfl)).trans ?_
    refine (mq_lt (Nat.le_of_ble_eq_true rfl)).trans ?_
    iterate 6 refine (up_ne (Nat.ne_of_beq_eq_false rfl)).trans ?_
    refine (dq_lt (Nat.le_of_ble_eq_true rfl)).trans ?_
    refine (up_ne (Nat.ne_of_beq_eq_false rfl)).trans ?_
    refine (dq_lt (Nat.le_of_ble_eq_true rfl)).trans ?_
    refine (up_ne (Nat.ne_of_beq_eq_false rfl)).trans ?_
    exact dq_ge (Nat.le_of_ble_eq_true rfl)
  · refine (up_ne (Nat.ne_of_beq_eq_false rfl)).trans ?_
    refine (mq_lt (Nat.le_of_ble_eq_true rfl)).trans ?_
    refine (mq_lt (Nat.le_of_ble_eq_true rfl)).trans ?_
    iterate 4 refine (up_ne (Nat.ne_of_beq_eq_false rfl)).trans ?_
    refine (mq_lt (Nat.le_of_ble_eq_true rfl)).trans ?_
    refine (mq_lt (Nat.le_of_ble_eq_true rfl)).trans ?_
    iterate 2 refine (up_ne (Nat.ne_of_beq_eq_false rfl)).trans ?_
    refine (mq_lt (Nat.le_of_ble_eq_true rfl)).trans ?_
    iterate 6 refine (up_ne (Nat.ne_of_beq_eq_false rfl)).trans ?_
    refine (dq_lt (Nat.le_of_ble_eq_true rfl)).trans ?_
    refine (up_ne (Nat.ne_of_beq_eq_false rfl)).trans ?_
    refine (dq_lt (Nat.le_of_ble_eq_true rfl)).trans ?_
    refine (up_ne (Nat.ne_of_beq_eq_false rfl)).trans ?_
    exact dq_ge (Nat.le_of_ble_eq_true rfl)
  · refine (up_ne (Nat.ne_of_beq_eq_false rfl)).trans ?_
    refine (mq_lt (Nat.le_of_ble_eq_true rfl)).trans ?_
    refine (mq_lt (Nat.le_of_ble_eq_true rfl)).trans ?_
    iterate 4 refine (up_ne (Nat.ne_of_beq_eq_false rfl)).trans ?_
    refine (mq_lt (Nat.le_of_ble_eq_true rfl)).trans ?_
    refine (mq_lt (Nat.le_of_ble_eq_true rfl)).trans ?_
    iterate 2 refine (up_ne (Nat.ne_of_beq_eq_false rfl)).trans ?_
    refine (mq_lt (Nat.le_of_ble_eq_true rfl)).trans ?_
    iterate 6 refine (up_ne (Nat.ne_of_beq_eq_false rfl)).trans ?_
    refine (dq_lt (Nat.le_of_ble_eq_true rfl)).trans ?_
    refine (up_ne (Nat.ne_of_beq_eq_false rfl)).trans ?_
    refine (dq_lt (Nat.le_of_ble_eq_true rfl)).trans ?_
    exact up_eq
  · refine (up_ne (Nat.ne_of_beq_eq_false rfl)).trans ?_
    refine (mq_lt (Nat.le_of_ble_eq_true rfl)).trans ?_
    refine (mq_lt (Nat.le_of_ble_eq_true rfl)).trans ?_
    iterate 4 refine (up_ne (Nat.ne_of_beq_eq_false rfl)).trans ?_
    refine (mq_lt (Nat.le_of_ble_eq_true rfl)).trans ?_
    refine (mq_lt (Nat.le_of_ble_eq_true rfl)).trans ?_
    iterate 2 refine (up_ne (Nat.ne_of_beq_eq_false rfl)).trans ?_
    refine (mq_lt (Nat.le_of_ble_eq_true rfl)).trans ?_
    iterate 6 refine (up_ne (Nat.ne_of_beq_eq_false rfl)).trans ?_
    refine (dq_lt (Nat.le_of_ble_eq_true rfl)).trans ?_
    refine (up_ne (Nat.ne_of_beq_eq_false rfl)).trans ?_
    exact dq_ge (Nat.le_of_ble_eq_true rfl)
  · refine (up_ne (Nat.ne_of_beq_eq_false rfl)).trans ?_
    refine (mq_lt (Nat.le_of_ble_eq_true rfl)).trans ?_
    refine (mq_lt (Nat.le_of_ble_eq_true rfl)).trans ?_
    iterate 4 refine (up_ne (Nat.ne_of_beq_eq_false rfl)).trans ?_
    refine (mq_lt (Nat.le_of_ble_eq_true rfl)).trans ?_
    refine (mq_lt (Nat.le_of_ble_eq_true rfl)).trans ?_
    iterate 2 refine (up_ne (Nat.ne_of_beq_eq_false rfl)).trans ?_
    refine (mq_lt (Nat.le_of_ble_eq_true rfl)).trans ?_
    iterate 6 refine (up_ne (Nat.ne_of_beq_eq_false rfl)).trans ?_
    refine (dq_lt (Nat.le_of_ble_eq_true rfl)).trans ?_
    refine (up_ne (Nat.ne_of_beq_eq_false rfl)).trans ?_
    exact dq_ge (Nat.le_of_ble_eq_true rfl)
  · refine (up_ne (Nat.ne_of_beq_eq_false rfl)).trans ?_
    refine (mq_lt (Nat.le_of_ble_eq_true rfl)).trans ?_
    refine (mq_lt (Nat.le_of_ble_eq_true rfl)).trans ?_
    iterate 4 refine (up_ne (Nat.ne_of_beq_eq_false rfl)).trans ?_
    refine (mq_lt (Nat.le_of_ble_eq_true rfl)).trans ?_
    refine (mq_lt (Nat.le_of_ble_eq_true rfl)).trans ?_
    iterate 2 refine (up_ne (Nat.ne_of_beq_eq_false rfl)).trans ?_
    refine (mq_lt (Nat.le_of_ble_eq_true rfl)).trans ?_
    iterate 6 refine (up_ne (Nat.ne_of_beq_eq_false rfl)).trans ?_
    refine (dq_lt (Nat.le_of_ble_eq_true rfl)).trans ?_
    refine (up_ne (Nat.ne_of_beq_eq_false rfl)).trans ?_
    exact dq_ge (Nat.le_of_ble_eq_true rfl)
  · refine (up_ne (Nat.ne_of_beq_eq_false rfl)).trans ?_
    refine (mq_lt (Nat.le_of_ble_eq_true rfl)).trans ?_
    refine (mq_lt (Nat.le_of_ble_eq_true rfl)).trans ?_
    iterate 4 refine (up_ne (Nat.ne_of_beq_eq_false rfl)).trans ?_
    refine (mq_lt (Nat.le_of_ble_eq_true rfl)).trans ?_
    refine (mq_lt (Nat.le_of_ble_eq_true rfl)).trans ?_
    iterate 2 refine (up_ne (Nat.ne_of_beq_eq_false rfl)).trans ?_
    refine (mq_lt (Nat.le_of_ble_eq_true rfl)).trans ?_
    iterate 6 refine (up_ne (Nat.ne_of_beq_eq_false rfl)).trans ?_
    refine (dq_lt (Nat.le_of_ble_eq_true rfl)).trans ?_
    refine (up_ne (Nat.ne_of_beq_eq_false rfl)).trans ?_
    exact dq_ge (Nat.le_of_ble_eq_true rfl)
  · refine (up_ne (Nat.ne_of_beq_eq_false rfl)).trans ?_
    refine (mq_lt (Nat.le_of_ble_eq_true rfl)).trans ?_
    refine (mq_lt (Nat.le_of_ble_eq_true rfl)).trans ?_
    iterate 4 refine (up_ne (Nat.ne_of_beq_eq_false rfl)).trans ?_
    refine (mq_lt (Nat.le_of_ble_eq_true rfl)).trans ?_
    refine (mq_lt (Nat.le_of_ble_eq_true rfl)).trans ?_
    iterate 2 refine (up_ne (Nat.ne_of_beq_eq_false rfl)).trans ?_
    refine (mq_lt (Nat.le_of_ble_eq_true rfl)).trans ?_
    iterate 6 refine (up_ne (Nat.ne_of_beq_eq_false rfl)).trans ?_
    refine (dq_lt (Nat.le_of_ble_eq_true rfl)).trans ?_
    refine (up_ne (Nat.ne_of_beq_eq_false rfl)).trans ?_
    exact dq_ge (Nat.le_of_ble_eq_true rfl)
  · refine (up_ne (Nat.ne_of_beq_eq_false rfl)).trans ?_
    refine (mq_lt (Nat.le_of_ble_eq_true rfl)).trans ?_
    refine (mq_lt (Nat.le_of_ble_eq_true rfl)).trans ?_
    iterate 4 refine (up_ne (Nat.ne_of_beq_eq_false rfl)).trans ?_
    refine (mq_lt (Nat.le_of_ble_eq_true rfl)).trans ?_
    refine (mq_lt (Nat.le_of_ble_eq_true rfl)).trans ?_
    iterate 2 refine (up_ne (Nat.ne_of_beq_eq_false rfl)).trans ?_
    refine (mq_lt (Nat.le_of_ble_eq_true rfl)).trans ?_
    iterate 6 refine (up_ne (Nat.ne_of_beq_eq_false rfl)).trans ?_
    refine (dq_lt (Nat.le_of_ble_eq_true rfl)).trans ?_
    refine (up_ne (Nat.ne_of_beq_eq_false rfl)).trans ?_
    exact dq_ge (Nat.le_of_ble_eq_true rfl)
  · refine (up_ne (Nat.ne_of_beq_eq_false rfl)).trans ?_
    refine (mq_lt (Nat.le_of_ble_eq_true rfl)).trans ?_
    refine (mq_lt (Nat.le_of_ble_eq_true rfl)).trans ?_
    iterate 4 refine (up_ne (Nat.ne_of_beq_eq_false rfl)).trans ?_
    refine (mq_lt (Nat.le_of_ble_eq_true rfl)).trans ?_
    refine (mq_lt (Nat.le_of_ble_eq_true rfl)).trans ?_
    iterate 2 refine (up_ne (Nat.ne_of_beq_eq_false rfl)).trans ?_
    refine (mq_lt (Nat.le_of_ble_eq_true rfl)).trans ?_
    iterate 6 refine (up_ne (Nat.ne_of_beq_eq_false rfl)).trans ?_
    refine (dq_lt (Nat.le_of_ble_eq_true rfl)).trans ?_
    refine (up_ne (Nat.ne_of_beq_eq_false rfl)).trans ?_
    exact dq_ge (Nat.le_of_ble_eq_true rfl)
  · refine (up_ne (Nat.ne_of_beq_eq_false rfl)).trans ?_
    refine (mq_lt (Nat.le_of_ble_eq_true rfl)).trans ?_
    refine (mq_lt (Nat.le_of_ble_eq_true rfl)).trans ?_
    iterate 4 refine (up_ne (Nat.ne_of_beq_eq_false rfl)).trans ?_
    refine (mq_lt (Nat.le_of_ble_eq_true rfl)).trans ?_
    refine (mq_lt (Nat.le_of_ble_eq_true rfl)).trans ?_
    iterate 2 refine (up_ne (Nat.ne_of_beq_eq_false rfl)).trans ?_
    refine (mq_lt (Nat.le_of_ble_eq_true rfl)).trans ?_
    iterate 6 refine (up_ne (Nat.ne_of_beq_eq_false rfl)).trans ?_
    refine (dq_lt (Nat.le_of_ble_eq_true rfl)).trans ?_
    exact up_eq
  · refine (up_ne (Nat.ne_of_beq_eq_false rfl)).trans ?_
    refine (mq_lt (Nat.le_of_ble_eq_true rfl)).trans ?_
    refine (mq_lt (Nat.le_of_ble_eq_true rfl)).trans ?_
    iterate 4 refine (up_ne (Nat.ne_of_beq_eq_false rfl)).trans ?_
    refine (mq_lt (Nat.le_of_ble_eq_true rfl)).trans ?_
    refine (mq_lt (Nat.le_of_ble_eq_true rfl)).trans ?_
    iterate 2 refine (up_ne (Nat.ne_of_beq_eq_false rfl)).trans ?_
    refine (mq_lt (Nat.le_of_ble_eq_true rfl)).trans ?_
    iterate 6 refine (up_ne (Nat.ne_of_beq_eq_false rfl)).trans ?_
    exact dq_ge (Nat.le_of_ble_eq_true rfl)
  · refine (up_ne (Nat.ne_of_beq_eq_false rfl)).trans ?_
    refine (mq_lt (Nat.le_of_ble_eq_true rfl)).trans ?_
    refine (mq_lt (Nat.le_of_ble_eq_true rfl)).trans ?_
    iterate 4 refine (up_ne (Nat.ne_of_beq_eq_false rfl)).trans ?_
    refine (mq_lt (Nat.le_of_ble_eq_true rfl)).trans ?_
    refine (mq_lt (Nat.le_of_ble_eq_true rfl)).trans ?_
    iterate 2 refine (up_ne (Nat.ne_of_beq_eq_false rfl)).trans ?_
    refine (mq_lt (Nat.le_of_ble_eq_true rfl)).trans ?_
    iterate 6 refine (up_ne (Nat.ne_of_beq_eq_false rfl)).trans ?_
    exact dq_ge (Nat.le_of_ble_eq_true rfl)
  · refine (up_ne (Nat.ne_of_beq_eq_false rfl)).trans ?_
    refine (mq_lt (Nat.le_of_ble_eq_true rfl)).trans ?_
    refine (mq_lt (Nat.le_of_ble_eq_true rfl)).trans ?_
    iterate 4 refine (up_ne (Nat.ne_of_beq_eq_false rfl)).trans ?_
    refine (mq_lt (Nat.le_of_ble_eq_true rfl)).trans ?_
    refine (mq_lt (Nat.le_of_ble_eq_true rfl)).trans ?_
    iterate 2 refine (up_ne (Nat.ne_of_beq_eq_false rfl)).trans ?_
    refine (mq_lt (Nat.le_of_ble_eq_true rfl)).trans ?_
    iterate 6 refine (up_ne (Nat.ne_of_beq_eq_false rfl)).trans ?_
    exact dq_ge (Nat.le_of_ble_eq_true rfl)
  · refine (up_ne (Nat.ne_of_beq_eq_false rfl)).trans ?_
    refine (mq_lt (Nat.le_of_ble_eq_true rfl)).trans ?_
    refine (mq_lt (Nat.le_of_ble_eq_true rfl)).trans ?_
    iterate 4 refine (up_ne (Nat.ne_of_beq_eq_false rfl)).trans ?_
    refine (mq_lt (Nat.le_of_ble_eq_true rfl)).trans ?_
    refine (mq_lt (Nat.le_of_ble_eq_true rfl)).trans ?_
    iterate 2 refine (up_ne (Nat.ne_of_beq_eq_false rfl)).trans ?_
    refine (mq_lt (Nat.le_of_ble_eq_true rfl)).trans ?_
    iterate 6 refine (up_ne (Nat.ne_of_beq_eq_false rfl)).trans ?_
    exact dq_ge (Nat.le_of_ble_eq_true rfl)
  · refine (up_ne (Nat.ne_of_beq_eq_false rfl)).trans ?_
    refine (mq_lt (Nat.le_of_ble_eq_true rfl)).trans ?_
    refine (mq_lt (Nat.le_of_ble_eq_true rfl)).trans ?_
    iterate 4 refine (up_ne (Nat.ne_of_beq_eq_false rfl)).trans ?_
    refine (mq_lt (Nat.le_of_ble_eq_true rfl)).trans ?_
    refine (mq_lt (Nat.le_of_ble_eq_true rfl)).trans ?_
    iterate 2 refine (up_ne (Nat.ne_of_beq_eq_false rfl)).trans ?_
    refine (mq_lt (Nat.le_of_ble_eq_true rfl)).trans ?_
    iterate 6 refine (up_ne (Nat.ne_of_beq_eq_false rfl)).trans ?_
    exact dq_ge (Nat.le_of_ble_eq_true rfl)
  · refine (up_ne (Nat.ne_of_beq_eq_false rfl)).trans ?_
    refine (mq_lt (Nat.le_of_ble_eq_true rfl)).trans ?_
    refine (mq_lt (Nat.le_of_ble_eq_true rfl)).trans ?_
    iterate 4 refine (up_ne (Nat.ne_of_beq_eq_false rfl)).trans ?_
    refine (mq_lt (Nat.le_of_ble_eq_true rfl)).trans ?_
    refine (mq_lt (Nat.le_of_ble_eq_true rfl)).trans ?_
    iterate 2 refine (up_ne (Nat.ne_of_beq_eq_false rfl)).trans ?_
    refine (mq_lt (Nat.le_of_ble_eq_true rfl)).trans ?_
    iterate 6 refine (up_ne (Nat.ne_of_beq_eq_false rfl)).trans ?_
    exact dq_ge (Nat.le_of_ble_eq_true rfl)
  · refine (up_ne (Nat.ne_of_beq_eq_false rfl)).trans ?_
    refine (mq_lt (Nat.le_of_ble_eq_true rfl)).trans ?_
    refine (mq_lt (Nat.le_of_ble_eq_true rfl)).trans ?_
    iterate 4 refine (up_ne (Nat.ne_of_beq_eq_false rfl)).trans ?_
    refine (mq_lt (Nat.le_of_ble_eq_true rfl)).trans ?_
    refine (mq_lt (Nat.le_of_ble_eq_true rfl)).trans ?_
    iterate 2 refine (up_ne (Nat.ne_of_beq_eq_false rfl)).trans ?_
    refine (mq_lt (Nat.le_of_ble_eq_true rfl)).trans ?_
    iterate 6 refine (up_ne (Nat.ne_of_beq_eq_false rfl)).trans ?_
    exact dq_ge (Nat.le_of_ble_eq_true rfl)
  · refine (up_ne (Nat.ne_of_beq_eq_false rfl)).trans ?_
    refine (mq_lt (Nat.le_of_ble_eq_true rfl)).trans ?_
    refine (mq_lt (Nat.le_of_ble_eq_true rfl)).trans ?_
    iterate 4 refine (up_ne (Nat.ne_of_beq_eq_false rfl)).trans ?_
    refine (mq_lt (Nat.le_of_ble_eq_true rfl)).trans ?_
    refine (mq_lt (Nat.le_of_ble_eq_true rfl)).trans ?_
    iterate 2 refine (up_ne (Nat.ne_of_beq_eq_false rfl)).trans ?_
    refine (mq_lt (Nat.le_of_ble_eq_true rfl)).trans ?_
    iterate 5 refine (up_ne (Nat.ne_of_beq_eq_false rfl)).trans ?_
    exact up_eq
  · refine (up_ne (Nat.ne_of_beq_eq_false rfl)).trans ?_
    refine (mq_lt (Nat.le_of_ble_eq_true rfl)).trans ?_
    refine (mq_lt (Nat.le_of_ble_eq_true rfl)).trans ?_
    iterate 4 refine (up_ne (Nat.ne_of_beq_eq_false rfl)).trans ?_
    refine (mq_lt (Nat.le_of_ble_eq_true rfl)).trans ?_
    refine (mq_lt (Nat.le_of_ble_eq_true rfl)).trans ?_
    iterate 2 refine (up_ne (Nat.ne_of_beq_eq_false rfl)).trans ?_
    refine (mq_lt (Nat.le_of_ble_eq_true rfl)).trans ?_
    iterate 4 refine (up_ne (Nat.ne_of_beq_eq_false rfl)).trans ?_
    exact up_eq
  · refine (up_ne (Nat.ne_of_beq_eq_false rfl)).trans ?_
    refine (mq_lt (Nat.le_of_ble_eq_true rfl)).trans ?_
    refine (mq_lt (Nat.le_of_ble_eq_true rfl)).trans ?_
    iterate 4 refine (up_ne (Nat.ne_of_beq_eq_false rfl)).trans ?_
    refine (mq_lt (Nat.le_of_ble_eq_true rfl)).trans ?_
    refine (mq_lt (Nat.le_of_ble_eq_true rfl)).trans ?_
    iterate 2 refine (up_ne (Nat.ne_of_beq_eq_false rfl)).trans ?_
    refine (mq_lt (Nat.le_of_ble_eq_true rfl)).trans ?_
    iterate 3 refine (up_ne (Nat.ne_of_beq_eq_false rfl)).trans ?_
    exact up_eq
  · refine (up_ne (Nat.ne_of_beq_eq_false rfl)).trans ?_
    refine (mq_lt (Nat.le_of_ble_eq_true rfl)).trans ?_
    refine (mq_lt (Nat.le_of_ble_eq_true rfl)).trans ?_
    iterate 4 refine (up_ne (Nat.ne_of_beq_eq_false rfl)).trans ?_
    refine (mq_lt (Nat.le_of_ble_eq_true rfl)).trans ?_
    refine (mq_lt (Nat.le_of_ble_eq_true rfl)).trans ?_
    iterate 2 refine (up_ne (Nat.ne_of_beq_eq_false rfl)).trans ?_
    refine (mq_lt (Nat.le_of_ble_eq_true rfl)).trans ?_
    iterate 2 refine (up_ne (Nat.ne_of_beq_eq_false rfl)).trans ?_
    exact up_eq
  · refine (up_ne (Nat.ne_of_beq_eq_false rfl)).trans ?_
    refine (mq_lt (Nat.le_of_ble_eq_true rfl)).trans ?_
    refine (mq_lt (Nat.le_of_ble_eq_true rfl)).trans ?_
    iterate 4 refine (up_ne (Nat.ne_of_beq_eq_false rfl)).trans ?_
    refine (mq_lt (Nat.le_of_ble_eq_true rfl)).trans ?_
    refine (mq_lt (Nat.le_of_ble_eq_true rfl)).trans ?_
    iterate 2 refine (up_ne (Nat.ne_of_beq_eq_false rfl)).trans ?_
    refine (mq_lt (Nat.le_of_ble_eq_true rfl)).trans ?_
    refine (up_ne (Nat.ne_of_beq_eq_false rfl)).trans ?_
    exact up_eq
  · refine (up_ne (Nat.ne_of_beq_eq_false rfl)).trans ?_
    refine (mq_lt (Nat.le_of_ble_eq_true rfl)).trans ?_
    refine (mq_lt (Nat.le_of_ble_eq_true rfl)).trans ?_
    iterate 4 refine (up_ne (Nat.ne_of_beq_eq_false rfl)).trans ?_
    refine (mq_lt (Nat.le_of_ble_eq_true rfl)).trans ?_
    refine (mq_lt (Nat.le_of_ble_eq_true rfl)).trans ?_
    iterate 2 refine (up_ne (Nat.ne_of_beq_eq_false rfl)).trans ?_
    refine (mq_lt (Nat.le_of_ble_eq_true rfl)).trans ?_
    exact up_eq
  · refine (up_ne (Nat.ne_of_beq_eq_false rfl)).trans ?_
    refine (mq_lt (Nat.le_of_ble_eq_true rfl)).trans ?_
    refine (mq_lt (Nat.le_of_ble_eq_true rfl)).trans ?_
    iterate 4 refine (up_ne (Nat.ne_of_beq_eq_false rfl)).trans ?_
    refine (mq_lt (Nat.le_of_ble_eq_true rfl)).trans ?_
    refine (mq_lt (Nat.le_of_ble_eq_true rfl)).trans ?_
    iterate 2 refine (up_ne (Nat.ne_of_beq_eq_false rfl)).trans ?_
    exact mq_at
  · refine (up_ne (Nat.ne_of_beq_eq_false rfl)).trans ?_
    refine (mq_lt (Nat.le_of_ble_eq_true rfl)).trans ?_
    refine (mq_lt (Nat.le_of_ble_eq_true rfl)).trans ?_
    iterate 4 refine (up_ne (Nat.ne_of_beq_eq_false rfl)).trans ?_
    refine (mq_lt (Nat.le_of_ble_eq_true rfl)).trans ?_
    refine (mq_lt (Nat.le_of_ble_eq_true rfl)).trans ?_
    refine (up_ne (Nat.ne_of_beq_eq_false rfl)).trans ?_
    exact up_eq
  · refine (up_ne (Nat.ne_of_beq_eq_false rfl)).trans ?_
    refine (mq_lt (Nat.le_of_ble_eq_true rfl)).trans ?_
    refine (mq_lt (Nat.le_of_ble_eq_true rfl)).trans ?_
    iterate 4 refine (up_ne (Nat.ne_of_beq_eq_false rfl)).trans ?_
    refine (mq_lt (Nat.le_of_ble_eq_true rfl)).trans ?_
    refine (mq_lt (Nat.le_of_ble_eq_true rfl)).trans ?_
    exact up_eq
  · refine (up_ne (Nat.ne_of_beq_eq_false rfl)).trans ?_
    refine (mq_lt (Nat.le_of_ble_eq_true rfl)).trans ?_
    refine (mq_lt (Nat.le_of_ble_eq_true rfl)).trans ?_
    iterate 4 refine (up_ne (Nat.ne_of_beq_eq_false rfl)).trans ?_
    refine (mq_lt (Nat.le_of_ble_eq_true rfl)).trans ?_
    exact mq_at
  · refine (up_ne (Nat.ne_of_beq_eq_false rfl)).trans ?_
    refine (mq_lt (Nat.le_of_ble_eq_true rfl)).trans ?_
    refine (mq_lt (Nat.le_of_ble_eq_true rfl)).trans ?_
    iterate 4 refine (up_ne (Nat.ne_of_beq_eq_false rfl)).trans ?_
    exact mq_at
  · refine (up_ne (Nat.ne_of_beq_eq_false rfl)).trans ?_
    refine (mq_lt (Nat.le_of_ble_eq_true rfl)).trans ?_
    refine (mq_lt (Nat.le_of_ble_eq_true rfl)).trans ?_
    iterate 3 refine (up_ne (Nat.ne_of_beq_eq_false rfl)).trans ?_
    exact up_eq
  · refine (up_ne (Nat.ne_of_beq_eq_false rfl)).trans ?_
    refine (mq_lt (Nat.le_of_ble_eq_true rfl)).trans ?_
    refine (mq_lt (Nat.le_of_ble_eq_true rfl)).trans ?_
    iterate 2 refine (up_ne (Nat.ne_of_beq_eq_false rfl)).trans ?_
    exact up_eq
  · refine (up_ne (Nat.ne_of_beq_eq_false rfl)).trans ?_
    refine (mq_lt (Nat.le_of_ble_eq_true rfl)).trans ?_
    refine (mq_lt (Nat.le_of_ble_eq_true rfl)).trans ?_
    refine (up_ne (Nat.ne_of_beq_eq_false rfl)).trans ?_
    exact up_eq
  · refine (up_ne (Nat.ne_of_beq_eq_false rfl)).trans ?_
    refine (mq_lt (Nat.le_of_ble_eq_true rfl)).trans ?_
    refine (mq_lt (Nat.le_of_ble_eq_true rfl)).trans ?_
    exact up_eq
  · refine (up_ne (Nat.ne_of_beq_eq_false rfl)).trans ?_
    refine (mq_lt (Nat.le_of_ble_eq_true rfl)).trans ?_
    exact mq_at
  · refine (up_ne (Nat.ne_of_beq_eq_false rfl)).trans ?_
    exact mq_at
  · exact up_eq
  · iterate 8 refine (up_ne (Nat.ne_of_beq_eq_false rfl)).trans ?_
    exact up_eq
  · iterate 11 refine (up_ne (Nat.ne_of_beq_eq_false rfl)).trans ?_
    refine (me_lt (Nat.le_of_ble_eq_true rfl)).trans ?_
    refine (up_ne (Nat.ne_of_beq_eq_false rfl)).trans ?_
    refine (me_lt (Nat.le_of_ble_eq_true rfl)).trans ?_
    iterate 9 refine (up_ne (Nat.ne_of_beq_eq_false rfl)).trans ?_
    refine (me_lt (Nat.le_of_ble_eq_true rfl)).trans ?_
    refine (up_ne (Nat.ne_of_beq_eq_false rfl)).trans ?_
    refine (me_lt (Nat.le_of_ble_eq_true rfl)).trans ?_
    iterate 5 refine (up_ne (Nat.ne_of_beq_eq_false rfl)).trans ?_
    refine (me_lt (Nat.le_of_ble_eq_true rfl)).trans ?_
    iterate 14 refine (up_ne (Nat.ne_of_beq_eq_false rfl)).trans ?_
    refine (de_lt (Nat.le_of_ble_eq_true rfl) (Nat.ne_of_beq_eq_false rfl)).trans ?_
    iterate 2 refine (up_ne (Nat.ne_of_beq_eq_false rfl)).trans ?_
    refine (de_lt (Nat.le_of_ble_eq_true rfl) (Nat.ne_of_beq_eq_false rfl)).trans ?_
    iterate 2 refine (up_ne (Nat.ne_of_beq_eq_false rfl)).trans ?_
    refine (de_lt (Nat.le_of_ble_eq_true rfl) (Nat.ne_of_beq_eq_false rfl)).trans ?_
    iterate 2 refine (up_ne (Nat.ne_of_beq_eq_false rfl)).trans ?_
    refine (de_lt (Nat.le_of_ble_eq_true rfl) (Nat.ne_of_beq_eq_false rfl)).trans ?_
    iterate 2 refine (up_ne (Nat.ne_of_beq_eq_false rfl)).trans ?_
    refine (de_lt (Nat.le_of_ble_eq_true rfl) (Nat.ne_of_beq_eq_false rfl)).trans ?_
    iterate 2 refine (up_ne (Nat.ne_of_beq_eq_false rfl)).trans ?_
    refine (de_lt (Nat.le_of_ble_eq_true rfl) (Nat.ne_of_beq_eq_false rfl)).trans ?_
    iterate 2 refine (up_ne (Nat.ne_of_beq_eq_false rfl)).trans ?_
    refine (de_lt (Nat.le_of_ble_eq_true rfl) (Nat.ne_of_beq_eq_false rfl)).trans ?_
    iterate 2 refine (up_ne (Nat.ne_of_beq_eq_false rfl)).trans ?_
    refine (de_lt (Nat.le_of_ble_eq_true rfl) (Nat.ne_of_beq_eq_false rfl)).trans ?_
    iterate 3 refine (up_ne (Nat.ne_of_beq_eq_false rfl)).trans ?_
    refine (de_lt (Nat.le_of_ble_eq_true rfl) (Nat.ne_of_beq_eq_false rfl)).trans ?_
    iterate 2 refine (up_ne (Nat.ne_of_beq_eq_false rfl)).trans ?_
    refine (de_lt (Nat.le_of_ble_eq_true rfl) (Nat.ne_of_beq_eq_false rfl)).trans ?_
    iterate 16 refine (up_ne (Nat.ne_of_beq_eq_false rfl)).trans ?_
    refine (te_lt (Nat.le_of_ble_eq_true rfl) (Nat.ne_of_beq_eq_false rfl)).trans ?_
    iterate 24 refine (up_ne (Nat.ne_of_beq_eq_false rfl)).trans ?_
    exact up_eq
  · iterate 11 refine (up_ne (Nat.ne_of_beq_eq_false rfl)).trans ?_
    refine (me_lt (Nat.le_of_ble_eq_true rfl)).trans ?_
    refine (up_ne (Nat.ne_of_beq_eq_false rfl)).trans ?_
    refine (me_lt (Nat.le_of_ble_eq_true rfl)).trans ?_
    iterate 9 refine (up_ne (Nat.ne_of_beq_eq_false rfl)).trans ?_
    refine (me_lt (Nat.le_of_ble_eq_true rfl)).trans ?_
    refine (up_ne (Nat.ne_of_beq_eq_false rfl)).trans ?_
    refine (me_lt (Nat.le_of_ble_eq_true rfl)).trans ?_
    iterate 5 refine (up_ne (Nat.ne_of_beq_eq_false rfl)).trans ?_
    refine (me_lt (Nat.le_of_ble_eq_true rfl)).trans ?_
    iterate 14 refine (up_ne (Nat.ne_of_beq_eq_false rfl)).trans ?_
    refine (de_lt (Nat.le_of_ble_eq_true rfl) (Nat.ne_of_beq_eq_false rfl)).trans ?_
    iterate 2 refine (up_ne (Nat.ne_of_beq_eq_false rfl)).trans ?_
    refine (de_lt (Nat.le_of_ble_eq_true rfl) (Nat.ne_of_beq_eq_false rfl)).trans ?_
    iterate 2 refine (up_ne (Nat.ne_of_beq_eq_false rfl)).trans ?_
    refine (de_lt (Nat.le_of_ble_eq_true rfl) (Nat.ne_of_beq_eq_false rfl)).trans ?_
    iterate 2 refine (up_ne (Nat.ne_of_beq_eq_false rfl)).trans ?_
    refine (de_lt (Nat.le_of_ble_eq_true rfl) (Nat.ne_of_beq_eq_false rfl)).trans ?_
    iterate 2 refine (up_ne (Nat.ne_of_beq_eq_false rfl)).trans ?_
    refine (de_lt (Nat.le_of_ble_eq_true rfl) (Nat.ne_of_beq_eq_false rfl)).trans ?_
    iterate 2 refine (up_ne (Nat.ne_of_beq_eq_false rfl)).trans ?_
    refine (de_lt (Nat.le_of_ble_eq_true rfl) (Nat.ne_of_beq_eq_false rfl)).trans ?_
    iterate 2 refine (up_ne (Nat.ne_of_beq_eq_false rfl)).trans ?_
    refine (de_lt (Nat.le_of_ble_eq_true rfl) (Nat.ne_of_beq_eq_false rfl)).trans ?_
    iterate 2 refine (up_ne (Nat.ne_of_beq_eq_false rfl)).trans ?_
    refine (de_lt (Nat.le_of_ble_eq_true rfl) (Nat.ne_of_beq_eq_false rfl)).trans ?_
    iterate 3 refine (up_ne (Nat.ne_of_beq_eq_false rfl)).trans ?_
    refine (de_lt (Nat.le_of_ble_eq_true rfl) (Nat.ne_of_beq_eq_false rfl)).trans ?_
    iterate 2 refine (up_ne (Nat.ne_of_beq_eq_false rfl)).trans ?_
    refine (de_lt (Nat.le_of_ble_eq_true rfl) (Nat.ne_of_beq_eq_false rfl)).trans ?_
    iterate 16 refine (up_ne (Nat.ne_of_beq_eq_false rfl)).trans ?_
    refine (te_lt (Nat.le_of_ble_eq_true rfl) (Nat.ne_of_beq_eq_false rfl)).trans ?_
    iterate 21 refine (up_ne (Nat.ne_of_beq_eq_false rfl)).trans ?_
    exact up_eq
  · iterate 11 refine (up_ne (Nat.ne_of_beq_eq_false rfl)).trans ?_
    refine (me_lt (Nat.le_of_ble_eq_true rfl)).trans ?_
    refine (up_ne (Nat.ne_of_beq_eq_false rfl)).trans ?_
    refine (me_lt (Nat.le_of_ble_eq_true rfl)).trans ?_
    iterate 9 refine (up_ne (Nat.ne_of_beq_eq_false rfl)).trans ?_
    refine (me_lt (Nat.le_of_ble_eq_true rfl)).trans ?_
    refine (up_ne (Nat.ne_of_beq_eq_false rfl)).trans ?_
    refine (me_lt (Nat.le_of_ble_eq_true rfl)).trans ?_
    iterate 5 refine (up_ne (Nat.ne_of_beq_eq_false rfl)).trans ?_
    refine (me_lt (Nat.le_of_ble_eq_true rfl)).trans ?_
    iterate 14 refine (up_ne (Nat.ne_of_beq_eq_false rfl)).trans ?_
    refine (de_lt (Nat.le_of_ble_eq_true rfl) (Nat.ne_of_beq_eq_false rfl)).trans ?_
    iterate 2 refine (up_ne (Nat.ne_of_beq_eq_false rfl)).trans ?_
    refine (de_lt (Nat.le_of_ble_eq_true rfl) (Nat.ne_of_beq_eq_false rfl)).trans ?_
    iterate 2 refine (up_ne (Nat.ne_of_beq_eq_false rfl)).trans ?_
    refine (de_lt (Nat.le_of_ble_eq_true rfl) (Nat.ne_of_beq_eq_false rfl)).trans ?_
    iterate 2 refine (up_ne (Nat.ne_of_beq_eq_false rfl)).trans ?_
    refine (de_lt (Nat.le_of_ble_eq_true rfl) (Nat.ne_of_beq_eq_false rfl)).trans ?_
    iterate 2 refine (up_ne (Nat.ne_of_beq_eq_false rfl)).trans ?_
    refine (de_lt (Nat.le_of_ble_eq_true rfl) (Nat.ne_of_beq_eq_false rfl)).trans ?_
    iterate 2 refine (up_ne (Nat.ne_of_beq_eq_false rfl)).trans ?_
    refine (de_lt (Nat.le_of_ble_eq_true rfl) (Nat.ne_of_beq_eq_false rfl)).trans ?_
    iterate 2 refine (up_ne (Nat.ne_of_beq_eq_false rfl)).trans ?_
    refine (de_lt (Nat.le_of_ble_eq_true rfl) (Nat.ne_of_beq_eq_false rfl)).trans ?_
    iterate 2 refine (up_ne (Nat.ne_of_beq_eq_false rfl)).trans ?_
    refine (de_lt (Nat.le_of_ble_eq_true rfl) (Nat.ne_of_beq_eq_false rfl)).trans ?_
    iterate 3 refine (up_ne (Nat.ne_of_beq_eq_false rfl)).trans ?_
    refine (de_lt (Nat.le_of_ble_eq_true rfl) (Nat.ne_of_beq_eq_false rfl)).trans ?_
    iterate 2 refine (up_ne (Nat.ne_of_beq_eq_false rfl)).trans ?_
    refine (de_lt (Nat.le_of_ble_eq_true rfl) (Nat.ne_of_beq_eq_false rfl)).trans ?_
    iterate 16 refine (up_ne (Nat.ne_of_beq_eq_false rfl)).trans ?_
    refine (te_lt (Nat.le_of_ble_eq_true rfl) (Nat.ne_of_beq_eq_false rfl)).trans ?_
    iterate 9 refine (up_ne (Nat.ne_of_beq_eq_false rfl)).trans ?_
    exact up_eq
  · iterate 11 refine (up_ne (Nat.ne_of_beq_eq_false rfl)).trans ?_
    refine (me_lt (Nat.le_of_ble_eq_true rfl)).trans ?_
    refine (up_ne (Nat.ne_of_beq_eq_false rfl)).trans ?_
    refine (me_lt (Nat.le_of_ble_eq_true rfl)).trans ?_
    iterate 9 refine (up_ne (Nat.ne_of_beq_eq_false rfl)).trans ?_
    refine (me_lt (Nat.le_of_ble_eq_true rfl)).trans ?_
    refine (up_ne (Nat.ne_of_beq_eq_false rfl)).trans ?_
    refine (me_lt (Nat.le_of_ble_eq_true rfl)).trans ?_
    iterate 5 refine (up_ne (Nat.ne_of_beq_eq_false rfl)).trans ?_
    refine (me_lt (Nat.le_of_ble_eq_true rfl)).trans ?_
    iterate 14 refine (up_ne (Nat.ne_of_beq_eq_false rfl)).trans ?_
    refine (de_lt (Nat.le_of_ble_eq_true rfl) (Nat.ne_of_beq_eq_false rfl)).trans ?_
    iterate 2 refine (up_ne (Nat.ne_of_beq_eq_false rfl)).trans ?_
    refine (de_lt (Nat.le_of_ble_eq_true rfl) (Nat.ne_of_beq_eq_false rfl)).trans ?_
    iterate 2 refine (up_ne (Nat.ne_of_beq_eq_false rfl)).trans ?_
    refine (de_lt (Nat.le_of_ble_eq_true rfl) (Nat.ne_of_beq_eq_false rfl)).trans ?_
    iterate 2 refine (up_ne (Nat.ne_of_beq_eq_false rfl)).trans ?_
    refine (de_lt (Nat.le_of_ble_eq_true rfl) (Nat.ne_of_beq_eq_false rfl)).trans ?_
    iterate 2 refine (up_ne (Nat.ne_of_beq_eq_false rfl)).trans ?_
    refine (de_lt (Nat.le_of_ble_eq_true rfl) (Nat.ne_of_beq_eq_false rfl)).trans ?_
    iterate 2 refine (up_ne (Nat.ne_of_beq_eq_false rfl)).trans ?_
    refine (de_lt (Nat.le_of_ble_eq_true rfl) (Nat.ne_of_beq_eq_false rfl)).trans ?_
    iterate 2 refine (up_ne (Nat.ne_of_beq_eq_false rfl)).trans ?_
    refine (de_lt (Nat.le_of_ble_eq_true rfl) (Nat.ne_of_beq_eq_false rfl)).trans ?_
    iterate 2 refine (up_ne (Nat.ne_of_beq_eq_false rfl)).trans ?_
    refine (de_lt (Nat.le_of_ble_eq_true rfl) (Nat.ne_of_beq_eq_false rfl)).trans ?_
    iterate 3 refine (up_ne (Nat.ne_of_beq_eq_false rfl)).trans ?_
    refine (de_lt (Nat.le_of_ble_eq_true rfl) (Nat.ne_of_beq_eq_false rfl)).trans ?_
    iterate 2 refine (up_ne (Nat.ne_of_beq_eq_false rfl)).trans ?_
    refine (de_lt (Nat.le_of_ble_eq_true rfl) (Nat.ne_of_beq_eq_false rfl)).trans ?_
    iterate 16 refine (up_ne (Nat.ne_of_beq_eq_false rfl)).trans ?_
    refine (te_lt (Nat.le_of_ble_eq_true rfl) (Nat.ne_of_beq_eq_false rfl)).trans ?_
    iterate 3 refine (up_ne (Nat.ne_of_beq_eq_false rfl)).trans ?_
    exact up_eq
  · iterate 11 refine (up_ne (Nat.ne_of_beq_eq_false rfl)).trans ?_
    refine (me_lt (Nat.le_of_ble_eq_true rfl)).trans ?_
    refine (up_ne (Nat.ne_of_beq_eq_false rfl)).trans ?_
    refine (me_lt (Nat.le_of_ble_eq_true rfl)).trans ?_
    iterate 9 refine (up_ne (Nat.ne_of_beq_eq_false rfl)).trans ?_
    refine (me_lt (Nat.le_of_ble_eq_true rfl)).trans ?_
    refine (up_ne (Nat.ne_of_beq_eq_false rfl)).trans ?_
    refine (me_lt (Nat.le_of_ble_eq_true rfl)).trans ?_
    iterate 5 refine (up_ne (Nat.ne_of_beq_eq_false rfl)).trans ?_
    refine (me_lt (Nat.le_of_ble_eq_true rfl)).trans ?_
    iterate 14 refine (up_ne (Nat.ne_of_beq_eq_false rfl)).trans ?_
    refine (de_lt (Nat.le_of_ble_eq_true rfl) (Nat.ne_of_beq_eq_false rfl)).trans ?_
    iterate 2 refine (up_ne (Nat.ne_of_beq_eq_false rfl)).trans ?_
    refine (de_lt (Nat.le_of_ble_eq_true rfl) (Nat.ne_of_beq_eq_false rfl)).trans ?_
    iterate 2 refine (up_ne (Nat.ne_of_beq_eq_false rfl)).trans ?_
    refine (de_lt (Nat.le_of_ble_eq_true rfl) (Nat.ne_of_beq_eq_false rfl)).trans ?_
    iterate 2 refine (up_ne (Nat.ne_of_beq_eq_false rfl)).trans ?_
    refine (de_lt (Nat.le_of_ble_eq_true rfl) (Nat.ne_of_beq_eq_false rfl)).trans ?_
    iterate 2 refine (up_ne (Nat.ne_of_beq_eq_false rfl)).trans ?_
    refine (de_lt (Nat.le_of_ble_eq_true rfl) (Nat.ne_of_beq_eq_false rfl)).trans ?_
    iterate 2 refine (up_ne (Nat.ne_of_beq_eq_false rfl)).trans ?_
    refine (de_lt (Nat.le_of_ble_eq_true rfl) (Nat.ne_of_beq_eq_false rfl)).trans ?_
    iterate 2 refine (up_ne (Nat.ne_of_beq_eq_false rfl)).trans ?_
    refine (de_lt (Nat.le_of_ble_eq_true rfl) (Nat.ne_of_beq_eq_false rfl)).trans ?_
    iterate 2 refine (up_ne (Nat.ne_of_beq_eq_false rfl)).trans ?_
    refine (de_lt (Nat.le_of_ble_eq_true rfl) (Nat.ne_of_beq_eq_false rfl)).trans ?_
    iterate 3 refine (up_ne (Nat.ne_of_beq_eq_false rfl)).trans ?_
    refine (de_lt (Nat.le_of_ble_eq_true rfl) (Nat.ne_of_beq_eq_false rfl)).trans ?_
    iterate 2 refine (up_ne (Nat.ne_of_beq_eq_false rfl)).trans ?_
    refine (de_lt (Nat.le_of_ble_eq_true rfl) (Nat.ne_of_beq_eq_false rfl)).trans ?_
    iterate 14 refine (up_ne (Nat.ne_of_beq_eq_false rfl)).trans ?_
    exact up_eq
  · iterate 11 refine (up_ne (Nat.ne_of_beq_eq_false rfl)).trans ?_
    refine (me_lt (Nat.le_of_ble_eq_true rfl)).trans ?_
    refine (up_ne (Nat.ne_of_beq_eq_false rfl)).trans ?_
    refine (me_lt (Nat.le_of_ble_eq_true rfl)).trans ?_
    iterate 9 refine (up_ne (Nat.ne_of_beq_eq_false rfl)).trans ?_
    refine (me_lt (Nat.le_of_ble_eq_true rfl)).trans ?_
    refine (up_ne (Nat.ne_of_beq_eq_false rfl)).trans ?_
    refine (me_lt (Nat.le_of_ble_eq_true rfl)).trans ?_
    iterate 5 refine (up_ne (Nat.ne_of_beq_eq_false rfl)).trans ?_
    refine (me_lt (Nat.le_of_ble_eq_true rfl)).trans ?_
    iterate 14 refine (up_ne (Nat.ne_of_beq_eq_false rfl)).trans ?_
    refine (de_lt (Nat.le_of_ble_eq_true rfl) (Nat.ne_of_beq_eq_false rfl)).trans ?_
    iterate 2 refine (up_ne (Nat.ne_of_beq_eq_false rfl)).trans ?_
    refine (de_lt (Nat.le_of_ble_eq_true rfl) (Nat.ne_of_beq_eq_false rfl)).trans ?_
    iterate 2 refine (up_ne (Nat.ne_of_beq_eq_false rfl)).trans ?_
    refine (de_lt (Nat.le_of_ble_eq_true rfl) (Nat.ne_of_beq_eq_false rfl)).trans ?_
    iterate 2 refine (up_ne (Nat.ne_of_beq_eq_false rfl)).trans ?_
    refine (de_lt (Nat.le_of_ble_eq_true rfl) (Nat.ne_of_beq_eq_false rfl)).trans ?_
    iterate 2 refine (up_ne (Nat.ne_of_beq_eq_false rfl)).trans ?_
    refine (de_lt (Nat.le_of_ble_eq_true rfl) (Nat.ne_of_beq_eq_false rfl)).trans ?_
    iterate 2 refine (up_ne (Nat.ne_of_beq_eq_false rfl)).trans ?_
    refine (de_lt (Nat.le_of_ble_eq_true rfl) (Nat.ne_of_beq_eq_false rfl)).trans ?_
    iterate 2 refine (up_ne (Nat.ne_of_beq_eq_false rfl)).trans ?_
    refine (de_lt (Nat.le_of_ble_eq_true rfl) (Nat.ne_of_beq_eq_false rfl)).trans ?_
    iterate 2 refine (up_ne (Nat.ne_of_beq_eq_false rfl)).trans ?_
    refine (de_lt (Nat.le_of_ble_eq_true rfl) (Nat.ne_of_beq_eq_false rfl)).trans ?_
    iterate 3 refine (up_ne (Nat.ne_of_beq_eq_false rfl)).trans ?_
    refine (de_lt (Nat.le_of_ble_eq_true rfl) (Nat.ne_of_beq_eq_false rfl)).trans ?_
    iterate 2 refine (up_ne (Nat.ne_of_beq_eq_false rfl)).trans ?_
    refine (de_lt (Nat.le_of_ble_eq_true rfl) (Nat.ne_of_beq_eq_false rfl)).trans ?_
    iterate 8 refine (up_ne (Nat.ne_of_beq_eq_false rfl)).trans ?_
    exact up_eq
  · iterate 11 refine (up_ne (Nat.ne_of_beq_eq_false rfl)).trans ?_
    refine (me_lt (Nat.le_of_ble_eq_true rfl)).trans ?_
    refine (up_ne (Nat.ne_of_beq_eq_false rfl)).trans ?_
    refine (me_lt (Nat.le_of_ble_eq_true rfl)).trans ?_
    iterate 9 refine (up_ne (Nat.ne_of_beq_eq_false rfl)).trans ?_
    refine (me_lt (Nat.le_of_ble_eq_true rfl)).trans ?_
    refine (up_ne (Nat.ne_of_beq_eq_false rfl)).trans ?_
    refine (me_lt (Nat.le_of_ble_eq_true rfl)).trans ?_
    iterate 5 refine (up_ne (Nat.ne_of_beq_eq_false rfl)).trans ?_
    refine (me_lt (Nat.le_of_ble_eq_true rfl)).trans ?_
    iterate 14 refine (up_ne (Nat.ne_of_beq_eq_false rfl)).trans ?_
    refine (de_lt (Nat.le_of_ble_eq_true rfl) (Nat.ne_of_beq_eq_false rfl)).trans ?_
    iterate 2 refine (up_ne (Nat.ne_of_beq_eq_false rfl)).trans ?_
    refine (de_lt (Nat.le_of_ble_eq_true rfl) (Nat.ne_of_beq_eq_false rfl)).trans ?_
    iterate 2 refine (up_ne (Nat.ne_of_beq_eq_false rfl)).trans ?_
    refine (de_lt (Nat.le_of_ble_eq_true rfl) (Nat.ne_of_beq_eq_false rfl)).trans ?_
    iterate 2 refine (up_ne (Nat.ne_of_beq_eq_false rfl)).trans ?_
    refine (de_lt (Nat.le_of_ble_eq_true rfl) (Nat.ne_of_beq_eq_false rfl)).trans ?_
    iterate 2 refine (up_ne (Nat.ne_of_beq_eq_false rfl)).trans ?_
    refine (de_lt (Nat.le_of_ble_eq_true rfl) (Nat.ne_of_beq_eq_false rfl)).trans ?_
    iterate 2 refine (up_ne (Nat.ne_of_beq_eq_false rfl)).trans ?_
    refine (de_lt (Nat.le_of_ble_eq_true rfl) (Nat.ne_of_beq_eq_false rfl)).trans ?_
    iterate 2 refine (up_ne (Nat.ne_of_beq_eq_false rfl)).trans ?_
    refine (de_lt (Nat.le_of_ble_eq_true rfl) (Nat.ne_of_beq_eq_false rfl)).trans ?_
    iterate 2 refine (up_ne (Nat.ne_of_beq_eq_false rfl)).trans ?_
    refine (de_lt (Nat.le_of_ble_eq_true rfl) (Nat.ne_of_beq_eq_false rfl)).trans ?_
    iterate 3 refine (up_ne (Nat.ne_of_beq_eq_false rfl)).trans ?_
    refine (de_lt (Nat.le_of_ble_eq_true rfl) (Nat.ne_of_beq_eq_false rfl)).trans ?_
    iterate 2 refine (up_ne (Nat.ne_of_beq_eq_false rfl)).trans ?_
    refine (de_lt (Nat.le_of_ble_eq_true rfl) (Nat.ne_of_beq_eq_false rfl)).trans ?_
    iterate 2 refine (up_ne (Nat.ne_of_beq_eq_false rfl)).trans ?_
    exact up_eq
  · iterate 11 refine (up_ne (Nat.ne_of_beq_eq_false rfl)).trans ?_
    refine (me_lt (Nat.le_of_ble_eq_true rfl)).trans ?_
    refine (up_ne (Nat.ne_of_beq_eq_false rfl)).trans ?_
    refine (me_lt (Nat.le_of_ble_eq_true rfl)).trans ?_
    iterate 9 refine (up_ne (Nat.ne_of_beq_eq_false rfl)).trans ?_
    refine (me_lt (Nat.le_of_ble_eq_true rfl)).trans ?_
    refine (up_ne (Nat.ne_of_beq_eq_false rfl)).trans ?_
    refine (me_lt (Nat.le_of_ble_eq_true rfl)).trans ?_
    iterate 5 refine (up_ne (Nat.ne_of_beq_eq_false rfl)).trans ?_
    refine (me_lt (Nat.le_of_ble_eq_true rfl)).trans ?_
    iterate 13 refine (up_ne (Nat.ne_of_beq_eq_false rfl)).trans ?_
    exact up_eq
  · iterate 11 refine (up_ne (Nat.ne_of_beq_eq_false rfl)).trans ?_
    refine (me_lt (Nat.le_of_ble_eq_true rfl)).trans ?_
    refine (up_ne (Nat.ne_of_beq_eq_false rfl)).trans ?_
    refine (me_lt (Nat.le_of_ble_eq_true rfl)).trans ?_
    iterate 9 refine (up_ne (Nat.ne_of_beq_eq_false rfl)).trans ?_
    refine (me_lt (Nat.le_of_ble_eq_true rfl)).trans ?_
    refine (up_ne (Nat.ne_of_beq_eq_false rfl)).trans ?_
    refine (me_lt (Nat.le_of_ble_eq_true rfl)).trans ?_
    iterate 5 refine (up_ne (Nat.ne_of_beq_eq_false rfl)).trans ?_
    refine (me_lt (Nat.le_of_ble_eq_true rfl)).trans ?_
    iterate 11 refine (up_ne (Nat.ne_of_beq_eq_false rfl)).trans ?_
    exact up_eq
  · iterate 11 refine (up_ne (Nat.ne_of_beq_eq_false rfl)).trans ?_
    refine (me_lt (Nat.le_of_ble_eq_true rfl)).trans ?_
    refine (up_ne (Nat.ne_of_beq_eq_false rfl)).trans ?_
    refine (me_lt (Nat.le_of_ble_eq_true rfl)).trans ?_
    iterate 9 refine (up_ne (Nat.ne_of_beq_eq_false rfl)).trans ?_
    refine (me_lt (Nat.le_of_ble_eq_true rfl)).trans ?_
    refine (up_ne (Nat.ne_of_beq_eq_false rfl)).trans ?_
    refine (me_lt (Nat.le_of_ble_eq_true rfl)).trans ?_
    iterate 5 refine (up_ne (Nat.ne_of_beq_eq_false rfl)).trans ?_
    refine (me_lt (Nat.le_of_ble_eq_true rfl)).trans ?_
    iterate 9 refine (up_ne (Nat.ne_of_beq_eq_false rfl)).trans ?_
    exact up_eq
  · iterate 11 refine (up_ne (Nat.ne_of_beq_eq_false rfl)).trans ?_
    refine (me_lt (Nat.le_of_ble_eq_true rfl)).trans ?_
    refine (up_ne (Nat.ne_of_beq_eq_false rfl)).trans ?_
    refine (me_lt (Nat.le_of_ble_eq_true rfl)).trans ?_
    iterate 9 refine (up_ne (Nat.ne_of_beq_eq_false rfl)).trans ?_
    refine (me_lt (Nat.le_of_ble_eq_true rfl)).trans ?_
    refine (up_ne (Nat.ne_of_beq_eq_false rfl)).trans ?_
    refine (me_lt (Nat.le_of_ble_eq_true rfl)).trans ?_
    iterate 5 refine (up_ne (Nat.ne_of_beq_eq_false rfl)).trans ?_
    refine (me_lt (Nat.le_of_ble_eq_true rfl)).trans ?_
    iterate 7 refine (up_ne (Nat.ne_of_beq_eq_false rfl)).trans ?_
    exact up_eq
  · iterate 11 refine (up_ne (Nat.ne_of_beq_eq_false rfl)).trans ?_
    refine (me_lt (Nat.le_of_ble_eq_true rfl)).trans ?_
    refine (up_ne (Nat.ne_of_beq_eq_false rfl)).trans ?_
    refine (me_lt (Nat.le_of_ble_eq_true rfl)).trans ?_
    iterate 9 refine (up_ne (Nat.ne_of_beq_eq_false rfl)).trans ?_
    refine (me_lt (Nat.le_of_ble_eq_true rfl)).trans ?_
    refine (up_ne (Nat.ne_of_beq_eq_false rfl)).trans ?_
    refine (me_lt (Nat.le_of_ble_eq_true rfl)).trans ?_
    iterate 5 refine (up_ne (Nat.ne_of_beq_eq_false rfl)).trans ?_
    refine (me_lt (Nat.le_of_ble_eq_true rfl)).trans ?_
    iterate 5 refine (up_ne (Nat.ne_of_beq_eq_false rfl)).trans ?_
    exact up_eq
  · iterate 11 refine (up_ne (Nat.ne_of_beq_eq_false rfl)).trans ?_
    refine (me_lt (Nat.le_of_ble_eq_true rfl)).trans ?_
    refine (up_ne (Nat.ne_of_beq_eq_false rfl)).trans ?_
    refine (me_lt (Nat.le_of_ble_eq_true rfl)).trans ?_
    iterate 9 refine (up_ne (Nat.ne_of_beq_eq_false rfl)).trans ?_
    refine (me_lt (Nat.le_of_ble_eq_true rfl)).trans ?_
    refine (up_ne (Nat.ne_of_beq_eq_false rfl)).trans ?_
    refine (me_lt (Nat.le_of_ble_eq_true rfl)).trans ?_
    iterate 5 refine (up_ne (Nat.ne_of_beq_eq_false rfl)).trans ?_
    refine (me_lt (Nat.le_of_ble_eq_true rfl)).trans ?_
    iterate 3 refine (up_ne (Nat.ne_of_beq_eq_false rfl)).trans ?_
    exact up_eq
  · iterate 11 refine (up_ne (Nat.ne_of_beq_eq_false rfl)).trans ?_
    refine (me_lt (Nat.le_of_ble_eq_true rfl)).trans ?_
    refine (up_ne (Nat.ne_of_beq_eq_false rfl)).trans ?_
    refine (me_lt (Nat.le_of_ble_eq_true rfl)).trans ?_
    iterate 9 refine (up_ne (Nat.ne_of_beq_eq_false rfl)).trans ?_
    refine (me_lt (Nat.le_of_ble_eq_true rfl)).trans ?_
    refine (up_ne (Nat.ne_of_beq_eq_false rfl)).trans ?_
    refine (me_lt (Nat.le_of_ble_eq_true rfl)).trans ?_
    iterate 5 refine (up_ne (Nat.ne_of_beq_eq_false rfl)).trans ?_
    refine (me_lt (Nat.le_of_ble_eq_true rfl)).trans ?_
    refine (up_ne (Nat.ne_of_beq_eq_false rfl)).trans ?_
    exact up_eq
  · iterate 11 refine (up_ne (Nat.ne_of_beq_eq_false rfl)).trans ?_
    refine (me_lt (Nat.le_of_ble_eq_true rfl)).trans ?_
    refine (up_ne (Nat.ne_of_beq_eq_false rfl)).trans ?_
    refine (me_lt (Nat.le_of_ble_eq_true rfl)).trans ?_
    iterate 9 refine (up_ne (Nat.ne_of_beq_eq_false rfl)).trans ?_
    refine (me_lt (Nat.le_of_ble_eq_true rfl)).trans ?_
    refine (up_ne (Nat.ne_of_beq_eq_false rfl)).trans ?_
    refine (me_lt (Nat.le_of_ble_eq_true rfl)).trans ?_
    iterate 5 refine (up_ne (Nat.ne_of_beq_eq_false rfl)).trans ?_
    exact me_at
  · iterate 11 refine (up_ne (Nat.ne_of_beq_eq_false rfl)).trans ?_
    refine (me_lt (Nat.le_of_ble_eq_true rfl)).trans ?_
    refine (up_ne (Nat.ne_of_beq_eq_false rfl)).trans ?_
    refine (me_lt (Nat.le_of_ble_eq_true rfl)).trans ?_
    iterate 9 refine (up_ne (Nat.ne_of_beq_eq_false rfl)).trans ?_
    refine (me_lt (Nat.le_of_ble_eq_true rfl)).trans ?_
    refine (up_ne (Nat.ne_of_beq_eq_false rfl)).trans ?_
    refine (me_lt (Nat.le_of_ble_eq_true rfl)).trans ?_
    iterate 3 refine (up_ne (Nat.ne_of_beq_eq_false rfl)).trans ?_
    exact up_eq
  · iterate 11 refine (up_ne (Nat.ne_of_beq_eq_false rfl)).trans ?_
    refine (me_lt (Nat.le_of_ble_eq_true rfl)).trans ?_
    refine (up_ne (Nat.ne_of_beq_eq_false rfl)).trans ?_
    refine (me_lt (Nat.le_of_ble_eq_true rfl)).trans ?_
    iterate 9 refine (up_ne (Nat.ne_of_beq_eq_false rfl)).trans ?_
    refine (me_lt (Nat.le_of_ble_eq_true rfl)).trans ?_
    refine (up_ne (Nat.ne_of_beq_eq_false rfl)).trans ?_
    refine (me_lt (Nat.le_of_ble_eq_true rfl)).trans ?_
    refine (up_ne (Nat.ne_of_beq_eq_false rfl)).trans ?_
    exact up_eq
  · iterate 11 refine (up_ne (Nat.ne_of_beq_eq_false rfl)).trans ?_
    refine (me_lt (Nat.le_of_ble_eq_true rfl)).trans ?_
    refine (up_ne (Nat.ne_of_beq_eq_false rfl)).trans ?_
    refine (me_lt (Nat.le_of_ble_eq_true rfl)).trans ?_
    iterate 9 refine (up_ne (Nat.ne_of_beq_eq_false rfl)).trans ?_
    refine (me_lt (Nat.le_of_ble_eq_true rfl)).trans ?_
    refine (up_ne (Nat.ne_of_beq_eq_false rfl)).trans ?_
    exact me_at
  · iterate 11 refine (up_ne (Nat.ne_of_beq_eq_false rfl)).trans ?_
    refine (me_lt (Nat.le_of_ble_eq_true rfl)).trans ?_
    refine (up_ne (Nat.ne_of_beq_eq_false rfl)).trans ?_
    refine (me_lt (Nat.le_of_ble_eq_true rfl)).trans ?_
    iterate 9 refine (up_ne (Nat.ne_of_beq_eq_false rfl)).trans ?_
    exact me_at
  · iterate 11 refine (up_ne (Nat.ne_of_beq_eq_false rfl)).trans ?_
    refine (me_lt (Nat.le_of_ble_eq_true rfl)).trans ?_
    refine (up_ne (Nat.ne_of_beq_eq_false rfl)).trans ?_
    refine (me_lt (Nat.le_of_ble_eq_true rfl)).trans ?_
    iterate 7 refine (up_ne (Nat.ne_of_beq_eq_false rfl)).trans ?_
    exact up_eq
  · iterate 11 refine (up_ne (Nat.ne_of_beq_eq_false rfl)).trans ?_
    refine (me_lt (Nat.le_of_ble_eq_true rfl)).trans ?_
    refine (up_ne (Nat.ne_of_beq_eq_false rfl)).trans ?_
    refine (me_lt (Nat.le_of_ble_eq_true rfl)).trans ?_
    iterate 5 refine (up_ne (Nat.ne_of_beq_eq_false rfl)).trans ?_
    exact up_eq
  · iterate 11 refine (up_ne (Nat.ne_of_beq_eq_false rfl)).trans ?_
    refine (me_lt (Nat.le_of_ble_eq_true rfl)).trans ?_
    refine (up_ne (Nat.ne_of_beq_eq_false rfl)).trans ?_
    refine (me_lt (Nat.le_of_ble_eq_true rfl)).trans ?_
    iterate 3 refine (up_ne (Nat.ne_of_beq_eq_false rfl)).trans ?_
    exact up_eq
  · iterate 11 refine (up_ne (Nat.ne_of_beq_eq_false rfl)).trans ?_
    refine (me_lt (Nat.le_of_ble_eq_true rfl)).trans ?_
    refine (up_ne (Nat.ne_of_beq_eq_false rfl)).trans ?_
    refine (me_lt (Nat.le_of_ble_eq_true rfl)).trans ?_
    refine (up_ne (Nat.ne_of_beq_eq_false rfl)).trans ?_
    exact up_eq
  · iterate 11 refine (up_ne (Nat.ne_of_beq_eq_false rfl)).trans ?_
    refine (me_lt (Nat.le_of_ble_eq_true rfl)).trans ?_
    refine (up_ne (Nat.ne_of_beq_eq_false rfl)).trans ?_
    exact me_at
  · iterate 11 refine (up_ne (Nat.ne_of_beq_eq_false rfl)).trans ?_
    exact me_at
  · iterate 9 refine (up_ne (Nat.ne_of_beq_eq_false rfl)).trans ?_
    exact up_eq
  · iterate 11 refine (up_ne (Nat.ne_of_beq_eq_false rfl)).trans ?_
    refine (me_lt (Nat.le_of_ble_eq_true rfl)).trans ?_
    refine (up_ne (Nat.ne_of_beq_eq_false rfl)).trans ?_
    refine (me_lt (Nat.le_of_ble_eq_true rfl)).trans ?_
    iterate 9 refine (up_ne (Nat.ne_of_beq_eq_false rfl)).trans ?_
    refine (me_lt (Nat.le_of_ble_eq_true rfl)).trans ?_
    refine (up_ne (Nat.ne_of_beq_eq_false rfl)).trans ?_
    refine (me_lt (Nat.le_of_ble_eq_true rfl)).trans ?_
    iterate 5 refine (up_ne (Nat.ne_of_beq_eq_false rfl)).trans ?_
    refine (me_lt (Nat.le_of_ble_eq_true rfl)).trans ?_
    iterate 14 refine (up_ne (Nat.ne_of_beq_eq_false rfl)).trans ?_
    refine (de_lt (Nat.le_of_ble_eq_true rfl) (Nat.ne_of_beq_eq_false rfl)).trans ?_
    iterate 2 refine (up_ne (Nat.ne_of_beq_eq_false rfl)).trans ?_
    refine (de_lt (Nat.le_of_ble_eq_true rfl) (Nat.ne_of_beq_eq_false rfl)).trans ?_
    iterate 2 refine (up_ne (Nat.ne_of_beq_eq_false rfl)).trans ?_
    refine (de_lt (Nat.le_of_ble_eq_true rfl) (Nat.ne_of_beq_eq_false rfl)).trans ?_
    iterate 2 refine (up_ne (Nat.ne_of_beq_eq_false rfl)).trans ?_
    refine (de_lt (Nat.le_of_ble_eq_true rfl) (Nat.ne_of_beq_eq_false rfl)).trans ?_
    iterate 2 refine (up_ne (Nat.ne_of_beq_eq_false rfl)).trans ?_
    refine (de_lt (Nat.le_of_ble_eq_true rfl) (Nat.ne_of_beq_eq_false rfl)).trans ?_
    iterate 2 refine (up_ne (Nat.ne_of_beq_eq_false rfl)).trans ?_
    refine (de_lt (Nat.le_of_ble_eq_true rfl) (Nat.ne_of_beq_eq_false rfl)).trans ?_
    iterate 2 refine (up_ne (Nat.ne_of_beq_eq_false rfl)).trans ?_
    refine (de_lt (Nat.le_of_ble_eq_true rfl) (Nat.ne_of_beq_eq_false rfl)).trans ?_
    iterate 2 refine (up_ne (Nat.ne_of_beq_eq_false rfl)).trans ?_
    refine (de_lt (Nat.le_of_ble_eq_true rfl) (Nat.ne_of_beq_eq_false rfl)).trans ?_
    iterate 3 refine (up_ne (Nat.ne_of_beq_eq_false rfl)).trans ?_
    refine (de_lt (Nat.le_of_ble_eq_true rfl) (Nat.ne_of_beq_eq_false rfl)).trans ?_
    iterate 2 refine (up_ne (Nat.ne_of_beq_eq_false rfl)).trans ?_
    exact de_obj (Nat.le_of_ble_eq_true rfl)
  · iterate 11 refine (up_ne (Nat.ne_of_beq_eq_false rfl)).trans ?_
    refine (me_lt (Nat.le_of_ble_eq_true rfl)).trans ?_
    refine (up_ne (Nat.ne_of_beq_eq_false rfl)).trans ?_
    refine (me_lt (Nat.le_of_ble_eq_true rfl)).trans ?_
    iterate 9 refine (up_ne (Nat.ne_of_beq_eq_false rfl)).trans ?_
    refine (me_lt (Nat.le_of_ble_eq_true rfl)).trans ?_
    refine (up_ne (Nat.ne_of_beq_eq_false rfl)).trans ?_
    refine (me_lt (Nat.le_of_ble_eq_true rfl)).trans ?_
    iterate 5 refine (up_ne (Nat.ne_of_beq_eq_false rfl)).trans ?_
    refine (me_lt (Nat.le_of_ble_eq_true rfl)).trans ?_
    iterate 14 refine (up_ne (Nat.ne_of_beq_eq_false rfl)).trans ?_
    refine (de_lt (Nat.le_of_ble_eq_true rfl) (Nat.ne_of_beq_eq_false rfl)).trans ?_
    iterate 2 refine (up_ne (Nat.ne_of_beq_eq_false rfl)).trans ?_
    refine (de_lt (Nat.le_of_ble_eq_true rfl) (Nat.ne_of_beq_eq_false rfl)).trans ?_
    iterate 2 refine (up_ne (Nat.ne_of_beq_eq_false rfl)).trans ?_
    refine (de_lt (Nat.le_of_ble_eq_true rfl) (Nat.ne_of_beq_eq_false rfl)).trans ?_
    iterate 2 refine (up_ne (Nat.ne_of_beq_eq_false rfl)).trans ?_
    refine (de_lt (Nat.le_of_ble_eq_true rfl) (Nat.ne_of_beq_eq_false rfl)).trans ?_
    iterate 2 refine (up_ne (Nat.ne_of_beq_eq_false rfl)).trans ?_
    refine (de_lt (Nat.le_of_ble_eq_true rfl) (Nat.ne_of_beq_eq_false rfl)).trans ?_
    iterate 2 refine (up_ne (Nat.ne_of_beq_eq_false rfl)).trans ?_
    refine (de_lt (Nat.le_of_ble_eq_true rfl) (Nat.ne_of_beq_eq_false rfl)).trans ?_
    iterate 2 refine (up_ne (Nat.ne_of_beq_eq_false rfl)).trans ?_
    refine (de_lt (Nat.le_of_ble_eq_true rfl) (Nat.ne_of_beq_eq_false rfl)).trans ?_
    iterate 2 refine (up_ne (Nat.ne_of_beq_eq_false rfl)).trans ?_
    refine (de_lt (Nat.le_of_ble_eq_true rfl) (Nat.ne_of_beq_eq_false rfl)).trans ?_
    iterate 3 refine (up_ne (Nat.ne_of_beq_eq_false rfl)).trans ?_
    refine (de_lt (Nat.le_of_ble_eq_true rfl) (Nat.ne_of_beq_eq_false rfl)).trans ?_
    iterate 2 refine (up_ne (Nat.ne_of_beq_eq_false rfl)).trans ?_
    exact de_ge (Nat.le_of_ble_eq_true rfl)
  · iterate 11 refine (up_ne (Nat.ne_of_beq_eq_false rfl)).trans ?_
    refine (me_lt (Nat.le_of_ble_eq_true rfl)).trans ?_
    refine (up_ne (Nat.ne_of_beq_eq_false rfl)).trans ?_
    refine (me_lt (Nat.le_of_ble_eq_true rfl)).trans ?_
    iterate 9 refine (up_ne (Nat.ne_of_beq_eq_false rfl)).trans ?_
    refine (me_lt (Nat.le_of_ble_eq_true rfl)).trans ?_
    refine (up_ne (Nat.ne_of_beq_eq_false rfl)).trans ?_
    refine (me_lt (Nat.le_of_ble_eq_true rfl)).trans ?_
    iterate 5 refine (up_ne (Nat.ne_of_beq_eq_false rfl)).trans ?_
    refine (me_lt (Nat.le_of_ble_eq_true rfl)).trans ?_
    iterate 14 refine (up_ne (Nat.ne_of_beq_eq_false rfl)).trans ?_
    refine (de_lt (Nat.le_of_ble_eq_true rfl) (Nat.ne_of_beq_eq_false rfl)).trans ?_
    iterate 2 refine (up_ne (Nat.ne_of_beq_eq_false rfl)).trans ?_
    refine (de_lt (Nat.le_of_ble_eq_true rfl) (Nat.ne_of_beq_eq_false rfl)).trans ?_
    iterate 2 refine (up_ne (Nat.ne_of_beq_eq_false rfl)).trans ?_
    refine (de_lt (Nat.le_of_ble_eq_true rfl) (Nat.ne_of_beq_eq_false rfl)).trans ?_
    iterate 2 refine (up_ne (Nat.ne_of_beq_eq_false rfl)).trans ?_
    refine (de_lt (Nat.le_of_ble_eq_true rfl) (Nat.ne_of_beq_eq_false rfl)).trans ?_
    iterate 2 refine (up_ne (Nat.ne_of_beq_eq_false rfl)).trans ?_
    refine (de_lt (Nat.le_of_ble_eq_true rfl) (Nat.ne_of_beq_eq_false rfl)).trans ?_
    iterate 2 refine (up_ne (Nat.ne_of_beq_eq_false rfl)).trans ?_
    refine (de_lt (Nat.le_of_ble_eq_true rfl) (Nat.ne_of_beq_eq_false rfl)).trans ?_
    iterate 2 refine (up_ne (Nat.ne_of_beq_eq_false rfl)).trans ?_
    refine (de_lt (Nat.le_of_ble_eq_true rfl) (Nat.ne_of_beq_eq_false rfl)).trans ?_
    iterate 2 refine (up_ne (Nat.ne_of_beq_eq_false rfl)).trans ?_
    refine (de_lt (Nat.le_of_ble_eq_true rfl) (Nat.ne_of_beq_eq_false rfl)).trans ?_
    iterate 3 refine (up_ne (Nat.ne_of_beq_eq_false rfl)).trans ?_
    refine (de_lt (Nat.le_of_ble_eq_true rfl) (Nat.ne_of_beq_eq_false rfl)).trans ?_
    iterate 2 refine (up_ne (Nat.ne_of_beq_eq_false rfl)).trans ?_
    exact de_ge (Nat.le_of_ble_eq_true rfl)
  · iterate 11 refine (up_ne (Nat.ne_of_beq_eq_false rfl)).trans ?_
    refine (me_lt (Nat.le_of_ble_eq_true rfl)).trans ?_
    refine (up_ne (Nat.ne_of_beq_eq_false rfl)).trans ?_
    refine (me_lt (Nat.le_of_ble_eq_true rfl)).trans ?_
    iterate 9 refine (up_ne (Nat.ne_of_beq_eq_false rfl)).trans ?_
    refine (me_lt (Nat.le_of_ble_eq_true rfl)).trans ?_
    refine (up_ne (Nat.ne_of_beq_eq_false rfl)).trans ?_
    refine (me_lt (Nat.le_of_ble_eq_true rfl)).trans ?_
    iterate 5 refine (up_ne (Nat.ne_of_beq_eq_false rfl)).trans ?_
    refine (me_lt (Nat.le_of_ble_eq_true rfl)).trans ?_
    iterate 14 refine (up_ne (Nat.ne_of_beq_eq_false rfl)).trans ?_
    refine (de_lt (Nat.le_of_ble_eq_true rfl) (Nat.ne_of_beq_eq_false rfl)).trans ?_
    iterate 2 refine (up_ne (Nat.ne_of_beq_eq_false rfl)).trans ?_
    refine (de_lt (Nat.le_of_ble_eq_true rfl) (Nat.ne_of_beq_eq_false rfl)).trans ?_
    iterate 2 refine (up_ne (Nat.ne_of_beq_eq_false rfl)).trans ?_
    refine (de_lt (Nat.le_of_ble_eq_true rfl) (Nat.ne_of_beq_eq_false rfl)).trans ?_
    iterate 2 refine (up_ne (Nat.ne_of_beq_eq_false rfl)).trans ?_
    refine (de_lt (Nat.le_of_ble_eq_true rfl) (Nat.ne_of_beq_eq_false rfl)).trans ?_
    iterate 2 refine (up_ne (Nat.ne_of_beq_eq_false rfl)).trans ?_
    refine (de_lt (Nat.le_of_ble_eq_true rfl) (Nat.ne_of_beq_eq_false rfl)).trans ?_
    iterate 2 refine (up_ne (Nat.ne_of_beq_eq_false rfl)).trans ?_
    refine (de_lt (Nat.le_of_ble_eq_true rfl) (Nat.ne_of_beq_eq_false rfl)).trans ?_
    iterate 2 refine (up_ne (Nat.ne_of_beq_eq_false rfl)).trans ?_
    refine (de_lt (Nat.le_of_ble_eq_true rfl) (Nat.ne_of_beq_eq_false rfl)).trans ?_
    iterate 2 refine (up_ne (Nat.ne_of_beq_eq_false rfl)).trans ?_
    refine (de_lt (Nat.le_of_ble_eq_true rfl) (Nat.ne_of_beq_eq_false rfl)).trans ?_
    iterate 3 refine (up_ne (Nat.ne_of_beq_eq_false rfl)).trans ?_
    refine (de_lt (Nat.le_of_ble_eq_true rfl) (Nat.ne_of_beq_eq_false rfl)).trans ?_
    iterate 2 refine (up_ne (Nat.ne_of_beq_eq_false rfl)).trans ?_
    exact de_ge (Nat.le_of_ble_eq_true rfl)
  · iterate 11 refine (up_ne (Nat.ne_of_beq_eq_false rfl)).trans ?_
    refine (me_lt (Nat.le_of_ble_eq_true rfl)).trans ?_
    refine (up_ne (Nat.ne_of_beq_eq_false rfl)).trans ?_
    refine (me_lt (Nat.le_of_ble_eq_true rfl)).trans ?_
    iterate 9 refine (up_ne (Nat.ne_of_beq_eq_false rfl)).trans ?_
    refine (me_lt (Nat.le_of_ble_eq_true rfl)).trans ?_
    refine (up_ne (Nat.ne_of_beq_eq_false rfl)).trans ?_
    refine (me_lt (Nat.le_of_ble_eq_true rfl)).trans ?_
    iterate 5 refine (up_ne (Nat.ne_of_beq_eq_false rfl)).trans ?_
    refine (me_lt (Nat.le_of_ble_eq_true rfl)).trans ?_
    iterate 14 refine (up_ne (Nat.ne_of_beq_eq_false rfl)).trans ?_
    refine (de_lt (Nat.le_of_ble_eq_true rfl) (Nat.ne_of_beq_eq_false rfl)).trans ?_
    iterate 2 refine (up_ne (Nat.ne_of_beq_eq_false rfl)).trans ?_
    refine (de_lt (Nat.le_of_ble_eq_true rfl) (Nat.ne_of_beq_eq_false rfl)).trans ?_
    iterate 2 refine (up_ne (Nat.ne_of_beq_eq_false rfl)).trans ?_
    refine (de_lt (Nat.le_of_ble_eq_true rfl) (Nat.ne_of_beq_eq_false rfl)).trans ?_
    iterate 2 refine (up_ne (Nat.ne_of_beq_eq_false rfl)).trans ?_
    refine (de_lt (Nat.le_of_ble_eq_true rfl) (Nat.ne_of_beq_eq_false rfl)).trans ?_
    iterate 2 refine (up_ne (Nat.ne_of_beq_eq_false rfl)).trans ?_
    refine (de_lt (Nat.le_of_ble_eq_true rfl) (Nat.ne_of_beq_eq_false rfl)).trans ?_
    iterate 2 refine (up_ne (Nat.ne_of_beq_eq_false rfl)).trans ?_
    refine (de_lt (Nat.le_of_ble_eq_true rfl) (Nat.ne_of_beq_eq_false rfl)).trans ?_
    iterate 2 refine (up_ne (Nat.ne_of_beq_eq_false rfl)).trans ?_
    refine (de_lt (Nat.le_of_ble_eq_true rfl) (Nat.ne_of_beq_eq_false rfl)).trans ?_
    iterate 2 refine (up_ne (Nat.ne_of_beq_eq_false rfl)).trans ?_
    refine (de_lt (Nat.le_of_ble_eq_true rfl) (Nat.ne_of_beq_eq_false rfl)).trans ?_
    iterate 3 refine (up_ne (Nat.ne_of_beq_eq_false rfl)).trans ?_
    refine (de_lt (Nat.le_of_ble_eq_true rfl) (Nat.ne_of_beq_eq_false rfl)).trans ?_
    iterate 2 refine (up_ne (Nat.ne_of_beq_eq_false rfl)).trans ?_
    exact de_ge (Nat.le_of_ble_eq_true rfl)
  · iterate 11 refine (up_ne (Nat.ne_of_beq_eq_false rfl)).trans ?_
    refine (me_lt (Nat.le_of_ble_eq_true rfl)).trans ?_
    refine (up_ne (Nat.ne_of_beq_eq_false rfl)).trans ?_
    refine (me_lt (Nat.le_of_ble_eq_true rfl)).trans ?_
    iterate 9 refine (up_ne (Nat.ne_of_beq_eq_false rfl)).trans ?_
    refine (me_lt (Nat.le_of_ble_eq_true rfl)).trans ?_
    refine (up_ne (Nat.ne_of_beq_eq_false rfl)).trans ?_
    refine (me_lt (Nat.le_of_ble_eq_true rfl)).trans ?_
    iterate 5 refine (up_ne (Nat.ne_of_beq_eq_false rfl)).trans ?_
    refine (me_lt (Nat.le_of_ble_eq_true rfl)).trans ?_
    iterate 14 refine (up_ne (Nat.ne_of_beq_eq_false rfl)).trans ?_
    refine (de_lt (Nat.le_of_ble_eq_true rfl) (Nat.ne_of_beq_eq_false rfl)).trans ?_
    iterate 2 refine (up_ne (Nat.ne_of_beq_eq_false rfl)).trans ?_
    refine (de_lt (Nat.le_of_ble_eq_true rfl) (Nat.ne_of_beq_eq_false rfl)).trans ?_
    iterate 2 refine (up_ne (Nat.ne_of_beq_eq_false rfl)).trans ?_
    refine (de_lt (Nat.le_of_ble_eq_true rfl) (Nat.ne_of_beq_eq_false rfl)).trans ?_
    iterate 2 refine (up_ne (Nat.ne_of_beq_eq_false rfl)).trans ?_
    refine (de_lt (Nat.le_of_ble_eq_true rfl) (Nat.ne_of_beq_eq_false rfl)).trans ?_
    iterate 2 refine (up_ne (Nat.ne_of_beq_eq_false rfl)).trans ?_
    refine (de_lt (Nat.le_of_ble_eq_true rfl) (Nat.ne_of_beq_eq_false rfl)).trans ?_
    iterate 2 refine (up_ne (Nat.ne_of_beq_eq_false rfl)).trans ?_
    refine (de_lt (Nat.le_of_ble_eq_true rfl) (Nat.ne_of_beq_eq_false rfl)).trans ?_
    iterate 2 refine (up_ne (Nat.ne_of_beq_eq_false rfl)).trans ?_
    refine (de_lt (Nat.le_of_ble_eq_true rfl) (Nat.ne_of_beq_eq_false rfl)).trans ?_
    iterate 2 refine (up_ne (Nat.ne_of_beq_eq_false rfl)).trans ?_
    refine (de_lt (Nat.le_of_ble_eq_true rfl) (Nat.ne_of_beq_eq_false rfl)).trans ?_
    iterate 3 refine (up_ne (Nat.ne_of_beq_eq_false rfl)).trans ?_
    refine (de_lt (Nat.le_of_ble_eq_true rfl) (Nat.ne_of_beq_eq_false rfl)).trans ?_
    iterate 2 refine (up_ne (Nat.ne_of_beq_eq_false rfl)).trans ?_
    exact de_ge (Nat.le_of_ble_eq_true rfl)
  · iterate 11 refine (up_ne (Nat.ne_of_beq_eq_false rfl)).trans ?_
    refine (me_lt (Nat.le_of_ble_eq_true rfl)).trans ?_
    refine (up_ne (Nat.ne_of_beq_eq_false rfl)).trans ?_
    refine (me_lt (Nat.le_of_ble_eq_true rfl)).trans ?_
    iterate 9 refine (up_ne (Nat.ne_of_beq_eq_false rfl)).trans ?_
    refine (me_lt (Nat.le_of_ble_eq_true rfl)).trans ?_
    refine (up_ne (Nat.ne_of_beq_eq_false rfl)).trans ?_
    refine (me_lt (Nat.le_of_ble_eq_true rfl)).trans ?_
    iterate 5 refine (up_ne (Nat.ne_of_beq_eq_false rfl)).trans ?_
    refine (me_lt (Nat.le_of_ble_eq_true rfl)).trans ?_
    iterate 14 refine (up_ne (Nat.ne_of_beq_eq_false rfl)).trans ?_
    refine (de_lt (Nat.le_of_ble_eq_true rfl) (Nat.ne_of_beq_eq_false rfl)).trans ?_
    iterate 2 refine (up_ne (Nat.ne_of_beq_eq_false rfl)).trans ?_
    refine (de_lt (Nat.le_of_ble_eq_true rfl) (Nat.ne_of_beq_eq_false rfl)).trans ?_
    iterate 2 refine (up_ne (Nat.ne_of_beq_eq_false rfl)).trans ?_
    refine (de_lt (Nat.le_of_ble_eq_true rfl) (Nat.ne_of_beq_eq_false rfl)).trans ?_
    iterate 2 refine (up_ne (Nat.ne_of_beq_eq_false rfl)).trans ?_
    refine (de_lt (Nat.le_of_ble_eq_true rfl) (Nat.ne_of_beq_eq_false rfl)).trans ?_
    iterate 2 refine (up_ne (Nat.ne_of_beq_eq_false rfl)).trans ?_
    refine (de_lt (Nat.le_of_ble_eq_true rfl) (Nat.ne_of_beq_eq_false rfl)).trans ?_
    iterate 2 refine (up_ne (Nat.ne_of_beq_eq_false rfl)).trans ?_
    refine (de_lt (Nat.le_of_ble_eq_true rfl) (Nat.ne_of_beq_eq_false rfl)).trans ?_
    iterate 2 refine (up_ne (Nat.ne_of_beq_eq_false rfl)).trans ?_
    refine (de_lt (Nat.le_of_ble_eq_true rfl) (Nat.ne_of_beq_eq_false rfl)).trans ?_
    iterate 2 refine (up_ne (Nat.ne_of_beq_eq_false rfl)).trans ?_
    refine (de_lt (Nat.le_of_ble_eq_true rfl) (Nat.ne_of_beq_eq_false rfl)).trans ?_
    iterate 3 refine (up_ne (Nat.ne_of_beq_eq_false rfl)).trans ?_
    refine (de_lt (Nat.le_of_ble_eq_true rfl) (Nat.ne_of_beq_eq_false rfl)).trans ?_
    iterate 2 refine (up_ne (Nat.ne_of_beq_eq_false rfl)).trans ?_
    exact de_ge (Nat.le_of_ble_eq_true rfl)
  · iterate 11 refine (up_ne (Nat.ne_of_beq_eq_false rfl)).trans ?_
    refine (me_lt (Nat.le_of_ble_eq_true rfl)).trans ?_
    refine (up_ne (Nat.ne_of_beq_eq_false rfl)).trans ?_
    refine (me_lt (Nat.le_of_ble_eq_true rfl)).trans ?_
    iterate 9 refine (up_ne (Nat.ne_of_beq_eq_false rfl)).trans ?_
    refine (me_lt (Nat.le_of_ble_eq_true rfl)).trans ?_
    refine (up_ne (Nat.ne_of_beq_eq_false rfl)).trans ?_
    refine (me_lt (Nat.le_of_ble_eq_true rfl)).trans ?_
    iterate 5 refine (up_ne (Nat.ne_of_beq_eq_false rfl)).trans ?_
    refine (me_lt (Nat.le_of_ble_eq_true rfl)).trans ?_
    iterate 14 refine (up_ne (Nat.ne_of_beq_eq_false rfl)).trans ?_
    refine (de_lt (Nat.le_of_ble_eq_true rfl) (Nat.ne_of_beq_eq_false rfl)).trans ?_
    iterate 2 refine (up_ne (Nat.ne_of_beq_eq_false rfl)).trans ?_
    refine (de_lt (Nat.le_of_ble_eq_true rfl) (Nat.ne_of_beq_eq_false rfl)).trans ?_
    iterate 2 refine (up_ne (Nat.ne_of_beq_eq_false rfl)).trans ?_
    refine (de_lt (Nat.le_of_ble_eq_true rfl) (Nat.ne_of_beq_eq_false rfl)).trans ?_
    iterate 2 refine (up_ne (Nat.ne_of_beq_eq_false rfl)).trans ?_
    refine (de_lt (Nat.le_of_ble_eq_true rfl) (Nat.ne_of_beq_eq_false rfl)).trans ?_
    iterate 2 refine (up_ne (Nat.ne_of_beq_eq_false rfl)).trans ?_
    refine (de_lt (Nat.le_of_ble_eq_true rfl) (Nat.ne_of_beq_eq_false rfl)).trans ?_
    iterate 2 refine (up_ne (Nat.ne_of_beq_eq_false rfl)).trans ?_
    refine (de_lt (Nat.le_of_ble_eq_true rfl) (Nat.ne_of_beq_eq_false rfl)).trans ?_
    iterate 2 refine (up_ne (Nat.ne_of_beq_eq_false rfl)).trans ?_
    refine (de_lt (Nat.le_of_ble_eq_true rfl) (Nat.ne_of_beq_eq_false rfl)).trans ?_
    iterate 2 refine (up_ne (Nat.ne_of_beq_eq_false rfl)).trans ?_
    refine (de_lt (Nat.le_of_ble_eq_true rfl) (Nat.ne_of_beq_eq_false rfl)).trans ?_
    iterate 3 refine (up_ne (Nat.ne_of_beq_eq_false rfl)).trans ?_
    refine (de_lt (Nat.le_of_ble_eq_true rfl) (Nat.ne_of_beq_eq_false rfl)).trans ?_
    iterate 2 refine (up_ne (Nat.ne_of_beq_eq_false rfl)).trans ?_
    exact de_ge (Nat.le_of_ble_eq_true rfl)
  · iterate 11 refine (up_ne (Nat.ne_of_beq_eq_false rfl)).trans ?_
    refine (me_lt (Nat.le_of_ble_eq_true rfl)).trans ?_
    refine (up_ne (Nat.ne_of_beq_eq_false rfl)).trans ?_
    refine (me_lt (Nat.le_of_ble_eq_true rfl)).trans ?_
    iterate 9 refine (up_ne (Nat.ne_of_beq_eq_false rfl)).trans ?_
    refine (me_lt (Nat.le_of_ble_eq_true rfl)).trans ?_
    refine (up_ne (Nat.ne_of_beq_eq_false rfl)).trans ?_
    refine (me_lt (Nat.le_of_ble_eq_true rfl)).trans ?_
    iterate 5 refine (up_ne (Nat.ne_of_beq_eq_false rfl)).trans ?_
    refine (me_lt (Nat.le_of_ble_eq_true rfl)).trans ?_
    iterate 14 refine (up_ne (Nat.ne_of_beq_eq_false rfl)).trans ?_
    refine (de_lt (Nat.le_of_ble_eq_true rfl) (Nat.ne_of_beq_eq_false rfl)).trans ?_
    iterate 2 refine (up_ne (Nat.ne_of_beq_eq_false rfl)).trans ?_
    refine (de_lt (Nat.le_of_ble_eq_true rfl) (Nat.ne_of_beq_eq_false rfl)).trans ?_
    iterate 2 refine (up_ne (Nat.ne_of_beq_eq_false rfl)).trans ?_
    refine (de_lt (Nat.le_of_ble_eq_true rfl) (Nat.ne_of_beq_eq_false rfl)).trans ?_
    iterate 2 refine (up_ne (Nat.ne_of_beq_eq_false rfl)).trans ?_
    refine (de_lt (Nat.le_of_ble_eq_true rfl) (Nat.ne_of_beq_eq_false rfl)).trans ?_
    iterate 2 refine (up_ne (Nat.ne_of_beq_eq_false rfl)).trans ?_
    refine (de_lt (Nat.le_of_ble_eq_true rfl) (Nat.ne_of_beq_eq_false rfl)).trans ?_
    iterate 2 refine (up_ne (Nat.ne_of_beq_eq_false rfl)).trans ?_
    refine (de_lt (Nat.le_of_ble_eq_true rfl) (Nat.ne_of_beq_eq_false rfl)).trans ?_
    iterate 2 refine (up_ne (Nat.ne_of_beq_eq_false rfl)).trans ?_
    refine (de_lt (Nat.le_of_ble_eq_true rfl) (Nat.ne_of_beq_eq_false rfl)).trans ?_
    iterate 2 refine (up_ne (Nat.ne_of_beq_eq_false rfl)).trans ?_
    refine (de_lt (Nat.le_of_ble_eq_true rfl) (Nat.ne_of_beq_eq_false rfl)).trans ?_
    iterate 3 refine (up_ne (Nat.ne_of_beq_eq_false rfl)).trans ?_
    exact de_obj (Nat.le_of_ble_eq_true rfl)
  · iterate 11 refine (up_ne (Nat.ne_of_beq_eq_false rfl)).trans ?_
    refine (me_lt (Nat.le_of_ble_eq_true rfl)).trans ?_
    refine (up_ne (Nat.ne_of_beq_eq_false rfl)).trans ?_
    refine (me_lt (Nat.le_of_ble_eq_true rfl)).trans ?_
    iterate 9 refine (up_ne (Nat.ne_of_beq_eq_false rfl)).trans ?_
    refine (me_lt (Nat.le_of_ble_eq_true rfl)).trans ?_
    refine (up_ne (Nat.ne_of_beq_eq_false rfl)).trans ?_
    refine (me_lt (Nat.le_of_ble_eq_true rfl)).trans ?_
    iterate 5 refine (up_ne (Nat.ne_of_beq_eq_false rfl)).trans ?_
    refine (me_lt (Nat.le_of_ble_eq_true rfl)).trans ?_
    iterate 14 refine (up_ne (Nat.ne_of_beq_eq_false rfl)).trans ?_
    refine (de_lt (Nat.le_of_ble_eq_true rfl) (Nat.ne_of_beq_eq_false rfl)).trans ?_
    iterate 2 refine (up_ne (Nat.ne_of_beq_eq_false rfl)).trans ?_
    refine (de_lt (Nat.le_of_ble_eq_true rfl) (Nat.ne_of_beq_eq_false rfl)).trans ?_
    iterate 2 refine (up_ne (Nat.ne_of_beq_eq_false rfl)).trans ?_
    refine (de_lt (Nat.le_of_ble_eq_true rfl) (Nat.ne_of_beq_eq_false rfl)).trans ?_
    iterate 2 refine (up_ne (Nat.ne_of_beq_eq_false rfl)).trans ?_
    refine (de_lt (Nat.le_of_ble_eq_true rfl) (Nat.ne_of_beq_eq_false rfl)).trans ?_
    iterate 2 refine (up_ne (Nat.ne_of_beq_eq_false rfl)).trans ?_
    refine (de_lt (Nat.le_of_ble_eq_true rfl) (Nat.ne_of_beq_eq_false rfl)).trans ?_
    iterate 2 refine (up_ne (Nat.ne_of_beq_eq_false rfl)).trans ?_
    refine (de_lt (Nat.le_of_ble_eq_true rfl) (Nat.ne_of_beq_eq_false rfl)).trans ?_
    iterate 2 refine (up_ne (Nat.ne_of_beq_eq_false rfl)).trans ?_
    refine (de_lt (Nat.le_of_ble_eq_true rfl) (Nat.ne_of_beq_eq_false rfl)).trans ?_
    iterate 2 refine (up_ne (Nat.ne_of_beq_eq_false rfl)).trans ?_
    refine (de_lt (Nat.le_of_ble_eq_true rfl) (Nat.ne_of_beq_eq_false rfl)).trans ?_
    iterate 3 refine (up_ne (Nat.ne_of_beq_eq_false rfl)).trans ?_
    exact de_ge (Nat.le_of_ble_eq_true rfl)
  · iterate 11 refine (up_ne (Nat.ne_of_beq_eq_false rfl)).trans ?_
    refine (me_lt (Nat.le_of_ble_eq_true rfl)).trans ?_
    refine (up_ne (Nat.ne_of_beq_eq_false rfl)).trans ?_
    refine (me_lt (Nat.le_of_ble_eq_true rfl)).trans ?_
    iterate 9 refine (up_ne (Nat.ne_of_beq_eq_false rfl)).trans ?_
    refine (me_lt (Nat.le_of_ble_eq_true rfl)).trans ?_
    refine (up_ne (Nat.ne_of_beq_eq_false rfl)).trans ?_
    refine (me_lt (Nat.le_of_ble_eq_true rfl)).trans ?_
    iterate 5 refine (up_ne (Nat.ne_of_beq_eq_false rfl)).trans ?_
    refine (me_lt (Nat.le_of_ble_eq_true rfl)).trans ?_
    iterate 14 refine (up_ne (Nat.ne_of_beq_eq_false rfl)).trans ?_
    refine (de_lt (Nat.le_of_ble_eq_true rfl) (Nat.ne_of_beq_eq_false rfl)).trans ?_
    iterate 2 refine (up_ne (Nat.ne_of_beq_eq_false rfl)).trans ?_
    refine (de_lt (Nat.le_of_ble_eq_true rfl) (Nat.ne_of_beq_eq_false rfl)).trans ?_
    iterate 2 refine (up_ne (Nat.ne_of_beq_eq_false rfl)).trans ?_
    refine (de_lt (Nat.le_of_ble_eq_true rfl) (Nat.ne_of_beq_eq_false rfl)).trans ?_
    iterate 2 refine (up_ne (Nat.ne_of_beq_eq_false rfl)).trans ?_
    refine (de_lt (Nat.le_of_ble_eq_true rfl) (Nat.ne_of_beq_eq_false rfl)).trans ?_
    iterate 2 refine (up_ne (Nat.ne_of_beq_eq_false rfl)).trans ?_
    refine (de_lt (Nat.le_of_ble_eq_true rfl) (Nat.ne_of_beq_eq_false rfl)).trans ?_
    iterate 2 refine (up_ne (Nat.ne_of_beq_eq_false rfl)).trans ?_
    refine (de_lt (Nat.le_of_ble_eq_true rfl) (Nat.ne_of_beq_eq_false rfl)).trans ?_
    iterate 2 refine (up_ne (Nat.ne_of_beq_eq_false rfl)).trans ?_
    refine (de_lt (Nat.le_of_ble_eq_true rfl) (Nat.ne_of_beq_eq_false rfl)).trans ?_
    iterate 2 refine (up_ne (Nat.ne_of_beq_eq_false rfl)).trans ?_
    refine (de_lt (Nat.le_of_ble_eq_true rfl) (Nat.ne_of_beq_eq_false rfl)).trans ?_
    iterate 3 refine (up_ne (Nat.ne_of_beq_eq_false rfl)).trans ?_
    exact de_ge (Nat.le_of_ble_eq_true rfl)
  · iterate 11 refine (up_ne (Nat.ne_of_beq_eq_false rfl)).trans ?_
    refine (me_lt (Nat.le_of_ble_eq_true rfl)).trans ?_
    refine (up_ne (Nat.ne_of_beq_eq_false rfl)).trans ?_
    refine (me_lt (Nat.le_of_ble_eq_true rfl)).trans ?_
    iterate 9 refine (up_ne (Nat.ne_of_beq_eq_false rfl)).trans ?_
    refine (me_lt (Nat.le_of_ble_eq_true rfl)).trans ?_
    refine (up_ne (Nat.ne_of_beq_eq_false rfl)).trans ?_
    refine (me_lt (Nat.le_of_ble_eq_true rfl)).trans ?_
    iterate 5 refine (up_ne (Nat.ne_of_beq_eq_false rfl)).trans ?_
    refine (me_lt (Nat.le_of_ble_eq_true rfl)).trans ?_
    iterate 14 refine (up_ne (Nat.ne_of_beq_eq_false rfl)).trans ?_
    refine (de_lt (Nat.le_of_ble_eq_true rfl) (Nat.ne_of_beq_eq_false rfl)).trans ?_
    iterate 2 refine (up_ne (Nat.ne_of_beq_eq_false rfl)).trans ?_
    refine (de_lt (Nat.le_of_ble_eq_true rfl) (Nat.ne_of_beq_eq_false rfl)).trans ?_
    iterate 2 refine (up_ne (Nat.ne_of_beq_eq_false rfl)).trans ?_
    refine (de_lt (Nat.le_of_ble_eq_true rfl) (Nat.ne_of_beq_eq_false rfl)).trans ?_
    iterate 2 refine (up_ne (Nat.ne_of_beq_eq_false rfl)).trans ?_
    refine (de_lt (Nat.le_of_ble_eq_true rfl) (Nat.ne_of_beq_eq_false rfl)).trans ?_
    iterate 2 refine (up_ne (Nat.ne_of_beq_eq_false rfl)).trans ?_
    refine (de_lt (Nat.le_of_ble_eq_true rfl) (Nat.ne_of_beq_eq_false rfl)).trans ?_
    iterate 2 refine (up_ne (Nat.ne_of_beq_eq_false rfl)).trans ?_
    refine (de_lt (Nat.le_of_ble_eq_true rfl) (Nat.ne_of_beq_eq_false rfl)).trans ?_
    iterate 2 refine (up_ne (Nat.ne_of_beq_eq_false rfl)).trans ?_
    refine (de_lt (Nat.le_of_ble_eq_true rfl) (Nat.ne_of_beq_eq_false rfl)).trans ?_
    iterate 2 refine (up_ne (Nat.ne_of_beq_eq_false rfl)).trans ?_
    refine (de_lt (Nat.le_of_ble_eq_true rfl) (Nat.ne_of_beq_eq_false rfl)).trans ?_
    iterate 3 refine (up_ne (Nat.ne_of_beq_eq_false rfl)).trans ?_
    exact de_ge (Nat.le_of_ble_eq_true rfl)
  · iterate 11 refine (up_ne (Nat.ne_of_beq_eq_false rfl)).trans ?_
    refine (me_lt (Nat.le_of_ble_eq_true rfl)).trans ?_
    refine (up_ne (Nat.ne_of_beq_eq_false rfl)).trans ?_
    refine (me_lt (Nat.le_of_ble_eq_true rfl)).trans ?_
    iterate 9 refine (up_ne (Nat.ne_of_beq_eq_false rfl)).trans ?_
    refine (me_lt (Nat.le_of_ble_eq_true rfl)).trans ?_
    refine (up_ne (Nat.ne_of_beq_eq_false rfl)).trans ?_
    refine (me_lt (Nat.le_of_ble_eq_true rfl)).trans ?_
    iterate 5 refine (up_ne (Nat.ne_of_beq_eq_false rfl)).trans ?_
    refine (me_lt (Nat.le_of_ble_eq_true rfl)).trans ?_
    iterate 14 refine (up_ne (Nat.ne_of_beq_eq_false rfl)).trans ?_
    refine (de_lt (Nat.le_of_ble_eq_true rfl) (Nat.ne_of_beq_eq_false rfl)).trans ?_
    iterate 2 refine (up_ne (Nat.ne_of_beq_eq_false rfl)).trans ?_
    refine (de_lt (Nat.le_of_ble_eq_true rfl) (Nat.ne_of_beq_eq_false rfl)).trans ?_
    iterate 2 refine (up_ne (Nat.ne_of_beq_eq_false rfl)).trans ?_
    refine (de_lt (Nat.le_of_ble_eq_true rfl) (Nat.ne_of_beq_eq_false rfl)).trans ?_
    iterate 2 refine (up_ne (Nat.ne_of_beq_eq_false rfl)).trans ?_
    refine (de_lt (Nat.le_of_ble_eq_true rfl) (Nat.ne_of_beq_eq_false rfl)).trans ?_
    iterate 2 refine (up_ne (Nat.ne_of_beq_eq_false rfl)).trans ?_
    refine (de_lt (Nat.le_of_ble_eq_true rfl) (Nat.ne_of_beq_eq_false rfl)).trans ?_
    iterate 2 refine (up_ne (Nat.ne_of_beq_eq_false rfl)).trans ?_
    refine (de_lt (Nat.le_of_ble_eq_true rfl) (Nat.ne_of_beq_eq_false rfl)).trans ?_
    iterate 2 refine (up_ne (Nat.ne_of_beq_eq_false rfl)).trans ?_
    refine (de_lt (Nat.le_of_ble_eq_true rfl) (Nat.ne_of_beq_eq_false rfl)).trans ?_
    iterate 2 refine (up_ne (Nat.ne_of_beq_eq_false rfl)).trans ?_
    refine (de_lt (Nat.le_of_ble_eq_true rfl) (Nat.ne_of_beq_eq_false rfl)).trans ?_
    iterate 3 refine (up_ne (Nat.ne_of_beq_eq_false rfl)).trans ?_
    exact de_ge (Nat.le_of_ble_eq_true rfl)
  · iterate 11 refine (up_ne (Nat.ne_of_beq_eq_false rfl)).trans ?_
    refine (me_lt (Nat.le_of_ble_eq_true rfl)).trans ?_
    refine (up_ne (Nat.ne_of_beq_eq_false rfl)).trans ?_
    refine (me_lt (Nat.le_of_ble_eq_true rfl)).trans ?_
    iterate 9 refine (up_ne (Nat.ne_of_beq_eq_false rfl)).trans ?_
    refine (me_lt (Nat.le_of_ble_eq_true rfl)).trans ?_
    refine (up_ne (Nat.ne_of_beq_eq_false rfl)).trans ?_
    refine (me_lt (Nat.le_of_ble_eq_true rfl)).trans ?_
    iterate 5 refine (up_ne (Nat.ne_of_beq_eq_false rfl)).trans ?_
    refine (me_lt (Nat.le_of_ble_eq_true rfl)).trans ?_
    iterate 14 refine (up_ne (Nat.ne_of_beq_eq_false rfl)).trans ?_
    refine (de_lt (Nat.le_of_ble_eq_true rfl) (Nat.ne_of_beq_eq_false rfl)).trans ?_
    iterate 2 refine (up_ne (Nat.ne_of_beq_eq_false rfl)).trans ?_
    refine (de_lt (Nat.le_of_ble_eq_true rfl) (Nat.ne_of_beq_eq_false rfl)).trans ?_
    iterate 2 refine (up_ne (Nat.ne_of_beq_eq_false rfl)).trans ?_
    refine (de_lt (Nat.le_of_ble_eq_true rfl) (Nat.ne_of_beq_eq_false rfl)).trans ?_
    iterate 2 refine (up_ne (Nat.ne_of_beq_eq_false rfl)).trans ?_
    refine (de_lt (Nat.le_of_ble_eq_true rfl) (Nat.ne_of_beq_eq_false rfl)).trans ?_
    iterate 2 refine (up_ne (Nat.ne_of_beq_eq_false rfl)).trans ?_
    refine (de_lt (Nat.le_of_ble_eq_true rfl) (Nat.ne_of_beq_eq_false rfl)).trans ?_
    iterate 2 refine (up_ne (Nat.ne_of_beq_eq_false rfl)).trans ?_
    refine (de_lt (Nat.le_of_ble_eq_true rfl) (Nat.ne_of_beq_eq_false rfl)).trans ?_
    iterate 2 refine (up_ne (Nat.ne_of_beq_eq_false rfl)).trans ?_
    refine (de_lt (Nat.le_of_ble_eq_true rfl) (Nat.ne_of_beq_eq_false rfl)).trans ?_
    iterate 2 refine (up_ne (Nat.ne_of_beq_eq_false rfl)).trans ?_
    refine (de_lt (Nat.le_of_ble_eq_true rfl) (Nat.ne_of_beq_eq_false rfl)).trans ?_
    iterate 3 refine (up_ne (Nat.ne_of_beq_eq_false rfl)).trans ?_
    exact de_ge (Nat.le_of_ble_eq_true rfl)
  · iterate 11 refine (up_ne (Nat.ne_of_beq_eq_false rfl)).trans ?_
    refine (me_lt (Nat.le_of_ble_eq_true rfl)).trans ?_
    refine (up_ne (Nat.ne_of_beq_eq_false rfl)).trans ?_
    refine (me_lt (Nat.le_of_ble_eq_true rfl)).trans ?_
    iterate 9 refine (up_ne (Nat.ne_of_beq_eq_false rfl)).trans ?_
    refine (me_lt (Nat.le_of_ble_eq_true rfl)).trans ?_
    refine (up_ne (Nat.ne_of_beq_eq_false rfl)).trans ?_
    refine (me_lt (Nat.le_of_ble_eq_true rfl)).trans ?_
    iterate 5 refine (up_ne (Nat.ne_of_beq_eq_false rfl)).trans ?_
    refine (me_lt (Nat.le_of_ble_eq_true rfl)).trans ?_
    iterate 14 refine (up_ne (Nat.ne_of_beq_eq_false rfl)).trans ?_
    refine (de_lt (Nat.le_of_ble_eq_true rfl) (Nat.ne_of_beq_eq_false rfl)).trans ?_
    iterate 2 refine (up_ne (Nat.ne_of_beq_eq_false rfl)).trans ?_
    refine (de_lt (Nat.le_of_ble_eq_true rfl) (Nat.ne_of_beq_eq_false rfl)).trans ?_
    iterate 2 refine (up_ne (Nat.ne_of_beq_eq_false rfl)).trans ?_
    refine (de_lt (Nat.le_of_ble_eq_true rfl) (Nat.ne_of_beq_eq_false rfl)).trans ?_
    iterate 2 refine (up_ne (Nat.ne_of_beq_eq_false rfl)).trans ?_
    refine (de_lt (Nat.le_of_ble_eq_true rfl) (Nat.ne_of_beq_eq_false rfl)).trans ?_
    iterate 2 refine (up_ne (Nat.ne_of_beq_eq_false rfl)).trans ?_
    refine (de_lt (Nat.le_of_ble_eq_true rfl) (Nat.ne_of_beq_eq_false rfl)).trans ?_
    iterate 2 refine (up_ne (Nat.ne_of_beq_eq_false rfl)).trans ?_
    refine (de_lt (Nat.le_of_ble_eq_true rfl) (Nat.ne_of_beq_eq_false rfl)).trans ?_
    iterate 2 refine (up_ne (Nat.ne_of_beq_eq_false rfl)).trans ?_
    refine (de_lt (Nat.le_of_ble_eq_true rfl) (Nat.ne_of_beq_eq_false rfl)).trans ?_
    iterate 2 refine (up_ne (Nat.ne_of_beq_eq_false rfl)).trans ?_
    refine (de_lt (Nat.le_of_ble_eq_true rfl) (Nat.ne_of_beq_eq_false rfl)).trans ?_
    iterate 3 refine (up_ne (Nat.ne_of_beq_eq_false rfl)).trans ?_
    exact de_ge (Nat.le_of_ble_eq_true rfl)
  · iterate 11 refine (up_ne (Nat.ne_of_beq_eq_false rfl)).trans ?_
    refine (me_lt (Nat.le_of_ble_eq_true rfl)).trans ?_
    refine (up_ne (Nat.ne_of_beq_eq_false rfl)).trans ?_
    refine (me_lt (Nat.le_of_ble_eq_true rfl)).trans ?_
    iterate 9 refine (up_ne (Nat.ne_of_beq_eq_false rfl)).trans ?_
    refine (me_lt (Nat.le_of_ble_eq_true rfl)).trans ?_
    refine (up_ne (Nat.ne_of_beq_eq_false rfl)).trans ?_
    refine (me_lt (Nat.le_of_ble_eq_true rfl)).trans ?_
    iterate 5 refine (up_ne (Nat.ne_of_beq_eq_false rfl)).trans ?_
    refine (me_lt (Nat.le_of_ble_eq_true rfl)).trans ?_
    iterate 14 refine (up_ne (Nat.ne_of_beq_eq_false rfl)).trans ?_
    refine (de_lt (Nat.le_of_ble_eq_true rfl) (Nat.ne_of_beq_eq_false rfl)).trans ?_
    iterate 2 refine (up_ne (Nat.ne_of_beq_eq_false rfl)).trans ?_
    refine (de_lt (Nat.le_of_ble_eq_true rfl) (Nat.ne_of_beq_eq_false rfl)).trans ?_
    iterate 2 refine (up_ne (Nat.ne_of_beq_eq_false rfl)).trans ?_
    refine (de_lt (Nat.le_of_ble_eq_true rfl) (Nat.ne_of_beq_eq_false rfl)).trans ?_
    iterate 2 refine (up_ne (Nat.ne_of_beq_eq_false rfl)).trans ?_
    refine (de_lt (Nat.le_of_ble_eq_true rfl) (Nat.ne_of_beq_eq_false rfl)).trans ?_
    iterate 2 refine (up_ne (Nat.ne_of_beq_eq_false rfl)).trans ?_
    refine (de_lt (Nat.le_of_ble_eq_true rfl) (Nat.ne_of_beq_eq_false rfl)).trans ?_
    iterate 2 refine (up_ne (Nat.ne_of_beq_eq_false rfl)).trans ?_
    refine (de_lt (Nat.le_of_ble_eq_true rfl) (Nat.ne_of_beq_eq_false rfl)).trans ?_
    iterate 2 refine (up_ne (Nat.ne_of_beq_eq_false rfl)).trans ?_
    refine (de_lt (Nat.le_of_ble_eq_true rfl) (Nat.ne_of_beq_eq_false rfl)).trans ?_
    iterate 2 refine (up_ne (Nat.ne_of_beq_eq_false rfl)).trans ?_
    refine (de_lt (Nat.le_of_ble_eq_true rfl) (Nat.ne_of_beq_eq_false rfl)).trans ?_
    iterate 3 refine (up_ne (Nat.ne_of_beq_eq_false rfl)).trans ?_
    exact de_ge (Nat.le_of_ble_eq_true rfl)
  · iterate 11 refine (up_ne (Nat.ne_of_beq_eq_false rfl)).trans ?_
    refine (me_lt (Nat.le_of_ble_eq_true rfl)).trans ?_
    refine (up_ne (Nat.ne_of_beq_eq_false rfl)).trans ?_
    refine (me_lt (Nat.le_of_ble_eq_true rfl)).trans ?_
    iterate 9 refine (up_ne (Nat.ne_of_beq_eq_false rfl)).trans ?_
    refine (me_lt (Nat.le_of_ble_eq_true rfl)).trans ?_
    refine (up_ne (Nat.ne_of_beq_eq_false rfl)).trans ?_
    refine (me_lt (Nat.le_of_ble_eq_true rfl)).trans ?_
    iterate 5 refine (up_ne (Nat.ne_of_beq_eq_false rfl)).trans ?_
    refine (me_lt (Nat.le_of_ble_eq_true rfl)).trans ?_
    iterate 14 refine (up_ne (Nat.ne_of_beq_eq_false rfl)).trans ?_
    refine (de_lt (Nat.le_of_ble_eq_true rfl) (Nat.ne_of_beq_eq_false rfl)).trans ?_
    iterate 2 refine (up_ne (Nat.ne_of_beq_eq_false rfl)).trans ?_
    refine (de_lt (Nat.le_of_ble_eq_true rfl) (Nat.ne_of_beq_eq_false rfl)).trans ?_
    iterate 2 refine (up_ne (Nat.ne_of_beq_eq_false rfl)).trans ?_
    refine (de_lt (Nat.le_of_ble_eq_true rfl) (Nat.ne_of_beq_eq_false rfl)).trans ?_
    iterate 2 refine (up_ne (Nat.ne_of_beq_eq_false rfl)).trans ?_
    refine (de_lt (Nat.le_of_ble_eq_true rfl) (Nat.ne_of_beq_eq_false rfl)).trans ?_
    iterate 2 refine (up_ne (Nat.ne_of_beq_eq_false rfl)).trans ?_
    refine (de_lt (Nat.le_of_ble_eq_true rfl) (Nat.ne_of_beq_eq_false rfl)).trans ?_
    iterate 2 refine (up_ne (Nat.ne_of_beq_eq_false rfl)).trans ?_
    refine (de_lt (Nat.le_of_ble_eq_true rfl) (Nat.ne_of_beq_eq_false rfl)).trans ?_
    iterate 2 refine (up_ne (Nat.ne_of_beq_eq_false rfl)).trans ?_
    refine (de_lt (Nat.le_of_ble_eq_true rfl) (Nat.ne_of_beq_eq_false rfl)).trans ?_
    iterate 2 refine (up_ne (Nat.ne_of_beq_eq_false rfl)).trans ?_
    exact de_obj (Nat.le_of_ble_eq_true rfl)
  · iterate 11 refine (up_ne (Nat.ne_of_beq_eq_false rfl)).trans ?_
    refine (me_lt (Nat.le_of_ble_eq_true rfl)).trans ?_
    refine (up_ne (Nat.ne_of_beq_eq_false rfl)).trans ?_
    refine (me_lt (Nat.le_of_ble_eq_true rfl)).trans ?_
    iterate 9 refine (up_ne (Nat.ne_of_beq_eq_false rfl)).trans ?_
    refine (me_lt (Nat.le_of_ble_eq_true rfl)).trans ?_
    refine (up_ne (Nat.ne_of_beq_eq_false rfl)).trans ?_
    refine (me_lt (Nat.le_of_ble_eq_true rfl)).trans ?_
    iterate 5 refine (up_ne (Nat.ne_of_beq_eq_false rfl)).trans ?_
    refine (me_lt (Nat.le_of_ble_eq_true rfl)).trans ?_
    iterate 14 refine (up_ne (Nat.ne_of_beq_eq_false rfl)).trans ?_
    refine (de_lt (Nat.le_of_ble_eq_true rfl) (Nat.ne_of_beq_eq_false rfl)).trans ?_
    iterate 2 refine (up_ne (Nat.ne_of_beq_eq_false rfl)).trans ?_
    refine (de_lt (Nat.le_of_ble_eq_true rfl) (Nat.ne_of_beq_eq_false rfl)).trans ?_
    iterate 2 refine (up_ne (Nat.ne_of_beq_eq_false rfl)).trans ?_
    refine (de_lt (Nat.le_of_ble_eq_true rfl) (Nat.ne_of_beq_eq_false rfl)).trans ?_
    iterate 2 refine (up_ne (Nat.ne_of_beq_eq_false rfl)).trans ?_
    refine (de_lt (Nat.le_of_ble_eq_true rfl) (Nat.ne_of_beq_eq_false rfl)).trans ?_
    iterate 2 refine (up_ne (Nat.ne_of_beq_eq_false rfl)).trans ?_
    refine (de_lt (Nat.le_of_ble_eq_true rfl) (Nat.ne_of_beq_eq_false rfl)).trans ?_
    iterate 2 refine (up_ne (Nat.ne_of_beq_eq_false rfl)).trans ?_
    refine (de_lt (Nat.le_of_ble_eq_true rfl) (Nat.ne_of_beq_eq_false rfl)).trans ?_
    iterate 2 refine (up_ne (Nat.ne_of_beq_eq_false rfl)).trans ?_
    refine (de_lt (Nat.le_of_ble_eq_true rfl) (Nat.ne_of_beq_eq_false rfl)).trans ?_
    iterate 2 refine (up_ne (Nat.ne_of_beq_eq_false rfl)).trans ?_
    exact de_ge (Nat.le_of_ble_eq_true rfl)
  · iterate 11 refine (up_ne (Nat.ne_of_beq_eq_false rfl)).trans ?_
    refine (me_lt (Nat.le_of_ble_eq_true rfl)).trans ?_
    refine (up_ne (Nat.ne_of_beq_eq_false rfl)).trans ?_
    refine (me_lt (Nat.le_of_ble_eq_true rfl)).trans ?_
    iterate 9 refine (up_ne (Nat.ne_of_beq_eq_false rfl)).trans ?_
    refine (me_lt (Nat.le_of_ble_eq_true rfl)).trans ?_
    refine (up_ne (Nat.ne_of_beq_eq_false rfl)).trans ?_
    refine (me_lt (Nat.le_of_ble_eq_true rfl)).trans ?_
    iterate 5 refine (up_ne (Nat.ne_of_beq_eq_false rfl)).trans ?_
    refine (me_lt (Nat.le_of_ble_eq_true rfl)).trans ?_
    iterate 14 refine (up_ne (Nat.ne_of_beq_eq_false rfl)).trans ?_
    refine (de_lt (Nat.le_of_ble_eq_true rfl) (Nat.ne_of_beq_eq_false rfl)).trans ?_
    iterate 2 refine (up_ne (Nat.ne_of_beq_eq_false rfl)).trans ?_
    refine (de_lt (Nat.le_of_ble_eq_true rfl) (Nat.ne_of_beq_eq_false rfl)).trans ?_
    iterate 2 refine (up_ne (Nat.ne_of_beq_eq_false rfl)).trans ?_
    refine (de_lt (Nat.le_of_ble_eq_true rfl) (Nat.ne_of_beq_eq_false rfl)).trans ?_
    iterate 2 refine (up_ne (Nat.ne_of_beq_eq_false rfl)).trans ?_
    refine (de_lt (Nat.le_of_ble_eq_true rfl) (Nat.ne_of_beq_eq_false rfl)).trans ?_
    iterate 2 refine (up_ne (Nat.ne_of_beq_eq_false rfl)).trans ?_
    refine (de_lt (Nat.le_of_ble_eq_true rfl) (Nat.ne_of_beq_eq_false rfl)).trans ?_
    iterate 2 refine (up_ne (Nat.ne_of_beq_eq_false rfl)).trans ?_
    refine (de_lt (Nat.le_of_ble_eq_true rfl) (Nat.ne_of_beq_eq_false rfl)).trans ?_
    iterate 2 refine (up_ne (Nat.ne_of_beq_eq_false rfl)).trans ?_
    refine (de_lt (Nat.le_of_ble_eq_true rfl) (Nat.ne_of_beq_eq_false rfl)).trans ?_
    iterate 2 refine (up_ne (Nat.ne_of_beq_eq_false rfl)).trans ?_
    exact de_ge (Nat.le_of_ble_eq_true rfl)
  · iterate 11 refine (up_ne (Nat.ne_of_beq_eq_false rfl)).trans ?_
    refine (me_lt (Nat.le_of_ble_eq_true rfl)).trans ?_
    refine (up_ne (Nat.ne_of_beq_eq_false rfl)).trans ?_
    refine (me_lt (Nat.le_of_ble_eq_true rfl)).trans ?_
    iterate 9 refine (up_ne (Nat.ne_of_beq_eq_false rfl)).trans ?_
    refine (me_lt (Nat.le_of_ble_eq_true rfl)).trans ?_
    refine (up_ne (Nat.ne_of_beq_eq_false rfl)).trans ?_
    refine (me_lt (Nat.le_of_ble_eq_true rfl)).trans ?_
    iterate 5 refine (up_ne (Nat.ne_of_beq_eq_false rfl)).trans ?_
    refine (me_lt (Nat.le_of_ble_eq_true rfl)).trans ?_
    iterate 14 refine (up_ne (Nat.ne_of_beq_eq_false rfl)).trans ?_
    refine (de_lt (Nat.le_of_ble_eq_true rfl) (Nat.ne_of_beq_eq_false rfl)).trans ?_
    iterate 2 refine (up_ne (Nat.ne_of_beq_eq_false rfl)).trans ?_
    refine (de_lt (Nat.le_of_ble_eq_true rfl) (Nat.ne_of_beq_eq_false rfl)).trans ?_
    iterate 2 refine (up_ne (Nat.ne_of_beq_eq_false rfl)).trans ?_
    refine (de_lt (Nat.le_of_ble_eq_true rfl) (Nat.ne_of_beq_eq_false rfl)).trans ?_
    iterate 2 refine (up_ne (Nat.ne_of_beq_eq_false rfl)).trans ?_
    refine (de_lt (Nat.le_of_ble_eq_true rfl) (Nat.ne_of_beq_eq_false rfl)).trans ?_
    iterate 2 refine (up_ne (Nat.ne_of_beq_eq_false rfl)).trans ?_
    refine (de_lt (Nat.le_of_ble_eq_true rfl) (Nat.ne_of_beq_eq_false rfl)).trans ?_
    iterate 2 refine (up_ne (Nat.ne_of_beq_eq_false rfl)).trans ?_
    refine (de_lt (Nat.le_of_ble_eq_true rfl) (Nat.ne_of_beq_eq_false rfl)).trans ?_
    iterate 2 refine (up_ne (Nat.ne_of_beq_eq_false rfl)).trans ?_
    refine (de_lt (Nat.le_of_ble_eq_true rfl) (Nat.ne_of_beq_eq_false rfl)).trans ?_
    iterate 2 refine (up_ne (Nat.ne_of_beq_eq_false rfl)).trans ?_
    exact de_ge (Nat.le_of_ble_eq_true rfl)
  · iterate 11 refine (up_ne (Nat.ne_of_beq_eq_false rfl)).trans ?_
    refine (me_lt (Nat.le_of_ble_eq_true rfl)).trans ?_
    refine (up_ne (Nat.ne_of_beq_eq_false rfl)).trans ?_
    refine (me_lt (Nat.le_of_ble_eq_true rfl)).trans ?_
    iterate 9 refine (up_ne (Nat.ne_of_beq_eq_false rfl)).trans ?_
    refine (me_lt (Nat.le_of_ble_eq_true rfl)).trans ?_
    refine (up_ne (Nat.ne_of_beq_eq_false rfl)).trans ?_
    refine (me_lt (Nat.le_of_ble_eq_true rfl)).trans ?_
    iterate 5 refine (up_ne (Nat.ne_of_beq_eq_false rfl)).trans ?_
    refine (me_lt (Nat.le_of_ble_eq_true rfl)).trans ?_
    iterate 14 refine (up_ne (Nat.ne_of_beq_eq_false rfl)).trans ?_
    refine (de_lt (Nat.le_of_ble_eq_true rfl) (Nat.ne_of_beq_eq_false rfl)).trans ?_
    iterate 2 refine (up_ne (Nat.ne_of_beq_eq_false rfl)).trans ?_
    refine (de_lt (Nat.le_of_ble_eq_true rfl) (Nat.ne_of_beq_eq_false rfl)).trans ?_
    iterate 2 refine (up_ne (Nat.ne_of_beq_eq_false rfl)).trans ?_
    refine (de_lt (Nat.le_of_ble_eq_true rfl) (Nat.ne_of_beq_eq_false rfl)).trans ?_
    iterate 2 refine (up_ne (Nat.ne_of_beq_eq_false rfl)).trans ?_
    refine (de_lt (Nat.le_of_ble_eq_true rfl) (Nat.ne_of_beq_eq_false rfl)).trans ?_
    iterate 2 refine (up_ne (Nat.ne_of_beq_eq_false rfl)).trans ?_
    refine (de_lt (Nat.le_of_ble_eq_true rfl) (Nat.ne_of_beq_eq_false rfl)).trans ?_
    iterate 2 refine (up_ne (Nat.ne_of_beq_eq_false rfl)).trans ?_
    refine (de_lt (Nat.le_of_ble_eq_true rfl) (Nat.ne_of_beq_eq_false rfl)).trans ?_
    iterate 2 refine (up_ne (Nat.ne_of_beq_eq_false rfl)).trans ?_
    refine (de_lt (Nat.le_of_ble_eq_true rfl) (Nat.ne_of_beq_eq_false rfl)).trans ?_
    iterate 2 refine (up_ne (Nat.ne_of_beq_eq_false rfl)).trans ?_
    exact de_ge (Nat.le_of_ble_eq_true rfl)
  · iterate 11 refine (up_ne (Nat.ne_of_beq_eq_false rfl)).trans ?_
    refine (me_lt (Nat.le_of_ble_eq_true rfl)).trans ?_
    refine (up_ne (Nat.ne_of_beq_eq_false rfl)).trans ?_
    refine (me_lt (Nat.le_of_ble_eq_true rfl)).trans ?_
    iterate 9 refine (up_ne (Nat.ne_of_beq_eq_false rfl)).trans ?_
    refine (me_lt (Nat.le_of_ble_eq_true rfl)).trans ?_
    refine (up_ne (Nat.ne_of_beq_eq_false rfl)).trans ?_
    refine (me_lt (Nat.le_of_ble_eq_true rfl)).trans ?_
    iterate 5 refine (up_ne (Nat.ne_of_beq_eq_false rfl)).trans ?_
    refine (me_lt (Nat.le_of_ble_eq_true rfl)).trans ?_
    iterate 14 refine (up_ne (Nat.ne_of_beq_eq_false rfl)).trans ?_
    refine (de_lt (Nat.le_of_ble_eq_true rfl) (Nat.ne_of_beq_eq_false rfl)).trans ?_
    iterate 2 refine (up_ne (Nat.ne_of_beq_eq_false rfl)).trans ?_
    refine (de_lt (Nat.le_of_ble_eq_true rfl) (Nat.ne_of_beq_eq_false rfl)).trans ?_
    iterate 2 refine (up_ne (Nat.ne_of_beq_eq_false rfl)).trans ?_
    refine (de_lt (Nat.le_of_ble_eq_true rfl) (Nat.ne_of_beq_eq_false rfl)).trans ?_
    iterate 2 refine (up_ne (Nat.ne_of_beq_eq_false rfl)).trans ?_
    refine (de_lt (Nat.le_of_ble_eq_true rfl) (Nat.ne_of_beq_eq_false rfl)).trans ?_
    iterate 2 refine (up_ne (Nat.ne_of_beq_eq_false rfl)).trans ?_
    refine (de_lt (Nat.le_of_ble_eq_true rfl) (Nat.ne_of_beq_eq_false rfl)).trans ?_
    iterate 2 refine (up_ne (Nat.ne_of_beq_eq_false rfl)).trans ?_
    refine (de_lt (Nat.le_of_ble_eq_true rfl) (Nat.ne_of_beq_eq_false rfl)).trans ?_
    iterate 2 refine (up_ne (Nat.ne_of_beq_eq_false rfl)).trans ?_
    refine (de_lt (Nat.le_of_ble_eq_true rfl) (Nat.ne_of_beq_eq_false rfl)).trans ?_
    iterate 2 refine (up_ne (Nat.ne_of_beq_eq_false rfl)).trans ?_
    exact de_ge (Nat.le_of_ble_eq_true rfl)
  · iterate 11 refine (up_ne (Nat.ne_of_beq_eq_false rfl)).trans ?_
    refine (me_lt (Nat.le_of_ble_eq_true rfl)).trans ?_
    refine (up_ne (Nat.ne_of_beq_eq_false rfl)).trans ?_
    refine (me_lt (Nat.le_of_ble_eq_true rfl)).trans ?_
    iterate 9 refine (up_ne (Nat.ne_of_beq_eq_false rfl)).trans ?_
    refine (me_lt (Nat.le_of_ble_eq_true rfl)).trans ?_
    refine (up_ne (Nat.ne_of_beq_eq_false rfl)).trans ?_
    refine (me_lt (Nat.le_of_ble_eq_true rfl)).trans ?_
    iterate 5 refine (up_ne (Nat.ne_of_beq_eq_false rfl)).trans ?_
    refine (me_lt (Nat.le_of_ble_eq_true rfl)).trans ?_
    iterate 14 refine (up_ne (Nat.ne_of_beq_eq_false rfl)).trans ?_
    refine (de_lt (Nat.le_of_ble_eq_true rfl) (Nat.ne_of_beq_eq_false rfl)).trans ?_
    iterate 2 refine (up_ne (Nat.ne_of_beq_eq_false rfl)).trans ?_
    refine (de_lt (Nat.le_of_ble_eq_true rfl) (Nat.ne_of_beq_eq_false rfl)).trans ?_
    iterate 2 refine (up_ne (Nat.ne_of_beq_eq_false rfl)).trans ?_
    refine (de_lt (Nat.le_of_ble_eq_true rfl) (Nat.ne_of_beq_eq_false rfl)).trans ?_
    iterate 2 refine (up_ne (Nat.ne_of_beq_eq_false rfl)).trans ?_
    refine (de_lt (Nat.le_of_ble_eq_true rfl) (Nat.ne_of_beq_eq_false rfl)).trans ?_
    iterate 2 refine (up_ne (Nat.ne_of_beq_eq_false rfl)).trans ?_
    refine (de_lt (Nat.le_of_ble_eq_true rfl) (Nat.ne_of_beq_eq_false rfl)).trans ?_
    iterate 2 refine (up_ne (Nat.ne_of_beq_eq_false rfl)).trans ?_
    refine (de_lt (Nat.le_of_ble_eq_true rfl) (Nat.ne_of_beq_eq_false rfl)).trans ?_
    iterate 2 refine (up_ne (Nat.ne_of_beq_eq_false rfl)).trans ?_
    refine (de_lt (Nat.le_of_ble_eq_true rfl) (Nat.ne_of_beq_eq_false rfl)).trans ?_
    iterate 2 refine (up_ne (Nat.ne_of_beq_eq_false rfl)).trans ?_
    exact de_ge (Nat.le_of_ble_eq_true rfl)
  · iterate 11 refine (up_ne (Nat.ne_of_beq_eq_false rfl)).trans ?_
    refine (me_lt (Nat.le_of_ble_eq_true rfl)).trans ?_
    refine (up_ne (Nat.ne_of_beq_eq_false rfl)).trans ?_
    refine (me_lt (Nat.le_of_ble_eq_true rfl)).trans ?_
    iterate 9 refine (up_ne (Nat.ne_of_beq_eq_false rfl)).trans ?_
    refine (me_lt (Nat.le_of_ble_eq_true rfl)).trans ?_
    refine (up_ne (Nat.ne_of_beq_eq_false rfl)).trans ?_
    refine (me_lt (Nat.le_of_ble_eq_true rfl)).trans ?_
    iterate 5 refine (up_ne (Nat.ne_of_beq_eq_false rfl)).trans ?_
    refine (me_lt (Nat.le_of_ble_eq_true rfl)).trans ?_
    iterate 14 refine (up_ne (Nat.ne_of_beq_eq_false rfl)).trans ?_
    refine (de_lt (Nat.le_of_ble_eq_true rfl) (Nat.ne_of_beq_eq_false rfl)).trans ?_
    iterate 2 refine (up_ne (Nat.ne_of_beq_eq_false rfl)).trans ?_
    refine (de_lt (Nat.le_of_ble_eq_true rfl) (Nat.ne_of_beq_eq_false rfl)).trans ?_
    iterate 2 refine (up_ne (Nat.ne_of_beq_eq_false rfl)).trans ?_
    refine (de_lt (Nat.le_of_ble_eq_true rfl) (Nat.ne_of_beq_eq_false rfl)).trans ?_
    iterate 2 refine (up_ne (Nat.ne_of_beq_eq_false rfl)).trans ?_
    refine (de_lt (Nat.le_of_ble_eq_true rfl) (Nat.ne_of_beq_eq_false rfl)).trans ?_
    iterate 2 refine (up_ne (Nat.ne_of_beq_eq_false rfl)).trans ?_
    refine (de_lt (Nat.le_of_ble_eq_true rfl) (Nat.ne_of_beq_eq_false rfl)).trans ?_
    iterate 2 refine (up_ne (Nat.ne_of_beq_eq_false rfl)).trans ?_
    refine (de_lt (Nat.le_of_ble_eq_true rfl) (Nat.ne_of_beq_eq_false rfl)).trans ?_
    iterate 2 refine (up_ne (Nat.ne_of_beq_eq_false rfl)).trans ?_
    refine (de_lt (Nat.le_of_ble_eq_true rfl) (Nat.ne_of_beq_eq_false rfl)).trans ?_
    iterate 2 refine (up_ne (Nat.ne_of_beq_eq_false rfl)).trans ?_
    exact de_ge (Nat.le_of_ble_eq_true rfl)
  · iterate 11 refine (up_ne (Nat.ne_of_beq_eq_false rfl)).trans ?_
    refine (me_lt (Nat.le_of_ble_eq_true rfl)).trans ?_
    refine (up_ne (Nat.ne_of_beq_eq_false rfl)).trans ?_
    refine (me_lt (Nat.le_of_ble_eq_true rfl)).trans ?_
    iterate 9 refine (up_ne (Nat.ne_of_beq_eq_false rfl)).trans ?_
    refine (me_lt (Nat.le_of_ble_eq_true rfl)).trans ?_
    refine (up_ne (Nat.ne_of_beq_eq_false rfl)).trans ?_
    refine (me_lt (Nat.le_of_ble_eq_true rfl)).trans ?_
    iterate 5 refine (up_ne (Nat.ne_of_beq_eq_false rfl)).trans ?_
    refine (me_lt (Nat.le_of_ble_eq_true rfl)).trans ?_
    iterate 14 refine (up_ne (Nat.ne_of_beq_eq_false rfl)).trans ?_
    refine (de_lt (Nat.le_of_ble_eq_true rfl) (Nat.ne_of_beq_eq_false rfl)).trans ?_
    iterate 2 refine (up_ne (Nat.ne_of_beq_eq_false rfl)).trans ?_
    refine (de_lt (Nat.le_of_ble_eq_true rfl) (Nat.ne_of_beq_eq_false rfl)).trans ?_
    iterate 2 refine (up_ne (Nat.ne_of_beq_eq_false rfl)).trans ?_
    refine (de_lt (Nat.le_of_ble_eq_true rfl) (Nat.ne_of_beq_eq_false rfl)).trans ?_
    iterate 2 refine (up_ne (Nat.ne_of_beq_eq_false rfl)).trans ?_
    refine (de_lt (Nat.le_of_ble_eq_true rfl) (Nat.ne_of_beq_eq_false rfl)).trans ?_
    iterate 2 refine (up_ne (Nat.ne_of_beq_eq_false rfl)).trans ?_
    refine (de_lt (Nat.le_of_ble_eq_true rfl) (Nat.ne_of_beq_eq_false rfl)).trans ?_
    iterate 2 refine (up_ne (Nat.ne_of_beq_eq_false rfl)).trans ?_
    refine (de_lt (Nat.le_of_ble_eq_true rfl) (Nat.ne_of_beq_eq_false rfl)).trans ?_
    iterate 2 refine (up_ne (Nat.ne_of_beq_eq_false rfl)).trans ?_
    exact de_obj (Nat.le_of_ble_eq_true rfl)
  · iterate 11 refine (up_ne (Nat.ne_of_beq_eq_false rfl)).trans ?_
    refine (me_lt (Nat.le_of_ble_eq_true rfl)).trans ?_
    refine (up_ne (Nat.ne_of_beq_eq_false rfl)).trans ?_
    refine (me_lt (Nat.le_of_ble_eq_true rfl)).trans ?_
    iterate 9 refine (up_ne (Nat.ne_of_beq_eq_false rfl)).trans ?_
    refine (me_lt (Nat.le_of_ble_eq_true rfl)).trans ?_
    refine (up_ne (Nat.ne_of_beq_eq_false rfl)).trans ?_
    refine (me_lt (Nat.le_of_ble_eq_true rfl)).trans ?_
    iterate 5 refine (up_ne (Nat.ne_of_beq_eq_false rfl)).trans ?_
    refine (me_lt (Nat.le_of_ble_eq_true rfl)).trans ?_
    iterate 14 refine (up_ne (Nat.ne_of_beq_eq_false rfl)).trans ?_
    refine (de_lt (Nat.le_of_ble_eq_true rfl) (Nat.ne_of_beq_eq_false rfl)).trans ?_
    iterate 2 refine (up_ne (Nat.ne_of_beq_eq_false rfl)).trans ?_
    refine (de_lt (Nat.le_of_ble_eq_true rfl) (Nat.ne_of_beq_eq_false rfl)).trans ?_
    iterate 2 refine (up_ne (Nat.ne_of_beq_eq_false rfl)).trans ?_
    refine (de_lt (Nat.le_of_ble_eq_true rfl) (Nat.ne_of_beq_eq_false rfl)).trans ?_
    iterate 2 refine (up_ne (Nat.ne_of_beq_eq_false rfl)).trans ?_
    refine (de_lt (Nat.le_of_ble_eq_true rfl) (Nat.ne_of_beq_eq_false rfl)).trans ?_
    iterate 2 refine (up_ne (Nat.ne_of_beq_eq_false rfl)).trans ?_
    refine (de_lt (Nat.le_of_ble_eq_true rfl) (Nat.ne_of_beq_eq_false rfl)).trans ?_
    iterate 2 refine (up_ne (Nat.ne_of_beq_eq_false rfl)).trans ?_
    refine (de_lt (Nat.le_of_ble_eq_true rfl) (Nat.ne_of_beq_eq_false rfl)).trans ?_
    iterate 2 refine (up_ne (Nat.ne_of_beq_eq_false rfl)).trans ?_
    exact de_ge (Nat.le_of_ble_eq_true rfl)
  · iterate 11 refine (up_ne (Nat.ne_of_beq_eq_false rfl)).trans ?_
    refine (me_lt (Nat.le_of_ble_eq_true rfl)).trans ?_
    refine (up_ne (Nat.ne_of_beq_eq_false rfl)).trans ?_
    refine (me_lt (Nat.le_of_ble_eq_true rfl)).trans ?_
    iterate 9 refine (up_ne (Nat.ne_of_beq_eq_false rfl)).trans ?_
    refine (me_lt (Nat.le_of_ble_eq_true rfl)).trans ?_
    refine (up_ne (Nat.ne_of_beq_eq_false rfl)).trans ?_
    refine (me_lt (Nat.le_of_ble_eq_true rfl)).trans ?_
    iterate 5 refine (up_ne (Nat.ne_of_beq_eq_false rfl)).trans ?_
    refine (me_lt (Nat.le_of_ble_eq_true rfl)).trans ?_
    iterate 14 refine (up_ne (Nat.ne_of_beq_eq_false rfl)).trans ?_
    refine (de_lt (Nat.le_of_ble_eq_true rfl) (Nat.ne_of_beq_eq_false rfl)).trans ?_
    iterate 2 refine (up_ne (Nat.ne_of_beq_eq_false rfl)).trans ?_
    refine (de_lt (Nat.le_of_ble_eq_true rfl) (Nat.ne_of_beq_eq_false rfl)).trans ?_
    iterate 2 refine (up_ne (Nat.ne_of_beq_eq_false rfl)).trans ?_
    refine (de_lt (Nat.le_of_ble_eq_true rfl) (Nat.ne_of_beq_eq_false rfl)).trans ?_
    iterate 2 refine (up_ne (Nat.ne_of_beq_eq_false rfl)).trans ?_
    refine (de_lt (Nat.le_of_ble_eq_true rfl) (Nat.ne_of_beq_eq_false rfl)).trans ?_
    iterate 2 refine (up_ne (Nat.ne_of_beq_eq_false rfl)).trans ?_
    refine (de_lt (Nat.le_of_ble_eq_true rfl) (Nat.ne_of_beq_eq_false rfl)).trans ?_
    iterate 2 refine (up_ne (Nat.ne_of_beq_eq_false rfl)).trans ?_
    refine (de_lt (Nat.le_of_ble_eq_true rfl) (Nat.ne_of_beq_eq_false rfl)).trans ?_
    iterate 2 refine (up_ne (Nat.ne_of_beq_eq_false rfl)).trans ?_
    exact de_ge (Nat.le_of_ble_eq_true rfl)
  · iterate 11 refine (up_ne (Nat.ne_of_beq_eq_false rfl)).trans ?_
    refine (me_lt (Nat.le_of_ble_eq_true rfl)).trans ?_
    refine (up_ne (Nat.ne_of_beq_eq_false rfl)).trans ?_
    refine (me_lt (Nat.le_of_ble_eq_true rfl)).trans ?_
    iterate 9 refine (up_ne (Nat.ne_of_beq_eq_false rfl)).trans ?_
    refine (me_lt (Nat.le_of_ble_eq_true rfl)).trans ?_
    refine (up_ne (Nat.ne_of_beq_eq_false rfl)).trans ?_
    refine (me_lt (Nat.le_of_ble_eq_true rfl)).trans ?_
    iterate 5 refine (up_ne (Nat.ne_of_beq_eq_false rfl)).trans ?_
    refine (me_lt (Nat.le_of_ble_eq_true rfl)).trans ?_
    iterate 14 refine (up_ne (Nat.ne_of_beq_eq_false rfl)).trans ?_
    refine (de_lt (Nat.le_of_ble_eq_true rfl) (Nat.ne_of_beq_eq_false rfl)).trans ?_
    iterate 2 refine (up_ne (Nat.ne_of_beq_eq_false rfl)).trans ?_
    refine (de_lt (Nat.le_of_ble_eq_true rfl) (Nat.ne_of_beq_eq_false rfl)).trans ?_
    iterate 2 refine (up_ne (Nat.ne_of_beq_eq_false rfl)).trans ?_
    refine (de_lt (Nat.le_of_ble_eq_true rfl) (Nat.ne_of_beq_eq_false rfl)).trans ?_
    iterate 2 refine (up_ne (Nat.ne_of_beq_eq_false rfl)).trans ?_
    refine (de_lt (Nat.le_of_ble_eq_true rfl) (Nat.ne_of_beq_eq_false rfl)).trans ?_
    iterate 2 refine (up_ne (Nat.ne_of_beq_eq_false rfl)).trans ?_
    refine (de_lt (Nat.le_of_ble_eq_true rfl) (Nat.ne_of_beq_eq_false rfl)).trans ?_
    iterate 2 refine (up_ne (Nat.ne_of_beq_eq_false rfl)).trans ?_
    refine (de_lt (Nat.le_of_ble_eq_true rfl) (Nat.ne_of_beq_eq_false rfl)).trans ?_
    iterate 2 refine (up_ne (Nat.ne_of_beq_eq_false rfl)).trans ?_
    exact de_ge (Nat.le_of_ble_eq_true rfl)
  · iterate 11 refine (up_ne (Nat.ne_of_beq_eq_false rfl)).trans ?_
    refine (me_lt (Nat.le_of_ble_eq_true rfl)).trans ?_
    refine (up_ne (Nat.ne_of_beq_eq_false rfl)).trans ?_
    refine (me_lt (Nat.le_of_ble_eq_true rfl)).trans ?_
    iterate 9 refine (up_ne (Nat.ne_of_beq_eq_false rfl)).trans ?_
    refine (me_lt (Nat.le_of_ble_eq_true rfl)).trans ?_
    refine (up_ne (Nat.ne_of_beq_eq_false rfl)).trans ?_
    refine (me_lt (Nat.le_of_ble_eq_true rfl)).trans ?_
    iterate 5 refine (up_ne (Nat.ne_of_beq_eq_false rfl)).trans ?_
    refine (me_lt (Nat.le_of_ble_eq_true rfl)).trans ?_
    iterate 14 refine (up_ne (Nat.ne_of_beq_eq_false rfl)).trans ?_
    refine (de_lt (Nat.le_of_ble_eq_true rfl) (Nat.ne_of_beq_eq_false rfl)).trans ?_
    iterate 2 refine (up_ne (Nat.ne_of_beq_eq_false rfl)).trans ?_
    refine (de_lt (Nat.le_of_ble_eq_true rfl) (Nat.ne_of_beq_eq_false rfl)).trans ?_
    iterate 2 refine (up_ne (Nat.ne_of_beq_eq_false rfl)).trans ?_
    refine (de_lt (Nat.le_of_ble_eq_true rfl) (Nat.ne_of_beq_eq_false rfl)).trans ?_
    iterate 2 refine (up_ne (Nat.ne_of_beq_eq_false rfl)).trans ?_
    refine (de_lt (Nat.le_of_ble_eq_true rfl) (Nat.ne_of_beq_eq_false rfl)).trans ?_
    iterate 2 refine (up_ne (Nat.ne_of_beq_eq_false rfl)).trans ?_
    refine (de_lt (Nat.le_of_ble_eq_true rfl) (Nat.ne_of_beq_eq_false rfl)).trans ?_
    iterate 2 refine (up_ne (Nat.ne_of_beq_eq_false rfl)).trans ?_
    refine (de_lt (Nat.le_of_ble_eq_true rfl) (Nat.ne_of_beq_eq_false rfl)).trans ?_
    iterate 2 refine (up_ne (Nat.ne_of_beq_eq_false rfl)).trans ?_
    exact de_ge (Nat.le_of_ble_eq_true rfl)
  · iterate 11 refine (up_ne (Nat.ne_of_beq_eq_false rfl)).trans ?_
    refine (me_lt (Nat.le_of_ble_eq_true rfl)).trans ?_
    refine (up_ne (Nat.ne_of_beq_eq_false rfl)).trans ?_
    refine (me_lt (Nat.le_of_ble_eq_true rfl)).trans ?_
    iterate 9 refine (up_ne (Nat.ne_of_beq_eq_false rfl)).trans ?_
    refine (me_lt (Nat.le_of_ble_eq_true rfl)).trans ?_
    refine (up_ne (Nat.ne_of_beq_eq_false rfl)).trans ?_
    refine (me_lt (Nat.le_of_ble_eq_true rfl)).trans ?_
    iterate 5 refine (up_ne (Nat.ne_of_beq_eq_false rfl)).trans ?_
    refine (me_lt (Nat.le_of_ble_eq_true rfl)).trans ?_
    iterate 14 refine (up_ne (Nat.ne_of_beq_eq_false rfl)).trans ?_
    refine (de_lt (Nat.le_of_ble_eq_true rfl) (Nat.ne_of_beq_eq_false rfl)).trans ?_
    iterate 2 refine (up_ne (Nat.ne_of_beq_eq_false rfl)).trans ?_
    refine (de_lt (Nat.le_of_ble_eq_true rfl) (Nat.ne_of_beq_eq_false rfl)).trans ?_
    iterate 2 refine (up_ne (Nat.ne_of_beq_eq_false rfl)).trans ?_
    refine (de_lt (Nat.le_of_ble_eq_true rfl) (Nat.ne_of_beq_eq_false rfl)).trans ?_
    iterate 2 refine (up_ne (Nat.ne_of_beq_eq_false rfl)).trans ?_
    refine (de_lt (Nat.le_of_ble_eq_true rfl) (Nat.ne_of_beq_eq_false rfl)).trans ?_
    iterate 2 refine (up_ne (Nat.ne_of_beq_eq_false rfl)).trans ?_
    refine (de_lt (Nat.le_of_ble_eq_true rfl) (Nat.ne_of_beq_eq_false rfl)).trans ?_
    iterate 2 refine (up_ne (Nat.ne_of_beq_eq_false rfl)).trans ?_
    refine (de_lt (Nat.le_of_ble_eq_true rfl) (Nat.ne_of_beq_eq_false rfl)).trans ?_
    iterate 2 refine (up_ne (Nat.ne_of_beq_eq_false rfl)).trans ?_
    exact de_ge (Nat.le_of_ble_eq_true rfl)
  · iterate 11 refine (up_ne (Nat.ne_of_beq_eq_false rfl)).trans ?_
    refine (me_lt (Nat.le_of_ble_eq_true rfl)).trans ?_
    refine (up_ne (Nat.ne_of_beq_eq_false rfl)).trans ?_
    refine (me_lt (Nat.le_of_ble_eq_true rfl)).trans ?_
    iterate 9 refine (up_ne (Nat.ne_of_beq_eq_false rfl)).trans ?_
    refine (me_lt (Nat.le_of_ble_eq_true rfl)).trans ?_
    refine (up_ne (Nat.ne_of_beq_eq_false rfl)).trans ?_
    refine (me_lt (Nat.le_of_ble_eq_true rfl)).trans ?_
    iterate 5 refine (up_ne (Nat.ne_of_beq_eq_false rfl)).trans ?_
    refine (me_lt (Nat.le_of_ble_eq_true rfl)).trans ?_
    iterate 14 refine (up_ne (Nat.ne_of_beq_eq_false rfl)).trans ?_
    refine (de_lt (Nat.le_of_ble_eq_true rfl) (Nat.ne_of_beq_eq_false rfl)).trans ?_
    iterate 2 refine (up_ne (Nat.ne_of_beq_eq_false rfl)).trans ?_
    refine (de_lt (Nat.le_of_ble_eq_true rfl) (Nat.ne_of_beq_eq_false rfl)).trans ?_
    iterate 2 refine (up_ne (Nat.ne_of_beq_eq_false rfl)).trans ?_
    refine (de_lt (Nat.le_of_ble_eq_true rfl) (Nat.ne_of_beq_eq_false rfl)).trans ?_
    iterate 2 refine (up_ne (Nat.ne_of_beq_eq_false rfl)).trans ?_
    refine (de_lt (Nat.le_of_ble_eq_true rfl) (Nat.ne_of_beq_eq_false rfl)).trans ?_
    iterate 2 refine (up_ne (Nat.ne_of_beq_eq_false rfl)).trans ?_
    refine (de_lt (Nat.le_of_ble_eq_true rfl) (Nat.ne_of_beq_eq_false rfl)).trans ?_
    iterate 2 refine (up_ne (Nat.ne_of_beq_eq_false rfl)).trans ?_
    refine (de_lt (Nat.le_of_ble_eq_true rfl) (Nat.ne_of_beq_eq_false rfl)).trans ?_
    iterate 2 refine (up_ne (Nat.ne_of_beq_eq_false rfl)).trans ?_
    exact de_ge (Nat.le_of_ble_eq_true rfl)
  · iterate 11 refine (up_ne (Nat.ne_of_beq_eq_false rfl)).trans ?_
    refine (me_lt (Nat.le_of_ble_eq_true rfl)).trans ?_
    refine (up_ne (Nat.ne_of_beq_eq_false rfl)).trans ?_
    refine (me_lt (Nat.le_of_ble_eq_true rfl)).trans ?_
    iterate 9 refine (up_ne (Nat.ne_of_beq_eq_false rfl)).trans ?_
    refine (me_lt (Nat.le_of_ble_eq_true rfl)).trans ?_
    refine (up_ne (Nat.ne_of_beq_eq_false rfl)).trans ?_
    refine (me_lt (Nat.le_of_ble_eq_true rfl)).trans ?_
    iterate 5 refine (up_ne (Nat.ne_of_beq_eq_false rfl)).trans ?_
    refine (me_lt (Nat.le_of_ble_eq_true rfl)).trans ?_
    iterate 14 refine (up_ne (Nat.ne_of_beq_eq_false rfl)).trans ?_
    refine (de_lt (Nat.le_of_ble_eq_true rfl) (Nat.ne_of_beq_eq_false rfl)).trans ?_
    iterate 2 refine (up_ne (Nat.ne_of_beq_eq_false rfl)).trans ?_
    refine (de_lt (Nat.le_of_ble_eq_true rfl) (Nat.ne_of_beq_eq_false rfl)).trans ?_
    iterate 2 refine (up_ne (Nat.ne_of_beq_eq_false rfl)).trans ?_
    refine (de_lt (Nat.le_of_ble_eq_true rfl) (Nat.ne_of_beq_eq_false rfl)).trans ?_
    iterate 2 refine (up_ne (Nat.ne_of_beq_eq_false rfl)).trans ?_
    refine (de_lt (Nat.le_of_ble_eq_true rfl) (Nat.ne_of_beq_eq_false rfl)).trans ?_
    iterate 2 refine (up_ne (Nat.ne_of_beq_eq_false rfl)).trans ?_
    refine (de_lt (Nat.le_of_ble_eq_true rfl) (Nat.ne_of_beq_eq_false rfl)).trans ?_
    iterate 2 refine (up_ne (Nat.ne_of_beq_eq_false rfl)).trans ?_
    refine (de_lt (Nat.le_of_ble_eq_true rfl) (Nat.ne_of_beq_eq_false rfl)).trans ?_
    iterate 2 refine (up_ne (Nat.ne_of_beq_eq_false rfl)).trans ?_
    exact de_ge (Nat.le_of_ble_eq_true rfl)
  · iterate 11 refine (up_ne (Nat.ne_of_beq_eq_false rfl)).trans ?_
    refine (me_lt (Nat.le_of_ble_eq_true rfl)).trans ?_
    refine (up_ne (Nat.ne_of_beq_eq_false rfl)).trans ?_
    refine (me_lt (Nat.le_of_ble_eq_true rfl)).trans ?_
    iterate 9 refine (up_ne (Nat.ne_of_beq_eq_false rfl)).trans ?_
    refine (me_lt (Nat.le_of_ble_eq_true rfl)).trans ?_
    refine (up_ne (Nat.ne_of_beq_eq_false rfl)).trans ?_
    refine (me_lt (Nat.le_of_ble_eq_true rfl)).trans ?_
    iterate 5 refine (up_ne (Nat.ne_of_beq_eq_false rfl)).trans ?_
    refine (me_lt (Nat.le_of_ble_eq_true rfl)).trans ?_
    iterate 14 refine (up_ne (Nat.ne_of_beq_eq_false rfl)).trans ?_
    refine (de_lt (Nat.le_of_ble_eq_true rfl) (Nat.ne_of_beq_eq_false rfl)).trans ?_
    iterate 2 refine (up_ne (Nat.ne_of_beq_eq_false rfl)).trans ?_
    refine (de_lt (Nat.le_of_ble_eq_true rfl) (Nat.ne_of_beq_eq_false rfl)).trans ?_
    iterate 2 refine (up_ne (Nat.ne_of_beq_eq_false rfl)).trans ?_
    refine (de_lt (Nat.le_of_ble_eq_true rfl) (Nat.ne_of_beq_eq_false rfl)).trans ?_
    iterate 2 refine (up_ne (Nat.ne_of_beq_eq_false rfl)).trans ?_
    refine (de_lt (Nat.le_of_ble_eq_true rfl) (Nat.ne_of_beq_eq_false rfl)).trans ?_
    iterate 2 refine (up_ne (Nat.ne_of_beq_eq_false rfl)).trans ?_
    refine (de_lt (Nat.le_of_ble_eq_true rfl) (Nat.ne_of_beq_eq_false rfl)).trans ?_
    iterate 2 refine (up_ne (Nat.ne_of_beq_eq_false rfl)).trans ?_
    exact de_obj (Nat.le_of_ble_eq_true rfl)
  · iterate 11 refine (up_ne (Nat.ne_of_beq_eq_false rfl)).trans ?_
    refine (me_lt (Nat.le_of_ble_eq_true rfl)).trans ?_
    refine (up_ne (Nat.ne_of_beq_eq_false rfl)).trans ?_
    refine (me_lt (Nat.le_of_ble_eq_true rfl)).trans ?_
    iterate 9 refine (up_ne (Nat.ne_of_beq_eq_false rfl)).trans ?_
    refine (me_lt (Nat.le_of_ble_eq_true rfl)).trans ?_
    refine (up_ne (Nat.ne_of_beq_eq_false rfl)).trans ?_
    refine (me_lt (Nat.le_of_ble_eq_true rfl)).trans ?_
    iterate 5 refine (up_ne (Nat.ne_of_beq_eq_false rfl)).trans ?_
    refine (me_lt (Nat.le_of_ble_eq_true rfl)).trans ?_
    iterate 14 refine (up_ne (Nat.ne_of_beq_eq_false rfl)).trans ?_
    refine (de_lt (Nat.le_of_ble_eq_true rfl) (Nat.ne_of_beq_eq_false rfl)).trans ?_
    iterate 2 refine (up_ne (Nat.ne_of_beq_eq_false rfl)).trans ?_
    refine (de_lt (Nat.le_of_ble_eq_true rfl) (Nat.ne_of_beq_eq_false rfl)).trans ?_
    iterate 2 refine (up_ne (Nat.ne_of_beq_eq_false rfl)).trans ?_
    refine (de_lt (Nat.le_of_ble_eq_true rfl) (Nat.ne_of_beq_eq_false rfl)).trans ?_
    iterate 2 refine (up_ne (Nat.ne_of_beq_eq_false rfl)).trans ?_
    refine (de_lt (Nat.le_of_ble_eq_true rfl) (Nat.ne_of_beq_eq_false rfl)).trans ?_
    iterate 2 refine (up_ne (Nat.ne_of_beq_eq_false rfl)).trans ?_
    refine (de_lt (Nat.le_of_ble_eq_true rfl) (Nat.ne_of_beq_eq_false rfl)).trans ?_
    iterate 2 refine (up_ne (Nat.ne_of_beq_eq_false rfl)).trans ?_
    exact de_ge (Nat.le_of_ble_eq_true rfl)
  · iterate 11 refine (up_ne (Nat.ne_of_beq_eq_false rfl)).trans ?_
    refine (me_lt (Nat.le_of_ble_eq_true rfl)).trans ?_
    refine (up_ne (Nat.ne_of_beq_eq_false rfl)).trans ?_
    refine (me_lt (Nat.le_of_ble_eq_true rfl)).trans ?_
    iterate 9 refine (up_ne (Nat.ne_of_beq_eq_false rfl)).trans ?_
    refine (me_lt (Nat.le_of_ble_eq_true rfl)).trans ?_
    refine (up_ne (Nat.ne_of_beq_eq_false rfl)).trans ?_
    refine (me_lt (Nat.le_of_ble_eq_true rfl)).trans ?_
    iterate 5 refine (up_ne (Nat.ne_of_beq_eq_false rfl)).trans ?_
    refine (me_lt (Nat.le_of_ble_eq_true rfl)).trans ?_
    iterate 14 refine (up_ne (Nat.ne_of_beq_eq_false rfl)).trans ?_
    refine (de_lt (Nat.le_of_ble_eq_true rfl) (Nat.ne_of_beq_eq_false rfl)).trans ?_
    iterate 2 refine (up_ne (Nat.ne_of_beq_eq_false rfl)).trans ?_
    refine (de_lt (Nat.le_of_ble_eq_true rfl) (Nat.ne_of_beq_eq_false rfl)).trans ?_
    iterate 2 refine (up_ne (Nat.ne_of_beq_eq_false rfl)).trans ?_
    refine (de_lt (Nat.le_of_ble_eq_true rfl) (Nat.ne_of_beq_eq_false rfl)).trans ?_
    iterate 2 refine (up_ne (Nat.ne_of_beq_eq_false rfl)).trans ?_
    refine (de_lt (Nat.le_of_ble_eq_true rfl) (Nat.ne_of_beq_eq_false rfl)).trans ?_
    iterate 2 refine (up_ne (Nat.ne_of_beq_eq_false rfl)).trans ?_
    refine (de_lt (Nat.le_of_ble_eq_true rfl) (Nat.ne_of_beq_eq_false rfl)).trans ?_
    iterate 2 refine (up_ne (Nat.ne_of_beq_eq_false rfl)).trans ?_
    exact de_ge (Nat.le_of_ble_eq_true rfl)
  · iterate 11 refine (up_ne (Nat.ne_of_beq_eq_false rfl)).trans ?_
    refine (me_lt (Nat.le_of_ble_eq_true rfl)).trans ?_
    refine (up_ne (Nat.ne_of_beq_eq_false rfl)).trans ?_
    refine (me_lt (Nat.le_of_ble_eq_true rfl)).trans ?_
    iterate 9 refine (up_ne (Nat.ne_of_beq_eq_false rfl)).trans ?_
    refine (me_lt (Nat.le_of_ble_eq_true rfl)).trans ?_
    refine (up_ne (Nat.ne_of_beq_eq_false rfl)).trans ?_
    refine (me_lt (Nat.le_of_ble_eq_true rfl)).trans ?_
    iterate 5 refine (up_ne (Nat.ne_of_beq_eq_false rfl)).trans ?_
    refine (me_lt (Nat.le_of_ble_eq_true rfl)).trans ?_
    iterate 14 refine (up_ne (Nat.ne_of_beq_eq_false rfl)).trans ?_
    refine (de_lt (Nat.le_of_ble_eq_true rfl) (Nat.ne_of_beq_eq_false rfl)).trans ?_
    iterate 2 refine (up_ne (Nat.ne_of_beq_eq_false rfl)).trans ?_
    refine (de_lt (Nat.le_of_ble_eq_true rfl) (Nat.ne_of_beq_eq_false rfl)).trans ?_
    iterate 2 refine (up_ne (Nat.ne_of_beq_eq_false rfl)).trans ?_
    refine (de_lt (Nat.le_of_ble_eq_true rfl) (Nat.ne_of_beq_eq_false rfl)).trans ?_
    iterate 2 refine (up_ne (Nat.ne_of_beq_eq_false rfl)).trans ?_
    refine (de_lt (Nat.le_of_ble_eq_true rfl) (Nat.ne_of_beq_eq_false rfl)).trans ?_
    iterate 2 refine (up_ne (Nat.ne_of_beq_eq_false rfl)).trans ?_
    refine (de_lt (Nat.le_of_ble_eq_true rfl) (Nat.ne_of_beq_eq_false rfl)).trans ?_
    iterate 2 refine (up_ne (Nat.ne_of_beq_eq_false rfl)).trans ?_
    exact de_ge (Nat.le_of_ble_eq_true rfl)
  · iterate 11 refine (up_ne (Nat.ne_of_beq_eq_false rfl)).trans ?_
    refine (me_lt (Nat.le_of_ble_eq_true rfl)).trans ?_
    refine (up_ne (Nat.ne_of_beq_eq_false rfl)).trans ?_
    refine (me_lt (Nat.le_of_ble_eq_true rfl)).trans ?_
    iterate 9 refine (up_ne (Nat.ne_of_beq_eq_false rfl)).trans ?_
    refine (me_lt (Nat.le_of_ble_eq_true rfl)).trans ?_
    refine (up_ne (Nat.ne_of_beq_eq_false rfl)).trans ?_
    refine (me_lt (Nat.le_of_ble_eq_true rfl)).trans ?_
    iterate 5 refine (up_ne (Nat.ne_of_beq_eq_false rfl)).trans ?_
    refine (me_lt (Nat.le_of_ble_eq_true rfl)).trans ?_
    iterate 14 refine (up_ne (Nat.ne_of_beq_eq_false rfl)).trans ?_
    refine (de_lt (Nat.le_of_ble_eq_true rfl) (Nat.ne_of_beq_eq_false rfl)).trans ?_
    iterate 2 refine (up_ne (Nat.ne_of_beq_eq_false rfl)).trans ?_
    refine (de_lt (Nat.le_of_ble_eq_true rfl) (Nat.ne_of_beq_eq_false rfl)).trans ?_
    iterate 2 refine (up_ne (Nat.ne_of_beq_eq_false rfl)).trans ?_
    refine (de_lt (Nat.le_of_ble_eq_true rfl) (Nat.ne_of_beq_eq_false rfl)).trans ?_
    iterate 2 refine (up_ne (Nat.ne_of_beq_eq_false rfl)).trans ?_
    refine (de_lt (Nat.le_of_ble_eq_true rfl) (Nat.ne_of_beq_eq_false rfl)).trans ?_
    iterate 2 refine (up_ne (Nat.ne_of_beq_eq_false rfl)).trans ?_
    refine (de_lt (Nat.le_of_ble_eq_true rfl) (Nat.ne_of_beq_eq_false rfl)).trans ?_
    iterate 2 refine (up_ne (Nat.ne_of_beq_eq_false rfl)).trans ?_
    exact de_ge (Nat.le_of_ble_eq_true rfl)
  · iterate 11 refine (up_ne (Nat.ne_of_beq_eq_false rfl)).trans ?_
    refine (me_lt (Nat.le_of_ble_eq_true rfl)).trans ?_
    refine (up_ne (Nat.ne_of_beq_eq_false rfl)).trans ?_
    refine (me_lt (Nat.le_of_ble_eq_true rfl)).trans ?_
    iterate 9 refine (up_ne (Nat.ne_of_beq_eq_false rfl)).trans ?_
    refine (me_lt (Nat.le_of_ble_eq_true rfl)).trans ?_
    refine (up_ne (Nat.ne_of_beq_eq_false rfl)).trans ?_
    refine (me_lt (Nat.le_of_ble_eq_true rfl)).trans ?_
    iterate 5 refine (up_ne (Nat.ne_of_beq_eq_false rfl)).trans ?_
    refine (me_lt (Nat.le_of_ble_eq_true rfl)).trans ?_
    iterate 14 refine (up_ne (Nat.ne_of_beq_eq_false rfl)).trans ?_
    refine (de_lt (Nat.le_of_ble_eq_true rfl) (Nat.ne_of_beq_eq_false rfl)).trans ?_
    iterate 2 refine (up_ne (Nat.ne_of_beq_eq_false rfl)).trans ?_
    refine (de_lt (Nat.le_of_ble_eq_true rfl) (Nat.ne_of_beq_eq_false rfl)).trans ?_
    iterate 2 refine (up_ne (Nat.ne_of_beq_eq_false rfl)).trans ?_
    refine (de_lt (Nat.le_of_ble_eq_true rfl) (Nat.ne_of_beq_eq_false rfl)).trans ?_
    iterate 2 refine (up_ne (Nat.ne_of_beq_eq_false rfl)).trans ?_
    refine (de_lt (Nat.le_of_ble_eq_true rfl) (Nat.ne_of_beq_eq_false rfl)).trans ?_
    iterate 2 refine (up_ne (Nat.ne_of_beq_eq_false rfl)).trans ?_
    refine (de_lt (Nat.le_of_ble_eq_true rfl) (Nat.ne_of_beq_eq_false rfl)).trans ?_
    iterate 2 refine (up_ne (Nat.ne_of_beq_eq_false rfl)).trans ?_
    exact de_ge (Nat.le_of_ble_eq_true rfl)
  · iterate 11 refine (up_ne (Nat.ne_of_beq_eq_false rfl)).trans ?_
    refine (me_lt (Nat.le_of_ble_eq_true rfl)).trans ?_
    refine (up_ne (Nat.ne_of_beq_eq_false rfl)).trans ?_
    refine (me_lt (Nat.le_of_ble_eq_true rfl)).trans ?_
    iterate 9 refine (up_ne (Nat.ne_of_beq_eq_false rfl)).trans ?_
    refine (me_lt (Nat.le_of_ble_eq_true rfl)).trans ?_
    refine (up_ne (Nat.ne_of_beq_eq_false rfl)).trans ?_
    refine (me_lt (Nat.le_of_ble_eq_true rfl)).trans ?_
    iterate 5 refine (up_ne (Nat.ne_of_beq_eq_false rfl)).trans ?_
    refine (me_lt (Nat.le_of_ble_eq_true rfl)).trans ?_
    iterate 14 refine (up_ne (Nat.ne_of_beq_eq_false rfl)).trans ?_
    refine (de_lt (Nat.le_of_ble_eq_true rfl) (Nat.ne_of_beq_eq_false rfl)).trans ?_
    iterate 2 refine (up_ne (Nat.ne_of_beq_eq_false rfl)).trans ?_
    refine (de_lt (Nat.le_of_ble_eq_true rfl) (Nat.ne_of_beq_eq_false rfl)).trans ?_
    iterate 2 refine (up_ne (Nat.ne_of_beq_eq_false rfl)).trans ?_
    refine (de_lt (Nat.le_of_ble_eq_true rfl) (Nat.ne_of_beq_eq_false rfl)).trans ?_
    iterate 2 refine (up_ne (Nat.ne_of_beq_eq_false rfl)).trans ?_
    refine (de_lt (Nat.le_of_ble_eq_true rfl) (Nat.ne_of_beq_eq_false rfl)).trans ?_
    iterate 2 refine (up_ne (Nat.ne_of_beq_eq_false rfl)).trans ?_
    refine (de_lt (Nat.le_of_ble_eq_true rfl) (Nat.ne_of_beq_eq_false rfl)).trans ?_
    iterate 2 refine (up_ne (Nat.ne_of_beq_eq_false rfl)).trans ?_
    exact de_ge (Nat.le_of_ble_eq_true rfl)
  · iterate 11 refine (up_ne (Nat.ne_of_beq_eq_false rfl)).trans ?_
    refine (me_lt (Nat.le_of_ble_eq_true rfl)).trans ?_
    refine (up_ne (Nat.ne_of_beq_eq_false rfl)).trans ?_
    refine (me_lt (Nat.le_of_ble_eq_true rfl)).trans ?_
    iterate 9 refine (up_ne (Nat.ne_of_beq_eq_false rfl)).trans ?_
    refine (me_lt (Nat.le_of_ble_eq_true rfl)).trans ?_
    refine (up_ne (Nat.ne_of_beq_eq_false rfl)).trans ?_
    refine (me_lt (Nat.le_of_ble_eq_true rfl)).trans ?_
    iterate 5 refine (up_ne (Nat.ne_of_beq_eq_false rfl)).trans ?_
    refine (me_lt (Nat.le_of_ble_eq_true rfl)).trans ?_
    iterate 14 refine (up_ne (Nat.ne_of_beq_eq_false rfl)).trans ?_
    refine (de_lt (Nat.le_of_ble_eq_true rfl) (Nat.ne_of_beq_eq_false rfl)).trans ?_
    iterate 2 refine (up_ne (Nat.ne_of_beq_eq_false rfl)).trans ?_
    refine (de_lt (Nat.le_of_ble_eq_true rfl) (Nat.ne_of_beq_eq_false rfl)).trans ?_
    iterate 2 refine (up_ne (Nat.ne_of_beq_eq_false rfl)).trans ?_
    refine (de_lt (Nat.le_of_ble_eq_true rfl) (Nat.ne_of_beq_eq_false rfl)).trans ?_
    iterate 2 refine (up_ne (Nat.ne_of_beq_eq_false rfl)).trans ?_
    refine (de_lt (Nat.le_of_ble_eq_true rfl) (Nat.ne_of_beq_eq_false rfl)).trans ?_
    iterate 2 refine (up_ne (Nat.ne_of_beq_eq_false rfl)).trans ?_
    refine (de_lt (Nat.le_of_ble_eq_true rfl) (Nat.ne_of_beq_eq_false rfl)).trans ?_
    iterate 2 refine (up_ne (Nat.ne_of_beq_eq_false rfl)).trans ?_
    exact de_ge (Nat.le_of_ble_eq_true rfl)
  · iterate 11 refine (up_ne (Nat.ne_of_beq_eq_false rfl)).trans ?_
    refine (me_lt (Nat.le_of_ble_eq_true rfl)).trans ?_
    refine (up_ne (Nat.ne_of_beq_eq_false rfl)).trans ?_
    refine (me_lt (Nat.le_of_ble_eq_true rfl)).trans ?_
    iterate 9 refine (up_ne (Nat.ne_of_beq_eq_false rfl)).trans ?_
    refine (me_lt (Nat.le_of_ble_eq_true rfl)).trans ?_
    refine (up_ne (Nat.ne_of_beq_eq_false rfl)).trans ?_
    refine (me_lt (Nat.le_of_ble_eq_true rfl)).trans ?_
    iterate 5 refine (up_ne (Nat.ne_of_beq_eq_false rfl)).trans ?_
    refine (me_lt (Nat.le_of_ble_eq_true rfl)).trans ?_
    iterate 14 refine (up_ne (Nat.ne_of_beq_eq_false rfl)).trans ?_
    refine (de_lt (Nat.le_of_ble_eq_true rfl) (Nat.ne_of_beq_eq_false rfl)).trans ?_
    iterate 2 refine (up_ne (Nat.ne_of_beq_eq_false rfl)).trans ?_
    refine (de_lt (Nat.le_of_ble_eq_true rfl) (Nat.ne_of_beq_eq_false rfl)).trans ?_
    iterate 2 refine (up_ne (Nat.ne_of_beq_eq_false rfl)).trans ?_
    refine (de_lt (Nat.le_of_ble_eq_true rfl) (Nat.ne_of_beq_eq_false rfl)).trans ?_
    iterate 2 refine (up_ne (Nat.ne_of_beq_eq_false rfl)).trans ?_
    refine (de_lt (Nat.le_of_ble_eq_true rfl) (Nat.ne_of_beq_eq_false rfl)).trans ?_
    iterate 2 refine (up_ne (Nat.ne_of_beq_eq_false rfl)).trans ?_
    exact de_obj (Nat.le_of_ble_eq_true rfl)
  · iterate 11 refine (up_ne (Nat.ne_of_beq_eq_false rfl)).trans ?_
    refine (me_lt (Nat.le_of_ble_eq_true rfl)).trans ?_
    refine (up_ne (Nat.ne_of_beq_eq_false rfl)).trans ?_
    refine (me_lt (Nat.le_of_ble_eq_true rfl)).trans ?_
    iterate 9 refine (up_ne (Nat.ne_of_beq_eq_false rfl)).trans ?_
    refine (me_lt (Nat.le_of_ble_eq_true rfl)).trans ?_
    refine (up_ne (Nat.ne_of_beq_eq_false rfl)).trans ?_
    refine (me_lt (Nat.le_of_ble_eq_true rfl)).trans ?_
    iterate 5 refine (up_ne (Nat.ne_of_beq_eq_false rfl)).trans ?_
    refine (me_lt (Nat.le_of_ble_eq_true rfl)).trans ?_
    iterate 14 refine (up_ne (Nat.ne_of_beq_eq_false rfl)).trans ?_
    refine (de_lt (Nat.le_of_ble_eq_true rfl) (Nat.ne_of_beq_eq_false rfl)).trans ?_
    iterate 2 refine (up_ne (Nat.ne_of_beq_eq_false rfl)).trans ?_
    refine (de_lt (Nat.le_of_ble_eq_true rfl) (Nat.ne_of_beq_eq_false rfl)).trans ?_
    iterate 2 refine (up_ne (Nat.ne_of_beq_eq_false rfl)).trans ?_
    refine (de_lt (Nat.le_of_ble_eq_true rfl) (Nat.ne_of_beq_eq_false rfl)).trans ?_
    iterate 2 refine (up_ne (Nat.ne_of_beq_eq_false rfl)).trans ?_
    refine (de_lt (Nat.le_of_ble_eq_true rfl) (Nat.ne_of_beq_eq_false rfl)).trans ?_
    iterate 2 refine (up_ne (Nat.ne_of_beq_eq_false rfl)).trans ?_
    exact de_ge (Nat.le_of_ble_eq_true rfl)
  · iterate 11 refine (up_ne (Nat.ne_of_beq_eq_false rfl)).trans ?_
    refine (me_lt (Nat.le_of_ble_eq_true rfl)).trans ?_
    refine (up_ne (Nat.ne_of_beq_eq_false rfl)).trans ?_
    refine (me_lt (Nat.le_of_ble_eq_true rfl)).trans ?_
    iterate 9 refine (up_ne (Nat.ne_of_beq_eq_false rfl)).trans ?_
    refine (me_lt (Nat.le_of_ble_eq_true rfl)).trans ?_
    refine (up_ne (Nat.ne_of_beq_eq_false rfl)).trans ?_
    refine (me_lt (Nat.le_of_ble_eq_true rfl)).trans ?_
    iterate 5 refine (up_ne (Nat.ne_of_beq_eq_false rfl)).trans ?_
    refine (me_lt (Nat.le_of_ble_eq_true rfl)).trans ?_
    iterate 14 refine (up_ne (Nat.ne_of_beq_eq_false rfl)).trans ?_
    refine (de_lt (Nat.le_of_ble_eq_true rfl) (Nat.ne_of_beq_eq_false rfl)).trans ?_
    iterate 2 refine (up_ne (Nat.ne_of_beq_eq_false rfl)).trans ?_
    refine (de_lt (Nat.le_of_ble_eq_true rfl) (Nat.ne_of_beq_eq_false rfl)).trans ?_
    iterate 2 refine (up_ne (Nat.ne_of_beq_eq_false rfl)).trans ?_
    refine (de_lt (Nat.le_of_ble_eq_true rfl) (Nat.ne_of_beq_eq_false rfl)).trans ?_
    iterate 2 refine (up_ne (Nat.ne_of_beq_eq_false rfl)).trans ?_
    refine (de_lt (Nat.le_of_ble_eq_true rfl) (Nat.ne_of_beq_eq_false rfl)).trans ?_
    iterate 2 refine (up_ne (Nat.ne_of_beq_eq_false rfl)).trans ?_
    exact de_ge (Nat.le_of_ble_eq_true rfl)
  · iterate 11 refine (up_ne (Nat.ne_of_beq_eq_false rfl)).trans ?_
    refine (me_lt (Nat.le_of_ble_eq_true rfl)).trans ?_
    refine (up_ne (Nat.ne_of_beq_eq_false rfl)).trans ?_
    refine (me_lt (Nat.le_of_ble_eq_true rfl)).trans ?_
    iterate 9 refine (up_ne (Nat.ne_of_beq_eq_false rfl)).trans ?_
    refine (me_lt (Nat.le_of_ble_eq_true rfl)).trans ?_
    refine (up_ne (Nat.ne_of_beq_eq_false rfl)).trans ?_
    refine (me_lt (Nat.le_of_ble_eq_true rfl)).trans ?_
    iterate 5 refine (up_ne (Nat.ne_of_beq_eq_false rfl)).trans ?_
    refine (me_lt (Nat.le_of_ble_eq_true rfl)).trans ?_
    iterate 14 refine (up_ne (Nat.ne_of_beq_eq_false rfl)).trans ?_
    refine (de_lt (Nat.le_of_ble_eq_true rfl) (Nat.ne_of_beq_eq_false rfl)).trans ?_
    iterate 2 refine (up_ne (Nat.ne_of_beq_eq_false rfl)).trans ?_
    refine (de_lt (Nat.le_of_ble_eq_true rfl) (Nat.ne_of_beq_eq_false rfl)).trans ?_
    iterate 2 refine (up_ne (Nat.ne_of_beq_eq_false rfl)).trans ?_
    refine (de_lt (Nat.le_of_ble_eq_true rfl) (Nat.ne_of_beq_eq_false rfl)).trans ?_
    iterate 2 refine (up_ne (Nat.ne_of_beq_eq_false rfl)).trans ?_
    refine (de_lt (Nat.le_of_ble_eq_true rfl) (Nat.ne_of_beq_eq_false rfl)).trans ?_
    iterate 2 refine (up_ne (Nat.ne_of_beq_eq_false rfl)).trans ?_
    exact de_ge (Nat.le_of_ble_eq_true rfl)
  · iterate 11 refine (up_ne (Nat.ne_of_beq_eq_false rfl)).trans ?_
    refine (me_lt (Nat.le_of_ble_eq_true rfl)).trans ?_
    refine (up_ne (Nat.ne_of_beq_eq_false rfl)).trans ?_
    refine (me_lt (Nat.le_of_ble_eq_true rfl)).trans ?_
    iterate 9 refine (up_ne (Nat.ne_of_beq_eq_false rfl)).trans ?_
    refine (me_lt (Nat.le_of_ble_eq_true rfl)).trans ?_
    refine (up_ne (Nat.ne_of_beq_eq_false rfl)).trans ?_
    refine (me_lt (Nat.le_of_ble_eq_true rfl)).trans ?_
    iterate 5 refine (up_ne (Nat.ne_of_beq_eq_false rfl)).trans ?_
    refine (me_lt (Nat.le_of_ble_eq_true rfl)).trans ?_
    iterate 14 refine (up_ne (Nat.ne_of_beq_eq_false rfl)).trans ?_
    refine (de_lt (Nat.le_of_ble_eq_true rfl) (Nat.ne_of_beq_eq_false rfl)).trans ?_
    iterate 2 refine (up_ne (Nat.ne_of_beq_eq_false rfl)).trans ?_
    refine (de_lt (Nat.le_of_ble_eq_true rfl) (Nat.ne_of_beq_eq_false rfl)).trans ?_
    iterate 2 refine (up_ne (Nat.ne_of_beq_eq_false rfl)).trans ?_
    refine (de_lt (Nat.le_of_ble_eq_true rfl) (Nat.ne_of_beq_eq_false rfl)).trans ?_
    iterate 2 refine (up_ne (Nat.ne_of_beq_eq_false rfl)).trans ?_
    refine (de_lt (Nat.le_of_ble_eq_true rfl) (Nat.ne_of_beq_eq_false rfl)).trans ?_
    iterate 2 refine (up_ne (Nat.ne_of_beq_eq_false rfl)).trans ?_
    exact de_ge (Nat.le_of_ble_eq_true rfl)
  · iterate 11 refine (up_ne (Nat.ne_of_beq_eq_false rfl)).trans ?_
    refine (me_lt (Nat.le_of_ble_eq_true rfl)).trans ?_
    refine (up_ne (Nat.ne_of_beq_eq_false rfl)).trans ?_
    refine (me_lt (Nat.le_of_ble_eq_true rfl)).trans ?_
    iterate 9 refine (up_ne (Nat.ne_of_beq_eq_false rfl)).trans ?_
    refine (me_lt (Nat.le_of_ble_eq_true rfl)).trans ?_
    refine (up_ne (Nat.ne_of_beq_eq_false rfl)).trans ?_
    refine (me_lt (Nat.le_of_ble_eq_true rfl)).trans ?_
    iterate 5 refine (up_ne (Nat.ne_of_beq_eq_false rfl)).trans ?_
    refine (me_lt (Nat.le_of_ble_eq_true rfl)).trans ?_
    iterate 14 refine (up_ne (Nat.ne_of_beq_eq_false rfl)).trans ?_
    refine (de_lt (Nat.le_of_ble_eq_true rfl) (Nat.ne_of_beq_eq_false rfl)).trans ?_
    iterate 2 refine (up_ne (Nat.ne_of_beq_eq_false rfl)).trans ?_
    refine (de_lt (Nat.le_of_ble_eq_true rfl) (Nat.ne_of_beq_eq_false rfl)).trans ?_
    iterate 2 refine (up_ne (Nat.ne_of_beq_eq_false rfl)).trans ?_
    refine (de_lt (Nat.le_of_ble_eq_true rfl) (Nat.ne_of_beq_eq_false rfl)).trans ?_
    iterate 2 refine (up_ne (Nat.ne_of_beq_eq_false rfl)).trans ?_
    refine (de_lt (Nat.le_of_ble_eq_true rfl) (Nat.ne_of_beq_eq_false rfl)).trans ?_
    iterate 2 refine (up_ne (Nat.ne_of_beq_eq_false rfl)).trans ?_
    exact de_ge (Nat.le_of_ble_eq_true rfl)
  · iterate 11 refine (up_ne (Nat.ne_of_beq_eq_false rfl)).trans ?_
    refine (me_lt (Nat.le_of_ble_eq_true rfl)).trans ?_
    refine (up_ne (Nat.ne_of_beq_eq_false rfl)).trans ?_
    refine (me_lt (Nat.le_of_ble_eq_true rfl)).trans ?_
    iterate 9 refine (up_ne (Nat.ne_of_beq_eq_false rfl)).trans ?_
    refine (me_lt (Nat.le_of_ble_eq_true rfl)).trans ?_
    refine (up_ne (Nat.ne_of_beq_eq_false rfl)).trans ?_
    refine (me_lt (Nat.le_of_ble_eq_true rfl)).trans ?_
    iterate 5 refine (up_ne (Nat.ne_of_beq_eq_false rfl)).trans ?_
    refine (me_lt (Nat.le_of_ble_eq_true rfl)).trans ?_
    iterate 14 refine (up_ne (Nat.ne_of_beq_eq_false rfl)).trans ?_
    refine (de_lt (Nat.le_of_ble_eq_true rfl) (Nat.ne_of_beq_eq_false rfl)).trans ?_
    iterate 2 refine (up_ne (Nat.ne_of_beq_eq_false rfl)).trans ?_
    refine (de_lt (Nat.le_of_ble_eq_true rfl) (Nat.ne_of_beq_eq_false rfl)).trans ?_
    iterate 2 refine (up_ne (Nat.ne_of_beq_eq_false rfl)).trans ?_
    refine (de_lt (Nat.le_of_ble_eq_true rfl) (Nat.ne_of_beq_eq_false rfl)).trans ?_
    iterate 2 refine (up_ne (Nat.ne_of_beq_eq_false rfl)).trans ?_
    refine (de_lt (Nat.le_of_ble_eq_true rfl) (Nat.ne_of_beq_eq_false rfl)).trans ?_
    iterate 2 refine (up_ne (Nat.ne_of_beq_eq_false rfl)).trans ?_
    exact de_ge (Nat.le_of_ble_eq_true rfl)
  · iterate 11 refine (up_ne (Nat.ne_of_beq_eq_false rfl)).trans ?_
    refine (me_lt (Nat.le_of_ble_eq_true rfl)).trans ?_
    refine (up_ne (Nat.ne_of_beq_eq_false rfl)).trans ?_
    refine (me_lt (Nat.le_of_ble_eq_true rfl)).trans ?_
    iterate 9 refine (up_ne (Nat.ne_of_beq_eq_false rfl)).trans ?_
    refine (me_lt (Nat.le_of_ble_eq_true rfl)).trans ?_
    refine (up_ne (Nat.ne_of_beq_eq_false rfl)).trans ?_
    refine (me_lt (Nat.le_of_ble_eq_true rfl)).trans ?_
    iterate 5 refine (up_ne (Nat.ne_of_beq_eq_false rfl)).trans ?_
    refine (me_lt (Nat.le_of_ble_eq_true rfl)).trans ?_
    iterate 14 refine (up_ne (Nat.ne_of_beq_eq_false rfl)).trans ?_
    refine (de_lt (Nat.le_of_ble_eq_true rfl) (Nat.ne_of_beq_eq_false rfl)).trans ?_
    iterate 2 refine (up_ne (Nat.ne_of_beq_eq_false rfl)).trans ?_
    refine (de_lt (Nat.le_of_ble_eq_true rfl) (Nat.ne_of_beq_eq_false rfl)).trans ?_
    iterate 2 refine (up_ne (Nat.ne_of_beq_eq_false rfl)).trans ?_
    refine (de_lt (Nat.le_of_ble_eq_true rfl) (Nat.ne_of_beq_eq_false rfl)).trans ?_
    iterate 2 refine (up_ne (Nat.ne_of_beq_eq_false rfl)).trans ?_
    refine (de_lt (Nat.le_of_ble_eq_true rfl) (Nat.ne_of_beq_eq_false rfl)).trans ?_
    iterate 2 refine (up_ne (Nat.ne_of_beq_eq_false rfl)).trans ?_
    exact de_ge (Nat.le_of_ble_eq_true rfl)
  · iterate 11 refine (up_ne (Nat.ne_of_beq_eq_false rfl)).trans ?_
    refine (me_lt (Nat.le_of_ble_eq_true rfl)).trans ?_
    refine (up_ne (Nat.ne_of_beq_eq_false rfl)).trans ?_
    refine (me_lt (Nat.le_of_ble_eq_true rfl)).trans ?_
    iterate 9 refine (up_ne (Nat.ne_of_beq_eq_false rfl)).trans ?_
    refine (me_lt (Nat.le_of_ble_eq_true rfl)).trans ?_
    refine (up_ne (Nat.ne_of_beq_eq_false rfl)).trans ?_
    refine (me_lt (Nat.le_of_ble_eq_true rfl)).trans ?_
    iterate 5 refine (up_ne (Nat.ne_of_beq_eq_false rfl)).trans ?_
    refine (me_lt (Nat.le_of_ble_eq_true rfl)).trans ?_
    iterate 14 refine (up_ne (Nat.ne_of_beq_eq_false rfl)).trans ?_
    refine (de_lt (Nat.le_of_ble_eq_true rfl) (Nat.ne_of_beq_eq_false rfl)).trans ?_
    iterate 2 refine (up_ne (Nat.ne_of_beq_eq_false rfl)).trans ?_
    refine (de_lt (Nat.le_of_ble_eq_true rfl) (Nat.ne_of_beq_eq_false rfl)).trans ?_
    iterate 2 refine (up_ne (Nat.ne_of_beq_eq_false rfl)).trans ?_
    refine (de_lt (Nat.le_of_ble_eq_true rfl) (Nat.ne_of_beq_eq_false rfl)).trans ?_
    iterate 2 refine (up_ne (Nat.ne_of_beq_eq_false rfl)).trans ?_
    exact de_obj (Nat.le_of_ble_eq_true rfl)
  · iterate 11 refine (up_ne (Nat.ne_of_beq_eq_false rfl)).trans ?_
    refine (me_lt (Nat.le_of_ble_eq_true rfl)).trans ?_
    refine (up_ne (Nat.ne_of_beq_eq_false rfl)).trans ?_
    refine (me_lt (Nat.le_of_ble_eq_true rfl)).trans ?_
    iterate 9 refine (up_ne (Nat.ne_of_beq_eq_false rfl)).trans ?_
    refine (me_lt (Nat.le_of_ble_eq_true rfl)).trans ?_
    refine (up_ne (Nat.ne_of_beq_eq_false rfl)).trans ?_
    refine (me_lt (Nat.le_of_ble_eq_true rfl)).trans ?_
    iterate 5 refine (up_ne (Nat.ne_of_beq_eq_false rfl)).trans ?_
    refine (me_lt (Nat.le_of_ble_eq_true rfl)).trans ?_
    iterate 14 refine (up_ne (Nat.ne_of_beq_eq_false rfl)).trans ?_
    refine (de_lt (Nat.le_of_ble_eq_true rfl) (Nat.ne_of_beq_eq_false rfl)).trans ?_
    iterate 2 refine (up_ne (Nat.ne_of_beq_eq_false rfl)).trans ?_
    refine (de_lt (Nat.le_of_ble_eq_true rfl) (Nat.ne_of_beq_eq_false rfl)).trans ?_
    iterate 2 refine (up_ne (Nat.ne_of_beq_eq_false rfl)).trans ?_
    refine (de_lt (Nat.le_of_ble_eq_true rfl) (Nat.ne_of_beq_eq_false rfl)).trans ?_
    iterate 2 refine (up_ne (Nat.ne_of_beq_eq_false rfl)).trans ?_
    exact de_ge (Nat.le_of_ble_eq_true rfl)
  · iterate 11 refine (up_ne (Nat.ne_of_beq_eq_false rfl)).trans ?_
    refine (me_lt (Nat.le_of_ble_eq_true rfl)).trans ?_
    refine (up_ne (Nat.ne_of_beq_eq_false rfl)).trans ?_
    refine (me_lt (Nat.le_of_ble_eq_true rfl)).trans ?_
    iterate 9 refine (up_ne (Nat.ne_of_beq_eq_false rfl)).trans ?_
    refine (me_lt (Nat.le_of_ble_eq_true rfl)).trans ?_
    refine (up_ne (Nat.ne_of_beq_eq_false rfl)).trans ?_
    refine (me_lt (Nat.le_of_ble_eq_true rfl)).trans ?_
    iterate 5 refine (up_ne (Nat.ne_of_beq_eq_false rfl)).trans ?_
    refine (me_lt (Nat.le_of_ble_eq_true rfl)).trans ?_
    iterate 14 refine (up_ne (Nat.ne_of_beq_eq_false rfl)).trans ?_
    refine (de_lt (Nat.le_of_ble_eq_true rfl) (Nat.ne_of_beq_eq_false rfl)).trans ?_
    iterate 2 refine (up_ne (Nat.ne_of_beq_eq_false rfl)).trans ?_
    refine (de_lt (Nat.le_of_ble_eq_true rfl) (Nat.ne_of_beq_eq_false rfl)).trans ?_
    iterate 2 refine (up_ne (Nat.ne_of_beq_eq_false rfl)).trans ?_
    refine (de_lt (Nat.le_of_ble_eq_true rfl) (Nat.ne_of_beq_eq_false rfl)).trans ?_
    iterate 2 refine (up_ne (Nat.ne_of_beq_eq_false rfl)).trans ?_
    exact de_ge (Nat.le_of_ble_eq_true rfl)
  · iterate 11 refine (up_ne (Nat.ne_of_beq_eq_false rfl)).trans ?_
    refine (me_lt (Nat.le_of_ble_eq_true rfl)).trans ?_
    refine (up_ne (Nat.ne_of_beq_eq_false rfl)).trans ?_
    refine (me_lt (Nat.le_of_ble_eq_true rfl)).trans ?_
    iterate 9 refine (up_ne (Nat.ne_of_beq_eq_false rfl)).trans ?_
    refine (me_lt (Nat.le_of_ble_eq_true rfl)).trans ?_
    refine (up_ne (Nat.ne_of_beq_eq_false rfl)).trans ?_
    refine (me_lt (Nat.le_of_ble_eq_true rfl)).trans ?_
    iterate 5 refine (up_ne (Nat.ne_of_beq_eq_false rfl)).trans ?_
    refine (me_lt (Nat.le_of_ble_eq_true rfl)).trans ?_
    iterate 14 refine (up_ne (Nat.ne_of_beq_eq_false rfl)).trans ?_
    refine (de_lt (Nat.le_of_ble_eq_true rfl) (Nat.ne_of_beq_eq_false rfl)).trans ?_
    iterate 2 refine (up_ne (Nat.ne_of_beq_eq_false rfl)).trans ?_
    refine (de_lt (Nat.le_of_ble_eq_true rfl) (Nat.ne_of_beq_eq_false rfl)).trans ?_
    iterate 2 refine (up_ne (Nat.ne_of_beq_eq_false rfl)).trans ?_
    refine (de_lt (Nat.le_of_ble_eq_true rfl) (Nat.ne_of_beq_eq_false rfl)).trans ?_
    iterate 2 refine (up_ne (Nat.ne_of_beq_eq_false rfl)).trans ?_
    exact de_ge (Nat.le_of_ble_eq_true rfl)
  · iterate 11 refine (up_ne (Nat.ne_of_beq_eq_false rfl)).trans ?_
    refine (me_lt (Nat.le_of_ble_eq_true rfl)).trans ?_
    refine (up_ne (Nat.ne_of_beq_eq_false rfl)).trans ?_
    refine (me_lt (Nat.le_of_ble_eq_true rfl)).trans ?_
    iterate 9 refine (up_ne (Nat.ne_of_beq_eq_false rfl)).trans ?_
    refine (me_lt (Nat.le_of_ble_eq_true rfl)).trans ?_
    refine (up_ne (Nat.ne_of_beq_eq_false rfl)).trans ?_
    refine (me_lt (Nat.le_of_ble_eq_true rfl)).trans ?_
    iterate 5 refine (up_ne (Nat.ne_of_beq_eq_false rfl)).trans ?_
    refine (me_lt (Nat.le_of_ble_eq_true rfl)).trans ?_
    iterate 14 refine (up_ne (Nat.ne_of_beq_eq_false rfl)).trans ?_
    refine (de_lt (Nat.le_of_ble_eq_true rfl) (Nat.ne_of_beq_eq_false rfl)).trans ?_
    iterate 2 refine (up_ne (Nat.ne_of_beq_eq_false rfl)).trans ?_
    refine (de_lt (Nat.le_of_ble_eq_true rfl) (Nat.ne_of_beq_eq_false rfl)).trans ?_
    iterate 2 refine (up_ne (Nat.ne_of_beq_eq_false rfl)).trans ?_
    refine (de_lt (Nat.le_of_ble_eq_true rfl) (Nat.ne_of_beq_eq_false rfl)).trans ?_
    iterate 2 refine (up_ne (Nat.ne_of_beq_eq_false rfl)).trans ?_
    exact de_ge (Nat.le_of_ble_eq_true rfl)
  · iterate 11 refine (up_ne (Nat.ne_of_beq_eq_false rfl)).trans ?_
    refine (me_lt (Nat.le_of_ble_eq_true rfl)).trans ?_
    refine (up_ne (Nat.ne_of_beq_eq_false rfl)).trans ?_
    refine (me_lt (Nat.le_of_ble_eq_true rfl)).trans ?_
    iterate 9 refine (up_ne (Nat.ne_of_beq_eq_false rfl)).trans ?_
    refine (me_lt (Nat.le_of_ble_eq_true rfl)).trans ?_
    refine (up_ne (Nat.ne_of_beq_eq_false rfl)).trans ?_
    refine (me_lt (Nat.le_of_ble_eq_true rfl)).trans ?_
    iterate 5 refine (up_ne (Nat.ne_of_beq_eq_false rfl)).trans ?_
    refine (me_lt (Nat.le_of_ble_eq_true rfl)).trans ?_
    iterate 14 refine (up_ne (Nat.ne_of_beq_eq_false rfl)).trans ?_
    refine (de_lt (Nat.le_of_ble_eq_true rfl) (Nat.ne_of_beq_eq_false rfl)).trans ?_
    iterate 2 refine (up_ne (Nat.ne_of_beq_eq_false rfl)).trans ?_
    refine (de_lt (Nat.le_of_ble_eq_true rfl) (Nat.ne_of_beq_eq_false rfl)).trans ?_
    iterate 2 refine (up_ne (Nat.ne_of_beq_eq_false rfl)).trans ?_
    refine (de_lt (Nat.le_of_ble_eq_true rfl) (Nat.ne_of_beq_eq_false rfl)).trans ?_
    iterate 2 refine (up_ne (Nat.ne_of_beq_eq_false rfl)).trans ?_
    exact de_ge (Nat.le_of_ble_eq_true rfl)
  · iterate 11 refine (up_ne (Nat.ne_of_beq_eq_false rfl)).trans ?_
    refine (me_lt (Nat.le_of_ble_eq_true rfl)).trans ?_
    refine (up_ne (Nat.ne_of_beq_eq_false rfl)).trans ?_
    refine (me_lt (Nat.le_of_ble_eq_true rfl)).trans ?_
    iterate 9 refine (up_ne (Nat.ne_of_beq_eq_false rfl)).trans ?_
    refine (me_lt (Nat.le_of_ble_eq_true rfl)).trans ?_
    refine (up_ne (Nat.ne_of_beq_eq_false rfl)).trans ?_
    refine (me_lt (Nat.le_of_ble_eq_true rfl)).trans ?_
    iterate 5 refine (up_ne (Nat.ne_of_beq_eq_false rfl)).trans ?_
    refine (me_lt (Nat.le_of_ble_eq_true rfl)).trans ?_
    iterate 14 refine (up_ne (Nat.ne_of_beq_eq_false rfl)).trans ?_
    refine (de_lt (Nat.le_of_ble_eq_true rfl) (Nat.ne_of_beq_eq_false rfl)).trans ?_
    iterate 2 refine (up_ne (Nat.ne_of_beq_eq_false rfl)).trans ?_
    refine (de_lt (Nat.le_of_ble_eq_true rfl) (Nat.ne_of_beq_eq_false rfl)).trans ?_
    iterate 2 refine (up_ne (Nat.ne_of_beq_eq_false rfl)).trans ?_
    refine (de_lt (Nat.le_of_ble_eq_true rfl) (Nat.ne_of_beq_eq_false rfl)).trans ?_
    iterate 2 refine (up_ne (Nat.ne_of_beq_eq_false rfl)).trans ?_
    exact de_ge (Nat.le_of_ble_eq_true rfl)
  · iterate 11 refine (up_ne (Nat.ne_of_beq_eq_false rfl)).trans ?_
    refine (me_lt (Nat.le_of_ble_eq_true rfl)).trans ?_
    refine (up_ne (Nat.ne_of_beq_eq_false rfl)).trans ?_
    refine (me_lt (Nat.le_of_ble_eq_true rfl)).trans ?_
    iterate 9 refine (up_ne (Nat.ne_of_beq_eq_false rfl)).trans ?_
    refine (me_lt (Nat.le_of_ble_eq_true rfl)).trans ?_
    refine (up_ne (Nat.ne_of_beq_eq_false rfl)).trans ?_
    refine (me_lt (Nat.le_of_ble_eq_true rfl)).trans ?_
    iterate 5 refine (up_ne (Nat.ne_of_beq_eq_false rfl)).trans ?_
    refine (me_lt (Nat.le_of_ble_eq_true rfl)).trans ?_
    iterate 14 refine (up_ne (Nat.ne_of_beq_eq_false rfl)).trans ?_
    refine (de_lt (Nat.le_of_ble_eq_true rfl) (Nat.ne_of_beq_eq_false rfl)).trans ?_
    iterate 2 refine (up_ne (Nat.ne_of_beq_eq_false rfl)).trans ?_
    refine (de_lt (Nat.le_of_ble_eq_true rfl) (Nat.ne_of_beq_eq_false rfl)).trans ?_
    iterate 2 refine (up_ne (Nat.ne_of_beq_eq_false rfl)).trans ?_
    refine (de_lt (Nat.le_of_ble_eq_true rfl) (Nat.ne_of_beq_eq_false rfl)).trans ?_
    iterate 2 refine (up_ne (Nat.ne_of_beq_eq_false rfl)).trans ?_
    exact de_ge (Nat.le_of_ble_eq_true rfl)
  · iterate 11 refine (up_ne (Nat.ne_of_beq_eq_false rfl)).trans ?_
    refine (me_lt (Nat.le_of_ble_eq_true rfl)).trans ?_
    refine (up_ne (Nat.ne_of_beq_eq_false rfl)).trans ?_
    refine (me_lt (Nat.le_of_ble_eq_true rfl)).trans ?_
    iterate 9 refine (up_ne (Nat.ne_of_beq_eq_false rfl)).trans ?_
    refine (me_lt (Nat.le_of_ble_eq_true rfl)).trans ?_
    refine (up_ne (Nat.ne_of_beq_eq_false rfl)).trans ?_
    refine (me_lt (Nat.le_of_ble_eq_true rfl)).trans ?_
    iterate 5 refine (up_ne (Nat.ne_of_beq_eq_false rfl)).trans ?_
    refine (me_lt (Nat.le_of_ble_eq_true rfl)).trans ?_
    iterate 14 refine (up_ne (Nat.ne_of_beq_eq_false rfl)).trans ?_
    refine (de_lt (Nat.le_of_ble_eq_true rfl) (Nat.ne_of_beq_eq_false rfl)).trans ?_
    iterate 2 refine (up_ne (Nat.ne_of_beq_eq_false rfl)).trans ?_
    refine (de_lt (Nat.le_of_ble_eq_true rfl) (Nat.ne_of_beq_eq_false rfl)).trans ?_
    iterate 2 refine (up_ne (Nat.ne_of_beq_eq_false rfl)).trans ?_
    exact de_obj (Nat.le_of_ble_eq_true rfl)
  · iterate 11 refine (up_ne (Nat.ne_of_beq_eq_false rfl)).trans ?_
    refine (me_lt (Nat.le_of_ble_eq_true rfl)).trans ?_
    refine (up_ne (Nat.ne_of_beq_eq_false rfl)).trans ?_
    refine (me_lt (Nat.le_of_ble_eq_true rfl)).trans ?_
    iterate 9 refine (up_ne (Nat.ne_of_beq_eq_false rfl)).trans ?_
    refine (me_lt (Nat.le_of_ble_eq_true rfl)).trans ?_
    refine (up_ne (Nat.ne_of_beq_eq_false rfl)).trans ?_
    refine (me_lt (Nat.le_of_ble_eq_true rfl)).trans ?_
    iterate 5 refine (up_ne (Nat.ne_of_beq_eq_false rfl)).trans ?_
    refine (me_lt (Nat.le_of_ble_eq_true rfl)).trans ?_
    iterate 14 refine (up_ne (Nat.ne_of_beq_eq_false rfl)).trans ?_
    refine (de_lt (Nat.le_of_ble_eq_true rfl) (Nat.ne_of_beq_eq_false rfl)).trans ?_
    iterate 2 refine (up_ne (Nat.ne_of_beq_eq_false rfl)).trans ?_
    refine (de_lt (Nat.le_of_ble_eq_true rfl) (Nat.ne_of_beq_eq_false rfl)).trans ?_
    iterate 2 refine (up_ne (Nat.ne_of_beq_eq_false rfl)).trans ?_
    exact de_ge (Nat.le_of_ble_eq_true rfl)
  · iterate 11 refine (up_ne (Nat.ne_of_beq_eq_false rfl)).trans ?_
    refine (me_lt (Nat.le_of_ble_eq_true rfl)).trans ?_
    refine (up_ne (Nat.ne_of_beq_eq_false rfl)).trans ?_
    refine (me_lt (Nat.le_of_ble_eq_true rfl)).trans ?_
    iterate 9 refine (up_ne (Nat.ne_of_beq_eq_false rfl)).trans ?_
    refine (me_lt (Nat.le_of_ble_eq_true rfl)).trans ?_
    refine (up_ne (Nat.ne_of_beq_eq_false rfl)).trans ?_
    refine (me_lt (Nat.le_of_ble_eq_true rfl)).trans ?_
    iterate 5 refine (up_ne (Nat.ne_of_beq_eq_false rfl)).trans ?_
    refine (me_lt (Nat.le_of_ble_eq_true rfl)).trans ?_
    iterate 14 refine (up_ne (Nat.ne_of_beq_eq_false rfl)).trans ?_
    refine (de_lt (Nat.le_of_ble_eq_true rfl) (Nat.ne_of_beq_eq_false rfl)).trans ?_
    iterate 2 refine (up_ne (Nat.ne_of_beq_eq_false rfl)).trans ?_
    refine (de_lt (Nat.le_of_ble_eq_true rfl) (Nat.ne_of_beq_eq_false rfl)).trans ?_
    iterate 2 refine (up_ne (Nat.ne_of_beq_eq_false rfl)).trans ?_
    exact de_ge (Nat.le_of_ble_eq_true rfl)
  · iterate 11 refine (up_ne (Nat.ne_of_beq_eq_false rfl)).trans ?_
    refine (me_lt (Nat.le_of_ble_eq_true rfl)).trans ?_
    refine (up_ne (Nat.ne_of_beq_eq_false rfl)).trans ?_
    refine (me_lt (Nat.le_of_ble_eq_true rfl)).trans ?_
    iterate 9 refine (up_ne (Nat.ne_of_beq_eq_false rfl)).trans ?_
    refine (me_lt (Nat.le_of_ble_eq_true rfl)).trans ?_
    refine (up_ne (Nat.ne_of_beq_eq_false rfl)).trans ?_
    refine (me_lt (Nat.le_of_ble_eq_true rfl)).trans ?_
    iterate 5 refine (up_ne (Nat.ne_of_beq_eq_false rfl)).trans ?_
    refine (me_lt (Nat.le_of_ble_eq_true rfl)).trans ?_
    iterate 14 refine (up_ne (Nat.ne_of_beq_eq_false rfl)).trans ?_
    refine (de_lt (Nat.le_of_ble_eq_true rfl) (Nat.ne_of_beq_eq_false rfl)).trans ?_
    iterate 2 refine (up_ne (Nat.ne_of_beq_eq_false rfl)).trans ?_
    refine (de_lt (Nat.le_of_ble_eq_true rfl) (Nat.ne_of_beq_eq_false rfl)).trans ?_
    iterate 2 refine (up_ne (Nat.ne_of_beq_eq_false rfl)).trans ?_
    exact de_ge (Nat.le_of_ble_eq_true rfl)
  · iterate 11 refine (up_ne (Nat.ne_of_beq_eq_false rfl)).trans ?_
    refine (me_lt (Nat.le_of_ble_eq_true rfl)).trans ?_
    refine (up_ne (Nat.ne_of_beq_eq_false rfl)).trans ?_
    refine (me_lt (Nat.le_of_ble_eq_true rfl)).trans ?_
    iterate 9 refine (up_ne (Nat.ne_of_beq_eq_false rfl)).trans ?_
    refine (me_lt (Nat.le_of_ble_eq_true rfl)).trans ?_
    refine (up_ne (Nat.ne_of_beq_eq_false rfl)).trans ?_
    refine (me_lt (Nat.le_of_ble_eq_true rfl)).trans ?_
    iterate 5 refine (up_ne (Nat.ne_of_beq_eq_false rfl)).trans ?_
    refine (me_lt (Nat.le_of_ble_eq_true rfl)).trans ?_
    iterate 14 refine (up_ne (Nat.ne_of_beq_eq_false rfl)).trans ?_
    refine (de_lt (Nat.le_of_ble_eq_true rfl) (Nat.ne_of_beq_eq_false rfl)).trans ?_
    iterate 2 refine (up_ne (Nat.ne_of_beq_eq_false rfl)).trans ?_
    refine (de_lt (Nat.le_of_ble_eq_true rfl) (Nat.ne_of_beq_eq_false rfl)).trans ?_
    iterate 2 refine (up_ne (Nat.ne_of_beq_eq_false rfl)).trans ?_
    exact de_ge (Nat.le_of_ble_eq_true rfl)
  · iterate 11 refine (up_ne (Nat.ne_of_beq_eq_false rfl)).trans ?_
    refine (me_lt (Nat.le_of_ble_eq_true rfl)).trans ?_
    refine (up_ne (Nat.ne_of_beq_eq_false rfl)).trans ?_
    refine (me_lt (Nat.le_of_ble_eq_true rfl)).trans ?_
    iterate 9 refine (up_ne (Nat.ne_of_beq_eq_false rfl)).trans ?_
    refine (me_lt (Nat.le_of_ble_eq_true rfl)).trans ?_
    refine (up_ne (Nat.ne_of_beq_eq_false rfl)).trans ?_
    refine (me_lt (Nat.le_of_ble_eq_true rfl)).trans ?_
    iterate 5 refine (up_ne (Nat.ne_of_beq_eq_false rfl)).trans ?_
    refine (me_lt (Nat.le_of_ble_eq_true rfl)).trans ?_
    iterate 14 refine (up_ne (Nat.ne_of_beq_eq_false rfl)).trans ?_
    refine (de_lt (Nat.le_of_ble_eq_true rfl) (Nat.ne_of_beq_eq_false rfl)).trans ?_
    iterate 2 refine (up_ne (Nat.ne_of_beq_eq_false rfl)).trans ?_
    refine (de_lt (Nat.le_of_ble_eq_true rfl) (Nat.ne_of_beq_eq_false rfl)).trans ?_
    iterate 2 refine (up_ne (Nat.ne_of_beq_eq_false rfl)).trans ?_
    exact de_ge (Nat.le_of_ble_eq_true rfl)
  · iterate 11 refine (up_ne (Nat.ne_of_beq_eq_false rfl)).trans ?_
    refine (me_lt (Nat.le_of_ble_eq_true rfl)).trans ?_
    refine (up_ne (Nat.ne_of_beq_eq_false rfl)).trans ?_
    refine (me_lt (Nat.le_of_ble_eq_true rfl)).trans ?_
    iterate 9 refine (up_ne (Nat.ne_of_beq_eq_false rfl)).trans ?_
    refine (me_lt (Nat.le_of_ble_eq_true rfl)).trans ?_
    refine (up_ne (Nat.ne_of_beq_eq_false rfl)).trans ?_
    refine (me_lt (Nat.le_of_ble_eq_true rfl)).trans ?_
    iterate 5 refine (up_ne (Nat.ne_of_beq_eq_false rfl)).trans ?_
    refine (me_lt (Nat.le_of_ble_eq_true rfl)).trans ?_
    iterate 14 refine (up_ne (Nat.ne_of_beq_eq_false rfl)).trans ?_
    refine (de_lt (Nat.le_of_ble_eq_true rfl) (Nat.ne_of_beq_eq_false rfl)).trans ?_
    iterate 2 refine (up_ne (Nat.ne_of_beq_eq_false rfl)).trans ?_
    refine (de_lt (Nat.le_of_ble_eq_true rfl) (Nat.ne_of_beq_eq_false rfl)).trans ?_
    iterate 2 refine (up_ne (Nat.ne_of_beq_eq_false rfl)).trans ?_
    exact de_ge (Nat.le_of_ble_eq_true rfl)
  · iterate 11 refine (up_ne (Nat.ne_of_beq_eq_false rfl)).trans ?_
    refine (me_lt (Nat.le_of_ble_eq_true rfl)).trans ?_
    refine (up_ne (Nat.ne_of_beq_eq_false rfl)).trans ?_
    refine (me_lt (Nat.le_of_ble_eq_true rfl)).trans ?_
    iterate 9 refine (up_ne (Nat.ne_of_beq_eq_false rfl)).trans ?_
    refine (me_lt (Nat.le_of_ble_eq_true rfl)).trans ?_
    refine (up_ne (Nat.ne_of_beq_eq_false rfl)).trans ?_
    refine (me_lt (Nat.le_of_ble_eq_true rfl)).trans ?_
    iterate 5 refine (up_ne (Nat.ne_of_beq_eq_false rfl)).trans ?_
    refine (me_lt (Nat.le_of_ble_eq_true rfl)).trans ?_
    iterate 14 refine (up_ne (Nat.ne_of_beq_eq_false rfl)).trans ?_
    refine (de_lt (Nat.le_of_ble_eq_true rfl) (Nat.ne_of_beq_eq_false rfl)).trans ?_
    iterate 2 refine (up_ne (Nat.ne_of_beq_eq_false rfl)).trans ?_
    refine (de_lt (Nat.le_of_ble_eq_true rfl) (Nat.ne_of_beq_eq_false rfl)).trans ?_
    iterate 2 refine (up_ne (Nat.ne_of_beq_eq_false rfl)).trans ?_
    exact de_ge (Nat.le_of_ble_eq_true rfl)
  · iterate 11 refine (up_ne (Nat.ne_of_beq_eq_false rfl)).trans ?_
    refine (me_lt (Nat.le_of_ble_eq_true rfl)).trans ?_
    refine (up_ne (Nat.ne_of_beq_eq_false rfl)).trans ?_
    refine (me_lt (Nat.le_of_ble_eq_true rfl)).trans ?_
    iterate 9 refine (up_ne (Nat.ne_of_beq_eq_false rfl)).trans ?_
    refine (me_lt (Nat.le_of_ble_eq_true rfl)).trans ?_
    refine (up_ne (Nat.ne_of_beq_eq_false rfl)).trans ?_
    refine (me_lt (Nat.le_of_ble_eq_true rfl)).trans ?_
    iterate 5 refine (up_ne (Nat.ne_of_beq_eq_false rfl)).trans ?_
    refine (me_lt (Nat.le_of_ble_eq_true rfl)).trans ?_
    iterate 14 refine (up_ne (Nat.ne_of_beq_eq_false rfl)).trans ?_
    refine (de_lt (Nat.le_of_ble_eq_true rfl) (Nat.ne_of_beq_eq_false rfl)).trans ?_
    iterate 2 refine (up_ne (Nat.ne_of_beq_eq_false rfl)).trans ?_
    exact de_obj (Nat.le_of_ble_eq_true rfl)
  · iterate 11 refine (up_ne (Nat.ne_of_beq_eq_false rfl)).trans ?_
    refine (me_lt (Nat.le_of_ble_eq_true rfl)).trans ?_
    refine (up_ne (Nat.ne_of_beq_eq_false rfl)).trans ?_
    refine (me_lt (Nat.le_of_ble_eq_true rfl)).trans ?_
    iterate 9 refine (up_ne (Nat.ne_of_beq_eq_false rfl)).trans ?_
    refine (me_lt (Nat.le_of_ble_eq_true rfl)).trans ?_
    refine (up_ne (Nat.ne_of_beq_eq_false rfl)).trans ?_
    refine (me_lt (Nat.le_of_ble_eq_true rfl)).trans ?_
    iterate 5 refine (up_ne (Nat.ne_of_beq_eq_false rfl)).trans ?_
    refine (me_lt (Nat.le_of_ble_eq_true rfl)).trans ?_
    iterate 14 refine (up_ne (Nat.ne_of_beq_eq_false rfl)).trans ?_
    refine (de_lt (Nat.le_of_ble_eq_true rfl) (Nat.ne_of_beq_eq_false rfl)).trans ?_
    iterate 2 refine (up_ne (Nat.ne_of_beq_eq_false rfl)).trans ?_
    exact de_ge (Nat.le_of_ble_eq_true rfl)
  · iterate 11 refine (up_ne (Nat.ne_of_beq_eq_false rfl)).trans ?_
    refine (me_lt (Nat.le_of_ble_eq_true rfl)).trans ?_
    refine (up_ne (Nat.ne_of_beq_eq_false rfl)).trans ?_
    refine (me_lt (Nat.le_of_ble_eq_true rfl)).trans ?_
    iterate 9 refine (up_ne (Nat.ne_of_beq_eq_false rfl)).trans ?_
    refine (me_lt (Nat.le_of_ble_eq_true rfl)).trans ?_
    refine (up_ne (Nat.ne_of_beq_eq_false rfl)).trans ?_
    refine (me_lt (Nat.le_of_ble_eq_true rfl)).trans ?_
    iterate 5 refine (up_ne (Nat.ne_of_beq_eq_false rfl)).trans ?_
    refine (me_lt (Nat.le_of_ble_eq_true rfl)).trans ?_
    iterate 14 refine (up_ne (Nat.ne_of_beq_eq_false rfl)).trans ?_
    refine (de_lt (Nat.le_of_ble_eq_true rfl) (Nat.ne_of_beq_eq_false rfl)).trans ?_
    iterate 2 refine (up_ne (Nat.ne_of_beq_eq_false rfl)).trans ?_
    exact de_ge (Nat.le_of_ble_eq_true rfl)
  · iterate 11 refine (up_ne (Nat.ne_of_beq_eq_false rfl)).trans ?_
    refine (me_lt (Nat.le_of_ble_eq_true rfl)).trans ?_
    refine (up_ne (Nat.ne_of_beq_eq_false rfl)).trans ?_
    refine (me_lt (Nat.le_of_ble_eq_true rfl)).trans ?_
    iterate 9 refine (up_ne (Nat.ne_of_beq_eq_false rfl)).trans ?_
    refine (me_lt (Nat.le_of_ble_eq_true rfl)).trans ?_
    refine (up_ne (Nat.ne_of_beq_eq_false rfl)).trans ?_
    refine (me_lt (Nat.le_of_ble_eq_true rfl)).trans ?_
    iterate 5 refine (up_ne (Nat.ne_of_beq_eq_false rfl)).trans ?_
    refine (me_lt (Nat.le_of_ble_eq_true rfl)).trans ?_
    iterate 14 refine (up_ne (Nat.ne_of_beq_eq_false rfl)).trans ?_
    refine (de_lt (Nat.le_of_ble_eq_true rfl) (Nat.ne_of_beq_eq_false rfl)).trans ?_
    iterate 2 refine (up_ne (Nat.ne_of_beq_eq_false rfl)).trans ?_
    exact de_ge (Nat.le_of_ble_eq_true rfl)
  · iterate 11 refine (up_ne (Nat.ne_of_beq_eq_false rfl)).trans ?_
    refine (me_lt (Nat.le_of_ble_eq_true rfl)).trans ?_
    refine (up_ne (Nat.ne_of_beq_eq_false rfl)).trans ?_
    refine (me_lt (Nat.le_of_ble_eq_true rfl)).trans ?_
    iterate 9 refine (up_ne (Nat.ne_of_beq_eq_false rfl)).trans ?_
    refine (me_lt (Nat.le_of_ble_eq_true rfl)).trans ?_
    refine (up_ne (Nat.ne_of_beq_eq_false rfl)).trans ?_
    refine (me_lt (Nat.le_of_ble_eq_true rfl)).trans ?_
    iterate 5 refine (up_ne (Nat.ne_of_beq_eq_false rfl)).trans ?_
    refine (me_lt (Nat.le_of_ble_eq_true rfl)).trans ?_
    iterate 14 refine (up_ne (Nat.ne_of_beq_eq_false rfl)).trans ?_
    refine (de_lt (Nat.le_of_ble_eq_true rfl) (Nat.ne_of_beq_eq_false rfl)).trans ?_
    iterate 2 refine (up_ne (Nat.ne_of_beq_eq_false rfl)).trans ?_
    exact de_ge (Nat.le_of_ble_eq_true rfl)
  · iterate 11 refine (up_ne (Nat.ne_of_beq_eq_false rfl)).trans ?_
    refine (me_lt (Nat.le_of_ble_eq_true rfl)).trans ?_
    refine (up_ne (Nat.ne_of_beq_eq_false rfl)).trans ?_
    refine (me_lt (Nat.le_of_ble_eq_true rfl)).trans ?_
    iterate 9 refine (up_ne (Nat.ne_of_beq_eq_false rfl)).trans ?_
    refine (me_lt (Nat.le_of_ble_eq_true rfl)).trans ?_
    refine (up_ne (Nat.ne_of_beq_eq_false rfl)).trans ?_
    refine (me_lt (Nat.le_of_ble_eq_true rfl)).trans ?_
    iterate 5 refine (up_ne (Nat.ne_of_beq_eq_false rfl)).trans ?_
    refine (me_lt (Nat.le_of_ble_eq_true rfl)).trans ?_
    iterate 14 refine (up_ne (Nat.ne_of_beq_eq_false rfl)).trans ?_
    refine (de_lt (Nat.le_of_ble_eq_true rfl) (Nat.ne_of_beq_eq_false rfl)).trans ?_
    iterate 2 refine (up_ne (Nat.ne_of_beq_eq_false rfl)).trans ?_
    exact de_ge (Nat.le_of_ble_eq_true rfl)
  · iterate 11 refine (up_ne (Nat.ne_of_beq_eq_false rfl)).trans ?_
    refine (me_lt (Nat.le_of_ble_eq_true rfl)).trans ?_
    refine (up_ne (Nat.ne_of_beq_eq_false rfl)).trans ?_
    refine (me_lt (Nat.le_of_ble_eq_true rfl)).trans ?_
    iterate 9 refine (up_ne (Nat.ne_of_beq_eq_false rfl)).trans ?_
    refine (me_lt (Nat.le_of_ble_eq_true rfl)).trans ?_
    refine (up_ne (Nat.ne_of_beq_eq_false rfl)).trans ?_
    refine (me_lt (Nat.le_of_ble_eq_true rfl)).trans ?_
    iterate 5 refine (up_ne (Nat.ne_of_beq_eq_false rfl)).trans ?_
    refine (me_lt (Nat.le_of_ble_eq_true rfl)).trans ?_
    iterate 14 refine (up_ne (Nat.ne_of_beq_eq_false rfl)).trans ?_
    refine (de_lt (Nat.le_of_ble_eq_true rfl) (Nat.ne_of_beq_eq_false rfl)).trans ?_
    iterate 2 refine (up_ne (Nat.ne_of_beq_eq_false rfl)).trans ?_
    exact de_ge (Nat.le_of_ble_eq_true rfl)
  · iterate 11 refine (up_ne (Nat.ne_of_beq_eq_false rfl)).trans ?_
    refine (me_lt (Nat.le_of_ble_eq_true rfl)).trans ?_
    refine (up_ne (Nat.ne_of_beq_eq_false rfl)).trans ?_
    refine (me_lt (Nat.le_of_ble_eq_true rfl)).trans ?_
    iterate 9 refine (up_ne (Nat.ne_of_beq_eq_false rfl)).trans ?_
    refine (me_lt (Nat.le_of_ble_eq_true rfl)).trans ?_
    refine (up_ne (Nat.ne_of_beq_eq_false rfl)).trans ?_
    refine (me_lt (Nat.le_of_ble_eq_true rfl)).trans ?_
    iterate 5 refine (up_ne (Nat.ne_of_beq_eq_false rfl)).trans ?_
    refine (me_lt (Nat.le_of_ble_eq_true rfl)).trans ?_
    iterate 14 refine (up_ne (Nat.ne_of_beq_eq_false rfl)).trans ?_
    refine (de_lt (Nat.le_of_ble_eq_true rfl) (Nat.ne_of_beq_eq_false rfl)).trans ?_
    iterate 2 refine (up_ne (Nat.ne_of_beq_eq_false rfl)).trans ?_
    exact de_ge (Nat.le_of_ble_eq_true rfl)
  · iterate 11 refine (up_ne (Nat.ne_of_beq_eq_false rfl)).trans ?_
    refine (me_lt (Nat.le_of_ble_eq_true rfl)).trans ?_
    refine (up_ne (Nat.ne_of_beq_eq_false rfl)).trans ?_
    refine (me_lt (Nat.le_of_ble_eq_true rfl)).trans ?_
    iterate 9 refine (up_ne (Nat.ne_of_beq_eq_false rfl)).trans ?_
    refine (me_lt (Nat.le_of_ble_eq_true rfl)).trans ?_
    refine (up_ne (Nat.ne_of_beq_eq_false rfl)).trans ?_
    refine (me_lt (Nat.le_of_ble_eq_true rfl)).trans ?_
    iterate 5 refine (up_ne (Nat.ne_of_beq_eq_false rfl)).trans ?_
    refine (me_lt (Nat.le_of_ble_eq_true rfl)).trans ?_
    iterate 14 refine (up_ne (Nat.ne_of_beq_eq_false rfl)).trans ?_
    exact de_obj (Nat.le_of_ble_eq_true rfl)
  · iterate 11 refine (up_ne (Nat.ne_of_beq_eq_false rfl)).trans ?_
    refine (me_lt (Nat.le_of_ble_eq_true rfl)).trans ?_
    refine (up_ne (Nat.ne_of_beq_eq_false rfl)).trans ?_
    refine (me_lt (Nat.le_of_ble_eq_true rfl)).trans ?_
    iterate 9 refine (up_ne (Nat.ne_of_beq_eq_false rfl)).trans ?_
    refine (me_lt (Nat.le_of_ble_eq_true rfl)).trans ?_
    refine (up_ne (Nat.ne_of_beq_eq_false rfl)).trans ?_
    refine (me_lt (Nat.le_of_ble_eq_true rfl)).trans ?_
    iterate 5 refine (up_ne (Nat.ne_of_beq_eq_false rfl)).trans ?_
    refine (me_lt (Nat.le_of_ble_eq_true rfl)).trans ?_
    iterate 14 refine (up_ne (Nat.ne_of_beq_eq_false rfl)).trans ?_
    exact de_ge (Nat.le_of_ble_eq_true rfl)
  · iterate 11 refine (up_ne (Nat.ne_of_beq_eq_false rfl)).trans ?_
    refine (me_lt (Nat.le_of_ble_eq_true rfl)).trans ?_
    refine (up_ne (Nat.ne_of_beq_eq_false rfl)).trans ?_
    refine (me_lt (Nat.le_of_ble_eq_true rfl)).trans ?_
    iterate 9 refine (up_ne (Nat.ne_of_beq_eq_false rfl)).trans ?_
    refine (me_lt (Nat.le_of_ble_eq_true rfl)).trans ?_
    refine (up_ne (Nat.ne_of_beq_eq_false rfl)).trans ?_
    refine (me_lt (Nat.le_of_ble_eq_true rfl)).trans ?_
    iterate 5 refine (up_ne (Nat.ne_of_beq_eq_false rfl)).trans ?_
    refine (me_lt (Nat.le_of_ble_eq_true rfl)).trans ?_
    iterate 14 refine (up_ne (Nat.ne_of_beq_eq_false rfl)).trans ?_
    exact de_ge (Nat.le_of_ble_eq_true rfl)
  · iterate 11 refine (up_ne (Nat.ne_of_beq_eq_false rfl)).trans ?_
    refine (me_lt (Nat.le_of_ble_eq_true rfl)).trans ?_
    refine (up_ne (Nat.ne_of_beq_eq_false rfl)).trans ?_
    refine (me_lt (Nat.le_of_ble_eq_true rfl)).trans ?_
    iterate 9 refine (up_ne (Nat.ne_of_beq_eq_false rfl)).trans ?_
    refine (me_lt (Nat.le_of_ble_eq_true rfl)).trans ?_
    refine (up_ne (Nat.ne_of_beq_eq_false rfl)).trans ?_
    refine (me_lt (Nat.le_of_ble_eq_true rfl)).trans ?_
    iterate 5 refine (up_ne (Nat.ne_of_beq_eq_false rfl)).trans ?_
    refine (me_lt (Nat.le_of_ble_eq_true rfl)).trans ?_
    iterate 14 refine (up_ne (Nat.ne_of_beq_eq_false rfl)).trans ?_
    exact de_ge (Nat.le_of_ble_eq_true rfl)
  · iterate 11 refine (up_ne (Nat.ne_of_beq_eq_false rfl)).trans ?_
    refine (me_lt (Nat.le_of_ble_eq_true rfl)).trans ?_
    refine (up_ne (Nat.ne_of_beq_eq_false rfl)).trans ?_
    refine (me_lt (Nat.le_of_ble_eq_true rfl)).trans ?_
    iterate 9 refine (up_ne (Nat.ne_of_beq_eq_false rfl)).trans ?_
    refine (me_lt (Nat.le_of_ble_eq_true rfl)).trans ?_
    refine (up_ne (Nat.ne_of_beq_eq_false rfl)).trans ?_
    refine (me_lt (Nat.le_of_ble_eq_true rfl)).trans ?_
    iterate 5 refine (up_ne (Nat.ne_of_beq_eq_false rfl)).trans ?_
    refine (me_lt (Nat.le_of_ble_eq_true rfl)).trans ?_
    iterate 14 refine (up_ne (Nat.ne_of_beq_eq_false rfl)).trans ?_
    exact de_ge (Nat.le_of_ble_eq_true rfl)
  · iterate 11 refine (up_ne (Nat.ne_of_beq_eq_false rfl)).trans ?_
    refine (me_lt (Nat.le_of_ble_eq_true rfl)).trans ?_
    refine (up_ne (Nat.ne_of_beq_eq_false rfl)).trans ?_
    refine (me_lt (Nat.le_of_ble_eq_true rfl)).trans ?_
    iterate 9 refine (up_ne (Nat.ne_of_beq_eq_false rfl)).trans ?_
    refine (me_lt (Nat.le_of_ble_eq_true rfl)).trans ?_
    refine (up_ne (Nat.ne_of_beq_eq_false rfl)).trans ?_
    refine (me_lt (Nat.le_of_ble_eq_true rfl)).trans ?_
    iterate 5 refine (up_ne (Nat.ne_of_beq_eq_false rfl)).trans ?_
    refine (me_lt (Nat.le_of_ble_eq_true rfl)).trans ?_
    iterate 14 refine (up_ne (Nat.ne_of_beq_eq_false rfl)).trans ?_
    exact de_ge (Nat.le_of_ble_eq_true rfl)
  · iterate 11 refine (up_ne (Nat.ne_of_beq_eq_false rfl)).trans ?_
    refine (me_lt (Nat.le_of_ble_eq_true rfl)).trans ?_
    refine (up_ne (Nat.ne_of_beq_eq_false rfl)).trans ?_
    refine (me_lt (Nat.le_of_ble_eq_true rfl)).trans ?_
    iterate 9 refine (up_ne (Nat.ne_of_beq_eq_false rfl)).trans ?_
    refine (me_lt (Nat.le_of_ble_eq_true rfl)).trans ?_
    refine (up_ne (Nat.ne_of_beq_eq_false rfl)).trans ?_
    refine (me_lt (Nat.le_of_ble_eq_true rfl)).trans ?_
    iterate 5 refine (up_ne (Nat.ne_of_beq_eq_false rfl)).trans ?_
    refine (me_lt (Nat.le_of_ble_eq_true rfl)).trans ?_
    iterate 14 refine (up_ne (Nat.ne_of_beq_eq_false rfl)).trans ?_
    exact de_ge (Nat.le_of_ble_eq_true rfl)
  · iterate 11 refine (up_ne (Nat.ne_of_beq_eq_false rfl)).trans ?_
    refine (me_lt (Nat.le_of_ble_eq_true rfl)).trans ?_
    refine (up_ne (Nat.ne_of_beq_eq_false rfl)).trans ?_
    refine (me_lt (Nat.le_of_ble_eq_true rfl)).trans ?_
    iterate 9 refine (up_ne (Nat.ne_of_beq_eq_false rfl)).trans ?_
    refine (me_lt (Nat.le_of_ble_eq_true rfl)).trans ?_
    refine (up_ne (Nat.ne_of_beq_eq_false rfl)).trans ?_
    refine (me_lt (Nat.le_of_ble_eq_true rfl)).trans ?_
    iterate 5 refine (up_ne (Nat.ne_of_beq_eq_false rfl)).trans ?_
    refine (me_lt (Nat.le_of_ble_eq_true rfl)).trans ?_
    iterate 14 refine (up_ne (Nat.ne_of_beq_eq_false rfl)).trans ?_
    exact de_ge (Nat.le_of_ble_eq_true rfl)
  · iterate 7 refine (up_ne (Nat.ne_of_beq_eq_false rfl)).trans ?_
    exact up_eq
  · iterate 6 refine (up_ne (Nat.ne_of_beq_eq_false rfl)).trans ?_
    exact up_eq
  · iterate 5 refine (up_ne (Nat.ne_of_beq_eq_false rfl)).trans ?_
    exact up_eq
  · iterate 4 refine (up_ne (Nat.ne_of_beq_eq_false rfl)).trans ?_
    exact up_eq
  · iterate 3 refine (up_ne (Nat.ne_of_beq_eq_false rfl)).trans ?_
    exact up_eq
  · iterate 2 refine (up_ne (Nat.ne_of_beq_eq_false rfl)).trans ?_
    exact up_eq
  · refine (up_ne (Nat.ne_of_beq_eq_false rfl)).trans ?_
    exact up_eq
  · exact up_eq
  · iterate 11 refine (up_ne (Nat.ne_of_beq_eq_false rfl)).trans ?_
    refine (me_lt (Nat.le_of_ble_eq_true rfl)).trans ?_
    refine (up_ne (Nat.ne_of_beq_eq_false rfl)).trans ?_
    refine (me_lt (Nat.le_of_ble_eq_true rfl)).trans ?_
    iterate 9 refine (up_ne (Nat.ne_of_beq_eq_false rfl)).trans ?_
    refine (me_lt (Nat.le_of_ble_eq_true rfl)).trans ?_
    refine (up_ne (Nat.ne_of_beq_eq_false rfl)).trans ?_
    refine (me_lt (Nat.le_of_ble_eq_true rfl)).trans ?_
    iterate 5 refine (up_ne (Nat.ne_of_beq_eq_false rfl)).trans ?_
    refine (me_lt (Nat.le_of_ble_eq_true rfl)).trans ?_
    iterate 14 refine (up_ne (Nat.ne_of_beq_eq_false rfl)).trans ?_
    refine (de_lt (Nat.le_of_ble_eq_true rfl) (Nat.ne_of_beq_eq_false rfl)).trans ?_
    iterate 2 refine (up_ne (Nat.ne_of_beq_eq_false rfl)).trans ?_
    refine (de_lt (Nat.le_of_ble_eq_true rfl) (Nat.ne_of_beq_eq_false rfl)).trans ?_
    iterate 2 refine (up_ne (Nat.ne_of_beq_eq_false rfl)).trans ?_
    refine (de_lt (Nat.le_of_ble_eq_true rfl) (Nat.ne_of_beq_eq_false rfl)).trans ?_
    iterate 2 refine (up_ne (Nat.ne_of_beq_eq_false rfl)).trans ?_
    refine (de_lt (Nat.le_of_ble_eq_true rfl) (Nat.ne_of_beq_eq_false rfl)).trans ?_
    iterate 2 refine (up_ne (Nat.ne_of_beq_eq_false rfl)).trans ?_
    refine (de_lt (Nat.le_of_ble_eq_true rfl) (Nat.ne_of_beq_eq_false rfl)).trans ?_
    iterate 2 refine (up_ne (Nat.ne_of_beq_eq_false rfl)).trans ?_
    refine (de_lt (Nat.le_of_ble_eq_true rfl) (Nat.ne_of_beq_eq_false rfl)).trans ?_
    iterate 2 refine (up_ne (Nat.ne_of_beq_eq_false rfl)).trans ?_
    refine (de_lt (Nat.le_of_ble_eq_true rfl) (Nat.ne_of_beq_eq_false rfl)).trans ?_
    iterate 2 refine (up_ne (Nat.ne_of_beq_eq_false rfl)).trans ?_
    refine (de_lt (Nat.le_of_ble_eq_true rfl) (Nat.ne_of_beq_eq_false rfl)).trans ?_
    iterate 3 refine (up_ne (Nat.ne_of_beq_eq_false rfl)).trans ?_
    refine (de_lt (Nat.le_of_ble_eq_true rfl) (Nat.ne_of_beq_eq_false rfl)).trans ?_
    iterate 2 refine (up_ne (Nat.ne_of_beq_eq_false rfl)).trans ?_
    refine (de_lt (Nat.le_of_ble_eq_true rfl) (Nat.ne_of_beq_eq_false rfl)).trans ?_
    iterate 16 refine (up_ne (Nat.ne_of_beq_eq_false rfl)).trans ?_
    exact te_obj (Nat.le_of_ble_eq_true rfl)
  · iterate 11 refine (up_ne (Nat.ne_of_beq_eq_false rfl)).trans ?_
    refine (me_lt (Nat.le_of_ble_eq_true rfl)).trans ?_
    refine (up_ne (Nat.ne_of_beq_eq_false rfl)).trans ?_
    refine (me_lt (Nat.le_of_ble_eq_true rfl)).trans ?_
    iterate 9 refine (up_ne (Nat.ne_of_beq_eq_false rfl)).trans ?_
    refine (me_lt (Nat.le_of_ble_eq_true rfl)).trans ?_
    refine (up_ne (Nat.ne_of_beq_eq_false rfl)).trans ?_
    refine (me_lt (Nat.le_of_ble_eq_true rfl)).trans ?_
    iterate 5 refine (up_ne (Nat.ne_of_beq_eq_false rfl)).trans ?_
    refine (me_lt (Nat.le_of_ble_eq_true rfl)).trans ?_
    iterate 14 refine (up_ne (Nat.ne_of_beq_eq_false rfl)).trans ?_
    refine (de_lt (Nat.le_of_ble_eq_true rfl) (Nat.ne_of_beq_eq_false rfl)).trans ?_
    iterate 2 refine (up_ne (Nat.ne_of_beq_eq_false rfl)).trans ?_
    refine (de_lt (Nat.le_of_ble_eq_true rfl) (Nat.ne_of_beq_eq_false rfl)).trans ?_
    iterate 2 refine (up_ne (Nat.ne_of_beq_eq_false rfl)).trans ?_
    refine (de_lt (Nat.le_of_ble_eq_true rfl) (Nat.ne_of_beq_eq_false rfl)).trans ?_
    iterate 2 refine (up_ne (Nat.ne_of_beq_eq_false rfl)).trans ?_
    refine (de_lt (Nat.le_of_ble_eq_true rfl) (Nat.ne_of_beq_eq_false rfl)).trans ?_
    iterate 2 refine (up_ne (Nat.ne_of_beq_eq_false rfl)).trans ?_
    refine (de_lt (Nat.le_of_ble_eq_true rfl) (Nat.ne_of_beq_eq_false rfl)).trans ?_
    iterate 2 refine (up_ne (Nat.ne_of_beq_eq_false rfl)).trans ?_
    refine (de_lt (Nat.le_of_ble_eq_true rfl) (Nat.ne_of_beq_eq_false rfl)).trans ?_
    iterate 2 refine (up_ne (Nat.ne_of_beq_eq_false rfl)).trans ?_
    refine (de_lt (Nat.le_of_ble_eq_true rfl) (Nat.ne_of_beq_eq_false rfl)).trans ?_
    iterate 2 refine (up_ne (Nat.ne_of_beq_eq_false rfl)).trans ?_
    refine (de_lt (Nat.le_of_ble_eq_true rfl) (Nat.ne_of_beq_eq_false rfl)).trans ?_
    iterate 3 refine (up_ne (Nat.ne_of_beq_eq_false rfl)).trans ?_
    refine (de_lt (Nat.le_of_ble_eq_true rfl) (Nat.ne_of_beq_eq_false rfl)).trans ?_
    iterate 2 refine (up_ne (Nat.ne_of_beq_eq_false rfl)).trans ?_
    refine (de_lt (Nat.le_of_ble_eq_true rfl) (Nat.ne_of_beq_eq_false rfl)).trans ?_
    iterate 16 refine (up_ne (Nat.ne_of_beq_eq_false rfl)).trans ?_
    exact te_ge (Nat.le_of_ble_eq_true rfl)
  · iterate 11 refine (up_ne (Nat.ne_of_beq_eq_false rfl)).trans ?_
    refine (me_lt (Nat.le_of_ble_eq_true rfl)).trans ?_
    refine (up_ne (Nat.ne_of_beq_eq_false rfl)).trans ?_
    refine (me_lt (Nat.le_of_ble_eq_true rfl)).trans ?_
    iterate 9 refine (up_ne (Nat.ne_of_beq_eq_false rfl)).trans ?_
    refine (me_lt (Nat.le_of_ble_eq_true rfl)).trans ?_
    refine (up_ne (Nat.ne_of_beq_eq_false rfl)).trans ?_
    refine (me_lt (Nat.le_of_ble_eq_true rfl)).trans ?_
    iterate 5 refine (up_ne (Nat.ne_of_beq_eq_false rfl)).trans ?_
    refine (me_lt (Nat.le_of_ble_eq_true rfl)).trans ?_
    iterate 14 refine (up_ne (Nat.ne_of_beq_eq_false rfl)).trans ?_
    refine (de_lt (Nat.le_of_ble_eq_true rfl) (Nat.ne_of_beq_eq_false rfl)).trans ?_
    iterate 2 refine (up_ne (Nat.ne_of_beq_eq_false rfl)).trans ?_
    refine (de_lt (Nat.le_of_ble_eq_true rfl) (Nat.ne_of_beq_eq_false rfl)).trans ?_
    iterate 2 refine (up_ne (Nat.ne_of_beq_eq_false rfl)).trans ?_
    refine (de_lt (Nat.le_of_ble_eq_true rfl) (Nat.ne_of_beq_eq_false rfl)).trans ?_
    iterate 2 refine (up_ne (Nat.ne_of_beq_eq_false rfl)).trans ?_
    refine (de_lt (Nat.le_of_ble_eq_true rfl) (Nat.ne_of_beq_eq_false rfl)).trans ?_
    iterate 2 refine (up_ne (Nat.ne_of_beq_eq_false rfl)).trans ?_
    refine (de_lt (Nat.le_of_ble_eq_true rfl) (Nat.ne_of_beq_eq_false rfl)).trans ?_
    iterate 2 refine (up_ne (Nat.ne_of_beq_eq_false rfl)).trans ?_
    refine (de_lt (Nat.le_of_ble_eq_true rfl) (Nat.ne_of_beq_eq_false rfl)).trans ?_
    iterate 2 refine (up_ne (Nat.ne_of_beq_eq_false rfl)).trans ?_
    refine (de_lt (Nat.le_of_ble_eq_true rfl) (Nat.ne_of_beq_eq_false rfl)).trans ?_
    iterate 2 refine (up_ne (Nat.ne_of_beq_eq_false rfl)).trans ?_
    refine (de_lt (Nat.le_of_ble_eq_true rfl) (Nat.ne_of_beq_eq_false rfl)).trans ?_
    iterate 3 refine (up_ne (Nat.ne_of_beq_eq_false rfl)).trans ?_
    refine (de_lt (Nat.le_of_ble_eq_true rfl) (Nat.ne_of_beq_eq_false rfl)).trans ?_
    iterate 2 refine (up_ne (Nat.ne_of_beq_eq_false rfl)).trans ?_
    refine (de_lt (Nat.le_of_ble_eq_true rfl) (Nat.ne_of_beq_eq_false rfl)).trans ?_
    iterate 16 refine (up_ne (Nat.ne_of_beq_eq_false rfl)).trans ?_
    exact te_ge (Nat.le_of_ble_eq_true rfl)
  · intro j hj
    iterate 11 refine (up_ne (by omega)).trans ?_
    refine (me_lt (by omega)).trans ?_
    refine (up_ne (by omega)).trans ?_
    refine (me_lt (by omega)).trans ?_
    iterate 9 refine (up_ne (by omega)).trans ?_
    refine (me_lt (by omega)).trans ?_
    refine (up_ne (by omega)).trans ?_
    refine (me_lt (by omega)).trans ?_
    iterate 5 refine (up_ne (by omega)).trans ?_
    exact me_gt (by omega)
  · intro j hj
    iterate 11 refine (up_ne (by omega)).trans ?_
    refine (me_lt (by omega)).trans ?_
    refine (up_ne (by omega)).trans ?_
    exact me_gt (by omega)
  · intro j hj
    iterate 11 refine (up_ne (by omega)).trans ?_
    refine (me_lt (by omega)).trans ?_
    refine (up_ne (by omega)).trans ?_
    refine (me_lt (by omega)).trans ?_
    iterate 9 refine (up_ne (by omega)).trans ?_
    exact me_gt (by omega)
  · intro j hj
    iterate 11 refine (up_ne (by omega)).trans ?_
    exact me_gt (by omega)
  · intro j hj
    refine (up_ne (by omega)).trans ?_
    refine (mq_lt (by omega)).trans ?_
    refine (mq_lt (by omega)).trans ?_
    iterate 4 refine (up_ne (by omega)).trans ?_
    refine (mq_lt (by omega)).trans ?_
    refine (mq_lt (by omega)).trans ?_
    iterate 2 refine (up_ne (by omega)).trans ?_
    exact (mq_gt (by omega)).trans (by omega)
  · intro j hj
    refine (up_ne (by omega)).trans ?_
    refine (mq_lt (by omega)).trans ?_
    exact (mq_gt (by omega)).trans (by omega)
  · intro j hj
    refine (up_ne (by omega)).trans ?_
    refine (mq_lt (by omega)).trans ?_
    refine (mq_lt (by omega)).trans ?_
    iterate 4 refine (up_ne (by omega)).trans ?_
    exact (mq_gt (by omega)).trans (by omega)
  · intro j hj
    refine (up_ne (by omega)).trans ?_
    exact (mq_gt (by omega)).trans (by omega)
  · intro j hj
    refine (up_ne (by omega)).trans ?_
    refine (mq_lt (by omega)).trans ?_
    refine (mq_lt (by omega)).trans ?_
    iterate 4 refine (up_ne (by omega)).trans ?_
    refine (mq_lt (by omega)).trans ?_
    exact (mq_gt (by omega)).trans (by omega)
theorem w_ct {l : Launch} {g : Gam} {th : Nat} : Cg (c0 tCfg) g l yX3_init cX3_init 2 none { frames := 2, cells := 17, slots := 8534, locals := 20 } [.ref th] (cS 1 (fun _ => th) (fun _ => .inr (0, [.null, .null, .null, .int 0, .int 0, .null, .null, .null, .null, .null, .int 0, .int 0, .int 0, .int 0, .int 0, .int 0, .int 0, .int 0, .int 0, .int 0, .int 0, .int 0, .null, .null, .int 0, .null, .null, .null, .null, .int 0, .int 0, .null, .null, .long 0, .long 0, .null]))) (fun (_ : Unit) σ' => tEnd g th σ') (fun _ => none) := by
  refine Cg_of pn_X3 (Nat.le_of_ble_eq_true rfl) (fun A X C E hX hcz hsz hin hAO => ?_)
  show TG (c0 tCfg) g A 2 X 0 0 _ 0 [(0, .ref th)] []
  refine g_aload_n C dX3_init_0 0 rfl ?_
  refine g_objInit C q1024 (Nat.le_of_ble_eq_true rfl) (Nat.le_of_ble_eq_true rfl) (Nat.le_of_ble_eq_true rfl) dX3_init_1 ?_
  refine g_aload_n C dX3_init_4 0 rfl ?_
  refine g_sipush C dX3_init_5 ks_1480 ?_
  refine g_cnewI (N' := 1480) C rfl (by decide) rfl (by decide) (Nat.le_trans (Nat.le_of_ble_eq_true rfl) hcz) (Nat.le_trans (Nat.le_of_ble_eq_true rfl) hsz) dX3_init_8 (fun a0 => ?_)
  refine g_cputF (i := 0) (fs' := [.ref a0, .null, .null, .int 0, .int 0, .null, .null, .null, .null, .null, .int 0, .int 0, .int 0, .int 0, .int 0, .int 0, .int 0, .int 0, .int 0, .int 0, .int 0, .int 0, .null, .null, .int 0, .null, .null, .null, .null, .int 0, .int 0, .null, .null, .long 0, .long 0, .null]) C (hin rfl) pFX3_7 (Nat.le_of_ble_eq_true rfl) rfl rfl (Nat.le_of_ble_eq_true rfl) rfl rfl rfl dX3_init_10 ?_
  refine g_aload_n C dX3_init_13 0 rfl ?_
  refine g_sipush C dX3_init_14 ks_1480 ?_
  refine g_cnewI (N' := 1480) C rfl (by decide) rfl (by decide) (Nat.le_trans (Nat.le_of_ble_eq_true rfl) hcz) (Nat.le_trans (Nat.le_of_ble_eq_true rfl) hsz) dX3_init_17 (fun a1 => ?_)
  refine g_cputF (i := 0) (fs' := [.ref a0, .ref a1, .null, .int 0, .int 0, .null, .null, .null, .null, .null, .int 0, .int 0, .int 0, .int 0, .int 0, .int 0, .int 0, .int 0, .int 0, .int 0, .int 0, .int 0, .null, .null, .int 0, .null, .null, .null, .null, .int 0, .int 0, .null, .null, .long 0, .long 0, .null]) C (hin rfl) pFX3_13 (Nat.le_of_ble_eq_true rfl) rfl rfl (Nat.le_of_ble_eq_true rfl) rfl rfl rfl dX3_init_19 ?_
  refine g_aload_n C dX3_init_22 0 rfl ?_
  refine g_sipush C dX3_init_23 ks_1440 ?_
  refine g_cnewI (N' := 1440) C rfl (by decide) rfl (by decide) (Nat.le_trans (Nat.le_of_ble_eq_true rfl) hcz) (Nat.le_trans (Nat.le_of_ble_eq_true rfl) hsz) dX3_init_26 (fun a2 => ?_)
  refine g_cputF (i := 0) (fs' := [.ref a0, .ref a1, .ref a2, .int 0, .int 0, .null, .null, .null, .null, .null, .int 0, .int 0, .int 0, .int 0, .int 0, .int 0, .int 0, .int 0, .int 0, .int 0, .int 0, .int 0, .null, .null, .int 0, .null, .null, .null, .null, .int 0, .int 0, .null, .null, .long 0, .long 0, .null]) C (hin rfl) pFX3_16 (Nat.le_of_ble_eq_true rfl) rfl rfl (Nat.le_of_ble_eq_true rfl) rfl rfl rfl dX3_init_28 ?_
  refine g_aload_n C dX3_init_31 0 rfl ?_
  refine g_bipush C dX3_init_32 kb_48 ?_
  refine g_cnewI (N' := 48) C rfl (by decide) rfl (by decide) (Nat.le_trans (Nat.le_of_ble_eq_true rfl) hcz) (Nat.le_trans (Nat.le_of_ble_eq_true rfl) hsz) dX3_init_34 (fun a3 => ?_)
  refine g_cputF (i := 0) (fs' := [.ref a0, .ref a1, .ref a2, .int 0, .int 0, .ref a3, .null, .null, .null, .null, .int 0, .int 0, .int 0, .int 0, .int 0, .int 0, .int 0, .int 0, .int 0, .int 0, .int 0, .int 0, .null, .null, .int 0, .null, .null, .null, .null, .int 0, .int 0, .null, .null, .long 0, .long 0, .null]) C (hin rfl) pFX3_19 (Nat.le_of_ble_eq_true rfl) rfl rfl (Nat.le_of_ble_eq_true rfl) rfl rfl rfl dX3_init_36 ?_
  refine g_aload_n C dX3_init_39 0 rfl ?_
  refine g_sipush C dX3_init_40 ks_820 ?_
  refine g_cnewI (N' := 820) C rfl (by decide) rfl (by decide) (Nat.le_trans (Nat.le_of_ble_eq_true rfl) hcz) (Nat.le_trans (Nat.le_of_ble_eq_true rfl) hsz) dX3_init_43 (fun a4 => ?_)
  refine g_cputF (i := 0) (fs' := [.ref a0, .ref a1, .ref a2, .int 0, .int 0, .ref a3, .ref a4, .null, .null, .null, .int 0, .int 0, .int 0, .int 0, .int 0, .int 0, .int 0, .int 0, .int 0, .int 0, .int 0, .int 0, .null, .null, .int 0, .null, .null, .null, .null, .int 0, .int 0, .null, .null, .long 0, .long 0, .null]) C (hin rfl) pFX3_22 (Nat.le_of_ble_eq_true rfl) rfl rfl (Nat.le_of_ble_eq_true rfl) rfl rfl rfl dX3_init_45 ?_
  refine g_aload_n C dX3_init_48 0 rfl ?_
  refine g_sipush C dX3_init_49 ks_400 ?_
  refine g_cnewI (N' := 400) C rfl (by decide) rfl (by decide) (Nat.le_trans (Nat.le_of_ble_eq_true rfl) hcz) (Nat.le_trans (Nat.le_of_ble_eq_true rfl) hsz) dX3_init_52 (fun a5 => ?_)
  refine g_cputF (i := 0) (fs' := [.ref a0, .ref a1, .ref a2, .int 0, .int 0, .ref a3, .ref a4, .ref a5, .null, .null, .int 0, .int 0, .int 0, .int 0, .int 0, .int 0, .int 0, .int 0, .int 0, .int 0, .int 0, .int 0, .null, .null, .int 0, .null, .null, .null, .null, .int 0, .int 0, .null, .null, .long 0, .long 0, .null]) C (hin rfl) pFX3_25 (Nat.le_of_ble_eq_true rfl) rfl rfl (Nat.le_of_ble_eq_true rfl) rfl rfl rfl dX3_init_54 ?_
  refine g_aload_n C dX3_init_57 0 rfl ?_
  refine g_sipush C dX3_init_58 ks_420 ?_
  refine g_cnewI (N' := 420) C rfl (by decide) rfl (by decide) (Nat.le_trans (Nat.le_of_ble_eq_true rfl) hcz) (Nat.le_trans (Nat.le_of_ble_eq_true rfl) hsz) dX3_init_61 (fun a6 => ?_)
  refine g_cputF (i := 0) (fs' := [.ref a0, .ref a1, .ref a2, .int 0, .int 0, .ref a3, .ref a4, .ref a5, .ref a6, .null, .int 0, .int 0, .int 0, .int 0, .int 0, .int 0, .int 0, .int 0, .int 0, .int 0, .int 0, .int 0, .null, .null, .int 0, .null, .null, .null, .null, .int 0, .int 0, .null, .null, .long 0, .long 0, .null]) C (hin rfl) pFX3_28 (Nat.le_of_ble_eq_true rfl) rfl rfl (Nat.le_of_ble_eq_true rfl) rfl rfl rfl dX3_init_63 ?_
  refine g_aload_n C dX3_init_66 0 rfl ?_
  refine g_bipush C dX3_init_67 kb_11 ?_
  refine g_cnewI (N' := 11) C rfl (by decide) rfl (by decide) (Nat.le_trans (Nat.le_of_ble_eq_true rfl) hcz) (Nat.le_trans (Nat.le_of_ble_eq_true rfl) hsz) dX3_init_69 (fun a7 => ?_)
  refine g_cputF (i := 0) (fs' := [.ref a0, .ref a1, .ref a2, .int 0, .int 0, .ref a3, .ref a4, .ref a5, .ref a6, .ref a7, .int 0, .int 0, .int 0, .int 0, .int 0, .int 0, .int 0, .int 0, .int 0, .int 0, .int 0, .int 0, .null, .null, .int 0, .null, .null, .null, .null, .int 0, .int 0, .null, .null, .long 0, .long 0, .null]) C (hin rfl) pFX3_31 (Nat.le_of_ble_eq_true rfl) rfl rfl (Nat.le_of_ble_eq_true rfl) rfl rfl rfl dX3_init_71 ?_
  refine g_aload_n C dX3_init_74 0 rfl ?_
  refine g_iconst C dX3_init_75 kc_m1 ?_
  refine g_cput (i := 0) (fs' := [.ref a0, .ref a1, .ref a2, .int 0, .int 0, .ref a3, .ref a4, .ref a5, .ref a6, .ref a7, .int 0, .int 0, .int 0, .int 0, .int 0, .int 0, .int 0, .int 0, .int 0, .int 0, .int 0, .int (-1 : Int32), .null, .null, .int 0, .null, .null, .null, .null, .int 0, .int 0, .null, .null, .long 0, .long 0, .null]) C pX3_34 (Nat.le_of_ble_eq_true rfl) rfl rfl (Nat.le_of_ble_eq_true rfl) rfl rfl rfl dX3_init_76 ?_
  refine g_aload_n C dX3_init_79 0 rfl ?_
  refine g_bipush C dX3_init_80 kb_9 ?_
  refine g_cnewI (N' := 9) C rfl (by decide) rfl (by decide) (Nat.le_trans (Nat.le_of_ble_eq_true rfl) hcz) (Nat.le_trans (Nat.le_of_ble_eq_true rfl) hsz) dX3_init_82 (fun a8 => ?_)
  refine g_cputF (i := 0) (fs' := [.ref a0, .ref a1, .ref a2, .int 0, .int 0, .ref a3, .ref a4, .ref a5, .ref a6, .ref a7, .int 0, .int 0, .int 0, .int 0, .int 0, .int 0, .int 0, .int 0, .int 0, .int 0, .int 0, .int (-1 : Int32), .ref a8, .null, .int 0, .null, .null, .null, .null, .int 0, .int 0, .null, .null, .long 0, .long 0, .null]) C (hin rfl) pFX3_38 (Nat.le_of_ble_eq_true rfl) rfl rfl (Nat.le_of_ble_eq_true rfl) rfl rfl rfl dX3_init_84 ?_
  refine g_aload_n C dX3_init_87 0 rfl ?_
  refine g_bipush C dX3_init_88 kb_9 ?_
  refine g_cnewI (N' := 9) C rfl (by decide) rfl (by decide) (Nat.le_trans (Nat.le_of_ble_eq_true rfl) hcz) (Nat.le_trans (Nat.le_of_ble_eq_true rfl) hsz) dX3_init_90 (fun a9 => ?_)
  refine g_cputF (i := 0) (fs' := [.ref a0, .ref a1, .ref a2, .int 0, .int 0, .ref a3, .ref a4, .ref a5, .ref a6, .ref a7, .int 0, .int 0, .int 0, .int 0, .int 0, .int 0, .int 0, .int 0, .int 0, .int 0, .int 0, .int (-1 : Int32), .ref a8, .ref a9, .int 0, .null, .null, .null, .null, .int 0, .int 0, .null, .null, .long 0, .long 0, .null]) C (hin rfl) pFX3_41 (Nat.le_of_ble_eq_true rfl) rfl rfl (Nat.le_of_ble_eq_true rfl) rfl rfl rfl dX3_init_92 ?_
  refine g_aload_n C dX3_init_95 0 rfl ?_
  refine g_bipush C dX3_init_96 kb_9 ?_
  refine g_cnewI (N' := 9) C rfl (by decide) rfl (by decide) (Nat.le_trans (Nat.le_of_ble_eq_true rfl) hcz) (Nat.le_trans (Nat.le_of_ble_eq_true rfl) hsz) dX3_init_98 (fun a10 => ?_)
  refine g_cputF (i := 0) (fs' := [.ref a0, .ref a1, .ref a2, .int 0, .int 0, .ref a3, .ref a4, .ref a5, .ref a6, .ref a7, .int 0, .int 0, .int 0, .int 0, .int 0, .int 0, .int 0, .int 0, .int 0, .int 0, .int 0, .int (-1 : Int32), .ref a8, .ref a9, .int 0, .ref a10, .null, .null, .null, .int 0, .int 0, .null, .null, .long 0, .long 0, .null]) C (hin rfl) pFX3_44 (Nat.le_of_ble_eq_true rfl) rfl rfl (Nat.le_of_ble_eq_true rfl) rfl rfl rfl dX3_init_100 ?_
  refine g_aload_n C dX3_init_103 0 rfl ?_
  refine g_bipush C dX3_init_104 kb_9 ?_
  refine g_cnewI (N' := 9) C rfl (by decide) rfl (by decide) (Nat.le_trans (Nat.le_of_ble_eq_true rfl) hcz) (Nat.le_trans (Nat.le_of_ble_eq_true rfl) hsz) dX3_init_106 (fun a11 => ?_)
  refine g_cputF (i := 0) (fs' := [.ref a0, .ref a1, .ref a2, .int 0, .int 0, .ref a3, .ref a4, .ref a5, .ref a6, .ref a7, .int 0, .int 0, .int 0, .int 0, .int 0, .int 0, .int 0, .int 0, .int 0, .int 0, .int 0, .int (-1 : Int32), .ref a8, .ref a9, .int 0, .ref a10, .ref a11, .null, .null, .int 0, .int 0, .null, .null, .long 0, .long 0, .null]) C (hin rfl) pFX3_47 (Nat.le_of_ble_eq_true rfl) rfl rfl (Nat.le_of_ble_eq_true rfl) rfl rfl rfl dX3_init_108 ?_
  refine g_aload_n C dX3_init_111 0 rfl ?_
  refine g_bipush C dX3_init_112 kb_9 ?_
  refine g_cnewI (N' := 9) C rfl (by decide) rfl (by decide) (Nat.le_trans (Nat.le_of_ble_eq_true rfl) hcz) (Nat.le_trans (Nat.le_of_ble_eq_true rfl) hsz) dX3_init_114 (fun a12 => ?_)
  refine g_cputF (i := 0) (fs' := [.ref a0, .ref a1, .ref a2, .int 0, .int 0, .ref a3, .ref a4, .ref a5, .ref a6, .ref a7, .int 0, .int 0, .int 0, .int 0, .int 0, .int 0, .int 0, .int 0, .int 0, .int 0, .int 0, .int (-1 : Int32), .ref a8, .ref a9, .int 0, .ref a10, .ref a11, .ref a12, .null, .int 0, .int 0, .null, .null, .long 0, .long 0, .null]) C (hin rfl) pFX3_50 (Nat.le_of_ble_eq_true rfl) rfl rfl (Nat.le_of_ble_eq_true rfl) rfl rfl rfl dX3_init_116 ?_
  refine g_aload_n C dX3_init_119 0 rfl ?_
  refine g_bipush C dX3_init_120 kb_9 ?_
  refine g_cnewI (N' := 9) C rfl (by decide) rfl (by decide) (Nat.le_trans (Nat.le_of_ble_eq_true rfl) hcz) (Nat.le_trans (Nat.le_of_ble_eq_true rfl) hsz) dX3_init_122 (fun a13 => ?_)
  refine g_cputF (i := 0) (fs' := [.ref a0, .ref a1, .ref a2, .int 0, .int 0, .ref a3, .ref a4, .ref a5, .ref a6, .ref a7, .int 0, .int 0, .int 0, .int 0, .int 0, .int 0, .int 0, .int 0, .int 0, .int 0, .int 0, .int (-1 : Int32), .ref a8, .ref a9, .int 0, .ref a10, .ref a11, .ref a12, .ref a13, .int 0, .int 0, .null, .null, .long 0, .long 0, .null]) C (hin rfl) pFX3_53 (Nat.le_of_ble_eq_true rfl) rfl rfl (Nat.le_of_ble_eq_true rfl) rfl rfl rfl dX3_init_124 ?_
  refine g_aload_n C dX3_init_127 0 rfl ?_
  refine g_sipush C dX3_init_128 ks_1809 ?_
  refine g_cnewI (N' := 1809) C rfl (by decide) rfl (by decide) (Nat.le_trans (Nat.le_of_ble_eq_true rfl) hcz) (Nat.le_trans (Nat.le_of_ble_eq_true rfl) hsz) dX3_init_131 (fun a14 => ?_)
  refine g_cputF (i := 0) (fs' := [.ref a0, .ref a1, .ref a2, .int 0, .int 0, .ref a3, .ref a4, .ref a5, .ref a6, .ref a7, .int 0, .int 0, .int 0, .int 0, .int 0, .int 0, .int 0, .int 0, .int 0, .int 0, .int 0, .int (-1 : Int32), .ref a8, .ref a9, .int 0, .ref a10, .ref a11, .ref a12, .ref a13, .int 0, .int 0, .ref a14, .null, .long 0, .long 0, .null]) C (hin rfl) pFX3_56 (Nat.le_of_ble_eq_true rfl) rfl rfl (Nat.le_of_ble_eq_true rfl) rfl rfl rfl dX3_init_133 ?_
  refine g_aload_n C dX3_init_136 0 rfl ?_
  refine g_bipush C dX3_init_137 kb_60 ?_
  refine g_cnewJ (N' := 60) C rfl (by decide) rfl (by decide) (Nat.le_trans (Nat.le_of_ble_eq_true rfl) hcz) (Nat.le_trans (Nat.le_of_ble_eq_true rfl) hsz) dX3_init_139 (fun a15 => ?_)
  refine g_cputF (i := 0) (fs' := [.ref a0, .ref a1, .ref a2, .int 0, .int 0, .ref a3, .ref a4, .ref a5, .ref a6, .ref a7, .int 0, .int 0, .int 0, .int 0, .int 0, .int 0, .int 0, .int 0, .int 0, .int 0, .int 0, .int (-1 : Int32), .ref a8, .ref a9, .int 0, .ref a10, .ref a11, .ref a12, .ref a13, .int 0, .int 0, .ref a14, .ref a15, .long 0, .long 0, .null]) C (hin rfl) pFX3_59 (Nat.le_of_ble_eq_true rfl) rfl rfl (Nat.le_of_ble_eq_true rfl) rfl rfl rfl dX3_init_141 ?_
  refine g_aload_n C dX3_init_144 0 rfl ?_
  refine g_sipush C dX3_init_145 ks_512 ?_
  refine g_cnewI (N' := 512) C rfl (by decide) rfl (by decide) (Nat.le_trans (Nat.le_of_ble_eq_true rfl) hcz) (Nat.le_trans (Nat.le_of_ble_eq_true rfl) hsz) dX3_init_148 (fun a16 => ?_)
  refine g_cputF (i := 0) (fs' := [.ref a0, .ref a1, .ref a2, .int 0, .int 0, .ref a3, .ref a4, .ref a5, .ref a6, .ref a7, .int 0, .int 0, .int 0, .int 0, .int 0, .int 0, .int 0, .int 0, .int 0, .int 0, .int 0, .int (-1 : Int32), .ref a8, .ref a9, .int 0, .ref a10, .ref a11, .ref a12, .ref a13, .int 0, .int 0, .ref a14, .ref a15, .long 0, .long 0, .ref a16]) C (hin rfl) pFX3_63 (Nat.le_of_ble_eq_true rfl) rfl rfl (Nat.le_of_ble_eq_true rfl) rfl rfl rfl dX3_init_150 ?_
  refine g_aload_n C dX3_init_153 0 rfl ?_
  refine g_cget (i := 0) (v := .ref a0) C fX3_7 (Nat.le_of_ble_eq_true rfl) rfl rfl rfl dX3_init_154 ?_
  refine g_iconst C dX3_init_157 kc_0 ?_
  refine g_bipush C dX3_init_158 kb_10 ?_
  refine g_ciast (i := 1) C rfl (Nat.le_of_ble_eq_true rfl) rfl rfl (by decide) dX3_init_160 ?_
  refine g_aload_n C dX3_init_161 0 rfl ?_
  refine g_cget (i := 0) (v := .ref a0) C fX3_7 (Nat.le_of_ble_eq_true rfl) rfl rfl rfl dX3_init_162 ?_
  refine g_iconst C dX3_init_165 kc_1 ?_
  refine g_iconst C dX3_init_166 kc_1 ?_
  refine g_ciast (i := 1) C rfl (Nat.le_of_ble_eq_true rfl) rfl rfl (by decide) dX3_init_167 ?_
  refine g_aload_n C dX3_init_168 0 rfl ?_
  refine g_cget (i := 0) (v := .ref a0) C fX3_7 (Nat.le_of_ble_eq_true rfl) rfl rfl rfl dX3_init_169 ?_
  refine g_iconst C dX3_init_172 kc_2 ?_
  refine g_iconst C dX3_init_173 kc_1 ?_
  refine g_ciast (i := 1) C rfl (Nat.le_of_ble_eq_true rfl) rfl rfl (by decide) dX3_init_174 ?_
  refine g_aload_n C dX3_init_175 0 rfl ?_
  refine g_cget (i := 0) (v := .ref a0) C fX3_7 (Nat.le_of_ble_eq_true rfl) rfl rfl rfl dX3_init_176 ?_
  refine g_bipush C dX3_init_179 kb_9 ?_
  refine g_iconst C dX3_init_181 kc_m1 ?_
  refine g_ciast (i := 1) C rfl (Nat.le_of_ble_eq_true rfl) rfl rfl (by decide) dX3_init_182 ?_
  refine g_iconst C dX3_init_183 kc_0 ?_
  refine g_istore_n (i := 1) (lv' := [(1, .int (0 : Int32)), (0, .ref th)]) C dX3_init_184 rfl rfl (by decide) rfl ?_
  refine g_iload_n C dX3_init_185 0 rfl ?_
  refine g_bipush C dX3_init_186 kb_8 ?_
  refine g_icmp_ge 212 C dX3_init_188 rfl (fun h => absurd h (by decide)) (fun _ => ?_)
  refine g_aload_n C dX3_init_191 1 rfl ?_
  refine g_cget (i := 0) (v := .ref a0) C fX3_7 (Nat.le_of_ble_eq_true rfl) rfl rfl rfl dX3_init_192 ?_
  refine g_sipush C dX3_init_195 ks_270 ?_
  refine g_bipush C dX3_init_198 kb_9 ?_
  refine g_iload_n C dX3_init_200 0 rfl ?_
  refine g_imul C dX3_init_201 ?_
  refine g_iadd C dX3_init_202 ?_
  refine g_bipush C dX3_init_203 kb_9 ?_
  refine g_ciast (i := 1) C rfl (Nat.le_of_ble_eq_true rfl) rfl rfl (by decide) dX3_init_205 ?_
  refine g_iinc (lv' := [(1, .int (1 : Int32)), (0, .ref th)]) C dX3_init_206 (q := 0) rfl kc_1 (by decide) rfl ?_
  refine g_goto 185 C dX3_init_209 rfl ?_
  refine g_iload_n C dX3_init_185 0 rfl ?_
  refine g_bipush C dX3_init_186 kb_8 ?_
  refine g_icmp_ge 212 C dX3_init_188 rfl (fun h => absurd h (by decide)) (fun _ => ?_)
  refine g_aload_n C dX3_init_191 1 rfl ?_
  refine g_cget (i := 0) (v := .ref a0) C fX3_7 (Nat.le_of_ble_eq_true rfl) rfl rfl rfl dX3_init_192 ?_
  refine g_sipush C dX3_init_195 ks_270 ?_
  refine g_bipush C dX3_init_198 kb_9 ?_
  refine g_iload_n C dX3_init_200 0 rfl ?_
  refine g_imul C dX3_init_201 ?_
  refine g_iadd C dX3_init_202 ?_
  refine g_bipush C dX3_init_203 kb_9 ?_
  refine g_ciast (i := 1) C rfl (Nat.le_of_ble_eq_true rfl) rfl rfl (by decide) dX3_init_205 ?_
  refine g_iinc (lv' := [(1, .int (2 : Int32)), (0, .ref th)]) C dX3_init_206 (q := 0) rfl kc_1 (by decide) rfl ?_
  refine g_goto 185 C dX3_init_209 rfl ?_
  refine g_iload_n C dX3_init_185 0 rfl ?_
  refine g_bipush C dX3_init_186 kb_8 ?_
  refine g_icmp_ge 212 C dX3_init_188 rfl (fun h => absurd h (by decide)) (fun _ => ?_)
  refine g_aload_n C dX3_init_191 1 rfl ?_
  refine g_cget (i := 0) (v := .ref a0) C fX3_7 (Nat.le_of_ble_eq_true rfl) rfl rfl rfl dX3_init_192 ?_
  refine g_sipush C dX3_init_195 ks_270 ?_
  refine g_bipush C dX3_init_198 kb_9 ?_
  refine g_iload_n C dX3_init_200 0 rfl ?_
  refine g_imul C dX3_init_201 ?_
  refine g_iadd C dX3_init_202 ?_
  refine g_bipush C dX3_init_203 kb_9 ?_
  refine g_ciast (i := 1) C rfl (Nat.le_of_ble_eq_true rfl) rfl rfl (by decide) dX3_init_205 ?_
  refine g_iinc (lv' := [(1, .int (3 : Int32)), (0, .ref th)]) C dX3_init_206 (q := 0) rfl kc_1 (by decide) rfl ?_
  refine g_goto 185 C dX3_init_209 rfl ?_
  refine g_iload_n C dX3_init_185 0 rfl ?_
  refine g_bipush C dX3_init_186 kb_8 ?_
  refine g_icmp_ge 212 C dX3_init_188 rfl (fun h => absurd h (by decide)) (fun _ => ?_)
  refine g_aload_n C dX3_init_191 1 rfl ?_
  refine g_cget (i := 0) (v := .ref a0) C fX3_7 (Nat.le_of_ble_eq_true rfl) rfl rfl rfl dX3_init_192 ?_
  refine g_sipush C dX3_init_195 ks_270 ?_
  refine g_bipush C dX3_init_198 kb_9 ?_
  refine g_iload_n C dX3_init_200 0 rfl ?_
  refine g_imul C dX3_init_201 ?_
  refine g_iadd C dX3_init_202 ?_
  refine g_bipush C dX3_init_203 kb_9 ?_
  refine g_ciast (i := 1) C rfl (Nat.le_of_ble_eq_true rfl) rfl rfl (by decide) dX3_init_205 ?_
  refine g_iinc (lv' := [(1, .int (4 : Int32)), (0, .ref th)]) C dX3_init_206 (q := 0) rfl kc_1 (by decide) rfl ?_
  refine g_goto 185 C dX3_init_209 rfl ?_
  refine g_iload_n C dX3_init_185 0 rfl ?_
  refine g_bipush C dX3_init_186 kb_8 ?_
  refine g_icmp_ge 212 C dX3_init_188 rfl (fun h => absurd h (by decide)) (fun _ => ?_)
  refine g_aload_n C dX3_init_191 1 rfl ?_
  refine g_cget (i := 0) (v := .ref a0) C fX3_7 (Nat.le_of_ble_eq_true rfl) rfl rfl rfl dX3_init_192 ?_
  refine g_sipush C dX3_init_195 ks_270 ?_
  refine g_bipush C dX3_init_198 kb_9 ?_
  refine g_iload_n C dX3_init_200 0 rfl ?_
  refine g_imul C dX3_init_201 ?_
  refine g_iadd C dX3_init_202 ?_
  refine g_bipush C dX3_init_203 kb_9 ?_
  refine g_ciast (i := 1) C rfl (Nat.le_of_ble_eq_true rfl) rfl rfl (by decide) dX3_init_205 ?_
  refine g_iinc (lv' := [(1, .int (5 : Int32)), (0, .ref th)]) C dX3_init_206 (q := 0) rfl kc_1 (by decide) rfl ?_
  refine g_goto 185 C dX3_init_209 rfl ?_
  refine g_iload_n C dX3_init_185 0 rfl ?_
  refine g_bipush C dX3_init_186 kb_8 ?_
  refine g_icmp_ge 212 C dX3_init_188 rfl (fun h => absurd h (by decide)) (fun _ => ?_)
  refine g_aload_n C dX3_init_191 1 rfl ?_
  refine g_cget (i := 0) (v := .ref a0) C fX3_7 (Nat.le_of_ble_eq_true rfl) rfl rfl rfl dX3_init_192 ?_
  refine g_sipush C dX3_init_195 ks_270 ?_
  refine g_bipush C dX3_init_198 kb_9 ?_
  refine g_iload_n C dX3_init_200 0 rfl ?_
  refine g_imul C dX3_init_201 ?_
  refine g_iadd C dX3_init_202 ?_
  refine g_bipush C dX3_init_203 kb_9 ?_
  refine g_ciast (i := 1) C rfl (Nat.le_of_ble_eq_true rfl) rfl rfl (by decide) dX3_init_205 ?_
  refine g_iinc (lv' := [(1, .int (6 : Int32)), (0, .ref th)]) C dX3_init_206 (q := 0) rfl kc_1 (by decide) rfl ?_
  refine g_goto 185 C dX3_init_209 rfl ?_
  refine g_iload_n C dX3_init_185 0 rfl ?_
  refine g_bipush C dX3_init_186 kb_8 ?_
  refine g_icmp_ge 212 C dX3_init_188 rfl (fun h => absurd h (by decide)) (fun _ => ?_)
  refine g_aload_n C dX3_init_191 1 rfl ?_
  refine g_cget (i := 0) (v := .ref a0) C fX3_7 (Nat.le_of_ble_eq_true rfl) rfl rfl rfl dX3_init_192 ?_
  refine g_sipush C dX3_init_195 ks_270 ?_
  refine g_bipush C dX3_init_198 kb_9 ?_
  refine g_iload_n C dX3_init_200 0 rfl ?_
  refine g_imul C dX3_init_201 ?_
  refine g_iadd C dX3_init_202 ?_
  refine g_bipush C dX3_init_203 kb_9 ?_
  refine g_ciast (i := 1) C rfl (Nat.le_of_ble_eq_true rfl) rfl rfl (by decide) dX3_init_205 ?_
  refine g_iinc (lv' := [(1, .int (7 : Int32)), (0, .ref th)]) C dX3_init_206 (q := 0) rfl kc_1 (by decide) rfl ?_
  refine g_goto 185 C dX3_init_209 rfl ?_
  refine g_iload_n C dX3_init_185 0 rfl ?_
  refine g_bipush C dX3_init_186 kb_8 ?_
  refine g_icmp_ge 212 C dX3_init_188 rfl (fun h => absurd h (by decide)) (fun _ => ?_)
  refine g_aload_n C dX3_init_191 1 rfl ?_
  refine g_cget (i := 0) (v := .ref a0) C fX3_7 (Nat.le_of_ble_eq_true rfl) rfl rfl rfl dX3_init_192 ?_
  refine g_sipush C dX3_init_195 ks_270 ?_
  refine g_bipush C dX3_init_198 kb_9 ?_
  refine g_iload_n C dX3_init_200 0 rfl ?_
  refine g_imul C dX3_init_201 ?_
  refine g_iadd C dX3_init_202 ?_
  refine g_bipush C dX3_init_203 kb_9 ?_
  refine g_ciast (i := 1) C rfl (Nat.le_of_ble_eq_true rfl) rfl rfl (by decide) dX3_init_205 ?_
  refine g_iinc (lv' := [(1, .int (8 : Int32)), (0, .ref th)]) C dX3_init_206 (q := 0) rfl kc_1 (by decide) rfl ?_
  refine g_goto 185 C dX3_init_209 rfl ?_
  refine g_iload_n C dX3_init_185 0 rfl ?_
  refine g_bipush C dX3_init_186 kb_8 ?_
  refine g_icmp_ge 212 C dX3_init_188 rfl (fun _ => ?_) (fun h => absurd (by decide) h)
  refine g_wretv (r := ()) C E rfl ?_ (Nat.le_trans (Nat.le_of_ble_eq_true rfl) hcz) (Nat.le_trans (Nat.le_of_ble_eq_true rfl) hsz) dX3_init_212
  refine ⟨_, _, rfl, rfl, ?_⟩
  refine ⟨rfl, ?_⟩
  refine ⟨rfl, ?_⟩
  refine ⟨rfl, ?_⟩
  refine ⟨rfl, ?_⟩
  refine ⟨rfl, ?_⟩
  refine ⟨rfl, ?_⟩
  refine ⟨rfl, ?_⟩
  refine ⟨rfl, ?_⟩
  refine ⟨rfl, ?_⟩
  refine ⟨rfl, ?_⟩
  refine ⟨rfl, ?_⟩
  refine ⟨rfl, ?_⟩
  refine ⟨rfl, ?_⟩
  refine ⟨rfl, ?_⟩
  refine ⟨rfl, ?_⟩
  refine ⟨rfl, ?_⟩
  refine ⟨rfl, ?_⟩
  exact rfl
