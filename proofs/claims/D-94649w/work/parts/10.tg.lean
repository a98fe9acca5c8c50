/-! MY KIT: a program's static objects by codes, their numbers in one store; TG: the goal of a walk at a pc, over any heap that holds the store -/
set_option maxRecDepth 100000
abbrev Sto : Type := (Nat → Nat → Int32) × (Nat → Nat → Int64) × (Nat → Nat → Option Nat) × va_W
/-- number of static cells; cell by code: kind, length or class, more; field tags by class; targets of final references; classes; array types -/
abbrev Cfg : Type := Nat × (Nat → Nat × Nat × Nat) × (Nat → List Nat) × (Nat → Nat → Nat) × List vw_C × List FieldType
/-- addresses by code; array classes by type number; class numbers; Strings, their bytes, enum constants -/
abbrev Gam : Type := (Nat → Nat) × (Nat → ClassId) × va_G × (Nat → Nat) × (Nat → Nat) × (Nat → Nat)
/-- the constants' world: String constants, the enum, statics that nobody writes, words of the tables that don't ride in the lists -/
def kLen : List Nat := [5, 4, 4, 5, 5, 4, 5, 4, 5, 3, 4, 4, 2, 3, 3, 10]
def kByt : List (List Int32) := [[119, 111, 114, 116, 104], [115, 105, 122, 101], [110, 101, 101, 100], [100, 111, 117, 103, 104], [98, 114, 101, 97, 100], [119, 111, 111, 100], [102, 105, 114, 115, 116], [115, 111, 117, 114], [104, 111, 117, 115, 101], [100, 97, 121], [111, 119, 101, 115], [119, 104, 101, 110], [111, 114], [97, 110, 100], [110, 111, 116], [59, 43, 45, 42, 47, 40, 41, 60, 61, 62]]
def kStr : List (String × Nat × String × Nat) := [("DoughDebts", 15, "worth", 0), ("DoughDebts", 21, "size", 1), ("DoughDebts", 23, "need", 2), ("DoughDebts", 25, "dough", 3), ("DoughDebts", 27, "bread", 4), ("DoughDebts", 29, "wood", 5), ("DoughDebts", 31, "first", 6), ("DoughDebts", 33, "sour", 7), ("DoughDebts", 35, "house", 8), ("DoughDebts", 37, "day", 9), ("DoughDebts", 39, "owes", 10), ("DoughDebts", 44, "when", 11), ("DoughDebts", 46, "or", 12), ("DoughDebts", 48, "and", 13), ("DoughDebts", 50, "not", 14), ("DoughDebts", 228, ";+-*/()<=>", 15), ("DoughDebtsModel", 118, "when", 11), ("DoughDebtsModel", 120, "or", 12), ("DoughDebtsModel", 122, "and", 13), ("DoughDebtsModel", 124, "not", 14), ("DoughDebtsModel", 126, "worth", 0), ("DoughDebtsModel", 94, "size", 1), ("DoughDebtsModel", 100, "need", 2), ("DoughDebtsModel", 102, "dough", 3), ("DoughDebtsModel", 104, "bread", 4), ("DoughDebtsModel", 106, "wood", 5), ("DoughDebtsModel", 108, "first", 6), ("DoughDebtsModel", 110, "sour", 7), ("DoughDebtsModel", 112, "house", 8), ("DoughDebtsModel", 114, "day", 9), ("DoughDebtsModel", 116, "owes", 10)]
def kNm : List String := ["END", "NONE", "WORD", "NUMBER", "SIGN"]
def kM : List (String × Nat × MethodName × String) := [("DoughDebts", 61, ⟨"DoughDebts$Text", "<init>", "()V"⟩, "DoughDebts"), ("DoughDebts", 81, ⟨"DoughDebts$Days", "<init>", "()V"⟩, "DoughDebts"), ("DoughDebts$Not", 1, ⟨"DoughDebts$Term", "<init>", "()V"⟩, "DoughDebts"), ("DoughDebts$Days", 49, ⟨"DoughDebts", "copies", "([I[I)V"⟩, "DoughDebts"), ("DoughDebts$Number", 1, ⟨"DoughDebts$Term", "<init>", "()V"⟩, "DoughDebts"), ("DoughDebts$Word", 1, ⟨"DoughDebts$Term", "<init>", "()V"⟩, "DoughDebts"), ("DoughDebts$Two", 1, ⟨"DoughDebts$Term", "<init>", "()V"⟩, "DoughDebts")]
def kC : List (String × String) := [("DoughDebts$Fault", "DoughDebts$Fault"), ("DoughDebts$Not", "DoughDebts$Term"), ("DoughDebts$Number", "DoughDebts$Term"), ("DoughDebts$Two", "DoughDebts$Term"), ("DoughDebts$Word", "DoughDebts$Term"), ("[B", "java/lang/Cloneable")]
def kD : List MethodName := [⟨"java/lang/Throwable", "<init>", "()V"⟩, ⟨"java/lang/Throwable", "<init>", "(Ljava/lang/String;)V"⟩, ⟨"java/lang/Exception", "<init>", "()V"⟩, ⟨"java/lang/Exception", "<init>", "(Ljava/lang/String;)V"⟩, ⟨"DoughDebts$Term", "of", "([I)I"⟩]
def kO : List String := ["java/lang/String", "DoughDebts$Term", "DoughDebts$House", "DoughDebts$Days", "DoughDebts$Leaven"]
def kZq : List (String × String × String) := [("jdk/internal/util/Preconditions", "SIOOBE_FORMATTER", "Ljava/util/function/BiFunction;"), ("java/lang/Throwable", "UNASSIGNED_STACK", "[Ljava/lang/StackTraceElement;"), ("java/lang/Throwable", "SUPPRESSED_SENTINEL", "Ljava/util/List;")]
def KC (g : Gam) (A : Nat → Prop) (U : State) (H : Heap) : Prop :=
  vk_S 16 kLen kByt g.2.2.2.1 g.2.2.2.2.1 A U H ∧ (∀ q ∈ kStr, vk_R q.1 q.2.1 q.2.2.1 (g.2.2.2.1 q.2.2.2) U) ∧ va_En "DoughDebts$Token" "LDoughDebts$Token;" kNm [] g.2.2.2.2.2 A U H ∧
  (∀ q ∈ kM, va_Nw (.methodLinkNest q.1 q.2.1 q.2.2.1 q.2.2.2) U) ∧ (∀ q ∈ kC, va_Nw (.castable q.1 q.2) U) ∧ (∀ y ∈ kD, va_Nw (.declares y) U) ∧ (∀ C ∈ kO, va_AO C U) ∧ va_Z "java/lang/String" "COMPACT_STRINGS" "Z" (.int 1) A U H ∧ (∀ q ∈ kZq, va_Zq q.1 q.2.1 q.2.2 A U H)
theorem KC.same {g : Gam} {A : Nat → Prop} {u U : State} {H : Heap} (hv : U.vm = u.vm) (h : KC g A u H) : KC g A U H := by
  obtain ⟨h1, h2, h3, h4, h5, h6, h7, h8, h9⟩ := h
  have ha : u.vm.Alike U.vm := by rw [hv]; exact Vm.Alike.refl _
  exact ⟨vk_S.moved ha h1, fun q hq => vk_R.same hv (h2 q hq), va_En.moved ha h3, fun q hq => va_Nw.same rfl hv.symm (h4 q hq), fun q hq => va_Nw.same rfl hv.symm (h5 q hq), fun q hq => va_Nw.same rfl hv.symm (h6 q hq), fun q hq => va_AO.moved ha (h7 q hq), va_Z.moved ha h8, fun q hq => va_Zq.moved ha (h9 q hq)⟩
theorem KC.call {g : Gam} {A B : Nat → Prop} {s U : State} {H : Heap} {locs : List Loc} (h : KC g A s s.heap) (hS : va_S A s.heap H locs) (hAB : ∀ q, B q → A q) (hU : U.heap = H) (hW : s.WarmedH U.vm) : KC g B U U.heap := by
  subst hU
  obtain ⟨h1, h2, h3, h4, h5, h6, h7, h8, h9⟩ := h
  have ha := hW.alike
  exact ⟨vk_S.moved ha ((h1.kept hS.2.1).narrow hAB), fun q hq => vk_R.warm hW (h2 q hq), va_En.moved ha ((h3.kept hS.2.1).narrow hAB), fun q hq => va_Nw.warmM hW (h4 q hq), fun q hq => va_Nw.warmC hW (h5 q hq), fun q hq => va_Nw.warmD hW (h6 q hq), fun q hq => va_AO.moved ha (h7 q hq), va_Z.moved ha ((h8.kept hS.2.1).narrow hAB), fun q hq => va_Zq.moved ha (((h9 q hq).kept hS.2.1).narrow hAB)⟩
/-- an enum's constant, or null, by a number -/
def eV (g : Gam) (v : Int32) : Value := if v = 0 then .null else .ref (g.2.2.2.2.2 (v.toNatClampNeg - 1))
def fV (cf : Cfg) (g : Gam) (σ : Sto) (k j t : Nat) : Value := match t with
  | 0 => .int (σ.1 k j)
  | 1 => .long (σ.2.1 k j)
  | 2 => .ref (g.1 (cf.2.2.2.1 k j))
  | 3 => va_rf (σ.2.2.1 k j)
  | _ => eV g (σ.1 k j)
def fL (cf : Cfg) (g : Gam) (σ : Sto) (k ci : Nat) : List Value := (List.range (cf.2.2.1 ci).length).map (fun j => fV cf g σ k j ((cf.2.2.1 ci).getD j 0))
def cE (cf : Cfg) (g : Gam) (σ : Sto) (k : Nat) : va_E := match (cf.2.1 k).1 with
  | 0 => .inl (g.2.1 0, (cf.2.1 k).2.1, .inl (σ.1 k))
  | 1 => .inl (g.2.1 1, (cf.2.1 k).2.1, .inl (σ.1 k))
  | 2 => .inl (g.2.1 2, (cf.2.1 k).2.1, .inr (.inl (σ.2.1 k)))
  | 3 => .inl (g.2.1 (cf.2.1 k).2.2, (cf.2.1 k).2.1, .inr (.inr (.inr (.inr (σ.2.2.1 k)))))
  | 4 => .inr ((cf.2.1 k).2.1, fL cf g σ k (cf.2.1 k).2.1)
  | 6 => .inl (g.2.1 4, (cf.2.1 k).2.1, .inr (.inr (.inr (.inr (fun j => some (g.2.2.2.1 ((cf.2.1 k).2.2 + j)))))))
  | 7 => .inl (g.2.1 (cf.2.1 k).2.2, (cf.2.1 k).2.1, .inr (.inr (.inr (.inr (fun j => some (g.1 (σ.1 k j).toNatClampNeg))))))
  | _ => .inl (g.2.1 3, (cf.2.1 k).2.1, .inr (.inr (.inr (.inr (fun j => some (g.1 ((cf.2.1 k).2.2 + j)))))))
/-- a pool's cell: array classes by type numbers -/
def pE (g : Gam) (e : va_E) : va_E := match e with
  | .inl x => .inl (g.2.1 x.1, x.2)
  | .inr o => .inr o
def pC (g : Gam) (q : Nat × va_E) : Nat × va_E := (q.1, pE g q.2)
def wS (cf : Cfg) (g : Gam) (σ : Sto) : va_W := (List.range cf.1).map (fun k => (g.1 k, cE cf g σ k)) ++ σ.2.2.2.map (pC g)
def tyl (cf : Cfg) (g : Gam) : List (ClassId × FieldType) := (List.range cf.2.2.2.2.2.length).map (fun t => (g.2.1 t, cf.2.2.2.2.2.getD t .int))
theorem tyl_at {cf : Cfg} {g : Gam} {t : Nat} {ty : FieldType} (h : cf.2.2.2.2.2[t]? = some ty) : (tyl cf g)[t]? = some (g.2.1 t, ty) := by
  have hl := (List.getElem?_eq_some_iff.mp h).1
  unfold tyl
  rw [List.getElem?_map, List.getElem?_range hl]
  simp [List.getD, h]
theorem wS_at {cf : Cfg} {g : Gam} {σ : Sto} {k : Nat} (hk : k < cf.1) : (wS cf g σ)[k]? = some (g.1 k, cE cf g σ k) := by
  unfold wS
  rw [List.getElem?_append_left (by simpa using hk), List.getElem?_map, List.getElem?_range hk]
  rfl
theorem wS_pool {cf : Cfg} {g : Gam} {σ : Sto} {k : Nat} (hk : cf.1 ≤ k) : (wS cf g σ)[k]? = (σ.2.2.2[k - cf.1]?).map (pC g) := by
  unfold wS
  rw [List.getElem?_append_right (by simpa using hk)]
  simp
theorem wS_set {cf : Cfg} {g : Gam} {σ σ' : Sto} {k : Nat} (hk : k < cf.1) (hP : σ'.2.2.2 = σ.2.2.2) (hE : ∀ j, j ≠ k → cE cf g σ' j = cE cf g σ j) : (wS cf g σ).set k (g.1 k, cE cf g σ' k) = wS cf g σ' := by
  apply List.ext_getElem?
  intro j
  by_cases hj : k = j
  · subst hj
    rw [List.getElem?_set_self (List.getElem?_eq_some_iff.mp (wS_at hk)).1, wS_at hk]
  · rw [List.getElem?_set_ne hj]
    by_cases hjN : j < cf.1
    · rw [wS_at hjN, wS_at hjN, hE j (Ne.symm hj)]
    · rw [wS_pool (by omega), wS_pool (by omega), hP]
theorem fL_at {cf : Cfg} {g : Gam} {σ : Sto} {k ci j t : Nat} (h : (cf.2.2.1 ci)[j]? = some t) : (fL cf g σ k ci)[j]? = some (fV cf g σ k j t) := by
  have hl := (List.getElem?_eq_some_iff.mp h).1
  unfold fL
  rw [List.getElem?_map, List.getElem?_range hl]
  simp [List.getD, h]
theorem fL_len {cf : Cfg} {g : Gam} {σ : Sto} {k ci : Nat} : (fL cf g σ k ci).length = (cf.2.2.1 ci).length := by simp [fL]
theorem fL_set {cf : Cfg} {g : Gam} {σ σ' : Sto} {k ci j t : Nat} (h : (cf.2.2.1 ci)[j]? = some t) (hE : ∀ i u, i ≠ j → fV cf g σ' k i u = fV cf g σ k i u) : (fL cf g σ k ci).set j (fV cf g σ' k j t) = fL cf g σ' k ci := by
  have hl := (List.getElem?_eq_some_iff.mp h).1
  apply List.ext_getElem?
  intro i
  by_cases hi : j = i
  · subst hi
    rw [List.getElem?_set_self (by rw [fL_len]; exact hl), fL_at h]
  · rw [List.getElem?_set_ne hi]
    by_cases hil : i < (cf.2.2.1 ci).length
    · obtain ⟨u, hu⟩ : ∃ u, (cf.2.2.1 ci)[i]? = some u := ⟨_, List.getElem?_eq_getElem hil⟩
      rw [fL_at hu, fL_at hu, hE i u (Ne.symm hi)]
    · rw [List.getElem?_eq_none (by rw [fL_len]; omega), List.getElem?_eq_none (by rw [fL_len]; omega)]
def sI (σ : Sto) (k j : Nat) (v : Int32) : Sto := (fun a b => if a = k ∧ b = j then v else σ.1 a b, σ.2)
def sL (σ : Sto) (k j : Nat) (v : Int64) : Sto := (σ.1, fun a b => if a = k ∧ b = j then v else σ.2.1 a b, σ.2.2)
def sR (σ : Sto) (k j : Nat) (v : Option Nat) : Sto := (σ.1, σ.2.1, fun a b => if a = k ∧ b = j then v else σ.2.2.1 a b, σ.2.2.2)
theorem cE_of {cf : Cfg} {g : Gam} {σ σ' : Sto} {k : Nat} (h1 : σ'.1 k = σ.1 k) (h2 : σ'.2.1 k = σ.2.1 k) (h3 : σ'.2.2.1 k = σ.2.2.1 k) : cE cf g σ' k = cE cf g σ k := by
  simp only [cE, fL, fV, h1, h2, h3]
theorem sI_ne {σ : Sto} {k j a : Nat} {v : Int32} (h : a ≠ k) : (sI σ k j v).1 a = σ.1 a := by
  funext b
  simp [sI, h]
theorem sL_ne {σ : Sto} {k j a : Nat} {v : Int64} (h : a ≠ k) : (sL σ k j v).2.1 a = σ.2.1 a := by
  funext b
  simp [sL, h]
theorem sR_ne {σ : Sto} {k j a : Nat} {v : Option Nat} (h : a ≠ k) : (sR σ k j v).2.2.1 a = σ.2.2.1 a := by
  funext b
  simp [sR, h]
theorem cE_sI {cf : Cfg} {g : Gam} {σ : Sto} {k j : Nat} {v : Int32} (a : Nat) (h : a ≠ k) : cE cf g (sI σ k j v) a = cE cf g σ a := cE_of (sI_ne h) rfl rfl
theorem cE_sL {cf : Cfg} {g : Gam} {σ : Sto} {k j : Nat} {v : Int64} (a : Nat) (h : a ≠ k) : cE cf g (sL σ k j v) a = cE cf g σ a := cE_of rfl (sL_ne h) rfl
theorem cE_sR {cf : Cfg} {g : Gam} {σ : Sto} {k j : Nat} {v : Option Nat} (a : Nat) (h : a ≠ k) : cE cf g (sR σ k j v) a = cE cf g σ a := cE_of rfl rfl (sR_ne h)
/-- numbers of the pure functions -/
def rd (σ : Sto) (k : Nat) (i : Int32) : Int32 := σ.1 k i.toNatClampNeg
def wr (σ : Sto) (k : Nat) (i v : Int32) : Sto := sI σ k i.toNatClampNeg v
def rdL (σ : Sto) (k : Nat) (i : Int32) : Int64 := σ.2.1 k i.toNatClampNeg
def wrL (σ : Sto) (k : Nat) (i : Int32) (v : Int64) : Sto := sL σ k i.toNatClampNeg v
def rdR (σ : Sto) (k : Nat) (i : Int32) : Option Nat := σ.2.2.1 k i.toNatClampNeg
def wrR (σ : Sto) (k : Nat) (i : Int32) (v : Option Nat) : Sto := sR σ k i.toNatClampNeg v
def inb (i : Int32) (n : Nat) : Bool := !(decide (i < 0) || decide (n ≤ i.toNatClampNeg))
theorem inb_in {i : Int32} {n : Nat} (h : inb i n = true) : vp_in i n := by
  unfold inb at h
  unfold vp_in
  simp only [Bool.not_eq_true', Bool.or_eq_false_iff, decide_eq_false_iff_not] at h
  exact fun q => q.elim h.1 h.2
def bI (b : Bool) : Int32 := if b = true then 1 else 0
theorem bI_nar (b : Bool) : narrow .boolean (.int (bI b)) = .int (bI b) := by cases b <;> decide
def irem (x y : Int32) : Int32 := x - x / y * y
def lrem (x y : Int64) : Int64 := x - x / y * y
def ishl (x y : Int32) : Int32 := x <<< (y &&& 31)
def ishr (x y : Int32) : Int32 := x >>> (y &&& 31)
def iushr (x y : Int32) : Int32 := (x.toUInt32 >>> (y.toUInt32 &&& Int32.toUInt32 31)).toInt32
def lshl (x : Int64) (y : Int32) : Int64 := x <<< (y.toInt64 &&& 63)
def lshr (x : Int64) (y : Int32) : Int64 := x >>> (y.toInt64 &&& 63)
def i2b (x : Int32) : Int32 := x.toInt8.toInt32
def i2c (x : Int32) : Int32 := (x.toUInt32 % 65536).toInt32
/-- combinators of the pure functions, and what a walk reads out of them -/
def gd {α : Type} (b : Bool) (k : Option α) : Option α := if b = true then k else none
def bd {α β γ : Type} (o : Option (α × β)) (k : α → β → Option γ) : Option γ := match o with
  | none => none
  | some x => k x.1 x.2
def vl {α β : Type} (v : α) (k : α → β) : β := k v
def nn {β : Type} (r : Option Nat) (k : Nat → Option β) : Option β := match r with
  | none => none
  | some a => k a
theorem gd_n {α : Type} {b : Bool} {k : Option α} {x : α} {P : Prop} (hf : gd b k = some x) (h : b = true → k = some x → P) : P := by
  unfold gd at hf
  by_cases hb : b = true
  · rw [if_pos hb] at hf
    exact h hb hf
  · rw [if_neg hb] at hf
    cases hf
theorem bd_n {α β γ : Type} {o : Option (α × β)} {k : α → β → Option γ} {x : γ} {P : Prop} (hf : bd o k = some x) (h : ∀ (r : α) (z : β), o = some (r, z) → k r z = some x → P) : P := by
  cases o with
  | none => cases hf
  | some y => exact h y.1 y.2 rfl hf
theorem vl_n {α β : Type} {v : α} {k : α → β} {x : β} {P : Prop} (hf : vl v k = x) (h : ∀ z, z = v → k z = x → P) : P := h v rfl hf
theorem nn_n {β : Type} {r : Option Nat} {k : Nat → Option β} {x : β} {P : Prop} (hf : nn r k = some x) (h : ∀ a, r = some a → k a = some x → P) : P := by
  cases r with
  | none => cases hf
  | some a => exact h a rfl hf
theorem if_t {α : Sort _} {c : Prop} {dc : Decidable c} {a b x : α} (h : c) (hf : (@ite α c dc a b) = x) : a = x := by rw [if_pos h] at hf; exact hf
theorem if_f {α : Sort _} {c : Prop} {dc : Decidable c} {a b x : α} (h : ¬ c) (hf : (@ite α c dc a b) = x) : b = x := by rw [if_neg h] at hf; exact hf
abbrev FX : Type := Program × Launch × Env × Room × State × MethodId × Array Value × List Frame × Method × Code × (State → Prop)
/-- a walk's fixed facts -/
def CX (cf : Cfg) (g : Gam) (A : Nat → Prop) (nL : Nat) (X : FX) (cc : ByteArray) (own : String) (ret : Option FieldType) (F Lc : Nat) : Prop := match X with
  | (p, _, _, R, s, m, args, _, meth, c, _) => p.tables.exec = Jvm.exec ∧ c.code = cc ∧ meth.sig.returnType = ret ∧ meth.locks = false ∧ c.maxLocals = nL ∧ s.vm.findClass own = some m.cls ∧ (∀ w ∈ lw_all, w.before args s = true) ∧ va_K g.2.2.1 cf.2.2.2.2.1 (tyl cf g) s ∧ (∀ q, s.heap.size ≤ q → A q) ∧ F ≤ R.frames ∧ Lc ≤ R.locals ∧ KC g A s s.heap
/-- the goal at a pc -/
def TG (cf : Cfg) (g : Gam) (A : Nat → Prop) (nL : Nat) (X : FX) (cells slots : Nat) (σ : Sto) (pc : Nat) (lv : List (Nat × Value)) (st : List Value) : Prop := match X with
  | (p, l, e, R, s, m, args, below, meth, c, Q) => ∀ (H : Heap) (locs : List Loc) (ls : Array Slot), va_P g.2.2.1 cf.2.2.2.2.1 (wS cf g σ) H → va_D A (wS cf g σ) → va_S A s.heap H locs → lv_has ls nL lv → W p l e R s m args below meth c H locs cells slots Q (F0 m pc ls st)
/-- a contract's start and end: the world holds a store -/
def cP (cf : Cfg) (g : Gam) (sz : Nat) (av : List Value) (σ : Sto) : Array Value → State → Prop := va_Pc av (fun U => U.heap.size = sz ∧ va_P g.2.2.1 cf.2.2.2.2.1 (wS cf g σ) U.heap ∧ va_K g.2.2.1 cf.2.2.2.2.1 (tyl cf g) U ∧ va_D (fun _ => True) (wS cf g σ) ∧ KC g (va_A (wS cf g σ) sz) U U.heap)
def cQ (cf : Cfg) (g : Gam) (sz : Nat) (σ σ' : Sto) (rv : Option Value) : Array Value → State → Outcome → State → Prop := fun _ st oc t => (oc = .returned rv ∧ va_P g.2.2.1 cf.2.2.2.2.1 (wS cf g σ') t.heap ∧ va_D (va_A (wS cf g σ) sz) (wS cf g σ')) ∧ va_F (va_A (wS cf g σ) sz) st t
/-- method y, called with av over the store σ, answers rv over the store σ' -/
def Ct (cf : Cfg) (l : Launch) (y : MethodName) (b : ByteArray) (L : Nat) (ret : Option FieldType) (rm : Room) (av : Gam → List Value) (σ σ' : Sto) (rv : Gam → Option Value) : Prop := ∀ (g : Gam) (sz : Nat), Met l y (ws_ y b L ret) rm (cP cf g sz (av g) σ) (cQ cf g sz σ σ' (rv g)) rm.cells rm.slots (va_A (wS cf g σ) sz)
/-- a walk's end -/
def EX (cf : Cfg) (g : Gam) (A : Nat → Prop) (X : FX) (σ σ' : Sto) (rv : Option Value) (mc ms : Nat) : Prop := match X with
  | (_, _, _, R, s, _, args, below, _, _, Q) => Q = MQ below (cQ cf g s.heap.size σ σ' rv) args s mc ms (va_A (wS cf g σ) s.heap.size) ∧ A = va_A (wS cf g σ) s.heap.size ∧ R.cells = mc ∧ R.slots = ms
theorem Ct_of {cf : Cfg} {l : Launch} {y : MethodName} {b : ByteArray} {L : Nat} {ret : Option FieldType} {F Lc mc ms : Nat} {av : Gam → List Value} {σ σ' : Sto} {rv : Gam → Option Value} (hy : plainName y.cls = true) (hL : ∀ g, (lg_sl (av g)).length ≤ L)
    (body : ∀ (g : Gam) (A : Nat → Prop) (X : FX), CX cf g A L X b y.cls ret F Lc → EX cf g A X σ σ' (rv g) mc ms → X.2.1 = l → TG cf g A L X 0 0 σ 0 (lv_args 0 (av g)) []) : Ct cf l y b L ret { frames := F, cells := mc, slots := ms, locals := Lc } av σ σ' rv := by
  intro g sz
  refine Met.ofW (cc := b) (maxL := L) (ret := ret) hy rfl ?_
  intro p e s m args below meth c s₁ B hml hv
  obtain ⟨rfl, hsz, hP, hK, hD0, hKC⟩ := hv
  subst hsz
  have hts := atoms_spec (ws := ws_ y b L ret) B.pre
  have hts : ∀ w ∈ lw_all, w.before _ s = true := fun w h => hts w (List.mem_cons_of_mem _ h)
  have hD := hD0.self (sz := s.heap.size)
  have hl := lv_entry (av g) (n := L) (hL g)
  rw [lg_entry_eq]
  have K := body g (va_A (wS cf g σ) s.heap.size) (p, l, e, { frames := F, cells := mc, slots := ms, locals := Lc }, s, m, (av g).toArray, below, meth, c, MQ below (cQ cf g s.heap.size σ σ' (rv g)) (av g).toArray s mc ms (va_A (wS cf g σ) s.heap.size))
    ⟨B.exec, B.bytes, B.returns, B.notSynchronized, hml, findClass_of_methodNamed B.named, hts, hK, fun q h => Or.inr h, Nat.le_refl _, Nat.le_refl _, hKC⟩ ⟨rfl, rfl, rfl, rfl⟩ rfl
  exact K s.heap [] _ hP hD va_S.rf hl
section TG
variable {cf : Cfg} {g : Gam} {A : Nat → Prop} {nL : Nat} {X : FX} {cells slots : Nat} {σ : Sto} {pc : Nat} {lv : List (Nat × Value)} {st rest : List Value} {cc : ByteArray} {own : String} {ret : Option FieldType} {F Lc : Nat}
theorem g_sub {lv' : List (Nat × Value)} (ks : List Nat) (h : lv_pick lv ks = lv') (k : TG cf g A nL X cells slots σ pc lv' st) : TG cf g A nL X cells slots σ pc lv st := by
  obtain ⟨p, l, e, R, s, m, args, below, meth, c, Q⟩ := X
  exact fun H locs ls hP hD hS hl => k H locs ls hP hD hS (lv_sub hl ks h)
theorem g_widen {k n : Nat} (h1 : cells ≤ k) (h2 : slots ≤ n) (kk : TG cf g A nL X k n σ pc lv st) : TG cf g A nL X cells slots σ pc lv st := by
  obtain ⟨p, l, e, R, s, m, args, below, meth, c, Q⟩ := X
  exact fun H locs ls hP hD hS hl => W.widen h1 h2 (kk H locs ls hP hD hS hl)
theorem g_iadd {x y : Int32} (C : CX cf g A nL X cc own ret F Lc) (d : decode cc pc = .ok (.iadd, 1))  (k : TG cf g A nL X cells slots σ (pc + 1) lv (.int (x + y) :: rest)) : TG cf g A nL X cells slots σ pc lv (.int y :: .int x :: rest) := by
  obtain ⟨p, l, e, R, s, m, args, below, meth, c, Q⟩ := X
  obtain ⟨hx, hb, hr, hlk, hml, hown, hts, hK, hA, hF, hLc, hKC⟩ := C
  exact fun H locs ls hP hD hS hl => lv_iadd hx hb d (k H locs ls hP hD hS hl)
theorem g_isub {x y : Int32} (C : CX cf g A nL X cc own ret F Lc) (d : decode cc pc = .ok (.isub, 1))  (k : TG cf g A nL X cells slots σ (pc + 1) lv (.int (x - y) :: rest)) : TG cf g A nL X cells slots σ pc lv (.int y :: .int x :: rest) := by
  obtain ⟨p, l, e, R, s, m, args, below, meth, c, Q⟩ := X
  obtain ⟨hx, hb, hr, hlk, hml, hown, hts, hK, hA, hF, hLc, hKC⟩ := C
  exact fun H locs ls hP hD hS hl => lv_isub hx hb d (k H locs ls hP hD hS hl)
theorem g_imul {x y : Int32} (C : CX cf g A nL X cc own ret F Lc) (d : decode cc pc = .ok (.imul, 1))  (k : TG cf g A nL X cells slots σ (pc + 1) lv (.int (x * y) :: rest)) : TG cf g A nL X cells slots σ pc lv (.int y :: .int x :: rest) := by
  obtain ⟨p, l, e, R, s, m, args, below, meth, c, Q⟩ := X
  obtain ⟨hx, hb, hr, hlk, hml, hown, hts, hK, hA, hF, hLc, hKC⟩ := C
  exact fun H locs ls hP hD hS hl => lv_imul hx hb d (k H locs ls hP hD hS hl)
theorem g_iand {x y : Int32} (C : CX cf g A nL X cc own ret F Lc) (d : decode cc pc = .ok (.iand, 1))  (k : TG cf g A nL X cells slots σ (pc + 1) lv (.int (x &&& y) :: rest)) : TG cf g A nL X cells slots σ pc lv (.int y :: .int x :: rest) := by
  obtain ⟨p, l, e, R, s, m, args, below, meth, c, Q⟩ := X
  obtain ⟨hx, hb, hr, hlk, hml, hown, hts, hK, hA, hF, hLc, hKC⟩ := C
  exact fun H locs ls hP hD hS hl => lv_iand hx hb d (k H locs ls hP hD hS hl)
theorem g_ior {x y : Int32} (C : CX cf g A nL X cc own ret F Lc) (d : decode cc pc = .ok (.ior, 1))  (k : TG cf g A nL X cells slots σ (pc + 1) lv (.int (x ||| y) :: rest)) : TG cf g A nL X cells slots σ pc lv (.int y :: .int x :: rest) := by
  obtain ⟨p, l, e, R, s, m, args, below, meth, c, Q⟩ := X
  obtain ⟨hx, hb, hr, hlk, hml, hown, hts, hK, hA, hF, hLc, hKC⟩ := C
  exact fun H locs ls hP hD hS hl => lv_ior hx hb d (k H locs ls hP hD hS hl)
theorem g_ixor {x y : Int32} (C : CX cf g A nL X cc own ret F Lc) (d : decode cc pc = .ok (.ixor, 1))  (k : TG cf g A nL X cells slots σ (pc + 1) lv (.int (x ^^^ y) :: rest)) : TG cf g A nL X cells slots σ pc lv (.int y :: .int x :: rest) := by
  obtain ⟨p, l, e, R, s, m, args, below, meth, c, Q⟩ := X
  obtain ⟨hx, hb, hr, hlk, hml, hown, hts, hK, hA, hF, hLc, hKC⟩ := C
  exact fun H locs ls hP hD hS hl => lv_ixor hx hb d (k H locs ls hP hD hS hl)
theorem g_ladd {x y : Int64} (C : CX cf g A nL X cc own ret F Lc) (d : decode cc pc = .ok (.ladd, 1))  (k : TG cf g A nL X cells slots σ (pc + 1) lv (.long (x + y) :: rest)) : TG cf g A nL X cells slots σ pc lv (.long y :: .long x :: rest) := by
  obtain ⟨p, l, e, R, s, m, args, below, meth, c, Q⟩ := X
  obtain ⟨hx, hb, hr, hlk, hml, hown, hts, hK, hA, hF, hLc, hKC⟩ := C
  exact fun H locs ls hP hD hS hl => lv_ladd hx hb d (k H locs ls hP hD hS hl)
theorem g_lsub {x y : Int64} (C : CX cf g A nL X cc own ret F Lc) (d : decode cc pc = .ok (.lsub, 1))  (k : TG cf g A nL X cells slots σ (pc + 1) lv (.long (x - y) :: rest)) : TG cf g A nL X cells slots σ pc lv (.long y :: .long x :: rest) := by
  obtain ⟨p, l, e, R, s, m, args, below, meth, c, Q⟩ := X
  obtain ⟨hx, hb, hr, hlk, hml, hown, hts, hK, hA, hF, hLc, hKC⟩ := C
  exact fun H locs ls hP hD hS hl => lv_lsub hx hb d (k H locs ls hP hD hS hl)
theorem g_lmul {x y : Int64} (C : CX cf g A nL X cc own ret F Lc) (d : decode cc pc = .ok (.lmul, 1))  (k : TG cf g A nL X cells slots σ (pc + 1) lv (.long (x * y) :: rest)) : TG cf g A nL X cells slots σ pc lv (.long y :: .long x :: rest) := by
  obtain ⟨p, l, e, R, s, m, args, below, meth, c, Q⟩ := X
  obtain ⟨hx, hb, hr, hlk, hml, hown, hts, hK, hA, hF, hLc, hKC⟩ := C
  exact fun H locs ls hP hD hS hl => lv_lmul hx hb d (k H locs ls hP hD hS hl)
theorem g_land {x y : Int64} (C : CX cf g A nL X cc own ret F Lc) (d : decode cc pc = .ok (.land, 1))  (k : TG cf g A nL X cells slots σ (pc + 1) lv (.long (x &&& y) :: rest)) : TG cf g A nL X cells slots σ pc lv (.long y :: .long x :: rest) := by
  obtain ⟨p, l, e, R, s, m, args, below, meth, c, Q⟩ := X
  obtain ⟨hx, hb, hr, hlk, hml, hown, hts, hK, hA, hF, hLc, hKC⟩ := C
  exact fun H locs ls hP hD hS hl => lv_land hx hb d (k H locs ls hP hD hS hl)
theorem g_lor {x y : Int64} (C : CX cf g A nL X cc own ret F Lc) (d : decode cc pc = .ok (.lor, 1))  (k : TG cf g A nL X cells slots σ (pc + 1) lv (.long (x ||| y) :: rest)) : TG cf g A nL X cells slots σ pc lv (.long y :: .long x :: rest) := by
  obtain ⟨p, l, e, R, s, m, args, below, meth, c, Q⟩ := X
  obtain ⟨hx, hb, hr, hlk, hml, hown, hts, hK, hA, hF, hLc, hKC⟩ := C
  exact fun H locs ls hP hD hS hl => lv_lor hx hb d (k H locs ls hP hD hS hl)
theorem g_lxor {x y : Int64} (C : CX cf g A nL X cc own ret F Lc) (d : decode cc pc = .ok (.lxor, 1))  (k : TG cf g A nL X cells slots σ (pc + 1) lv (.long (x ^^^ y) :: rest)) : TG cf g A nL X cells slots σ pc lv (.long y :: .long x :: rest) := by
  obtain ⟨p, l, e, R, s, m, args, below, meth, c, Q⟩ := X
  obtain ⟨hx, hb, hr, hlk, hml, hown, hts, hK, hA, hF, hLc, hKC⟩ := C
  exact fun H locs ls hP hD hS hl => lv_lxor hx hb d (k H locs ls hP hD hS hl)
theorem g_ineg {x : Int32} (C : CX cf g A nL X cc own ret F Lc) (d : decode cc pc = .ok (.ineg, 1))  (k : TG cf g A nL X cells slots σ (pc + 1) lv (.int (-x) :: rest)) : TG cf g A nL X cells slots σ pc lv (.int x :: rest) := by
  obtain ⟨p, l, e, R, s, m, args, below, meth, c, Q⟩ := X
  obtain ⟨hx, hb, hr, hlk, hml, hown, hts, hK, hA, hF, hLc, hKC⟩ := C
  exact fun H locs ls hP hD hS hl => lv_ineg hx hb d (k H locs ls hP hD hS hl)
theorem g_ishl {x y : Int32} (C : CX cf g A nL X cc own ret F Lc) (d : decode cc pc = .ok (.ishl, 1))  (k : TG cf g A nL X cells slots σ (pc + 1) lv (.int (ishl x y) :: rest)) : TG cf g A nL X cells slots σ pc lv (.int y :: .int x :: rest) := by
  obtain ⟨p, l, e, R, s, m, args, below, meth, c, Q⟩ := X
  obtain ⟨hx, hb, hr, hlk, hml, hown, hts, hK, hA, hF, hLc, hKC⟩ := C
  exact fun H locs ls hP hD hS hl => lv_ishl hx hb d (k H locs ls hP hD hS hl)
theorem g_ishr {x y : Int32} (C : CX cf g A nL X cc own ret F Lc) (d : decode cc pc = .ok (.ishr, 1))  (k : TG cf g A nL X cells slots σ (pc + 1) lv (.int (ishr x y) :: rest)) : TG cf g A nL X cells slots σ pc lv (.int y :: .int x :: rest) := by
  obtain ⟨p, l, e, R, s, m, args, below, meth, c, Q⟩ := X
  obtain ⟨hx, hb, hr, hlk, hml, hown, hts, hK, hA, hF, hLc, hKC⟩ := C
  exact fun H locs ls hP hD hS hl => lv_ishr hx hb d (k H locs ls hP hD hS hl)
theorem g_iushr {x y : Int32} (C : CX cf g A nL X cc own ret F Lc) (d : decode cc pc = .ok (.iushr, 1))  (k : TG cf g A nL X cells slots σ (pc + 1) lv (.int (iushr x y) :: rest)) : TG cf g A nL X cells slots σ pc lv (.int y :: .int x :: rest) := by
  obtain ⟨p, l, e, R, s, m, args, below, meth, c, Q⟩ := X
  obtain ⟨hx, hb, hr, hlk, hml, hown, hts, hK, hA, hF, hLc, hKC⟩ := C
  exact fun H locs ls hP hD hS hl => lv_iushr hx hb d rfl (k H locs ls hP hD hS hl)
theorem g_lshl {x : Int64} {y : Int32} (C : CX cf g A nL X cc own ret F Lc) (d : decode cc pc = .ok (.lshl, 1))  (k : TG cf g A nL X cells slots σ (pc + 1) lv (.long (lshl x y) :: rest)) : TG cf g A nL X cells slots σ pc lv (.int y :: .long x :: rest) := by
  obtain ⟨p, l, e, R, s, m, args, below, meth, c, Q⟩ := X
  obtain ⟨hx, hb, hr, hlk, hml, hown, hts, hK, hA, hF, hLc, hKC⟩ := C
  exact fun H locs ls hP hD hS hl => lv_lshl hx hb d rfl (k H locs ls hP hD hS hl)
theorem g_lshr {x : Int64} {y : Int32} (C : CX cf g A nL X cc own ret F Lc) (d : decode cc pc = .ok (.lshr, 1))  (k : TG cf g A nL X cells slots σ (pc + 1) lv (.long (lshr x y) :: rest)) : TG cf g A nL X cells slots σ pc lv (.int y :: .long x :: rest) := by
  obtain ⟨p, l, e, R, s, m, args, below, meth, c, Q⟩ := X
  obtain ⟨hx, hb, hr, hlk, hml, hown, hts, hK, hA, hF, hLc, hKC⟩ := C
  exact fun H locs ls hP hD hS hl => lv_lshr hx hb d rfl (k H locs ls hP hD hS hl)
theorem g_idiv {x y : Int32} (C : CX cf g A nL X cc own ret F Lc) (d : decode cc pc = .ok (.idiv, 1)) (hne : decide (¬ y = 0) = true) (k : TG cf g A nL X cells slots σ (pc + 1) lv (.int (x / y) :: rest)) : TG cf g A nL X cells slots σ pc lv (.int y :: .int x :: rest) := by
  obtain ⟨p, l, e, R, s, m, args, below, meth, c, Q⟩ := X
  obtain ⟨hx, hb, hr, hlk, hml, hown, hts, hK, hA, hF, hLc, hKC⟩ := C
  exact fun H locs ls hP hD hS hl => lv_idiv hx hb d (by simpa using hne) (k H locs ls hP hD hS hl)
theorem g_irem {x y : Int32} (C : CX cf g A nL X cc own ret F Lc) (d : decode cc pc = .ok (.irem, 1)) (hne : decide (¬ y = 0) = true) (k : TG cf g A nL X cells slots σ (pc + 1) lv (.int (irem x y) :: rest)) : TG cf g A nL X cells slots σ pc lv (.int y :: .int x :: rest) := by
  obtain ⟨p, l, e, R, s, m, args, below, meth, c, Q⟩ := X
  obtain ⟨hx, hb, hr, hlk, hml, hown, hts, hK, hA, hF, hLc, hKC⟩ := C
  exact fun H locs ls hP hD hS hl => lv_irem hx hb d (by simpa using hne) (k H locs ls hP hD hS hl)
theorem g_ldiv {x y : Int64} (C : CX cf g A nL X cc own ret F Lc) (d : decode cc pc = .ok (.ldiv, 1)) (hne : decide (¬ y = 0) = true) (k : TG cf g A nL X cells slots σ (pc + 1) lv (.long (x / y) :: rest)) : TG cf g A nL X cells slots σ pc lv (.long y :: .long x :: rest) := by
  obtain ⟨p, l, e, R, s, m, args, below, meth, c, Q⟩ := X
  obtain ⟨hx, hb, hr, hlk, hml, hown, hts, hK, hA, hF, hLc, hKC⟩ := C
  exact fun H locs ls hP hD hS hl => lv_ldiv hx hb d (by simpa using hne) (k H locs ls hP hD hS hl)
theorem g_lrem {x y : Int64} (C : CX cf g A nL X cc own ret F Lc) (d : decode cc pc = .ok (.lrem, 1)) (hne : decide (¬ y = 0) = true) (k : TG cf g A nL X cells slots σ (pc + 1) lv (.long (lrem x y) :: rest)) : TG cf g A nL X cells slots σ pc lv (.long y :: .long x :: rest) := by
  obtain ⟨p, l, e, R, s, m, args, below, meth, c, Q⟩ := X
  obtain ⟨hx, hb, hr, hlk, hml, hown, hts, hK, hA, hF, hLc, hKC⟩ := C
  exact fun H locs ls hP hD hS hl => lv_lrem hx hb d (by simpa using hne) (k H locs ls hP hD hS hl)
theorem g_lcmp {x y : Int64} (C : CX cf g A nL X cc own ret F Lc) (d : decode cc pc = .ok (.lcmp, 1))  (k : TG cf g A nL X cells slots σ (pc + 1) lv (.int (lg_cmp x y) :: rest)) : TG cf g A nL X cells slots σ pc lv (.long y :: .long x :: rest) := by
  obtain ⟨p, l, e, R, s, m, args, below, meth, c, Q⟩ := X
  obtain ⟨hx, hb, hr, hlk, hml, hown, hts, hK, hA, hF, hLc, hKC⟩ := C
  exact fun H locs ls hP hD hS hl => W.lcmp hx hb d (k H locs ls hP hD hS hl)
theorem g_i2l {x : Int32} (C : CX cf g A nL X cc own ret F Lc) (d : decode cc pc = .ok (.i2l, 1))  (k : TG cf g A nL X cells slots σ (pc + 1) lv (.long x.toInt64 :: rest)) : TG cf g A nL X cells slots σ pc lv (.int x :: rest) := by
  obtain ⟨p, l, e, R, s, m, args, below, meth, c, Q⟩ := X
  obtain ⟨hx, hb, hr, hlk, hml, hown, hts, hK, hA, hF, hLc, hKC⟩ := C
  exact fun H locs ls hP hD hS hl => lv_i2l hx hb d rfl (k H locs ls hP hD hS hl)
theorem g_l2i {x : Int64} (C : CX cf g A nL X cc own ret F Lc) (d : decode cc pc = .ok (.l2i, 1))  (k : TG cf g A nL X cells slots σ (pc + 1) lv (.int x.toInt32 :: rest)) : TG cf g A nL X cells slots σ pc lv (.long x :: rest) := by
  obtain ⟨p, l, e, R, s, m, args, below, meth, c, Q⟩ := X
  obtain ⟨hx, hb, hr, hlk, hml, hown, hts, hK, hA, hF, hLc, hKC⟩ := C
  exact fun H locs ls hP hD hS hl => lv_l2i hx hb d rfl (k H locs ls hP hD hS hl)
theorem g_i2b {x : Int32} (C : CX cf g A nL X cc own ret F Lc) (d : decode cc pc = .ok (.i2b, 1))  (k : TG cf g A nL X cells slots σ (pc + 1) lv (.int (i2b x) :: rest)) : TG cf g A nL X cells slots σ pc lv (.int x :: rest) := by
  obtain ⟨p, l, e, R, s, m, args, below, meth, c, Q⟩ := X
  obtain ⟨hx, hb, hr, hlk, hml, hown, hts, hK, hA, hF, hLc, hKC⟩ := C
  exact fun H locs ls hP hD hS hl => lv_i2b hx hb d rfl (k H locs ls hP hD hS hl)
theorem g_i2c {x : Int32} (C : CX cf g A nL X cc own ret F Lc) (d : decode cc pc = .ok (.i2c, 1))  (k : TG cf g A nL X cells slots σ (pc + 1) lv (.int (i2c x) :: rest)) : TG cf g A nL X cells slots σ pc lv (.int x :: rest) := by
  obtain ⟨p, l, e, R, s, m, args, below, meth, c, Q⟩ := X
  obtain ⟨hx, hb, hr, hlk, hml, hown, hts, hK, hA, hF, hLc, hKC⟩ := C
  exact fun H locs ls hP hD hS hl => lv_i2c hx hb d rfl (k H locs ls hP hD hS hl)
theorem g_iconst {n : Int} {v : Int32} (C : CX cf g A nL X cc own ret F Lc) (d : decode cc pc = .ok (.iconst n, 1)) (hv : Int32.ofInt n = v) (k : TG cf g A nL X cells slots σ (pc + 1) lv (.int v :: rest)) : TG cf g A nL X cells slots σ pc lv (rest) := by
  obtain ⟨p, l, e, R, s, m, args, below, meth, c, Q⟩ := X
  obtain ⟨hx, hb, hr, hlk, hml, hown, hts, hK, hA, hF, hLc, hKC⟩ := C
  exact fun H locs ls hP hD hS hl => lv_iconst hx hb d hv (k H locs ls hP hD hS hl)
theorem g_bipush {n : Int} {v : Int32} (C : CX cf g A nL X cc own ret F Lc) (d : decode cc pc = .ok (.bipush n, 2)) (hv : (Int8.ofInt n).toInt32 = v) (k : TG cf g A nL X cells slots σ (pc + 2) lv (.int v :: rest)) : TG cf g A nL X cells slots σ pc lv (rest) := by
  obtain ⟨p, l, e, R, s, m, args, below, meth, c, Q⟩ := X
  obtain ⟨hx, hb, hr, hlk, hml, hown, hts, hK, hA, hF, hLc, hKC⟩ := C
  exact fun H locs ls hP hD hS hl => lv_bipush hx hb d hv (k H locs ls hP hD hS hl)
theorem g_sipush {n : Int} {v : Int32} (C : CX cf g A nL X cc own ret F Lc) (d : decode cc pc = .ok (.sipush n, 3)) (hv : (Int16.ofInt n).toInt32 = v) (k : TG cf g A nL X cells slots σ (pc + 3) lv (.int v :: rest)) : TG cf g A nL X cells slots σ pc lv (rest) := by
  obtain ⟨p, l, e, R, s, m, args, below, meth, c, Q⟩ := X
  obtain ⟨hx, hb, hr, hlk, hml, hown, hts, hK, hA, hF, hLc, hKC⟩ := C
  exact fun H locs ls hP hD hS hl => lv_sipush hx hb d hv (k H locs ls hP hD hS hl)
theorem g_lconst {n : Fin 2} {v : Int64} (C : CX cf g A nL X cc own ret F Lc) (d : decode cc pc = .ok (.lconst n, 1)) (hv : Int64.ofNat (n : Nat) = v) (k : TG cf g A nL X cells slots σ (pc + 1) lv (.long v :: rest)) : TG cf g A nL X cells slots σ pc lv (rest) := by
  obtain ⟨p, l, e, R, s, m, args, below, meth, c, Q⟩ := X
  obtain ⟨hx, hb, hr, hlk, hml, hown, hts, hK, hA, hF, hLc, hKC⟩ := C
  exact fun H locs ls hP hD hS hl => lv_lconst hx hb d hv (k H locs ls hP hD hS hl)
theorem g_ldc {i : Nat} {v : Int32} (C : CX cf g A nL X cc own ret F Lc) (d : decode cc pc = .ok (.ldc i, 2)) (hw : Jvm.Cond.constant own i v ∈ lw_all) (k : TG cf g A nL X cells slots σ (pc + 2) lv (.int v :: rest)) : TG cf g A nL X cells slots σ pc lv (rest) := by
  obtain ⟨p, l, e, R, s, m, args, below, meth, c, Q⟩ := X
  obtain ⟨hx, hb, hr, hlk, hml, hown, hts, hK, hA, hF, hLc, hKC⟩ := C
  exact fun H locs ls hP hD hS hl => lv_ldc hx hb hown (hts _ hw) d (k H locs ls hP hD hS hl)
theorem g_ldcw {i : Nat} {v : Int32} (C : CX cf g A nL X cc own ret F Lc) (d : decode cc pc = .ok (.ldc_w i, 3)) (hw : Jvm.Cond.constant own i v ∈ lw_all) (k : TG cf g A nL X cells slots σ (pc + 3) lv (.int v :: rest)) : TG cf g A nL X cells slots σ pc lv (rest) := by
  obtain ⟨p, l, e, R, s, m, args, below, meth, c, Q⟩ := X
  obtain ⟨hx, hb, hr, hlk, hml, hown, hts, hK, hA, hF, hLc, hKC⟩ := C
  exact fun H locs ls hP hD hS hl => lv_ldcw hx hb hown (hts _ hw) d (k H locs ls hP hD hS hl)
theorem g_ldc2 {i : Nat} {v : Int64} (C : CX cf g A nL X cc own ret F Lc) (d : decode cc pc = .ok (.ldc2_w i, 3)) (hw : Jvm.Cond.constantLong own i v ∈ lw_all) (k : TG cf g A nL X cells slots σ (pc + 3) lv (.long v :: rest)) : TG cf g A nL X cells slots σ pc lv (rest) := by
  obtain ⟨p, l, e, R, s, m, args, below, meth, c, Q⟩ := X
  obtain ⟨hx, hb, hr, hlk, hml, hown, hts, hK, hA, hF, hLc, hKC⟩ := C
  exact fun H locs ls hP hD hS hl => lv_ldc2 hx hb hown (hts _ hw) d (k H locs ls hP hD hS hl)
theorem g_dup {va : Value} (C : CX cf g A nL X cc own ret F Lc) (d : decode cc pc = .ok (.dup, 1)) (hva : va.category = 1) (k : TG cf g A nL X cells slots σ (pc + 1) lv (va :: va :: rest)) : TG cf g A nL X cells slots σ pc lv (va :: rest) := by
  obtain ⟨p, l, e, R, s, m, args, below, meth, c, Q⟩ := X
  obtain ⟨hx, hb, hr, hlk, hml, hown, hts, hK, hA, hF, hLc, hKC⟩ := C
  exact fun H locs ls hP hD hS hl => lv_dup hx hb d hva (k H locs ls hP hD hS hl)
theorem g_pop {va : Value} (C : CX cf g A nL X cc own ret F Lc) (d : decode cc pc = .ok (.pop, 1)) (hva : va.category = 1) (k : TG cf g A nL X cells slots σ (pc + 1) lv (rest)) : TG cf g A nL X cells slots σ pc lv (va :: rest) := by
  obtain ⟨p, l, e, R, s, m, args, below, meth, c, Q⟩ := X
  obtain ⟨hx, hb, hr, hlk, hml, hown, hts, hK, hA, hF, hLc, hKC⟩ := C
  exact fun H locs ls hP hD hS hl => lv_pop hx hb d hva (k H locs ls hP hD hS hl)
theorem g_dup2 {va vb : Value} (C : CX cf g A nL X cc own ret F Lc) (d : decode cc pc = .ok (.dup2, 1)) (hva : va.category = 1) (hvb : vb.category = 1) (k : TG cf g A nL X cells slots σ (pc + 1) lv (va :: vb :: va :: vb :: rest)) : TG cf g A nL X cells slots σ pc lv (va :: vb :: rest) := by
  obtain ⟨p, l, e, R, s, m, args, below, meth, c, Q⟩ := X
  obtain ⟨hx, hb, hr, hlk, hml, hown, hts, hK, hA, hF, hLc, hKC⟩ := C
  exact fun H locs ls hP hD hS hl => lv_dup2_11 hx hb d hva hvb (k H locs ls hP hD hS hl)
theorem g_dup2L {va : Value} (C : CX cf g A nL X cc own ret F Lc) (d : decode cc pc = .ok (.dup2, 1)) (hva : va.category = 2) (k : TG cf g A nL X cells slots σ (pc + 1) lv (va :: va :: rest)) : TG cf g A nL X cells slots σ pc lv (va :: rest) := by
  obtain ⟨p, l, e, R, s, m, args, below, meth, c, Q⟩ := X
  obtain ⟨hx, hb, hr, hlk, hml, hown, hts, hK, hA, hF, hLc, hKC⟩ := C
  exact fun H locs ls hP hD hS hl => lv_dup2_2 hx hb d hva (k H locs ls hP hD hS hl)
theorem g_dup_x1 {va vb : Value} (C : CX cf g A nL X cc own ret F Lc) (d : decode cc pc = .ok (.dup_x1, 1)) (hva : va.category = 1) (hvb : vb.category = 1) (k : TG cf g A nL X cells slots σ (pc + 1) lv (va :: vb :: va :: rest)) : TG cf g A nL X cells slots σ pc lv (va :: vb :: rest) := by
  obtain ⟨p, l, e, R, s, m, args, below, meth, c, Q⟩ := X
  obtain ⟨hx, hb, hr, hlk, hml, hown, hts, hK, hA, hF, hLc, hKC⟩ := C
  exact fun H locs ls hP hD hS hl => lv_dup_x1 hx hb d hva hvb (k H locs ls hP hD hS hl)
theorem g_iload_n {k : Fin 4} {x : Int32} (C : CX cf g A nL X cc own ret F Lc) (d : decode cc pc = .ok (.iload_n k, 1)) (q : Nat) (hq : lv[q]? = some ((k : Nat), .int x)) (k2 : TG cf g A nL X cells slots σ (pc + 1) lv (.int x :: rest)) : TG cf g A nL X cells slots σ pc lv (rest) := by
  obtain ⟨p, l, e, R, s, m, args, below, meth, c, Q⟩ := X
  obtain ⟨hx, hb, hr, hlk, hml, hown, hts, hK, hA, hF, hLc, hKC⟩ := C
  exact fun H locs ls hP hD hS hl => lv_iload_n hx hb d rfl (lv_at hl q hq) (k2 H locs ls hP hD hS hl)
theorem g_iload {i : Nat} {x : Int32} (C : CX cf g A nL X cc own ret F Lc) (d : decode cc pc = .ok (.iload i, 2)) (q : Nat) (hq : lv[q]? = some (i, .int x)) (k : TG cf g A nL X cells slots σ (pc + 2) lv (.int x :: rest)) : TG cf g A nL X cells slots σ pc lv (rest) := by
  obtain ⟨p, l, e, R, s, m, args, below, meth, c, Q⟩ := X
  obtain ⟨hx, hb, hr, hlk, hml, hown, hts, hK, hA, hF, hLc, hKC⟩ := C
  exact fun H locs ls hP hD hS hl => lv_iload hx hb d (lv_at hl q hq) (k H locs ls hP hD hS hl)
theorem g_istore_n {k : Fin 4} {i : Nat} {x z : Int32} {lv' : List (Nat × Value)} (C : CX cf g A nL X cc own ret F Lc) (d : decode cc pc = .ok (.istore_n k, 1)) (hi : (k : Nat) = i) (hz : z = x) (hn : i < nL) (hl' : (i, Value.int z) :: lv.filter (fun q => !(q.1 == i) && !(q.1 + 1 == i && q.2.category == 2)) = lv') (kk : TG cf g A nL X cells slots σ (pc + 1) lv' (rest)) : TG cf g A nL X cells slots σ pc lv (.int x :: rest) := by
  subst hz
  obtain ⟨p, l, e, R, s, m, args, below, meth, c, Q⟩ := X
  obtain ⟨hx, hb, hr, hlk, hml, hown, hts, hK, hA, hF, hLc, hKC⟩ := C
  exact fun H locs ls hP hD hS hl => lv_istore_n hx hb d hi hl hn hl' (fun ls hl => kk H locs ls hP hD hS hl)
theorem g_istore {i : Nat} {x z : Int32} {lv' : List (Nat × Value)} (C : CX cf g A nL X cc own ret F Lc) (d : decode cc pc = .ok (.istore i, 2)) (hz : z = x) (hn : i < nL) (hl' : (i, Value.int z) :: lv.filter (fun q => !(q.1 == i) && !(q.1 + 1 == i && q.2.category == 2)) = lv') (kk : TG cf g A nL X cells slots σ (pc + 2) lv' (rest)) : TG cf g A nL X cells slots σ pc lv (.int x :: rest) := by
  subst hz
  obtain ⟨p, l, e, R, s, m, args, below, meth, c, Q⟩ := X
  obtain ⟨hx, hb, hr, hlk, hml, hown, hts, hK, hA, hF, hLc, hKC⟩ := C
  exact fun H locs ls hP hD hS hl => lv_istore hx hb d hl hn hl' (fun ls hl => kk H locs ls hP hD hS hl)
theorem g_lload_n {k : Fin 4} {x : Int64} (C : CX cf g A nL X cc own ret F Lc) (d : decode cc pc = .ok (.lload_n k, 1)) (q : Nat) (hq : lv[q]? = some ((k : Nat), .long x)) (k2 : TG cf g A nL X cells slots σ (pc + 1) lv (.long x :: rest)) : TG cf g A nL X cells slots σ pc lv (rest) := by
  obtain ⟨p, l, e, R, s, m, args, below, meth, c, Q⟩ := X
  obtain ⟨hx, hb, hr, hlk, hml, hown, hts, hK, hA, hF, hLc, hKC⟩ := C
  exact fun H locs ls hP hD hS hl => lv_lload_n hx hb d rfl (lv_at hl q hq) (k2 H locs ls hP hD hS hl)
theorem g_lload {i : Nat} {x : Int64} (C : CX cf g A nL X cc own ret F Lc) (d : decode cc pc = .ok (.lload i, 2)) (q : Nat) (hq : lv[q]? = some (i, .long x)) (k : TG cf g A nL X cells slots σ (pc + 2) lv (.long x :: rest)) : TG cf g A nL X cells slots σ pc lv (rest) := by
  obtain ⟨p, l, e, R, s, m, args, below, meth, c, Q⟩ := X
  obtain ⟨hx, hb, hr, hlk, hml, hown, hts, hK, hA, hF, hLc, hKC⟩ := C
  exact fun H locs ls hP hD hS hl => lv_lload hx hb d (lv_at hl q hq) (k H locs ls hP hD hS hl)
theorem g_lstore_n {k : Fin 4} {i : Nat} {x z : Int64} {lv' : List (Nat × Value)} (C : CX cf g A nL X cc own ret F Lc) (d : decode cc pc = .ok (.lstore_n k, 1)) (hi : (k : Nat) = i) (hz : z = x) (hn : i + 1 < nL) (hl' : (i, Value.long z) :: lv.filter (fun q => !(q.1 == i) && (!(q.1 == i + 1) && !(q.1 + 1 == i && q.2.category == 2))) = lv') (kk : TG cf g A nL X cells slots σ (pc + 1) lv' (rest)) : TG cf g A nL X cells slots σ pc lv (.long x :: rest) := by
  subst hz
  obtain ⟨p, l, e, R, s, m, args, below, meth, c, Q⟩ := X
  obtain ⟨hx, hb, hr, hlk, hml, hown, hts, hK, hA, hF, hLc, hKC⟩ := C
  exact fun H locs ls hP hD hS hl => lv_lstore_n hx hb d hi hl hn hl' (fun ls hl => kk H locs ls hP hD hS hl)
theorem g_lstore {i : Nat} {x z : Int64} {lv' : List (Nat × Value)} (C : CX cf g A nL X cc own ret F Lc) (d : decode cc pc = .ok (.lstore i, 2)) (hz : z = x) (hn : i + 1 < nL) (hl' : (i, Value.long z) :: lv.filter (fun q => !(q.1 == i) && (!(q.1 == i + 1) && !(q.1 + 1 == i && q.2.category == 2))) = lv') (kk : TG cf g A nL X cells slots σ (pc + 2) lv' (rest)) : TG cf g A nL X cells slots σ pc lv (.long x :: rest) := by
  subst hz
  obtain ⟨p, l, e, R, s, m, args, below, meth, c, Q⟩ := X
  obtain ⟨hx, hb, hr, hlk, hml, hown, hts, hK, hA, hF, hLc, hKC⟩ := C
  exact fun H locs ls hP hD hS hl => lv_lstore hx hb d hl hn hl' (fun ls hl => kk H locs ls hP hD hS hl)
theorem g_aload_n {k : Fin 4} {x : Nat} (C : CX cf g A nL X cc own ret F Lc) (d : decode cc pc = .ok (.aload_n k, 1)) (q : Nat) (hq : lv[q]? = some ((k : Nat), .ref x)) (k2 : TG cf g A nL X cells slots σ (pc + 1) lv (.ref x :: rest)) : TG cf g A nL X cells slots σ pc lv (rest) := by
  obtain ⟨p, l, e, R, s, m, args, below, meth, c, Q⟩ := X
  obtain ⟨hx, hb, hr, hlk, hml, hown, hts, hK, hA, hF, hLc, hKC⟩ := C
  exact fun H locs ls hP hD hS hl => lv_aload_n hx hb d rfl (lv_at hl q hq) (k2 H locs ls hP hD hS hl)
theorem g_aload {i : Nat} {x : Nat} (C : CX cf g A nL X cc own ret F Lc) (d : decode cc pc = .ok (.aload i, 2)) (q : Nat) (hq : lv[q]? = some (i, .ref x)) (k : TG cf g A nL X cells slots σ (pc + 2) lv (.ref x :: rest)) : TG cf g A nL X cells slots σ pc lv (rest) := by
  obtain ⟨p, l, e, R, s, m, args, below, meth, c, Q⟩ := X
  obtain ⟨hx, hb, hr, hlk, hml, hown, hts, hK, hA, hF, hLc, hKC⟩ := C
  exact fun H locs ls hP hD hS hl => lv_aload hx hb d (lv_at hl q hq) (k H locs ls hP hD hS hl)
theorem g_astore_n {k : Fin 4} {i : Nat} {x z : Nat} {lv' : List (Nat × Value)} (C : CX cf g A nL X cc own ret F Lc) (d : decode cc pc = .ok (.astore_n k, 1)) (hi : (k : Nat) = i) (hz : z = x) (hn : i < nL) (hl' : (i, Value.ref z) :: lv.filter (fun q => !(q.1 == i) && !(q.1 + 1 == i && q.2.category == 2)) = lv') (kk : TG cf g A nL X cells slots σ (pc + 1) lv' (rest)) : TG cf g A nL X cells slots σ pc lv (.ref x :: rest) := by
  subst hz
  obtain ⟨p, l, e, R, s, m, args, below, meth, c, Q⟩ := X
  obtain ⟨hx, hb, hr, hlk, hml, hown, hts, hK, hA, hF, hLc, hKC⟩ := C
  exact fun H locs ls hP hD hS hl => lv_astore_n hx hb d hi hl hn hl' (fun ls hl => kk H locs ls hP hD hS hl)
theorem g_astore {i : Nat} {x z : Nat} {lv' : List (Nat × Value)} (C : CX cf g A nL X cc own ret F Lc) (d : decode cc pc = .ok (.astore i, 2)) (hz : z = x) (hn : i < nL) (hl' : (i, Value.ref z) :: lv.filter (fun q => !(q.1 == i) && !(q.1 + 1 == i && q.2.category == 2)) = lv') (kk : TG cf g A nL X cells slots σ (pc + 2) lv' (rest)) : TG cf g A nL X cells slots σ pc lv (.ref x :: rest) := by
  subst hz
  obtain ⟨p, l, e, R, s, m, args, below, meth, c, Q⟩ := X
  obtain ⟨hx, hb, hr, hlk, hml, hown, hts, hK, hA, hF, hLc, hKC⟩ := C
  exact fun H locs ls hP hD hS hl => lv_astore hx hb d hl hn hl' (fun ls hl => kk H locs ls hP hD hS hl)
theorem g_iinc {i q : Nat} {n : Int} {x c1 : Int32} {lv' : List (Nat × Value)} (C : CX cf g A nL X cc own ret F Lc) (d : decode cc pc = .ok (.iinc i n, 3)) (hq : lv[q]? = some (i, .int x)) (hc : Int32.ofInt n = c1) (hn : i < nL) (hl' : (i, Value.int (x + c1)) :: lv.filter (fun q => !(q.1 == i) && !(q.1 + 1 == i && q.2.category == 2)) = lv') (kk : TG cf g A nL X cells slots σ (pc + 3) lv' (st)) : TG cf g A nL X cells slots σ pc lv (st) := by
  subst hc
  obtain ⟨p, l, e, R, s, m, args, below, meth, c, Q⟩ := X
  obtain ⟨hx, hb, hr, hlk, hml, hown, hts, hK, hA, hF, hLc, hKC⟩ := C
  exact fun H locs ls hP hD hS hl => lv_iinc hx hb d hl hq rfl hn hl' (fun ls hl => kk H locs ls hP hD hS hl)
theorem g_if_eq {x : Int32} {off : Int} (tgt : Nat) (C : CX cf g A nL X cc own ret F Lc) (d : decode cc pc = .ok (.ifCond .eq off, 3)) (ht : (pc : Int) + off = (tgt : Int)) (kt : x = 0 → TG cf g A nL X cells slots σ tgt lv (rest)) (kf : ¬ x = 0 → TG cf g A nL X cells slots σ (pc + 3) lv (rest)) : TG cf g A nL X cells slots σ pc lv (.int x :: rest) := by
  obtain ⟨p, l, e, R, s, m, args, below, meth, c, Q⟩ := X
  obtain ⟨hx, hb, hr, hlk, hml, hown, hts, hK, hA, hF, hLc, hKC⟩ := C
  exact fun H locs ls hP hD hS hl => lv_if_eq hx hb d ht (fun z => kt z H locs ls hP hD hS hl) (fun z => kf z H locs ls hP hD hS hl)
theorem g_icmp_eq {x y : Int32} {off : Int} (tgt : Nat) (C : CX cf g A nL X cc own ret F Lc) (d : decode cc pc = .ok (.if_icmp .eq off, 3)) (ht : (pc : Int) + off = (tgt : Int)) (kt : x = y → TG cf g A nL X cells slots σ tgt lv (rest)) (kf : ¬ x = y → TG cf g A nL X cells slots σ (pc + 3) lv (rest)) : TG cf g A nL X cells slots σ pc lv (.int y :: .int x :: rest) := by
  obtain ⟨p, l, e, R, s, m, args, below, meth, c, Q⟩ := X
  obtain ⟨hx, hb, hr, hlk, hml, hown, hts, hK, hA, hF, hLc, hKC⟩ := C
  exact fun H locs ls hP hD hS hl => lv_icmp_eq hx hb d ht (fun z => kt z H locs ls hP hD hS hl) (fun z => kf z H locs ls hP hD hS hl)
theorem g_if_lt {x : Int32} {off : Int} (tgt : Nat) (C : CX cf g A nL X cc own ret F Lc) (d : decode cc pc = .ok (.ifCond .lt off, 3)) (ht : (pc : Int) + off = (tgt : Int)) (kt : x < 0 → TG cf g A nL X cells slots σ tgt lv (rest)) (kf : ¬ x < 0 → TG cf g A nL X cells slots σ (pc + 3) lv (rest)) : TG cf g A nL X cells slots σ pc lv (.int x :: rest) := by
  obtain ⟨p, l, e, R, s, m, args, below, meth, c, Q⟩ := X
  obtain ⟨hx, hb, hr, hlk, hml, hown, hts, hK, hA, hF, hLc, hKC⟩ := C
  exact fun H locs ls hP hD hS hl => lv_if_lt hx hb d ht (fun z => kt z H locs ls hP hD hS hl) (fun z => kf z H locs ls hP hD hS hl)
theorem g_icmp_lt {x y : Int32} {off : Int} (tgt : Nat) (C : CX cf g A nL X cc own ret F Lc) (d : decode cc pc = .ok (.if_icmp .lt off, 3)) (ht : (pc : Int) + off = (tgt : Int)) (kt : x < y → TG cf g A nL X cells slots σ tgt lv (rest)) (kf : ¬ x < y → TG cf g A nL X cells slots σ (pc + 3) lv (rest)) : TG cf g A nL X cells slots σ pc lv (.int y :: .int x :: rest) := by
  obtain ⟨p, l, e, R, s, m, args, below, meth, c, Q⟩ := X
  obtain ⟨hx, hb, hr, hlk, hml, hown, hts, hK, hA, hF, hLc, hKC⟩ := C
  exact fun H locs ls hP hD hS hl => lv_icmp_lt hx hb d ht (fun z => kt z H locs ls hP hD hS hl) (fun z => kf z H locs ls hP hD hS hl)
theorem g_if_ge {x : Int32} {off : Int} (tgt : Nat) (C : CX cf g A nL X cc own ret F Lc) (d : decode cc pc = .ok (.ifCond .ge off, 3)) (ht : (pc : Int) + off = (tgt : Int)) (kt : 0 ≤ x → TG cf g A nL X cells slots σ tgt lv (rest)) (kf : ¬ 0 ≤ x → TG cf g A nL X cells slots σ (pc + 3) lv (rest)) : TG cf g A nL X cells slots σ pc lv (.int x :: rest) := by
  obtain ⟨p, l, e, R, s, m, args, below, meth, c, Q⟩ := X
  obtain ⟨hx, hb, hr, hlk, hml, hown, hts, hK, hA, hF, hLc, hKC⟩ := C
  exact fun H locs ls hP hD hS hl => lv_if_ge hx hb d ht (fun z => kt z H locs ls hP hD hS hl) (fun z => kf z H locs ls hP hD hS hl)
theorem g_icmp_ge {x y : Int32} {off : Int} (tgt : Nat) (C : CX cf g A nL X cc own ret F Lc) (d : decode cc pc = .ok (.if_icmp .ge off, 3)) (ht : (pc : Int) + off = (tgt : Int)) (kt : y ≤ x → TG cf g A nL X cells slots σ tgt lv (rest)) (kf : ¬ y ≤ x → TG cf g A nL X cells slots σ (pc + 3) lv (rest)) : TG cf g A nL X cells slots σ pc lv (.int y :: .int x :: rest) := by
  obtain ⟨p, l, e, R, s, m, args, below, meth, c, Q⟩ := X
  obtain ⟨hx, hb, hr, hlk, hml, hown, hts, hK, hA, hF, hLc, hKC⟩ := C
  exact fun H locs ls hP hD hS hl => lv_icmp_ge hx hb d ht (fun z => kt z H locs ls hP hD hS hl) (fun z => kf z H locs ls hP hD hS hl)
theorem g_if_gt {x : Int32} {off : Int} (tgt : Nat) (C : CX cf g A nL X cc own ret F Lc) (d : decode cc pc = .ok (.ifCond .gt off, 3)) (ht : (pc : Int) + off = (tgt : Int)) (kt : 0 < x → TG cf g A nL X cells slots σ tgt lv (rest)) (kf : ¬ 0 < x → TG cf g A nL X cells slots σ (pc + 3) lv (rest)) : TG cf g A nL X cells slots σ pc lv (.int x :: rest) := by
  obtain ⟨p, l, e, R, s, m, args, below, meth, c, Q⟩ := X
  obtain ⟨hx, hb, hr, hlk, hml, hown, hts, hK, hA, hF, hLc, hKC⟩ := C
  exact fun H locs ls hP hD hS hl => lv_if_gt hx hb d ht (fun z => kt z H locs ls hP hD hS hl) (fun z => kf z H locs ls hP hD hS hl)
theorem g_icmp_gt {x y : Int32} {off : Int} (tgt : Nat) (C : CX cf g A nL X cc own ret F Lc) (d : decode cc pc = .ok (.if_icmp .gt off, 3)) (ht : (pc : Int) + off = (tgt : Int)) (kt : y < x → TG cf g A nL X cells slots σ tgt lv (rest)) (kf : ¬ y < x → TG cf g A nL X cells slots σ (pc + 3) lv (rest)) : TG cf g A nL X cells slots σ pc lv (.int y :: .int x :: rest) := by
  obtain ⟨p, l, e, R, s, m, args, below, meth, c, Q⟩ := X
  obtain ⟨hx, hb, hr, hlk, hml, hown, hts, hK, hA, hF, hLc, hKC⟩ := C
  exact fun H locs ls hP hD hS hl => lv_icmp_gt hx hb d ht (fun z => kt z H locs ls hP hD hS hl) (fun z => kf z H locs ls hP hD hS hl)
theorem g_if_le {x : Int32} {off : Int} (tgt : Nat) (C : CX cf g A nL X cc own ret F Lc) (d : decode cc pc = .ok (.ifCond .le off, 3)) (ht : (pc : Int) + off = (tgt : Int)) (kt : x ≤ 0 → TG cf g A nL X cells slots σ tgt lv (rest)) (kf : ¬ x ≤ 0 → TG cf g A nL X cells slots σ (pc + 3) lv (rest)) : TG cf g A nL X cells slots σ pc lv (.int x :: rest) := by
  obtain ⟨p, l, e, R, s, m, args, below, meth, c, Q⟩ := X
  obtain ⟨hx, hb, hr, hlk, hml, hown, hts, hK, hA, hF, hLc, hKC⟩ := C
  exact fun H locs ls hP hD hS hl => lv_if_le hx hb d ht (fun z => kt z H locs ls hP hD hS hl) (fun z => kf z H locs ls hP hD hS hl)
theorem g_icmp_le {x y : Int32} {off : Int} (tgt : Nat) (C : CX cf g A nL X cc own ret F Lc) (d : decode cc pc = .ok (.if_icmp .le off, 3)) (ht : (pc : Int) + off = (tgt : Int)) (kt : x ≤ y → TG cf g A nL X cells slots σ tgt lv (rest)) (kf : ¬ x ≤ y → TG cf g A nL X cells slots σ (pc + 3) lv (rest)) : TG cf g A nL X cells slots σ pc lv (.int y :: .int x :: rest) := by
  obtain ⟨p, l, e, R, s, m, args, below, meth, c, Q⟩ := X
  obtain ⟨hx, hb, hr, hlk, hml, hown, hts, hK, hA, hF, hLc, hKC⟩ := C
  exact fun H locs ls hP hD hS hl => lv_icmp_le hx hb d ht (fun z => kt z H locs ls hP hD hS hl) (fun z => kf z H locs ls hP hD hS hl)
theorem g_if_ne {x : Int32} {off : Int} (tgt : Nat) (C : CX cf g A nL X cc own ret F Lc) (d : decode cc pc = .ok (.ifCond .ne off, 3)) (ht : (pc : Int) + off = (tgt : Int)) (kf : x = 0 → TG cf g A nL X cells slots σ (pc + 3) lv (rest)) (kt : ¬ x = 0 → TG cf g A nL X cells slots σ tgt lv (rest)) : TG cf g A nL X cells slots σ pc lv (.int x :: rest) := by
  obtain ⟨p, l, e, R, s, m, args, below, meth, c, Q⟩ := X
  obtain ⟨hx, hb, hr, hlk, hml, hown, hts, hK, hA, hF, hLc, hKC⟩ := C
  exact fun H locs ls hP hD hS hl => lv_if_ne hx hb d ht (fun z => kt z H locs ls hP hD hS hl) (fun z => kf (by first | exact z | exact Decidable.of_not_not z) H locs ls hP hD hS hl)
theorem g_icmp_ne {x y : Int32} {off : Int} (tgt : Nat) (C : CX cf g A nL X cc own ret F Lc) (d : decode cc pc = .ok (.if_icmp .ne off, 3)) (ht : (pc : Int) + off = (tgt : Int)) (kf : x = y → TG cf g A nL X cells slots σ (pc + 3) lv (rest)) (kt : ¬ x = y → TG cf g A nL X cells slots σ tgt lv (rest)) : TG cf g A nL X cells slots σ pc lv (.int y :: .int x :: rest) := by
  obtain ⟨p, l, e, R, s, m, args, below, meth, c, Q⟩ := X
  obtain ⟨hx, hb, hr, hlk, hml, hown, hts, hK, hA, hF, hLc, hKC⟩ := C
  exact fun H locs ls hP hD hS hl => lv_icmp_ne hx hb d ht (fun z => kt z H locs ls hP hD hS hl) (fun z => kf (by first | exact z | exact Decidable.of_not_not z) H locs ls hP hD hS hl)
theorem g_ifZ_eq {b : Bool} {off : Int} (tgt : Nat) (C : CX cf g A nL X cc own ret F Lc) (d : decode cc pc = .ok (.ifCond .eq off, 3)) (ht : (pc : Int) + off = (tgt : Int)) (kf : b = true → TG cf g A nL X cells slots σ (pc + 3) lv (rest)) (kt : ¬ b = true → TG cf g A nL X cells slots σ tgt lv (rest)) : TG cf g A nL X cells slots σ pc lv (.int (bI b) :: rest) := by
  refine g_if_eq tgt C d ht (fun z => kt (fun q => ?_)) (fun z => kf ?_)
  · rw [q] at z; exact absurd z (by decide)
  · cases b with
    | true => rfl
    | false => exact absurd rfl z
theorem g_ifZ_ne {b : Bool} {off : Int} (tgt : Nat) (C : CX cf g A nL X cc own ret F Lc) (d : decode cc pc = .ok (.ifCond .ne off, 3)) (ht : (pc : Int) + off = (tgt : Int)) (kt : b = true → TG cf g A nL X cells slots σ tgt lv (rest)) (kf : ¬ b = true → TG cf g A nL X cells slots σ (pc + 3) lv (rest)) : TG cf g A nL X cells slots σ pc lv (.int (bI b) :: rest) := by
  refine g_if_ne tgt C d ht (fun z => kf (fun q => ?_)) (fun z => kt ?_)
  · rw [q] at z; exact absurd z (by decide)
  · cases b with
    | true => rfl
    | false => exact absurd rfl z
theorem g_goto {off : Int} (tgt : Nat) (C : CX cf g A nL X cc own ret F Lc) (d : decode cc pc = .ok (.goto off, 3)) (ht : (pc : Int) + off = (tgt : Int)) (k : TG cf g A nL X cells slots σ tgt lv (st)) : TG cf g A nL X cells slots σ pc lv (st) := by
  obtain ⟨p, l, e, R, s, m, args, below, meth, c, Q⟩ := X
  obtain ⟨hx, hb, hr, hlk, hml, hown, hts, hK, hA, hF, hLc, hKC⟩ := C
  exact fun H locs ls hP hD hS hl => lv_goto hx hb d ht (k H locs ls hP hD hS hl)
theorem g_tableIn {dflt lo hi : Int} {offs : Array Int} {len : Nat} {x : Int32} {off : Int} (v : Int32) (tgt : Nat) (C : CX cf g A nL X cc own ret F Lc) (d : decode cc pc = .ok (.tableswitch dflt lo hi offs, len)) (hv : x = v) (h1 : ¬ v.toInt < lo) (h2 : ¬ hi < v.toInt) (ho : offs[(v.toInt - lo).toNat]? = some off) (ht : (pc : Int) + off = (tgt : Int)) (k : TG cf g A nL X cells slots σ tgt lv (rest)) : TG cf g A nL X cells slots σ pc lv (.int x :: rest) := by
  subst hv
  obtain ⟨p, l, e, R, s, m, args, below, meth, c, Q⟩ := X
  obtain ⟨hx, hb, hr, hlk, hml, hown, hts, hK, hA, hF, hLc, hKC⟩ := C
  exact fun H locs ls hP hD hS hl => lv_tableIn hx hb d h1 h2 ho ht (k H locs ls hP hD hS hl)
theorem g_tableOut {dflt lo hi : Int} {offs : Array Int} {len : Nat} {x : Int32} (tgt : Nat) (C : CX cf g A nL X cc own ret F Lc) (d : decode cc pc = .ok (.tableswitch dflt lo hi offs, len)) (h : x.toInt < lo ∨ hi < x.toInt) (ht : (pc : Int) + dflt = (tgt : Int)) (k : TG cf g A nL X cells slots σ tgt lv (rest)) : TG cf g A nL X cells slots σ pc lv (.int x :: rest) := by
  obtain ⟨p, l, e, R, s, m, args, below, meth, c, Q⟩ := X
  obtain ⟨hx, hb, hr, hlk, hml, hown, hts, hK, hA, hF, hLc, hKC⟩ := C
  exact fun H locs ls hP hD hS hl => lv_tableOut hx hb d h ht (k H locs ls hP hD hS hl)
theorem g_tableD {dflt lo hi : Int} {offs : Array Int} {len : Nat} {x : Int32} (tgt : Nat) (C : CX cf g A nL X cc own ret F Lc) (d : decode cc pc = .ok (.tableswitch dflt lo hi offs, len)) (h : x.toInt < lo ∨ hi < x.toInt ∨ offs[(x.toInt - lo).toNat]? = some dflt) (ht : (pc : Int) + dflt = (tgt : Int)) (k : TG cf g A nL X cells slots σ tgt lv (rest)) : TG cf g A nL X cells slots σ pc lv (.int x :: rest) := by
  by_cases h1 : x.toInt < lo
  · exact g_tableOut tgt C d (Or.inl h1) ht k
  · by_cases h2 : hi < x.toInt
    · exact g_tableOut tgt C d (Or.inr h2) ht k
    · exact g_tableIn x tgt C d rfl h1 h2 (h.elim (fun z => absurd z h1) (fun z => z.elim (fun z => absurd z h2) id)) ht k
/-- a field by its pool entry: class ci, place j, tag -/
def FO (cf : Cfg) (own : String) (idx ci j tag : Nat) : Prop := ∃ (Cn : String) (T : u_T) (Nf : Nat), (cf.2.2.1 ci)[j]? = some tag ∧ cf.2.2.2.2.1[ci]? = some (Cn, T, Nf) ∧ j < Nf ∧ (∀ w ∈ u_ws Cn T Nf, w ∈ lw_all) ∧ Cond.fieldLink own idx (T j).1 (T j).2.1 (T j).2.2.1 ∈ lw_all ∧ True
/-- one that may be written: its type -/
def PO (cf : Cfg) (own : String) (idx ci j tag : Nat) (ty : FieldType) : Prop := ∃ (Cn : String) (T : u_T) (Nf : Nat), (cf.2.2.1 ci)[j]? = some tag ∧ cf.2.2.2.2.1[ci]? = some (Cn, T, Nf) ∧ j < Nf ∧ (∀ w ∈ u_ws Cn T Nf, w ∈ lw_all) ∧ Cond.fieldLink own idx (T j).1 (T j).2.1 (T j).2.2.1 ∈ lw_all ∧ True ∧ (T j).2.2.2 = false ∧ parseFieldDescriptor (T j).2.2.1 = some ty ∧ ∃ ty0 : Nat → FieldType, (∀ k, k < Nf → parseFieldDescriptor (T k).2.2.1 = some (ty0 k)) ∧ (∀ a, a < Nf → ∀ b, b < Nf → a ≠ b → (T a).2.1 ≠ (T b).2.1)
/-- a static object, a static array, by code -/
def OO (cf : Cfg) (k ci : Nat) : Prop := k < cf.1 ∧ ∃ x, cf.2.1 k = (4, ci, x)
def AO (cf : Cfg) (k kind n : Nat) : Prop := k < cf.1 ∧ ∃ x, cf.2.1 k = (kind, n, x)
theorem OO.at {k ci : Nat} (h : OO cf k ci) : (wS cf g σ)[k]? = some (g.1 k, .inr (ci, fL cf g σ k ci)) := by
  obtain ⟨hk, x, hx⟩ := h
  rw [wS_at hk]
  simp only [cE, hx]
theorem AO.at0 {k n : Nat} (h : AO cf k 0 n) : (wS cf g σ)[k]? = some (g.1 k, .inl (g.2.1 0, n, .inl (σ.1 k))) := by
  obtain ⟨hk, x, hx⟩ := h
  rw [wS_at hk]
  simp only [cE, hx]
theorem AO.at1 {k n : Nat} (h : AO cf k 1 n) : (wS cf g σ)[k]? = some (g.1 k, .inl (g.2.1 1, n, .inl (σ.1 k))) := by
  obtain ⟨hk, x, hx⟩ := h
  rw [wS_at hk]
  simp only [cE, hx]
theorem AO.at2 {k n : Nat} (h : AO cf k 2 n) : (wS cf g σ)[k]? = some (g.1 k, .inl (g.2.1 2, n, .inr (.inl (σ.2.1 k)))) := by
  obtain ⟨hk, x, hx⟩ := h
  rw [wS_at hk]
  simp only [cE, hx]
theorem g_get {k ci j idx tag : Nat} (C : CX cf g A nL X cc own ret F Lc) (o : OO cf k ci) (f : FO cf own idx ci j tag) (d : decode cc pc = .ok (.getfield idx, 3)) (kk : TG cf g A nL X cells slots σ (pc + 3) lv (fV cf g σ k j tag :: rest)) : TG cf g A nL X cells slots σ pc lv (.ref (g.1 k) :: rest) := by
  obtain ⟨p, l, e, R, s, m, args, below, meth, c, Q⟩ := X
  obtain ⟨hx, hb, hr, hlk, hml, hown, hts, hK, hA, hF, hLc, hKC⟩ := C
  obtain ⟨Cn, T, Nf, f1, f2, f3, f4, f5, f6⟩ := f
  exact fun H locs ls hP hD hS hl => va_get hx hb hts f4 hown hK hP k o.at f2 j f3 (hts _ f5) (fun x h => h) (fL_at f1) d (kk H locs ls hP hD hS hl)
theorem g_getI {k ci j idx : Nat} (C : CX cf g A nL X cc own ret F Lc) (o : OO cf k ci) (f : FO cf own idx ci j 0) (d : decode cc pc = .ok (.getfield idx, 3)) (kk : TG cf g A nL X cells slots σ (pc + 3) lv (.int (σ.1 k j) :: rest)) : TG cf g A nL X cells slots σ pc lv (.ref (g.1 k) :: rest) := g_get C o f d kk
theorem g_getJ {k ci j idx : Nat} (C : CX cf g A nL X cc own ret F Lc) (o : OO cf k ci) (f : FO cf own idx ci j 1) (d : decode cc pc = .ok (.getfield idx, 3)) (kk : TG cf g A nL X cells slots σ (pc + 3) lv (.long (σ.2.1 k j) :: rest)) : TG cf g A nL X cells slots σ pc lv (.ref (g.1 k) :: rest) := g_get C o f d kk
theorem g_getS {k ci j idx : Nat} (t : Nat) (C : CX cf g A nL X cc own ret F Lc) (o : OO cf k ci) (f : FO cf own idx ci j 2) (ht : cf.2.2.2.1 k j = t) (d : decode cc pc = .ok (.getfield idx, 3)) (kk : TG cf g A nL X cells slots σ (pc + 3) lv (.ref (g.1 t) :: rest)) : TG cf g A nL X cells slots σ pc lv (.ref (g.1 k) :: rest) := g_get C o f d (by subst ht; exact kk)
theorem g_getQ {k ci j idx : Nat} (C : CX cf g A nL X cc own ret F Lc) (o : OO cf k ci) (f : FO cf own idx ci j 3) (d : decode cc pc = .ok (.getfield idx, 3)) (kk : TG cf g A nL X cells slots σ (pc + 3) lv (va_rf (σ.2.2.1 k j) :: rest)) : TG cf g A nL X cells slots σ pc lv (.ref (g.1 k) :: rest) := g_get C o f d kk
theorem g_put {k ci j idx tag : Nat} {ty : FieldType} {v : Value} {σ' : Sto} (C : CX cf g A nL X cc own ret F Lc) (o : OO cf k ci) (f : PO cf own idx ci j tag ty) (hn : narrow ty v = v) (hfit : fits ty v = true) (hv : v = fV cf g σ' k j tag) (hp : σ'.2.2.2 = σ.2.2.2) (hc : ∀ a, a ≠ k → cE cf g σ' a = cE cf g σ a) (hi : ∀ i u, i ≠ j → fV cf g σ' k i u = fV cf g σ k i u) (d : decode cc pc = .ok (.putfield idx, 3)) (kk : TG cf g A nL X cells slots σ' (pc + 3) lv rest) : TG cf g A nL X cells slots σ pc lv (v :: .ref (g.1 k) :: rest) := by
  obtain ⟨p, l, e, R, s, m, args, below, meth, c, Q⟩ := X
  obtain ⟨hx, hb, hr, hlk, hml, hown, hts, hK, hA, hF, hLc, hKC⟩ := C
  obtain ⟨Cn, T, Nf, f1, f2, f3, f4, f5, f6, f7, f8, ty0, f9, f10⟩ := f
  have hl9 := (List.getElem?_eq_some_iff.mp f1).1
  have e1 : (wS cf g σ).set k (g.1 k, .inr (ci, (fL cf g σ k ci).set j v)) = wS cf g σ' := by
    rw [hv, fL_set f1 hi, ← wS_set o.1 hp hc]
    obtain ⟨-, x, hx⟩ := o
    simp only [cE, hx]
  intro H locs ls hP hD hS hl
  refine va_put hx hb hts f4 ty0 f9 f10 hown hK hP hD hS k o.at f2 j f3 (hts _ f5) (fun x h => h) f7 f8 hn hfit (by rw [fL_len]; exact hl9) d (fun H1 locs1 hP hD hS => ?_)
  rw [e1] at hP hD
  exact kk H1 locs1 ls hP hD hS hl
theorem g_putI {k ci j idx : Nat} {ty : FieldType} {v : Int32} {σ' : Sto} (C : CX cf g A nL X cc own ret F Lc) (o : OO cf k ci) (f : PO cf own idx ci j 0 ty) (hn : narrow ty (.int v) = .int v) (hfit : fits ty (.int v) = true) (hs : σ' = sI σ k j v) (d : decode cc pc = .ok (.putfield idx, 3)) (kk : TG cf g A nL X cells slots σ' (pc + 3) lv rest) : TG cf g A nL X cells slots σ pc lv (.int v :: .ref (g.1 k) :: rest) := by
  subst hs
  refine g_put (σ' := sI σ k j v) C o f hn hfit (by simp [fV, sI]) rfl (fun a h => cE_sI a h) (fun i u h => ?_) d kk
  simp only [fV, sI]
  simp [h]
theorem g_putE {k ci j idx : Nat} {Cn : String} {v : Int32} {σ' : Sto} (C : CX cf g A nL X cc own ret F Lc) (o : OO cf k ci) (f : PO cf own idx ci j 4 (.object Cn)) (hs : σ' = sI σ k j v) (d : decode cc pc = .ok (.putfield idx, 3)) (kk : TG cf g A nL X cells slots σ' (pc + 3) lv rest) : TG cf g A nL X cells slots σ pc lv (eV g v :: .ref (g.1 k) :: rest) := by
  subst hs
  have e1 : eV g v = .null ∨ ∃ a, eV g v = .ref a := by
    unfold eV
    split
    · exact Or.inl rfl
    · exact Or.inr ⟨_, rfl⟩
  refine g_put (σ' := sI σ k j v) C o f (by rcases e1 with h | ⟨a, h⟩ <;> rw [h] <;> rfl) (by rcases e1 with h | ⟨a, h⟩ <;> rw [h] <;> rfl) (by simp [fV, sI]) rfl (fun a h => cE_sI a h) (fun i u h => ?_) d kk
  simp only [fV, sI]
  simp [h]
theorem g_putJ {k ci j idx : Nat} {v : Int64} {σ' : Sto} (C : CX cf g A nL X cc own ret F Lc) (o : OO cf k ci) (f : PO cf own idx ci j 1 .long) (hs : σ' = sL σ k j v) (d : decode cc pc = .ok (.putfield idx, 3)) (kk : TG cf g A nL X cells slots σ' (pc + 3) lv rest) : TG cf g A nL X cells slots σ pc lv (.long v :: .ref (g.1 k) :: rest) := by
  subst hs
  refine g_put (σ' := sL σ k j v) C o f rfl rfl (by simp [fV, sL]) rfl (fun a h => cE_sL a h) (fun i u h => ?_) d kk
  simp only [fV, sL]
  simp [h]
theorem g_putQ {k ci j idx : Nat} {Cn : String} {v : Option Nat} {σ' : Sto} (C : CX cf g A nL X cc own ret F Lc) (o : OO cf k ci) (f : PO cf own idx ci j 3 (.object Cn)) (hs : σ' = sR σ k j v) (d : decode cc pc = .ok (.putfield idx, 3)) (kk : TG cf g A nL X cells slots σ' (pc + 3) lv rest) : TG cf g A nL X cells slots σ pc lv (va_rf v :: .ref (g.1 k) :: rest) := by
  subst hs
  refine g_put (σ' := sR σ k j v) C o f (by cases v <;> rfl) (by cases v <;> rfl) (by simp [fV, sR]) rfl (fun a h => cE_sR a h) (fun i u h => ?_) d kk
  simp only [fV, sR]
  simp [h]
theorem g_iald {k n : Nat} {i : Int32} (C : CX cf g A nL X cc own ret F Lc) (a : AO cf k 0 n) (h0 : cf.2.2.2.2.2[0]? = some .int) (hin : inb i n = true) (d : decode cc pc = .ok (.iaload, 1)) (kk : TG cf g A nL X cells slots σ (pc + 1) lv (.int (rd σ k i) :: rest)) : TG cf g A nL X cells slots σ pc lv (.int i :: .ref (g.1 k) :: rest) := by
  obtain ⟨p, l, e, R, s, m, args, below, meth, c, Q⟩ := X
  obtain ⟨hx, hb, hr, hlk, hml, hown, hts, hK, hA, hF, hLc, hKC⟩ := C
  exact fun H locs ls hP hD hS hl => va_iald hx hb hK hP k 0 a.at0 (tyl_at h0) (inb_in hin) d (kk H locs ls hP hD hS hl)
theorem g_bald {k n : Nat} {i : Int32} (C : CX cf g A nL X cc own ret F Lc) (a : AO cf k 1 n) (h0 : cf.2.2.2.2.2[1]? = some .byte) (hin : inb i n = true) (d : decode cc pc = .ok (.baload, 1)) (kk : TG cf g A nL X cells slots σ (pc + 1) lv (.int (rd σ k i) :: rest)) : TG cf g A nL X cells slots σ pc lv (.int i :: .ref (g.1 k) :: rest) := by
  obtain ⟨p, l, e, R, s, m, args, below, meth, c, Q⟩ := X
  obtain ⟨hx, hb, hr, hlk, hml, hown, hts, hK, hA, hF, hLc, hKC⟩ := C
  exact fun H locs ls hP hD hS hl => va_bald hx hb hK hP k 1 a.at1 (tyl_at h0) (inb_in hin) d (kk H locs ls hP hD hS hl)
theorem g_lald {k n : Nat} {i : Int32} (C : CX cf g A nL X cc own ret F Lc) (a : AO cf k 2 n) (h0 : cf.2.2.2.2.2[2]? = some .long) (hin : inb i n = true) (d : decode cc pc = .ok (.laload, 1)) (kk : TG cf g A nL X cells slots σ (pc + 1) lv (.long (rdL σ k i) :: rest)) : TG cf g A nL X cells slots σ pc lv (.int i :: .ref (g.1 k) :: rest) := by
  obtain ⟨p, l, e, R, s, m, args, below, meth, c, Q⟩ := X
  obtain ⟨hx, hb, hr, hlk, hml, hown, hts, hK, hA, hF, hLc, hKC⟩ := C
  exact fun H locs ls hP hD hS hl => va_lald hx hb hK hP k 2 a.at2 (tyl_at h0) (inb_in hin) d (kk H locs ls hP hD hS hl)
theorem sI_upd (σ : Sto) (k j : Nat) (v : Int32) : (sI σ k j v).1 k = upd (σ.1 k) j v := by
  funext b
  simp [sI, upd]
theorem sL_upd (σ : Sto) (k j : Nat) (v : Int64) : (sL σ k j v).2.1 k = vp_updL (σ.2.1 k) j v := by
  funext b
  simp [sL, vp_updL]
theorem sR_upd (σ : Sto) (k j : Nat) (v : Option Nat) : (sR σ k j v).2.2.1 k = va_up (σ.2.2.1 k) j v := by
  funext b
  simp [sR, va_up]
theorem g_iast {k n : Nat} {i v : Int32} {σ' : Sto} (C : CX cf g A nL X cc own ret F Lc) (a : AO cf k 0 n) (h0 : cf.2.2.2.2.2[0]? = some .int) (hin : inb i n = true) (hs : σ' = wr σ k i v) (d : decode cc pc = .ok (.iastore, 1)) (kk : TG cf g A nL X cells slots σ' (pc + 1) lv rest) : TG cf g A nL X cells slots σ pc lv (.int v :: .int i :: .ref (g.1 k) :: rest) := by
  subst hs
  obtain ⟨p, l, e, R, s, m, args, below, meth, c, Q⟩ := X
  obtain ⟨hx, hb, hr, hlk, hml, hown, hts, hK, hA, hF, hLc, hKC⟩ := C
  have e1 : (wS cf g σ).set k (g.1 k, .inl (g.2.1 0, n, .inl (upd (σ.1 k) i.toNatClampNeg v))) = wS cf g (wr σ k i v) := by
    rw [← sI_upd, ← wS_set (σ := σ) (σ' := wr σ k i v) a.1 rfl (fun q h => cE_sI q h)]
    obtain ⟨-, x, hx⟩ := a
    simp only [cE, hx, wr]
  intro H locs ls hP hD hS hl
  refine va_iast hx hb hK hP hD hS k 0 a.at0 (tyl_at h0) (inb_in hin) d (fun H1 locs1 hP hD hS => ?_)
  rw [e1] at hP hD
  exact kk H1 locs1 ls hP hD hS hl
theorem g_bast {k n : Nat} {i v : Int32} {σ' : Sto} (C : CX cf g A nL X cc own ret F Lc) (a : AO cf k 1 n) (h0 : cf.2.2.2.2.2[1]? = some .byte) (hin : inb i n = true) (hs : σ' = wr σ k i (i2b v)) (d : decode cc pc = .ok (.bastore, 1)) (kk : TG cf g A nL X cells slots σ' (pc + 1) lv rest) : TG cf g A nL X cells slots σ pc lv (.int v :: .int i :: .ref (g.1 k) :: rest) := by
  subst hs
  obtain ⟨p, l, e, R, s, m, args, below, meth, c, Q⟩ := X
  obtain ⟨hx, hb, hr, hlk, hml, hown, hts, hK, hA, hF, hLc, hKC⟩ := C
  have e1 : (wS cf g σ).set k (g.1 k, .inl (g.2.1 1, n, .inl (upd (σ.1 k) i.toNatClampNeg (vp_nar .byte v)))) = wS cf g (wr σ k i (i2b v)) := by
    rw [show vp_nar .byte v = i2b v from rfl, ← sI_upd, ← wS_set (σ := σ) (σ' := wr σ k i (i2b v)) a.1 rfl (fun q h => cE_sI q h)]
    obtain ⟨-, x, hx⟩ := a
    simp only [cE, hx, wr]
  intro H locs ls hP hD hS hl
  refine va_bast hx hb hK hP hD hS k 1 a.at1 (tyl_at h0) (inb_in hin) d (fun H1 locs1 hP hD hS => ?_)
  rw [e1] at hP hD
  exact kk H1 locs1 ls hP hD hS hl
theorem g_last {k n : Nat} {i : Int32} {v : Int64} {σ' : Sto} (C : CX cf g A nL X cc own ret F Lc) (a : AO cf k 2 n) (h0 : cf.2.2.2.2.2[2]? = some .long) (hin : inb i n = true) (hs : σ' = wrL σ k i v) (d : decode cc pc = .ok (.lastore, 1)) (kk : TG cf g A nL X cells slots σ' (pc + 1) lv rest) : TG cf g A nL X cells slots σ pc lv (.long v :: .int i :: .ref (g.1 k) :: rest) := by
  subst hs
  obtain ⟨p, l, e, R, s, m, args, below, meth, c, Q⟩ := X
  obtain ⟨hx, hb, hr, hlk, hml, hown, hts, hK, hA, hF, hLc, hKC⟩ := C
  have e1 : (wS cf g σ).set k (g.1 k, .inl (g.2.1 2, n, .inr (.inl (vp_updL (σ.2.1 k) i.toNatClampNeg v)))) = wS cf g (wrL σ k i v) := by
    rw [← sL_upd, ← wS_set (σ := σ) (σ' := wrL σ k i v) a.1 rfl (fun q h => cE_sL q h)]
    obtain ⟨-, x, hx⟩ := a
    simp only [cE, hx, wrL]
  intro H locs ls hP hD hS hl
  refine va_last hx hb hK hP hD hS k 2 a.at2 (tyl_at h0) (inb_in hin) d (fun H1 locs1 hP hD hS => ?_)
  rw [e1] at hP hD
  exact kk H1 locs1 ls hP hD hS hl
theorem g_alenI {k n : Nat} {v : Int32} (C : CX cf g A nL X cc own ret F Lc) (a : AO cf k 0 n) (h0 : cf.2.2.2.2.2[0]? = some .int) (hv : Int32.ofNat n = v) (d : decode cc pc = .ok (.arraylength, 1)) (kk : TG cf g A nL X cells slots σ (pc + 1) lv (.int v :: rest)) : TG cf g A nL X cells slots σ pc lv (.ref (g.1 k) :: rest) := by
  obtain ⟨p, l, e, R, s, m, args, below, meth, c, Q⟩ := X
  obtain ⟨hx, hb, hr, hlk, hml, hown, hts, hK, hA, hF, hLc, hKC⟩ := C
  exact fun H locs ls hP hD hS hl => va_alen hx hb hK hP k 0 a.at0 (tyl_at h0) hv d (kk H locs ls hP hD hS hl)
/-- a call, whatever it answers -/
theorem va_callg {p : Program} {l : Launch} {e : Env} {R : Room} {s : State} {m : MethodId} {args : Array Value} {below : List Frame} {meth : Method} {c : Code} {H : Heap} {locs : List Loc} {cells slots : Nat} {Q : State → Prop} {pc : Nat} {ls : Array Slot} {rest st0 : List Value} {A0 A1 : Nat → Prop} {H0 : Heap} {mc ms : Nat} {free : Addr → Prop} {Qa : State → Outcome → State → Prop} {rv : Option Value} {B : State → Prop}
    (hr : va_Run p l e R s m args below meth c H locs cells slots mc ms (F0 m pc ls st0) rest Qa free) (hq : ∀ st oc t, Qa st oc t → (oc = .returned rv ∧ B t) ∧ va_F A1 st t) (hS : va_S A0 H0 H locs) (hA : ∀ q, A1 q → A0 q) (hf : ∀ q, free q → A0 q)
    (kk : ∀ (t : State) (H1 : Heap) (locs1 : List Loc), t.heap = H1 → s.vm.Alike t.vm → B t → H.size ≤ H1.size → (∀ q : Nat, q < H.size → ¬ A1 q → H1[q]? = H[q]?) → va_S A0 H0 H1 locs1 → W p l e R s m args below meth c H1 locs1 (cells + mc) (slots + ms) Q (F0 m (pc + 3) ls (rv.toList ++ rest))) : W p l e R s m args below meth c H locs cells slots Q (F0 m pc ls st0) := by
  intro T hT X
  obtain ⟨v, st₀, t, T', L, h0, X', hL, e1, e2, hQ, st⟩ := hr T hT X
  obtain ⟨⟨hv, hb⟩, hz, hk⟩ := hq _ _ _ hQ
  cases hv
  rw [h0] at hz hk
  obtain ⟨t2, a1, b1⟩ := kk t T'.heap (locs ++ L) e1.symm (by rw [← e2]; exact X'.warmed.alike) hb (by rw [e1]; exact hz) (fun q h1 h2 => by rw [e1]; exact hk q h1 h2)
    ⟨Nat.le_trans hS.1 (by rw [e1]; exact hz), fun q h1 h2 => by rw [e1, hk q (Nat.lt_of_lt_of_le h1 hS.1) (fun z => h2 (hA q z))]; exact hS.2.1 q h1 h2, fun q hq => by
      rcases List.mem_append.mp hq with h | h
      · exact hS.2.2 q h
      · exact hf _ (hL q h)⟩ T' rfl X'
  exact ⟨t2, st t2 a1, b1⟩
theorem wS_free {ws : va_W} {H : Heap} {sz : Nat} {A : Nat → Prop} (hD : va_D A ws) (hA : ∀ q, sz ≤ q → A q) (hz : sz ≤ H.size) : ∀ q, va_A ws H.size q → A q := by
  intro q h
  rcases h with ⟨k, e, h⟩ | h
  · exact hD.2 k (q, e) h
  · exact hA q (Nat.le_trans hz h)
theorem cP_blind {sz : Nat} {av : List Value} : FrameBlind (cP cf g sz av σ) := by
  intro a U g1 mk q
  obtain ⟨q0, q1, qP, qK, qD, qC⟩ := q
  exact ⟨q0, q1, qP, va_K.moved (u := U) (U := U.calling g1 mk a) (Vm.Alike.refl U.vm) qK, qD, qC.same rfl⟩
/-- a call of an instance method on a static object -/
theorem g_callV {l : Launch} {k ci idx L n : Nat} {Cn : String} {y : MethodName} {b : ByteArray} {r : Option FieldType} {rm : Room} {av : Gam → List Value} {As : List Value} {σ' : Sto} {rv : Gam → Option Value} {T : u_T} {Nf : Nat}
    (C : CX cf g A nL X cc own ret F Lc) (hM : Ct cf l y b L r rm av σ σ' rv) (hX : X.2.1 = l) (o : OO cf k ci) (hc : cf.2.2.2.2.1[ci]? = some (Cn, T, Nf)) (hav : av g = .ref (g.1 k) :: As)
    (w1 : Cond.methodLink own idx y ∈ lw_all) (w2 : Cond.instanceMethod y ∈ lw_all) (w3 : Cond.selects Cn y y ∈ lw_all) (w4 : Cond.initialized Cn ∈ lw_all) (w5 : Cond.code y b L r ∈ lw_all)
    (hd : y.cls = Cn ∧ y.cls ≠ "java/lang/invoke/MethodHandle" ∧ y.cls ≠ "java/lang/invoke/VarHandle" ∧ (parseMethodDescriptor y.desc).map (fun d => d.parameters.length) = some n) (hn : As.length = n)
    (hR : rm.frames + 1 ≤ F ∧ 8 + (L + 11) + rm.locals ≤ Lc) (hrest : (rest.map fun v => v.category).sum ≤ 8) (d : decode cc pc = .ok (.invokevirtual idx, 3)) (hroom : cells + rm.cells ≤ X.2.2.2.1.cells ∧ slots + rm.slots ≤ X.2.2.2.1.slots)
    (kk : TG cf g A nL X (cells + rm.cells) (slots + rm.slots) σ' (pc + 3) lv ((rv g).toList ++ rest)) : TG cf g A nL X cells slots σ pc lv (As.reverse ++ .ref (g.1 k) :: rest) := by
  obtain ⟨p, l, e, R, s, m, args, below, meth, c, Q⟩ := X
  obtain ⟨hx, hb, hr, hlk, hml, hown, hts, hK, hA, hF, hLc, hKC⟩ := C
  cases hX
  intro H locs ls hP hD hS hl
  have hM := hM g H.size
  rw [hav] at hM
  have hFc := wS_free (H := H) hD hA hS.1
  refine va_callg (rv := rv g) (A1 := va_A (wS cf g σ) H.size) (B := fun t => va_P g.2.2.1 cf.2.2.2.2.1 (wS cf g σ') t.heap ∧ va_D (va_A (wS cf g σ) H.size) (wS cf g σ'))
    (va_runV (As := As) (rest := rest) ⟨hx, hb, hml, hown, hts⟩ hM (cwV n hts (lw_V w1 w2 w3 w4 w5) rfl rfl rfl hd ⟨Nat.le_trans hR.1 hF, Nat.le_trans hR.2 hLc⟩)
      ⟨cP_blind, va_recv hK hP hc o.at, fun U hU hW => ⟨rfl, by rw [hU], by rw [hU]; exact hP, va_K.moved hW.alike hK, hD.weaken (fun _ _ _ _ => trivial), hKC.call hS hFc hU hW⟩⟩ rfl hn hl.1 rfl (lv_room hrest) d hroom)
    (fun st oc t h => ⟨⟨h.1.1, h.1.2⟩, h.2⟩) hS hFc hFc (fun t H1 locs1 ht hvm hB hz hk1 hS => ?_)
  obtain ⟨hP1, hD1⟩ := hB
  rw [ht] at hP1
  exact kk H1 locs1 ls hP1 (hD1.weaken (fun _ q _ h => hFc q.1 h)) hS hl
/-- a call of a static method -/
theorem g_callS {l : Launch} {idx L n : Nat} {y : MethodName} {b : ByteArray} {r : Option FieldType} {rm : Room} {av : Gam → List Value} {As : List Value} {σ' : Sto} {rv : Gam → Option Value}
    (C : CX cf g A nL X cc own ret F Lc) (hM : Ct cf l y b L r rm av σ σ' rv) (hX : X.2.1 = l) (hav : av g = As)
    (w1 : Cond.methodLink own idx y ∈ lw_all) (w2 : Cond.static y ∈ lw_all) (w3 : Cond.initialized y.cls ∈ lw_all) (w4 : Cond.code y b L r ∈ lw_all)
    (hd : y.cls ≠ "java/lang/invoke/MethodHandle" ∧ y.cls ≠ "java/lang/invoke/VarHandle" ∧ (parseMethodDescriptor y.desc).map (fun d => d.parameters.length) = some n) (hn : As.length = n)
    (hR : rm.frames + 1 ≤ F ∧ 8 + (L + 11) + rm.locals ≤ Lc) (hrest : (rest.map fun v => v.category).sum ≤ 8) (d : decode cc pc = .ok (.invokestatic idx, 3)) (hroom : cells + rm.cells ≤ X.2.2.2.1.cells ∧ slots + rm.slots ≤ X.2.2.2.1.slots)
    (kk : TG cf g A nL X (cells + rm.cells) (slots + rm.slots) σ' (pc + 3) lv ((rv g).toList ++ rest)) : TG cf g A nL X cells slots σ pc lv (As.reverse ++ rest) := by
  obtain ⟨p, l, e, R, s, m, args, below, meth, c, Q⟩ := X
  obtain ⟨hx, hb, hr, hlk, hml, hown, hts, hK, hA, hF, hLc, hKC⟩ := C
  cases hX
  intro H locs ls hP hD hS hl
  have hM := hM g H.size
  rw [hav] at hM
  have hFc := wS_free (H := H) hD hA hS.1
  refine va_callg (rv := rv g) (A1 := va_A (wS cf g σ) H.size) (B := fun t => va_P g.2.2.1 cf.2.2.2.2.1 (wS cf g σ') t.heap ∧ va_D (va_A (wS cf g σ) H.size) (wS cf g σ'))
    (va_runS (As := As) (rest := rest) ⟨hx, hb, hml, hown, hts⟩ hM (va_cwS n hts (lw_S w1 w2 w3 w4) rfl rfl rfl hd ⟨Nat.le_trans hR.1 hF, Nat.le_trans hR.2 hLc⟩)
      ⟨cP_blind, fun U hU hW => ⟨rfl, by rw [hU], by rw [hU]; exact hP, va_K.moved hW.alike hK, hD.weaken (fun _ _ _ _ => trivial), hKC.call hS hFc hU hW⟩⟩ rfl hn hl.1 rfl (lv_room hrest) d hroom)
    (fun st oc t h => ⟨⟨h.1.1, h.1.2⟩, h.2⟩) hS hFc hFc (fun t H1 locs1 ht hvm hB hz hk1 hS => ?_)
  obtain ⟨hP1, hD1⟩ := hB
  rw [ht] at hP1
  exact kk H1 locs1 ls hP1 (hD1.weaken (fun _ q _ h => hFc q.1 h)) hS hl
/-- ends -/
theorem g_iret {v : Int32} {ty : FieldType} {σ0 σ1 : Sto} {rv : Option Value} {mc ms : Nat} (C : CX cf g A nL X cc own (some ty) F Lc) (E : EX cf g A X σ0 σ1 rv mc ms) (hn : narrow ty (.int v) = .int v) (hv : rv = some (.int v)) (hs : σ1 = σ) (hc : cells ≤ mc ∧ slots ≤ ms) (d : decode cc pc = .ok (.ireturn, 1)) : TG cf g A nL X cells slots σ pc lv [.int v] := by
  subst hv; subst hs
  obtain ⟨p, l, e, R, s, m, args, below, meth, c, Q⟩ := X
  obtain ⟨hx, hb, hr, hlk, hml, hown, hts, hK, hA, hF, hLc, hKC⟩ := C
  obtain ⟨rfl, rfl, -, -⟩ := E
  exact fun H locs ls hP hD hS hl => W.widen hc.1 hc.2 (W.zret hx hb hr hn (fun t ht hW => ⟨⟨rfl, by rw [ht]; exact hP, hD⟩, hS.F ht⟩) hS.2.2 d hlk)
theorem g_lret {v : Int64} {σ0 σ1 : Sto} {rv : Option Value} {mc ms : Nat} (C : CX cf g A nL X cc own (some .long) F Lc) (E : EX cf g A X σ0 σ1 rv mc ms) (hv : rv = some (.long v)) (hs : σ1 = σ) (hc : cells ≤ mc ∧ slots ≤ ms) (d : decode cc pc = .ok (.lreturn, 1)) : TG cf g A nL X cells slots σ pc lv [.long v] := by
  subst hv; subst hs
  obtain ⟨p, l, e, R, s, m, args, below, meth, c, Q⟩ := X
  obtain ⟨hx, hb, hr, hlk, hml, hown, hts, hK, hA, hF, hLc, hKC⟩ := C
  obtain ⟨rfl, rfl, -, -⟩ := E
  exact fun H locs ls hP hD hS hl => W.widen hc.1 hc.2 (W.lret hx hb hr (fun t ht hW => ⟨⟨rfl, by rw [ht]; exact hP, hD⟩, hS.F ht⟩) hS.2.2 d hlk)
theorem g_vret {σ0 σ1 : Sto} {rv : Option Value} {mc ms : Nat} (C : CX cf g A nL X cc own none F Lc) (E : EX cf g A X σ0 σ1 rv mc ms) (hv : rv = none) (hs : σ1 = σ) (hc : cells ≤ mc ∧ slots ≤ ms) (d : decode cc pc = .ok (.return_, 1)) : TG cf g A nL X cells slots σ pc lv [] := by
  subst hv; subst hs
  obtain ⟨p, l, e, R, s, m, args, below, meth, c, Q⟩ := X
  obtain ⟨hx, hb, hr, hlk, hml, hown, hts, hK, hA, hF, hLc, hKC⟩ := C
  obtain ⟨rfl, rfl, -, -⟩ := E
  exact fun H locs ls hP hD hS hl => W.widen hc.1 hc.2 (W.vret hx hb hr (fun t ht hW => ⟨⟨rfl, by rw [ht]; exact hP, hD⟩, hS.F ht⟩) hS.2.2 d hlk)
theorem g_callV0 {l : Launch} {k ci idx L n fr lo : Nat} {Cn : String} {y : MethodName} {b : ByteArray} {r : Option FieldType} {av : Gam → List Value} {As stk : List Value} {σ' : Sto} {rv : Gam → Option Value} {T : u_T} {Nf : Nat}
    (C : CX cf g A nL X cc own ret F Lc) (hM : Ct cf l y b L r { frames := fr, cells := 0, slots := 0, locals := lo } av σ σ' rv) (hX : X.2.1 = l) (o : OO cf k ci) (hc : cf.2.2.2.2.1[ci]? = some (Cn, T, Nf)) (hav : av g = .ref (g.1 k) :: As)
    (w1 : Cond.methodLink own idx y ∈ lw_all) (w2 : Cond.instanceMethod y ∈ lw_all) (w3 : Cond.selects Cn y y ∈ lw_all) (w4 : Cond.initialized Cn ∈ lw_all) (w5 : Cond.code y b L r ∈ lw_all)
    (hd : y.cls = Cn ∧ y.cls ≠ "java/lang/invoke/MethodHandle" ∧ y.cls ≠ "java/lang/invoke/VarHandle" ∧ (parseMethodDescriptor y.desc).map (fun d => d.parameters.length) = some n) (hn : As.length = n)
    (hR : fr + 1 ≤ F ∧ 8 + (L + 11) + lo ≤ Lc) (hrest : (rest.map fun v => v.category).sum ≤ 8) (d : decode cc pc = .ok (.invokevirtual idx, 3)) (hst : (rv g).toList ++ rest = stk)
    (kk : TG cf g A nL X 0 0 σ' (pc + 3) lv stk) : TG cf g A nL X 0 0 σ pc lv (As.reverse ++ .ref (g.1 k) :: rest) := by
  subst hst
  exact g_callV C hM hX o hc hav w1 w2 w3 w4 w5 hd hn hR hrest d ⟨Nat.zero_le _, Nat.zero_le _⟩ kk
theorem g_callS0 {l : Launch} {idx L n fr lo : Nat} {y : MethodName} {b : ByteArray} {r : Option FieldType} {av : Gam → List Value} {As stk : List Value} {σ' : Sto} {rv : Gam → Option Value}
    (C : CX cf g A nL X cc own ret F Lc) (hM : Ct cf l y b L r { frames := fr, cells := 0, slots := 0, locals := lo } av σ σ' rv) (hX : X.2.1 = l) (hav : av g = As)
    (w1 : Cond.methodLink own idx y ∈ lw_all) (w2 : Cond.static y ∈ lw_all) (w3 : Cond.initialized y.cls ∈ lw_all) (w4 : Cond.code y b L r ∈ lw_all)
    (hd : y.cls ≠ "java/lang/invoke/MethodHandle" ∧ y.cls ≠ "java/lang/invoke/VarHandle" ∧ (parseMethodDescriptor y.desc).map (fun d => d.parameters.length) = some n) (hn : As.length = n)
    (hR : fr + 1 ≤ F ∧ 8 + (L + 11) + lo ≤ Lc) (hrest : (rest.map fun v => v.category).sum ≤ 8) (d : decode cc pc = .ok (.invokestatic idx, 3)) (hst : (rv g).toList ++ rest = stk)
    (kk : TG cf g A nL X 0 0 σ' (pc + 3) lv stk) : TG cf g A nL X 0 0 σ pc lv (As.reverse ++ rest) := by
  subst hst
  exact g_callS C hM hX hav w1 w2 w3 w4 hd hn hR hrest d ⟨Nat.zero_le _, Nat.zero_le _⟩ kk
end TG
theorem bI_fit (b : Bool) : fits .boolean (.int (bI b)) = true := by cases b <;> decide
theorem va_rf_cat (r : Option Nat) : (va_rf r).category = 1 := by cases r <;> rfl
theorem re_i {a r : Int32} {s t : Sto} (h : some (a, s) = some (r, t)) : (some (Value.int r) : Option Value) = some (.int a) := by cases h; rfl
theorem re_z {a r : Bool} {s t : Sto} (h : some (a, s) = some (r, t)) : (some (Value.int (bI r)) : Option Value) = some (.int (bI a)) := by cases h; rfl
theorem re_l {a r : Int64} {s t : Sto} (h : some (a, s) = some (r, t)) : (some (Value.long r) : Option Value) = some (.long a) := by cases h; rfl
theorem re_s {α : Type} {a r : α} {s t : Sto} (h : some (a, s) = some (r, t)) : t = s := by cases h; rfl
theorem sw_d {x : Int32} {lo hi dflt : Int} {offs : Array Int} (vals : List Int32) (hx : ∀ v ∈ vals, ¬ x = v) (hc : (List.range offs.size).all (fun i => offs[i]? == some dflt || vals.contains (Int32.ofInt (lo + (i : Int)))) = true) (hs : hi - lo < (offs.size : Int)) : x.toInt < lo ∨ hi < x.toInt ∨ offs[(x.toInt - lo).toNat]? = some dflt := by
  by_cases h1 : x.toInt < lo
  · exact Or.inl h1
  · by_cases h2 : hi < x.toInt
    · exact Or.inr (Or.inl h2)
    · refine Or.inr (Or.inr ?_)
      have hi : (x.toInt - lo).toNat < offs.size := by omega
      have h3 := List.all_eq_true.mp hc _ (List.mem_range.mpr hi)
      rw [Bool.or_eq_true] at h3
      rcases h3 with h3 | h3
      · exact beq_iff_eq.mp h3
      · have h4 : Int32.ofInt (lo + ((x.toInt - lo).toNat : Int)) ∈ vals := List.contains_iff_mem.mp h3
        rw [show lo + ((x.toInt - lo).toNat : Int) = x.toInt by omega, Int32.ofInt_toInt] at h4
        exact absurd rfl (hx x h4)
theorem sw_in {x : Int32} {n : Nat} (h1 : ¬ x.toInt < 0) (h2 : ¬ (n : Int) < x.toInt) (hn : n < 1000) : ∃ k : Nat, k ≤ n ∧ x = Int32.ofNat k := by
  refine ⟨x.toInt.toNat, by omega, Int32.toInt_inj.mp ?_⟩
  have e := nI_toInt (n := x.toInt.toNat) (by omega)
  unfold nI at e
  rw [e]
  omega
