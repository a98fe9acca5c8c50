/-! rows of constructors: the world's cells by the order of their making -/
set_option maxRecDepth 100000
def up {α : Type} (f : Nat → α) (n : Nat) (a : α) : Nat → α := fun k => if k = n then a else f k
theorem up_eq {α : Type} {f : Nat → α} {n : Nat} {a : α} : up f n a n = a := if_pos rfl
theorem up_ne {α : Type} {f : Nat → α} {n k : Nat} {a : α} (h : k ≠ n) : up f n a k = f k := if_neg h
def c0 (cf : Cfg) : Cfg := (0, cf.2)
def cS (n : Nat) (q : Nat → Nat) (e : Nat → va_E) : Sto := (fun _ _ => 0, fun _ _ => 0, fun _ _ => none, (List.range n).map (fun i => (q i, e i)))
theorem cS_at {cf : Cfg} {g : Gam} {n : Nat} {q : Nat → Nat} {e : Nat → va_E} {i : Nat} (h : i < n) : (wS (c0 cf) g (cS n q e))[i]? = some (q i, pE g (e i)) := by
  rw [wS_pool (Nat.zero_le _)]
  show ((List.range n).map _)[i - 0]?.map _ = _
  rw [List.getElem?_map, Nat.sub_zero, List.getElem?_range h]
  rfl
theorem cS_len {cf : Cfg} {g : Gam} {n : Nat} {q : Nat → Nat} {e : Nat → va_E} : (wS (c0 cf) g (cS n q e)).length = n := by simp [wS, c0, cS]
theorem cS_set {cf : Cfg} {g : Gam} {n : Nat} {q : Nat → Nat} {e : Nat → va_E} {i : Nat} {x : va_E} (h : i < n) : (wS (c0 cf) g (cS n q e)).set i (q i, pE g x) = wS (c0 cf) g (cS n q (up e i x)) := by
  apply List.ext_getElem?
  intro j
  by_cases hj : i = j
  · subst hj
    rw [List.getElem?_set_self (by rw [cS_len]; exact h), cS_at h, up_eq]
  · rw [List.getElem?_set_ne hj]
    by_cases hl : j < n
    · rw [cS_at hl, cS_at hl, up_ne (Ne.symm hj)]
    · rw [List.getElem?_eq_none (by rw [cS_len]; omega), List.getElem?_eq_none (by rw [cS_len]; omega)]
theorem cS_app {cf : Cfg} {g : Gam} {n : Nat} {q : Nat → Nat} {e : Nat → va_E} {a : Nat} {x : va_E} : wS (c0 cf) g (cS n q e) ++ [(a, pE g x)] = wS (c0 cf) g (cS (n + 1) (up q n a) (up e n x)) := by
  apply List.ext_getElem?
  intro j
  by_cases h1 : j < n
  · rw [List.getElem?_append_left (by rw [cS_len]; exact h1), cS_at h1, cS_at (by omega), up_ne (by omega), up_ne (by omega)]
  · by_cases h2 : j = n
    · subst h2
      rw [List.getElem?_append_right (by rw [cS_len]; omega), cS_len, Nat.sub_self, cS_at (by omega), up_eq, up_eq]
      rfl
    · rw [List.getElem?_eq_none (by rw [List.length_append, cS_len]; simp; omega), List.getElem?_eq_none (by rw [cS_len]; omega)]
theorem cS_push {n : Nat} {q : Nat → Nat} {e : Nat → va_E} {a : Nat} {x : va_E} : pA (cS n q e) a x = cS (n + 1) (up q n a) (up e n x) := by
  unfold pA cS
  simp only [Prod.mk.injEq, true_and]
  rw [List.range_succ, List.map_append]
  congr 1
  · apply List.map_congr_left
    intro i hi
    have := List.mem_range.mp hi
    rw [up_ne (by omega), up_ne (by omega)]
  · simp [up]
/-- arrays of arrays of the same world: one outer, its rows -/
def mq (q : Nat → Nat) (n a : Nat) : Nat → Nat := fun k => if k < n then q k else a + (k - n)
def me (e : Nat → va_E) (n a N K : Nat) : Nat → va_E := fun k => if k < n then e k else if k = n then .inl (3, N, .inr (.inr (.inr (.inr (fun j => some (a + 1 + j)))))) else .inl (0, K, .inl (fun _ => 0))
def AOI (U : State) : Prop := (Cond.arrayOver (.array .int)).before #[] U = true
theorem AOI.moved {u U : State} (hvm : u.vm.Alike U.vm) (h : AOI u) : AOI U := by
  unfold AOI Cond.before Cond.holds at h
  simp only [Cond.value, beq_iff_eq] at h
  cases hc : u.vm.findClass (FieldType.array .int).toString with
  | none => simp [hc] at h
  | some comp =>
    simp only [hc, Option.bind_some, Option.bind_eq_some_iff, Option.map_eq_some_iff] at h
    obtain ⟨c, hi, k, hk, hb⟩ := h
    obtain ⟨k', hk', he⟩ := hvm.2.2 _ _ hk
    have hi' := (hvm.findIdx?_eqK (fun (x : Class) => match x.kind with | .array component _ => component == comp | _ => false) (fun _ => rfl)).trans hi
    have hk9 : k'.kind = k.kind := by rw [he]
    have f1 : U.vm.findClass (FieldType.array .int).toString = some comp := by rw [hvm.findClass]; exact hc
    unfold AOI Cond.before Cond.holds
    simp only [Cond.value]
    rw [f1, Option.bind_some, beq_iff_eq, Option.bind_eq_some_iff]
    refine ⟨c, hi', ?_⟩
    rw [hk', ← hb]
    simp only [Option.map_some, hk9, hvm.findClass]
theorem outer_arr (c : ClassId) (N h0 : Nat) : Jvm.Free.Multi.outerC c N h0 N = arrV c N (fun j => .ref (h0 + 1 + j)) := by
  have h1 : ∀ i, Jvm.Free.Multi.outerC c N h0 i = { cls := c, slots := (Jvm.Free.Multi.outerC c N h0 i).slots, vm := .none } := by
    intro i
    induction i with
    | zero => rfl
    | succ i ih =>
      show (Jvm.Free.Multi.outerC c N h0 i).setSlot i _ = _
      rw [ih]
      rfl
  rw [h1 N]
  unfold arrV
  congr 1
  apply Array.ext
  · simp [(Jvm.Free.Multi.outerC_facts c N h0 N).2.2]
  · intro i hi1 hi2
    have hs := (Jvm.Free.Multi.outerC_facts c N h0 N).2.2
    have h2 := Jvm.Free.Multi.outerC_slot c N h0 N i (by rw [← hs]; exact hi1)
    rw [if_pos (by rw [← hs]; exact hi1)] at h2
    have h3 := (Array.getElem?_eq_some_iff.mp h2).2
    simp [h3]
theorem inner_arr (c : ClassId) (K : Nat) : Jvm.Free.Multi.innerC c K (.int 0) = arrV c K (fun _ => .int 0) := arrV_new c K (.int 0)
section CR
variable {cf : Cfg} {g : Gam} {A : Nat → Prop} {nL : Nat} {X : FX} {cells slots : Nat} {pc : Nat} {lv : List (Nat × Value)} {rest : List Value} {cc : ByteArray} {own : String} {ret : Option FieldType} {F Lc : Nat} {n : Nat} {q : Nat → Nat} {e : Nat → va_E}
theorem g_cnew {idx ci N : Nat} {fs : List Value} (C : CX (c0 cf) g A nL X cc own ret F Lc) (no : NO (c0 cf) own idx ci N fs) (hc : cells + 1 ≤ X.2.2.2.1.cells) (hs : slots + N ≤ X.2.2.2.1.slots) (d : decode cc pc = .ok (.new idx, 3)) (kk : ∀ a, TG (c0 cf) g A nL X (cells + 1) (slots + N) (cS (n + 1) (up q n a) (up e n (.inr (ci, fs)))) (pc + 3) lv (.ref a :: rest)) : TG (c0 cf) g A nL X cells slots (cS n q e) pc lv rest :=
  g_new C no hc hs d (fun a _ => by rw [cS_push]; exact kk a)
theorem g_cnewa {atype : ArrayType} {ty : FieldType} {t N' : Nat} {v : Int32} {a0 : vp_A} (C : CX (c0 cf) g A nL X cc own ret F Lc) (hw : Cond.arrayClass (newarray.typeOf atype) ∈ lw_all) (hty : newarray.typeOf atype = ty) (ht : cf.2.2.2.2.2[t]? = some ty) (hN9 : ∀ cA cB : ClassId, ∀ U : State, va_RA U cA ty → va_RA U cB ty → cA = cB) (ha : ∀ cA : ClassId, vp_cell cA a0 = arrV cA N' (fun _ => defaultValue ty)) (hn : ¬ v < 0) (hN : v.toNatClampNeg = N') (hb : N' * componentBytes ty ≤ 536870912) (hc : cells + 1 ≤ X.2.2.2.1.cells) (hs : slots + N' ≤ X.2.2.2.1.slots) (d : decode cc pc = .ok (.newarray atype, 2)) (kk : ∀ a, TG (c0 cf) g A nL X (cells + 1) (slots + N') (cS (n + 1) (up q n a) (up e n (.inl (t, a0)))) (pc + 2) lv (.ref a :: rest)) : TG (c0 cf) g A nL X cells slots (cS n q e) pc lv (.int v :: rest) := by
  obtain ⟨p, l, e', R', s, m, args, below, meth, c, Q⟩ := X
  obtain ⟨hx, hb', hr, hlk, hml, hown, hts, hK, hA, hF, hLc, hKC⟩ := C
  intro H locs ls hP hD hS hl
  refine va_newa (atype := atype) (a0 := a0) hx hb' (hts _ hw) hty hK hP hD hS hA ha hn hN hb hc hs d (fun a cA H1 hK2 hP hD hS => ?_)
  have e3 : (tyl (c0 cf) g ++ [(cA, ty)])[(tyl (c0 cf) g).length]? = some (cA, ty) := by rw [List.getElem?_append_right (Nat.le_refl _), Nat.sub_self]; rfl
  have e4 : cA = g.2.1 t := hN9 _ _ s (hK2.2 _ _ e3).2 (hK.2 _ _ (tyl_at (cf := c0 cf) ht)).2
  subst e4
  have e2 : wS (c0 cf) g (cS n q e) ++ [(a, .inl (g.2.1 t, a0))] = wS (c0 cf) g (cS (n + 1) (up q n a) (up e n (.inl (t, a0)))) := cS_app (x := .inl (t, a0))
  rw [e2] at hP hD
  exact kk a H1 locs ls hP hD hS hl
theorem g_cnewI {N' : Nat} {v : Int32} (C : CX (c0 cf) g A nL X cc own ret F Lc) (ht : cf.2.2.2.2.2[0]? = some .int) (hn : ¬ v < 0) (hN : v.toNatClampNeg = N') (hb : N' * 4 ≤ 536870912) (hc : cells + 1 ≤ X.2.2.2.1.cells) (hs : slots + N' ≤ X.2.2.2.1.slots) (d : decode cc pc = .ok (.newarray .int, 2)) (kk : ∀ a, TG (c0 cf) g A nL X (cells + 1) (slots + N') (cS (n + 1) (up q n a) (up e n (.inl (0, N', .inl (fun _ => 0))))) (pc + 2) lv (.ref a :: rest)) : TG (c0 cf) g A nL X cells slots (cS n q e) pc lv (.int v :: rest) :=
  g_cnewa (atype := .int) (ty := .int) (a0 := (N', .inl (fun _ => 0))) C q217 rfl ht (fun _ _ _ h1 h2 => Option.some.inj (h1.symm.trans h2)) (fun _ => rfl) hn hN hb hc hs d kk
theorem g_cnewB {N' : Nat} {v : Int32} (C : CX (c0 cf) g A nL X cc own ret F Lc) (ht : cf.2.2.2.2.2[1]? = some .byte) (hn : ¬ v < 0) (hN : v.toNatClampNeg = N') (hb : N' * 1 ≤ 536870912) (hc : cells + 1 ≤ X.2.2.2.1.cells) (hs : slots + N' ≤ X.2.2.2.1.slots) (d : decode cc pc = .ok (.newarray .byte, 2)) (kk : ∀ a, TG (c0 cf) g A nL X (cells + 1) (slots + N') (cS (n + 1) (up q n a) (up e n (.inl (1, N', .inl (fun _ => 0))))) (pc + 2) lv (.ref a :: rest)) : TG (c0 cf) g A nL X cells slots (cS n q e) pc lv (.int v :: rest) :=
  g_cnewa (atype := .byte) (ty := .byte) (a0 := (N', .inl (fun _ => 0))) C q159 rfl ht (fun _ _ _ h1 h2 => Option.some.inj (h1.symm.trans h2)) (fun _ => rfl) hn hN hb hc hs d kk
theorem g_cnewJ {N' : Nat} {v : Int32} (C : CX (c0 cf) g A nL X cc own ret F Lc) (ht : cf.2.2.2.2.2[2]? = some .long) (hn : ¬ v < 0) (hN : v.toNatClampNeg = N') (hb : N' * 8 ≤ 536870912) (hc : cells + 1 ≤ X.2.2.2.1.cells) (hs : slots + N' ≤ X.2.2.2.1.slots) (d : decode cc pc = .ok (.newarray .long, 2)) (kk : ∀ a, TG (c0 cf) g A nL X (cells + 1) (slots + N') (cS (n + 1) (up q n a) (up e n (.inl (2, N', .inr (.inl (fun _ => 0)))))) (pc + 2) lv (.ref a :: rest)) : TG (c0 cf) g A nL X cells slots (cS n q e) pc lv (.int v :: rest) :=
  g_cnewa (atype := .long) (ty := .long) (a0 := (N', .inr (.inl (fun _ => 0)))) C q368 rfl ht (fun _ _ _ h1 h2 => Option.some.inj (h1.symm.trans h2)) (fun _ => rfl) hn hN hb hc hs d kk
theorem g_cnewQ {idx t N' : Nat} {v : Int32} {Cn : String} (C : CX (c0 cf) g A nL X cc own ret F Lc) (ht : cf.2.2.2.2.2[t]? = some (.object Cn)) (hO : Cn ∈ kO) (w1 : Cond.classLink own idx Cn ∈ lw_all) (hn : ¬ v < 0) (hN : v.toNatClampNeg = N') (hb' : N' * 4 ≤ 536870912) (hc : cells + 1 ≤ X.2.2.2.1.cells) (hs : slots + N' ≤ X.2.2.2.1.slots) (d : decode cc pc = .ok (.anewarray idx, 3)) (kk : ∀ a, TG (c0 cf) g A nL X (cells + 1) (slots + N') (cS (n + 1) (up q n a) (up e n (.inl (t, N', .inr (.inr (.inr (.inr (fun _ => none)))))))) (pc + 3) lv (.ref a :: rest)) : TG (c0 cf) g A nL X cells slots (cS n q e) pc lv (.int v :: rest) :=
  g_newQ (cf := c0 cf) C ht hO w1 hn hN hb' hc hs d (fun a _ => by rw [cS_push]; exact kk a)
theorem g_cputF {a i ci j idx : Nat} {ty : FieldType} {v : Value} {fs fs' : List Value} (C : CX (c0 cf) g A nL X cc own ret F Lc) (hin2 : X.2.2.2.2.2.2.2.2.1.name = "<init>") (f : PF cf own idx ci j ty) (hi : i < n) (hq : q i = a) (hp : e i = .inr (ci, fs)) (hl9 : j < fs.length) (hfs : fs' = fs.set j v) (hn : narrow ty v = v) (hfit : fits ty v = true) (d : decode cc pc = .ok (.putfield idx, 3)) (kk : TG (c0 cf) g A nL X cells slots (cS n q (up e i (.inr (ci, fs')))) (pc + 3) lv rest) : TG (c0 cf) g A nL X cells slots (cS n q e) pc lv (v :: .ref a :: rest) := by
  subst hfs; subst hq
  obtain ⟨p, l, e', R', s, m, args, below, meth, c, Q⟩ := X
  obtain ⟨hx, hb, hr, hlk, hml, hown, hts, hK, hA, hF, hLc, hKC⟩ := C
  obtain ⟨Cn, T, Nf, f2, f3, f4, f5, f6, f7, f8, ty0, f9, f10⟩ := f
  have hi' : (wS (c0 cf) g (cS n q e))[i]? = some (q i, .inr (ci, fs)) := by rw [cS_at hi, hp]; rfl
  intro H locs ls hP hD hS hl
  have e1 : (wS (c0 cf) g (cS n q e)).set i (q i, .inr (ci, fs.set j v)) = wS (c0 cf) g (cS n q (up e i (.inr (ci, fs.set j v)))) := cS_set (x := .inr (ci, fs.set j v)) hi
  refine va_putF hx hb hts f4 ty0 f9 f10 hown hK hP hD hS i hi' f2 j f3 (hts _ f5) (fun x h => h) f7 hin2 f6 f8 hn hfit hl9 d (fun H1 locs1 hP hD hS => ?_)
  rw [e1] at hP hD
  exact kk H1 locs1 ls hP hD hS hl
theorem g_cput {a i ci j idx tag : Nat} {ty : FieldType} {v : Value} {fs fs' : List Value} (C : CX (c0 cf) g A nL X cc own ret F Lc) (f : PO cf own idx ci j tag ty) (hi : i < n) (hq : q i = a) (hp : e i = .inr (ci, fs)) (hl9 : j < fs.length) (hfs : fs' = fs.set j v) (hn : narrow ty v = v) (hfit : fits ty v = true) (d : decode cc pc = .ok (.putfield idx, 3)) (kk : TG (c0 cf) g A nL X cells slots (cS n q (up e i (.inr (ci, fs')))) (pc + 3) lv rest) : TG (c0 cf) g A nL X cells slots (cS n q e) pc lv (v :: .ref a :: rest) := by
  subst hfs; subst hq
  obtain ⟨p, l, e', R', s, m, args, below, meth, c, Q⟩ := X
  obtain ⟨hx, hb, hr, hlk, hml, hown, hts, hK, hA, hF, hLc, hKC⟩ := C
  obtain ⟨Cn, T, Nf, f1, f2, f3, f4, f5, f6, f7, f8, ty0, f9, f10⟩ := f
  have hi' : (wS (c0 cf) g (cS n q e))[i]? = some (q i, .inr (ci, fs)) := by rw [cS_at hi, hp]; rfl
  intro H locs ls hP hD hS hl
  have e1 : (wS (c0 cf) g (cS n q e)).set i (q i, .inr (ci, fs.set j v)) = wS (c0 cf) g (cS n q (up e i (.inr (ci, fs.set j v)))) := cS_set (x := .inr (ci, fs.set j v)) hi
  refine va_put hx hb hts f4 ty0 f9 f10 hown hK hP hD hS i hi' f2 j f3 (hts _ f5) (fun x h => h) f7 f8 hn hfit hl9 d (fun H1 locs1 hP hD hS => ?_)
  rw [e1] at hP hD
  exact kk H1 locs1 ls hP hD hS hl
theorem g_cget {a i ci j idx tag : Nat} {v : Value} {fs : List Value} (C : CX (c0 cf) g A nL X cc own ret F Lc) (f : FO cf own idx ci j tag) (hi : i < n) (hq : q i = a) (hp : e i = .inr (ci, fs)) (hv : fs[j]? = some v) (d : decode cc pc = .ok (.getfield idx, 3)) (kk : TG (c0 cf) g A nL X cells slots (cS n q e) (pc + 3) lv (v :: rest)) : TG (c0 cf) g A nL X cells slots (cS n q e) pc lv (.ref a :: rest) := by
  subst hq
  obtain ⟨p, l, e', R', s, m, args, below, meth, c, Q⟩ := X
  obtain ⟨hx, hb, hr, hlk, hml, hown, hts, hK, hA, hF, hLc, hKC⟩ := C
  obtain ⟨Cn, T, Nf, f1, f2, f3, f4, f5, f6⟩ := f
  have hi' : (wS (c0 cf) g (cS n q e))[i]? = some (q i, .inr (ci, fs)) := by rw [cS_at hi, hp]; rfl
  exact fun H locs ls hP hD hS hl => va_get hx hb hts f4 hown hK hP i hi' f2 j f3 (hts _ f5) (fun x h => h) hv d (kk H locs ls hP hD hS hl)
theorem g_ciast {a i N : Nat} {f : Nat → Int32} {k v : Int32} (C : CX (c0 cf) g A nL X cc own ret F Lc) (ht : cf.2.2.2.2.2[0]? = some .int) (hi : i < n) (hq : q i = a) (hp : e i = .inl (0, N, .inl f)) (hin : inb k N = true) (d : decode cc pc = .ok (.iastore, 1)) (kk : TG (c0 cf) g A nL X cells slots (cS n q (up e i (.inl (0, N, .inl (upd f k.toNatClampNeg v))))) (pc + 1) lv rest) : TG (c0 cf) g A nL X cells slots (cS n q e) pc lv (.int v :: .int k :: .ref a :: rest) := by
  subst hq
  obtain ⟨p, l, e', R', s, m, args, below, meth, c, Q⟩ := X
  obtain ⟨hx, hb, hr, hlk, hml, hown, hts, hK, hA, hF, hLc, hKC⟩ := C
  have hi' : (wS (c0 cf) g (cS n q e))[i]? = some (q i, .inl (g.2.1 0, N, .inl f)) := by rw [cS_at hi, hp]; rfl
  intro H locs ls hP hD hS hl
  have e1 : (wS (c0 cf) g (cS n q e)).set i (q i, .inl (g.2.1 0, N, .inl (upd f k.toNatClampNeg v))) = wS (c0 cf) g (cS n q (up e i (.inl (0, N, .inl (upd f k.toNatClampNeg v))))) := cS_set (x := .inl (0, N, .inl (upd f k.toNatClampNeg v))) hi
  refine va_iast hx hb hK hP hD hS i 0 hi' (tyl_at (cf := c0 cf) ht) (inb_in hin) d (fun H1 locs1 hP hD hS => ?_)
  rw [e1] at hP hD
  exact kk H1 locs1 ls hP hD hS hl
/-- a String constant into an array of Strings -/
theorem g_caastS {a i N sx : Nat} {f : Nat → Option Nat} {k : Int32} (C : CX (c0 cf) g A nL X cc own ret F Lc) (ht : cf.2.2.2.2.2[4]? = some (.object "java/lang/String")) (hi : i < n) (hq : q i = a) (hp : e i = .inl (4, N, .inr (.inr (.inr (.inr f))))) (hin : inb k N = true) (hsx : sx < 16) (d : decode cc pc = .ok (.aastore, 1)) (kk : TG (c0 cf) g A nL X cells slots (cS n q (up e i (.inl (4, N, .inr (.inr (.inr (.inr (va_up f k.toNatClampNeg (some (g.2.2.2.1 sx)))))))))) (pc + 1) lv rest) : TG (c0 cf) g A nL X cells slots (cS n q e) pc lv (.ref (g.2.2.2.1 sx) :: .int k :: .ref a :: rest) := by
  subst hq
  obtain ⟨p, l, e', R', s, m, args, below, meth, c, Q⟩ := X
  obtain ⟨hx, hb, hr, hlk, hml, hown, hts, hK, hA, hF, hLc, hKC⟩ := C
  have hi' : (wS (c0 cf) g (cS n q e))[i]? = some (q i, .inl (g.2.1 4, N, .inr (.inr (.inr (.inr f))))) := by rw [cS_at hi, hp]; rfl
  intro H locs ls hP hD hS hl
  have e1 : (wS (c0 cf) g (cS n q e)).set i (q i, .inl (g.2.1 4, N, .inr (.inr (.inr (.inr (va_up f k.toNatClampNeg (some (g.2.2.2.1 sx)))))))) = wS (c0 cf) g (cS n q (up e i (.inl (4, N, .inr (.inr (.inr (.inr (va_up f k.toNatClampNeg (some (g.2.2.2.1 sx)))))))))) := cS_set (x := .inl (4, N, .inr (.inr (.inr (.inr (va_up f k.toNatClampNeg (some (g.2.2.2.1 sx)))))))) hi
  obtain ⟨cellV, v1, v2, v3, v4⟩ := (hKC.1.1 sx hsx).1
  have hlt : g.2.2.2.1 sx < s.heap.size := (Array.getElem?_eq_some_iff.mp v1).1
  refine vb_astq (C := "java/lang/String") hx hb hK hP hD hS i 4 hi' (tyl_at (cf := c0 cf) ht) ⟨cellV, (hS.2.1 _ hlt v4).trans v1, v2, v3⟩ (fun comp c0 h1 h2 => by cases Option.some.inj (h1.symm.trans h2); exact Vm.assignable_self _ _) (inb_in hin) d (fun H1 locs1 hP hD hS => ?_)
  rw [e1] at hP hD
  exact kk H1 locs1 ls hP hD hS hl
/-- an object of the world into an array of its class -/
theorem g_caastO {a b i j N t ci : Nat} {r : vw_C} {fs : List Value} {f : Nat → Option Nat} {k : Int32} (C : CX (c0 cf) g A nL X cc own ret F Lc) (ht : cf.2.2.2.2.2[t]? = some (.object r.1)) (hi : i < n) (hq : q i = a) (hp : e i = .inl (t, N, .inr (.inr (.inr (.inr f))))) (hj : j < n) (hqj : q j = b) (hpj : e j = .inr (ci, fs)) (hcl : cf.2.2.2.2.1[ci]? = some r) (hin : inb k N = true) (d : decode cc pc = .ok (.aastore, 1)) (kk : TG (c0 cf) g A nL X cells slots (cS n q (up e i (.inl (t, N, .inr (.inr (.inr (.inr (va_up f k.toNatClampNeg (some b))))))))) (pc + 1) lv rest) : TG (c0 cf) g A nL X cells slots (cS n q e) pc lv (.ref b :: .int k :: .ref a :: rest) := by
  subst hq; subst hqj
  obtain ⟨p, l, e', R', s, m, args, below, meth, c, Q⟩ := X
  obtain ⟨hx, hb, hr, hlk, hml, hown, hts, hK, hA, hF, hLc, hKC⟩ := C
  have hi' : (wS (c0 cf) g (cS n q e))[i]? = some (q i, .inl (g.2.1 t, N, .inr (.inr (.inr (.inr f))))) := by rw [cS_at hi, hp]; rfl
  have hj' : (wS (c0 cf) g (cS n q e))[j]? = some (q j, .inr (ci, fs)) := by rw [cS_at hj, hpj]; rfl
  intro H locs ls hP hD hS hl
  have e1 : (wS (c0 cf) g (cS n q e)).set i (q i, .inl (g.2.1 t, N, .inr (.inr (.inr (.inr (va_up f k.toNatClampNeg (some (q j)))))))) = wS (c0 cf) g (cS n q (up e i (.inl (t, N, .inr (.inr (.inr (.inr (va_up f k.toNatClampNeg (some (q j)))))))))) := cS_set (x := .inl (t, N, .inr (.inr (.inr (.inr (va_up f k.toNatClampNeg (some (q j)))))))) hi
  refine va_astq hx hb hK hP hD hS i t j ci hi' (tyl_at (cf := c0 cf) ht) hj' hcl (inb_in hin) d (fun H1 locs1 hP hD hS => ?_)
  rw [e1] at hP hD
  exact kk H1 locs1 ls hP hD hS hl
/-- a row out of an array of rows -/
theorem g_caald {a i N : Nat} {f : Nat → Option Nat} {k : Int32} (C : CX (c0 cf) g A nL X cc own ret F Lc) (ht : cf.2.2.2.2.2[3]? = some (.array .int)) (hi : i < n) (hq : q i = a) (hp : e i = .inl (3, N, .inr (.inr (.inr (.inr f))))) (hin : inb k N = true) (d : decode cc pc = .ok (.aaload, 1)) (kk : TG (c0 cf) g A nL X cells slots (cS n q e) (pc + 1) lv (va_rf (f k.toNatClampNeg) :: rest)) : TG (c0 cf) g A nL X cells slots (cS n q e) pc lv (.int k :: .ref a :: rest) := by
  subst hq
  obtain ⟨p, l, e', R', s, m, args, below, meth, c, Q⟩ := X
  obtain ⟨hx, hb, hr, hlk, hml, hown, hts, hK, hA, hF, hLc, hKC⟩ := C
  have hi' : (wS (c0 cf) g (cS n q e))[i]? = some (q i, .inl (g.2.1 3, N, .inr (.inr (.inr (.inr f))))) := by rw [cS_at hi, hp]; rfl
  have hlt : k.toNatClampNeg < N := Nat.not_le.mp fun q => inb_in hin (Or.inr q)
  intro H locs ls hP hD hS hl
  refine W.aald (v := va_rf (f k.toNatClampNeg)) (ty := .array .int) hx hb (hP i _ hi') ((hK.2 3 _ (tyl_at (cf := c0 cf) ht)).1 N (fun j => va_rf (f j))) rfl (fun q => by cases q) (by show ¬ (k < 0 ∨ (arrV _ _ _).slots.size ≤ _); rw [arrV_size]; exact inb_in hin) (by show (arrV _ _ _).slots[_]? = _; rw [arrV_read _ _ hlt]) rfl rfl d (kk H locs ls hP hD hS hl)
theorem g_cmulti {idx N K : Nat} {v w : Int32} (C : CX (c0 cf) g A nL X cc own ret F Lc) (hAO : AOI X.2.2.2.2.1) (ht3 : cf.2.2.2.2.2[3]? = some (.array .int)) (ht0 : cf.2.2.2.2.2[0]? = some .int) (w1 : Cond.classLink own idx "[[I" ∈ lw_all) (hv : ¬ v < 0) (hw : ¬ w < 0) (hN : v.toNatClampNeg = N) (hK' : w.toNatClampNeg = K) (hb1 : N * 4 ≤ 536870912) (hb2 : K * 4 ≤ 536870912) (hb3 : K ≤ 536870912) (hc : cells + (1 + N) ≤ X.2.2.2.1.cells) (hs : slots + (N + N * K) ≤ X.2.2.2.1.slots) (d : decode cc pc = .ok (.multianewarray idx 2, 4)) (kk : ∀ a, TG (c0 cf) g A nL X (cells + (1 + N)) (slots + (N + N * K)) (cS (n + 1 + N) (mq q n a) (me e n a N K)) (pc + 4) lv (.ref a :: rest)) : TG (c0 cf) g A nL X cells slots (cS n q e) pc lv (.int w :: .int v :: rest) := by
  subst hN; subst hK'
  obtain ⟨p, l, e', R', s, m, args, below, meth, c, Q⟩ := X
  obtain ⟨hx, hb, hr, hlk, hml, hown, hts, hK, hA, hF, hLc, hKC⟩ := C
  intro H locs ls hP hD hS hl T hT XX
  have hcl : (Cond.classLink own idx ("[" ++ (FieldType.array .int).toString)).before args s = true := by
    rw [show "[" ++ (FieldType.array .int).toString = "[[I" by decide +kernel]
    exact hts _ w1
  obtain ⟨vm₁, cA, comp, hW, hfA, hfC, hO, hI, X1, step⟩ := XX.multianewarray2F hx (ty := .int) hown hcl hAO (hts _ q217) (g := F0 m pc ls (.int w :: .int v :: rest)) rfl (by rw [hb]; exact d) rfl hv hw hb1 hb2 hb3 rfl rfl hc hs
  have f := Jvm.Free.Multi.fill_facts (T.setVm vm₁) cA comp v.toNatClampNeg w.toNatClampNeg (defaultValue .int) v.toNatClampNeg
  have fo := fun (a : Addr) (ha : a < T.heap.size) => Jvm.Free.Multi.fill_old (T.setVm vm₁) cA comp v.toNatClampNeg w.toNatClampNeg (defaultValue .int) (a := a) ha v.toNatClampNeg
  have fi := fun (j : Nat) (hj : j < v.toNatClampNeg) => Jvm.Free.Multi.fill_inner (T.setVm vm₁) cA comp v.toNatClampNeg w.toNatClampNeg (defaultValue .int) v.toNatClampNeg j hj
  obtain ⟨f1, f2, -, -⟩ := f
  have z3 : cA = g.2.1 3 := Option.some.inj (hfA.symm.trans (hK.2 _ _ (tyl_at (cf := c0 cf) ht3)).2)
  have z0 : comp = g.2.1 0 := by
    have h := (hK.2 _ _ (tyl_at (cf := c0 cf) ht0)).2
    have h' : s.vm.findClass ("[" ++ FieldType.int.toString) = some (g.2.1 0) := h
    rw [show "[" ++ FieldType.int.toString = (FieldType.array .int).toString by decide +kernel] at h'
    exact Option.some.inj (hfC.symm.trans h')
  have hlen : ∀ {i : Nat} {x : Nat × va_E}, (wS (c0 cf) g (cS (n + 1 + v.toNatClampNeg) (mq q n T.heap.size) (me e n T.heap.size v.toNatClampNeg w.toNatClampNeg)))[i]? = some x → (i < n ∧ (wS (c0 cf) g (cS n q e))[i]? = some x) ∨ (i = n ∧ x = (T.heap.size, pE g (me e n T.heap.size v.toNatClampNeg w.toNatClampNeg n))) ∨ (n < i ∧ i < n + 1 + v.toNatClampNeg ∧ x = (T.heap.size + (i - n), .inl (g.2.1 0, w.toNatClampNeg, .inl (fun _ => 0)))) := by
    intro i x h
    have hi : i < n + 1 + v.toNatClampNeg := by
      have := (List.getElem?_eq_some_iff.mp h).1
      rw [cS_len] at this
      exact this
    rw [cS_at hi] at h
    cases h
    by_cases h1 : i < n
    · refine Or.inl ⟨h1, ?_⟩
      rw [cS_at h1]
      simp only [mq, me, if_pos h1]
    · by_cases h2 : i = n
      · subst h2
        refine Or.inr (Or.inl ⟨rfl, ?_⟩)
        simp [mq]
      · refine Or.inr (Or.inr ⟨by omega, hi, ?_⟩)
        simp only [mq, me, if_neg h1, if_neg h2, pE]
  have hP1 : va_P g.2.2.1 (c0 cf).2.2.2.2.1 (wS (c0 cf) g (cS (n + 1 + v.toNatClampNeg) (mq q n T.heap.size) (me e n T.heap.size v.toNatClampNeg w.toNatClampNeg))) (Jvm.Free.Multi.fill (T.setVm vm₁) cA comp v.toNatClampNeg w.toNatClampNeg (defaultValue .int) v.toNatClampNeg).heap := by
    intro i x h
    rcases hlen h with ⟨h1, h2⟩ | ⟨h1, h2⟩ | ⟨h1, h2, h3⟩
    · exact (hP i x h2).kept (by rw [fo x.1 (by rw [hT]; exact (hP i x h2).lt)]; show T.heap[x.1]? = _; rw [hT])
    · subst h2
      have e1 : me e n T.heap.size v.toNatClampNeg w.toNatClampNeg n = .inl (3, v.toNatClampNeg, .inr (.inr (.inr (.inr (fun j => some (T.heap.size + 1 + j)))))) := by simp [me]
      rw [e1]
      show _ = some (vp_cell (g.2.1 3) (v.toNatClampNeg, .inr (.inr (.inr (.inr (fun j => some (T.heap.size + 1 + j)))))))
      rw [vp_cell_q, ← z3]
      exact f2.trans (congrArg some (outer_arr cA _ _))
    · subst h3
      show (Jvm.Free.Multi.fill (T.setVm vm₁) cA comp v.toNatClampNeg w.toNatClampNeg (defaultValue .int) v.toNatClampNeg).heap[T.heap.size + (i - n)]? = some (vp_cell (g.2.1 0) (w.toNatClampNeg, .inl (fun _ => 0)))
      have h4 := fi (i - n - 1) (by omega)
      rw [show (T.setVm vm₁).heap.size + 1 + (i - n - 1) = T.heap.size + (i - n) by show T.heap.size + 1 + (i - n - 1) = _; omega] at h4
      rw [h4, vp_cell_i, ← z0]
      exact congrArg some (inner_arr comp _)
  have hD1 : va_D A (wS (c0 cf) g (cS (n + 1 + v.toNatClampNeg) (mq q n T.heap.size) (me e n T.heap.size v.toNatClampNeg w.toNatClampNeg))) := by
    constructor
    · intro i j x y h1 h2 hxy
      rcases hlen h1 with ⟨a1, a2⟩ | ⟨a1, a2⟩ | ⟨a1, a2, a3⟩ <;> rcases hlen h2 with ⟨b1, b2⟩ | ⟨b1, b2⟩ | ⟨b1, b2, b3⟩
      · exact hD.1 i j x y a2 b2 hxy
      · have h3 := (hP i x a2).lt
        rw [← hT] at h3
        rw [hxy, b2] at h3
        exact absurd h3 (Nat.lt_irrefl _)
      · have h3 := (hP i x a2).lt
        rw [← hT] at h3
        rw [hxy, b3] at h3
        simp only at h3
        omega
      · have h3 := (hP j y b2).lt
        rw [← hT] at h3
        rw [← hxy, a2] at h3
        exact absurd h3 (Nat.lt_irrefl _)
      · omega
      · rw [a2, b3] at hxy
        simp only at hxy
        omega
      · have h3 := (hP j y b2).lt
        rw [← hT] at h3
        rw [← hxy, a3] at h3
        simp only at h3
        omega
      · rw [a3, b2] at hxy
        simp only at hxy
        omega
      · rw [a3, b3] at hxy
        simp only at hxy
        omega
    · intro i x h
      rcases hlen h with ⟨a1, a2⟩ | ⟨a1, a2⟩ | ⟨a1, a2, a3⟩
      · exact hD.2 i x a2
      · rw [a2]
        exact hA _ (by rw [hT]; exact hS.1)
      · rw [a3]
        refine hA _ ?_
        have := hS.1
        rw [← hT] at this
        show s.heap.size ≤ T.heap.size + (i - n)
        omega
  have hS1 : va_S A s.heap (Jvm.Free.Multi.fill (T.setVm vm₁) cA comp v.toNatClampNeg w.toNatClampNeg (defaultValue .int) v.toNatClampNeg).heap locs := by
    refine ⟨?_, fun a h1 h2 => ?_, hS.2.2⟩
    · rw [f1]
      have := hS.1
      rw [← hT] at this
      show s.heap.size ≤ T.heap.size + 1 + v.toNatClampNeg
      omega
    · rw [fo a (by rw [hT]; exact Nat.lt_of_lt_of_le h1 hS.1)]
      show T.heap[a]? = _
      rw [hT]
      exact hS.2.1 a h1 h2
  rw [Nat.add_assoc cells, Nat.add_assoc slots] at X1
  obtain ⟨t, a1, b1⟩ := kk T.heap.size _ locs ls hP1 hD1 hS1 hl _ rfl X1
  exact ⟨t, step t a1, b1⟩
end CR
