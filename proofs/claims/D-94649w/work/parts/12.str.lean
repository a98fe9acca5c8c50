/-! rows on String constants (by their numbers in kStr), and calls on them -/
set_option maxRecDepth 100000
def sLen (i : Nat) : Int32 := Int32.ofNat (kLen.getD i 0)
def sBt (i : Nat) (k : Int32) : Int32 := (kByt.getD i []).getD k.toNatClampNeg 0
theorem i2c_nar {v : Int32} (h : decide (i2c v = v) = true) : narrow .char (.int v) = .int v := by
  have h1 := of_decide_eq_true h
  show Value.int (i2c v) = _
  rw [h1]
theorem i2b_nar {v : Int32} (h : decide (i2b v = v) = true) : narrow .byte (.int v) = .int v := by
  have h1 := of_decide_eq_true h
  show Value.int (i2b v) = _
  rw [h1]
def mmax (x y : Int32) : Int32 := if x < y then y else x
def mmin (x y : Int32) : Int32 := if y < x then y else x
section STRR
variable {cf : Cfg} {g : Gam} {A : Nat → Prop} {nL : Nat} {X : FX} {cells slots : Nat} {σ : Sto} {pc : Nat} {lv : List (Nat × Value)} {st rest : List Value} {cc : ByteArray} {own : String} {ret : Option FieldType} {F Lc : Nat}
theorem g_ldcS {idx i : Nat} {tx : String} (C : CX cf g A nL X cc own ret F Lc) (hq : (own, idx, tx, i) ∈ kStr) (d : decode cc pc = .ok (.ldc idx, 2)) (kk : TG cf g A nL X cells slots σ (pc + 2) lv (.ref (g.2.2.2.1 i) :: rest)) : TG cf g A nL X cells slots σ pc lv rest := by
  obtain ⟨p, l, e, R, s, m, args, below, meth, c, Q⟩ := X
  obtain ⟨hx, hb, hr, hlk, hml, hown, hts, hK, hA, hF, hLc, hKC⟩ := C
  exact fun H locs ls hP hD hS hl => va_ldcS hx hb hown (hKC.2.1 _ hq) d (kk H locs ls hP hD hS hl)
theorem g_getKv {i : Nat} (C : CX cf g A nL X cc RJ2 ret F Lc) (hi : decide (i < 16) = true) (d : decode cc pc = .ok (.getfield 9, 3)) (kk : TG cf g A nL X cells slots σ (pc + 3) lv (.ref (g.2.2.2.2.1 i) :: rest)) : TG cf g A nL X cells slots σ pc lv (.ref (g.2.2.2.1 i) :: rest) := by
  obtain ⟨p, l, e, R, s, m, args, below, meth, c, Q⟩ := X
  obtain ⟨hx, hb, hr, hlk, hml, hown, hts, hK, hA, hF, hLc, hKC⟩ := C
  exact fun H locs ls hP hD hS hl => vk_getf hx hb (hKC.1.1 i (of_decide_eq_true hi)).2.2.1 hS hown (hts _ q1461) (fun x h => h) d (kk H locs ls hP hD hS hl)
theorem g_getKc {i : Nat} (C : CX cf g A nL X cc RJ2 ret F Lc) (hi : decide (i < 16) = true) (d : decode cc pc = .ok (.getfield 15, 3)) (kk : TG cf g A nL X cells slots σ (pc + 3) lv (.int 0 :: rest)) : TG cf g A nL X cells slots σ pc lv (.ref (g.2.2.2.1 i) :: rest) := by
  obtain ⟨p, l, e, R, s, m, args, below, meth, c, Q⟩ := X
  obtain ⟨hx, hb, hr, hlk, hml, hown, hts, hK, hA, hF, hLc, hKC⟩ := C
  exact fun H locs ls hP hD hS hl => vk_getf hx hb (hKC.1.1 i (of_decide_eq_true hi)).2.1 hS hown (hts _ q1462) (fun x h => h) d (kk H locs ls hP hD hS hl)
theorem g_getCS (C : CX cf g A nL X cc RJ2 ret F Lc) (d : decode cc pc = .ok (.getstatic 38, 3)) (kk : TG cf g A nL X cells slots σ (pc + 3) lv (.int 1 :: rest)) : TG cf g A nL X cells slots σ pc lv rest := by
  obtain ⟨p, l, e, R, s, m, args, below, meth, c, Q⟩ := X
  obtain ⟨hx, hb, hr, hlk, hml, hown, hts, hK, hA, hF, hLc, hKC⟩ := C
  exact fun H locs ls hP hD hS hl => va_gets hx hb hKC.2.2.2.2.2.2.2.1 hS hown (hts _ q426) (fun x h => h) d (kk H locs ls hP hD hS hl)
theorem g_getSI (C : CX cf g A nL X cc RJ2 ret F Lc) (d : decode cc pc = .ok (.getstatic 1053, 3)) (kk : ∀ r : Option Nat, TG cf g A nL X cells slots σ (pc + 3) lv (va_rf r :: rest)) : TG cf g A nL X cells slots σ pc lv rest := by
  obtain ⟨p, l, e, R, s, m, args, below, meth, c, Q⟩ := X
  obtain ⟨hx, hb, hr, hlk, hml, hown, hts, hK, hA, hF, hLc, hKC⟩ := C
  intro H locs ls hP hD hS hl
  rcases hKC.2.2.2.2.2.2.2.2 _ (List.mem_of_getElem? (i := 0) rfl) with h | ⟨t, h⟩
  · exact va_gets hx hb h hS hown (hts _ q442) (fun x h => h) d (kk none H locs ls hP hD hS hl)
  · exact va_gets hx hb h hS hown (hts _ q442) (fun x h => h) d (kk (some t) H locs ls hP hD hS hl)
theorem g_Blen {i : Nat} (C : CX cf g A nL X cc own ret F Lc) (hi : decide (i < 16) = true) (d : decode cc pc = .ok (.arraylength, 1)) (kk : TG cf g A nL X cells slots σ (pc + 1) lv (.int (sLen i) :: rest)) : TG cf g A nL X cells slots σ pc lv (.ref (g.2.2.2.2.1 i) :: rest) := by
  obtain ⟨p, l, e, R, s, m, args, below, meth, c, Q⟩ := X
  obtain ⟨hx, hb, hr, hlk, hml, hown, hts, hK, hA, hF, hLc, hKC⟩ := C
  exact fun H locs ls hP hD hS hl => va_tlen hx hb (hKC.1.1 i (of_decide_eq_true hi)).2.2.2 hS rfl d (kk H locs ls hP hD hS hl)
theorem g_Bald {i : Nat} {k : Int32} (C : CX cf g A nL X cc own ret F Lc) (hi : decide (i < 16) = true) (hin : inb k (kLen.getD i 0) = true) (d : decode cc pc = .ok (.baload, 1)) (kk : TG cf g A nL X cells slots σ (pc + 1) lv (.int (sBt i k) :: rest)) : TG cf g A nL X cells slots σ pc lv (.int k :: .ref (g.2.2.2.2.1 i) :: rest) := by
  obtain ⟨p, l, e, R, s, m, args, below, meth, c, Q⟩ := X
  obtain ⟨hx, hb, hr, hlk, hml, hown, hts, hK, hA, hF, hLc, hKC⟩ := C
  exact fun H locs ls hP hD hS hl => va_tb hx hb (hKC.1.1 i (of_decide_eq_true hi)).2.2.2 hS (inb_in hin) rfl d (kk H locs ls hP hD hS hl)
/-- a call on a String constant -/
theorem g_callK0 {l : Launch} {i idx L n fr lo : Nat} {y : MethodName} {b : ByteArray} {r : Option FieldType} {av : Gam → List Value} {As stk : List Value} {σ' : Sto} {rv : Gam → Option Value}
    (C : CX cf g A nL X cc own ret F Lc) (hM : Ct cf l y b L r { frames := fr, cells := 0, slots := 0, locals := lo } av σ σ' rv) (hX : X.2.1 = l) (hi : i < 16) (hav : av g = .ref (g.2.2.2.1 i) :: As)
    (w1 : Cond.methodLink own idx y ∈ lw_all) (w2 : Cond.instanceMethod y ∈ lw_all) (w3 : Cond.selects RJ2 y y ∈ lw_all) (w4 : Cond.initialized RJ2 ∈ lw_all) (w5 : Cond.code y b L r ∈ lw_all)
    (hd : y.cls = RJ2 ∧ y.cls ≠ "java/lang/invoke/MethodHandle" ∧ y.cls ≠ "java/lang/invoke/VarHandle" ∧ (parseMethodDescriptor y.desc).map (fun d => d.parameters.length) = some n) (hn : As.length = n)
    (hR : fr + 1 ≤ F ∧ 8 + (L + 11) + lo ≤ Lc) (hrest : (rest.map fun v => v.category).sum ≤ 8) (d : decode cc pc = .ok (.invokevirtual idx, 3)) (hst : (rv g).toList ++ rest = stk)
    (kk : TG cf g A nL X 0 0 σ' (pc + 3) lv stk) : TG cf g A nL X 0 0 σ pc lv (As.reverse ++ .ref (g.2.2.2.1 i) :: rest) := by
  subst hst
  obtain ⟨p, l, e, R, s, m, args, below, meth, c, Q⟩ := X
  obtain ⟨hx, hb, hr, hlk, hml, hown, hts, hK, hA, hF, hLc, hKC⟩ := C
  cases hX
  intro H locs ls hP hD hS hl
  have hM := hM g H.size
  rw [hav] at hM
  have hFc := wS_free (H := H) hD hA hS.1
  refine va_callg (rv := rv g) (A1 := va_A (wS cf g σ) H.size) (B := fun t => va_P g.2.2.1 cf.2.2.2.2.1 (wS cf g σ') t.heap ∧ va_D (va_A (wS cf g σ) H.size) (wS cf g σ'))
    (va_runV (As := As) (rest := rest) ⟨hx, hb, hml, hown, hts⟩ hM (cwV n hts (lw_V w1 w2 w3 w4 w5) rfl rfl rfl hd ⟨Nat.le_trans hR.1 hF, Nat.le_trans hR.2 hLc⟩)
      ⟨cP_blind, vk_recv hKC.1 hi hS, fun U hU hW => ⟨rfl, by rw [hU], by rw [hU]; exact hP, va_K.moved hW.alike hK, hD.weaken (fun _ _ _ _ => trivial), hKC.call hS hFc hU hW⟩⟩ rfl hn hl.1 rfl (lv_room hrest) d ⟨Nat.zero_le _, Nat.zero_le _⟩)
    (fun st oc t h => ⟨⟨h.1.1, h.1.2⟩, h.2⟩) hS hFc hFc (fun t H1 locs1 ht hvm hB hz hk1 hS => ?_)
  obtain ⟨hP1, hD1⟩ := hB
  rw [ht] at hP1
  exact kk H1 locs1 ls hP1 (hD1.weaken (fun _ q _ h => hFc q.1 h)) hS hl
theorem g_mmax {idx : Nat} {x y : Int32} (C : CX cf g A nL X cc own ret F Lc) (w1 : Cond.methodLink own idx Lib.Math.max.name ∈ lw_all) (hF1 : 1 ≤ F) (hL1 : 21 ≤ Lc) (hrest : (rest.map fun v => v.category).sum ≤ 8) (hc : cells ≤ X.2.2.2.1.cells ∧ slots ≤ X.2.2.2.1.slots) (d : decode cc pc = .ok (.invokestatic idx, 3)) (kk : TG cf g A nL X cells slots σ (pc + 3) lv (.int (mmax x y) :: rest)) : TG cf g A nL X cells slots σ pc lv (.int y :: .int x :: rest) := by
  obtain ⟨p, l, e, R, s, m, args, below, meth, c, Q⟩ := X
  obtain ⟨hx, hb, hr, hlk, hml, hown, hts, hK, hA, hF, hLc, hKC⟩ := C
  exact fun H locs ls hP hD hS hl => va_mmax hx hb (hml.trans hl.1.symm) hown (hts _ w1) (hts _ q492) (hts _ q93) (hts _ q493) (Nat.le_trans hF1 hF) (by omega) hc.1 hc.2 d (kk H locs ls hP hD hS hl)
theorem g_mmin {idx : Nat} {x y : Int32} (C : CX cf g A nL X cc own ret F Lc) (w1 : Cond.methodLink own idx Lib.Math.min.name ∈ lw_all) (hF1 : 1 ≤ F) (hL1 : 21 ≤ Lc) (hrest : (rest.map fun v => v.category).sum ≤ 8) (hc : cells ≤ X.2.2.2.1.cells ∧ slots ≤ X.2.2.2.1.slots) (d : decode cc pc = .ok (.invokestatic idx, 3)) (kk : TG cf g A nL X cells slots σ (pc + 3) lv (.int (mmin x y) :: rest)) : TG cf g A nL X cells slots σ pc lv (.int y :: .int x :: rest) := by
  obtain ⟨p, l, e, R, s, m, args, below, meth, c, Q⟩ := X
  obtain ⟨hx, hb, hr, hlk, hml, hown, hts, hK, hA, hF, hLc, hKC⟩ := C
  exact fun H locs ls hP hD hS hl => va_mmin hx hb (hml.trans hl.1.symm) hown (hts _ w1) (hts _ q471) (hts _ q93) (hts _ q472) (Nat.le_trans hF1 hF) (by omega) hc.1 hc.2 d (kk H locs ls hP hD hS hl)
end STRR
/-- Preconditions.checkIndex, within -/
theorem pn_J4 : plainName RJ4 = true := by decide +kernel
theorem w_checkIndexP {cf : Cfg} {l : Launch} {s : Sto} {i n : Int32} {r : Option Nat} (h : (!decide (i < 0) && decide (i < n)) = true) : Ct cf l yJ4_checkIndex cJ4_checkIndex 3 (some .int) { frames := 1, cells := 0, slots := 0, locals := 12 } (fun _ => [.int i, .int n, va_rf r]) s s (fun _ => some (.int i)) := by
  rw [Bool.and_eq_true] at h
  have h1 : ¬ i < 0 := by
    have := h.1
    simpa using this
  have h2 : i < n := of_decide_eq_true h.2
  refine Ct_of pn_J4 (fun g => by cases r <;> exact Nat.le_of_ble_eq_true rfl) (fun g A X C E hX => ?_)
  refine g_sub (lv' := [(0, .int i), (1, .int n)]) [0, 1] (by cases r <;> rfl) ?_
  refine g_iload_n C dJ4_checkIndex_0 0 rfl ?_
  refine g_if_lt 9 C dJ4_checkIndex_1 rfl (fun z => absurd z h1) (fun _ => ?_)
  refine g_iload_n C dJ4_checkIndex_4 0 rfl ?_
  refine g_iload_n C dJ4_checkIndex_5 1 rfl ?_
  refine g_icmp_lt 16 C dJ4_checkIndex_6 rfl (fun _ => ?_) (fun z => absurd h2 z)
  refine g_iload_n C dJ4_checkIndex_16 0 rfl ?_
  exact g_iret C E rfl rfl rfl ⟨Nat.zero_le _, Nat.zero_le _⟩ dJ4_checkIndex_17
