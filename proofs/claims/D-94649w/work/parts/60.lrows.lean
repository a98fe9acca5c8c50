/-! the law's world: the component's and the twin's cells side by side -/
set_option maxRecDepth 100000
def lTb (k : Nat) : Nat × Nat × Nat := if k < 342 then xTb k else if k = 342 then (4, 10, 0) else tTb (k - 342)
def lFd (c : Nat) : List Nat := if c < 10 then xFd c else tFd (c - 10)
def lTgt (k j : Nat) : Nat := if k < 342 then xTgt k j else 342 + tTgt (k - 342) j
def lCfg : Cfg := (360, lTb, lFd, lTgt, xCl ++ [(RX3, TX3, 36)], xTys)
def gT (g : Gam) : Gam := (fun k => g.1 (342 + k), fun t => if t = 1 then g.2.1 0 else g.2.1 t, (fun c => g.2.2.1.1 (c + 10), fun c => g.2.2.1.2 (c + 10)), g.2.2.2)
def cmb (σx σt : Sto) : Sto := (fun k j => if k < 342 then σx.1 k j else σt.1 (k - 342) j, fun k j => if k < 342 then σx.2.1 k j else σt.2.1 (k - 342) j, σx.2.2.1, σx.2.2.2)
def clr (σ : Sto) : Sto := (σ.1, σ.2.1, σ.2.2.1, [])
theorem lTb_x {k : Nat} (h : k < 342) : lCfg.2.1 k = xCfg.2.1 k := if_pos h
theorem xTb_cls : ∀ k : Nat, k < 342 → (xTb k).1 = 4 → (xTb k).2.1 < 10 := by decide +kernel
theorem cmb_x {g : Gam} {σx σt : Sto} {k : Nat} (h : k < 342) : cE lCfg g (cmb σx σt) k = cE xCfg g σx k := by
  have h1 : (cmb σx σt).1 k = σx.1 k := by funext j; exact if_pos h
  have h2 : (cmb σx σt).2.1 k = σx.2.1 k := by funext j; exact if_pos h
  have h3 : ∀ c : Nat, c < 10 → fL lCfg g (cmb σx σt) k c = fL xCfg g σx k c := by
    intro c hc
    have e1 : lCfg.2.2.1 c = xCfg.2.2.1 c := if_pos hc
    have e2 : ∀ j, lCfg.2.2.2.1 k j = xCfg.2.2.2.1 k j := fun j => if_pos h
    unfold fL
    rw [e1]
    apply List.map_congr_left
    intro j hj
    unfold fV
    rw [h1, h2, e2 j]
    rfl
  unfold cE
  rw [lTb_x h, h1, h2]
  by_cases h4 : (xTb k).1 = 4
  · have h5 := xTb_cls k h h4
    have h6 : (xCfg.2.1 k).1 = 4 := h4
    simp only [h6]
    exact congrArg (fun l => (Sum.inr ((xCfg.2.1 k).2.1, l) : va_E)) (h3 _ h5)
  · have h6 : (xCfg.2.1 k).1 ≠ 4 := h4
    split <;> first | rfl | (exfalso; exact h6 (by assumption))
theorem lE_t {g : Gam} {σx σt : Sto} {k a : Nat} {H : Heap} (h : k < 18) : va_at g.2.2.1 lCfg.2.2.2.2.1 (a, cE lCfg g (cmb σx σt) (342 + k)) H ↔ va_at (gT g).2.2.1 tCfg.2.2.2.2.1 (a, cE tCfg (gT g) σt k) H := by
  match k, h with
  | 0, _ => exact Iff.rfl
  | 1, _ => exact Iff.rfl
  | 2, _ => exact Iff.rfl
  | 3, _ => exact Iff.rfl
  | 4, _ => exact Iff.rfl
  | 5, _ => exact Iff.rfl
  | 6, _ => exact Iff.rfl
  | 7, _ => exact Iff.rfl
  | 8, _ => exact Iff.rfl
  | 9, _ => exact Iff.rfl
  | 10, _ => exact Iff.rfl
  | 11, _ => exact Iff.rfl
  | 12, _ => exact Iff.rfl
  | 13, _ => exact Iff.rfl
  | 14, _ => exact Iff.rfl
  | 15, _ => exact Iff.rfl
  | 16, _ => exact Iff.rfl
  | 17, _ => exact Iff.rfl
  | n + 18, h => exact absurd h (by omega)
theorem lW_x {g : Gam} {σx σt : Sto} {i : Nat} {p : Nat × va_E} (h : (wS xCfg g σx)[i]? = some p) : (wS lCfg g (cmb σx σt))[if i < 342 then i else i + 18]? = some p := by
  by_cases hi : i < 342
  · rw [if_pos hi, wS_at (cf := lCfg) (by show i < 360; omega), cmb_x hi]
    rw [wS_at (cf := xCfg) hi] at h
    exact h
  · rw [if_neg hi, wS_pool (cf := lCfg) (by show 360 ≤ i + 18; omega)]
    rw [wS_pool (cf := xCfg) (by show 342 ≤ i; omega)] at h
    show (σx.2.2.2[i + 18 - 360]?).map (pC g) = _
    rw [show i + 18 - 360 = i - 342 by omega]
    exact h
theorem lW_t {g : Gam} {σx σt : Sto} {i : Nat} (h : i < 18) : (wS lCfg g (cmb σx σt))[342 + i]? = some (g.1 (342 + i), cE lCfg g (cmb σx σt) (342 + i)) := wS_at (cf := lCfg) (by show 342 + i < 360; omega)
theorem lW_c {g : Gam} {σx σt : Sto} {j : Nat} {p : Nat × va_E} (h : (wS lCfg g (cmb σx σt))[j]? = some p) : (¬ (342 ≤ j ∧ j < 360) ∧ (wS xCfg g σx)[if j < 342 then j else j - 18]? = some p) ∨ ∃ i, i < 18 ∧ j = 342 + i ∧ p = (g.1 (342 + i), cE lCfg g (cmb σx σt) (342 + i)) := by
  by_cases h1 : j < 342
  · refine Or.inl ⟨by omega, ?_⟩
    rw [if_pos h1, wS_at (cf := xCfg) h1]
    rw [wS_at (cf := lCfg) (by show j < 360; omega), cmb_x h1] at h
    exact h
  · by_cases h2 : j < 360
    · refine Or.inr ⟨j - 342, by omega, by omega, ?_⟩
      rw [wS_at (cf := lCfg) h2] at h
      rw [show 342 + (j - 342) = j by omega]
      exact (Option.some.inj h).symm
    · refine Or.inl ⟨by omega, ?_⟩
      rw [if_neg h1, wS_pool (cf := xCfg) (by show 342 ≤ j - 18; omega)]
      rw [wS_pool (cf := lCfg) (by show 360 ≤ j; omega)] at h
      show (σx.2.2.2[j - 18 - 342]?).map (pC g) = _
      rw [show j - 18 - 342 = j - 360 by omega]
      exact h
theorem xCl_at {c : Nat} {r : vw_C} (h : xCl[c]? = some r) : (xCl ++ [(RX3, TX3, 36)])[c]? = some r := by
  rw [List.getElem?_append_left (List.getElem?_eq_some_iff.mp h).1]
  exact h
/-- the pool's objects are of the component's classes -/
def pOK (σ : Sto) : Prop := ∀ q ∈ σ.2.2.2, ∀ o : Nat × List Value, q.2 = .inr o → o.1 < 10
theorem xCl_of {c : Nat} {r : vw_C} (hc : c < 10) (h : (xCl ++ [(RX3, TX3, 36)])[c]? = some r) : xCl[c]? = some r := by
  rwa [List.getElem?_append_left (show c < xCl.length from hc)] at h
theorem wS_cls {g : Gam} {σx : Sto} (hp : pOK σx) {i a : Nat} {o : Nat × List Value} (h : (wS xCfg g σx)[i]? = some (a, .inr o)) : o.1 < 10 := by
  by_cases hi : i < 342
  · rw [wS_at (cf := xCfg) hi] at h
    have h1 : cE xCfg g σx i = .inr o := congrArg Prod.snd (Option.some.inj h)
    unfold cE at h1
    split at h1 <;> first | (cases h1; done) | skip
    next h4 =>
      cases h1
      exact xTb_cls i hi h4
  · rw [wS_pool (cf := xCfg) (by show 342 ≤ i; omega)] at h
    obtain ⟨q, h1, h2⟩ := Option.map_eq_some_iff.mp h
    obtain ⟨b, e⟩ := q
    cases e with
    | inl x => cases h2
    | inr o' =>
      have h3 : o' = o := by cases h2; rfl
      subst h3
      exact hp _ (List.mem_of_getElem? h1) o' rfl
/-- the component's part of the law's world -/
theorem lP_x {g : Gam} {σx σt : Sto} {H : Heap} (hp : pOK σx) (h : va_P g.2.2.1 lCfg.2.2.2.2.1 (wS lCfg g (cmb σx σt)) H) : va_P g.2.2.1 xCfg.2.2.2.2.1 (wS xCfg g σx) H := by
  intro i p hi
  have h1 := h _ p (lW_x (σt := σt) hi)
  obtain ⟨a, e⟩ := p
  cases e with
  | inl x => exact h1
  | inr o =>
    obtain ⟨r, h2, h3⟩ := h1
    exact ⟨r, xCl_of (wS_cls hp hi) h2, h3⟩
theorem pOK_of {g : Gam} {σx : Sto} {H : Heap} (h : va_P g.2.2.1 xCfg.2.2.2.2.1 (wS xCfg g σx) H) : pOK σx := by
  intro q hq o ho
  obtain ⟨i, hi⟩ := List.getElem?_of_mem hq
  have h1 : (wS xCfg g σx)[342 + i]? = some (pC g q) := by
    rw [wS_pool (cf := xCfg) (by show 342 ≤ 342 + i; omega)]
    show (σx.2.2.2[342 + i - 342]?).map (pC g) = _
    rw [show 342 + i - 342 = i by omega, hi]
    rfl
  have h2 := h _ _ h1
  unfold pC at h2
  rw [ho] at h2
  obtain ⟨r, h3, -⟩ := h2
  exact (List.getElem?_eq_some_iff.mp h3).1
theorem lD_x {g : Gam} {A : Nat → Prop} {σx σt : Sto} (h : va_D A (wS lCfg g (cmb σx σt))) : va_D A (wS xCfg g σx) := by
  refine ⟨fun i j p q hi hj hpq => ?_, fun i p hi => h.2 _ p (lW_x (σt := σt) hi)⟩
  have h1 := h.1 _ _ p q (lW_x (σt := σt) hi) (lW_x (σt := σt) hj) hpq
  split at h1 <;> split at h1 <;> omega
/-- the law's world again, after a call on the component -/
theorem l_back {g : Gam} {A : Nat → Prop} {sz : Nat} {σx σx' σt : Sto} {H H1 : Heap} (hA : ∀ q, H.size ≤ q → A q) (hP : va_P g.2.2.1 lCfg.2.2.2.2.1 (wS lCfg g (cmb σx σt)) H) (hD : va_D A (wS lCfg g (cmb σx σt))) (hP1 : va_P g.2.2.1 xCfg.2.2.2.2.1 (wS xCfg g σx') H1) (hD1 : va_D (va_A (wS xCfg g σx) H.size) (wS xCfg g σx')) (hk : ∀ q : Nat, q < H.size → ¬ va_A (wS xCfg g σx) H.size q → H1[q]? = H[q]?) : va_P g.2.2.1 lCfg.2.2.2.2.1 (wS lCfg g (cmb σx' σt)) H1 ∧ va_D A (wS lCfg g (cmb σx' σt)) := by
  have ht : ∀ i, i < 18 → g.1 (342 + i) < H.size ∧ ¬ va_A (wS xCfg g σx) H.size (g.1 (342 + i)) := by
    intro i hi
    have h1 := (hP _ _ (lW_t (σx := σx) (σt := σt) hi)).lt
    refine ⟨h1, fun h2 => ?_⟩
    rcases h2 with ⟨k, e, h2⟩ | h2
    · have h3 := hD.1 _ _ _ _ (lW_t (σx := σx) (σt := σt) hi) (lW_x (σt := σt) h2) rfl
      split at h3 <;> omega
    · exact absurd h1 (Nat.not_lt.mpr h2)
  have hE : ∀ i, i < 18 → cE lCfg g (cmb σx' σt) (342 + i) = cE lCfg g (cmb σx σt) (342 + i) := by
    intro i hi
    match i, hi with
    | 0, _ => rfl
    | 1, _ => rfl
    | 2, _ => rfl
    | 3, _ => rfl
    | 4, _ => rfl
    | 5, _ => rfl
    | 6, _ => rfl
    | 7, _ => rfl
    | 8, _ => rfl
    | 9, _ => rfl
    | 10, _ => rfl
    | 11, _ => rfl
    | 12, _ => rfl
    | 13, _ => rfl
    | 14, _ => rfl
    | 15, _ => rfl
    | 16, _ => rfl
    | 17, _ => rfl
    | n + 18, h => exact absurd h (by omega)
  constructor
  · intro j p hj
    rcases lW_c hj with ⟨-, h1⟩ | ⟨i, hi, -, rfl⟩
    · have h2 := hP1 _ p h1
      obtain ⟨a, e⟩ := p
      cases e with
      | inl x => exact h2
      | inr o =>
        obtain ⟨r, h3, h4⟩ := h2
        exact ⟨r, xCl_at h3, h4⟩
    · rw [hE i hi]
      exact (hP _ _ (lW_t (σx := σx) (σt := σt) hi)).kept (hk _ (ht i hi).1 (ht i hi).2)
  · constructor
    · intro i j p q hi hj hpq
      rcases lW_c hi with ⟨a1, a2⟩ | ⟨a, a1, a2, rfl⟩ <;> rcases lW_c hj with ⟨b1, b2⟩ | ⟨b, b1, b2, rfl⟩
      · have h3 := hD1.1 _ _ _ _ a2 b2 hpq
        split at h3 <;> split at h3 <;> omega
      · have h3 := hD1.2 _ _ a2
        rw [hpq] at h3
        exact absurd h3 (ht b b1).2
      · have h3 := hD1.2 _ _ b2
        rw [← hpq] at h3
        exact absurd h3 (ht a a1).2
      · have h3 := hD.1 _ _ _ _ (lW_t (σx := σx) (σt := σt) a1) (lW_t (σx := σx) (σt := σt) b1) hpq
        omega
    · intro i p hi
      rcases lW_c hi with ⟨-, a2⟩ | ⟨a, a1, -, rfl⟩
      · rcases hD1.2 _ _ a2 with ⟨k, e, h2⟩ | h2
        · exact hD.2 _ (p.1, e) (lW_x (σt := σt) h2)
        · exact hA _ h2
      · exact hD.2 _ (g.1 (342 + a), cE lCfg g (cmb σx σt) (342 + a)) (lW_t (σx := σx) (σt := σt) a1)
theorem lK_x {g : Gam} {s : State} (h : va_K g.2.2.1 lCfg.2.2.2.2.1 (tyl lCfg g) s) : va_K g.2.2.1 xCfg.2.2.2.2.1 (tyl xCfg g) s := ⟨fun c q hq => h.1 c q (xCl_at hq), h.2⟩
theorem wS_t {g : Gam} {σt : Sto} (h0 : σt.2.2.2 = []) {i : Nat} {p : Nat × va_E} (h : (wS tCfg (gT g) σt)[i]? = some p) : i < 18 ∧ p = (g.1 (342 + i), cE tCfg (gT g) σt i) := by
  by_cases hi : i < 18
  · rw [wS_at (cf := tCfg) hi] at h
    exact ⟨hi, (Option.some.inj h).symm⟩
  · rw [wS_pool (cf := tCfg) (by show 18 ≤ i; omega), h0] at h
    cases h
theorem lP_t {g : Gam} {σx σt : Sto} {H : Heap} (h0 : σt.2.2.2 = []) (h : va_P g.2.2.1 lCfg.2.2.2.2.1 (wS lCfg g (cmb σx σt)) H) : va_P (gT g).2.2.1 tCfg.2.2.2.2.1 (wS tCfg (gT g) σt) H := by
  intro i p hi
  obtain ⟨h1, rfl⟩ := wS_t h0 hi
  exact (lE_t h1).mp (h _ _ (lW_t (σx := σx) (σt := σt) h1))
theorem lD_t {g : Gam} {A : Nat → Prop} {σx σt : Sto} (h0 : σt.2.2.2 = []) (h : va_D A (wS lCfg g (cmb σx σt))) : va_D A (wS tCfg (gT g) σt) := by
  constructor
  · intro i j p q hi hj hpq
    obtain ⟨h1, rfl⟩ := wS_t h0 hi
    obtain ⟨h2, rfl⟩ := wS_t h0 hj
    have h3 := h.1 _ _ _ _ (lW_t (σx := σx) (σt := σt) h1) (lW_t (σx := σx) (σt := σt) h2) hpq
    omega
  · intro i p hi
    obtain ⟨h1, rfl⟩ := wS_t h0 hi
    exact h.2 _ (g.1 (342 + i), cE lCfg g (cmb σx σt) (342 + i)) (lW_t (σx := σx) (σt := σt) h1)
theorem lK_t {g : Gam} {s : State} (h : va_K g.2.2.1 lCfg.2.2.2.2.1 (tyl lCfg g) s) : va_K (gT g).2.2.1 tCfg.2.2.2.2.1 (tyl tCfg (gT g)) s := by
  constructor
  · intro c q hq
    match c, hq with
    | 0, hq => cases hq; exact h.1 10 (RX3, TX3, 36) rfl
    | n + 1, hq => cases hq
  · intro k q hq
    match k, hq with
    | 0, hq => cases hq; exact h.2 0 (g.2.1 0, .int) rfl
    | 1, hq => cases hq; exact h.2 0 (g.2.1 0, .int) rfl
    | 2, hq => cases hq; exact h.2 2 (g.2.1 2, .long) rfl
    | n + 3, hq => cases hq
theorem l_backT {g : Gam} {A : Nat → Prop} {σx σt σt' : Sto} {H H1 : Heap} (h0 : σt.2.2.2 = []) (hA : ∀ q, H.size ≤ q → A q) (hP : va_P g.2.2.1 lCfg.2.2.2.2.1 (wS lCfg g (cmb σx σt)) H) (hD : va_D A (wS lCfg g (cmb σx σt))) (hP1 : va_P (gT g).2.2.1 tCfg.2.2.2.2.1 (wS tCfg (gT g) σt') H1) (hk : ∀ q : Nat, q < H.size → ¬ va_A (wS tCfg (gT g) σt) H.size q → H1[q]? = H[q]?) : va_P g.2.2.1 lCfg.2.2.2.2.1 (wS lCfg g (cmb σx (clr σt'))) H1 ∧ va_D A (wS lCfg g (cmb σx (clr σt'))) := by
  have hx : ∀ (j : Nat) (p : Nat × va_E), (wS lCfg g (cmb σx σt))[j]? = some p → ¬ (342 ≤ j ∧ j < 360) → p.1 < H.size ∧ ¬ va_A (wS tCfg (gT g) σt) H.size p.1 := by
    intro j p hj hn
    have h1 := (hP _ _ hj).lt
    refine ⟨h1, fun h2 => ?_⟩
    rcases h2 with ⟨k, e, h2⟩ | h2
    · obtain ⟨h3, h4⟩ := wS_t h0 h2
      have h5 := hD.1 _ _ _ _ hj (lW_t (σx := σx) (σt := σt) h3) (show p.1 = g.1 (342 + k) from congrArg Prod.fst h4)
      omega
    · exact absurd h1 (Nat.not_lt.mpr h2)
  have key : ∀ (j : Nat) (p : Nat × va_E), (wS lCfg g (cmb σx (clr σt')))[j]? = some p → (¬ (342 ≤ j ∧ j < 360) ∧ (wS lCfg g (cmb σx σt))[j]? = some p) ∨ ∃ i, i < 18 ∧ j = 342 + i ∧ p = (g.1 (342 + i), cE lCfg g (cmb σx (clr σt')) (342 + i)) := by
    intro j p hj
    rcases lW_c hj with ⟨a1, a2⟩ | h
    · refine Or.inl ⟨a1, ?_⟩
      have h1 := lW_x (σt := σt) a2
      by_cases h2 : j < 342
      · rw [if_pos h2, if_pos h2] at h1
        exact h1
      · rw [if_neg h2, if_neg (show ¬ j - 18 < 342 by omega), show j - 18 + 18 = j by omega] at h1
        exact h1
    · exact Or.inr h
  have ad : ∀ i, i < 18 → ∃ e, (wS lCfg g (cmb σx σt))[342 + i]? = some (g.1 (342 + i), e) := fun i hi => ⟨_, lW_t (σx := σx) (σt := σt) hi⟩
  constructor
  · intro j p hj
    rcases key j p hj with ⟨a1, a2⟩ | ⟨i, hi, -, rfl⟩
    · exact (hP _ _ a2).kept (hk _ (hx j p a2 a1).1 (hx j p a2 a1).2)
    · have h1 := hP1 i _ (wS_at (cf := tCfg) hi)
      exact (lE_t (σx := σx) (σt := clr σt') hi).mpr h1
  · constructor
    · intro i j p q hi hj hpq
      rcases key i p hi with ⟨a1, a2⟩ | ⟨a, a1, a2, rfl⟩ <;> rcases key j q hj with ⟨b1, b2⟩ | ⟨b, b1, b2, rfl⟩
      · exact hD.1 _ _ _ _ a2 b2 hpq
      · obtain ⟨e, he⟩ := ad b b1
        have h3 := hD.1 _ _ _ _ a2 he hpq
        omega
      · obtain ⟨e, he⟩ := ad a a1
        have h3 := hD.1 _ _ _ _ he b2 hpq
        omega
      · obtain ⟨e, he⟩ := ad a a1
        obtain ⟨e', he'⟩ := ad b b1
        have h3 := hD.1 _ _ _ _ he he' hpq
        omega
    · intro i p hi
      rcases key i p hi with ⟨-, a2⟩ | ⟨a, a1, -, rfl⟩
      · exact hD.2 _ _ a2
      · obtain ⟨e, he⟩ := ad a a1
        exact hD.2 _ (g.1 (342 + a), e) he
/-- a call that makes cells, whatever it answers; what it keeps -/
theorem va_callwk {p : Program} {l : Launch} {e : Env} {R0 : Room} {s : State} {m : MethodId} {args : Array Value} {below : List Frame} {meth : Method} {c : Code} {H : Heap} {locs : List Loc} {cells slots : Nat} {Q : State → Prop} {pc : Nat} {ls : Array Slot} {rest st0 : List Value} {A0 A1 : Nat → Prop} {H0 : Heap} {mc ms : Nat} {free : Addr → Prop} {Qa : State → Outcome → State → Prop} {ρ : Type} {R : ρ → Sto → Prop} {rv : ρ → Option Value} {B : Sto → State → Prop}
    (hr : va_Run p l e R0 s m args below meth c H locs cells slots mc ms (F0 m pc ls st0) rest Qa free) (hq : ∀ st oc t, Qa st oc t → (∃ (r : ρ) (σ' : Sto), oc = .returned (rv r) ∧ R r σ' ∧ B σ' t) ∧ va_F A1 st t) (hS : va_S A0 H0 H locs) (hA : ∀ q, A1 q → A0 q) (hf : ∀ q, free q → A0 q)
    (kk : ∀ (r : ρ) (σ' : Sto) (t : State) (H1 : Heap) (locs1 : List Loc), t.heap = H1 → R r σ' → B σ' t → (∀ q : Nat, q < H.size → ¬ A1 q → H1[q]? = H[q]?) → va_S A0 H0 H1 locs1 → W p l e R0 s m args below meth c H1 locs1 (cells + mc) (slots + ms) Q (F0 m (pc + 3) ls ((rv r).toList ++ rest))) : W p l e R0 s m args below meth c H locs cells slots Q (F0 m pc ls st0) := by
  intro T hT X
  obtain ⟨v, st₀, t, T', L, h0, X', hL, e1, e2, hQ, st⟩ := hr T hT X
  obtain ⟨⟨r, σ', hv, hR, hb⟩, hz, hk⟩ := hq _ _ _ hQ
  cases hv
  rw [h0] at hz hk
  obtain ⟨t2, a1, b1⟩ := kk r σ' t T'.heap (locs ++ L) e1.symm hR hb (fun q h1 h2 => by rw [e1]; exact hk q h1 h2)
    ⟨Nat.le_trans hS.1 (by rw [e1]; exact hz), fun q h1 h2 => by rw [e1, hk q (Nat.lt_of_lt_of_le h1 hS.1) (fun z => h2 (hA q z))]; exact hS.2.1 q h1 h2, fun q hq => by
      rcases List.mem_append.mp hq with h | h
      · exact hS.2.2 q h
      · exact hf _ (hL q h)⟩ T' rfl X'
  exact ⟨t2, st t2 a1, b1⟩
section LR
variable {g : Gam} {A : Nat → Prop} {nL : Nat} {X : FX} {cells slots : Nat} {σx σt : Sto} {pc : Nat} {lv : List (Nat × Value)} {rest : List Value} {cc : ByteArray} {own : String} {ret : Option FieldType} {F Lc : Nat}
/-- a call on the component -/
theorem l_callX {l : Launch} {idx L n : Nat} {y : MethodName} {b : ByteArray} {r : Option FieldType} {rm : Room} {av : Gam → List Value} {As : List Value} {σx' : Sto} {rv : Gam → Option Value}
    (C : CX lCfg g A nL X cc own ret F Lc) (hp : pOK σx) (hM : Ct xCfg l y b L r rm av σx σx' rv) (hX : X.2.1 = l) (hav : av g = .ref (g.1 0) :: As)
    (w1 : Cond.methodLink own idx y ∈ lw_all) (w2 : Cond.instanceMethod y ∈ lw_all) (w3 : Cond.selects "DoughDebts" y y ∈ lw_all) (w4 : Cond.initialized "DoughDebts" ∈ lw_all) (w5 : Cond.code y b L r ∈ lw_all)
    (hd : y.cls = "DoughDebts" ∧ y.cls ≠ "java/lang/invoke/MethodHandle" ∧ y.cls ≠ "java/lang/invoke/VarHandle" ∧ (parseMethodDescriptor y.desc).map (fun d => d.parameters.length) = some n) (hn : As.length = n)
    (hR : rm.frames + 1 ≤ F ∧ 8 + (L + 11) + rm.locals ≤ Lc) (hrest : (rest.map fun v => v.category).sum ≤ 8) (d : decode cc pc = .ok (.invokevirtual idx, 3)) (hroom : cells + rm.cells ≤ X.2.2.2.1.cells ∧ slots + rm.slots ≤ X.2.2.2.1.slots)
    (kk : pOK σx' → TG lCfg g A nL X (cells + rm.cells) (slots + rm.slots) (cmb σx' σt) (pc + 3) lv ((rv g).toList ++ rest)) : TG lCfg g A nL X cells slots (cmb σx σt) pc lv (As.reverse ++ .ref (g.1 0) :: rest) := by
  obtain ⟨p, l, e, R, s, m, args, below, meth, c, Q⟩ := X
  obtain ⟨hx, hb, hr, hlk, hml, hown, hts, hK, hA, hF, hLc, hKC⟩ := C
  cases hX
  intro H locs ls hP hD hS hl
  have hM := hM g H.size
  rw [hav] at hM
  have hPx := lP_x hp hP
  have hDx := lD_x hD
  have hKx := lK_x hK
  have hFc := wS_free (H := H) hDx hA hS.1
  have hc : xCfg.2.2.2.2.1[0]? = some ("DoughDebts", TX0, 48) := rfl
  refine va_callg (rv := rv g) (A1 := va_A (wS xCfg g σx) H.size) (B := fun t => va_P g.2.2.1 xCfg.2.2.2.2.1 (wS xCfg g σx') t.heap ∧ va_D (va_A (wS xCfg g σx) H.size) (wS xCfg g σx'))
    (va_runV (As := As) (rest := rest) ⟨hx, hb, hml, hown, hts⟩ hM (cwV n hts (lw_V w1 w2 w3 w4 w5) rfl rfl rfl hd ⟨Nat.le_trans hR.1 hF, Nat.le_trans hR.2 hLc⟩)
      ⟨cP_blind, va_recv hKx hPx hc oX0.at, fun U hU hW => ⟨rfl, by rw [hU], by rw [hU]; exact hPx, va_K.moved hW.alike hKx, hDx.weaken (fun _ _ _ _ => trivial), hKC.call hS hFc hU hW⟩⟩ rfl hn hl.1 rfl (lv_room hrest) d hroom)
    (fun st oc t h => ⟨⟨h.1.1, h.1.2⟩, h.2⟩) hS hFc hFc (fun t H1 locs1 ht hvm hB hz hk1 hS => ?_)
  obtain ⟨hP1, hD1⟩ := hB
  rw [ht] at hP1
  obtain ⟨hP2, hD2⟩ := l_back (sz := H.size) (fun q h => hFc q (Or.inr h)) hP hD hP1 hD1 hk1
  exact kk (pOK_of hP1) H1 locs1 ls hP2 hD2 hS hl
/-- .. that makes cells -/
theorem l_callXw {l : Launch} {idx L n : Nat} {y : MethodName} {b : ByteArray} {r : Option FieldType} {rm : Room} {av : Gam → List Value} {As : List Value} {ρ : Type} {R1 : ρ → Sto → Prop} {rv1 : ρ → Option Value}
    (C : CX lCfg g A nL X cc own ret F Lc) (hp : pOK σx) (hM : Cw xCfg l y b L r rm av σx R1 rv1) (hX : X.2.1 = l) (hav : av g = .ref (g.1 0) :: As)
    (w1 : Cond.methodLink own idx y ∈ lw_all) (w2 : Cond.instanceMethod y ∈ lw_all) (w3 : Cond.selects "DoughDebts" y y ∈ lw_all) (w4 : Cond.initialized "DoughDebts" ∈ lw_all) (w5 : Cond.code y b L r ∈ lw_all)
    (hd : y.cls = "DoughDebts" ∧ y.cls ≠ "java/lang/invoke/MethodHandle" ∧ y.cls ≠ "java/lang/invoke/VarHandle" ∧ (parseMethodDescriptor y.desc).map (fun d => d.parameters.length) = some n) (hn : As.length = n)
    (hR : rm.frames + 1 ≤ F ∧ 8 + (L + 11) + rm.locals ≤ Lc) (hrest : (rest.map fun v => v.category).sum ≤ 8) (d : decode cc pc = .ok (.invokevirtual idx, 3)) (hroom : cells + rm.cells ≤ X.2.2.2.1.cells ∧ slots + rm.slots ≤ X.2.2.2.1.slots)
    (kk : ∀ (r1 : ρ) (σx' : Sto), R1 r1 σx' → pOK σx' → TG lCfg g A nL X (cells + rm.cells) (slots + rm.slots) (cmb σx' σt) (pc + 3) lv ((rv1 r1).toList ++ rest)) : TG lCfg g A nL X cells slots (cmb σx σt) pc lv (As.reverse ++ .ref (g.1 0) :: rest) := by
  obtain ⟨p, l, e, R, s, m, args, below, meth, c, Q⟩ := X
  obtain ⟨hx, hb, hr, hlk, hml, hown, hts, hK, hA, hF, hLc, hKC⟩ := C
  cases hX
  intro H locs ls hP hD hS hl
  have hM := hM g H.size
  rw [hav] at hM
  have hPx := lP_x hp hP
  have hDx := lD_x hD
  have hKx := lK_x hK
  have hFc := wS_free (H := H) hDx hA hS.1
  have hc : xCfg.2.2.2.2.1[0]? = some ("DoughDebts", TX0, 48) := rfl
  refine va_callwk (rv := rv1) (R := R1) (A1 := va_A (wS xCfg g σx) H.size) (B := fun σx' t => va_P g.2.2.1 xCfg.2.2.2.2.1 (wS xCfg g σx') t.heap ∧ va_D (va_A (wS xCfg g σx) H.size) (wS xCfg g σx'))
    (va_runV (As := As) (rest := rest) ⟨hx, hb, hml, hown, hts⟩ hM (cwV n hts (lw_V w1 w2 w3 w4 w5) rfl rfl rfl hd ⟨Nat.le_trans hR.1 hF, Nat.le_trans hR.2 hLc⟩)
      ⟨cP_blind, va_recv hKx hPx hc oX0.at, fun U hU hW => ⟨rfl, by rw [hU], by rw [hU]; exact hPx, va_K.moved hW.alike hKx, hDx.weaken (fun _ _ _ _ => trivial), hKC.call hS hFc hU hW⟩⟩ rfl hn hl.1 rfl (lv_room hrest) d hroom)
    (fun st oc t h => by
      obtain ⟨⟨r, σ', h1, h2, h3⟩, h4⟩ := h
      exact ⟨⟨r, σ', h1, h2, h3⟩, h4⟩) hS hFc hFc (fun r σ' t H1 locs1 ht hR1 hB hk1 hS => ?_)
  obtain ⟨hP1, hD1⟩ := hB
  rw [ht] at hP1
  obtain ⟨hP2, hD2⟩ := l_back (sz := H.size) (fun q h => hFc q (Or.inr h)) hP hD hP1 hD1 hk1
  exact kk r σ' hR1 (pOK_of hP1) H1 locs1 ls hP2 hD2 hS hl
/-- .. with a table of its own -/
theorem l_callXh {l : Launch} {idx L n : Nat} {y : MethodName} {b : ByteArray} {hh : List (Nat × Nat × Nat × Nat)} {r : Option FieldType} {rm : Room} {av : Gam → List Value} {As : List Value} {ρ : Type} {R1 : ρ → Sto → Prop} {rv1 : ρ → Option Value}
    (C : CX lCfg g A nL X cc own ret F Lc) (hp : pOK σx) (hM : CwH xCfg l y b L r hh rm av σx R1 rv1) (hX : X.2.1 = l) (hav : av g = .ref (g.1 0) :: As)
    (w1 : Cond.methodLink own idx y ∈ lw_all) (w2 : Cond.instanceMethod y ∈ lw_all) (w3 : Cond.selects "DoughDebts" y y ∈ lw_all) (w4 : Cond.initialized "DoughDebts" ∈ lw_all) (w5 : Cond.codeWith y b L r hh ∈ lw_all)
    (hd : y.cls = "DoughDebts" ∧ y.cls ≠ "java/lang/invoke/MethodHandle" ∧ y.cls ≠ "java/lang/invoke/VarHandle" ∧ (parseMethodDescriptor y.desc).map (fun d => d.parameters.length) = some n) (hn : As.length = n)
    (hR : rm.frames + 1 ≤ F ∧ 8 + (L + 11) + rm.locals ≤ Lc) (hrest : (rest.map fun v => v.category).sum ≤ 8) (d : decode cc pc = .ok (.invokevirtual idx, 3)) (hroom : cells + rm.cells ≤ X.2.2.2.1.cells ∧ slots + rm.slots ≤ X.2.2.2.1.slots)
    (kk : ∀ (r1 : ρ) (σx' : Sto), R1 r1 σx' → pOK σx' → TG lCfg g A nL X (cells + rm.cells) (slots + rm.slots) (cmb σx' σt) (pc + 3) lv ((rv1 r1).toList ++ rest)) : TG lCfg g A nL X cells slots (cmb σx σt) pc lv (As.reverse ++ .ref (g.1 0) :: rest) := by
  obtain ⟨p, l, e, R, s, m, args, below, meth, c, Q⟩ := X
  obtain ⟨hx, hb, hr, hlk, hml, hown, hts, hK, hA, hF, hLc, hKC⟩ := C
  cases hX
  intro H locs ls hP hD hS hl
  have hM := hM g H.size
  rw [hav] at hM
  have hPx := lP_x hp hP
  have hDx := lD_x hD
  have hKx := lK_x hK
  have hFc := wS_free (H := H) hDx hA hS.1
  have hc : xCfg.2.2.2.2.1[0]? = some ("DoughDebts", TX0, 48) := rfl
  refine va_callwk (rv := rv1) (R := R1) (A1 := va_A (wS xCfg g σx) H.size) (B := fun σx' t => va_P g.2.2.1 xCfg.2.2.2.2.1 (wS xCfg g σx') t.heap ∧ va_D (va_A (wS xCfg g σx) H.size) (wS xCfg g σx'))
    (vy_runVW (As := As) (rest := rest) ⟨hx, hb, hml, hown, hts⟩ hM (vy_cwVW n hts (lw_VW w1 w2 w3 w4 w5) rfl rfl rfl hd ⟨Nat.le_trans hR.1 hF, Nat.le_trans hR.2 hLc⟩)
      ⟨cP_blind, va_recv hKx hPx hc oX0.at, fun U hU hW => ⟨rfl, by rw [hU], by rw [hU]; exact hPx, va_K.moved hW.alike hKx, hDx.weaken (fun _ _ _ _ => trivial), hKC.call hS hFc hU hW⟩⟩ rfl hn hl.1 rfl (lv_room hrest) d hroom)
    (fun st oc t h => by
      obtain ⟨⟨r, σ', h1, h2, h3⟩, h4⟩ := h
      exact ⟨⟨r, σ', h1, h2, h3⟩, h4⟩) hS hFc hFc (fun r σ' t H1 locs1 ht hR1 hB hk1 hS => ?_)
  obtain ⟨hP1, hD1⟩ := hB
  rw [ht] at hP1
  obtain ⟨hP2, hD2⟩ := l_back (sz := H.size) (fun q h => hFc q (Or.inr h)) hP hD hP1 hD1 hk1
  exact kk r σ' hR1 (pOK_of hP1) H1 locs1 ls hP2 hD2 hS hl
/-- a call on the twin -/
theorem l_callT {l : Launch} {idx L n : Nat} {y : MethodName} {b : ByteArray} {r : Option FieldType} {rm : Room} {av : Gam → List Value} {As : List Value} {σt' : Sto} {rv : Gam → Option Value}
    (C : CX lCfg g A nL X cc own ret F Lc) (h0 : σt.2.2.2 = []) (hM : Ct tCfg l y b L r rm av σt σt' rv) (hX : X.2.1 = l) (hav : av (gT g) = .ref (g.1 342) :: As)
    (w1 : Cond.methodLink own idx y ∈ lw_all) (w2 : Cond.instanceMethod y ∈ lw_all) (w3 : Cond.selects "DoughDebtsModel" y y ∈ lw_all) (w4 : Cond.initialized "DoughDebtsModel" ∈ lw_all) (w5 : Cond.code y b L r ∈ lw_all)
    (hd : y.cls = "DoughDebtsModel" ∧ y.cls ≠ "java/lang/invoke/MethodHandle" ∧ y.cls ≠ "java/lang/invoke/VarHandle" ∧ (parseMethodDescriptor y.desc).map (fun d => d.parameters.length) = some n) (hn : As.length = n)
    (hR : rm.frames + 1 ≤ F ∧ 8 + (L + 11) + rm.locals ≤ Lc) (hrest : (rest.map fun v => v.category).sum ≤ 8) (d : decode cc pc = .ok (.invokevirtual idx, 3)) (hroom : cells + rm.cells ≤ X.2.2.2.1.cells ∧ slots + rm.slots ≤ X.2.2.2.1.slots)
    (kk : TG lCfg g A nL X (cells + rm.cells) (slots + rm.slots) (cmb σx (clr σt')) (pc + 3) lv ((rv (gT g)).toList ++ rest)) : TG lCfg g A nL X cells slots (cmb σx σt) pc lv (As.reverse ++ .ref (g.1 342) :: rest) := by
  obtain ⟨p, l, e, R, s, m, args, below, meth, c, Q⟩ := X
  obtain ⟨hx, hb, hr, hlk, hml, hown, hts, hK, hA, hF, hLc, hKC⟩ := C
  cases hX
  intro H locs ls hP hD hS hl
  have hM := hM (gT g) H.size
  rw [hav] at hM
  have hPx := lP_t h0 hP
  have hDx := lD_t h0 hD
  have hKx := lK_t hK
  have hFc := wS_free (H := H) hDx hA hS.1
  have hc : tCfg.2.2.2.2.1[0]? = some ("DoughDebtsModel", TX3, 36) := rfl
  refine va_callg (rv := rv (gT g)) (A1 := va_A (wS tCfg (gT g) σt) H.size) (B := fun t => va_P (gT g).2.2.1 tCfg.2.2.2.2.1 (wS tCfg (gT g) σt') t.heap ∧ va_D (va_A (wS tCfg (gT g) σt) H.size) (wS tCfg (gT g) σt'))
    (va_runV (As := As) (rest := rest) ⟨hx, hb, hml, hown, hts⟩ hM (cwV n hts (lw_V w1 w2 w3 w4 w5) rfl rfl rfl hd ⟨Nat.le_trans hR.1 hF, Nat.le_trans hR.2 hLc⟩)
      ⟨cP_blind, va_recv hKx hPx hc oT0.at, fun U hU hW => ⟨rfl, by rw [hU], by rw [hU]; exact hPx, va_K.moved hW.alike hKx, hDx.weaken (fun _ _ _ _ => trivial), hKC.call hS hFc hU hW⟩⟩ rfl hn hl.1 rfl (lv_room hrest) d hroom)
    (fun st oc t h => ⟨⟨h.1.1, h.1.2⟩, h.2⟩) hS hFc hFc (fun t H1 locs1 ht hvm hB hz hk1 hS => ?_)
  obtain ⟨hP1, hD1⟩ := hB
  rw [ht] at hP1
  obtain ⟨hP2, hD2⟩ := l_backT h0 (fun q h => hFc q (Or.inr h)) hP hD hP1 hk1
  exact kk H1 locs1 ls hP2 hD2 hS hl
end LR
section LS
variable {cf : Cfg} {g : Gam} {A : Nat → Prop} {nL : Nat} {X : FX} {cells slots : Nat} {σ : Sto} {pc : Nat} {lv : List (Nat × Value)} {rest : List Value} {cc : ByteArray} {own : String} {ret : Option FieldType} {F Lc : Nat}
/-- the script -/
theorem l_sld {b L : Nat} {xs : Nat → Int32} {i : Int32} (C : CX cf g A nL X cc own ret F Lc) (hX : va_X b L xs X.2.2.2.2.1 X.2.2.2.2.1.heap) (hbl : b < X.2.2.2.2.1.heap.size) (hbA : ¬ A b) (hin : inb i L = true) (d : decode cc pc = .ok (.iaload, 1)) (kk : TG cf g A nL X cells slots σ (pc + 1) lv (.int (xs i.toNatClampNeg) :: rest)) : TG cf g A nL X cells slots σ pc lv (.int i :: .ref b :: rest) := by
  obtain ⟨p, l, e, R, s, m, args, below, meth, c, Q⟩ := X
  obtain ⟨hx, hb, hr, hlk, hml, hown, hts, hK, hA, hF, hLc, hKC⟩ := C
  exact fun H locs ls hP hD hS hl => va_sld hx hb hX hbl hbA hS (inb_in hin) d (kk H locs ls hP hD hS hl)
theorem l_slen {b L : Nat} {xs : Nat → Int32} (C : CX cf g A nL X cc own ret F Lc) (hX : va_X b L xs X.2.2.2.2.1 X.2.2.2.2.1.heap) (hbl : b < X.2.2.2.2.1.heap.size) (hbA : ¬ A b) (d : decode cc pc = .ok (.arraylength, 1)) (kk : TG cf g A nL X cells slots σ (pc + 1) lv (.int (Int32.ofNat L) :: rest)) : TG cf g A nL X cells slots σ pc lv (.ref b :: rest) := by
  obtain ⟨p, l, e, R, s, m, args, below, meth, c, Q⟩ := X
  obtain ⟨hx, hb, hr, hlk, hml, hown, hts, hK, hA, hF, hLc, hKC⟩ := C
  exact fun H locs ls hP hD hS hl => va_slen hx hb hX hbl hbA hS d (kk H locs ls hP hD hS hl)
end LS
