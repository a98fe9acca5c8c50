/-! THE COMPONENT's world: codes of its objects and arrays; facts of its fields, methods -/
set_option maxRecDepth 100000
def xTb : Nat → Nat × Nat × Nat := fun k => match k with
  | 0 => (4, 0, 0)
  | 1 => (1, 400, 0)
  | 2 => (6, 1, 0)
  | 3 => (6, 10, 1)
  | 4 => (6, 4, 11)
  | 5 => (3, 9, 5)
  | 6 => (0, 4, 0)
  | 7 => (0, 4, 0)
  | 8 => (7, 8, 7)
  | 9 => (0, 10, 0)
  | 10 => (0, 9, 0)
  | 11 => (0, 9, 0)
  | 12 => (0, 9, 0)
  | 13 => (0, 9, 0)
  | 14 => (0, 9, 0)
  | 15 => (5, 201, 107)
  | 16 => (3, 60, 6)
  | 17 => (2, 60, 0)
  | 18 => (5, 8, 308)
  | 19 => (5, 9, 324)
  | 20 => (0, 512, 0)
  | 21 => (0, 512, 0)
  | 22 => (3, 9, 5)
  | 23 => (3, 60, 6)
  | 24 => (5, 8, 316)
  | 25 => (5, 9, 333)
  | 26 => (0, 4, 0)
  | k => if k < 107 then (if (k - 27) % 8 = 0 then (4, 1, 0) else (0, 9, 0)) else if 308 ≤ k ∧ k < 324 then (0, 8, 0) else (0, 9, 0)
def xFd : Nat → List Nat := fun k => match k with
  | 0 => [2, 0, 2, 2, 2, 4, 0, 0, 0, 0, 0, 0, 3, 2, 0, 2, 2, 2, 2, 2, 0, 2, 2, 2, 0, 2, 2, 2, 0, 0, 2, 2, 0, 2, 2, 1, 1, 2, 2, 2, 2, 2, 2, 2, 2, 3, 0, 0]
  | 1 => [0, 0, 0, 0, 0, 2, 2, 2, 2, 2, 2, 2]
  | 2 => [0, 0, 0, 3]
  | 3 => [0, 0, 0, 0]
  | 4 => [3, 3, 0]
  | 5 => [0]
  | 6 => [0]
  | 7 => [3]
  | 8 => [0, 3, 3]
  | 9 => [3, 3, 3, 3, 3, 0, 0, 0]
  | _ => []
def xT0 : Nat → Nat := fun j => match j with
  | 0 => 1
  | 2 => 2
  | 3 => 3
  | 4 => 4
  | 13 => 5
  | 15 => 6
  | 16 => 7
  | 19 => 8
  | 21 => 9
  | 22 => 10
  | 23 => 11
  | 25 => 12
  | 26 => 13
  | 27 => 14
  | 30 => 15
  | 31 => 16
  | 33 => 17
  | 34 => 18
  | 37 => 19
  | 38 => 20
  | 39 => 21
  | 40 => 22
  | 41 => 23
  | 42 => 24
  | 43 => 25
  | 44 => 26
  | 17 => 27
  | 18 => 35
  | _ => 0
def xTgt : Nat → Nat → Nat := fun k j => if k = 0 then xT0 j else k + (j - 4)
def xCl : List vw_C := [(RX0, TX0, 48), (RX2, TX2, 12), (RX4, TX4, 4), (RX11, TX11, 4), (RX1, TX1, 3), (RX7, TX7, 1), (RX8, TX8, 1), (RX10, TX10, 1), (RX9, TX9, 3), (RX5, TX5, 8)]
def xTys : List FieldType := [.int, .byte, .long, .array .int, .object "java/lang/String", .object "DoughDebts$House", .object "DoughDebts$Leaven", .object "DoughDebts$Days", .object "DoughDebts$Term"]
def xCfg : Cfg := (342, xTb, xFd, xTgt, xCl, xTys)
def xext (cf : Cfg) (k : Nat) : Nat := (cf.2.1 k).2.2
theorem AO_of {k : Nat} (kind n : Nat) (h : k < 342) (e : xTb k = (kind, n, 0)) : AO xCfg k kind n := ⟨h, 0, e⟩
theorem isA_r {cf : Cfg} {k kind : Nat} (h : isA cf k kind = true) : RO cf k kind (xlen cf k) (xext cf k) := by
  unfold isA at h
  simp only [Bool.and_eq_true] at h
  refine ⟨of_decide_eq_true h.1, ?_⟩
  rw [← of_decide_eq_true h.2]
  rfl
theorem xtgt_d {k : Nat} (h : isO xCfg k 1 = true) (j : Nat) : xCfg.2.2.2.1 k j = k + (j - 4) := by
  have h1 : k ≠ 0 := by
    rintro rfl
    exact absurd h (by decide)
  show xTgt k j = _
  unfold xTgt
  rw [if_neg h1]
theorem oX0 : OO xCfg 0 0 := ⟨by decide, 0, rfl⟩
theorem oX27 : OO xCfg 27 1 := ⟨by decide, 0, rfl⟩
theorem oX35 : OO xCfg 35 1 := ⟨by decide, 0, rfl⟩
theorem oX43 : OO xCfg 43 1 := ⟨by decide, 0, rfl⟩
theorem oX51 : OO xCfg 51 1 := ⟨by decide, 0, rfl⟩
theorem oX59 : OO xCfg 59 1 := ⟨by decide, 0, rfl⟩
theorem oX67 : OO xCfg 67 1 := ⟨by decide, 0, rfl⟩
theorem oX75 : OO xCfg 75 1 := ⟨by decide, 0, rfl⟩
theorem oX83 : OO xCfg 83 1 := ⟨by decide, 0, rfl⟩
theorem oX91 : OO xCfg 91 1 := ⟨by decide, 0, rfl⟩
theorem oX99 : OO xCfg 99 1 := ⟨by decide, 0, rfl⟩
theorem aX1 : AO xCfg 1 1 400 := ⟨by decide, 0, rfl⟩
theorem rX1 : RO xCfg 1 1 400 0 := ⟨by decide, rfl⟩
theorem rX2 : RO xCfg 2 6 1 0 := ⟨by decide, rfl⟩
theorem rX3 : RO xCfg 3 6 10 1 := ⟨by decide, rfl⟩
theorem rX4 : RO xCfg 4 6 4 11 := ⟨by decide, rfl⟩
theorem rX5 : RO xCfg 5 3 9 5 := ⟨by decide, rfl⟩
theorem aX6 : AO xCfg 6 0 4 := ⟨by decide, 0, rfl⟩
theorem rX6 : RO xCfg 6 0 4 0 := ⟨by decide, rfl⟩
theorem aX7 : AO xCfg 7 0 4 := ⟨by decide, 0, rfl⟩
theorem rX7 : RO xCfg 7 0 4 0 := ⟨by decide, rfl⟩
theorem rX8 : RO xCfg 8 7 8 7 := ⟨by decide, rfl⟩
theorem aX9 : AO xCfg 9 0 10 := ⟨by decide, 0, rfl⟩
theorem rX9 : RO xCfg 9 0 10 0 := ⟨by decide, rfl⟩
theorem aX10 : AO xCfg 10 0 9 := ⟨by decide, 0, rfl⟩
theorem rX10 : RO xCfg 10 0 9 0 := ⟨by decide, rfl⟩
theorem aX11 : AO xCfg 11 0 9 := ⟨by decide, 0, rfl⟩
theorem rX11 : RO xCfg 11 0 9 0 := ⟨by decide, rfl⟩
theorem aX12 : AO xCfg 12 0 9 := ⟨by decide, 0, rfl⟩
theorem rX12 : RO xCfg 12 0 9 0 := ⟨by decide, rfl⟩
theorem aX13 : AO xCfg 13 0 9 := ⟨by decide, 0, rfl⟩
theorem rX13 : RO xCfg 13 0 9 0 := ⟨by decide, rfl⟩
theorem aX14 : AO xCfg 14 0 9 := ⟨by decide, 0, rfl⟩
theorem rX14 : RO xCfg 14 0 9 0 := ⟨by decide, rfl⟩
theorem rX15 : RO xCfg 15 5 201 107 := ⟨by decide, rfl⟩
theorem rX16 : RO xCfg 16 3 60 6 := ⟨by decide, rfl⟩
theorem aX17 : AO xCfg 17 2 60 := ⟨by decide, 0, rfl⟩
theorem rX17 : RO xCfg 17 2 60 0 := ⟨by decide, rfl⟩
theorem rX18 : RO xCfg 18 5 8 308 := ⟨by decide, rfl⟩
theorem rX19 : RO xCfg 19 5 9 324 := ⟨by decide, rfl⟩
theorem aX20 : AO xCfg 20 0 512 := ⟨by decide, 0, rfl⟩
theorem rX20 : RO xCfg 20 0 512 0 := ⟨by decide, rfl⟩
theorem aX21 : AO xCfg 21 0 512 := ⟨by decide, 0, rfl⟩
theorem rX21 : RO xCfg 21 0 512 0 := ⟨by decide, rfl⟩
theorem rX22 : RO xCfg 22 3 9 5 := ⟨by decide, rfl⟩
theorem rX23 : RO xCfg 23 3 60 6 := ⟨by decide, rfl⟩
theorem rX24 : RO xCfg 24 5 8 316 := ⟨by decide, rfl⟩
theorem rX25 : RO xCfg 25 5 9 333 := ⟨by decide, rfl⟩
theorem aX26 : AO xCfg 26 0 4 := ⟨by decide, 0, rfl⟩
theorem rX26 : RO xCfg 26 0 4 0 := ⟨by decide, rfl⟩
theorem fX0_9 : FO xCfg RX0 9 0 0 2 := ⟨RX0, TX0, 48, rfl, rfl, by decide, in_X0, q223, trivial⟩
theorem fX0_17 : FO xCfg RX0 17 0 2 2 := ⟨RX0, TX0, 48, rfl, rfl, by decide, in_X0, q225, trivial⟩
theorem fX0_41 : FO xCfg RX0 41 0 3 2 := ⟨RX0, TX0, 48, rfl, rfl, by decide, in_X0, q226, trivial⟩
theorem fX0_52 : FO xCfg RX0 52 0 4 2 := ⟨RX0, TX0, 48, rfl, rfl, by decide, in_X0, q227, trivial⟩
theorem fX0_55 : FO xCfg RX0 55 0 11 0 := ⟨RX0, TX0, 48, rfl, rfl, by decide, in_X0, q234, trivial⟩
theorem pX0_55 : PO xCfg RX0 55 0 11 0 .int := ⟨RX0, TX0, 48, rfl, rfl, by decide, in_X0, q234, trivial, rfl, rfl, tyX0, tyX0_ok, nmX0⟩
theorem fX0_62 : FO xCfg RX0 62 0 12 3 := ⟨RX0, TX0, 48, rfl, rfl, by decide, in_X0, q235, trivial⟩
theorem pX0_62 : PO xCfg RX0 62 0 12 3 (.object "DoughDebts$Text") := ⟨RX0, TX0, 48, rfl, rfl, by decide, in_X0, q235, trivial, rfl, rfl, tyX0, tyX0_ok, nmX0⟩
theorem fX0_68 : FO xCfg RX0 68 0 13 2 := ⟨RX0, TX0, 48, rfl, rfl, by decide, in_X0, q236, trivial⟩
theorem fX0_72 : FO xCfg RX0 72 0 15 2 := ⟨RX0, TX0, 48, rfl, rfl, by decide, in_X0, q238, trivial⟩
theorem fX0_76 : FO xCfg RX0 76 0 16 2 := ⟨RX0, TX0, 48, rfl, rfl, by decide, in_X0, q239, trivial⟩
theorem fX0_82 : FO xCfg RX0 82 0 17 2 := ⟨RX0, TX0, 48, rfl, rfl, by decide, in_X0, q240, trivial⟩
theorem fX0_86 : FO xCfg RX0 86 0 18 2 := ⟨RX0, TX0, 48, rfl, rfl, by decide, in_X0, q241, trivial⟩
theorem fX0_89 : FO xCfg RX0 89 0 19 2 := ⟨RX0, TX0, 48, rfl, rfl, by decide, in_X0, q242, trivial⟩
theorem fX0_93 : FO xCfg RX0 93 0 21 2 := ⟨RX0, TX0, 48, rfl, rfl, by decide, in_X0, q244, trivial⟩
theorem fX0_96 : FO xCfg RX0 96 0 22 2 := ⟨RX0, TX0, 48, rfl, rfl, by decide, in_X0, q245, trivial⟩
theorem fX0_99 : FO xCfg RX0 99 0 23 2 := ⟨RX0, TX0, 48, rfl, rfl, by decide, in_X0, q246, trivial⟩
theorem fX0_102 : FO xCfg RX0 102 0 25 2 := ⟨RX0, TX0, 48, rfl, rfl, by decide, in_X0, q248, trivial⟩
theorem fX0_105 : FO xCfg RX0 105 0 26 2 := ⟨RX0, TX0, 48, rfl, rfl, by decide, in_X0, q249, trivial⟩
theorem fX0_108 : FO xCfg RX0 108 0 27 2 := ⟨RX0, TX0, 48, rfl, rfl, by decide, in_X0, q250, trivial⟩
theorem fX0_113 : FO xCfg RX0 113 0 30 2 := ⟨RX0, TX0, 48, rfl, rfl, by decide, in_X0, q253, trivial⟩
theorem fX0_118 : FO xCfg RX0 118 0 31 2 := ⟨RX0, TX0, 48, rfl, rfl, by decide, in_X0, q254, trivial⟩
theorem fX0_122 : FO xCfg RX0 122 0 33 2 := ⟨RX0, TX0, 48, rfl, rfl, by decide, in_X0, q256, trivial⟩
theorem fX0_126 : FO xCfg RX0 126 0 34 2 := ⟨RX0, TX0, 48, rfl, rfl, by decide, in_X0, q257, trivial⟩
theorem fX0_129 : FO xCfg RX0 129 0 37 2 := ⟨RX0, TX0, 48, rfl, rfl, by decide, in_X0, q260, trivial⟩
theorem fX0_132 : FO xCfg RX0 132 0 38 2 := ⟨RX0, TX0, 48, rfl, rfl, by decide, in_X0, q261, trivial⟩
theorem fX0_135 : FO xCfg RX0 135 0 39 2 := ⟨RX0, TX0, 48, rfl, rfl, by decide, in_X0, q262, trivial⟩
theorem fX0_138 : FO xCfg RX0 138 0 40 2 := ⟨RX0, TX0, 48, rfl, rfl, by decide, in_X0, q263, trivial⟩
theorem fX0_141 : FO xCfg RX0 141 0 41 2 := ⟨RX0, TX0, 48, rfl, rfl, by decide, in_X0, q264, trivial⟩
theorem fX0_144 : FO xCfg RX0 144 0 42 2 := ⟨RX0, TX0, 48, rfl, rfl, by decide, in_X0, q265, trivial⟩
theorem fX0_147 : FO xCfg RX0 147 0 43 2 := ⟨RX0, TX0, 48, rfl, rfl, by decide, in_X0, q266, trivial⟩
theorem fX0_150 : FO xCfg RX0 150 0 44 2 := ⟨RX0, TX0, 48, rfl, rfl, by decide, in_X0, q267, trivial⟩
theorem fX0_153 : FO xCfg RX0 153 0 1 0 := ⟨RX0, TX0, 48, rfl, rfl, by decide, in_X0, q224, trivial⟩
theorem pX0_153 : PO xCfg RX0 153 0 1 0 .int := ⟨RX0, TX0, 48, rfl, rfl, by decide, in_X0, q224, trivial, rfl, rfl, tyX0, tyX0_ok, nmX0⟩
theorem fX0_168 : FO xCfg RX0 168 0 6 0 := ⟨RX0, TX0, 48, rfl, rfl, by decide, in_X0, q229, trivial⟩
theorem pX0_168 : PO xCfg RX0 168 0 6 0 .int := ⟨RX0, TX0, 48, rfl, rfl, by decide, in_X0, q229, trivial, rfl, rfl, tyX0, tyX0_ok, nmX0⟩
theorem fX0_171 : FO xCfg RX0 171 0 7 0 := ⟨RX0, TX0, 48, rfl, rfl, by decide, in_X0, q230, trivial⟩
theorem pX0_171 : PO xCfg RX0 171 0 7 0 .int := ⟨RX0, TX0, 48, rfl, rfl, by decide, in_X0, q230, trivial, rfl, rfl, tyX0, tyX0_ok, nmX0⟩
theorem fX0_182 : FO xCfg RX0 182 0 5 4 := ⟨RX0, TX0, 48, rfl, rfl, by decide, in_X0, q228, trivial⟩
theorem pX0_182 : PO xCfg RX0 182 0 5 4 (.object "DoughDebts$Token") := ⟨RX0, TX0, 48, rfl, rfl, by decide, in_X0, q228, trivial, rfl, rfl, tyX0, tyX0_ok, nmX0⟩
theorem fX0_198 : FO xCfg RX0 198 0 8 0 := ⟨RX0, TX0, 48, rfl, rfl, by decide, in_X0, q231, trivial⟩
theorem pX0_198 : PO xCfg RX0 198 0 8 0 .int := ⟨RX0, TX0, 48, rfl, rfl, by decide, in_X0, q231, trivial, rfl, rfl, tyX0, tyX0_ok, nmX0⟩
theorem fX0_268 : FO xCfg RX0 268 0 9 0 := ⟨RX0, TX0, 48, rfl, rfl, by decide, in_X0, q232, trivial⟩
theorem pX0_268 : PO xCfg RX0 268 0 9 0 .int := ⟨RX0, TX0, 48, rfl, rfl, by decide, in_X0, q232, trivial, rfl, rfl, tyX0, tyX0_ok, nmX0⟩
theorem fX0_298 : FO xCfg RX0 298 4 2 0 := ⟨RX1, TX1, 3, rfl, rfl, by decide, in_X1, q151, trivial⟩
theorem pX0_298 : PO xCfg RX0 298 4 2 0 .int := ⟨RX1, TX1, 3, rfl, rfl, by decide, in_X1, q151, trivial, rfl, rfl, tyX1, tyX1_ok, nmX1⟩
theorem fX0_301 : FO xCfg RX0 301 4 0 3 := ⟨RX1, TX1, 3, rfl, rfl, by decide, in_X1, q147, trivial⟩
theorem fX0_304 : FO xCfg RX0 304 4 1 3 := ⟨RX1, TX1, 3, rfl, rfl, by decide, in_X1, q149, trivial⟩
theorem fX0_306 : FO xCfg RX0 306 0 10 0 := ⟨RX0, TX0, 48, rfl, rfl, by decide, in_X0, q233, trivial⟩
theorem pX0_306 : PO xCfg RX0 306 0 10 0 .int := ⟨RX0, TX0, 48, rfl, rfl, by decide, in_X0, q233, trivial, rfl, rfl, tyX0, tyX0_ok, nmX0⟩
theorem fX0_313 : FO xCfg RX0 313 9 6 0 := ⟨RX5, TX5, 8, rfl, rfl, by decide, in_X5, q585, trivial⟩
theorem fX0_316 : FO xCfg RX0 316 9 7 0 := ⟨RX5, TX5, 8, rfl, rfl, by decide, in_X5, q587, trivial⟩
theorem fX0_325 : FO xCfg RX0 325 0 14 0 := ⟨RX0, TX0, 48, rfl, rfl, by decide, in_X0, q237, trivial⟩
theorem pX0_325 : PO xCfg RX0 325 0 14 0 .int := ⟨RX0, TX0, 48, rfl, rfl, by decide, in_X0, q237, trivial, rfl, rfl, tyX0, tyX0_ok, nmX0⟩
theorem fX0_328 : FO xCfg RX0 328 1 1 0 := ⟨RX2, TX2, 12, rfl, rfl, by decide, in_X2, q171, trivial⟩
theorem pX0_328 : PO xCfg RX0 328 1 1 0 .int := ⟨RX2, TX2, 12, rfl, rfl, by decide, in_X2, q171, trivial, rfl, rfl, tyX2, tyX2_ok, nmX2⟩
theorem fX0_331 : FO xCfg RX0 331 0 20 0 := ⟨RX0, TX0, 48, rfl, rfl, by decide, in_X0, q243, trivial⟩
theorem pX0_331 : PO xCfg RX0 331 0 20 0 .int := ⟨RX0, TX0, 48, rfl, rfl, by decide, in_X0, q243, trivial, rfl, rfl, tyX0, tyX0_ok, nmX0⟩
theorem fX0_357 : FO xCfg RX0 357 1 5 2 := ⟨RX2, TX2, 12, rfl, rfl, by decide, in_X2, q179, trivial⟩
theorem fX0_360 : FO xCfg RX0 360 2 0 0 := ⟨RX4, TX4, 4, rfl, rfl, by decide, in_X4, q742, trivial⟩
theorem fX0_362 : FO xCfg RX0 362 2 1 0 := ⟨RX4, TX4, 4, rfl, rfl, by decide, in_X4, q744, trivial⟩
theorem fX0_364 : FO xCfg RX0 364 1 6 2 := ⟨RX2, TX2, 12, rfl, rfl, by decide, in_X2, q181, trivial⟩
theorem fX0_366 : FO xCfg RX0 366 1 7 2 := ⟨RX2, TX2, 12, rfl, rfl, by decide, in_X2, q183, trivial⟩
theorem fX0_368 : FO xCfg RX0 368 1 8 2 := ⟨RX2, TX2, 12, rfl, rfl, by decide, in_X2, q185, trivial⟩
theorem fX0_370 : FO xCfg RX0 370 1 10 2 := ⟨RX2, TX2, 12, rfl, rfl, by decide, in_X2, q189, trivial⟩
theorem fX0_372 : FO xCfg RX0 372 1 0 0 := ⟨RX2, TX2, 12, rfl, rfl, by decide, in_X2, q169, trivial⟩
theorem pX0_372 : PO xCfg RX0 372 1 0 0 .int := ⟨RX2, TX2, 12, rfl, rfl, by decide, in_X2, q169, trivial, rfl, rfl, tyX2, tyX2_ok, nmX2⟩
theorem fX0_392 : FO xCfg RX0 392 1 9 2 := ⟨RX2, TX2, 12, rfl, rfl, by decide, in_X2, q187, trivial⟩
theorem fX0_401 : FO xCfg RX0 401 0 24 0 := ⟨RX0, TX0, 48, rfl, rfl, by decide, in_X0, q247, trivial⟩
theorem pX0_401 : PO xCfg RX0 401 0 24 0 .int := ⟨RX0, TX0, 48, rfl, rfl, by decide, in_X0, q247, trivial, rfl, rfl, tyX0, tyX0_ok, nmX0⟩
theorem fX0_404 : FO xCfg RX0 404 2 2 0 := ⟨RX4, TX4, 4, rfl, rfl, by decide, in_X4, q746, trivial⟩
theorem fX0_413 : FO xCfg RX0 413 1 2 0 := ⟨RX2, TX2, 12, rfl, rfl, by decide, in_X2, q173, trivial⟩
theorem pX0_413 : PO xCfg RX0 413 1 2 0 .int := ⟨RX2, TX2, 12, rfl, rfl, by decide, in_X2, q173, trivial, rfl, rfl, tyX2, tyX2_ok, nmX2⟩
theorem fX0_423 : FO xCfg RX0 423 1 11 2 := ⟨RX2, TX2, 12, rfl, rfl, by decide, in_X2, q191, trivial⟩
theorem fX0_430 : FO xCfg RX0 430 1 4 0 := ⟨RX2, TX2, 12, rfl, rfl, by decide, in_X2, q177, trivial⟩
theorem pX0_430 : PO xCfg RX0 430 1 4 0 .int := ⟨RX2, TX2, 12, rfl, rfl, by decide, in_X2, q177, trivial, rfl, rfl, tyX2, tyX2_ok, nmX2⟩
theorem fX0_433 : FO xCfg RX0 433 1 3 0 := ⟨RX2, TX2, 12, rfl, rfl, by decide, in_X2, q175, trivial⟩
theorem pX0_433 : PO xCfg RX0 433 1 3 0 .int := ⟨RX2, TX2, 12, rfl, rfl, by decide, in_X2, q175, trivial, rfl, rfl, tyX2, tyX2_ok, nmX2⟩
theorem fX0_444 : FO xCfg RX0 444 2 3 3 := ⟨RX4, TX4, 4, rfl, rfl, by decide, in_X4, q748, trivial⟩
theorem fX0_471 : FO xCfg RX0 471 0 29 0 := ⟨RX0, TX0, 48, rfl, rfl, by decide, in_X0, q252, trivial⟩
theorem pX0_471 : PO xCfg RX0 471 0 29 0 .int := ⟨RX0, TX0, 48, rfl, rfl, by decide, in_X0, q252, trivial, rfl, rfl, tyX0, tyX0_ok, nmX0⟩
theorem fX0_477 : FO xCfg RX0 477 0 28 0 := ⟨RX0, TX0, 48, rfl, rfl, by decide, in_X0, q251, trivial⟩
theorem pX0_477 : PO xCfg RX0 477 0 28 0 .int := ⟨RX0, TX0, 48, rfl, rfl, by decide, in_X0, q251, trivial, rfl, rfl, tyX0, tyX0_ok, nmX0⟩
theorem fX0_487 : FO xCfg RX0 487 0 32 0 := ⟨RX0, TX0, 48, rfl, rfl, by decide, in_X0, q255, trivial⟩
theorem pX0_487 : PO xCfg RX0 487 0 32 0 .int := ⟨RX0, TX0, 48, rfl, rfl, by decide, in_X0, q255, trivial, rfl, rfl, tyX0, tyX0_ok, nmX0⟩
theorem fX0_493 : FO xCfg RX0 493 3 3 0 := ⟨RX11, TX11, 4, rfl, rfl, by decide, in_X11, q929, trivial⟩
theorem fX0_501 : FO xCfg RX0 501 3 1 0 := ⟨RX11, TX11, 4, rfl, rfl, by decide, in_X11, q925, trivial⟩
theorem fX0_504 : FO xCfg RX0 504 3 2 0 := ⟨RX11, TX11, 4, rfl, rfl, by decide, in_X11, q927, trivial⟩
theorem fX0_520 : FO xCfg RX0 520 3 0 0 := ⟨RX11, TX11, 4, rfl, rfl, by decide, in_X11, q923, trivial⟩
theorem fX0_528 : FO xCfg RX0 528 0 35 1 := ⟨RX0, TX0, 48, rfl, rfl, by decide, in_X0, q258, trivial⟩
theorem pX0_528 : PO xCfg RX0 528 0 35 1 .long := ⟨RX0, TX0, 48, rfl, rfl, by decide, in_X0, q258, trivial, rfl, rfl, tyX0, tyX0_ok, nmX0⟩
theorem fX0_532 : FO xCfg RX0 532 0 36 1 := ⟨RX0, TX0, 48, rfl, rfl, by decide, in_X0, q259, trivial⟩
theorem pX0_532 : PO xCfg RX0 532 0 36 1 .long := ⟨RX0, TX0, 48, rfl, rfl, by decide, in_X0, q259, trivial, rfl, rfl, tyX0, tyX0_ok, nmX0⟩
theorem fX0_549 : FO xCfg RX0 549 0 45 3 := ⟨RX0, TX0, 48, rfl, rfl, by decide, in_X0, q268, trivial⟩
theorem pX0_549 : PO xCfg RX0 549 0 45 3 (.object "DoughDebts$Text") := ⟨RX0, TX0, 48, rfl, rfl, by decide, in_X0, q268, trivial, rfl, rfl, tyX0, tyX0_ok, nmX0⟩
theorem fX0_556 : FO xCfg RX0 556 0 46 0 := ⟨RX0, TX0, 48, rfl, rfl, by decide, in_X0, q269, trivial⟩
theorem pX0_556 : PO xCfg RX0 556 0 46 0 .int := ⟨RX0, TX0, 48, rfl, rfl, by decide, in_X0, q269, trivial, rfl, rfl, tyX0, tyX0_ok, nmX0⟩
theorem fX0_559 : FO xCfg RX0 559 0 47 0 := ⟨RX0, TX0, 48, rfl, rfl, by decide, in_X0, q270, trivial⟩
theorem pX0_559 : PO xCfg RX0 559 0 47 0 .int := ⟨RX0, TX0, 48, rfl, rfl, by decide, in_X0, q270, trivial, rfl, rfl, tyX0, tyX0_ok, nmX0⟩
theorem fX2_9 : FO xCfg RX2 9 1 3 0 := ⟨RX2, TX2, 12, rfl, rfl, by decide, in_X2, q174, trivial⟩
theorem pX2_9 : PO xCfg RX2 9 1 3 0 .int := ⟨RX2, TX2, 12, rfl, rfl, by decide, in_X2, q174, trivial, rfl, rfl, tyX2, tyX2_ok, nmX2⟩
theorem fX2_15 : FO xCfg RX2 15 1 5 2 := ⟨RX2, TX2, 12, rfl, rfl, by decide, in_X2, q178, trivial⟩
theorem fX2_19 : FO xCfg RX2 19 1 6 2 := ⟨RX2, TX2, 12, rfl, rfl, by decide, in_X2, q180, trivial⟩
theorem fX2_22 : FO xCfg RX2 22 1 7 2 := ⟨RX2, TX2, 12, rfl, rfl, by decide, in_X2, q182, trivial⟩
theorem fX2_25 : FO xCfg RX2 25 1 8 2 := ⟨RX2, TX2, 12, rfl, rfl, by decide, in_X2, q184, trivial⟩
theorem fX2_28 : FO xCfg RX2 28 1 9 2 := ⟨RX2, TX2, 12, rfl, rfl, by decide, in_X2, q186, trivial⟩
theorem fX2_31 : FO xCfg RX2 31 1 10 2 := ⟨RX2, TX2, 12, rfl, rfl, by decide, in_X2, q188, trivial⟩
theorem fX2_34 : FO xCfg RX2 34 1 11 2 := ⟨RX2, TX2, 12, rfl, rfl, by decide, in_X2, q190, trivial⟩
theorem fX2_37 : FO xCfg RX2 37 1 0 0 := ⟨RX2, TX2, 12, rfl, rfl, by decide, in_X2, q168, trivial⟩
theorem pX2_37 : PO xCfg RX2 37 1 0 0 .int := ⟨RX2, TX2, 12, rfl, rfl, by decide, in_X2, q168, trivial, rfl, rfl, tyX2, tyX2_ok, nmX2⟩
theorem fX2_40 : FO xCfg RX2 40 1 1 0 := ⟨RX2, TX2, 12, rfl, rfl, by decide, in_X2, q170, trivial⟩
theorem pX2_40 : PO xCfg RX2 40 1 1 0 .int := ⟨RX2, TX2, 12, rfl, rfl, by decide, in_X2, q170, trivial, rfl, rfl, tyX2, tyX2_ok, nmX2⟩
theorem fX2_43 : FO xCfg RX2 43 1 2 0 := ⟨RX2, TX2, 12, rfl, rfl, by decide, in_X2, q172, trivial⟩
theorem pX2_43 : PO xCfg RX2 43 1 2 0 .int := ⟨RX2, TX2, 12, rfl, rfl, by decide, in_X2, q172, trivial, rfl, rfl, tyX2, tyX2_ok, nmX2⟩
theorem fX2_46 : FO xCfg RX2 46 1 4 0 := ⟨RX2, TX2, 12, rfl, rfl, by decide, in_X2, q176, trivial⟩
theorem pX2_46 : PO xCfg RX2 46 1 4 0 .int := ⟨RX2, TX2, 12, rfl, rfl, by decide, in_X2, q176, trivial, rfl, rfl, tyX2, tyX2_ok, nmX2⟩
theorem fX5_7 : FO xCfg RX5 7 9 6 0 := ⟨RX5, TX5, 8, rfl, rfl, by decide, in_X5, q584, trivial⟩
theorem fX5_13 : FO xCfg RX5 13 9 7 0 := ⟨RX5, TX5, 8, rfl, rfl, by decide, in_X5, q586, trivial⟩
theorem fX4_7 : FO xCfg RX4 7 2 0 0 := ⟨RX4, TX4, 4, rfl, rfl, by decide, in_X4, q741, trivial⟩
theorem fX4_13 : FO xCfg RX4 13 2 1 0 := ⟨RX4, TX4, 4, rfl, rfl, by decide, in_X4, q743, trivial⟩
theorem fX4_16 : FO xCfg RX4 16 2 2 0 := ⟨RX4, TX4, 4, rfl, rfl, by decide, in_X4, q745, trivial⟩
theorem fX4_19 : FO xCfg RX4 19 2 3 3 := ⟨RX4, TX4, 4, rfl, rfl, by decide, in_X4, q747, trivial⟩
theorem fX11_7 : FO xCfg RX11 7 3 0 0 := ⟨RX11, TX11, 4, rfl, rfl, by decide, in_X11, q922, trivial⟩
theorem fX11_13 : FO xCfg RX11 13 3 1 0 := ⟨RX11, TX11, 4, rfl, rfl, by decide, in_X11, q924, trivial⟩
theorem fX11_16 : FO xCfg RX11 16 3 2 0 := ⟨RX11, TX11, 4, rfl, rfl, by decide, in_X11, q926, trivial⟩
theorem fX11_19 : FO xCfg RX11 19 3 3 0 := ⟨RX11, TX11, 4, rfl, rfl, by decide, in_X11, q928, trivial⟩
theorem fX10_7 : FO xCfg RX10 7 7 0 3 := ⟨RX10, TX10, 1, rfl, rfl, by decide, in_X10, q686, trivial⟩
theorem fX7_7 : FO xCfg RX7 7 5 0 0 := ⟨RX7, TX7, 1, rfl, rfl, by decide, in_X7, q626, trivial⟩
theorem fX1_11 : FO xCfg RX1 11 4 0 3 := ⟨RX1, TX1, 3, rfl, rfl, by decide, in_X1, q146, trivial⟩
theorem fX1_17 : FO xCfg RX1 17 4 1 3 := ⟨RX1, TX1, 3, rfl, rfl, by decide, in_X1, q148, trivial⟩
theorem fX1_20 : FO xCfg RX1 20 4 2 0 := ⟨RX1, TX1, 3, rfl, rfl, by decide, in_X1, q150, trivial⟩
theorem pX1_20 : PO xCfg RX1 20 4 2 0 .int := ⟨RX1, TX1, 3, rfl, rfl, by decide, in_X1, q150, trivial, rfl, rfl, tyX1, tyX1_ok, nmX1⟩
theorem fX9_7 : FO xCfg RX9 7 8 0 0 := ⟨RX9, TX9, 3, rfl, rfl, by decide, in_X9, q650, trivial⟩
theorem fX9_13 : FO xCfg RX9 13 8 1 3 := ⟨RX9, TX9, 3, rfl, rfl, by decide, in_X9, q651, trivial⟩
theorem fX9_17 : FO xCfg RX9 17 8 2 3 := ⟨RX9, TX9, 3, rfl, rfl, by decide, in_X9, q652, trivial⟩
theorem fX8_7 : FO xCfg RX8 7 6 0 0 := ⟨RX8, TX8, 1, rfl, rfl, by decide, in_X8, q636, trivial⟩
theorem pn_X0 : plainName RX0 = true := by decide +kernel
theorem pn_X2 : plainName RX2 = true := by decide +kernel
theorem pn_X4 : plainName RX4 = true := by decide +kernel
theorem pn_X11 : plainName RX11 = true := by decide +kernel
theorem pn_X1 : plainName RX1 = true := by decide +kernel
theorem pn_X7 : plainName RX7 = true := by decide +kernel
theorem pn_X8 : plainName RX8 = true := by decide +kernel
theorem pn_X10 : plainName RX10 = true := by decide +kernel
theorem pn_X9 : plainName RX9 = true := by decide +kernel
theorem pn_X5 : plainName RX5 = true := by decide +kernel
theorem pn_X6 : plainName RX6 = true := by decide +kernel
theorem msX0_init : yX0_init.cls ≠ "java/lang/invoke/MethodHandle" ∧ yX0_init.cls ≠ "java/lang/invoke/VarHandle" ∧ (parseMethodDescriptor yX0_init.desc).map (fun d => d.parameters.length) = some 0 := by decide +kernel
theorem mdX0_feed : yX0_feed.cls = RX0 ∧ yX0_feed.cls ≠ "java/lang/invoke/MethodHandle" ∧ yX0_feed.cls ≠ "java/lang/invoke/VarHandle" ∧ (parseMethodDescriptor yX0_feed.desc).map (fun d => d.parameters.length) = some 5 := by decide +kernel
theorem mdX0_puts : yX0_puts.cls = RX0 ∧ yX0_puts.cls ≠ "java/lang/invoke/MethodHandle" ∧ yX0_puts.cls ≠ "java/lang/invoke/VarHandle" ∧ (parseMethodDescriptor yX0_puts.desc).map (fun d => d.parameters.length) = some 1 := by decide +kernel
theorem mdX0_end : yX0_end.cls = RX0 ∧ yX0_end.cls ≠ "java/lang/invoke/MethodHandle" ∧ yX0_end.cls ≠ "java/lang/invoke/VarHandle" ∧ (parseMethodDescriptor yX0_end.desc).map (fun d => d.parameters.length) = some 1 := by decide +kernel
theorem msX0_isIn : yX0_isIn.cls ≠ "java/lang/invoke/MethodHandle" ∧ yX0_isIn.cls ≠ "java/lang/invoke/VarHandle" ∧ (parseMethodDescriptor yX0_isIn.desc).map (fun d => d.parameters.length) = some 3 := by decide +kernel
theorem mdX0_text : yX0_text.cls = RX0 ∧ yX0_text.cls ≠ "java/lang/invoke/MethodHandle" ∧ yX0_text.cls ≠ "java/lang/invoke/VarHandle" ∧ (parseMethodDescriptor yX0_text.desc).map (fun d => d.parameters.length) = some 0 := by decide +kernel
theorem mdX0_readsRule : yX0_readsRule.cls = RX0 ∧ yX0_readsRule.cls ≠ "java/lang/invoke/MethodHandle" ∧ yX0_readsRule.cls ≠ "java/lang/invoke/VarHandle" ∧ (parseMethodDescriptor yX0_readsRule.desc).map (fun d => d.parameters.length) = some 0 := by decide +kernel
theorem mdX0_readNext : yX0_readNext.cls = RX0 ∧ yX0_readNext.cls ≠ "java/lang/invoke/MethodHandle" ∧ yX0_readNext.cls ≠ "java/lang/invoke/VarHandle" ∧ (parseMethodDescriptor yX0_readNext.desc).map (fun d => d.parameters.length) = some 0 := by decide +kernel
theorem mdX0_raw : yX0_raw.cls = RX0 ∧ yX0_raw.cls ≠ "java/lang/invoke/MethodHandle" ∧ yX0_raw.cls ≠ "java/lang/invoke/VarHandle" ∧ (parseMethodDescriptor yX0_raw.desc).map (fun d => d.parameters.length) = some 1 := by decide +kernel
theorem msX0_isLetter : yX0_isLetter.cls ≠ "java/lang/invoke/MethodHandle" ∧ yX0_isLetter.cls ≠ "java/lang/invoke/VarHandle" ∧ (parseMethodDescriptor yX0_isLetter.desc).map (fun d => d.parameters.length) = some 1 := by decide +kernel
theorem mdX0_wordOf : yX0_wordOf.cls = RX0 ∧ yX0_wordOf.cls ≠ "java/lang/invoke/MethodHandle" ∧ yX0_wordOf.cls ≠ "java/lang/invoke/VarHandle" ∧ (parseMethodDescriptor yX0_wordOf.desc).map (fun d => d.parameters.length) = some 1 := by decide +kernel
theorem mdX0_spells : yX0_spells.cls = RX0 ∧ yX0_spells.cls ≠ "java/lang/invoke/MethodHandle" ∧ yX0_spells.cls ≠ "java/lang/invoke/VarHandle" ∧ (parseMethodDescriptor yX0_spells.desc).map (fun d => d.parameters.length) = some 1 := by decide +kernel
theorem msX0_isDigit : yX0_isDigit.cls ≠ "java/lang/invoke/MethodHandle" ∧ yX0_isDigit.cls ≠ "java/lang/invoke/VarHandle" ∧ (parseMethodDescriptor yX0_isDigit.desc).map (fun d => d.parameters.length) = some 1 := by decide +kernel
theorem mdX0_must : yX0_must.cls = RX0 ∧ yX0_must.cls ≠ "java/lang/invoke/MethodHandle" ∧ yX0_must.cls ≠ "java/lang/invoke/VarHandle" ∧ (parseMethodDescriptor yX0_must.desc).map (fun d => d.parameters.length) = some 1 := by decide +kernel
theorem mdX0_sum : yX0_sum.cls = RX0 ∧ yX0_sum.cls ≠ "java/lang/invoke/MethodHandle" ∧ yX0_sum.cls ≠ "java/lang/invoke/VarHandle" ∧ (parseMethodDescriptor yX0_sum.desc).map (fun d => d.parameters.length) = some 0 := by decide +kernel
theorem mdX0_product : yX0_product.cls = RX0 ∧ yX0_product.cls ≠ "java/lang/invoke/MethodHandle" ∧ yX0_product.cls ≠ "java/lang/invoke/VarHandle" ∧ (parseMethodDescriptor yX0_product.desc).map (fun d => d.parameters.length) = some 0 := by decide +kernel
theorem mdX0_unit : yX0_unit.cls = RX0 ∧ yX0_unit.cls ≠ "java/lang/invoke/MethodHandle" ∧ yX0_unit.cls ≠ "java/lang/invoke/VarHandle" ∧ (parseMethodDescriptor yX0_unit.desc).map (fun d => d.parameters.length) = some 0 := by decide +kernel
theorem mdX0_isSign : yX0_isSign.cls = RX0 ∧ yX0_isSign.cls ≠ "java/lang/invoke/MethodHandle" ∧ yX0_isSign.cls ≠ "java/lang/invoke/VarHandle" ∧ (parseMethodDescriptor yX0_isSign.desc).map (fun d => d.parameters.length) = some 1 := by decide +kernel
theorem mdX0_isWord : yX0_isWord.cls = RX0 ∧ yX0_isWord.cls ≠ "java/lang/invoke/MethodHandle" ∧ yX0_isWord.cls ≠ "java/lang/invoke/VarHandle" ∧ (parseMethodDescriptor yX0_isWord.desc).map (fun d => d.parameters.length) = some 1 := by decide +kernel
theorem mdX0_any : yX0_any.cls = RX0 ∧ yX0_any.cls ≠ "java/lang/invoke/MethodHandle" ∧ yX0_any.cls ≠ "java/lang/invoke/VarHandle" ∧ (parseMethodDescriptor yX0_any.desc).map (fun d => d.parameters.length) = some 0 := by decide +kernel
theorem mdX0_both : yX0_both.cls = RX0 ∧ yX0_both.cls ≠ "java/lang/invoke/MethodHandle" ∧ yX0_both.cls ≠ "java/lang/invoke/VarHandle" ∧ (parseMethodDescriptor yX0_both.desc).map (fun d => d.parameters.length) = some 0 := by decide +kernel
theorem mdX0_oneOf : yX0_oneOf.cls = RX0 ∧ yX0_oneOf.cls ≠ "java/lang/invoke/MethodHandle" ∧ yX0_oneOf.cls ≠ "java/lang/invoke/VarHandle" ∧ (parseMethodDescriptor yX0_oneOf.desc).map (fun d => d.parameters.length) = some 0 := by decide +kernel
theorem mdX0_opens : yX0_opens.cls = RX0 ∧ yX0_opens.cls ≠ "java/lang/invoke/MethodHandle" ∧ yX0_opens.cls ≠ "java/lang/invoke/VarHandle" ∧ (parseMethodDescriptor yX0_opens.desc).map (fun d => d.parameters.length) = some 0 := by decide +kernel
theorem mdX0_takesSign : yX0_takesSign.cls = RX0 ∧ yX0_takesSign.cls ≠ "java/lang/invoke/MethodHandle" ∧ yX0_takesSign.cls ≠ "java/lang/invoke/VarHandle" ∧ (parseMethodDescriptor yX0_takesSign.desc).map (fun d => d.parameters.length) = some 1 := by decide +kernel
theorem mdX0_fault : yX0_fault.cls = RX0 ∧ yX0_fault.cls ≠ "java/lang/invoke/MethodHandle" ∧ yX0_fault.cls ≠ "java/lang/invoke/VarHandle" ∧ (parseMethodDescriptor yX0_fault.desc).map (fun d => d.parameters.length) = some 1 := by decide +kernel
theorem mdX0_state : yX0_state.cls = RX0 ∧ yX0_state.cls ≠ "java/lang/invoke/MethodHandle" ∧ yX0_state.cls ≠ "java/lang/invoke/VarHandle" ∧ (parseMethodDescriptor yX0_state.desc).map (fun d => d.parameters.length) = some 1 := by decide +kernel
theorem mdX0_undo : yX0_undo.cls = RX0 ∧ yX0_undo.cls ≠ "java/lang/invoke/MethodHandle" ∧ yX0_undo.cls ≠ "java/lang/invoke/VarHandle" ∧ (parseMethodDescriptor yX0_undo.desc).map (fun d => d.parameters.length) = some 0 := by decide +kernel
theorem msX0_copies : yX0_copies.cls ≠ "java/lang/invoke/MethodHandle" ∧ yX0_copies.cls ≠ "java/lang/invoke/VarHandle" ∧ (parseMethodDescriptor yX0_copies.desc).map (fun d => d.parameters.length) = some 2 := by decide +kernel
theorem mdX0_house : yX0_house.cls = RX0 ∧ yX0_house.cls ≠ "java/lang/invoke/MethodHandle" ∧ yX0_house.cls ≠ "java/lang/invoke/VarHandle" ∧ (parseMethodDescriptor yX0_house.desc).map (fun d => d.parameters.length) = some 3 := by decide +kernel
theorem mdX0_takesRow : yX0_takesRow.cls = RX0 ∧ yX0_takesRow.cls ≠ "java/lang/invoke/MethodHandle" ∧ yX0_takesRow.cls ≠ "java/lang/invoke/VarHandle" ∧ (parseMethodDescriptor yX0_takesRow.desc).map (fun d => d.parameters.length) = some 4 := by decide +kernel
theorem mdX0_forgets : yX0_forgets.cls = RX0 ∧ yX0_forgets.cls ≠ "java/lang/invoke/MethodHandle" ∧ yX0_forgets.cls ≠ "java/lang/invoke/VarHandle" ∧ (parseMethodDescriptor yX0_forgets.desc).map (fun d => d.parameters.length) = some 0 := by decide +kernel
theorem mdX0_give : yX0_give.cls = RX0 ∧ yX0_give.cls ≠ "java/lang/invoke/MethodHandle" ∧ yX0_give.cls ≠ "java/lang/invoke/VarHandle" ∧ (parseMethodDescriptor yX0_give.desc).map (fun d => d.parameters.length) = some 2 := by decide +kernel
theorem mdX0_isHouse : yX0_isHouse.cls = RX0 ∧ yX0_isHouse.cls ≠ "java/lang/invoke/MethodHandle" ∧ yX0_isHouse.cls ≠ "java/lang/invoke/VarHandle" ∧ (parseMethodDescriptor yX0_isHouse.desc).map (fun d => d.parameters.length) = some 1 := by decide +kernel
theorem mdX0_set : yX0_set.cls = RX0 ∧ yX0_set.cls ≠ "java/lang/invoke/MethodHandle" ∧ yX0_set.cls ≠ "java/lang/invoke/VarHandle" ∧ (parseMethodDescriptor yX0_set.desc).map (fun d => d.parameters.length) = some 2 := by decide +kernel
theorem mdX0_order : yX0_order.cls = RX0 ∧ yX0_order.cls ≠ "java/lang/invoke/MethodHandle" ∧ yX0_order.cls ≠ "java/lang/invoke/VarHandle" ∧ (parseMethodDescriptor yX0_order.desc).map (fun d => d.parameters.length) = some 1 := by decide +kernel
theorem mdX0_findsToday : yX0_findsToday.cls = RX0 ∧ yX0_findsToday.cls ≠ "java/lang/invoke/MethodHandle" ∧ yX0_findsToday.cls ≠ "java/lang/invoke/VarHandle" ∧ (parseMethodDescriptor yX0_findsToday.desc).map (fun d => d.parameters.length) = some 0 := by decide +kernel
theorem mdX0_lines : yX0_lines.cls = RX0 ∧ yX0_lines.cls ≠ "java/lang/invoke/MethodHandle" ∧ yX0_lines.cls ≠ "java/lang/invoke/VarHandle" ∧ (parseMethodDescriptor yX0_lines.desc).map (fun d => d.parameters.length) = some 1 := by decide +kernel
theorem mdX0_worthOf : yX0_worthOf.cls = RX0 ∧ yX0_worthOf.cls ≠ "java/lang/invoke/MethodHandle" ∧ yX0_worthOf.cls ≠ "java/lang/invoke/VarHandle" ∧ (parseMethodDescriptor yX0_worthOf.desc).map (fun d => d.parameters.length) = some 1 := by decide +kernel
theorem mdX0_netOf : yX0_netOf.cls = RX0 ∧ yX0_netOf.cls ≠ "java/lang/invoke/MethodHandle" ∧ yX0_netOf.cls ≠ "java/lang/invoke/VarHandle" ∧ (parseMethodDescriptor yX0_netOf.desc).map (fun d => d.parameters.length) = some 1 := by decide +kernel
theorem mdX0_days : yX0_days.cls = RX0 ∧ yX0_days.cls ≠ "java/lang/invoke/MethodHandle" ∧ yX0_days.cls ≠ "java/lang/invoke/VarHandle" ∧ (parseMethodDescriptor yX0_days.desc).map (fun d => d.parameters.length) = some 1 := by decide +kernel
theorem mdX0_keepsAhead : yX0_keepsAhead.cls = RX0 ∧ yX0_keepsAhead.cls ≠ "java/lang/invoke/MethodHandle" ∧ yX0_keepsAhead.cls ≠ "java/lang/invoke/VarHandle" ∧ (parseMethodDescriptor yX0_keepsAhead.desc).map (fun d => d.parameters.length) = some 0 := by decide +kernel
theorem mdX0_goesBy : yX0_goesBy.cls = RX0 ∧ yX0_goesBy.cls ≠ "java/lang/invoke/MethodHandle" ∧ yX0_goesBy.cls ≠ "java/lang/invoke/VarHandle" ∧ (parseMethodDescriptor yX0_goesBy.desc).map (fun d => d.parameters.length) = some 0 := by decide +kernel
theorem mdX0_bakes : yX0_bakes.cls = RX0 ∧ yX0_bakes.cls ≠ "java/lang/invoke/MethodHandle" ∧ yX0_bakes.cls ≠ "java/lang/invoke/VarHandle" ∧ (parseMethodDescriptor yX0_bakes.desc).map (fun d => d.parameters.length) = some 2 := by decide +kernel
theorem mdX0_loafOf : yX0_loafOf.cls = RX0 ∧ yX0_loafOf.cls ≠ "java/lang/invoke/MethodHandle" ∧ yX0_loafOf.cls ≠ "java/lang/invoke/VarHandle" ∧ (parseMethodDescriptor yX0_loafOf.desc).map (fun d => d.parameters.length) = some 1 := by decide +kernel
theorem mdX0_fires : yX0_fires.cls = RX0 ∧ yX0_fires.cls ≠ "java/lang/invoke/MethodHandle" ∧ yX0_fires.cls ≠ "java/lang/invoke/VarHandle" ∧ (parseMethodDescriptor yX0_fires.desc).map (fun d => d.parameters.length) = some 1 := by decide +kernel
theorem mdX0_book : yX0_book.cls = RX0 ∧ yX0_book.cls ≠ "java/lang/invoke/MethodHandle" ∧ yX0_book.cls ≠ "java/lang/invoke/VarHandle" ∧ (parseMethodDescriptor yX0_book.desc).map (fun d => d.parameters.length) = some 1 := by decide +kernel
theorem mdX0_of : yX0_of.cls = RX0 ∧ yX0_of.cls ≠ "java/lang/invoke/MethodHandle" ∧ yX0_of.cls ≠ "java/lang/invoke/VarHandle" ∧ (parseMethodDescriptor yX0_of.desc).map (fun d => d.parameters.length) = some 2 := by decide +kernel
theorem mdX0_gain : yX0_gain.cls = RX0 ∧ yX0_gain.cls ≠ "java/lang/invoke/MethodHandle" ∧ yX0_gain.cls ≠ "java/lang/invoke/VarHandle" ∧ (parseMethodDescriptor yX0_gain.desc).map (fun d => d.parameters.length) = some 1 := by decide +kernel
theorem mdX0_findsPieces : yX0_findsPieces.cls = RX0 ∧ yX0_findsPieces.cls ≠ "java/lang/invoke/MethodHandle" ∧ yX0_findsPieces.cls ≠ "java/lang/invoke/VarHandle" ∧ (parseMethodDescriptor yX0_findsPieces.desc).map (fun d => d.parameters.length) = some 1 := by decide +kernel
theorem mdX0_gainAt : yX0_gainAt.cls = RX0 ∧ yX0_gainAt.cls ≠ "java/lang/invoke/MethodHandle" ∧ yX0_gainAt.cls ≠ "java/lang/invoke/VarHandle" ∧ (parseMethodDescriptor yX0_gainAt.desc).map (fun d => d.parameters.length) = some 2 := by decide +kernel
theorem mdX0_orders : yX0_orders.cls = RX0 ∧ yX0_orders.cls ≠ "java/lang/invoke/MethodHandle" ∧ yX0_orders.cls ≠ "java/lang/invoke/VarHandle" ∧ (parseMethodDescriptor yX0_orders.desc).map (fun d => d.parameters.length) = some 1 := by decide +kernel
theorem mdX0_canTry : yX0_canTry.cls = RX0 ∧ yX0_canTry.cls ≠ "java/lang/invoke/MethodHandle" ∧ yX0_canTry.cls ≠ "java/lang/invoke/VarHandle" ∧ (parseMethodDescriptor yX0_canTry.desc).map (fun d => d.parameters.length) = some 1 := by decide +kernel
theorem mdX0_tries : yX0_tries.cls = RX0 ∧ yX0_tries.cls ≠ "java/lang/invoke/MethodHandle" ∧ yX0_tries.cls ≠ "java/lang/invoke/VarHandle" ∧ (parseMethodDescriptor yX0_tries.desc).map (fun d => d.parameters.length) = some 3 := by decide +kernel
theorem mdX0_firstChange : yX0_firstChange.cls = RX0 ∧ yX0_firstChange.cls ≠ "java/lang/invoke/MethodHandle" ∧ yX0_firstChange.cls ≠ "java/lang/invoke/VarHandle" ∧ (parseMethodDescriptor yX0_firstChange.desc).map (fun d => d.parameters.length) = some 1 := by decide +kernel
theorem mdX0_wouldChange : yX0_wouldChange.cls = RX0 ∧ yX0_wouldChange.cls ≠ "java/lang/invoke/MethodHandle" ∧ yX0_wouldChange.cls ≠ "java/lang/invoke/VarHandle" ∧ (parseMethodDescriptor yX0_wouldChange.desc).map (fun d => d.parameters.length) = some 2 := by decide +kernel
theorem msX0_turns : yX0_turns.cls ≠ "java/lang/invoke/MethodHandle" ∧ yX0_turns.cls ≠ "java/lang/invoke/VarHandle" ∧ (parseMethodDescriptor yX0_turns.desc).map (fun d => d.parameters.length) = some 2 := by decide +kernel
theorem mdX0_least : yX0_least.cls = RX0 ∧ yX0_least.cls ≠ "java/lang/invoke/MethodHandle" ∧ yX0_least.cls ≠ "java/lang/invoke/VarHandle" ∧ (parseMethodDescriptor yX0_least.desc).map (fun d => d.parameters.length) = some 1 := by decide +kernel
theorem mdX0_round : yX0_round.cls = RX0 ∧ yX0_round.cls ≠ "java/lang/invoke/MethodHandle" ∧ yX0_round.cls ≠ "java/lang/invoke/VarHandle" ∧ (parseMethodDescriptor yX0_round.desc).map (fun d => d.parameters.length) = some 1 := by decide +kernel
theorem mdX0_areAlike : yX0_areAlike.cls = RX0 ∧ yX0_areAlike.cls ≠ "java/lang/invoke/MethodHandle" ∧ yX0_areAlike.cls ≠ "java/lang/invoke/VarHandle" ∧ (parseMethodDescriptor yX0_areAlike.desc).map (fun d => d.parameters.length) = some 2 := by decide +kernel
theorem mdX0_leaven : yX0_leaven.cls = RX0 ∧ yX0_leaven.cls ≠ "java/lang/invoke/MethodHandle" ∧ yX0_leaven.cls ≠ "java/lang/invoke/VarHandle" ∧ (parseMethodDescriptor yX0_leaven.desc).map (fun d => d.parameters.length) = some 2 := by decide +kernel
theorem mdX0_isLeaven : yX0_isLeaven.cls = RX0 ∧ yX0_isLeaven.cls ≠ "java/lang/invoke/MethodHandle" ∧ yX0_isLeaven.cls ≠ "java/lang/invoke/VarHandle" ∧ (parseMethodDescriptor yX0_isLeaven.desc).map (fun d => d.parameters.length) = some 1 := by decide +kernel
theorem mdX0_part : yX0_part.cls = RX0 ∧ yX0_part.cls ≠ "java/lang/invoke/MethodHandle" ∧ yX0_part.cls ≠ "java/lang/invoke/VarHandle" ∧ (parseMethodDescriptor yX0_part.desc).map (fun d => d.parameters.length) = some 3 := by decide +kernel
theorem mdX0_findsParts : yX0_findsParts.cls = RX0 ∧ yX0_findsParts.cls ≠ "java/lang/invoke/MethodHandle" ∧ yX0_findsParts.cls ≠ "java/lang/invoke/VarHandle" ∧ (parseMethodDescriptor yX0_findsParts.desc).map (fun d => d.parameters.length) = some 1 := by decide +kernel
theorem msX0_common : yX0_common.cls ≠ "java/lang/invoke/MethodHandle" ∧ yX0_common.cls ≠ "java/lang/invoke/VarHandle" ∧ (parseMethodDescriptor yX0_common.desc).map (fun d => d.parameters.length) = some 2 := by decide +kernel
theorem mdX0_lent : yX0_lent.cls = RX0 ∧ yX0_lent.cls ≠ "java/lang/invoke/MethodHandle" ∧ yX0_lent.cls ≠ "java/lang/invoke/VarHandle" ∧ (parseMethodDescriptor yX0_lent.desc).map (fun d => d.parameters.length) = some 2 := by decide +kernel
theorem mdX0_housesOf : yX0_housesOf.cls = RX0 ∧ yX0_housesOf.cls ≠ "java/lang/invoke/MethodHandle" ∧ yX0_housesOf.cls ≠ "java/lang/invoke/VarHandle" ∧ (parseMethodDescriptor yX0_housesOf.desc).map (fun d => d.parameters.length) = some 1 := by decide +kernel
theorem mdX0_isLed : yX0_isLed.cls = RX0 ∧ yX0_isLed.cls ≠ "java/lang/invoke/MethodHandle" ∧ yX0_isLed.cls ≠ "java/lang/invoke/VarHandle" ∧ (parseMethodDescriptor yX0_isLed.desc).map (fun d => d.parameters.length) = some 2 := by decide +kernel
theorem mdX0_led : yX0_led.cls = RX0 ∧ yX0_led.cls ≠ "java/lang/invoke/MethodHandle" ∧ yX0_led.cls ≠ "java/lang/invoke/VarHandle" ∧ (parseMethodDescriptor yX0_led.desc).map (fun d => d.parameters.length) = some 2 := by decide +kernel
theorem mdX0_rise : yX0_rise.cls = RX0 ∧ yX0_rise.cls ≠ "java/lang/invoke/MethodHandle" ∧ yX0_rise.cls ≠ "java/lang/invoke/VarHandle" ∧ (parseMethodDescriptor yX0_rise.desc).map (fun d => d.parameters.length) = some 3 := by decide +kernel
theorem mdX0_odds : yX0_odds.cls = RX0 ∧ yX0_odds.cls ≠ "java/lang/invoke/MethodHandle" ∧ yX0_odds.cls ≠ "java/lang/invoke/VarHandle" ∧ (parseMethodDescriptor yX0_odds.desc).map (fun d => d.parameters.length) = some 2 := by decide +kernel
theorem mdX0_takesSeen : yX0_takesSeen.cls = RX0 ∧ yX0_takesSeen.cls ≠ "java/lang/invoke/MethodHandle" ∧ yX0_takesSeen.cls ≠ "java/lang/invoke/VarHandle" ∧ (parseMethodDescriptor yX0_takesSeen.desc).map (fun d => d.parameters.length) = some 0 := by decide +kernel
theorem mdX0_findsOdds : yX0_findsOdds.cls = RX0 ∧ yX0_findsOdds.cls ≠ "java/lang/invoke/MethodHandle" ∧ yX0_findsOdds.cls ≠ "java/lang/invoke/VarHandle" ∧ (parseMethodDescriptor yX0_findsOdds.desc).map (fun d => d.parameters.length) = some 2 := by decide +kernel
theorem mdX0_whose : yX0_whose.cls = RX0 ∧ yX0_whose.cls ≠ "java/lang/invoke/MethodHandle" ∧ yX0_whose.cls ≠ "java/lang/invoke/VarHandle" ∧ (parseMethodDescriptor yX0_whose.desc).map (fun d => d.parameters.length) = some 1 := by decide +kernel
theorem mdX0_owe : yX0_owe.cls = RX0 ∧ yX0_owe.cls ≠ "java/lang/invoke/MethodHandle" ∧ yX0_owe.cls ≠ "java/lang/invoke/VarHandle" ∧ (parseMethodDescriptor yX0_owe.desc).map (fun d => d.parameters.length) = some 3 := by decide +kernel
theorem mdX0_payments : yX0_payments.cls = RX0 ∧ yX0_payments.cls ≠ "java/lang/invoke/MethodHandle" ∧ yX0_payments.cls ≠ "java/lang/invoke/VarHandle" ∧ (parseMethodDescriptor yX0_payments.desc).map (fun d => d.parameters.length) = some 0 := by decide +kernel
theorem mdX0_mostGroups : yX0_mostGroups.cls = RX0 ∧ yX0_mostGroups.cls ≠ "java/lang/invoke/MethodHandle" ∧ yX0_mostGroups.cls ≠ "java/lang/invoke/VarHandle" ∧ (parseMethodDescriptor yX0_mostGroups.desc).map (fun d => d.parameters.length) = some 1 := by decide +kernel
theorem mdX0_image : yX0_image.cls = RX0 ∧ yX0_image.cls ≠ "java/lang/invoke/MethodHandle" ∧ yX0_image.cls ≠ "java/lang/invoke/VarHandle" ∧ (parseMethodDescriptor yX0_image.desc).map (fun d => d.parameters.length) = some 1 := by decide +kernel
theorem msX0_copiesAll : yX0_copiesAll.cls ≠ "java/lang/invoke/MethodHandle" ∧ yX0_copiesAll.cls ≠ "java/lang/invoke/VarHandle" ∧ (parseMethodDescriptor yX0_copiesAll.desc).map (fun d => d.parameters.length) = some 2 := by decide +kernel
theorem mdX0_look : yX0_look.cls = RX0 ∧ yX0_look.cls ≠ "java/lang/invoke/MethodHandle" ∧ yX0_look.cls ≠ "java/lang/invoke/VarHandle" ∧ (parseMethodDescriptor yX0_look.desc).map (fun d => d.parameters.length) = some 1 := by decide +kernel
theorem msX1_init : yX1_init.cls ≠ "java/lang/invoke/MethodHandle" ∧ yX1_init.cls ≠ "java/lang/invoke/VarHandle" ∧ (parseMethodDescriptor yX1_init.desc).map (fun d => d.parameters.length) = some 0 := by decide +kernel
theorem mdX1_first : yX1_first.cls = RX1 ∧ yX1_first.cls ≠ "java/lang/invoke/MethodHandle" ∧ yX1_first.cls ≠ "java/lang/invoke/VarHandle" ∧ (parseMethodDescriptor yX1_first.desc).map (fun d => d.parameters.length) = some 1 := by decide +kernel
theorem msX10_init : yX10_init.cls ≠ "java/lang/invoke/MethodHandle" ∧ yX10_init.cls ≠ "java/lang/invoke/VarHandle" ∧ (parseMethodDescriptor yX10_init.desc).map (fun d => d.parameters.length) = some 1 := by decide +kernel
theorem mdX10_of : yX10_of.cls = RX10 ∧ yX10_of.cls ≠ "java/lang/invoke/MethodHandle" ∧ yX10_of.cls ≠ "java/lang/invoke/VarHandle" ∧ (parseMethodDescriptor yX10_of.desc).map (fun d => d.parameters.length) = some 1 := by decide +kernel
theorem msX11_init : yX11_init.cls ≠ "java/lang/invoke/MethodHandle" ∧ yX11_init.cls ≠ "java/lang/invoke/VarHandle" ∧ (parseMethodDescriptor yX11_init.desc).map (fun d => d.parameters.length) = some 4 := by decide +kernel
theorem msX2_init : yX2_init.cls ≠ "java/lang/invoke/MethodHandle" ∧ yX2_init.cls ≠ "java/lang/invoke/VarHandle" ∧ (parseMethodDescriptor yX2_init.desc).map (fun d => d.parameters.length) = some 0 := by decide +kernel
theorem mdX2_become : yX2_become.cls = RX2 ∧ yX2_become.cls ≠ "java/lang/invoke/MethodHandle" ∧ yX2_become.cls ≠ "java/lang/invoke/VarHandle" ∧ (parseMethodDescriptor yX2_become.desc).map (fun d => d.parameters.length) = some 1 := by decide +kernel
theorem mdX2_draw : yX2_draw.cls = RX2 ∧ yX2_draw.cls ≠ "java/lang/invoke/MethodHandle" ∧ yX2_draw.cls ≠ "java/lang/invoke/VarHandle" ∧ (parseMethodDescriptor yX2_draw.desc).map (fun d => d.parameters.length) = some 1 := by decide +kernel
theorem msX4_init : yX4_init.cls ≠ "java/lang/invoke/MethodHandle" ∧ yX4_init.cls ≠ "java/lang/invoke/VarHandle" ∧ (parseMethodDescriptor yX4_init.desc).map (fun d => d.parameters.length) = some 4 := by decide +kernel
theorem msX5_init : yX5_init.cls ≠ "java/lang/invoke/MethodHandle" ∧ yX5_init.cls ≠ "java/lang/invoke/VarHandle" ∧ (parseMethodDescriptor yX5_init.desc).map (fun d => d.parameters.length) = some 2 := by decide +kernel
theorem msX6_init : yX6_init.cls ≠ "java/lang/invoke/MethodHandle" ∧ yX6_init.cls ≠ "java/lang/invoke/VarHandle" ∧ (parseMethodDescriptor yX6_init.desc).map (fun d => d.parameters.length) = some 0 := by decide +kernel
theorem msX7_init : yX7_init.cls ≠ "java/lang/invoke/MethodHandle" ∧ yX7_init.cls ≠ "java/lang/invoke/VarHandle" ∧ (parseMethodDescriptor yX7_init.desc).map (fun d => d.parameters.length) = some 1 := by decide +kernel
theorem mdX7_of : yX7_of.cls = RX7 ∧ yX7_of.cls ≠ "java/lang/invoke/MethodHandle" ∧ yX7_of.cls ≠ "java/lang/invoke/VarHandle" ∧ (parseMethodDescriptor yX7_of.desc).map (fun d => d.parameters.length) = some 1 := by decide +kernel
theorem msX8_init : yX8_init.cls ≠ "java/lang/invoke/MethodHandle" ∧ yX8_init.cls ≠ "java/lang/invoke/VarHandle" ∧ (parseMethodDescriptor yX8_init.desc).map (fun d => d.parameters.length) = some 1 := by decide +kernel
theorem mdX8_of : yX8_of.cls = RX8 ∧ yX8_of.cls ≠ "java/lang/invoke/MethodHandle" ∧ yX8_of.cls ≠ "java/lang/invoke/VarHandle" ∧ (parseMethodDescriptor yX8_of.desc).map (fun d => d.parameters.length) = some 1 := by decide +kernel
theorem msX9_init : yX9_init.cls ≠ "java/lang/invoke/MethodHandle" ∧ yX9_init.cls ≠ "java/lang/invoke/VarHandle" ∧ (parseMethodDescriptor yX9_init.desc).map (fun d => d.parameters.length) = some 3 := by decide +kernel
theorem mdX9_of : yX9_of.cls = RX9 ∧ yX9_of.cls ≠ "java/lang/invoke/MethodHandle" ∧ yX9_of.cls ≠ "java/lang/invoke/VarHandle" ∧ (parseMethodDescriptor yX9_of.desc).map (fun d => d.parameters.length) = some 1 := by decide +kernel
theorem kc_m8 : Int32.ofInt (-8) = (-8 : Int32) := by decide
