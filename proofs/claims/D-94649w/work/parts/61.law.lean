/-! the law over pure functions, case by case (printed by gen/lgen.py) -/
set_option maxRecDepth 100000
set_option maxHeartbeats 4000000
/-- the law, case by case, over the pure functions: both answer alike and stay related -/
def LO0 (n : Nat) (Rel : Sto → Sto → Prop) : Prop := ∀ (σx σt : Sto) (a1 : Int32), Rel σx σt → ∃ r σx' σt', xw_state n σx a1 = some (r, σx') ∧ tw_state n σt a1 = some (r, σt') ∧ Rel σx' (clr σt')
def LO1 (n : Nat) (Rel : Sto → Sto → Prop) : Prop := ∀ (σx σt : Sto) (a1 : Int32) (a2 : Int32) (a3 : Int32) (a4 : Int32) (a5 : Int32), Rel σx σt → ∃ r σx' σt', xw_feed n σx a1 a2 a3 a4 a5 = some (r, σx') ∧ tw_feed n σt a1 a2 a3 a4 a5 = some (r, σt') ∧ Rel σx' (clr σt')
def LO2 (n : Nat) (Rel : Sto → Sto → Prop) : Prop := ∀ (σx σt : Sto) (a1 : Int32), Rel σx σt → ∃ r σx' σt', xw_end n σx a1 = some (r, σx') ∧ tw_end n σt a1 = some (r, σt') ∧ Rel σx' (clr σt')
def LO3 (n : Nat) (Rel : Sto → Sto → Prop) : Prop := ∀ (σx σt : Sto) (a1 : Int32) (a2 : Int32) (a3 : Int32), Rel σx σt → ∃ r σt', tw_house n σt a1 a2 a3 = some (r, σt') ∧ yw_house n 3000 20000 σx a1 a2 a3 (fun r' σx' => r' = r ∧ Rel σx' (clr σt'))
def LO4 (n : Nat) (Rel : Sto → Sto → Prop) : Prop := ∀ (σx σt : Sto) (a1 : Int32) (a2 : Int32), Rel σx σt → ∃ r σx' σt', xw_give n σx a1 a2 = some (r, σx') ∧ tw_give n σt a1 a2 = some (r, σt') ∧ Rel σx' (clr σt')
def LO5 (n : Nat) (Rel : Sto → Sto → Prop) : Prop := ∀ (σx σt : Sto) (a1 : Int32) (a2 : Int32), Rel σx σt → ∃ r σx' σt', xw_set n σx a1 a2 = some (r, σx') ∧ tw_set n σt a1 a2 = some (r, σt') ∧ Rel σx' (clr σt')
def LO6 (n : Nat) (Rel : Sto → Sto → Prop) : Prop := ∀ (σx σt : Sto), Rel σx σt → ∃ r σt', tw_text n σt = some (r, σt') ∧ yw_text n 3000 20000 σx (fun r' σx' => r' = r ∧ Rel σx' (clr σt'))
def LO7 (n : Nat) (Rel : Sto → Sto → Prop) : Prop := ∀ (σx σt : Sto) (a1 : Int32), Rel σx σt → ∃ r σx' σt', xw_fault n σx a1 = some (r, σx') ∧ tw_fault n σt a1 = some (r, σt') ∧ Rel σx' (clr σt')
def LO8 (n : Nat) (Rel : Sto → Sto → Prop) : Prop := ∀ (σx σt : Sto) (a1 : Int32), Rel σx σt → ∃ r σx' σt', xw_order n σx a1 = some (r, σx') ∧ tw_order n σt a1 = some (r, σt') ∧ Rel σx' (clr σt')
def LO9 (n : Nat) (Rel : Sto → Sto → Prop) : Prop := ∀ (σx σt : Sto) (a1 : Int32), Rel σx σt → ∃ r σx' σt', xw_days n σx a1 = some (r, σx') ∧ tw_days n σt a1 = some (r, σt') ∧ Rel σx' (clr σt')
def LO10 (n : Nat) (Rel : Sto → Sto → Prop) : Prop := ∀ (σx σt : Sto) (a1 : Int32) (a2 : Int32), Rel σx σt → ∃ r σx' σt', xw_of n σx a1 a2 = some (r, σx') ∧ tw_of n σt a1 a2 = some (r, σt') ∧ Rel σx' (clr σt')
def LO11 (n : Nat) (Rel : Sto → Sto → Prop) : Prop := ∀ (σx σt : Sto) (a1 : Int32), Rel σx σt → ∃ r σx' σt', xw_book n σx a1 = some (r, σx') ∧ tw_book n σt a1 = some (r, σt') ∧ Rel σx' (clr σt')
def LO12 (n : Nat) (Rel : Sto → Sto → Prop) : Prop := ∀ (σx σt : Sto) (a1 : Int32), Rel σx σt → ∃ r σt', tw_gain n σt a1 = some (r, σt') ∧ yw_gain n 3000 20000 σx a1 (fun r' σx' => r' = r ∧ Rel σx' (clr σt'))
def LO13 (n : Nat) (Rel : Sto → Sto → Prop) : Prop := ∀ (σx σt : Sto) (a1 : Int32), Rel σx σt → ∃ r σx' σt', xw_orders n σx a1 = some (r, σx') ∧ tw_orders n σt a1 = some (r, σt') ∧ Rel σx' (clr σt')
def LO14 (n : Nat) (Rel : Sto → Sto → Prop) : Prop := ∀ (σx σt : Sto) (a1 : Int32), Rel σx σt → ∃ r σx' σt', xw_round n σx a1 = some (r, σx') ∧ tw_round n σt a1 = some (r, σt') ∧ Rel σx' (clr σt')
def LO15 (n : Nat) (Rel : Sto → Sto → Prop) : Prop := ∀ (σx σt : Sto) (a1 : Int32), Rel σx σt → ∃ r σx' σt', xw_least n σx a1 = some (r, σx') ∧ tw_least n σt a1 = some (r, σt') ∧ Rel σx' (clr σt')
def LO16 (n : Nat) (Rel : Sto → Sto → Prop) : Prop := ∀ (σx σt : Sto) (a1 : Int32) (a2 : Int32), Rel σx σt → ∃ r σt', tw_leaven n σt a1 a2 = some (r, σt') ∧ yw_leaven n 3000 20000 σx a1 a2 (fun r' σx' => r' = r ∧ Rel σx' (clr σt'))
def LO17 (n : Nat) (Rel : Sto → Sto → Prop) : Prop := ∀ (σx σt : Sto) (a1 : Int32) (a2 : Int32) (a3 : Int32), Rel σx σt → ∃ r σx' σt', xw_part n σx a1 a2 a3 = some (r, σx') ∧ tw_part n σt a1 a2 a3 = some (r, σt') ∧ Rel σx' (clr σt')
def LO18 (n : Nat) (Rel : Sto → Sto → Prop) : Prop := ∀ (σx σt : Sto) (a1 : Int32) (a2 : Int32), Rel σx σt → ∃ r σx' σt', xw_lent n σx a1 a2 = some (r, σx') ∧ tw_lent n σt a1 a2 = some (r, σt') ∧ Rel σx' (clr σt')
def LO19 (n : Nat) (Rel : Sto → Sto → Prop) : Prop := ∀ (σx σt : Sto) (a1 : Int32) (a2 : Int32), Rel σx σt → ∃ r σx' σt', xw_led n σx a1 a2 = some (r, σx') ∧ tw_led n σt a1 a2 = some (r, σt') ∧ Rel σx' (clr σt')
def LO20 (n : Nat) (Rel : Sto → Sto → Prop) : Prop := ∀ (σx σt : Sto) (a1 : Int32) (a2 : Int32) (a3 : Int32), Rel σx σt → ∃ r σx' σt', xw_rise n σx a1 a2 a3 = some (r, σx') ∧ tw_rise n σt a1 a2 a3 = some (r, σt') ∧ Rel σx' (clr σt')
def LO21 (n : Nat) (Rel : Sto → Sto → Prop) : Prop := ∀ (σx σt : Sto) (a1 : Int32) (a2 : Int32), Rel σx σt → ∃ r σt', tw_odds n σt a1 a2 = some (r, σt') ∧ yw_odds n 3000 20000 σx a1 a2 (fun r' σx' => r' = r ∧ Rel σx' (clr σt'))
def LO22 (n : Nat) (Rel : Sto → Sto → Prop) : Prop := ∀ (σx σt : Sto) (a1 : Int32), Rel σx σt → ∃ r σt', tw_whose n σt a1 = some (r, σt') ∧ yw_whose n 3000 20000 σx a1 (fun r' σx' => r' = r ∧ Rel σx' (clr σt'))
def LO23 (n : Nat) (Rel : Sto → Sto → Prop) : Prop := ∀ (σx σt : Sto) (a1 : Int32) (a2 : Int32) (a3 : Int32), Rel σx σt → ∃ r σx' σt', xw_owe n σx a1 a2 a3 = some (r, σx') ∧ tw_owe n σt a1 a2 a3 = some (r, σt') ∧ Rel σx' (clr σt')
def LO24 (n : Nat) (Rel : Sto → Sto → Prop) : Prop := ∀ (σx σt : Sto), Rel σx σt → ∃ r σx' σt', xw_payments n σx = some (r, σx') ∧ tw_payments n σt = some (r, σt') ∧ Rel σx' (clr σt')
def LO25 (n : Nat) (Rel : Sto → Sto → Prop) : Prop := ∀ (σx σt : Sto), Rel σx σt → ∃ r σx' σt', xw_undo n σx = some (r, σx') ∧ tw_undo n σt = some (r, σt') ∧ Rel σx' (clr σt')
def LO26 (n : Nat) (Rel : Sto → Sto → Prop) : Prop := ∀ (σx σt : Sto) (a1 : Bool), Rel σx σt → ∃ r σx' σt', xw_image n σx a1 = some (r, σx') ∧ tw_image n σt a1 = some (r, σt') ∧ Rel σx' (clr σt')
def LO27 (n : Nat) (Rel : Sto → Sto → Prop) : Prop := ∀ (σx σt : Sto) (a1 : Int32), Rel σx σt → ∃ r σx' σt', xw_look n σx a1 = some (r, σx') ∧ tw_look n σt a1 = some (r, σt') ∧ Rel σx' (clr σt')
def LawOK (n : Nat) (Rel : Sto → Sto → Prop) : Prop := LO0 n Rel ∧ LO1 n Rel ∧ LO2 n Rel ∧ LO3 n Rel ∧ LO4 n Rel ∧ LO5 n Rel ∧ LO6 n Rel ∧ LO7 n Rel ∧ LO8 n Rel ∧ LO9 n Rel ∧ LO10 n Rel ∧ LO11 n Rel ∧ LO12 n Rel ∧ LO13 n Rel ∧ LO14 n Rel ∧ LO15 n Rel ∧ LO16 n Rel ∧ LO17 n Rel ∧ LO18 n Rel ∧ LO19 n Rel ∧ LO20 n Rel ∧ LO21 n Rel ∧ LO22 n Rel ∧ LO23 n Rel ∧ LO24 n Rel ∧ LO25 n Rel ∧ LO26 n Rel ∧ LO27 n Rel
theorem l_case0 {l : Launch} {n : Nat} {Rel : Sto → Sto → Prop} {g : Gam} {A : Nat → Prop} {X : FX} {b L : Nat} {xs : Nat → Int32} {i : Int32} {σx σt : Sto} {cz sz : Nat} (C : CX lCfg g A 4 X code "DoughDebtsLaw" (some .boolean) 8192 100000) (hX : X.2.1 = l) (hS : va_X b L xs X.2.2.2.2.1 X.2.2.2.2.1.heap) (hbl : b < X.2.2.2.2.1.heap.size) (hbA : ¬ A b) (hLO : LO0 n Rel) (hrel : Rel σx σt) (hp : pOK σx) (h0 : σt.2.2.2 = []) (hin : ∀ j : Int32, j ∈ [(1 : Int32), 2, 3, 4, 5] → inb (i + j) L = true) (hcz : cz + 3000 ≤ X.2.2.2.1.cells) (hsz : sz + 20000 ≤ X.2.2.2.1.slots)
    (kk : ∀ (σx' σt' : Sto) (cz' sz' : Nat), Rel σx' σt' → pOK σx' → σt'.2.2.2 = [] → cz' ≤ cz + 3000 → sz' ≤ sz + 20000 → TG lCfg g A 4 X cz' sz' (cmb σx' σt') 981 [(3, .int i), (2, .ref (g.1 342)), (1, .ref (g.1 0)), (0, .ref b)] []) : TG lCfg g A 4 X cz sz (cmb σx σt) 160 [(3, .int i), (2, .ref (g.1 342)), (1, .ref (g.1 0)), (0, .ref b)] [] := by
  obtain ⟨r, σx', σt', hx, ht, hrel'⟩ := hLO σx σt (xs (i + (1 : Int32)).toNatClampNeg) hrel
  refine g_aload_n C dL_law_160 2 rfl ?_
  refine g_aload_n C dL_law_161 3 rfl ?_
  refine g_iload_n C dL_law_162 0 rfl ?_
  refine g_iconst C dL_law_163 kc_1 ?_
  refine g_iadd C dL_law_164 ?_
  refine l_sld C hS hbl hbA (hin _ (by decide)) dL_law_165 ?_
  refine l_callX (As := [.int (xs (i + (1 : Int32)).toNatClampNeg)]) (rest := []) C hp (w_xw_state hx) hX rfl q698 q699 q700 q88 q701 mdX0_state rfl ⟨(Nat.le_of_ble_eq_true rfl), (Nat.le_of_ble_eq_true rfl)⟩ (Nat.le_of_ble_eq_true rfl) dL_law_166 ⟨Nat.le_trans (Nat.le_add_right _ _) hcz, Nat.le_trans (Nat.le_add_right _ _) hsz⟩ (fun hp' => ?_)
  refine g_aload_n C dL_law_169 1 rfl ?_
  refine g_aload_n C dL_law_170 3 rfl ?_
  refine g_iload_n C dL_law_171 0 rfl ?_
  refine g_iconst C dL_law_172 kc_1 ?_
  refine g_iadd C dL_law_173 ?_
  refine l_sld C hS hbl hbA (hin _ (by decide)) dL_law_174 ?_
  refine l_callT (As := [.int (xs (i + (1 : Int32)).toNatClampNeg)]) (rest := [.int r]) C h0 (w_tw_state ht) hX rfl q1134 q1135 q1136 q91 q1137 mdX3_state rfl ⟨(Nat.le_of_ble_eq_true rfl), (Nat.le_of_ble_eq_true rfl)⟩ (Nat.le_of_ble_eq_true rfl) dL_law_175 ⟨Nat.le_trans (Nat.le_add_right _ _) hcz, Nat.le_trans (Nat.le_add_right _ _) hsz⟩ ?_
  refine g_icmp_eq 981 C dL_law_178 rfl (fun _ => ?_) (fun h => absurd rfl h)
  exact kk _ _ _ _ hrel' hp' rfl (Nat.le_add_right _ _) (Nat.le_add_right _ _)
theorem l_case1 {l : Launch} {n : Nat} {Rel : Sto → Sto → Prop} {g : Gam} {A : Nat → Prop} {X : FX} {b L : Nat} {xs : Nat → Int32} {i : Int32} {σx σt : Sto} {cz sz : Nat} (C : CX lCfg g A 4 X code "DoughDebtsLaw" (some .boolean) 8192 100000) (hX : X.2.1 = l) (hS : va_X b L xs X.2.2.2.2.1 X.2.2.2.2.1.heap) (hbl : b < X.2.2.2.2.1.heap.size) (hbA : ¬ A b) (hLO : LO1 n Rel) (hrel : Rel σx σt) (hp : pOK σx) (h0 : σt.2.2.2 = []) (hin : ∀ j : Int32, j ∈ [(1 : Int32), 2, 3, 4, 5] → inb (i + j) L = true) (hcz : cz + 3000 ≤ X.2.2.2.1.cells) (hsz : sz + 20000 ≤ X.2.2.2.1.slots)
    (kk : ∀ (σx' σt' : Sto) (cz' sz' : Nat), Rel σx' σt' → pOK σx' → σt'.2.2.2 = [] → cz' ≤ cz + 3000 → sz' ≤ sz + 20000 → TG lCfg g A 4 X cz' sz' (cmb σx' σt') 981 [(3, .int i), (2, .ref (g.1 342)), (1, .ref (g.1 0)), (0, .ref b)] []) : TG lCfg g A 4 X cz sz (cmb σx σt) 183 [(3, .int i), (2, .ref (g.1 342)), (1, .ref (g.1 0)), (0, .ref b)] [] := by
  obtain ⟨r, σx', σt', hx, ht, hrel'⟩ := hLO σx σt (xs (i + (1 : Int32)).toNatClampNeg) (xs (i + (2 : Int32)).toNatClampNeg) (xs (i + (3 : Int32)).toNatClampNeg) (xs (i + (4 : Int32)).toNatClampNeg) (xs (i + (5 : Int32)).toNatClampNeg) hrel
  refine g_aload_n C dL_law_183 2 rfl ?_
  refine g_aload_n C dL_law_184 3 rfl ?_
  refine g_iload_n C dL_law_185 0 rfl ?_
  refine g_iconst C dL_law_186 kc_1 ?_
  refine g_iadd C dL_law_187 ?_
  refine l_sld C hS hbl hbA (hin _ (by decide)) dL_law_188 ?_
  refine g_aload_n C dL_law_189 3 rfl ?_
  refine g_iload_n C dL_law_190 0 rfl ?_
  refine g_iconst C dL_law_191 kc_2 ?_
  refine g_iadd C dL_law_192 ?_
  refine l_sld C hS hbl hbA (hin _ (by decide)) dL_law_193 ?_
  refine g_aload_n C dL_law_194 3 rfl ?_
  refine g_iload_n C dL_law_195 0 rfl ?_
  refine g_iconst C dL_law_196 kc_3 ?_
  refine g_iadd C dL_law_197 ?_
  refine l_sld C hS hbl hbA (hin _ (by decide)) dL_law_198 ?_
  refine g_aload_n C dL_law_199 3 rfl ?_
  refine g_iload_n C dL_law_200 0 rfl ?_
  refine g_iconst C dL_law_201 kc_4 ?_
  refine g_iadd C dL_law_202 ?_
  refine l_sld C hS hbl hbA (hin _ (by decide)) dL_law_203 ?_
  refine g_aload_n C dL_law_204 3 rfl ?_
  refine g_iload_n C dL_law_205 0 rfl ?_
  refine g_iconst C dL_law_206 kc_5 ?_
  refine g_iadd C dL_law_207 ?_
  refine l_sld C hS hbl hbA (hin _ (by decide)) dL_law_208 ?_
  refine l_callX (As := [.int (xs (i + (1 : Int32)).toNatClampNeg), .int (xs (i + (2 : Int32)).toNatClampNeg), .int (xs (i + (3 : Int32)).toNatClampNeg), .int (xs (i + (4 : Int32)).toNatClampNeg), .int (xs (i + (5 : Int32)).toNatClampNeg)]) (rest := []) C hp (w_xw_feed hx) hX rfl q369 q370 q371 q88 q372 mdX0_feed rfl ⟨(Nat.le_of_ble_eq_true rfl), (Nat.le_of_ble_eq_true rfl)⟩ (Nat.le_of_ble_eq_true rfl) dL_law_209 ⟨Nat.le_trans (Nat.le_add_right _ _) hcz, Nat.le_trans (Nat.le_add_right _ _) hsz⟩ (fun hp' => ?_)
  refine g_aload_n C dL_law_212 1 rfl ?_
  refine g_aload_n C dL_law_213 3 rfl ?_
  refine g_iload_n C dL_law_214 0 rfl ?_
  refine g_iconst C dL_law_215 kc_1 ?_
  refine g_iadd C dL_law_216 ?_
  refine l_sld C hS hbl hbA (hin _ (by decide)) dL_law_217 ?_
  refine g_aload_n C dL_law_218 3 rfl ?_
  refine g_iload_n C dL_law_219 0 rfl ?_
  refine g_iconst C dL_law_220 kc_2 ?_
  refine g_iadd C dL_law_221 ?_
  refine l_sld C hS hbl hbA (hin _ (by decide)) dL_law_222 ?_
  refine g_aload_n C dL_law_223 3 rfl ?_
  refine g_iload_n C dL_law_224 0 rfl ?_
  refine g_iconst C dL_law_225 kc_3 ?_
  refine g_iadd C dL_law_226 ?_
  refine l_sld C hS hbl hbA (hin _ (by decide)) dL_law_227 ?_
  refine g_aload_n C dL_law_228 3 rfl ?_
  refine g_iload_n C dL_law_229 0 rfl ?_
  refine g_iconst C dL_law_230 kc_4 ?_
  refine g_iadd C dL_law_231 ?_
  refine l_sld C hS hbl hbA (hin _ (by decide)) dL_law_232 ?_
  refine g_aload_n C dL_law_233 3 rfl ?_
  refine g_iload_n C dL_law_234 0 rfl ?_
  refine g_iconst C dL_law_235 kc_5 ?_
  refine g_iadd C dL_law_236 ?_
  refine l_sld C hS hbl hbA (hin _ (by decide)) dL_law_237 ?_
  refine l_callT (As := [.int (xs (i + (1 : Int32)).toNatClampNeg), .int (xs (i + (2 : Int32)).toNatClampNeg), .int (xs (i + (3 : Int32)).toNatClampNeg), .int (xs (i + (4 : Int32)).toNatClampNeg), .int (xs (i + (5 : Int32)).toNatClampNeg)]) (rest := [.int r]) C h0 (w_tw_feed ht) hX rfl q1138 q1139 q1140 q91 q1141 mdX3_feed rfl ⟨(Nat.le_of_ble_eq_true rfl), (Nat.le_of_ble_eq_true rfl)⟩ (Nat.le_of_ble_eq_true rfl) dL_law_238 ⟨Nat.le_trans (Nat.le_add_right _ _) hcz, Nat.le_trans (Nat.le_add_right _ _) hsz⟩ ?_
  refine g_icmp_eq 981 C dL_law_241 rfl (fun _ => ?_) (fun h => absurd rfl h)
  exact kk _ _ _ _ hrel' hp' rfl (Nat.le_add_right _ _) (Nat.le_add_right _ _)
theorem l_case2 {l : Launch} {n : Nat} {Rel : Sto → Sto → Prop} {g : Gam} {A : Nat → Prop} {X : FX} {b L : Nat} {xs : Nat → Int32} {i : Int32} {σx σt : Sto} {cz sz : Nat} (C : CX lCfg g A 4 X code "DoughDebtsLaw" (some .boolean) 8192 100000) (hX : X.2.1 = l) (hS : va_X b L xs X.2.2.2.2.1 X.2.2.2.2.1.heap) (hbl : b < X.2.2.2.2.1.heap.size) (hbA : ¬ A b) (hLO : LO2 n Rel) (hrel : Rel σx σt) (hp : pOK σx) (h0 : σt.2.2.2 = []) (hin : ∀ j : Int32, j ∈ [(1 : Int32), 2, 3, 4, 5] → inb (i + j) L = true) (hcz : cz + 3000 ≤ X.2.2.2.1.cells) (hsz : sz + 20000 ≤ X.2.2.2.1.slots)
    (kk : ∀ (σx' σt' : Sto) (cz' sz' : Nat), Rel σx' σt' → pOK σx' → σt'.2.2.2 = [] → cz' ≤ cz + 3000 → sz' ≤ sz + 20000 → TG lCfg g A 4 X cz' sz' (cmb σx' σt') 981 [(3, .int i), (2, .ref (g.1 342)), (1, .ref (g.1 0)), (0, .ref b)] []) : TG lCfg g A 4 X cz sz (cmb σx σt) 246 [(3, .int i), (2, .ref (g.1 342)), (1, .ref (g.1 0)), (0, .ref b)] [] := by
  obtain ⟨r, σx', σt', hx, ht, hrel'⟩ := hLO σx σt (xs (i + (1 : Int32)).toNatClampNeg) hrel
  refine g_aload_n C dL_law_246 2 rfl ?_
  refine g_aload_n C dL_law_247 3 rfl ?_
  refine g_iload_n C dL_law_248 0 rfl ?_
  refine g_iconst C dL_law_249 kc_1 ?_
  refine g_iadd C dL_law_250 ?_
  refine l_sld C hS hbl hbA (hin _ (by decide)) dL_law_251 ?_
  refine l_callX (As := [.int (xs (i + (1 : Int32)).toNatClampNeg)]) (rest := []) C hp (w_xw_end hx) hX rfl q377 q378 q379 q88 q380 mdX0_end rfl ⟨(Nat.le_of_ble_eq_true rfl), (Nat.le_of_ble_eq_true rfl)⟩ (Nat.le_of_ble_eq_true rfl) dL_law_252 ⟨Nat.le_trans (Nat.le_add_right _ _) hcz, Nat.le_trans (Nat.le_add_right _ _) hsz⟩ (fun hp' => ?_)
  refine g_aload_n C dL_law_255 1 rfl ?_
  refine g_aload_n C dL_law_256 3 rfl ?_
  refine g_iload_n C dL_law_257 0 rfl ?_
  refine g_iconst C dL_law_258 kc_1 ?_
  refine g_iadd C dL_law_259 ?_
  refine l_sld C hS hbl hbA (hin _ (by decide)) dL_law_260 ?_
  refine l_callT (As := [.int (xs (i + (1 : Int32)).toNatClampNeg)]) (rest := [.int (bI r)]) C h0 (w_tw_end ht) hX rfl q1142 q1143 q1144 q91 q1145 mdX3_end rfl ⟨(Nat.le_of_ble_eq_true rfl), (Nat.le_of_ble_eq_true rfl)⟩ (Nat.le_of_ble_eq_true rfl) dL_law_261 ⟨Nat.le_trans (Nat.le_add_right _ _) hcz, Nat.le_trans (Nat.le_add_right _ _) hsz⟩ ?_
  refine g_icmp_eq 981 C dL_law_264 rfl (fun _ => ?_) (fun h => absurd rfl h)
  exact kk _ _ _ _ hrel' hp' rfl (Nat.le_add_right _ _) (Nat.le_add_right _ _)
theorem l_case3 {l : Launch} {n : Nat} {Rel : Sto → Sto → Prop} {g : Gam} {A : Nat → Prop} {X : FX} {b L : Nat} {xs : Nat → Int32} {i : Int32} {σx σt : Sto} {cz sz : Nat} (C : CX lCfg g A 4 X code "DoughDebtsLaw" (some .boolean) 8192 100000) (hX : X.2.1 = l) (hS : va_X b L xs X.2.2.2.2.1 X.2.2.2.2.1.heap) (hbl : b < X.2.2.2.2.1.heap.size) (hbA : ¬ A b) (hLO : LO3 n Rel) (hrel : Rel σx σt) (hp : pOK σx) (h0 : σt.2.2.2 = []) (hin : ∀ j : Int32, j ∈ [(1 : Int32), 2, 3, 4, 5] → inb (i + j) L = true) (hcz : cz + 3000 ≤ X.2.2.2.1.cells) (hsz : sz + 20000 ≤ X.2.2.2.1.slots)
    (kk : ∀ (σx' σt' : Sto) (cz' sz' : Nat), Rel σx' σt' → pOK σx' → σt'.2.2.2 = [] → cz' ≤ cz + 3000 → sz' ≤ sz + 20000 → TG lCfg g A 4 X cz' sz' (cmb σx' σt') 981 [(3, .int i), (2, .ref (g.1 342)), (1, .ref (g.1 0)), (0, .ref b)] []) : TG lCfg g A 4 X cz sz (cmb σx σt) 269 [(3, .int i), (2, .ref (g.1 342)), (1, .ref (g.1 0)), (0, .ref b)] [] := by
  obtain ⟨r, σt', ht, hx⟩ := hLO σx σt (xs (i + (1 : Int32)).toNatClampNeg) (xs (i + (2 : Int32)).toNatClampNeg) (xs (i + (3 : Int32)).toNatClampNeg) hrel
  refine g_aload_n C dL_law_269 2 rfl ?_
  refine g_aload_n C dL_law_270 3 rfl ?_
  refine g_iload_n C dL_law_271 0 rfl ?_
  refine g_iconst C dL_law_272 kc_1 ?_
  refine g_iadd C dL_law_273 ?_
  refine l_sld C hS hbl hbA (hin _ (by decide)) dL_law_274 ?_
  refine g_aload_n C dL_law_275 3 rfl ?_
  refine g_iload_n C dL_law_276 0 rfl ?_
  refine g_iconst C dL_law_277 kc_2 ?_
  refine g_iadd C dL_law_278 ?_
  refine l_sld C hS hbl hbA (hin _ (by decide)) dL_law_279 ?_
  refine g_aload_n C dL_law_280 3 rfl ?_
  refine g_iload_n C dL_law_281 0 rfl ?_
  refine g_iconst C dL_law_282 kc_3 ?_
  refine g_iadd C dL_law_283 ?_
  refine l_sld C hS hbl hbA (hin _ (by decide)) dL_law_284 ?_
  refine l_callXw (As := [.int (xs (i + (1 : Int32)).toNatClampNeg), .int (xs (i + (2 : Int32)).toNatClampNeg), .int (xs (i + (3 : Int32)).toNatClampNeg)]) (rest := []) C hp (w_yw_house hx) hX rfl q716 q717 q718 q88 q719 mdX0_house rfl ⟨(Nat.le_of_ble_eq_true rfl), (Nat.le_of_ble_eq_true rfl)⟩ (Nat.le_of_ble_eq_true rfl) dL_law_285 ⟨hcz, hsz⟩ (fun r1 σx' hR hp' => ?_)
  obtain ⟨rfl, hrel'⟩ := hR
  refine g_aload_n C dL_law_288 1 rfl ?_
  refine g_aload_n C dL_law_289 3 rfl ?_
  refine g_iload_n C dL_law_290 0 rfl ?_
  refine g_iconst C dL_law_291 kc_1 ?_
  refine g_iadd C dL_law_292 ?_
  refine l_sld C hS hbl hbA (hin _ (by decide)) dL_law_293 ?_
  refine g_aload_n C dL_law_294 3 rfl ?_
  refine g_iload_n C dL_law_295 0 rfl ?_
  refine g_iconst C dL_law_296 kc_2 ?_
  refine g_iadd C dL_law_297 ?_
  refine l_sld C hS hbl hbA (hin _ (by decide)) dL_law_298 ?_
  refine g_aload_n C dL_law_299 3 rfl ?_
  refine g_iload_n C dL_law_300 0 rfl ?_
  refine g_iconst C dL_law_301 kc_3 ?_
  refine g_iadd C dL_law_302 ?_
  refine l_sld C hS hbl hbA (hin _ (by decide)) dL_law_303 ?_
  refine l_callT (As := [.int (xs (i + (1 : Int32)).toNatClampNeg), .int (xs (i + (2 : Int32)).toNatClampNeg), .int (xs (i + (3 : Int32)).toNatClampNeg)]) (rest := [.int r1]) C h0 (w_tw_house ht) hX rfl q1244 q1245 q1246 q91 q1247 mdX3_house rfl ⟨(Nat.le_of_ble_eq_true rfl), (Nat.le_of_ble_eq_true rfl)⟩ (Nat.le_of_ble_eq_true rfl) dL_law_304 ⟨hcz, hsz⟩ ?_
  refine g_icmp_eq 981 C dL_law_307 rfl (fun _ => ?_) (fun h => absurd rfl h)
  exact kk _ _ _ _ hrel' hp' rfl (Nat.le_refl _) (Nat.le_refl _)
theorem l_case4 {l : Launch} {n : Nat} {Rel : Sto → Sto → Prop} {g : Gam} {A : Nat → Prop} {X : FX} {b L : Nat} {xs : Nat → Int32} {i : Int32} {σx σt : Sto} {cz sz : Nat} (C : CX lCfg g A 4 X code "DoughDebtsLaw" (some .boolean) 8192 100000) (hX : X.2.1 = l) (hS : va_X b L xs X.2.2.2.2.1 X.2.2.2.2.1.heap) (hbl : b < X.2.2.2.2.1.heap.size) (hbA : ¬ A b) (hLO : LO4 n Rel) (hrel : Rel σx σt) (hp : pOK σx) (h0 : σt.2.2.2 = []) (hin : ∀ j : Int32, j ∈ [(1 : Int32), 2, 3, 4, 5] → inb (i + j) L = true) (hcz : cz + 3000 ≤ X.2.2.2.1.cells) (hsz : sz + 20000 ≤ X.2.2.2.1.slots)
    (kk : ∀ (σx' σt' : Sto) (cz' sz' : Nat), Rel σx' σt' → pOK σx' → σt'.2.2.2 = [] → cz' ≤ cz + 3000 → sz' ≤ sz + 20000 → TG lCfg g A 4 X cz' sz' (cmb σx' σt') 981 [(3, .int i), (2, .ref (g.1 342)), (1, .ref (g.1 0)), (0, .ref b)] []) : TG lCfg g A 4 X cz sz (cmb σx σt) 312 [(3, .int i), (2, .ref (g.1 342)), (1, .ref (g.1 0)), (0, .ref b)] [] := by
  obtain ⟨r, σx', σt', hx, ht, hrel'⟩ := hLO σx σt (xs (i + (1 : Int32)).toNatClampNeg) (xs (i + (2 : Int32)).toNatClampNeg) hrel
  refine g_aload_n C dL_law_312 2 rfl ?_
  refine g_aload_n C dL_law_313 3 rfl ?_
  refine g_iload_n C dL_law_314 0 rfl ?_
  refine g_iconst C dL_law_315 kc_1 ?_
  refine g_iadd C dL_law_316 ?_
  refine l_sld C hS hbl hbA (hin _ (by decide)) dL_law_317 ?_
  refine g_aload_n C dL_law_318 3 rfl ?_
  refine g_iload_n C dL_law_319 0 rfl ?_
  refine g_iconst C dL_law_320 kc_2 ?_
  refine g_iadd C dL_law_321 ?_
  refine l_sld C hS hbl hbA (hin _ (by decide)) dL_law_322 ?_
  refine l_callX (As := [.int (xs (i + (1 : Int32)).toNatClampNeg), .int (xs (i + (2 : Int32)).toNatClampNeg)]) (rest := []) C hp (w_xw_give hx) hX rfl q762 q763 q764 q88 q765 mdX0_give rfl ⟨(Nat.le_of_ble_eq_true rfl), (Nat.le_of_ble_eq_true rfl)⟩ (Nat.le_of_ble_eq_true rfl) dL_law_323 ⟨Nat.le_trans (Nat.le_add_right _ _) hcz, Nat.le_trans (Nat.le_add_right _ _) hsz⟩ (fun hp' => ?_)
  refine g_aload_n C dL_law_326 1 rfl ?_
  refine g_aload_n C dL_law_327 3 rfl ?_
  refine g_iload_n C dL_law_328 0 rfl ?_
  refine g_iconst C dL_law_329 kc_1 ?_
  refine g_iadd C dL_law_330 ?_
  refine l_sld C hS hbl hbA (hin _ (by decide)) dL_law_331 ?_
  refine g_aload_n C dL_law_332 3 rfl ?_
  refine g_iload_n C dL_law_333 0 rfl ?_
  refine g_iconst C dL_law_334 kc_2 ?_
  refine g_iadd C dL_law_335 ?_
  refine l_sld C hS hbl hbA (hin _ (by decide)) dL_law_336 ?_
  refine l_callT (As := [.int (xs (i + (1 : Int32)).toNatClampNeg), .int (xs (i + (2 : Int32)).toNatClampNeg)]) (rest := [.int (bI r)]) C h0 (w_tw_give ht) hX rfl q1256 q1257 q1258 q91 q1259 mdX3_give rfl ⟨(Nat.le_of_ble_eq_true rfl), (Nat.le_of_ble_eq_true rfl)⟩ (Nat.le_of_ble_eq_true rfl) dL_law_337 ⟨Nat.le_trans (Nat.le_add_right _ _) hcz, Nat.le_trans (Nat.le_add_right _ _) hsz⟩ ?_
  refine g_icmp_eq 981 C dL_law_340 rfl (fun _ => ?_) (fun h => absurd rfl h)
  exact kk _ _ _ _ hrel' hp' rfl (Nat.le_add_right _ _) (Nat.le_add_right _ _)
theorem l_case5 {l : Launch} {n : Nat} {Rel : Sto → Sto → Prop} {g : Gam} {A : Nat → Prop} {X : FX} {b L : Nat} {xs : Nat → Int32} {i : Int32} {σx σt : Sto} {cz sz : Nat} (C : CX lCfg g A 4 X code "DoughDebtsLaw" (some .boolean) 8192 100000) (hX : X.2.1 = l) (hS : va_X b L xs X.2.2.2.2.1 X.2.2.2.2.1.heap) (hbl : b < X.2.2.2.2.1.heap.size) (hbA : ¬ A b) (hLO : LO5 n Rel) (hrel : Rel σx σt) (hp : pOK σx) (h0 : σt.2.2.2 = []) (hin : ∀ j : Int32, j ∈ [(1 : Int32), 2, 3, 4, 5] → inb (i + j) L = true) (hcz : cz + 3000 ≤ X.2.2.2.1.cells) (hsz : sz + 20000 ≤ X.2.2.2.1.slots)
    (kk : ∀ (σx' σt' : Sto) (cz' sz' : Nat), Rel σx' σt' → pOK σx' → σt'.2.2.2 = [] → cz' ≤ cz + 3000 → sz' ≤ sz + 20000 → TG lCfg g A 4 X cz' sz' (cmb σx' σt') 981 [(3, .int i), (2, .ref (g.1 342)), (1, .ref (g.1 0)), (0, .ref b)] []) : TG lCfg g A 4 X cz sz (cmb σx σt) 345 [(3, .int i), (2, .ref (g.1 342)), (1, .ref (g.1 0)), (0, .ref b)] [] := by
  obtain ⟨r, σx', σt', hx, ht, hrel'⟩ := hLO σx σt (xs (i + (1 : Int32)).toNatClampNeg) (xs (i + (2 : Int32)).toNatClampNeg) hrel
  refine g_aload_n C dL_law_345 2 rfl ?_
  refine g_aload_n C dL_law_346 3 rfl ?_
  refine g_iload_n C dL_law_347 0 rfl ?_
  refine g_iconst C dL_law_348 kc_1 ?_
  refine g_iadd C dL_law_349 ?_
  refine l_sld C hS hbl hbA (hin _ (by decide)) dL_law_350 ?_
  refine g_aload_n C dL_law_351 3 rfl ?_
  refine g_iload_n C dL_law_352 0 rfl ?_
  refine g_iconst C dL_law_353 kc_2 ?_
  refine g_iadd C dL_law_354 ?_
  refine l_sld C hS hbl hbA (hin _ (by decide)) dL_law_355 ?_
  refine l_callX (As := [.int (xs (i + (1 : Int32)).toNatClampNeg), .int (xs (i + (2 : Int32)).toNatClampNeg)]) (rest := []) C hp (w_xw_set hx) hX rfl q771 q772 q773 q88 q774 mdX0_set rfl ⟨(Nat.le_of_ble_eq_true rfl), (Nat.le_of_ble_eq_true rfl)⟩ (Nat.le_of_ble_eq_true rfl) dL_law_356 ⟨Nat.le_trans (Nat.le_add_right _ _) hcz, Nat.le_trans (Nat.le_add_right _ _) hsz⟩ (fun hp' => ?_)
  refine g_aload_n C dL_law_359 1 rfl ?_
  refine g_aload_n C dL_law_360 3 rfl ?_
  refine g_iload_n C dL_law_361 0 rfl ?_
  refine g_iconst C dL_law_362 kc_1 ?_
  refine g_iadd C dL_law_363 ?_
  refine l_sld C hS hbl hbA (hin _ (by decide)) dL_law_364 ?_
  refine g_aload_n C dL_law_365 3 rfl ?_
  refine g_iload_n C dL_law_366 0 rfl ?_
  refine g_iconst C dL_law_367 kc_2 ?_
  refine g_iadd C dL_law_368 ?_
  refine l_sld C hS hbl hbA (hin _ (by decide)) dL_law_369 ?_
  refine l_callT (As := [.int (xs (i + (1 : Int32)).toNatClampNeg), .int (xs (i + (2 : Int32)).toNatClampNeg)]) (rest := [.int (bI r)]) C h0 (w_tw_set ht) hX rfl q1274 q1275 q1276 q91 q1277 mdX3_set rfl ⟨(Nat.le_of_ble_eq_true rfl), (Nat.le_of_ble_eq_true rfl)⟩ (Nat.le_of_ble_eq_true rfl) dL_law_370 ⟨Nat.le_trans (Nat.le_add_right _ _) hcz, Nat.le_trans (Nat.le_add_right _ _) hsz⟩ ?_
  refine g_icmp_eq 981 C dL_law_373 rfl (fun _ => ?_) (fun h => absurd rfl h)
  exact kk _ _ _ _ hrel' hp' rfl (Nat.le_add_right _ _) (Nat.le_add_right _ _)
theorem l_case6 {l : Launch} {n : Nat} {Rel : Sto → Sto → Prop} {g : Gam} {A : Nat → Prop} {X : FX} {b L : Nat} {xs : Nat → Int32} {i : Int32} {σx σt : Sto} {cz sz : Nat} (C : CX lCfg g A 4 X code "DoughDebtsLaw" (some .boolean) 8192 100000) (hX : X.2.1 = l) (hS : va_X b L xs X.2.2.2.2.1 X.2.2.2.2.1.heap) (hbl : b < X.2.2.2.2.1.heap.size) (hbA : ¬ A b) (hLO : LO6 n Rel) (hrel : Rel σx σt) (hp : pOK σx) (h0 : σt.2.2.2 = []) (hin : ∀ j : Int32, j ∈ [(1 : Int32), 2, 3, 4, 5] → inb (i + j) L = true) (hcz : cz + 3000 ≤ X.2.2.2.1.cells) (hsz : sz + 20000 ≤ X.2.2.2.1.slots)
    (kk : ∀ (σx' σt' : Sto) (cz' sz' : Nat), Rel σx' σt' → pOK σx' → σt'.2.2.2 = [] → cz' ≤ cz + 3000 → sz' ≤ sz + 20000 → TG lCfg g A 4 X cz' sz' (cmb σx' σt') 981 [(3, .int i), (2, .ref (g.1 342)), (1, .ref (g.1 0)), (0, .ref b)] []) : TG lCfg g A 4 X cz sz (cmb σx σt) 378 [(3, .int i), (2, .ref (g.1 342)), (1, .ref (g.1 0)), (0, .ref b)] [] := by
  obtain ⟨r, σt', ht, hx⟩ := hLO σx σt hrel
  refine g_aload_n C dL_law_378 2 rfl ?_
  refine l_callXh (As := []) (rest := []) C hp (w_yw_text hx) hX rfl q384 q385 q386 q88 q387 mdX0_text rfl ⟨(Nat.le_of_ble_eq_true rfl), (Nat.le_of_ble_eq_true rfl)⟩ (Nat.le_of_ble_eq_true rfl) dL_law_379 ⟨hcz, hsz⟩ (fun r1 σx' hR hp' => ?_)
  obtain ⟨rfl, hrel'⟩ := hR
  refine g_aload_n C dL_law_382 1 rfl ?_
  refine l_callT (As := []) (rest := [.int r1]) C h0 (w_tw_text ht) hX rfl q1149 q1150 q1151 q91 q1152 mdX3_text rfl ⟨(Nat.le_of_ble_eq_true rfl), (Nat.le_of_ble_eq_true rfl)⟩ (Nat.le_of_ble_eq_true rfl) dL_law_383 ⟨hcz, hsz⟩ ?_
  refine g_icmp_eq 981 C dL_law_386 rfl (fun _ => ?_) (fun h => absurd rfl h)
  exact kk _ _ _ _ hrel' hp' rfl (Nat.le_refl _) (Nat.le_refl _)
theorem l_case7 {l : Launch} {n : Nat} {Rel : Sto → Sto → Prop} {g : Gam} {A : Nat → Prop} {X : FX} {b L : Nat} {xs : Nat → Int32} {i : Int32} {σx σt : Sto} {cz sz : Nat} (C : CX lCfg g A 4 X code "DoughDebtsLaw" (some .boolean) 8192 100000) (hX : X.2.1 = l) (hS : va_X b L xs X.2.2.2.2.1 X.2.2.2.2.1.heap) (hbl : b < X.2.2.2.2.1.heap.size) (hbA : ¬ A b) (hLO : LO7 n Rel) (hrel : Rel σx σt) (hp : pOK σx) (h0 : σt.2.2.2 = []) (hin : ∀ j : Int32, j ∈ [(1 : Int32), 2, 3, 4, 5] → inb (i + j) L = true) (hcz : cz + 3000 ≤ X.2.2.2.1.cells) (hsz : sz + 20000 ≤ X.2.2.2.1.slots)
    (kk : ∀ (σx' σt' : Sto) (cz' sz' : Nat), Rel σx' σt' → pOK σx' → σt'.2.2.2 = [] → cz' ≤ cz + 3000 → sz' ≤ sz + 20000 → TG lCfg g A 4 X cz' sz' (cmb σx' σt') 981 [(3, .int i), (2, .ref (g.1 342)), (1, .ref (g.1 0)), (0, .ref b)] []) : TG lCfg g A 4 X cz sz (cmb σx σt) 391 [(3, .int i), (2, .ref (g.1 342)), (1, .ref (g.1 0)), (0, .ref b)] [] := by
  obtain ⟨r, σx', σt', hx, ht, hrel'⟩ := hLO σx σt (xs (i + (1 : Int32)).toNatClampNeg) hrel
  refine g_aload_n C dL_law_391 2 rfl ?_
  refine g_aload_n C dL_law_392 3 rfl ?_
  refine g_iload_n C dL_law_393 0 rfl ?_
  refine g_iconst C dL_law_394 kc_1 ?_
  refine g_iadd C dL_law_395 ?_
  refine l_sld C hS hbl hbA (hin _ (by decide)) dL_law_396 ?_
  refine l_callX (As := [.int (xs (i + (1 : Int32)).toNatClampNeg)]) (rest := []) C hp (w_xw_fault hx) hX rfl q694 q695 q696 q88 q697 mdX0_fault rfl ⟨(Nat.le_of_ble_eq_true rfl), (Nat.le_of_ble_eq_true rfl)⟩ (Nat.le_of_ble_eq_true rfl) dL_law_397 ⟨Nat.le_trans (Nat.le_add_right _ _) hcz, Nat.le_trans (Nat.le_add_right _ _) hsz⟩ (fun hp' => ?_)
  refine g_aload_n C dL_law_400 1 rfl ?_
  refine g_aload_n C dL_law_401 3 rfl ?_
  refine g_iload_n C dL_law_402 0 rfl ?_
  refine g_iconst C dL_law_403 kc_1 ?_
  refine g_iadd C dL_law_404 ?_
  refine l_sld C hS hbl hbA (hin _ (by decide)) dL_law_405 ?_
  refine l_callT (As := [.int (xs (i + (1 : Int32)).toNatClampNeg)]) (rest := [.int r]) C h0 (w_tw_fault ht) hX rfl q1240 q1241 q1242 q91 q1243 mdX3_fault rfl ⟨(Nat.le_of_ble_eq_true rfl), (Nat.le_of_ble_eq_true rfl)⟩ (Nat.le_of_ble_eq_true rfl) dL_law_406 ⟨Nat.le_trans (Nat.le_add_right _ _) hcz, Nat.le_trans (Nat.le_add_right _ _) hsz⟩ ?_
  refine g_icmp_eq 981 C dL_law_409 rfl (fun _ => ?_) (fun h => absurd rfl h)
  exact kk _ _ _ _ hrel' hp' rfl (Nat.le_add_right _ _) (Nat.le_add_right _ _)
theorem l_case8 {l : Launch} {n : Nat} {Rel : Sto → Sto → Prop} {g : Gam} {A : Nat → Prop} {X : FX} {b L : Nat} {xs : Nat → Int32} {i : Int32} {σx σt : Sto} {cz sz : Nat} (C : CX lCfg g A 4 X code "DoughDebtsLaw" (some .boolean) 8192 100000) (hX : X.2.1 = l) (hS : va_X b L xs X.2.2.2.2.1 X.2.2.2.2.1.heap) (hbl : b < X.2.2.2.2.1.heap.size) (hbA : ¬ A b) (hLO : LO8 n Rel) (hrel : Rel σx σt) (hp : pOK σx) (h0 : σt.2.2.2 = []) (hin : ∀ j : Int32, j ∈ [(1 : Int32), 2, 3, 4, 5] → inb (i + j) L = true) (hcz : cz + 3000 ≤ X.2.2.2.1.cells) (hsz : sz + 20000 ≤ X.2.2.2.1.slots)
    (kk : ∀ (σx' σt' : Sto) (cz' sz' : Nat), Rel σx' σt' → pOK σx' → σt'.2.2.2 = [] → cz' ≤ cz + 3000 → sz' ≤ sz + 20000 → TG lCfg g A 4 X cz' sz' (cmb σx' σt') 981 [(3, .int i), (2, .ref (g.1 342)), (1, .ref (g.1 0)), (0, .ref b)] []) : TG lCfg g A 4 X cz sz (cmb σx σt) 414 [(3, .int i), (2, .ref (g.1 342)), (1, .ref (g.1 0)), (0, .ref b)] [] := by
  obtain ⟨r, σx', σt', hx, ht, hrel'⟩ := hLO σx σt (xs (i + (1 : Int32)).toNatClampNeg) hrel
  refine g_aload_n C dL_law_414 2 rfl ?_
  refine g_aload_n C dL_law_415 3 rfl ?_
  refine g_iload_n C dL_law_416 0 rfl ?_
  refine g_iconst C dL_law_417 kc_1 ?_
  refine g_iadd C dL_law_418 ?_
  refine l_sld C hS hbl hbA (hin _ (by decide)) dL_law_419 ?_
  refine l_callX (As := [.int (xs (i + (1 : Int32)).toNatClampNeg)]) (rest := []) C hp (w_xw_order hx) hX rfl q775 q776 q777 q88 q778 mdX0_order rfl ⟨(Nat.le_of_ble_eq_true rfl), (Nat.le_of_ble_eq_true rfl)⟩ (Nat.le_of_ble_eq_true rfl) dL_law_420 ⟨Nat.le_trans (Nat.le_add_right _ _) hcz, Nat.le_trans (Nat.le_add_right _ _) hsz⟩ (fun hp' => ?_)
  refine g_aload_n C dL_law_423 1 rfl ?_
  refine g_aload_n C dL_law_424 3 rfl ?_
  refine g_iload_n C dL_law_425 0 rfl ?_
  refine g_iconst C dL_law_426 kc_1 ?_
  refine g_iadd C dL_law_427 ?_
  refine l_sld C hS hbl hbA (hin _ (by decide)) dL_law_428 ?_
  refine l_callT (As := [.int (xs (i + (1 : Int32)).toNatClampNeg)]) (rest := [.int r]) C h0 (w_tw_order ht) hX rfl q1278 q1279 q1280 q91 q1281 mdX3_order rfl ⟨(Nat.le_of_ble_eq_true rfl), (Nat.le_of_ble_eq_true rfl)⟩ (Nat.le_of_ble_eq_true rfl) dL_law_429 ⟨Nat.le_trans (Nat.le_add_right _ _) hcz, Nat.le_trans (Nat.le_add_right _ _) hsz⟩ ?_
  refine g_icmp_eq 981 C dL_law_432 rfl (fun _ => ?_) (fun h => absurd rfl h)
  exact kk _ _ _ _ hrel' hp' rfl (Nat.le_add_right _ _) (Nat.le_add_right _ _)
theorem l_case9 {l : Launch} {n : Nat} {Rel : Sto → Sto → Prop} {g : Gam} {A : Nat → Prop} {X : FX} {b L : Nat} {xs : Nat → Int32} {i : Int32} {σx σt : Sto} {cz sz : Nat} (C : CX lCfg g A 4 X code "DoughDebtsLaw" (some .boolean) 8192 100000) (hX : X.2.1 = l) (hS : va_X b L xs X.2.2.2.2.1 X.2.2.2.2.1.heap) (hbl : b < X.2.2.2.2.1.heap.size) (hbA : ¬ A b) (hLO : LO9 n Rel) (hrel : Rel σx σt) (hp : pOK σx) (h0 : σt.2.2.2 = []) (hin : ∀ j : Int32, j ∈ [(1 : Int32), 2, 3, 4, 5] → inb (i + j) L = true) (hcz : cz + 3000 ≤ X.2.2.2.1.cells) (hsz : sz + 20000 ≤ X.2.2.2.1.slots)
    (kk : ∀ (σx' σt' : Sto) (cz' sz' : Nat), Rel σx' σt' → pOK σx' → σt'.2.2.2 = [] → cz' ≤ cz + 3000 → sz' ≤ sz + 20000 → TG lCfg g A 4 X cz' sz' (cmb σx' σt') 981 [(3, .int i), (2, .ref (g.1 342)), (1, .ref (g.1 0)), (0, .ref b)] []) : TG lCfg g A 4 X cz sz (cmb σx σt) 437 [(3, .int i), (2, .ref (g.1 342)), (1, .ref (g.1 0)), (0, .ref b)] [] := by
  obtain ⟨r, σx', σt', hx, ht, hrel'⟩ := hLO σx σt (xs (i + (1 : Int32)).toNatClampNeg) hrel
  refine g_aload_n C dL_law_437 2 rfl ?_
  refine g_aload_n C dL_law_438 3 rfl ?_
  refine g_iload_n C dL_law_439 0 rfl ?_
  refine g_iconst C dL_law_440 kc_1 ?_
  refine g_iadd C dL_law_441 ?_
  refine l_sld C hS hbl hbA (hin _ (by decide)) dL_law_442 ?_
  refine l_callX (As := [.int (xs (i + (1 : Int32)).toNatClampNeg)]) (rest := []) C hp (w_xw_days hx) hX rfl q817 q818 q819 q88 q820 mdX0_days rfl ⟨(Nat.le_of_ble_eq_true rfl), (Nat.le_of_ble_eq_true rfl)⟩ (Nat.le_of_ble_eq_true rfl) dL_law_443 ⟨Nat.le_trans (Nat.le_add_right _ _) hcz, Nat.le_trans (Nat.le_add_right _ _) hsz⟩ (fun hp' => ?_)
  refine g_aload_n C dL_law_446 1 rfl ?_
  refine g_aload_n C dL_law_447 3 rfl ?_
  refine g_iload_n C dL_law_448 0 rfl ?_
  refine g_iconst C dL_law_449 kc_1 ?_
  refine g_iadd C dL_law_450 ?_
  refine l_sld C hS hbl hbA (hin _ (by decide)) dL_law_451 ?_
  refine l_callT (As := [.int (xs (i + (1 : Int32)).toNatClampNeg)]) (rest := [.int r]) C h0 (w_tw_days ht) hX rfl q1305 q1306 q1307 q91 q1308 mdX3_days rfl ⟨(Nat.le_of_ble_eq_true rfl), (Nat.le_of_ble_eq_true rfl)⟩ (Nat.le_of_ble_eq_true rfl) dL_law_452 ⟨Nat.le_trans (Nat.le_add_right _ _) hcz, Nat.le_trans (Nat.le_add_right _ _) hsz⟩ ?_
  refine g_icmp_eq 981 C dL_law_455 rfl (fun _ => ?_) (fun h => absurd rfl h)
  exact kk _ _ _ _ hrel' hp' rfl (Nat.le_add_right _ _) (Nat.le_add_right _ _)
theorem l_case10 {l : Launch} {n : Nat} {Rel : Sto → Sto → Prop} {g : Gam} {A : Nat → Prop} {X : FX} {b L : Nat} {xs : Nat → Int32} {i : Int32} {σx σt : Sto} {cz sz : Nat} (C : CX lCfg g A 4 X code "DoughDebtsLaw" (some .boolean) 8192 100000) (hX : X.2.1 = l) (hS : va_X b L xs X.2.2.2.2.1 X.2.2.2.2.1.heap) (hbl : b < X.2.2.2.2.1.heap.size) (hbA : ¬ A b) (hLO : LO10 n Rel) (hrel : Rel σx σt) (hp : pOK σx) (h0 : σt.2.2.2 = []) (hin : ∀ j : Int32, j ∈ [(1 : Int32), 2, 3, 4, 5] → inb (i + j) L = true) (hcz : cz + 3000 ≤ X.2.2.2.1.cells) (hsz : sz + 20000 ≤ X.2.2.2.1.slots)
    (kk : ∀ (σx' σt' : Sto) (cz' sz' : Nat), Rel σx' σt' → pOK σx' → σt'.2.2.2 = [] → cz' ≤ cz + 3000 → sz' ≤ sz + 20000 → TG lCfg g A 4 X cz' sz' (cmb σx' σt') 981 [(3, .int i), (2, .ref (g.1 342)), (1, .ref (g.1 0)), (0, .ref b)] []) : TG lCfg g A 4 X cz sz (cmb σx σt) 460 [(3, .int i), (2, .ref (g.1 342)), (1, .ref (g.1 0)), (0, .ref b)] [] := by
  obtain ⟨r, σx', σt', hx, ht, hrel'⟩ := hLO σx σt (xs (i + (1 : Int32)).toNatClampNeg) (xs (i + (2 : Int32)).toNatClampNeg) hrel
  refine g_aload_n C dL_law_460 2 rfl ?_
  refine g_aload_n C dL_law_461 3 rfl ?_
  refine g_iload_n C dL_law_462 0 rfl ?_
  refine g_iconst C dL_law_463 kc_1 ?_
  refine g_iadd C dL_law_464 ?_
  refine l_sld C hS hbl hbA (hin _ (by decide)) dL_law_465 ?_
  refine g_aload_n C dL_law_466 3 rfl ?_
  refine g_iload_n C dL_law_467 0 rfl ?_
  refine g_iconst C dL_law_468 kc_2 ?_
  refine g_iadd C dL_law_469 ?_
  refine l_sld C hS hbl hbA (hin _ (by decide)) dL_law_470 ?_
  refine l_callX (As := [.int (xs (i + (1 : Int32)).toNatClampNeg), .int (xs (i + (2 : Int32)).toNatClampNeg)]) (rest := []) C hp (w_xw_of hx) hX rfl q853 q854 q855 q88 q856 mdX0_of rfl ⟨(Nat.le_of_ble_eq_true rfl), (Nat.le_of_ble_eq_true rfl)⟩ (Nat.le_of_ble_eq_true rfl) dL_law_471 ⟨Nat.le_trans (Nat.le_add_right _ _) hcz, Nat.le_trans (Nat.le_add_right _ _) hsz⟩ (fun hp' => ?_)
  refine g_aload_n C dL_law_474 1 rfl ?_
  refine g_aload_n C dL_law_475 3 rfl ?_
  refine g_iload_n C dL_law_476 0 rfl ?_
  refine g_iconst C dL_law_477 kc_1 ?_
  refine g_iadd C dL_law_478 ?_
  refine l_sld C hS hbl hbA (hin _ (by decide)) dL_law_479 ?_
  refine g_aload_n C dL_law_480 3 rfl ?_
  refine g_iload_n C dL_law_481 0 rfl ?_
  refine g_iconst C dL_law_482 kc_2 ?_
  refine g_iadd C dL_law_483 ?_
  refine l_sld C hS hbl hbA (hin _ (by decide)) dL_law_484 ?_
  refine l_callT (As := [.int (xs (i + (1 : Int32)).toNatClampNeg), .int (xs (i + (2 : Int32)).toNatClampNeg)]) (rest := [.int r]) C h0 (w_tw_of ht) hX rfl q1331 q1332 q1333 q91 q1334 mdX3_of rfl ⟨(Nat.le_of_ble_eq_true rfl), (Nat.le_of_ble_eq_true rfl)⟩ (Nat.le_of_ble_eq_true rfl) dL_law_485 ⟨Nat.le_trans (Nat.le_add_right _ _) hcz, Nat.le_trans (Nat.le_add_right _ _) hsz⟩ ?_
  refine g_icmp_eq 981 C dL_law_488 rfl (fun _ => ?_) (fun h => absurd rfl h)
  exact kk _ _ _ _ hrel' hp' rfl (Nat.le_add_right _ _) (Nat.le_add_right _ _)
theorem l_case11 {l : Launch} {n : Nat} {Rel : Sto → Sto → Prop} {g : Gam} {A : Nat → Prop} {X : FX} {b L : Nat} {xs : Nat → Int32} {i : Int32} {σx σt : Sto} {cz sz : Nat} (C : CX lCfg g A 4 X code "DoughDebtsLaw" (some .boolean) 8192 100000) (hX : X.2.1 = l) (hS : va_X b L xs X.2.2.2.2.1 X.2.2.2.2.1.heap) (hbl : b < X.2.2.2.2.1.heap.size) (hbA : ¬ A b) (hLO : LO11 n Rel) (hrel : Rel σx σt) (hp : pOK σx) (h0 : σt.2.2.2 = []) (hin : ∀ j : Int32, j ∈ [(1 : Int32), 2, 3, 4, 5] → inb (i + j) L = true) (hcz : cz + 3000 ≤ X.2.2.2.1.cells) (hsz : sz + 20000 ≤ X.2.2.2.1.slots)
    (kk : ∀ (σx' σt' : Sto) (cz' sz' : Nat), Rel σx' σt' → pOK σx' → σt'.2.2.2 = [] → cz' ≤ cz + 3000 → sz' ≤ sz + 20000 → TG lCfg g A 4 X cz' sz' (cmb σx' σt') 981 [(3, .int i), (2, .ref (g.1 342)), (1, .ref (g.1 0)), (0, .ref b)] []) : TG lCfg g A 4 X cz sz (cmb σx σt) 493 [(3, .int i), (2, .ref (g.1 342)), (1, .ref (g.1 0)), (0, .ref b)] [] := by
  obtain ⟨r, σx', σt', hx, ht, hrel'⟩ := hLO σx σt (xs (i + (1 : Int32)).toNatClampNeg) hrel
  refine g_aload_n C dL_law_493 2 rfl ?_
  refine g_aload_n C dL_law_494 3 rfl ?_
  refine g_iload_n C dL_law_495 0 rfl ?_
  refine g_iconst C dL_law_496 kc_1 ?_
  refine g_iadd C dL_law_497 ?_
  refine l_sld C hS hbl hbA (hin _ (by decide)) dL_law_498 ?_
  refine l_callX (As := [.int (xs (i + (1 : Int32)).toNatClampNeg)]) (rest := []) C hp (w_xw_book hx) hX rfl q849 q850 q851 q88 q852 mdX0_book rfl ⟨(Nat.le_of_ble_eq_true rfl), (Nat.le_of_ble_eq_true rfl)⟩ (Nat.le_of_ble_eq_true rfl) dL_law_499 ⟨Nat.le_trans (Nat.le_add_right _ _) hcz, Nat.le_trans (Nat.le_add_right _ _) hsz⟩ (fun hp' => ?_)
  refine g_aload_n C dL_law_502 1 rfl ?_
  refine g_aload_n C dL_law_503 3 rfl ?_
  refine g_iload_n C dL_law_504 0 rfl ?_
  refine g_iconst C dL_law_505 kc_1 ?_
  refine g_iadd C dL_law_506 ?_
  refine l_sld C hS hbl hbA (hin _ (by decide)) dL_law_507 ?_
  refine l_callT (As := [.int (xs (i + (1 : Int32)).toNatClampNeg)]) (rest := [.int r]) C h0 (w_tw_book ht) hX rfl q1336 q1337 q1338 q91 q1339 mdX3_book rfl ⟨(Nat.le_of_ble_eq_true rfl), (Nat.le_of_ble_eq_true rfl)⟩ (Nat.le_of_ble_eq_true rfl) dL_law_508 ⟨Nat.le_trans (Nat.le_add_right _ _) hcz, Nat.le_trans (Nat.le_add_right _ _) hsz⟩ ?_
  refine g_icmp_eq 981 C dL_law_511 rfl (fun _ => ?_) (fun h => absurd rfl h)
  exact kk _ _ _ _ hrel' hp' rfl (Nat.le_add_right _ _) (Nat.le_add_right _ _)
theorem l_case12 {l : Launch} {n : Nat} {Rel : Sto → Sto → Prop} {g : Gam} {A : Nat → Prop} {X : FX} {b L : Nat} {xs : Nat → Int32} {i : Int32} {σx σt : Sto} {cz sz : Nat} (C : CX lCfg g A 4 X code "DoughDebtsLaw" (some .boolean) 8192 100000) (hX : X.2.1 = l) (hS : va_X b L xs X.2.2.2.2.1 X.2.2.2.2.1.heap) (hbl : b < X.2.2.2.2.1.heap.size) (hbA : ¬ A b) (hLO : LO12 n Rel) (hrel : Rel σx σt) (hp : pOK σx) (h0 : σt.2.2.2 = []) (hin : ∀ j : Int32, j ∈ [(1 : Int32), 2, 3, 4, 5] → inb (i + j) L = true) (hcz : cz + 3000 ≤ X.2.2.2.1.cells) (hsz : sz + 20000 ≤ X.2.2.2.1.slots)
    (kk : ∀ (σx' σt' : Sto) (cz' sz' : Nat), Rel σx' σt' → pOK σx' → σt'.2.2.2 = [] → cz' ≤ cz + 3000 → sz' ≤ sz + 20000 → TG lCfg g A 4 X cz' sz' (cmb σx' σt') 981 [(3, .int i), (2, .ref (g.1 342)), (1, .ref (g.1 0)), (0, .ref b)] []) : TG lCfg g A 4 X cz sz (cmb σx σt) 516 [(3, .int i), (2, .ref (g.1 342)), (1, .ref (g.1 0)), (0, .ref b)] [] := by
  obtain ⟨r, σt', ht, hx⟩ := hLO σx σt (xs (i + (1 : Int32)).toNatClampNeg) hrel
  refine g_aload_n C dL_law_516 2 rfl ?_
  refine g_aload_n C dL_law_517 3 rfl ?_
  refine g_iload_n C dL_law_518 0 rfl ?_
  refine g_iconst C dL_law_519 kc_1 ?_
  refine g_iadd C dL_law_520 ?_
  refine l_sld C hS hbl hbA (hin _ (by decide)) dL_law_521 ?_
  refine l_callXw (As := [.int (xs (i + (1 : Int32)).toNatClampNeg)]) (rest := []) C hp (w_yw_gain hx) hX rfl q858 q859 q860 q88 q861 mdX0_gain rfl ⟨(Nat.le_of_ble_eq_true rfl), (Nat.le_of_ble_eq_true rfl)⟩ (Nat.le_of_ble_eq_true rfl) dL_law_522 ⟨hcz, hsz⟩ (fun r1 σx' hR hp' => ?_)
  obtain ⟨rfl, hrel'⟩ := hR
  refine g_aload_n C dL_law_525 1 rfl ?_
  refine g_aload_n C dL_law_526 3 rfl ?_
  refine g_iload_n C dL_law_527 0 rfl ?_
  refine g_iconst C dL_law_528 kc_1 ?_
  refine g_iadd C dL_law_529 ?_
  refine l_sld C hS hbl hbA (hin _ (by decide)) dL_law_530 ?_
  refine l_callT (As := [.int (xs (i + (1 : Int32)).toNatClampNeg)]) (rest := [.int r1]) C h0 (w_tw_gain ht) hX rfl q1340 q1341 q1342 q91 q1343 mdX3_gain rfl ⟨(Nat.le_of_ble_eq_true rfl), (Nat.le_of_ble_eq_true rfl)⟩ (Nat.le_of_ble_eq_true rfl) dL_law_531 ⟨hcz, hsz⟩ ?_
  refine g_icmp_eq 981 C dL_law_534 rfl (fun _ => ?_) (fun h => absurd rfl h)
  exact kk _ _ _ _ hrel' hp' rfl (Nat.le_refl _) (Nat.le_refl _)
theorem l_case13 {l : Launch} {n : Nat} {Rel : Sto → Sto → Prop} {g : Gam} {A : Nat → Prop} {X : FX} {b L : Nat} {xs : Nat → Int32} {i : Int32} {σx σt : Sto} {cz sz : Nat} (C : CX lCfg g A 4 X code "DoughDebtsLaw" (some .boolean) 8192 100000) (hX : X.2.1 = l) (hS : va_X b L xs X.2.2.2.2.1 X.2.2.2.2.1.heap) (hbl : b < X.2.2.2.2.1.heap.size) (hbA : ¬ A b) (hLO : LO13 n Rel) (hrel : Rel σx σt) (hp : pOK σx) (h0 : σt.2.2.2 = []) (hin : ∀ j : Int32, j ∈ [(1 : Int32), 2, 3, 4, 5] → inb (i + j) L = true) (hcz : cz + 3000 ≤ X.2.2.2.1.cells) (hsz : sz + 20000 ≤ X.2.2.2.1.slots)
    (kk : ∀ (σx' σt' : Sto) (cz' sz' : Nat), Rel σx' σt' → pOK σx' → σt'.2.2.2 = [] → cz' ≤ cz + 3000 → sz' ≤ sz + 20000 → TG lCfg g A 4 X cz' sz' (cmb σx' σt') 981 [(3, .int i), (2, .ref (g.1 342)), (1, .ref (g.1 0)), (0, .ref b)] []) : TG lCfg g A 4 X cz sz (cmb σx σt) 539 [(3, .int i), (2, .ref (g.1 342)), (1, .ref (g.1 0)), (0, .ref b)] [] := by
  obtain ⟨r, σx', σt', hx, ht, hrel'⟩ := hLO σx σt (xs (i + (1 : Int32)).toNatClampNeg) hrel
  refine g_aload_n C dL_law_539 2 rfl ?_
  refine g_aload_n C dL_law_540 3 rfl ?_
  refine g_iload_n C dL_law_541 0 rfl ?_
  refine g_iconst C dL_law_542 kc_1 ?_
  refine g_iadd C dL_law_543 ?_
  refine l_sld C hS hbl hbA (hin _ (by decide)) dL_law_544 ?_
  refine l_callX (As := [.int (xs (i + (1 : Int32)).toNatClampNeg)]) (rest := []) C hp (w_xw_orders hx) hX rfl q870 q871 q872 q88 q873 mdX0_orders rfl ⟨(Nat.le_of_ble_eq_true rfl), (Nat.le_of_ble_eq_true rfl)⟩ (Nat.le_of_ble_eq_true rfl) dL_law_545 ⟨Nat.le_trans (Nat.le_add_right _ _) hcz, Nat.le_trans (Nat.le_add_right _ _) hsz⟩ (fun hp' => ?_)
  refine g_aload_n C dL_law_548 1 rfl ?_
  refine g_aload_n C dL_law_549 3 rfl ?_
  refine g_iload_n C dL_law_550 0 rfl ?_
  refine g_iconst C dL_law_551 kc_1 ?_
  refine g_iadd C dL_law_552 ?_
  refine l_sld C hS hbl hbA (hin _ (by decide)) dL_law_553 ?_
  refine l_callT (As := [.int (xs (i + (1 : Int32)).toNatClampNeg)]) (rest := [.int r]) C h0 (w_tw_orders ht) hX rfl q1352 q1353 q1354 q91 q1355 mdX3_orders rfl ⟨(Nat.le_of_ble_eq_true rfl), (Nat.le_of_ble_eq_true rfl)⟩ (Nat.le_of_ble_eq_true rfl) dL_law_554 ⟨Nat.le_trans (Nat.le_add_right _ _) hcz, Nat.le_trans (Nat.le_add_right _ _) hsz⟩ ?_
  refine g_icmp_eq 981 C dL_law_557 rfl (fun _ => ?_) (fun h => absurd rfl h)
  exact kk _ _ _ _ hrel' hp' rfl (Nat.le_add_right _ _) (Nat.le_add_right _ _)
theorem l_case14 {l : Launch} {n : Nat} {Rel : Sto → Sto → Prop} {g : Gam} {A : Nat → Prop} {X : FX} {b L : Nat} {xs : Nat → Int32} {i : Int32} {σx σt : Sto} {cz sz : Nat} (C : CX lCfg g A 4 X code "DoughDebtsLaw" (some .boolean) 8192 100000) (hX : X.2.1 = l) (hS : va_X b L xs X.2.2.2.2.1 X.2.2.2.2.1.heap) (hbl : b < X.2.2.2.2.1.heap.size) (hbA : ¬ A b) (hLO : LO14 n Rel) (hrel : Rel σx σt) (hp : pOK σx) (h0 : σt.2.2.2 = []) (hin : ∀ j : Int32, j ∈ [(1 : Int32), 2, 3, 4, 5] → inb (i + j) L = true) (hcz : cz + 3000 ≤ X.2.2.2.1.cells) (hsz : sz + 20000 ≤ X.2.2.2.1.slots)
    (kk : ∀ (σx' σt' : Sto) (cz' sz' : Nat), Rel σx' σt' → pOK σx' → σt'.2.2.2 = [] → cz' ≤ cz + 3000 → sz' ≤ sz + 20000 → TG lCfg g A 4 X cz' sz' (cmb σx' σt') 981 [(3, .int i), (2, .ref (g.1 342)), (1, .ref (g.1 0)), (0, .ref b)] []) : TG lCfg g A 4 X cz sz (cmb σx σt) 562 [(3, .int i), (2, .ref (g.1 342)), (1, .ref (g.1 0)), (0, .ref b)] [] := by
  obtain ⟨r, σx', σt', hx, ht, hrel'⟩ := hLO σx σt (xs (i + (1 : Int32)).toNatClampNeg) hrel
  refine g_aload_n C dL_law_562 2 rfl ?_
  refine g_aload_n C dL_law_563 3 rfl ?_
  refine g_iload_n C dL_law_564 0 rfl ?_
  refine g_iconst C dL_law_565 kc_1 ?_
  refine g_iadd C dL_law_566 ?_
  refine l_sld C hS hbl hbA (hin _ (by decide)) dL_law_567 ?_
  refine l_callX (As := [.int (xs (i + (1 : Int32)).toNatClampNeg)]) (rest := []) C hp (w_xw_round hx) hX rfl q901 q902 q903 q88 q904 mdX0_round rfl ⟨(Nat.le_of_ble_eq_true rfl), (Nat.le_of_ble_eq_true rfl)⟩ (Nat.le_of_ble_eq_true rfl) dL_law_568 ⟨Nat.le_trans (Nat.le_add_right _ _) hcz, Nat.le_trans (Nat.le_add_right _ _) hsz⟩ (fun hp' => ?_)
  refine g_aload_n C dL_law_571 1 rfl ?_
  refine g_aload_n C dL_law_572 3 rfl ?_
  refine g_iload_n C dL_law_573 0 rfl ?_
  refine g_iconst C dL_law_574 kc_1 ?_
  refine g_iadd C dL_law_575 ?_
  refine l_sld C hS hbl hbA (hin _ (by decide)) dL_law_576 ?_
  refine l_callT (As := [.int (xs (i + (1 : Int32)).toNatClampNeg)]) (rest := [.int r]) C h0 (w_tw_round ht) hX rfl q1380 q1381 q1382 q91 q1383 mdX3_round rfl ⟨(Nat.le_of_ble_eq_true rfl), (Nat.le_of_ble_eq_true rfl)⟩ (Nat.le_of_ble_eq_true rfl) dL_law_577 ⟨Nat.le_trans (Nat.le_add_right _ _) hcz, Nat.le_trans (Nat.le_add_right _ _) hsz⟩ ?_
  refine g_icmp_eq 981 C dL_law_580 rfl (fun _ => ?_) (fun h => absurd rfl h)
  exact kk _ _ _ _ hrel' hp' rfl (Nat.le_add_right _ _) (Nat.le_add_right _ _)
theorem l_case15 {l : Launch} {n : Nat} {Rel : Sto → Sto → Prop} {g : Gam} {A : Nat → Prop} {X : FX} {b L : Nat} {xs : Nat → Int32} {i : Int32} {σx σt : Sto} {cz sz : Nat} (C : CX lCfg g A 4 X code "DoughDebtsLaw" (some .boolean) 8192 100000) (hX : X.2.1 = l) (hS : va_X b L xs X.2.2.2.2.1 X.2.2.2.2.1.heap) (hbl : b < X.2.2.2.2.1.heap.size) (hbA : ¬ A b) (hLO : LO15 n Rel) (hrel : Rel σx σt) (hp : pOK σx) (h0 : σt.2.2.2 = []) (hin : ∀ j : Int32, j ∈ [(1 : Int32), 2, 3, 4, 5] → inb (i + j) L = true) (hcz : cz + 3000 ≤ X.2.2.2.1.cells) (hsz : sz + 20000 ≤ X.2.2.2.1.slots)
    (kk : ∀ (σx' σt' : Sto) (cz' sz' : Nat), Rel σx' σt' → pOK σx' → σt'.2.2.2 = [] → cz' ≤ cz + 3000 → sz' ≤ sz + 20000 → TG lCfg g A 4 X cz' sz' (cmb σx' σt') 981 [(3, .int i), (2, .ref (g.1 342)), (1, .ref (g.1 0)), (0, .ref b)] []) : TG lCfg g A 4 X cz sz (cmb σx σt) 585 [(3, .int i), (2, .ref (g.1 342)), (1, .ref (g.1 0)), (0, .ref b)] [] := by
  obtain ⟨r, σx', σt', hx, ht, hrel'⟩ := hLO σx σt (xs (i + (1 : Int32)).toNatClampNeg) hrel
  refine g_aload_n C dL_law_585 2 rfl ?_
  refine g_aload_n C dL_law_586 3 rfl ?_
  refine g_iload_n C dL_law_587 0 rfl ?_
  refine g_iconst C dL_law_588 kc_1 ?_
  refine g_iadd C dL_law_589 ?_
  refine l_sld C hS hbl hbA (hin _ (by decide)) dL_law_590 ?_
  refine l_callX (As := [.int (xs (i + (1 : Int32)).toNatClampNeg)]) (rest := []) C hp (w_xw_least hx) hX rfl q897 q898 q899 q88 q900 mdX0_least rfl ⟨(Nat.le_of_ble_eq_true rfl), (Nat.le_of_ble_eq_true rfl)⟩ (Nat.le_of_ble_eq_true rfl) dL_law_591 ⟨Nat.le_trans (Nat.le_add_right _ _) hcz, Nat.le_trans (Nat.le_add_right _ _) hsz⟩ (fun hp' => ?_)
  refine g_aload_n C dL_law_594 1 rfl ?_
  refine g_aload_n C dL_law_595 3 rfl ?_
  refine g_iload_n C dL_law_596 0 rfl ?_
  refine g_iconst C dL_law_597 kc_1 ?_
  refine g_iadd C dL_law_598 ?_
  refine l_sld C hS hbl hbA (hin _ (by decide)) dL_law_599 ?_
  refine l_callT (As := [.int (xs (i + (1 : Int32)).toNatClampNeg)]) (rest := [.int r]) C h0 (w_tw_least ht) hX rfl q1376 q1377 q1378 q91 q1379 mdX3_least rfl ⟨(Nat.le_of_ble_eq_true rfl), (Nat.le_of_ble_eq_true rfl)⟩ (Nat.le_of_ble_eq_true rfl) dL_law_600 ⟨Nat.le_trans (Nat.le_add_right _ _) hcz, Nat.le_trans (Nat.le_add_right _ _) hsz⟩ ?_
  refine g_icmp_eq 981 C dL_law_603 rfl (fun _ => ?_) (fun h => absurd rfl h)
  exact kk _ _ _ _ hrel' hp' rfl (Nat.le_add_right _ _) (Nat.le_add_right _ _)
theorem l_case16 {l : Launch} {n : Nat} {Rel : Sto → Sto → Prop} {g : Gam} {A : Nat → Prop} {X : FX} {b L : Nat} {xs : Nat → Int32} {i : Int32} {σx σt : Sto} {cz sz : Nat} (C : CX lCfg g A 4 X code "DoughDebtsLaw" (some .boolean) 8192 100000) (hX : X.2.1 = l) (hS : va_X b L xs X.2.2.2.2.1 X.2.2.2.2.1.heap) (hbl : b < X.2.2.2.2.1.heap.size) (hbA : ¬ A b) (hLO : LO16 n Rel) (hrel : Rel σx σt) (hp : pOK σx) (h0 : σt.2.2.2 = []) (hin : ∀ j : Int32, j ∈ [(1 : Int32), 2, 3, 4, 5] → inb (i + j) L = true) (hcz : cz + 3000 ≤ X.2.2.2.1.cells) (hsz : sz + 20000 ≤ X.2.2.2.1.slots)
    (kk : ∀ (σx' σt' : Sto) (cz' sz' : Nat), Rel σx' σt' → pOK σx' → σt'.2.2.2 = [] → cz' ≤ cz + 3000 → sz' ≤ sz + 20000 → TG lCfg g A 4 X cz' sz' (cmb σx' σt') 981 [(3, .int i), (2, .ref (g.1 342)), (1, .ref (g.1 0)), (0, .ref b)] []) : TG lCfg g A 4 X cz sz (cmb σx σt) 608 [(3, .int i), (2, .ref (g.1 342)), (1, .ref (g.1 0)), (0, .ref b)] [] := by
  obtain ⟨r, σt', ht, hx⟩ := hLO σx σt (xs (i + (1 : Int32)).toNatClampNeg) (xs (i + (2 : Int32)).toNatClampNeg) hrel
  refine g_aload_n C dL_law_608 2 rfl ?_
  refine g_aload_n C dL_law_609 3 rfl ?_
  refine g_iload_n C dL_law_610 0 rfl ?_
  refine g_iconst C dL_law_611 kc_1 ?_
  refine g_iadd C dL_law_612 ?_
  refine l_sld C hS hbl hbA (hin _ (by decide)) dL_law_613 ?_
  refine g_aload_n C dL_law_614 3 rfl ?_
  refine g_iload_n C dL_law_615 0 rfl ?_
  refine g_iconst C dL_law_616 kc_2 ?_
  refine g_iadd C dL_law_617 ?_
  refine l_sld C hS hbl hbA (hin _ (by decide)) dL_law_618 ?_
  refine l_callXw (As := [.int (xs (i + (1 : Int32)).toNatClampNeg), .int (xs (i + (2 : Int32)).toNatClampNeg)]) (rest := []) C hp (w_yw_leaven hx) hX rfl q909 q910 q911 q88 q912 mdX0_leaven rfl ⟨(Nat.le_of_ble_eq_true rfl), (Nat.le_of_ble_eq_true rfl)⟩ (Nat.le_of_ble_eq_true rfl) dL_law_619 ⟨hcz, hsz⟩ (fun r1 σx' hR hp' => ?_)
  obtain ⟨rfl, hrel'⟩ := hR
  refine g_aload_n C dL_law_622 1 rfl ?_
  refine g_aload_n C dL_law_623 3 rfl ?_
  refine g_iload_n C dL_law_624 0 rfl ?_
  refine g_iconst C dL_law_625 kc_1 ?_
  refine g_iadd C dL_law_626 ?_
  refine l_sld C hS hbl hbA (hin _ (by decide)) dL_law_627 ?_
  refine g_aload_n C dL_law_628 3 rfl ?_
  refine g_iload_n C dL_law_629 0 rfl ?_
  refine g_iconst C dL_law_630 kc_2 ?_
  refine g_iadd C dL_law_631 ?_
  refine l_sld C hS hbl hbA (hin _ (by decide)) dL_law_632 ?_
  refine l_callT (As := [.int (xs (i + (1 : Int32)).toNatClampNeg), .int (xs (i + (2 : Int32)).toNatClampNeg)]) (rest := [.int r1]) C h0 (w_tw_leaven ht) hX rfl q1388 q1389 q1390 q91 q1391 mdX3_leaven rfl ⟨(Nat.le_of_ble_eq_true rfl), (Nat.le_of_ble_eq_true rfl)⟩ (Nat.le_of_ble_eq_true rfl) dL_law_633 ⟨hcz, hsz⟩ ?_
  refine g_icmp_eq 981 C dL_law_636 rfl (fun _ => ?_) (fun h => absurd rfl h)
  exact kk _ _ _ _ hrel' hp' rfl (Nat.le_refl _) (Nat.le_refl _)
theorem l_case17 {l : Launch} {n : Nat} {Rel : Sto → Sto → Prop} {g : Gam} {A : Nat → Prop} {X : FX} {b L : Nat} {xs : Nat → Int32} {i : Int32} {σx σt : Sto} {cz sz : Nat} (C : CX lCfg g A 4 X code "DoughDebtsLaw" (some .boolean) 8192 100000) (hX : X.2.1 = l) (hS : va_X b L xs X.2.2.2.2.1 X.2.2.2.2.1.heap) (hbl : b < X.2.2.2.2.1.heap.size) (hbA : ¬ A b) (hLO : LO17 n Rel) (hrel : Rel σx σt) (hp : pOK σx) (h0 : σt.2.2.2 = []) (hin : ∀ j : Int32, j ∈ [(1 : Int32), 2, 3, 4, 5] → inb (i + j) L = true) (hcz : cz + 3000 ≤ X.2.2.2.1.cells) (hsz : sz + 20000 ≤ X.2.2.2.1.slots)
    (kk : ∀ (σx' σt' : Sto) (cz' sz' : Nat), Rel σx' σt' → pOK σx' → σt'.2.2.2 = [] → cz' ≤ cz + 3000 → sz' ≤ sz + 20000 → TG lCfg g A 4 X cz' sz' (cmb σx' σt') 981 [(3, .int i), (2, .ref (g.1 342)), (1, .ref (g.1 0)), (0, .ref b)] []) : TG lCfg g A 4 X cz sz (cmb σx σt) 641 [(3, .int i), (2, .ref (g.1 342)), (1, .ref (g.1 0)), (0, .ref b)] [] := by
  obtain ⟨r, σx', σt', hx, ht, hrel'⟩ := hLO σx σt (xs (i + (1 : Int32)).toNatClampNeg) (xs (i + (2 : Int32)).toNatClampNeg) (xs (i + (3 : Int32)).toNatClampNeg) hrel
  refine g_aload_n C dL_law_641 2 rfl ?_
  refine g_aload_n C dL_law_642 3 rfl ?_
  refine g_iload_n C dL_law_643 0 rfl ?_
  refine g_iconst C dL_law_644 kc_1 ?_
  refine g_iadd C dL_law_645 ?_
  refine l_sld C hS hbl hbA (hin _ (by decide)) dL_law_646 ?_
  refine g_aload_n C dL_law_647 3 rfl ?_
  refine g_iload_n C dL_law_648 0 rfl ?_
  refine g_iconst C dL_law_649 kc_2 ?_
  refine g_iadd C dL_law_650 ?_
  refine l_sld C hS hbl hbA (hin _ (by decide)) dL_law_651 ?_
  refine g_aload_n C dL_law_652 3 rfl ?_
  refine g_iload_n C dL_law_653 0 rfl ?_
  refine g_iconst C dL_law_654 kc_3 ?_
  refine g_iadd C dL_law_655 ?_
  refine l_sld C hS hbl hbA (hin _ (by decide)) dL_law_656 ?_
  refine l_callX (As := [.int (xs (i + (1 : Int32)).toNatClampNeg), .int (xs (i + (2 : Int32)).toNatClampNeg), .int (xs (i + (3 : Int32)).toNatClampNeg)]) (rest := []) C hp (w_xw_part hx) hX rfl q939 q940 q941 q88 q942 mdX0_part rfl ⟨(Nat.le_of_ble_eq_true rfl), (Nat.le_of_ble_eq_true rfl)⟩ (Nat.le_of_ble_eq_true rfl) dL_law_657 ⟨Nat.le_trans (Nat.le_add_right _ _) hcz, Nat.le_trans (Nat.le_add_right _ _) hsz⟩ (fun hp' => ?_)
  refine g_aload_n C dL_law_660 1 rfl ?_
  refine g_aload_n C dL_law_661 3 rfl ?_
  refine g_iload_n C dL_law_662 0 rfl ?_
  refine g_iconst C dL_law_663 kc_1 ?_
  refine g_iadd C dL_law_664 ?_
  refine l_sld C hS hbl hbA (hin _ (by decide)) dL_law_665 ?_
  refine g_aload_n C dL_law_666 3 rfl ?_
  refine g_iload_n C dL_law_667 0 rfl ?_
  refine g_iconst C dL_law_668 kc_2 ?_
  refine g_iadd C dL_law_669 ?_
  refine l_sld C hS hbl hbA (hin _ (by decide)) dL_law_670 ?_
  refine g_aload_n C dL_law_671 3 rfl ?_
  refine g_iload_n C dL_law_672 0 rfl ?_
  refine g_iconst C dL_law_673 kc_3 ?_
  refine g_iadd C dL_law_674 ?_
  refine l_sld C hS hbl hbA (hin _ (by decide)) dL_law_675 ?_
  refine l_callT (As := [.int (xs (i + (1 : Int32)).toNatClampNeg), .int (xs (i + (2 : Int32)).toNatClampNeg), .int (xs (i + (3 : Int32)).toNatClampNeg)]) (rest := [.int r]) C h0 (w_tw_part ht) hX rfl q1400 q1401 q1402 q91 q1403 mdX3_part rfl ⟨(Nat.le_of_ble_eq_true rfl), (Nat.le_of_ble_eq_true rfl)⟩ (Nat.le_of_ble_eq_true rfl) dL_law_676 ⟨Nat.le_trans (Nat.le_add_right _ _) hcz, Nat.le_trans (Nat.le_add_right _ _) hsz⟩ ?_
  refine g_icmp_eq 981 C dL_law_679 rfl (fun _ => ?_) (fun h => absurd rfl h)
  exact kk _ _ _ _ hrel' hp' rfl (Nat.le_add_right _ _) (Nat.le_add_right _ _)
theorem l_case18 {l : Launch} {n : Nat} {Rel : Sto → Sto → Prop} {g : Gam} {A : Nat → Prop} {X : FX} {b L : Nat} {xs : Nat → Int32} {i : Int32} {σx σt : Sto} {cz sz : Nat} (C : CX lCfg g A 4 X code "DoughDebtsLaw" (some .boolean) 8192 100000) (hX : X.2.1 = l) (hS : va_X b L xs X.2.2.2.2.1 X.2.2.2.2.1.heap) (hbl : b < X.2.2.2.2.1.heap.size) (hbA : ¬ A b) (hLO : LO18 n Rel) (hrel : Rel σx σt) (hp : pOK σx) (h0 : σt.2.2.2 = []) (hin : ∀ j : Int32, j ∈ [(1 : Int32), 2, 3, 4, 5] → inb (i + j) L = true) (hcz : cz + 3000 ≤ X.2.2.2.1.cells) (hsz : sz + 20000 ≤ X.2.2.2.1.slots)
    (kk : ∀ (σx' σt' : Sto) (cz' sz' : Nat), Rel σx' σt' → pOK σx' → σt'.2.2.2 = [] → cz' ≤ cz + 3000 → sz' ≤ sz + 20000 → TG lCfg g A 4 X cz' sz' (cmb σx' σt') 981 [(3, .int i), (2, .ref (g.1 342)), (1, .ref (g.1 0)), (0, .ref b)] []) : TG lCfg g A 4 X cz sz (cmb σx σt) 684 [(3, .int i), (2, .ref (g.1 342)), (1, .ref (g.1 0)), (0, .ref b)] [] := by
  obtain ⟨r, σx', σt', hx, ht, hrel'⟩ := hLO σx σt (xs (i + (1 : Int32)).toNatClampNeg) (xs (i + (2 : Int32)).toNatClampNeg) hrel
  refine g_aload_n C dL_law_684 2 rfl ?_
  refine g_aload_n C dL_law_685 3 rfl ?_
  refine g_iload_n C dL_law_686 0 rfl ?_
  refine g_iconst C dL_law_687 kc_1 ?_
  refine g_iadd C dL_law_688 ?_
  refine l_sld C hS hbl hbA (hin _ (by decide)) dL_law_689 ?_
  refine g_aload_n C dL_law_690 3 rfl ?_
  refine g_iload_n C dL_law_691 0 rfl ?_
  refine g_iconst C dL_law_692 kc_2 ?_
  refine g_iadd C dL_law_693 ?_
  refine l_sld C hS hbl hbA (hin _ (by decide)) dL_law_694 ?_
  refine l_callX (As := [.int (xs (i + (1 : Int32)).toNatClampNeg), .int (xs (i + (2 : Int32)).toNatClampNeg)]) (rest := []) C hp (w_xw_lent hx) hX rfl q952 q953 q954 q88 q955 mdX0_lent rfl ⟨(Nat.le_of_ble_eq_true rfl), (Nat.le_of_ble_eq_true rfl)⟩ (Nat.le_of_ble_eq_true rfl) dL_law_695 ⟨Nat.le_trans (Nat.le_add_right _ _) hcz, Nat.le_trans (Nat.le_add_right _ _) hsz⟩ (fun hp' => ?_)
  refine g_aload_n C dL_law_698 1 rfl ?_
  refine g_aload_n C dL_law_699 3 rfl ?_
  refine g_iload_n C dL_law_700 0 rfl ?_
  refine g_iconst C dL_law_701 kc_1 ?_
  refine g_iadd C dL_law_702 ?_
  refine l_sld C hS hbl hbA (hin _ (by decide)) dL_law_703 ?_
  refine g_aload_n C dL_law_704 3 rfl ?_
  refine g_iload_n C dL_law_705 0 rfl ?_
  refine g_iconst C dL_law_706 kc_2 ?_
  refine g_iadd C dL_law_707 ?_
  refine l_sld C hS hbl hbA (hin _ (by decide)) dL_law_708 ?_
  refine l_callT (As := [.int (xs (i + (1 : Int32)).toNatClampNeg), .int (xs (i + (2 : Int32)).toNatClampNeg)]) (rest := [.int r]) C h0 (w_tw_lent ht) hX rfl q1417 q1418 q1419 q91 q1420 mdX3_lent rfl ⟨(Nat.le_of_ble_eq_true rfl), (Nat.le_of_ble_eq_true rfl)⟩ (Nat.le_of_ble_eq_true rfl) dL_law_709 ⟨Nat.le_trans (Nat.le_add_right _ _) hcz, Nat.le_trans (Nat.le_add_right _ _) hsz⟩ ?_
  refine g_icmp_eq 981 C dL_law_712 rfl (fun _ => ?_) (fun h => absurd rfl h)
  exact kk _ _ _ _ hrel' hp' rfl (Nat.le_add_right _ _) (Nat.le_add_right _ _)
theorem l_case19 {l : Launch} {n : Nat} {Rel : Sto → Sto → Prop} {g : Gam} {A : Nat → Prop} {X : FX} {b L : Nat} {xs : Nat → Int32} {i : Int32} {σx σt : Sto} {cz sz : Nat} (C : CX lCfg g A 4 X code "DoughDebtsLaw" (some .boolean) 8192 100000) (hX : X.2.1 = l) (hS : va_X b L xs X.2.2.2.2.1 X.2.2.2.2.1.heap) (hbl : b < X.2.2.2.2.1.heap.size) (hbA : ¬ A b) (hLO : LO19 n Rel) (hrel : Rel σx σt) (hp : pOK σx) (h0 : σt.2.2.2 = []) (hin : ∀ j : Int32, j ∈ [(1 : Int32), 2, 3, 4, 5] → inb (i + j) L = true) (hcz : cz + 3000 ≤ X.2.2.2.1.cells) (hsz : sz + 20000 ≤ X.2.2.2.1.slots)
    (kk : ∀ (σx' σt' : Sto) (cz' sz' : Nat), Rel σx' σt' → pOK σx' → σt'.2.2.2 = [] → cz' ≤ cz + 3000 → sz' ≤ sz + 20000 → TG lCfg g A 4 X cz' sz' (cmb σx' σt') 981 [(3, .int i), (2, .ref (g.1 342)), (1, .ref (g.1 0)), (0, .ref b)] []) : TG lCfg g A 4 X cz sz (cmb σx σt) 717 [(3, .int i), (2, .ref (g.1 342)), (1, .ref (g.1 0)), (0, .ref b)] [] := by
  obtain ⟨r, σx', σt', hx, ht, hrel'⟩ := hLO σx σt (xs (i + (1 : Int32)).toNatClampNeg) (xs (i + (2 : Int32)).toNatClampNeg) hrel
  refine g_aload_n C dL_law_717 2 rfl ?_
  refine g_aload_n C dL_law_718 3 rfl ?_
  refine g_iload_n C dL_law_719 0 rfl ?_
  refine g_iconst C dL_law_720 kc_1 ?_
  refine g_iadd C dL_law_721 ?_
  refine l_sld C hS hbl hbA (hin _ (by decide)) dL_law_722 ?_
  refine g_aload_n C dL_law_723 3 rfl ?_
  refine g_iload_n C dL_law_724 0 rfl ?_
  refine g_iconst C dL_law_725 kc_2 ?_
  refine g_iadd C dL_law_726 ?_
  refine l_sld C hS hbl hbA (hin _ (by decide)) dL_law_727 ?_
  refine l_callX (As := [.int (xs (i + (1 : Int32)).toNatClampNeg), .int (xs (i + (2 : Int32)).toNatClampNeg)]) (rest := []) C hp (w_xw_led hx) hX rfl q970 q971 q972 q88 q973 mdX0_led rfl ⟨(Nat.le_of_ble_eq_true rfl), (Nat.le_of_ble_eq_true rfl)⟩ (Nat.le_of_ble_eq_true rfl) dL_law_728 ⟨Nat.le_trans (Nat.le_add_right _ _) hcz, Nat.le_trans (Nat.le_add_right _ _) hsz⟩ (fun hp' => ?_)
  refine g_aload_n C dL_law_731 1 rfl ?_
  refine g_aload_n C dL_law_732 3 rfl ?_
  refine g_iload_n C dL_law_733 0 rfl ?_
  refine g_iconst C dL_law_734 kc_1 ?_
  refine g_iadd C dL_law_735 ?_
  refine l_sld C hS hbl hbA (hin _ (by decide)) dL_law_736 ?_
  refine g_aload_n C dL_law_737 3 rfl ?_
  refine g_iload_n C dL_law_738 0 rfl ?_
  refine g_iconst C dL_law_739 kc_2 ?_
  refine g_iadd C dL_law_740 ?_
  refine l_sld C hS hbl hbA (hin _ (by decide)) dL_law_741 ?_
  refine l_callT (As := [.int (xs (i + (1 : Int32)).toNatClampNeg), .int (xs (i + (2 : Int32)).toNatClampNeg)]) (rest := [.int r]) C h0 (w_tw_led ht) hX rfl q1409 q1410 q1411 q91 q1412 mdX3_led rfl ⟨(Nat.le_of_ble_eq_true rfl), (Nat.le_of_ble_eq_true rfl)⟩ (Nat.le_of_ble_eq_true rfl) dL_law_742 ⟨Nat.le_trans (Nat.le_add_right _ _) hcz, Nat.le_trans (Nat.le_add_right _ _) hsz⟩ ?_
  refine g_icmp_eq 981 C dL_law_745 rfl (fun _ => ?_) (fun h => absurd rfl h)
  exact kk _ _ _ _ hrel' hp' rfl (Nat.le_add_right _ _) (Nat.le_add_right _ _)
theorem l_case20 {l : Launch} {n : Nat} {Rel : Sto → Sto → Prop} {g : Gam} {A : Nat → Prop} {X : FX} {b L : Nat} {xs : Nat → Int32} {i : Int32} {σx σt : Sto} {cz sz : Nat} (C : CX lCfg g A 4 X code "DoughDebtsLaw" (some .boolean) 8192 100000) (hX : X.2.1 = l) (hS : va_X b L xs X.2.2.2.2.1 X.2.2.2.2.1.heap) (hbl : b < X.2.2.2.2.1.heap.size) (hbA : ¬ A b) (hLO : LO20 n Rel) (hrel : Rel σx σt) (hp : pOK σx) (h0 : σt.2.2.2 = []) (hin : ∀ j : Int32, j ∈ [(1 : Int32), 2, 3, 4, 5] → inb (i + j) L = true) (hcz : cz + 3000 ≤ X.2.2.2.1.cells) (hsz : sz + 20000 ≤ X.2.2.2.1.slots)
    (kk : ∀ (σx' σt' : Sto) (cz' sz' : Nat), Rel σx' σt' → pOK σx' → σt'.2.2.2 = [] → cz' ≤ cz + 3000 → sz' ≤ sz + 20000 → TG lCfg g A 4 X cz' sz' (cmb σx' σt') 981 [(3, .int i), (2, .ref (g.1 342)), (1, .ref (g.1 0)), (0, .ref b)] []) : TG lCfg g A 4 X cz sz (cmb σx σt) 750 [(3, .int i), (2, .ref (g.1 342)), (1, .ref (g.1 0)), (0, .ref b)] [] := by
  obtain ⟨r, σx', σt', hx, ht, hrel'⟩ := hLO σx σt (xs (i + (1 : Int32)).toNatClampNeg) (xs (i + (2 : Int32)).toNatClampNeg) (xs (i + (3 : Int32)).toNatClampNeg) hrel
  refine g_aload_n C dL_law_750 2 rfl ?_
  refine g_aload_n C dL_law_751 3 rfl ?_
  refine g_iload_n C dL_law_752 0 rfl ?_
  refine g_iconst C dL_law_753 kc_1 ?_
  refine g_iadd C dL_law_754 ?_
  refine l_sld C hS hbl hbA (hin _ (by decide)) dL_law_755 ?_
  refine g_aload_n C dL_law_756 3 rfl ?_
  refine g_iload_n C dL_law_757 0 rfl ?_
  refine g_iconst C dL_law_758 kc_2 ?_
  refine g_iadd C dL_law_759 ?_
  refine l_sld C hS hbl hbA (hin _ (by decide)) dL_law_760 ?_
  refine g_aload_n C dL_law_761 3 rfl ?_
  refine g_iload_n C dL_law_762 0 rfl ?_
  refine g_iconst C dL_law_763 kc_3 ?_
  refine g_iadd C dL_law_764 ?_
  refine l_sld C hS hbl hbA (hin _ (by decide)) dL_law_765 ?_
  refine l_callX (As := [.int (xs (i + (1 : Int32)).toNatClampNeg), .int (xs (i + (2 : Int32)).toNatClampNeg), .int (xs (i + (3 : Int32)).toNatClampNeg)]) (rest := []) C hp (w_xw_rise hx) hX rfl q974 q975 q976 q88 q977 mdX0_rise rfl ⟨(Nat.le_of_ble_eq_true rfl), (Nat.le_of_ble_eq_true rfl)⟩ (Nat.le_of_ble_eq_true rfl) dL_law_766 ⟨Nat.le_trans (Nat.le_add_right _ _) hcz, Nat.le_trans (Nat.le_add_right _ _) hsz⟩ (fun hp' => ?_)
  refine g_aload_n C dL_law_769 1 rfl ?_
  refine g_aload_n C dL_law_770 3 rfl ?_
  refine g_iload_n C dL_law_771 0 rfl ?_
  refine g_iconst C dL_law_772 kc_1 ?_
  refine g_iadd C dL_law_773 ?_
  refine l_sld C hS hbl hbA (hin _ (by decide)) dL_law_774 ?_
  refine g_aload_n C dL_law_775 3 rfl ?_
  refine g_iload_n C dL_law_776 0 rfl ?_
  refine g_iconst C dL_law_777 kc_2 ?_
  refine g_iadd C dL_law_778 ?_
  refine l_sld C hS hbl hbA (hin _ (by decide)) dL_law_779 ?_
  refine g_aload_n C dL_law_780 3 rfl ?_
  refine g_iload_n C dL_law_781 0 rfl ?_
  refine g_iconst C dL_law_782 kc_3 ?_
  refine g_iadd C dL_law_783 ?_
  refine l_sld C hS hbl hbA (hin _ (by decide)) dL_law_784 ?_
  refine l_callT (As := [.int (xs (i + (1 : Int32)).toNatClampNeg), .int (xs (i + (2 : Int32)).toNatClampNeg), .int (xs (i + (3 : Int32)).toNatClampNeg)]) (rest := [.int (bI r)]) C h0 (w_tw_rise ht) hX rfl q1421 q1422 q1423 q91 q1424 mdX3_rise rfl ⟨(Nat.le_of_ble_eq_true rfl), (Nat.le_of_ble_eq_true rfl)⟩ (Nat.le_of_ble_eq_true rfl) dL_law_785 ⟨Nat.le_trans (Nat.le_add_right _ _) hcz, Nat.le_trans (Nat.le_add_right _ _) hsz⟩ ?_
  refine g_icmp_eq 981 C dL_law_788 rfl (fun _ => ?_) (fun h => absurd rfl h)
  exact kk _ _ _ _ hrel' hp' rfl (Nat.le_add_right _ _) (Nat.le_add_right _ _)
theorem l_case21 {l : Launch} {n : Nat} {Rel : Sto → Sto → Prop} {g : Gam} {A : Nat → Prop} {X : FX} {b L : Nat} {xs : Nat → Int32} {i : Int32} {σx σt : Sto} {cz sz : Nat} (C : CX lCfg g A 4 X code "DoughDebtsLaw" (some .boolean) 8192 100000) (hX : X.2.1 = l) (hS : va_X b L xs X.2.2.2.2.1 X.2.2.2.2.1.heap) (hbl : b < X.2.2.2.2.1.heap.size) (hbA : ¬ A b) (hLO : LO21 n Rel) (hrel : Rel σx σt) (hp : pOK σx) (h0 : σt.2.2.2 = []) (hin : ∀ j : Int32, j ∈ [(1 : Int32), 2, 3, 4, 5] → inb (i + j) L = true) (hcz : cz + 3000 ≤ X.2.2.2.1.cells) (hsz : sz + 20000 ≤ X.2.2.2.1.slots)
    (kk : ∀ (σx' σt' : Sto) (cz' sz' : Nat), Rel σx' σt' → pOK σx' → σt'.2.2.2 = [] → cz' ≤ cz + 3000 → sz' ≤ sz + 20000 → TG lCfg g A 4 X cz' sz' (cmb σx' σt') 981 [(3, .int i), (2, .ref (g.1 342)), (1, .ref (g.1 0)), (0, .ref b)] []) : TG lCfg g A 4 X cz sz (cmb σx σt) 793 [(3, .int i), (2, .ref (g.1 342)), (1, .ref (g.1 0)), (0, .ref b)] [] := by
  obtain ⟨r, σt', ht, hx⟩ := hLO σx σt (xs (i + (1 : Int32)).toNatClampNeg) (xs (i + (2 : Int32)).toNatClampNeg) hrel
  refine g_aload_n C dL_law_793 2 rfl ?_
  refine g_aload_n C dL_law_794 3 rfl ?_
  refine g_iload_n C dL_law_795 0 rfl ?_
  refine g_iconst C dL_law_796 kc_1 ?_
  refine g_iadd C dL_law_797 ?_
  refine l_sld C hS hbl hbA (hin _ (by decide)) dL_law_798 ?_
  refine g_aload_n C dL_law_799 3 rfl ?_
  refine g_iload_n C dL_law_800 0 rfl ?_
  refine g_iconst C dL_law_801 kc_2 ?_
  refine g_iadd C dL_law_802 ?_
  refine l_sld C hS hbl hbA (hin _ (by decide)) dL_law_803 ?_
  refine l_callXw (As := [.int (xs (i + (1 : Int32)).toNatClampNeg), .int (xs (i + (2 : Int32)).toNatClampNeg)]) (rest := []) C hp (w_yw_odds hx) hX rfl q978 q979 q980 q88 q981 mdX0_odds rfl ⟨(Nat.le_of_ble_eq_true rfl), (Nat.le_of_ble_eq_true rfl)⟩ (Nat.le_of_ble_eq_true rfl) dL_law_804 ⟨hcz, hsz⟩ (fun r1 σx' hR hp' => ?_)
  obtain ⟨rfl, hrel'⟩ := hR
  refine g_aload_n C dL_law_807 1 rfl ?_
  refine g_aload_n C dL_law_808 3 rfl ?_
  refine g_iload_n C dL_law_809 0 rfl ?_
  refine g_iconst C dL_law_810 kc_1 ?_
  refine g_iadd C dL_law_811 ?_
  refine l_sld C hS hbl hbA (hin _ (by decide)) dL_law_812 ?_
  refine g_aload_n C dL_law_813 3 rfl ?_
  refine g_iload_n C dL_law_814 0 rfl ?_
  refine g_iconst C dL_law_815 kc_2 ?_
  refine g_iadd C dL_law_816 ?_
  refine l_sld C hS hbl hbA (hin _ (by decide)) dL_law_817 ?_
  refine l_callT (As := [.int (xs (i + (1 : Int32)).toNatClampNeg), .int (xs (i + (2 : Int32)).toNatClampNeg)]) (rest := [.long r1]) C h0 (w_tw_odds ht) hX rfl q1425 q1426 q1427 q91 q1428 mdX3_odds rfl ⟨(Nat.le_of_ble_eq_true rfl), (Nat.le_of_ble_eq_true rfl)⟩ (Nat.le_of_ble_eq_true rfl) dL_law_818 ⟨hcz, hsz⟩ ?_
  refine g_lcmp C dL_law_821 ?_
  rw [show lg_cmp r1 r1 = 0 by unfold lg_cmp; simp]
  refine g_if_eq 981 C dL_law_822 rfl (fun _ => ?_) (fun h => absurd rfl h)
  exact kk _ _ _ _ hrel' hp' rfl (Nat.le_refl _) (Nat.le_refl _)
theorem l_case22 {l : Launch} {n : Nat} {Rel : Sto → Sto → Prop} {g : Gam} {A : Nat → Prop} {X : FX} {b L : Nat} {xs : Nat → Int32} {i : Int32} {σx σt : Sto} {cz sz : Nat} (C : CX lCfg g A 4 X code "DoughDebtsLaw" (some .boolean) 8192 100000) (hX : X.2.1 = l) (hS : va_X b L xs X.2.2.2.2.1 X.2.2.2.2.1.heap) (hbl : b < X.2.2.2.2.1.heap.size) (hbA : ¬ A b) (hLO : LO22 n Rel) (hrel : Rel σx σt) (hp : pOK σx) (h0 : σt.2.2.2 = []) (hin : ∀ j : Int32, j ∈ [(1 : Int32), 2, 3, 4, 5] → inb (i + j) L = true) (hcz : cz + 3000 ≤ X.2.2.2.1.cells) (hsz : sz + 20000 ≤ X.2.2.2.1.slots)
    (kk : ∀ (σx' σt' : Sto) (cz' sz' : Nat), Rel σx' σt' → pOK σx' → σt'.2.2.2 = [] → cz' ≤ cz + 3000 → sz' ≤ sz + 20000 → TG lCfg g A 4 X cz' sz' (cmb σx' σt') 981 [(3, .int i), (2, .ref (g.1 342)), (1, .ref (g.1 0)), (0, .ref b)] []) : TG lCfg g A 4 X cz sz (cmb σx σt) 827 [(3, .int i), (2, .ref (g.1 342)), (1, .ref (g.1 0)), (0, .ref b)] [] := by
  obtain ⟨r, σt', ht, hx⟩ := hLO σx σt (xs (i + (1 : Int32)).toNatClampNeg) hrel
  refine g_aload_n C dL_law_827 2 rfl ?_
  refine g_aload_n C dL_law_828 3 rfl ?_
  refine g_iload_n C dL_law_829 0 rfl ?_
  refine g_iconst C dL_law_830 kc_1 ?_
  refine g_iadd C dL_law_831 ?_
  refine l_sld C hS hbl hbA (hin _ (by decide)) dL_law_832 ?_
  refine l_callXw (As := [.int (xs (i + (1 : Int32)).toNatClampNeg)]) (rest := []) C hp (w_yw_whose hx) hX rfl q991 q992 q993 q88 q994 mdX0_whose rfl ⟨(Nat.le_of_ble_eq_true rfl), (Nat.le_of_ble_eq_true rfl)⟩ (Nat.le_of_ble_eq_true rfl) dL_law_833 ⟨hcz, hsz⟩ (fun r1 σx' hR hp' => ?_)
  obtain ⟨rfl, hrel'⟩ := hR
  refine g_aload_n C dL_law_836 1 rfl ?_
  refine g_aload_n C dL_law_837 3 rfl ?_
  refine g_iload_n C dL_law_838 0 rfl ?_
  refine g_iconst C dL_law_839 kc_1 ?_
  refine g_iadd C dL_law_840 ?_
  refine l_sld C hS hbl hbA (hin _ (by decide)) dL_law_841 ?_
  refine l_callT (As := [.int (xs (i + (1 : Int32)).toNatClampNeg)]) (rest := [.int r1]) C h0 (w_tw_whose ht) hX rfl q1434 q1435 q1436 q91 q1437 mdX3_whose rfl ⟨(Nat.le_of_ble_eq_true rfl), (Nat.le_of_ble_eq_true rfl)⟩ (Nat.le_of_ble_eq_true rfl) dL_law_842 ⟨hcz, hsz⟩ ?_
  refine g_icmp_eq 981 C dL_law_845 rfl (fun _ => ?_) (fun h => absurd rfl h)
  exact kk _ _ _ _ hrel' hp' rfl (Nat.le_refl _) (Nat.le_refl _)
theorem l_case23 {l : Launch} {n : Nat} {Rel : Sto → Sto → Prop} {g : Gam} {A : Nat → Prop} {X : FX} {b L : Nat} {xs : Nat → Int32} {i : Int32} {σx σt : Sto} {cz sz : Nat} (C : CX lCfg g A 4 X code "DoughDebtsLaw" (some .boolean) 8192 100000) (hX : X.2.1 = l) (hS : va_X b L xs X.2.2.2.2.1 X.2.2.2.2.1.heap) (hbl : b < X.2.2.2.2.1.heap.size) (hbA : ¬ A b) (hLO : LO23 n Rel) (hrel : Rel σx σt) (hp : pOK σx) (h0 : σt.2.2.2 = []) (hin : ∀ j : Int32, j ∈ [(1 : Int32), 2, 3, 4, 5] → inb (i + j) L = true) (hcz : cz + 3000 ≤ X.2.2.2.1.cells) (hsz : sz + 20000 ≤ X.2.2.2.1.slots)
    (kk : ∀ (σx' σt' : Sto) (cz' sz' : Nat), Rel σx' σt' → pOK σx' → σt'.2.2.2 = [] → cz' ≤ cz + 3000 → sz' ≤ sz + 20000 → TG lCfg g A 4 X cz' sz' (cmb σx' σt') 981 [(3, .int i), (2, .ref (g.1 342)), (1, .ref (g.1 0)), (0, .ref b)] []) : TG lCfg g A 4 X cz sz (cmb σx σt) 850 [(3, .int i), (2, .ref (g.1 342)), (1, .ref (g.1 0)), (0, .ref b)] [] := by
  obtain ⟨r, σx', σt', hx, ht, hrel'⟩ := hLO σx σt (xs (i + (1 : Int32)).toNatClampNeg) (xs (i + (2 : Int32)).toNatClampNeg) (xs (i + (3 : Int32)).toNatClampNeg) hrel
  refine g_aload_n C dL_law_850 2 rfl ?_
  refine g_aload_n C dL_law_851 3 rfl ?_
  refine g_iload_n C dL_law_852 0 rfl ?_
  refine g_iconst C dL_law_853 kc_1 ?_
  refine g_iadd C dL_law_854 ?_
  refine l_sld C hS hbl hbA (hin _ (by decide)) dL_law_855 ?_
  refine g_aload_n C dL_law_856 3 rfl ?_
  refine g_iload_n C dL_law_857 0 rfl ?_
  refine g_iconst C dL_law_858 kc_2 ?_
  refine g_iadd C dL_law_859 ?_
  refine l_sld C hS hbl hbA (hin _ (by decide)) dL_law_860 ?_
  refine g_aload_n C dL_law_861 3 rfl ?_
  refine g_iload_n C dL_law_862 0 rfl ?_
  refine g_iconst C dL_law_863 kc_3 ?_
  refine g_iadd C dL_law_864 ?_
  refine l_sld C hS hbl hbA (hin _ (by decide)) dL_law_865 ?_
  refine l_callX (As := [.int (xs (i + (1 : Int32)).toNatClampNeg), .int (xs (i + (2 : Int32)).toNatClampNeg), .int (xs (i + (3 : Int32)).toNatClampNeg)]) (rest := []) C hp (w_xw_owe hx) hX rfl q995 q996 q997 q88 q998 mdX0_owe rfl ⟨(Nat.le_of_ble_eq_true rfl), (Nat.le_of_ble_eq_true rfl)⟩ (Nat.le_of_ble_eq_true rfl) dL_law_866 ⟨Nat.le_trans (Nat.le_add_right _ _) hcz, Nat.le_trans (Nat.le_add_right _ _) hsz⟩ (fun hp' => ?_)
  refine g_aload_n C dL_law_869 1 rfl ?_
  refine g_aload_n C dL_law_870 3 rfl ?_
  refine g_iload_n C dL_law_871 0 rfl ?_
  refine g_iconst C dL_law_872 kc_1 ?_
  refine g_iadd C dL_law_873 ?_
  refine l_sld C hS hbl hbA (hin _ (by decide)) dL_law_874 ?_
  refine g_aload_n C dL_law_875 3 rfl ?_
  refine g_iload_n C dL_law_876 0 rfl ?_
  refine g_iconst C dL_law_877 kc_2 ?_
  refine g_iadd C dL_law_878 ?_
  refine l_sld C hS hbl hbA (hin _ (by decide)) dL_law_879 ?_
  refine g_aload_n C dL_law_880 3 rfl ?_
  refine g_iload_n C dL_law_881 0 rfl ?_
  refine g_iconst C dL_law_882 kc_3 ?_
  refine g_iadd C dL_law_883 ?_
  refine l_sld C hS hbl hbA (hin _ (by decide)) dL_law_884 ?_
  refine l_callT (As := [.int (xs (i + (1 : Int32)).toNatClampNeg), .int (xs (i + (2 : Int32)).toNatClampNeg), .int (xs (i + (3 : Int32)).toNatClampNeg)]) (rest := [.int (bI r)]) C h0 (w_tw_owe ht) hX rfl q1438 q1439 q1440 q91 q1441 mdX3_owe rfl ⟨(Nat.le_of_ble_eq_true rfl), (Nat.le_of_ble_eq_true rfl)⟩ (Nat.le_of_ble_eq_true rfl) dL_law_885 ⟨Nat.le_trans (Nat.le_add_right _ _) hcz, Nat.le_trans (Nat.le_add_right _ _) hsz⟩ ?_
  refine g_icmp_eq 981 C dL_law_888 rfl (fun _ => ?_) (fun h => absurd rfl h)
  exact kk _ _ _ _ hrel' hp' rfl (Nat.le_add_right _ _) (Nat.le_add_right _ _)
theorem l_case24 {l : Launch} {n : Nat} {Rel : Sto → Sto → Prop} {g : Gam} {A : Nat → Prop} {X : FX} {b L : Nat} {xs : Nat → Int32} {i : Int32} {σx σt : Sto} {cz sz : Nat} (C : CX lCfg g A 4 X code "DoughDebtsLaw" (some .boolean) 8192 100000) (hX : X.2.1 = l) (hS : va_X b L xs X.2.2.2.2.1 X.2.2.2.2.1.heap) (hbl : b < X.2.2.2.2.1.heap.size) (hbA : ¬ A b) (hLO : LO24 n Rel) (hrel : Rel σx σt) (hp : pOK σx) (h0 : σt.2.2.2 = []) (hin : ∀ j : Int32, j ∈ [(1 : Int32), 2, 3, 4, 5] → inb (i + j) L = true) (hcz : cz + 3000 ≤ X.2.2.2.1.cells) (hsz : sz + 20000 ≤ X.2.2.2.1.slots)
    (kk : ∀ (σx' σt' : Sto) (cz' sz' : Nat), Rel σx' σt' → pOK σx' → σt'.2.2.2 = [] → cz' ≤ cz + 3000 → sz' ≤ sz + 20000 → TG lCfg g A 4 X cz' sz' (cmb σx' σt') 981 [(3, .int i), (2, .ref (g.1 342)), (1, .ref (g.1 0)), (0, .ref b)] []) : TG lCfg g A 4 X cz sz (cmb σx σt) 893 [(3, .int i), (2, .ref (g.1 342)), (1, .ref (g.1 0)), (0, .ref b)] [] := by
  obtain ⟨r, σx', σt', hx, ht, hrel'⟩ := hLO σx σt hrel
  refine g_aload_n C dL_law_893 2 rfl ?_
  refine l_callX (As := []) (rest := []) C hp (w_xw_payments hx) hX rfl q1000 q1001 q1002 q88 q1003 mdX0_payments rfl ⟨(Nat.le_of_ble_eq_true rfl), (Nat.le_of_ble_eq_true rfl)⟩ (Nat.le_of_ble_eq_true rfl) dL_law_894 ⟨Nat.le_trans (Nat.le_add_right _ _) hcz, Nat.le_trans (Nat.le_add_right _ _) hsz⟩ (fun hp' => ?_)
  refine g_aload_n C dL_law_897 1 rfl ?_
  refine l_callT (As := []) (rest := [.int r]) C h0 (w_tw_payments ht) hX rfl q1443 q1444 q1445 q91 q1446 mdX3_payments rfl ⟨(Nat.le_of_ble_eq_true rfl), (Nat.le_of_ble_eq_true rfl)⟩ (Nat.le_of_ble_eq_true rfl) dL_law_898 ⟨Nat.le_trans (Nat.le_add_right _ _) hcz, Nat.le_trans (Nat.le_add_right _ _) hsz⟩ ?_
  refine g_icmp_eq 981 C dL_law_901 rfl (fun _ => ?_) (fun h => absurd rfl h)
  exact kk _ _ _ _ hrel' hp' rfl (Nat.le_add_right _ _) (Nat.le_add_right _ _)
theorem l_case25 {l : Launch} {n : Nat} {Rel : Sto → Sto → Prop} {g : Gam} {A : Nat → Prop} {X : FX} {b L : Nat} {xs : Nat → Int32} {i : Int32} {σx σt : Sto} {cz sz : Nat} (C : CX lCfg g A 4 X code "DoughDebtsLaw" (some .boolean) 8192 100000) (hX : X.2.1 = l) (hS : va_X b L xs X.2.2.2.2.1 X.2.2.2.2.1.heap) (hbl : b < X.2.2.2.2.1.heap.size) (hbA : ¬ A b) (hLO : LO25 n Rel) (hrel : Rel σx σt) (hp : pOK σx) (h0 : σt.2.2.2 = []) (hin : ∀ j : Int32, j ∈ [(1 : Int32), 2, 3, 4, 5] → inb (i + j) L = true) (hcz : cz + 3000 ≤ X.2.2.2.1.cells) (hsz : sz + 20000 ≤ X.2.2.2.1.slots)
    (kk : ∀ (σx' σt' : Sto) (cz' sz' : Nat), Rel σx' σt' → pOK σx' → σt'.2.2.2 = [] → cz' ≤ cz + 3000 → sz' ≤ sz + 20000 → TG lCfg g A 4 X cz' sz' (cmb σx' σt') 981 [(3, .int i), (2, .ref (g.1 342)), (1, .ref (g.1 0)), (0, .ref b)] []) : TG lCfg g A 4 X cz sz (cmb σx σt) 906 [(3, .int i), (2, .ref (g.1 342)), (1, .ref (g.1 0)), (0, .ref b)] [] := by
  obtain ⟨r, σx', σt', hx, ht, hrel'⟩ := hLO σx σt hrel
  refine g_aload_n C dL_law_906 2 rfl ?_
  refine l_callX (As := []) (rest := []) C hp (w_xw_undo hx) hX rfl q702 q703 q704 q88 q705 mdX0_undo rfl ⟨(Nat.le_of_ble_eq_true rfl), (Nat.le_of_ble_eq_true rfl)⟩ (Nat.le_of_ble_eq_true rfl) dL_law_907 ⟨Nat.le_trans (Nat.le_add_right _ _) hcz, Nat.le_trans (Nat.le_add_right _ _) hsz⟩ (fun hp' => ?_)
  refine g_aload_n C dL_law_910 1 rfl ?_
  refine l_callT (As := []) (rest := [.int (bI r)]) C h0 (w_tw_undo ht) hX rfl q1327 q1328 q1329 q91 q1330 mdX3_undo rfl ⟨(Nat.le_of_ble_eq_true rfl), (Nat.le_of_ble_eq_true rfl)⟩ (Nat.le_of_ble_eq_true rfl) dL_law_911 ⟨Nat.le_trans (Nat.le_add_right _ _) hcz, Nat.le_trans (Nat.le_add_right _ _) hsz⟩ ?_
  refine g_icmp_eq 981 C dL_law_914 rfl (fun _ => ?_) (fun h => absurd rfl h)
  exact kk _ _ _ _ hrel' hp' rfl (Nat.le_add_right _ _) (Nat.le_add_right _ _)
theorem l_case26 {l : Launch} {n : Nat} {Rel : Sto → Sto → Prop} {g : Gam} {A : Nat → Prop} {X : FX} {b L : Nat} {xs : Nat → Int32} {i : Int32} {σx σt : Sto} {cz sz : Nat} (C : CX lCfg g A 4 X code "DoughDebtsLaw" (some .boolean) 8192 100000) (hX : X.2.1 = l) (hS : va_X b L xs X.2.2.2.2.1 X.2.2.2.2.1.heap) (hbl : b < X.2.2.2.2.1.heap.size) (hbA : ¬ A b) (hLO : LO26 n Rel) (hrel : Rel σx σt) (hp : pOK σx) (h0 : σt.2.2.2 = []) (hin : ∀ j : Int32, j ∈ [(1 : Int32), 2, 3, 4, 5] → inb (i + j) L = true) (hcz : cz + 3000 ≤ X.2.2.2.1.cells) (hsz : sz + 20000 ≤ X.2.2.2.1.slots)
    (kk : ∀ (σx' σt' : Sto) (cz' sz' : Nat), Rel σx' σt' → pOK σx' → σt'.2.2.2 = [] → cz' ≤ cz + 3000 → sz' ≤ sz + 20000 → TG lCfg g A 4 X cz' sz' (cmb σx' σt') 981 [(3, .int i), (2, .ref (g.1 342)), (1, .ref (g.1 0)), (0, .ref b)] []) : TG lCfg g A 4 X cz sz (cmb σx σt) 919 [(3, .int i), (2, .ref (g.1 342)), (1, .ref (g.1 0)), (0, .ref b)] [] := by
  by_cases hz : xs (i + (1 : Int32)).toNatClampNeg = 0
  · obtain ⟨r, σx', σt', hx, ht, hrel'⟩ := hLO σx σt false hrel
    refine g_aload_n C dL_law_919 2 rfl ?_
    refine g_aload_n C dL_law_920 3 rfl ?_
    refine g_iload_n C dL_law_921 0 rfl ?_
    refine g_iconst C dL_law_922 kc_1 ?_
    refine g_iadd C dL_law_923 ?_
    refine l_sld C hS hbl hbA (hin _ (by decide)) dL_law_924 ?_
    refine g_if_eq 932 C dL_law_925 rfl (fun _ => ?_) (fun h => absurd hz h)
    refine g_iconst C dL_law_932 kc_0 ?_
    refine l_callX (As := [.int (0 : Int32)]) (rest := []) C hp (w_xw_image hx) hX rfl q1008 q1009 q1010 q88 q1011 mdX0_image rfl ⟨(Nat.le_of_ble_eq_true rfl), (Nat.le_of_ble_eq_true rfl)⟩ (Nat.le_of_ble_eq_true rfl) dL_law_933 ⟨Nat.le_trans (Nat.le_add_right _ _) hcz, Nat.le_trans (Nat.le_add_right _ _) hsz⟩ (fun hp' => ?_)
    refine g_aload_n C dL_law_936 1 rfl ?_
    refine g_aload_n C dL_law_937 3 rfl ?_
    refine g_iload_n C dL_law_938 0 rfl ?_
    refine g_iconst C dL_law_939 kc_1 ?_
    refine g_iadd C dL_law_940 ?_
    refine l_sld C hS hbl hbA (hin _ (by decide)) dL_law_941 ?_
    refine g_if_eq 949 C dL_law_942 rfl (fun _ => ?_) (fun h => absurd hz h)
    refine g_iconst C dL_law_949 kc_0 ?_
    refine l_callT (As := [.int (0 : Int32)]) (rest := [.int (bI r)]) C h0 (w_tw_image ht) hX rfl q1447 q1448 q1449 q91 q1450 mdX3_image rfl ⟨(Nat.le_of_ble_eq_true rfl), (Nat.le_of_ble_eq_true rfl)⟩ (Nat.le_of_ble_eq_true rfl) dL_law_950 ⟨Nat.le_trans (Nat.le_add_right _ _) hcz, Nat.le_trans (Nat.le_add_right _ _) hsz⟩ ?_
    refine g_icmp_eq 981 C dL_law_953 rfl (fun _ => ?_) (fun h => absurd rfl h)
    exact kk _ _ _ _ hrel' hp' rfl (Nat.le_add_right _ _) (Nat.le_add_right _ _)
  · obtain ⟨r, σx', σt', hx, ht, hrel'⟩ := hLO σx σt true hrel
    refine g_aload_n C dL_law_919 2 rfl ?_
    refine g_aload_n C dL_law_920 3 rfl ?_
    refine g_iload_n C dL_law_921 0 rfl ?_
    refine g_iconst C dL_law_922 kc_1 ?_
    refine g_iadd C dL_law_923 ?_
    refine l_sld C hS hbl hbA (hin _ (by decide)) dL_law_924 ?_
    refine g_if_eq 932 C dL_law_925 rfl (fun h => absurd h hz) (fun _ => ?_)
    refine g_iconst C dL_law_928 kc_1 ?_
    refine g_goto 933 C dL_law_929 rfl ?_
    refine l_callX (As := [.int (1 : Int32)]) (rest := []) C hp (w_xw_image hx) hX rfl q1008 q1009 q1010 q88 q1011 mdX0_image rfl ⟨(Nat.le_of_ble_eq_true rfl), (Nat.le_of_ble_eq_true rfl)⟩ (Nat.le_of_ble_eq_true rfl) dL_law_933 ⟨Nat.le_trans (Nat.le_add_right _ _) hcz, Nat.le_trans (Nat.le_add_right _ _) hsz⟩ (fun hp' => ?_)
    refine g_aload_n C dL_law_936 1 rfl ?_
    refine g_aload_n C dL_law_937 3 rfl ?_
    refine g_iload_n C dL_law_938 0 rfl ?_
    refine g_iconst C dL_law_939 kc_1 ?_
    refine g_iadd C dL_law_940 ?_
    refine l_sld C hS hbl hbA (hin _ (by decide)) dL_law_941 ?_
    refine g_if_eq 949 C dL_law_942 rfl (fun h => absurd h hz) (fun _ => ?_)
    refine g_iconst C dL_law_945 kc_1 ?_
    refine g_goto 950 C dL_law_946 rfl ?_
    refine l_callT (As := [.int (1 : Int32)]) (rest := [.int (bI r)]) C h0 (w_tw_image ht) hX rfl q1447 q1448 q1449 q91 q1450 mdX3_image rfl ⟨(Nat.le_of_ble_eq_true rfl), (Nat.le_of_ble_eq_true rfl)⟩ (Nat.le_of_ble_eq_true rfl) dL_law_950 ⟨Nat.le_trans (Nat.le_add_right _ _) hcz, Nat.le_trans (Nat.le_add_right _ _) hsz⟩ ?_
    refine g_icmp_eq 981 C dL_law_953 rfl (fun _ => ?_) (fun h => absurd rfl h)
    exact kk _ _ _ _ hrel' hp' rfl (Nat.le_add_right _ _) (Nat.le_add_right _ _)
theorem l_case27 {l : Launch} {n : Nat} {Rel : Sto → Sto → Prop} {g : Gam} {A : Nat → Prop} {X : FX} {b L : Nat} {xs : Nat → Int32} {i : Int32} {σx σt : Sto} {cz sz : Nat} (C : CX lCfg g A 4 X code "DoughDebtsLaw" (some .boolean) 8192 100000) (hX : X.2.1 = l) (hS : va_X b L xs X.2.2.2.2.1 X.2.2.2.2.1.heap) (hbl : b < X.2.2.2.2.1.heap.size) (hbA : ¬ A b) (hLO : LO27 n Rel) (hrel : Rel σx σt) (hp : pOK σx) (h0 : σt.2.2.2 = []) (hin : ∀ j : Int32, j ∈ [(1 : Int32), 2, 3, 4, 5] → inb (i + j) L = true) (hcz : cz + 3000 ≤ X.2.2.2.1.cells) (hsz : sz + 20000 ≤ X.2.2.2.1.slots)
    (kk : ∀ (σx' σt' : Sto) (cz' sz' : Nat), Rel σx' σt' → pOK σx' → σt'.2.2.2 = [] → cz' ≤ cz + 3000 → sz' ≤ sz + 20000 → TG lCfg g A 4 X cz' sz' (cmb σx' σt') 981 [(3, .int i), (2, .ref (g.1 342)), (1, .ref (g.1 0)), (0, .ref b)] []) : TG lCfg g A 4 X cz sz (cmb σx σt) 958 [(3, .int i), (2, .ref (g.1 342)), (1, .ref (g.1 0)), (0, .ref b)] [] := by
  obtain ⟨r, σx', σt', hx, ht, hrel'⟩ := hLO σx σt (xs (i + (1 : Int32)).toNatClampNeg) hrel
  refine g_aload_n C dL_law_958 2 rfl ?_
  refine g_aload_n C dL_law_959 3 rfl ?_
  refine g_iload_n C dL_law_960 0 rfl ?_
  refine g_iconst C dL_law_961 kc_1 ?_
  refine g_iadd C dL_law_962 ?_
  refine l_sld C hS hbl hbA (hin _ (by decide)) dL_law_963 ?_
  refine l_callX (As := [.int (xs (i + (1 : Int32)).toNatClampNeg)]) (rest := []) C hp (w_xw_look hx) hX rfl q1015 q1016 q1017 q88 q1018 mdX0_look rfl ⟨(Nat.le_of_ble_eq_true rfl), (Nat.le_of_ble_eq_true rfl)⟩ (Nat.le_of_ble_eq_true rfl) dL_law_964 ⟨Nat.le_trans (Nat.le_add_right _ _) hcz, Nat.le_trans (Nat.le_add_right _ _) hsz⟩ (fun hp' => ?_)
  refine g_aload_n C dL_law_967 1 rfl ?_
  refine g_aload_n C dL_law_968 3 rfl ?_
  refine g_iload_n C dL_law_969 0 rfl ?_
  refine g_iconst C dL_law_970 kc_1 ?_
  refine g_iadd C dL_law_971 ?_
  refine l_sld C hS hbl hbA (hin _ (by decide)) dL_law_972 ?_
  refine l_callT (As := [.int (xs (i + (1 : Int32)).toNatClampNeg)]) (rest := [.int r]) C h0 (w_tw_look ht) hX rfl q1451 q1452 q1453 q91 q1454 mdX3_look rfl ⟨(Nat.le_of_ble_eq_true rfl), (Nat.le_of_ble_eq_true rfl)⟩ (Nat.le_of_ble_eq_true rfl) dL_law_973 ⟨Nat.le_trans (Nat.le_add_right _ _) hcz, Nat.le_trans (Nat.le_add_right _ _) hsz⟩ ?_
  refine g_icmp_eq 981 C dL_law_976 rfl (fun _ => ?_) (fun h => absurd rfl h)
  exact kk _ _ _ _ hrel' hp' rfl (Nat.le_add_right _ _) (Nat.le_add_right _ _)
