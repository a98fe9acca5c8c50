-- ===== PART A: goes FIRST, ahead of the names: the tables' words, and 'selects' of the private methods out of them =====
/-- a private method of a class that the tables say can be made, by its rows of tables_1 -/
def lw_okq (q : MethodName × Nat) : Prop := (q.1.cls ≠ "java/lang/invoke/MethodHandle" ∧ q.1.cls ≠ "java/lang/invoke/VarHandle") ∧ Cond.instantiable q.1.cls q.2 ∈ tables_1 ∧ Cond.privateMethod q.1 ∈ tables_1 ∧ Cond.instanceMethod q.1 ∈ tables_1
set_option maxRecDepth 100000
theorem lw_t1 {w : Cond} (h : w ∈ tables_1_1) : w ∈ tables_1 := List.mem_append_left _ h
theorem lw_t2 {w : Cond} (h : w ∈ tables_1_2) : w ∈ tables_1 := List.mem_append_right _ (List.mem_append_left _ h)
theorem lw_t3 {w : Cond} (h : w ∈ tables_1_3) : w ∈ tables_1 := List.mem_append_right _ (List.mem_append_right _ (List.mem_append_left _ h))
theorem lw_t4 {w : Cond} (h : w ∈ tables_1_4) : w ∈ tables_1 := List.mem_append_right _ (List.mem_append_right _ (List.mem_append_right _ (List.mem_append_left _ h)))
theorem lw_t5 {w : Cond} (h : w ∈ tables_1_5) : w ∈ tables_1 := List.mem_append_right _ (List.mem_append_right _ (List.mem_append_right _ (List.mem_append_right _ (List.mem_append_left _ h))))
theorem lw_t6 {w : Cond} (h : w ∈ tables_1_6) : w ∈ tables_1 := List.mem_append_right _ (List.mem_append_right _ (List.mem_append_right _ (List.mem_append_right _ (List.mem_append_right _ h))))
theorem lw_p0 : lw_okq (⟨"DoughDebts", "puts", "(I)V"⟩, 48) := ⟨⟨by decide +kernel, by decide +kernel⟩, lw_t1 (List.mem_of_getElem? (i := 27) rfl), lw_t2 (List.mem_of_getElem? (i := 47) rfl), lw_t2 (List.mem_of_getElem? (i := 48) rfl)⟩
theorem lw_p1 : lw_okq (⟨"DoughDebts", "readsRule", "()LDoughDebts$Text;"⟩, 48) := ⟨⟨by decide +kernel, by decide +kernel⟩, lw_t1 (List.mem_of_getElem? (i := 27) rfl), lw_t2 (List.mem_of_getElem? (i := 63) rfl), lw_t2 (List.mem_of_getElem? (i := 64) rfl)⟩
theorem lw_p2 : lw_okq (⟨"DoughDebts", "readNext", "()V"⟩, 48) := ⟨⟨by decide +kernel, by decide +kernel⟩, lw_t1 (List.mem_of_getElem? (i := 27) rfl), lw_t2 (List.mem_of_getElem? (i := 67) rfl), lw_t2 (List.mem_of_getElem? (i := 68) rfl)⟩
theorem lw_p3 : lw_okq (⟨"DoughDebts", "raw", "(I)I"⟩, 48) := ⟨⟨by decide +kernel, by decide +kernel⟩, lw_t1 (List.mem_of_getElem? (i := 27) rfl), lw_t2 (List.mem_of_getElem? (i := 71) rfl), lw_t2 (List.mem_of_getElem? (i := 72) rfl)⟩
theorem lw_p4 : lw_okq (⟨"DoughDebts", "wordOf", "([Ljava/lang/String;)I"⟩, 48) := ⟨⟨by decide +kernel, by decide +kernel⟩, lw_t1 (List.mem_of_getElem? (i := 27) rfl), lw_t2 (List.mem_of_getElem? (i := 84) rfl), lw_t2 (List.mem_of_getElem? (i := 85) rfl)⟩
theorem lw_p5 : lw_okq (⟨"DoughDebts", "spells", "(Ljava/lang/String;)Z"⟩, 48) := ⟨⟨by decide +kernel, by decide +kernel⟩, lw_t1 (List.mem_of_getElem? (i := 27) rfl), lw_t2 (List.mem_of_getElem? (i := 88) rfl), lw_t2 (List.mem_of_getElem? (i := 89) rfl)⟩
theorem lw_p6 : lw_okq (⟨"DoughDebts", "must", "(Z)V"⟩, 48) := ⟨⟨by decide +kernel, by decide +kernel⟩, lw_t1 (List.mem_of_getElem? (i := 27) rfl), lw_t2 (List.mem_of_getElem? (i := 209) rfl), lw_t2 (List.mem_of_getElem? (i := 210) rfl)⟩
theorem lw_p7 : lw_okq (⟨"java/lang/Throwable", "fillInStackTrace", "(I)Ljava/lang/Throwable;"⟩, 6) := ⟨⟨by decide +kernel, by decide +kernel⟩, lw_t3 (List.mem_of_getElem? (i := 6) rfl), lw_t3 (List.mem_of_getElem? (i := 4) rfl), lw_t3 (List.mem_of_getElem? (i := 5) rfl)⟩
theorem lw_p8 : lw_okq (⟨"DoughDebts", "sum", "()LDoughDebts$Term;"⟩, 48) := ⟨⟨by decide +kernel, by decide +kernel⟩, lw_t1 (List.mem_of_getElem? (i := 27) rfl), lw_t3 (List.mem_of_getElem? (i := 39) rfl), lw_t3 (List.mem_of_getElem? (i := 40) rfl)⟩
theorem lw_p9 : lw_okq (⟨"DoughDebts", "product", "()LDoughDebts$Term;"⟩, 48) := ⟨⟨by decide +kernel, by decide +kernel⟩, lw_t1 (List.mem_of_getElem? (i := 27) rfl), lw_t3 (List.mem_of_getElem? (i := 43) rfl), lw_t3 (List.mem_of_getElem? (i := 44) rfl)⟩
theorem lw_p10 : lw_okq (⟨"DoughDebts", "unit", "()LDoughDebts$Term;"⟩, 48) := ⟨⟨by decide +kernel, by decide +kernel⟩, lw_t1 (List.mem_of_getElem? (i := 27) rfl), lw_t3 (List.mem_of_getElem? (i := 47) rfl), lw_t3 (List.mem_of_getElem? (i := 48) rfl)⟩
theorem lw_p11 : lw_okq (⟨"DoughDebts", "isSign", "(C)Z"⟩, 48) := ⟨⟨by decide +kernel, by decide +kernel⟩, lw_t1 (List.mem_of_getElem? (i := 27) rfl), lw_t3 (List.mem_of_getElem? (i := 74) rfl), lw_t3 (List.mem_of_getElem? (i := 75) rfl)⟩
theorem lw_p12 : lw_okq (⟨"DoughDebts", "isWord", "(Ljava/lang/String;)Z"⟩, 48) := ⟨⟨by decide +kernel, by decide +kernel⟩, lw_t1 (List.mem_of_getElem? (i := 27) rfl), lw_t3 (List.mem_of_getElem? (i := 94) rfl), lw_t3 (List.mem_of_getElem? (i := 95) rfl)⟩
theorem lw_p13 : lw_okq (⟨"DoughDebts", "any", "()LDoughDebts$Term;"⟩, 48) := ⟨⟨by decide +kernel, by decide +kernel⟩, lw_t1 (List.mem_of_getElem? (i := 27) rfl), lw_t3 (List.mem_of_getElem? (i := 98) rfl), lw_t3 (List.mem_of_getElem? (i := 99) rfl)⟩
theorem lw_p14 : lw_okq (⟨"DoughDebts", "both", "()LDoughDebts$Term;"⟩, 48) := ⟨⟨by decide +kernel, by decide +kernel⟩, lw_t1 (List.mem_of_getElem? (i := 27) rfl), lw_t3 (List.mem_of_getElem? (i := 102) rfl), lw_t3 (List.mem_of_getElem? (i := 103) rfl)⟩
theorem lw_p15 : lw_okq (⟨"DoughDebts", "oneOf", "()LDoughDebts$Term;"⟩, 48) := ⟨⟨by decide +kernel, by decide +kernel⟩, lw_t1 (List.mem_of_getElem? (i := 27) rfl), lw_t3 (List.mem_of_getElem? (i := 106) rfl), lw_t3 (List.mem_of_getElem? (i := 107) rfl)⟩
def lw_privs_1 : List (MethodName × Nat) := [(⟨"DoughDebts", "puts", "(I)V"⟩, 48), (⟨"DoughDebts", "readsRule", "()LDoughDebts$Text;"⟩, 48), (⟨"DoughDebts", "readNext", "()V"⟩, 48), (⟨"DoughDebts", "raw", "(I)I"⟩, 48), (⟨"DoughDebts", "wordOf", "([Ljava/lang/String;)I"⟩, 48), (⟨"DoughDebts", "spells", "(Ljava/lang/String;)Z"⟩, 48), (⟨"DoughDebts", "must", "(Z)V"⟩, 48), (⟨"java/lang/Throwable", "fillInStackTrace", "(I)Ljava/lang/Throwable;"⟩, 6), (⟨"DoughDebts", "sum", "()LDoughDebts$Term;"⟩, 48), (⟨"DoughDebts", "product", "()LDoughDebts$Term;"⟩, 48), (⟨"DoughDebts", "unit", "()LDoughDebts$Term;"⟩, 48), (⟨"DoughDebts", "isSign", "(C)Z"⟩, 48), (⟨"DoughDebts", "isWord", "(Ljava/lang/String;)Z"⟩, 48), (⟨"DoughDebts", "any", "()LDoughDebts$Term;"⟩, 48), (⟨"DoughDebts", "both", "()LDoughDebts$Term;"⟩, 48), (⟨"DoughDebts", "oneOf", "()LDoughDebts$Term;"⟩, 48)]
theorem lw_r1 : ∀ q ∈ lw_privs_1, lw_okq q := List.forall_mem_cons.mpr ⟨lw_p0, List.forall_mem_cons.mpr ⟨lw_p1, List.forall_mem_cons.mpr ⟨lw_p2, List.forall_mem_cons.mpr ⟨lw_p3, List.forall_mem_cons.mpr ⟨lw_p4, List.forall_mem_cons.mpr ⟨lw_p5, List.forall_mem_cons.mpr ⟨lw_p6, List.forall_mem_cons.mpr ⟨lw_p7, List.forall_mem_cons.mpr ⟨lw_p8, List.forall_mem_cons.mpr ⟨lw_p9, List.forall_mem_cons.mpr ⟨lw_p10, List.forall_mem_cons.mpr ⟨lw_p11, List.forall_mem_cons.mpr ⟨lw_p12, List.forall_mem_cons.mpr ⟨lw_p13, List.forall_mem_cons.mpr ⟨lw_p14, List.forall_mem_cons.mpr ⟨lw_p15, fun _ h => absurd h List.not_mem_nil⟩⟩⟩⟩⟩⟩⟩⟩⟩⟩⟩⟩⟩⟩⟩⟩
theorem lw_p16 : lw_okq (⟨"DoughDebts", "opens", "()V"⟩, 48) := ⟨⟨by decide +kernel, by decide +kernel⟩, lw_t1 (List.mem_of_getElem? (i := 27) rfl), lw_t3 (List.mem_of_getElem? (i := 110) rfl), lw_t3 (List.mem_of_getElem? (i := 111) rfl)⟩
theorem lw_p17 : lw_okq (⟨"DoughDebts", "takesSign", "(C)V"⟩, 48) := ⟨⟨by decide +kernel, by decide +kernel⟩, lw_t1 (List.mem_of_getElem? (i := 27) rfl), lw_t3 (List.mem_of_getElem? (i := 124) rfl), lw_t3 (List.mem_of_getElem? (i := 125) rfl)⟩
theorem lw_p18 : lw_okq (⟨"DoughDebts", "takesRow", "(IIII)[B"⟩, 48) := ⟨⟨by decide +kernel, by decide +kernel⟩, lw_t1 (List.mem_of_getElem? (i := 27) rfl), lw_t3 (List.mem_of_getElem? (i := 154) rfl), lw_t3 (List.mem_of_getElem? (i := 155) rfl)⟩
theorem lw_p19 : lw_okq (⟨"DoughDebts", "forgets", "()V"⟩, 48) := ⟨⟨by decide +kernel, by decide +kernel⟩, lw_t1 (List.mem_of_getElem? (i := 27) rfl), lw_t3 (List.mem_of_getElem? (i := 192) rfl), lw_t3 (List.mem_of_getElem? (i := 193) rfl)⟩
theorem lw_p20 : lw_okq (⟨"DoughDebts", "isHouse", "(I)Z"⟩, 48) := ⟨⟨by decide +kernel, by decide +kernel⟩, lw_t1 (List.mem_of_getElem? (i := 27) rfl), lw_t3 (List.mem_of_getElem? (i := 200) rfl), lw_t3 (List.mem_of_getElem? (i := 201) rfl)⟩
theorem lw_p21 : lw_okq (⟨"DoughDebts", "findsToday", "()V"⟩, 48) := ⟨⟨by decide +kernel, by decide +kernel⟩, lw_t1 (List.mem_of_getElem? (i := 27) rfl), lw_t3 (List.mem_of_getElem? (i := 213) rfl), lw_t3 (List.mem_of_getElem? (i := 214) rfl)⟩
theorem lw_p22 : lw_okq (⟨"DoughDebts", "lines", "([I)V"⟩, 48) := ⟨⟨by decide +kernel, by decide +kernel⟩, lw_t1 (List.mem_of_getElem? (i := 27) rfl), lw_t3 (List.mem_of_getElem? (i := 217) rfl), lw_t3 (List.mem_of_getElem? (i := 218) rfl)⟩
theorem lw_p23 : lw_okq (⟨"DoughDebts", "worthOf", "(I)I"⟩, 48) := ⟨⟨by decide +kernel, by decide +kernel⟩, lw_t1 (List.mem_of_getElem? (i := 27) rfl), lw_t3 (List.mem_of_getElem? (i := 221) rfl), lw_t3 (List.mem_of_getElem? (i := 222) rfl)⟩
theorem lw_p24 : lw_okq (⟨"DoughDebts", "netOf", "(I)I"⟩, 48) := ⟨⟨by decide +kernel, by decide +kernel⟩, lw_t1 (List.mem_of_getElem? (i := 27) rfl), lw_t3 (List.mem_of_getElem? (i := 225) rfl), lw_t3 (List.mem_of_getElem? (i := 226) rfl)⟩
theorem lw_p25 : lw_okq (⟨"DoughDebts", "keepsAhead", "()V"⟩, 48) := ⟨⟨by decide +kernel, by decide +kernel⟩, lw_t1 (List.mem_of_getElem? (i := 27) rfl), lw_t4 (List.mem_of_getElem? (i := 15) rfl), lw_t4 (List.mem_of_getElem? (i := 16) rfl)⟩
theorem lw_p26 : lw_okq (⟨"DoughDebts", "goesBy", "()Z"⟩, 48) := ⟨⟨by decide +kernel, by decide +kernel⟩, lw_t1 (List.mem_of_getElem? (i := 27) rfl), lw_t4 (List.mem_of_getElem? (i := 19) rfl), lw_t4 (List.mem_of_getElem? (i := 20) rfl)⟩
theorem lw_p27 : lw_okq (⟨"DoughDebts", "bakes", "(IZ)V"⟩, 48) := ⟨⟨by decide +kernel, by decide +kernel⟩, lw_t1 (List.mem_of_getElem? (i := 27) rfl), lw_t4 (List.mem_of_getElem? (i := 29) rfl), lw_t4 (List.mem_of_getElem? (i := 30) rfl)⟩
theorem lw_p28 : lw_okq (⟨"DoughDebts", "loafOf", "(I)I"⟩, 48) := ⟨⟨by decide +kernel, by decide +kernel⟩, lw_t1 (List.mem_of_getElem? (i := 27) rfl), lw_t4 (List.mem_of_getElem? (i := 33) rfl), lw_t4 (List.mem_of_getElem? (i := 34) rfl)⟩
theorem lw_p29 : lw_okq (⟨"DoughDebts", "fires", "(I)I"⟩, 48) := ⟨⟨by decide +kernel, by decide +kernel⟩, lw_t1 (List.mem_of_getElem? (i := 27) rfl), lw_t4 (List.mem_of_getElem? (i := 37) rfl), lw_t4 (List.mem_of_getElem? (i := 38) rfl)⟩
theorem lw_p30 : lw_okq (⟨"DoughDebts", "findsPieces", "([I)I"⟩, 48) := ⟨⟨by decide +kernel, by decide +kernel⟩, lw_t1 (List.mem_of_getElem? (i := 27) rfl), lw_t4 (List.mem_of_getElem? (i := 56) rfl), lw_t4 (List.mem_of_getElem? (i := 57) rfl)⟩
theorem lw_p31 : lw_okq (⟨"DoughDebts", "gainAt", "([II)I"⟩, 48) := ⟨⟨by decide +kernel, by decide +kernel⟩, lw_t1 (List.mem_of_getElem? (i := 27) rfl), lw_t4 (List.mem_of_getElem? (i := 60) rfl), lw_t4 (List.mem_of_getElem? (i := 61) rfl)⟩
def lw_privs_2 : List (MethodName × Nat) := [(⟨"DoughDebts", "opens", "()V"⟩, 48), (⟨"DoughDebts", "takesSign", "(C)V"⟩, 48), (⟨"DoughDebts", "takesRow", "(IIII)[B"⟩, 48), (⟨"DoughDebts", "forgets", "()V"⟩, 48), (⟨"DoughDebts", "isHouse", "(I)Z"⟩, 48), (⟨"DoughDebts", "findsToday", "()V"⟩, 48), (⟨"DoughDebts", "lines", "([I)V"⟩, 48), (⟨"DoughDebts", "worthOf", "(I)I"⟩, 48), (⟨"DoughDebts", "netOf", "(I)I"⟩, 48), (⟨"DoughDebts", "keepsAhead", "()V"⟩, 48), (⟨"DoughDebts", "goesBy", "()Z"⟩, 48), (⟨"DoughDebts", "bakes", "(IZ)V"⟩, 48), (⟨"DoughDebts", "loafOf", "(I)I"⟩, 48), (⟨"DoughDebts", "fires", "(I)I"⟩, 48), (⟨"DoughDebts", "findsPieces", "([I)I"⟩, 48), (⟨"DoughDebts", "gainAt", "([II)I"⟩, 48)]
theorem lw_r2 : ∀ q ∈ lw_privs_2, lw_okq q := List.forall_mem_cons.mpr ⟨lw_p16, List.forall_mem_cons.mpr ⟨lw_p17, List.forall_mem_cons.mpr ⟨lw_p18, List.forall_mem_cons.mpr ⟨lw_p19, List.forall_mem_cons.mpr ⟨lw_p20, List.forall_mem_cons.mpr ⟨lw_p21, List.forall_mem_cons.mpr ⟨lw_p22, List.forall_mem_cons.mpr ⟨lw_p23, List.forall_mem_cons.mpr ⟨lw_p24, List.forall_mem_cons.mpr ⟨lw_p25, List.forall_mem_cons.mpr ⟨lw_p26, List.forall_mem_cons.mpr ⟨lw_p27, List.forall_mem_cons.mpr ⟨lw_p28, List.forall_mem_cons.mpr ⟨lw_p29, List.forall_mem_cons.mpr ⟨lw_p30, List.forall_mem_cons.mpr ⟨lw_p31, fun _ h => absurd h List.not_mem_nil⟩⟩⟩⟩⟩⟩⟩⟩⟩⟩⟩⟩⟩⟩⟩⟩
theorem lw_p32 : lw_okq (⟨"DoughDebts", "canTry", "(I)Z"⟩, 48) := ⟨⟨by decide +kernel, by decide +kernel⟩, lw_t1 (List.mem_of_getElem? (i := 27) rfl), lw_t4 (List.mem_of_getElem? (i := 68) rfl), lw_t4 (List.mem_of_getElem? (i := 69) rfl)⟩
theorem lw_p33 : lw_okq (⟨"DoughDebts", "tries", "(IIZ)V"⟩, 48) := ⟨⟨by decide +kernel, by decide +kernel⟩, lw_t1 (List.mem_of_getElem? (i := 27) rfl), lw_t4 (List.mem_of_getElem? (i := 72) rfl), lw_t4 (List.mem_of_getElem? (i := 73) rfl)⟩
theorem lw_p34 : lw_okq (⟨"DoughDebts", "firstChange", "([I)I"⟩, 48) := ⟨⟨by decide +kernel, by decide +kernel⟩, lw_t1 (List.mem_of_getElem? (i := 27) rfl), lw_t4 (List.mem_of_getElem? (i := 80) rfl), lw_t4 (List.mem_of_getElem? (i := 81) rfl)⟩
theorem lw_p35 : lw_okq (⟨"DoughDebts", "wouldChange", "([II)Z"⟩, 48) := ⟨⟨by decide +kernel, by decide +kernel⟩, lw_t1 (List.mem_of_getElem? (i := 27) rfl), lw_t4 (List.mem_of_getElem? (i := 84) rfl), lw_t4 (List.mem_of_getElem? (i := 85) rfl)⟩
theorem lw_p36 : lw_okq (⟨"DoughDebts", "areAlike", "([I[I)Z"⟩, 48) := ⟨⟨by decide +kernel, by decide +kernel⟩, lw_t1 (List.mem_of_getElem? (i := 27) rfl), lw_t4 (List.mem_of_getElem? (i := 99) rfl), lw_t4 (List.mem_of_getElem? (i := 100) rfl)⟩
theorem lw_p37 : lw_okq (⟨"DoughDebts", "isLeaven", "(I)Z"⟩, 48) := ⟨⟨by decide +kernel, by decide +kernel⟩, lw_t1 (List.mem_of_getElem? (i := 27) rfl), lw_t4 (List.mem_of_getElem? (i := 107) rfl), lw_t4 (List.mem_of_getElem? (i := 108) rfl)⟩
theorem lw_p38 : lw_okq (⟨"DoughDebts", "findsParts", "(I)V"⟩, 48) := ⟨⟨by decide +kernel, by decide +kernel⟩, lw_t1 (List.mem_of_getElem? (i := 27) rfl), lw_t4 (List.mem_of_getElem? (i := 137) rfl), lw_t4 (List.mem_of_getElem? (i := 138) rfl)⟩
theorem lw_p39 : lw_okq (⟨"DoughDebts", "housesOf", "(I)I"⟩, 48) := ⟨⟨by decide +kernel, by decide +kernel⟩, lw_t1 (List.mem_of_getElem? (i := 27) rfl), lw_t4 (List.mem_of_getElem? (i := 150) rfl), lw_t4 (List.mem_of_getElem? (i := 151) rfl)⟩
theorem lw_p40 : lw_okq (⟨"DoughDebts", "isLed", "(II)Z"⟩, 48) := ⟨⟨by decide +kernel, by decide +kernel⟩, lw_t1 (List.mem_of_getElem? (i := 27) rfl), lw_t4 (List.mem_of_getElem? (i := 154) rfl), lw_t4 (List.mem_of_getElem? (i := 155) rfl)⟩
theorem lw_p41 : lw_okq (⟨"DoughDebts", "takesSeen", "()[B"⟩, 48) := ⟨⟨by decide +kernel, by decide +kernel⟩, lw_t1 (List.mem_of_getElem? (i := 27) rfl), lw_t4 (List.mem_of_getElem? (i := 176) rfl), lw_t4 (List.mem_of_getElem? (i := 177) rfl)⟩
theorem lw_p42 : lw_okq (⟨"DoughDebts", "findsOdds", "(I[B)V"⟩, 48) := ⟨⟨by decide +kernel, by decide +kernel⟩, lw_t1 (List.mem_of_getElem? (i := 27) rfl), lw_t4 (List.mem_of_getElem? (i := 181) rfl), lw_t4 (List.mem_of_getElem? (i := 182) rfl)⟩
theorem lw_p43 : lw_okq (⟨"DoughDebts", "mostGroups", "(I)I"⟩, 48) := ⟨⟨by decide +kernel, by decide +kernel⟩, lw_t1 (List.mem_of_getElem? (i := 27) rfl), lw_t4 (List.mem_of_getElem? (i := 198) rfl), lw_t4 (List.mem_of_getElem? (i := 199) rfl)⟩
theorem lw_p44 : lw_okq (⟨"DoughDebtsModel", "next0", "()V"⟩, 36) := ⟨⟨by decide +kernel, by decide +kernel⟩, lw_t4 (List.mem_of_getElem? (i := 213) rfl), lw_t5 (List.mem_of_getElem? (i := 107) rfl), lw_t5 (List.mem_of_getElem? (i := 108) rfl)⟩
theorem lw_p45 : lw_okq (⟨"DoughDebtsModel", "see", "(I)I"⟩, 36) := ⟨⟨by decide +kernel, by decide +kernel⟩, lw_t4 (List.mem_of_getElem? (i := 213) rfl), lw_t5 (List.mem_of_getElem? (i := 111) rfl), lw_t5 (List.mem_of_getElem? (i := 112) rfl)⟩
theorem lw_p46 : lw_okq (⟨"DoughDebtsModel", "word", "()I"⟩, 36) := ⟨⟨by decide +kernel, by decide +kernel⟩, lw_t4 (List.mem_of_getElem? (i := 213) rfl), lw_t5 (List.mem_of_getElem? (i := 118) rfl), lw_t5 (List.mem_of_getElem? (i := 119) rfl)⟩
theorem lw_p47 : lw_okq (⟨"DoughDebtsModel", "is", "(Ljava/lang/String;)Z"⟩, 36) := ⟨⟨by decide +kernel, by decide +kernel⟩, lw_t4 (List.mem_of_getElem? (i := 213) rfl), lw_t5 (List.mem_of_getElem? (i := 123) rfl), lw_t5 (List.mem_of_getElem? (i := 124) rfl)⟩
def lw_privs_3 : List (MethodName × Nat) := [(⟨"DoughDebts", "canTry", "(I)Z"⟩, 48), (⟨"DoughDebts", "tries", "(IIZ)V"⟩, 48), (⟨"DoughDebts", "firstChange", "([I)I"⟩, 48), (⟨"DoughDebts", "wouldChange", "([II)Z"⟩, 48), (⟨"DoughDebts", "areAlike", "([I[I)Z"⟩, 48), (⟨"DoughDebts", "isLeaven", "(I)Z"⟩, 48), (⟨"DoughDebts", "findsParts", "(I)V"⟩, 48), (⟨"DoughDebts", "housesOf", "(I)I"⟩, 48), (⟨"DoughDebts", "isLed", "(II)Z"⟩, 48), (⟨"DoughDebts", "takesSeen", "()[B"⟩, 48), (⟨"DoughDebts", "findsOdds", "(I[B)V"⟩, 48), (⟨"DoughDebts", "mostGroups", "(I)I"⟩, 48), (⟨"DoughDebtsModel", "next0", "()V"⟩, 36), (⟨"DoughDebtsModel", "see", "(I)I"⟩, 36), (⟨"DoughDebtsModel", "word", "()I"⟩, 36), (⟨"DoughDebtsModel", "is", "(Ljava/lang/String;)Z"⟩, 36)]
theorem lw_r3 : ∀ q ∈ lw_privs_3, lw_okq q := List.forall_mem_cons.mpr ⟨lw_p32, List.forall_mem_cons.mpr ⟨lw_p33, List.forall_mem_cons.mpr ⟨lw_p34, List.forall_mem_cons.mpr ⟨lw_p35, List.forall_mem_cons.mpr ⟨lw_p36, List.forall_mem_cons.mpr ⟨lw_p37, List.forall_mem_cons.mpr ⟨lw_p38, List.forall_mem_cons.mpr ⟨lw_p39, List.forall_mem_cons.mpr ⟨lw_p40, List.forall_mem_cons.mpr ⟨lw_p41, List.forall_mem_cons.mpr ⟨lw_p42, List.forall_mem_cons.mpr ⟨lw_p43, List.forall_mem_cons.mpr ⟨lw_p44, List.forall_mem_cons.mpr ⟨lw_p45, List.forall_mem_cons.mpr ⟨lw_p46, List.forall_mem_cons.mpr ⟨lw_p47, fun _ h => absurd h List.not_mem_nil⟩⟩⟩⟩⟩⟩⟩⟩⟩⟩⟩⟩⟩⟩⟩⟩
theorem lw_p48 : lw_okq (⟨"DoughDebtsModel", "nameWord", "()I"⟩, 36) := ⟨⟨by decide +kernel, by decide +kernel⟩, lw_t4 (List.mem_of_getElem? (i := 213) rfl), lw_t5 (List.mem_of_getElem? (i := 133) rfl), lw_t5 (List.mem_of_getElem? (i := 134) rfl)⟩
theorem lw_p49 : lw_okq (⟨"DoughDebtsModel", "aLine", "()Z"⟩, 36) := ⟨⟨by decide +kernel, by decide +kernel⟩, lw_t4 (List.mem_of_getElem? (i := 213) rfl), lw_t5 (List.mem_of_getElem? (i := 150) rfl), lw_t5 (List.mem_of_getElem? (i := 151) rfl)⟩
theorem lw_p50 : lw_okq (⟨"DoughDebtsModel", "bad", "(I)Z"⟩, 36) := ⟨⟨by decide +kernel, by decide +kernel⟩, lw_t4 (List.mem_of_getElem? (i := 213) rfl), lw_t5 (List.mem_of_getElem? (i := 154) rfl), lw_t5 (List.mem_of_getElem? (i := 155) rfl)⟩
theorem lw_p51 : lw_okq (⟨"DoughDebtsModel", "sumUp", "()Z"⟩, 36) := ⟨⟨by decide +kernel, by decide +kernel⟩, lw_t4 (List.mem_of_getElem? (i := 213) rfl), lw_t5 (List.mem_of_getElem? (i := 158) rfl), lw_t5 (List.mem_of_getElem? (i := 159) rfl)⟩
theorem lw_p52 : lw_okq (⟨"DoughDebtsModel", "product", "()Z"⟩, 36) := ⟨⟨by decide +kernel, by decide +kernel⟩, lw_t4 (List.mem_of_getElem? (i := 213) rfl), lw_t5 (List.mem_of_getElem? (i := 162) rfl), lw_t5 (List.mem_of_getElem? (i := 163) rfl)⟩
theorem lw_p53 : lw_okq (⟨"DoughDebtsModel", "unit", "()Z"⟩, 36) := ⟨⟨by decide +kernel, by decide +kernel⟩, lw_t4 (List.mem_of_getElem? (i := 213) rfl), lw_t5 (List.mem_of_getElem? (i := 166) rfl), lw_t5 (List.mem_of_getElem? (i := 167) rfl)⟩
theorem lw_p54 : lw_okq (⟨"DoughDebtsModel", "lay", "(II)V"⟩, 36) := ⟨⟨by decide +kernel, by decide +kernel⟩, lw_t4 (List.mem_of_getElem? (i := 213) rfl), lw_t5 (List.mem_of_getElem? (i := 170) rfl), lw_t5 (List.mem_of_getElem? (i := 171) rfl)⟩
theorem lw_p55 : lw_okq (⟨"DoughDebtsModel", "any", "()Z"⟩, 36) := ⟨⟨by decide +kernel, by decide +kernel⟩, lw_t4 (List.mem_of_getElem? (i := 213) rfl), lw_t5 (List.mem_of_getElem? (i := 174) rfl), lw_t5 (List.mem_of_getElem? (i := 175) rfl)⟩
theorem lw_p56 : lw_okq (⟨"DoughDebtsModel", "every", "()Z"⟩, 36) := ⟨⟨by decide +kernel, by decide +kernel⟩, lw_t4 (List.mem_of_getElem? (i := 213) rfl), lw_t5 (List.mem_of_getElem? (i := 178) rfl), lw_t5 (List.mem_of_getElem? (i := 179) rfl)⟩
theorem lw_p57 : lw_okq (⟨"DoughDebtsModel", "oneTest", "()Z"⟩, 36) := ⟨⟨by decide +kernel, by decide +kernel⟩, lw_t4 (List.mem_of_getElem? (i := 213) rfl), lw_t5 (List.mem_of_getElem? (i := 182) rfl), lw_t5 (List.mem_of_getElem? (i := 183) rfl)⟩
theorem lw_p58 : lw_okq (⟨"DoughDebtsModel", "opens", "()Z"⟩, 36) := ⟨⟨by decide +kernel, by decide +kernel⟩, lw_t4 (List.mem_of_getElem? (i := 213) rfl), lw_t5 (List.mem_of_getElem? (i := 186) rfl), lw_t5 (List.mem_of_getElem? (i := 187) rfl)⟩
theorem lw_p59 : lw_okq (⟨"DoughDebtsModel", "need", "(I)Z"⟩, 36) := ⟨⟨by decide +kernel, by decide +kernel⟩, lw_t4 (List.mem_of_getElem? (i := 213) rfl), lw_t5 (List.mem_of_getElem? (i := 190) rfl), lw_t5 (List.mem_of_getElem? (i := 191) rfl)⟩
theorem lw_p60 : lw_okq (⟨"DoughDebtsModel", "takesRow", "()I"⟩, 36) := ⟨⟨by decide +kernel, by decide +kernel⟩, lw_t4 (List.mem_of_getElem? (i := 213) rfl), lw_t5 (List.mem_of_getElem? (i := 202) rfl), lw_t5 (List.mem_of_getElem? (i := 203) rfl)⟩
theorem lw_p61 : lw_okq (⟨"DoughDebtsModel", "forgets", "()V"⟩, 36) := ⟨⟨by decide +kernel, by decide +kernel⟩, lw_t4 (List.mem_of_getElem? (i := 213) rfl), lw_t5 (List.mem_of_getElem? (i := 206) rfl), lw_t5 (List.mem_of_getElem? (i := 207) rfl)⟩
theorem lw_p62 : lw_okq (⟨"DoughDebtsModel", "isHouse", "(I)Z"⟩, 36) := ⟨⟨by decide +kernel, by decide +kernel⟩, lw_t4 (List.mem_of_getElem? (i := 213) rfl), lw_t5 (List.mem_of_getElem? (i := 214) rfl), lw_t5 (List.mem_of_getElem? (i := 215) rfl)⟩
theorem lw_p63 : lw_okq (⟨"DoughDebtsModel", "own", "(II)I"⟩, 36) := ⟨⟨by decide +kernel, by decide +kernel⟩, lw_t4 (List.mem_of_getElem? (i := 213) rfl), lw_t5 (List.mem_of_getElem? (i := 219) rfl), lw_t5 (List.mem_of_getElem? (i := 220) rfl)⟩
def lw_privs_4 : List (MethodName × Nat) := [(⟨"DoughDebtsModel", "nameWord", "()I"⟩, 36), (⟨"DoughDebtsModel", "aLine", "()Z"⟩, 36), (⟨"DoughDebtsModel", "bad", "(I)Z"⟩, 36), (⟨"DoughDebtsModel", "sumUp", "()Z"⟩, 36), (⟨"DoughDebtsModel", "product", "()Z"⟩, 36), (⟨"DoughDebtsModel", "unit", "()Z"⟩, 36), (⟨"DoughDebtsModel", "lay", "(II)V"⟩, 36), (⟨"DoughDebtsModel", "any", "()Z"⟩, 36), (⟨"DoughDebtsModel", "every", "()Z"⟩, 36), (⟨"DoughDebtsModel", "oneTest", "()Z"⟩, 36), (⟨"DoughDebtsModel", "opens", "()Z"⟩, 36), (⟨"DoughDebtsModel", "need", "(I)Z"⟩, 36), (⟨"DoughDebtsModel", "takesRow", "()I"⟩, 36), (⟨"DoughDebtsModel", "forgets", "()V"⟩, 36), (⟨"DoughDebtsModel", "isHouse", "(I)Z"⟩, 36), (⟨"DoughDebtsModel", "own", "(II)I"⟩, 36)]
theorem lw_r4 : ∀ q ∈ lw_privs_4, lw_okq q := List.forall_mem_cons.mpr ⟨lw_p48, List.forall_mem_cons.mpr ⟨lw_p49, List.forall_mem_cons.mpr ⟨lw_p50, List.forall_mem_cons.mpr ⟨lw_p51, List.forall_mem_cons.mpr ⟨lw_p52, List.forall_mem_cons.mpr ⟨lw_p53, List.forall_mem_cons.mpr ⟨lw_p54, List.forall_mem_cons.mpr ⟨lw_p55, List.forall_mem_cons.mpr ⟨lw_p56, List.forall_mem_cons.mpr ⟨lw_p57, List.forall_mem_cons.mpr ⟨lw_p58, List.forall_mem_cons.mpr ⟨lw_p59, List.forall_mem_cons.mpr ⟨lw_p60, List.forall_mem_cons.mpr ⟨lw_p61, List.forall_mem_cons.mpr ⟨lw_p62, List.forall_mem_cons.mpr ⟨lw_p63, fun _ h => absurd h List.not_mem_nil⟩⟩⟩⟩⟩⟩⟩⟩⟩⟩⟩⟩⟩⟩⟩⟩
theorem lw_p64 : lw_okq (⟨"DoughDebtsModel", "adds", "(III)V"⟩, 36) := ⟨⟨by decide +kernel, by decide +kernel⟩, lw_t4 (List.mem_of_getElem? (i := 213) rfl), lw_t5 (List.mem_of_getElem? (i := 224) rfl), lw_t5 (List.mem_of_getElem? (i := 225) rfl)⟩
theorem lw_p65 : lw_okq (⟨"DoughDebtsModel", "laysOrder", "(Z)V"⟩, 36) := ⟨⟨by decide +kernel, by decide +kernel⟩, lw_t4 (List.mem_of_getElem? (i := 213) rfl), lw_t5 (List.mem_of_getElem? (i := 236) rfl), lw_t5 (List.mem_of_getElem? (i := 237) rfl)⟩
theorem lw_p66 : lw_okq (⟨"DoughDebtsModel", "worth", "(I)I"⟩, 36) := ⟨⟨by decide +kernel, by decide +kernel⟩, lw_t4 (List.mem_of_getElem? (i := 213) rfl), lw_t6 (List.mem_of_getElem? (i := 0) rfl), lw_t6 (List.mem_of_getElem? (i := 1) rfl)⟩
theorem lw_p67 : lw_okq (⟨"DoughDebtsModel", "net", "(I)I"⟩, 36) := ⟨⟨by decide +kernel, by decide +kernel⟩, lw_t4 (List.mem_of_getElem? (i := 213) rfl), lw_t6 (List.mem_of_getElem? (i := 4) rfl), lw_t6 (List.mem_of_getElem? (i := 5) rfl)⟩
theorem lw_p68 : lw_okq (⟨"DoughDebtsModel", "debt", "(II)I"⟩, 36) := ⟨⟨by decide +kernel, by decide +kernel⟩, lw_t4 (List.mem_of_getElem? (i := 213) rfl), lw_t6 (List.mem_of_getElem? (i := 8) rfl), lw_t6 (List.mem_of_getElem? (i := 9) rfl)⟩
theorem lw_p69 : lw_okq (⟨"DoughDebtsModel", "comesTo", "(II)I"⟩, 36) := ⟨⟨by decide +kernel, by decide +kernel⟩, lw_t4 (List.mem_of_getElem? (i := 213) rfl), lw_t6 (List.mem_of_getElem? (i := 12) rfl), lw_t6 (List.mem_of_getElem? (i := 13) rfl)⟩
theorem lw_p70 : lw_okq (⟨"DoughDebtsModel", "aDay", "()I"⟩, 36) := ⟨⟨by decide +kernel, by decide +kernel⟩, lw_t4 (List.mem_of_getElem? (i := 213) rfl), lw_t6 (List.mem_of_getElem? (i := 23) rfl), lw_t6 (List.mem_of_getElem? (i := 24) rfl)⟩
theorem lw_p71 : lw_okq (⟨"DoughDebtsModel", "draw", "(I)I"⟩, 36) := ⟨⟨by decide +kernel, by decide +kernel⟩, lw_t4 (List.mem_of_getElem? (i := 213) rfl), lw_t6 (List.mem_of_getElem? (i := 27) rfl), lw_t6 (List.mem_of_getElem? (i := 28) rfl)⟩
theorem lw_p72 : lw_okq (⟨"DoughDebtsModel", "loaf", "(I)I"⟩, 36) := ⟨⟨by decide +kernel, by decide +kernel⟩, lw_t4 (List.mem_of_getElem? (i := 213) rfl), lw_t6 (List.mem_of_getElem? (i := 33) rfl), lw_t6 (List.mem_of_getElem? (i := 34) rfl)⟩
theorem lw_p73 : lw_okq (⟨"DoughDebtsModel", "heats", "(I)I"⟩, 36) := ⟨⟨by decide +kernel, by decide +kernel⟩, lw_t4 (List.mem_of_getElem? (i := 213) rfl), lw_t6 (List.mem_of_getElem? (i := 37) rfl), lw_t6 (List.mem_of_getElem? (i := 38) rfl)⟩
theorem lw_p74 : lw_okq (⟨"DoughDebtsModel", "bakes", "()I"⟩, 36) := ⟨⟨by decide +kernel, by decide +kernel⟩, lw_t4 (List.mem_of_getElem? (i := 213) rfl), lw_t6 (List.mem_of_getElem? (i := 58) rfl), lw_t6 (List.mem_of_getElem? (i := 59) rfl)⟩
theorem lw_p75 : lw_okq (⟨"DoughDebtsModel", "gainAt", "(I)I"⟩, 36) := ⟨⟨by decide +kernel, by decide +kernel⟩, lw_t4 (List.mem_of_getElem? (i := 213) rfl), lw_t6 (List.mem_of_getElem? (i := 62) rfl), lw_t6 (List.mem_of_getElem? (i := 63) rfl)⟩
theorem lw_p76 : lw_okq (⟨"DoughDebtsModel", "isTold", "(I)Z"⟩, 36) := ⟨⟨by decide +kernel, by decide +kernel⟩, lw_t4 (List.mem_of_getElem? (i := 213) rfl), lw_t6 (List.mem_of_getElem? (i := 70) rfl), lw_t6 (List.mem_of_getElem? (i := 71) rfl)⟩
theorem lw_p77 : lw_okq (⟨"DoughDebtsModel", "goesThrough", "(II)V"⟩, 36) := ⟨⟨by decide +kernel, by decide +kernel⟩, lw_t4 (List.mem_of_getElem? (i := 213) rfl), lw_t6 (List.mem_of_getElem? (i := 74) rfl), lw_t6 (List.mem_of_getElem? (i := 75) rfl)⟩
theorem lw_p78 : lw_okq (⟨"DoughDebtsModel", "firstChange", "()I"⟩, 36) := ⟨⟨by decide +kernel, by decide +kernel⟩, lw_t4 (List.mem_of_getElem? (i := 213) rfl), lw_t6 (List.mem_of_getElem? (i := 78) rfl), lw_t6 (List.mem_of_getElem? (i := 79) rfl)⟩
theorem lw_p79 : lw_okq (⟨"DoughDebtsModel", "wouldChange", "(I)Z"⟩, 36) := ⟨⟨by decide +kernel, by decide +kernel⟩, lw_t4 (List.mem_of_getElem? (i := 213) rfl), lw_t6 (List.mem_of_getElem? (i := 82) rfl), lw_t6 (List.mem_of_getElem? (i := 83) rfl)⟩
def lw_privs_5 : List (MethodName × Nat) := [(⟨"DoughDebtsModel", "adds", "(III)V"⟩, 36), (⟨"DoughDebtsModel", "laysOrder", "(Z)V"⟩, 36), (⟨"DoughDebtsModel", "worth", "(I)I"⟩, 36), (⟨"DoughDebtsModel", "net", "(I)I"⟩, 36), (⟨"DoughDebtsModel", "debt", "(II)I"⟩, 36), (⟨"DoughDebtsModel", "comesTo", "(II)I"⟩, 36), (⟨"DoughDebtsModel", "aDay", "()I"⟩, 36), (⟨"DoughDebtsModel", "draw", "(I)I"⟩, 36), (⟨"DoughDebtsModel", "loaf", "(I)I"⟩, 36), (⟨"DoughDebtsModel", "heats", "(I)I"⟩, 36), (⟨"DoughDebtsModel", "bakes", "()I"⟩, 36), (⟨"DoughDebtsModel", "gainAt", "(I)I"⟩, 36), (⟨"DoughDebtsModel", "isTold", "(I)Z"⟩, 36), (⟨"DoughDebtsModel", "goesThrough", "(II)V"⟩, 36), (⟨"DoughDebtsModel", "firstChange", "()I"⟩, 36), (⟨"DoughDebtsModel", "wouldChange", "(I)Z"⟩, 36)]
theorem lw_r5 : ∀ q ∈ lw_privs_5, lw_okq q := List.forall_mem_cons.mpr ⟨lw_p64, List.forall_mem_cons.mpr ⟨lw_p65, List.forall_mem_cons.mpr ⟨lw_p66, List.forall_mem_cons.mpr ⟨lw_p67, List.forall_mem_cons.mpr ⟨lw_p68, List.forall_mem_cons.mpr ⟨lw_p69, List.forall_mem_cons.mpr ⟨lw_p70, List.forall_mem_cons.mpr ⟨lw_p71, List.forall_mem_cons.mpr ⟨lw_p72, List.forall_mem_cons.mpr ⟨lw_p73, List.forall_mem_cons.mpr ⟨lw_p74, List.forall_mem_cons.mpr ⟨lw_p75, List.forall_mem_cons.mpr ⟨lw_p76, List.forall_mem_cons.mpr ⟨lw_p77, List.forall_mem_cons.mpr ⟨lw_p78, List.forall_mem_cons.mpr ⟨lw_p79, fun _ h => absurd h List.not_mem_nil⟩⟩⟩⟩⟩⟩⟩⟩⟩⟩⟩⟩⟩⟩⟩⟩
theorem lw_p80 : lw_okq (⟨"DoughDebtsModel", "exchanges", "(I)V"⟩, 36) := ⟨⟨by decide +kernel, by decide +kernel⟩, lw_t4 (List.mem_of_getElem? (i := 213) rfl), lw_t6 (List.mem_of_getElem? (i := 86) rfl), lw_t6 (List.mem_of_getElem? (i := 87) rfl)⟩
theorem lw_p81 : lw_okq (⟨"DoughDebtsModel", "isRow", "(I)Z"⟩, 36) := ⟨⟨by decide +kernel, by decide +kernel⟩, lw_t4 (List.mem_of_getElem? (i := 213) rfl), lw_t6 (List.mem_of_getElem? (i := 98) rfl), lw_t6 (List.mem_of_getElem? (i := 99) rfl)⟩
theorem lw_p82 : lw_okq (⟨"DoughDebtsModel", "isLeaven", "(I)Z"⟩, 36) := ⟨⟨by decide +kernel, by decide +kernel⟩, lw_t4 (List.mem_of_getElem? (i := 213) rfl), lw_t6 (List.mem_of_getElem? (i := 106) rfl), lw_t6 (List.mem_of_getElem? (i := 107) rfl)⟩
theorem lw_p83 : lw_okq (⟨"DoughDebtsModel", "ofLeaven", "(II)I"⟩, 36) := ⟨⟨by decide +kernel, by decide +kernel⟩, lw_t4 (List.mem_of_getElem? (i := 213) rfl), lw_t6 (List.mem_of_getElem? (i := 110) rfl), lw_t6 (List.mem_of_getElem? (i := 111) rfl)⟩
theorem lw_p84 : lw_okq (⟨"DoughDebtsModel", "laysParts", "(I)V"⟩, 36) := ⟨⟨by decide +kernel, by decide +kernel⟩, lw_t4 (List.mem_of_getElem? (i := 213) rfl), lw_t6 (List.mem_of_getElem? (i := 118) rfl), lw_t6 (List.mem_of_getElem? (i := 119) rfl)⟩
theorem lw_p85 : lw_okq (⟨"DoughDebtsModel", "isLed", "(II)Z"⟩, 36) := ⟨⟨by decide +kernel, by decide +kernel⟩, lw_t4 (List.mem_of_getElem? (i := 213) rfl), lw_t6 (List.mem_of_getElem? (i := 127) rfl), lw_t6 (List.mem_of_getElem? (i := 128) rfl)⟩
theorem lw_p86 : lw_okq (⟨"DoughDebtsModel", "laysOdds", "(II)V"⟩, 36) := ⟨⟨by decide +kernel, by decide +kernel⟩, lw_t4 (List.mem_of_getElem? (i := 213) rfl), lw_t6 (List.mem_of_getElem? (i := 144) rfl), lw_t6 (List.mem_of_getElem? (i := 145) rfl)⟩
def lw_privs_6 : List (MethodName × Nat) := [(⟨"DoughDebtsModel", "exchanges", "(I)V"⟩, 36), (⟨"DoughDebtsModel", "isRow", "(I)Z"⟩, 36), (⟨"DoughDebtsModel", "isLeaven", "(I)Z"⟩, 36), (⟨"DoughDebtsModel", "ofLeaven", "(II)I"⟩, 36), (⟨"DoughDebtsModel", "laysParts", "(I)V"⟩, 36), (⟨"DoughDebtsModel", "isLed", "(II)Z"⟩, 36), (⟨"DoughDebtsModel", "laysOdds", "(II)V"⟩, 36)]
theorem lw_r6 : ∀ q ∈ lw_privs_6, lw_okq q := List.forall_mem_cons.mpr ⟨lw_p80, List.forall_mem_cons.mpr ⟨lw_p81, List.forall_mem_cons.mpr ⟨lw_p82, List.forall_mem_cons.mpr ⟨lw_p83, List.forall_mem_cons.mpr ⟨lw_p84, List.forall_mem_cons.mpr ⟨lw_p85, List.forall_mem_cons.mpr ⟨lw_p86, fun _ h => absurd h List.not_mem_nil⟩⟩⟩⟩⟩⟩⟩
def lw_privs : List (MethodName × Nat) := lw_privs_1 ++ (lw_privs_2 ++ (lw_privs_3 ++ (lw_privs_4 ++ (lw_privs_5 ++ (lw_privs_6)))))
def lw_tbl : List Cond := k2_sels lw_privs ++ tables_1
theorem lw_privs_ok : ∀ q ∈ lw_privs, lw_okq q := by
  show ∀ q ∈ lw_privs_1 ++ (lw_privs_2 ++ (lw_privs_3 ++ (lw_privs_4 ++ (lw_privs_5 ++ (lw_privs_6))))), lw_okq q
  exact List.forall_mem_append.mpr ⟨lw_r1, List.forall_mem_append.mpr ⟨lw_r2, List.forall_mem_append.mpr ⟨lw_r3, List.forall_mem_append.mpr ⟨lw_r4, List.forall_mem_append.mpr ⟨lw_r5, lw_r6⟩⟩⟩⟩⟩
-- ===== ONE list of words for every method: the tables' words that hold all through a run =====
def lw_all : List Cond := lw_tbl.filter goodWord
/-- a word of the tables by its place: claim/WORDS.tsv -/
theorem lw_w {w : Cond} (i : Nat) (h : lw_tbl[i]? = some w) (g : goodWord w = true) : w ∈ lw_all := List.mem_filter.mpr ⟨List.mem_of_getElem? h, g⟩
theorem lw_all_tbl {w : Cond} (h : w ∈ lw_all) : w ∈ lw_tbl := (List.mem_filter.mp h).1
theorem lw_self : GoodIn lw_all lw_all := fun w h => ⟨h, good_of_word (List.mem_filter.mp h).2⟩
/-- a class's field words, by their places -/
theorem lw_in (ws : List Cond) (ps : List Nat) (hp : ws = ps.filterMap (fun i => lw_tbl[i]?)) (hg : ws.all goodWord = true) : ∀ w ∈ ws, w ∈ lw_all := by
  intro w h
  have h1 := List.all_eq_true.mp hg w h
  rw [hp] at h
  obtain ⟨i, -, hi⟩ := List.mem_filterMap.mp h
  exact lw_w i hi h1
/-- the words of a contract for the method y with code b, L locals, answer r -/
abbrev ws_ (y : MethodName) (b : ByteArray) (L : Nat) (r : Option FieldType) : List Cond := Cond.code y b L r :: lw_all
theorem lw_meth {y : MethodName} {b : ByteArray} {L : Nat} {r : Option FieldType} (h : Cond.code y b L r ∈ lw_all) : GoodIn lw_all (ws_ y b L r) := by
  intro w hw
  rcases List.mem_cons.mp hw with e | e
  · rw [e]
    exact lw_self _ h
  · exact lw_self _ e
theorem lw_app {a c : List Cond} (ha : ∀ w ∈ a, w ∈ lw_all) (hc : GoodIn lw_all c) : GoodIn lw_all (a ++ c) := by
  intro w hw
  rcases List.mem_append.mp hw with e | e
  · exact lw_self w (ha w e)
  · exact hc w e
/-- what a call through an object asks: cwV n hts (lw_V ..) -/
theorem lw_V {own : String} {idx : Nat} {C : String} {y : MethodName} {b : ByteArray} {L : Nat} {r : Option FieldType} (h1 : Cond.methodLink own idx y ∈ lw_all) (h2 : Cond.instanceMethod y ∈ lw_all) (h3 : Cond.selects C y y ∈ lw_all) (h4 : Cond.initialized C ∈ lw_all) (h5 : Cond.code y b L r ∈ lw_all) : GoodIn lw_all (wsV own idx C y (ws_ y b L r)) := by
  refine lw_app ?_ (lw_meth h5)
  intro w hw
  simp only [List.mem_cons, List.not_mem_nil, or_false] at hw
  rcases hw with e | e | e | e
  · rw [e]; exact h1
  · rw [e]; exact h2
  · rw [e]; exact h3
  · rw [e]; exact h4
/-- what a static call asks: va_cwS n hts (lw_S ..) -/
theorem lw_S {own : String} {idx : Nat} {y : MethodName} {b : ByteArray} {L : Nat} {r : Option FieldType} (h1 : Cond.methodLink own idx y ∈ lw_all) (h2 : Cond.static y ∈ lw_all) (h3 : Cond.initialized y.cls ∈ lw_all) (h4 : Cond.code y b L r ∈ lw_all) : GoodIn lw_all (va_wsS own idx y (ws_ y b L r)) := by
  refine lw_app ?_ (lw_meth h4)
  intro w hw
  simp only [List.mem_cons, List.not_mem_nil, or_false] at hw
  rcases hw with e | e | e
  · rw [e]; exact h1
  · rw [e]; exact h2
  · rw [e]; exact h3
/-- the words of a contract for a method WITH HANDLERS (hh: its table) -/
abbrev wsW_ (y : MethodName) (b : ByteArray) (L : Nat) (r : Option FieldType) (hh : List (Nat × Nat × Nat × Nat)) : List Cond := Cond.codeWith y b L r hh :: lw_all
theorem lw_methW {y : MethodName} {b : ByteArray} {L : Nat} {r : Option FieldType} {hh : List (Nat × Nat × Nat × Nat)} (h : Cond.codeWith y b L r hh ∈ lw_all) : GoodIn lw_all (wsW_ y b L r hh) := by
  intro w hw
  rcases List.mem_cons.mp hw with e | e
  · rw [e]
    exact lw_self _ h
  · exact lw_self _ e
/-- any list of words by their places (lw_in), good -/
theorem lw_good {ws : List Cond} (h : ∀ w ∈ ws, w ∈ lw_all) : GoodIn lw_all ws := fun w hw => lw_self w (h w hw)
/-- what a call of a method with handlers asks: vx_cwVW n hts (lw_VW ..), vx_cwSW n hts (lw_SW ..) -/
theorem lw_VW {own : String} {idx : Nat} {C : String} {y : MethodName} {b : ByteArray} {L : Nat} {r : Option FieldType} {hh : List (Nat × Nat × Nat × Nat)} (h1 : Cond.methodLink own idx y ∈ lw_all) (h2 : Cond.instanceMethod y ∈ lw_all) (h3 : Cond.selects C y y ∈ lw_all) (h4 : Cond.initialized C ∈ lw_all) (h5 : Cond.codeWith y b L r hh ∈ lw_all) : GoodIn lw_all (wsV own idx C y (wsW_ y b L r hh)) := by
  refine lw_app ?_ (lw_methW h5)
  intro w hw
  simp only [List.mem_cons, List.not_mem_nil, or_false] at hw
  rcases hw with e | e | e | e
  · rw [e]; exact h1
  · rw [e]; exact h2
  · rw [e]; exact h3
  · rw [e]; exact h4
theorem lw_SW {own : String} {idx : Nat} {y : MethodName} {b : ByteArray} {L : Nat} {r : Option FieldType} {hh : List (Nat × Nat × Nat × Nat)} (h1 : Cond.methodLink own idx y ∈ lw_all) (h2 : Cond.static y ∈ lw_all) (h3 : Cond.initialized y.cls ∈ lw_all) (h4 : Cond.codeWith y b L r hh ∈ lw_all) : GoodIn lw_all (va_wsS own idx y (wsW_ y b L r hh)) := by
  refine lw_app ?_ (lw_methW h4)
  intro w hw
  simp only [List.mem_cons, List.not_mem_nil, or_false] at hw
  rcases hw with e | e | e
  · rw [e]; exact h1
  · rw [e]; exact h2
  · rw [e]; exact h3
/-- a word by its place in its run of the tables -/
theorem lw_at {r : List Cond} (hr : ∀ w ∈ r, w ∈ lw_tbl) {w : Cond} (i : Nat) (h : r[i]? = some w) : w ∈ lw_tbl := hr w (List.mem_of_getElem? h)
theorem lw_g {w : Cond} (h : w ∈ lw_tbl) (g : goodWord w = true) : w ∈ lw_all := List.mem_filter.mpr ⟨h, g⟩
theorem lw_ms : ∀ w ∈ k2_sels lw_privs, w ∈ lw_tbl := fun w h => show w ∈ k2_sels lw_privs ++ tables_1 from List.mem_append_left _ h
theorem lw_m1 : ∀ w ∈ tables_1_1, w ∈ lw_tbl := fun w h => show w ∈ k2_sels lw_privs ++ tables_1 from List.mem_append_right (k2_sels lw_privs) (show w ∈ tables_1 from List.mem_append_left _ h)
theorem lw_m2 : ∀ w ∈ tables_1_2, w ∈ lw_tbl := fun w h => show w ∈ k2_sels lw_privs ++ tables_1 from List.mem_append_right (k2_sels lw_privs) (show w ∈ tables_1 from List.mem_append_right _ (List.mem_append_left _ h))
theorem lw_m3 : ∀ w ∈ tables_1_3, w ∈ lw_tbl := fun w h => show w ∈ k2_sels lw_privs ++ tables_1 from List.mem_append_right (k2_sels lw_privs) (show w ∈ tables_1 from List.mem_append_right _ (List.mem_append_right _ (List.mem_append_left _ h)))
theorem lw_m4 : ∀ w ∈ tables_1_4, w ∈ lw_tbl := fun w h => show w ∈ k2_sels lw_privs ++ tables_1 from List.mem_append_right (k2_sels lw_privs) (show w ∈ tables_1 from List.mem_append_right _ (List.mem_append_right _ (List.mem_append_right _ (List.mem_append_left _ h))))
theorem lw_m5 : ∀ w ∈ tables_1_5, w ∈ lw_tbl := fun w h => show w ∈ k2_sels lw_privs ++ tables_1 from List.mem_append_right (k2_sels lw_privs) (show w ∈ tables_1 from List.mem_append_right _ (List.mem_append_right _ (List.mem_append_right _ (List.mem_append_right _ (List.mem_append_left _ h)))))
theorem lw_m6 : ∀ w ∈ tables_1_6, w ∈ lw_tbl := fun w h => show w ∈ k2_sels lw_privs ++ tables_1 from List.mem_append_right (k2_sels lw_privs) (show w ∈ tables_1 from List.mem_append_right _ (List.mem_append_right _ (List.mem_append_right _ (List.mem_append_right _ (List.mem_append_right _ h)))))
theorem qs0 : (Cond.selects "DoughDebts" ⟨"DoughDebts", "puts", "(I)V"⟩ ⟨"DoughDebts", "puts", "(I)V"⟩) ∈ lw_all := lw_g (lw_at lw_ms 0 rfl) rfl
theorem qs1 : (Cond.selects "DoughDebts" ⟨"DoughDebts", "readsRule", "()LDoughDebts$Text;"⟩ ⟨"DoughDebts", "readsRule", "()LDoughDebts$Text;"⟩) ∈ lw_all := lw_g (lw_at lw_ms 1 rfl) rfl
theorem qs2 : (Cond.selects "DoughDebts" ⟨"DoughDebts", "readNext", "()V"⟩ ⟨"DoughDebts", "readNext", "()V"⟩) ∈ lw_all := lw_g (lw_at lw_ms 2 rfl) rfl
theorem qs3 : (Cond.selects "DoughDebts" ⟨"DoughDebts", "raw", "(I)I"⟩ ⟨"DoughDebts", "raw", "(I)I"⟩) ∈ lw_all := lw_g (lw_at lw_ms 3 rfl) rfl
theorem qs4 : (Cond.selects "DoughDebts" ⟨"DoughDebts", "wordOf", "([Ljava/lang/String;)I"⟩ ⟨"DoughDebts", "wordOf", "([Ljava/lang/String;)I"⟩) ∈ lw_all := lw_g (lw_at lw_ms 4 rfl) rfl
theorem qs5 : (Cond.selects "DoughDebts" ⟨"DoughDebts", "spells", "(Ljava/lang/String;)Z"⟩ ⟨"DoughDebts", "spells", "(Ljava/lang/String;)Z"⟩) ∈ lw_all := lw_g (lw_at lw_ms 5 rfl) rfl
theorem qs6 : (Cond.selects "DoughDebts" ⟨"DoughDebts", "must", "(Z)V"⟩ ⟨"DoughDebts", "must", "(Z)V"⟩) ∈ lw_all := lw_g (lw_at lw_ms 6 rfl) rfl
theorem qs7 : (Cond.selects "java/lang/Throwable" ⟨"java/lang/Throwable", "fillInStackTrace", "(I)Ljava/lang/Throwable;"⟩ ⟨"java/lang/Throwable", "fillInStackTrace", "(I)Ljava/lang/Throwable;"⟩) ∈ lw_all := lw_g (lw_at lw_ms 7 rfl) rfl
theorem qs8 : (Cond.selects "DoughDebts" ⟨"DoughDebts", "sum", "()LDoughDebts$Term;"⟩ ⟨"DoughDebts", "sum", "()LDoughDebts$Term;"⟩) ∈ lw_all := lw_g (lw_at lw_ms 8 rfl) rfl
theorem qs9 : (Cond.selects "DoughDebts" ⟨"DoughDebts", "product", "()LDoughDebts$Term;"⟩ ⟨"DoughDebts", "product", "()LDoughDebts$Term;"⟩) ∈ lw_all := lw_g (lw_at lw_ms 9 rfl) rfl
theorem qs10 : (Cond.selects "DoughDebts" ⟨"DoughDebts", "unit", "()LDoughDebts$Term;"⟩ ⟨"DoughDebts", "unit", "()LDoughDebts$Term;"⟩) ∈ lw_all := lw_g (lw_at lw_ms 10 rfl) rfl
theorem qs11 : (Cond.selects "DoughDebts" ⟨"DoughDebts", "isSign", "(C)Z"⟩ ⟨"DoughDebts", "isSign", "(C)Z"⟩) ∈ lw_all := lw_g (lw_at lw_ms 11 rfl) rfl
theorem qs12 : (Cond.selects "DoughDebts" ⟨"DoughDebts", "isWord", "(Ljava/lang/String;)Z"⟩ ⟨"DoughDebts", "isWord", "(Ljava/lang/String;)Z"⟩) ∈ lw_all := lw_g (lw_at lw_ms 12 rfl) rfl
theorem qs13 : (Cond.selects "DoughDebts" ⟨"DoughDebts", "any", "()LDoughDebts$Term;"⟩ ⟨"DoughDebts", "any", "()LDoughDebts$Term;"⟩) ∈ lw_all := lw_g (lw_at lw_ms 13 rfl) rfl
theorem qs14 : (Cond.selects "DoughDebts" ⟨"DoughDebts", "both", "()LDoughDebts$Term;"⟩ ⟨"DoughDebts", "both", "()LDoughDebts$Term;"⟩) ∈ lw_all := lw_g (lw_at lw_ms 14 rfl) rfl
theorem qs15 : (Cond.selects "DoughDebts" ⟨"DoughDebts", "oneOf", "()LDoughDebts$Term;"⟩ ⟨"DoughDebts", "oneOf", "()LDoughDebts$Term;"⟩) ∈ lw_all := lw_g (lw_at lw_ms 15 rfl) rfl
theorem qs16 : (Cond.selects "DoughDebts" ⟨"DoughDebts", "opens", "()V"⟩ ⟨"DoughDebts", "opens", "()V"⟩) ∈ lw_all := lw_g (lw_at lw_ms 16 rfl) rfl
theorem qs17 : (Cond.selects "DoughDebts" ⟨"DoughDebts", "takesSign", "(C)V"⟩ ⟨"DoughDebts", "takesSign", "(C)V"⟩) ∈ lw_all := lw_g (lw_at lw_ms 17 rfl) rfl
theorem qs18 : (Cond.selects "DoughDebts" ⟨"DoughDebts", "takesRow", "(IIII)[B"⟩ ⟨"DoughDebts", "takesRow", "(IIII)[B"⟩) ∈ lw_all := lw_g (lw_at lw_ms 18 rfl) rfl
theorem qs19 : (Cond.selects "DoughDebts" ⟨"DoughDebts", "forgets", "()V"⟩ ⟨"DoughDebts", "forgets", "()V"⟩) ∈ lw_all := lw_g (lw_at lw_ms 19 rfl) rfl
theorem qs20 : (Cond.selects "DoughDebts" ⟨"DoughDebts", "isHouse", "(I)Z"⟩ ⟨"DoughDebts", "isHouse", "(I)Z"⟩) ∈ lw_all := lw_g (lw_at lw_ms 20 rfl) rfl
theorem qs21 : (Cond.selects "DoughDebts" ⟨"DoughDebts", "findsToday", "()V"⟩ ⟨"DoughDebts", "findsToday", "()V"⟩) ∈ lw_all := lw_g (lw_at lw_ms 21 rfl) rfl
theorem qs22 : (Cond.selects "DoughDebts" ⟨"DoughDebts", "lines", "([I)V"⟩ ⟨"DoughDebts", "lines", "([I)V"⟩) ∈ lw_all := lw_g (lw_at lw_ms 22 rfl) rfl
theorem qs23 : (Cond.selects "DoughDebts" ⟨"DoughDebts", "worthOf", "(I)I"⟩ ⟨"DoughDebts", "worthOf", "(I)I"⟩) ∈ lw_all := lw_g (lw_at lw_ms 23 rfl) rfl
theorem qs24 : (Cond.selects "DoughDebts" ⟨"DoughDebts", "netOf", "(I)I"⟩ ⟨"DoughDebts", "netOf", "(I)I"⟩) ∈ lw_all := lw_g (lw_at lw_ms 24 rfl) rfl
theorem qs25 : (Cond.selects "DoughDebts" ⟨"DoughDebts", "keepsAhead", "()V"⟩ ⟨"DoughDebts", "keepsAhead", "()V"⟩) ∈ lw_all := lw_g (lw_at lw_ms 25 rfl) rfl
theorem qs26 : (Cond.selects "DoughDebts" ⟨"DoughDebts", "goesBy", "()Z"⟩ ⟨"DoughDebts", "goesBy", "()Z"⟩) ∈ lw_all := lw_g (lw_at lw_ms 26 rfl) rfl
theorem qs27 : (Cond.selects "DoughDebts" ⟨"DoughDebts", "bakes", "(IZ)V"⟩ ⟨"DoughDebts", "bakes", "(IZ)V"⟩) ∈ lw_all := lw_g (lw_at lw_ms 27 rfl) rfl
theorem qs28 : (Cond.selects "DoughDebts" ⟨"DoughDebts", "loafOf", "(I)I"⟩ ⟨"DoughDebts", "loafOf", "(I)I"⟩) ∈ lw_all := lw_g (lw_at lw_ms 28 rfl) rfl
theorem qs29 : (Cond.selects "DoughDebts" ⟨"DoughDebts", "fires", "(I)I"⟩ ⟨"DoughDebts", "fires", "(I)I"⟩) ∈ lw_all := lw_g (lw_at lw_ms 29 rfl) rfl
theorem qs30 : (Cond.selects "DoughDebts" ⟨"DoughDebts", "findsPieces", "([I)I"⟩ ⟨"DoughDebts", "findsPieces", "([I)I"⟩) ∈ lw_all := lw_g (lw_at lw_ms 30 rfl) rfl
theorem qs31 : (Cond.selects "DoughDebts" ⟨"DoughDebts", "gainAt", "([II)I"⟩ ⟨"DoughDebts", "gainAt", "([II)I"⟩) ∈ lw_all := lw_g (lw_at lw_ms 31 rfl) rfl
theorem qs32 : (Cond.selects "DoughDebts" ⟨"DoughDebts", "canTry", "(I)Z"⟩ ⟨"DoughDebts", "canTry", "(I)Z"⟩) ∈ lw_all := lw_g (lw_at lw_ms 32 rfl) rfl
theorem qs33 : (Cond.selects "DoughDebts" ⟨"DoughDebts", "tries", "(IIZ)V"⟩ ⟨"DoughDebts", "tries", "(IIZ)V"⟩) ∈ lw_all := lw_g (lw_at lw_ms 33 rfl) rfl
theorem qs34 : (Cond.selects "DoughDebts" ⟨"DoughDebts", "firstChange", "([I)I"⟩ ⟨"DoughDebts", "firstChange", "([I)I"⟩) ∈ lw_all := lw_g (lw_at lw_ms 34 rfl) rfl
theorem qs35 : (Cond.selects "DoughDebts" ⟨"DoughDebts", "wouldChange", "([II)Z"⟩ ⟨"DoughDebts", "wouldChange", "([II)Z"⟩) ∈ lw_all := lw_g (lw_at lw_ms 35 rfl) rfl
theorem qs36 : (Cond.selects "DoughDebts" ⟨"DoughDebts", "areAlike", "([I[I)Z"⟩ ⟨"DoughDebts", "areAlike", "([I[I)Z"⟩) ∈ lw_all := lw_g (lw_at lw_ms 36 rfl) rfl
theorem qs37 : (Cond.selects "DoughDebts" ⟨"DoughDebts", "isLeaven", "(I)Z"⟩ ⟨"DoughDebts", "isLeaven", "(I)Z"⟩) ∈ lw_all := lw_g (lw_at lw_ms 37 rfl) rfl
theorem qs38 : (Cond.selects "DoughDebts" ⟨"DoughDebts", "findsParts", "(I)V"⟩ ⟨"DoughDebts", "findsParts", "(I)V"⟩) ∈ lw_all := lw_g (lw_at lw_ms 38 rfl) rfl
theorem qs39 : (Cond.selects "DoughDebts" ⟨"DoughDebts", "housesOf", "(I)I"⟩ ⟨"DoughDebts", "housesOf", "(I)I"⟩) ∈ lw_all := lw_g (lw_at lw_ms 39 rfl) rfl
theorem qs40 : (Cond.selects "DoughDebts" ⟨"DoughDebts", "isLed", "(II)Z"⟩ ⟨"DoughDebts", "isLed", "(II)Z"⟩) ∈ lw_all := lw_g (lw_at lw_ms 40 rfl) rfl
theorem qs41 : (Cond.selects "DoughDebts" ⟨"DoughDebts", "takesSeen", "()[B"⟩ ⟨"DoughDebts", "takesSeen", "()[B"⟩) ∈ lw_all := lw_g (lw_at lw_ms 41 rfl) rfl
theorem qs42 : (Cond.selects "DoughDebts" ⟨"DoughDebts", "findsOdds", "(I[B)V"⟩ ⟨"DoughDebts", "findsOdds", "(I[B)V"⟩) ∈ lw_all := lw_g (lw_at lw_ms 42 rfl) rfl
theorem qs43 : (Cond.selects "DoughDebts" ⟨"DoughDebts", "mostGroups", "(I)I"⟩ ⟨"DoughDebts", "mostGroups", "(I)I"⟩) ∈ lw_all := lw_g (lw_at lw_ms 43 rfl) rfl
theorem qs44 : (Cond.selects "DoughDebtsModel" ⟨"DoughDebtsModel", "next0", "()V"⟩ ⟨"DoughDebtsModel", "next0", "()V"⟩) ∈ lw_all := lw_g (lw_at lw_ms 44 rfl) rfl
theorem qs45 : (Cond.selects "DoughDebtsModel" ⟨"DoughDebtsModel", "see", "(I)I"⟩ ⟨"DoughDebtsModel", "see", "(I)I"⟩) ∈ lw_all := lw_g (lw_at lw_ms 45 rfl) rfl
theorem qs46 : (Cond.selects "DoughDebtsModel" ⟨"DoughDebtsModel", "word", "()I"⟩ ⟨"DoughDebtsModel", "word", "()I"⟩) ∈ lw_all := lw_g (lw_at lw_ms 46 rfl) rfl
theorem qs47 : (Cond.selects "DoughDebtsModel" ⟨"DoughDebtsModel", "is", "(Ljava/lang/String;)Z"⟩ ⟨"DoughDebtsModel", "is", "(Ljava/lang/String;)Z"⟩) ∈ lw_all := lw_g (lw_at lw_ms 47 rfl) rfl
theorem qs48 : (Cond.selects "DoughDebtsModel" ⟨"DoughDebtsModel", "nameWord", "()I"⟩ ⟨"DoughDebtsModel", "nameWord", "()I"⟩) ∈ lw_all := lw_g (lw_at lw_ms 48 rfl) rfl
theorem qs49 : (Cond.selects "DoughDebtsModel" ⟨"DoughDebtsModel", "aLine", "()Z"⟩ ⟨"DoughDebtsModel", "aLine", "()Z"⟩) ∈ lw_all := lw_g (lw_at lw_ms 49 rfl) rfl
theorem qs50 : (Cond.selects "DoughDebtsModel" ⟨"DoughDebtsModel", "bad", "(I)Z"⟩ ⟨"DoughDebtsModel", "bad", "(I)Z"⟩) ∈ lw_all := lw_g (lw_at lw_ms 50 rfl) rfl
theorem qs51 : (Cond.selects "DoughDebtsModel" ⟨"DoughDebtsModel", "sumUp", "()Z"⟩ ⟨"DoughDebtsModel", "sumUp", "()Z"⟩) ∈ lw_all := lw_g (lw_at lw_ms 51 rfl) rfl
theorem qs52 : (Cond.selects "DoughDebtsModel" ⟨"DoughDebtsModel", "product", "()Z"⟩ ⟨"DoughDebtsModel", "product", "()Z"⟩) ∈ lw_all := lw_g (lw_at lw_ms 52 rfl) rfl
theorem qs53 : (Cond.selects "DoughDebtsModel" ⟨"DoughDebtsModel", "unit", "()Z"⟩ ⟨"DoughDebtsModel", "unit", "()Z"⟩) ∈ lw_all := lw_g (lw_at lw_ms 53 rfl) rfl
theorem qs54 : (Cond.selects "DoughDebtsModel" ⟨"DoughDebtsModel", "lay", "(II)V"⟩ ⟨"DoughDebtsModel", "lay", "(II)V"⟩) ∈ lw_all := lw_g (lw_at lw_ms 54 rfl) rfl
theorem qs55 : (Cond.selects "DoughDebtsModel" ⟨"DoughDebtsModel", "any", "()Z"⟩ ⟨"DoughDebtsModel", "any", "()Z"⟩) ∈ lw_all := lw_g (lw_at lw_ms 55 rfl) rfl
theorem qs56 : (Cond.selects "DoughDebtsModel" ⟨"DoughDebtsModel", "every", "()Z"⟩ ⟨"DoughDebtsModel", "every", "()Z"⟩) ∈ lw_all := lw_g (lw_at lw_ms 56 rfl) rfl
theorem qs57 : (Cond.selects "DoughDebtsModel" ⟨"DoughDebtsModel", "oneTest", "()Z"⟩ ⟨"DoughDebtsModel", "oneTest", "()Z"⟩) ∈ lw_all := lw_g (lw_at lw_ms 57 rfl) rfl
theorem qs58 : (Cond.selects "DoughDebtsModel" ⟨"DoughDebtsModel", "opens", "()Z"⟩ ⟨"DoughDebtsModel", "opens", "()Z"⟩) ∈ lw_all := lw_g (lw_at lw_ms 58 rfl) rfl
theorem qs59 : (Cond.selects "DoughDebtsModel" ⟨"DoughDebtsModel", "need", "(I)Z"⟩ ⟨"DoughDebtsModel", "need", "(I)Z"⟩) ∈ lw_all := lw_g (lw_at lw_ms 59 rfl) rfl
theorem qs60 : (Cond.selects "DoughDebtsModel" ⟨"DoughDebtsModel", "takesRow", "()I"⟩ ⟨"DoughDebtsModel", "takesRow", "()I"⟩) ∈ lw_all := lw_g (lw_at lw_ms 60 rfl) rfl
theorem qs61 : (Cond.selects "DoughDebtsModel" ⟨"DoughDebtsModel", "forgets", "()V"⟩ ⟨"DoughDebtsModel", "forgets", "()V"⟩) ∈ lw_all := lw_g (lw_at lw_ms 61 rfl) rfl
theorem qs62 : (Cond.selects "DoughDebtsModel" ⟨"DoughDebtsModel", "isHouse", "(I)Z"⟩ ⟨"DoughDebtsModel", "isHouse", "(I)Z"⟩) ∈ lw_all := lw_g (lw_at lw_ms 62 rfl) rfl
theorem qs63 : (Cond.selects "DoughDebtsModel" ⟨"DoughDebtsModel", "own", "(II)I"⟩ ⟨"DoughDebtsModel", "own", "(II)I"⟩) ∈ lw_all := lw_g (lw_at lw_ms 63 rfl) rfl
theorem qs64 : (Cond.selects "DoughDebtsModel" ⟨"DoughDebtsModel", "adds", "(III)V"⟩ ⟨"DoughDebtsModel", "adds", "(III)V"⟩) ∈ lw_all := lw_g (lw_at lw_ms 64 rfl) rfl
theorem qs65 : (Cond.selects "DoughDebtsModel" ⟨"DoughDebtsModel", "laysOrder", "(Z)V"⟩ ⟨"DoughDebtsModel", "laysOrder", "(Z)V"⟩) ∈ lw_all := lw_g (lw_at lw_ms 65 rfl) rfl
theorem qs66 : (Cond.selects "DoughDebtsModel" ⟨"DoughDebtsModel", "worth", "(I)I"⟩ ⟨"DoughDebtsModel", "worth", "(I)I"⟩) ∈ lw_all := lw_g (lw_at lw_ms 66 rfl) rfl
theorem qs67 : (Cond.selects "DoughDebtsModel" ⟨"DoughDebtsModel", "net", "(I)I"⟩ ⟨"DoughDebtsModel", "net", "(I)I"⟩) ∈ lw_all := lw_g (lw_at lw_ms 67 rfl) rfl
theorem qs68 : (Cond.selects "DoughDebtsModel" ⟨"DoughDebtsModel", "debt", "(II)I"⟩ ⟨"DoughDebtsModel", "debt", "(II)I"⟩) ∈ lw_all := lw_g (lw_at lw_ms 68 rfl) rfl
theorem qs69 : (Cond.selects "DoughDebtsModel" ⟨"DoughDebtsModel", "comesTo", "(II)I"⟩ ⟨"DoughDebtsModel", "comesTo", "(II)I"⟩) ∈ lw_all := lw_g (lw_at lw_ms 69 rfl) rfl
theorem qs70 : (Cond.selects "DoughDebtsModel" ⟨"DoughDebtsModel", "aDay", "()I"⟩ ⟨"DoughDebtsModel", "aDay", "()I"⟩) ∈ lw_all := lw_g (lw_at lw_ms 70 rfl) rfl
theorem qs71 : (Cond.selects "DoughDebtsModel" ⟨"DoughDebtsModel", "draw", "(I)I"⟩ ⟨"DoughDebtsModel", "draw", "(I)I"⟩) ∈ lw_all := lw_g (lw_at lw_ms 71 rfl) rfl
theorem qs72 : (Cond.selects "DoughDebtsModel" ⟨"DoughDebtsModel", "loaf", "(I)I"⟩ ⟨"DoughDebtsModel", "loaf", "(I)I"⟩) ∈ lw_all := lw_g (lw_at lw_ms 72 rfl) rfl
theorem qs73 : (Cond.selects "DoughDebtsModel" ⟨"DoughDebtsModel", "heats", "(I)I"⟩ ⟨"DoughDebtsModel", "heats", "(I)I"⟩) ∈ lw_all := lw_g (lw_at lw_ms 73 rfl) rfl
theorem qs74 : (Cond.selects "DoughDebtsModel" ⟨"DoughDebtsModel", "bakes", "()I"⟩ ⟨"DoughDebtsModel", "bakes", "()I"⟩) ∈ lw_all := lw_g (lw_at lw_ms 74 rfl) rfl
theorem qs75 : (Cond.selects "DoughDebtsModel" ⟨"DoughDebtsModel", "gainAt", "(I)I"⟩ ⟨"DoughDebtsModel", "gainAt", "(I)I"⟩) ∈ lw_all := lw_g (lw_at lw_ms 75 rfl) rfl
theorem qs76 : (Cond.selects "DoughDebtsModel" ⟨"DoughDebtsModel", "isTold", "(I)Z"⟩ ⟨"DoughDebtsModel", "isTold", "(I)Z"⟩) ∈ lw_all := lw_g (lw_at lw_ms 76 rfl) rfl
theorem qs77 : (Cond.selects "DoughDebtsModel" ⟨"DoughDebtsModel", "goesThrough", "(II)V"⟩ ⟨"DoughDebtsModel", "goesThrough", "(II)V"⟩) ∈ lw_all := lw_g (lw_at lw_ms 77 rfl) rfl
theorem qs78 : (Cond.selects "DoughDebtsModel" ⟨"DoughDebtsModel", "firstChange", "()I"⟩ ⟨"DoughDebtsModel", "firstChange", "()I"⟩) ∈ lw_all := lw_g (lw_at lw_ms 78 rfl) rfl
theorem qs79 : (Cond.selects "DoughDebtsModel" ⟨"DoughDebtsModel", "wouldChange", "(I)Z"⟩ ⟨"DoughDebtsModel", "wouldChange", "(I)Z"⟩) ∈ lw_all := lw_g (lw_at lw_ms 79 rfl) rfl
theorem qs80 : (Cond.selects "DoughDebtsModel" ⟨"DoughDebtsModel", "exchanges", "(I)V"⟩ ⟨"DoughDebtsModel", "exchanges", "(I)V"⟩) ∈ lw_all := lw_g (lw_at lw_ms 80 rfl) rfl
theorem qs81 : (Cond.selects "DoughDebtsModel" ⟨"DoughDebtsModel", "isRow", "(I)Z"⟩ ⟨"DoughDebtsModel", "isRow", "(I)Z"⟩) ∈ lw_all := lw_g (lw_at lw_ms 81 rfl) rfl
theorem qs82 : (Cond.selects "DoughDebtsModel" ⟨"DoughDebtsModel", "isLeaven", "(I)Z"⟩ ⟨"DoughDebtsModel", "isLeaven", "(I)Z"⟩) ∈ lw_all := lw_g (lw_at lw_ms 82 rfl) rfl
theorem qs83 : (Cond.selects "DoughDebtsModel" ⟨"DoughDebtsModel", "ofLeaven", "(II)I"⟩ ⟨"DoughDebtsModel", "ofLeaven", "(II)I"⟩) ∈ lw_all := lw_g (lw_at lw_ms 83 rfl) rfl
theorem qs84 : (Cond.selects "DoughDebtsModel" ⟨"DoughDebtsModel", "laysParts", "(I)V"⟩ ⟨"DoughDebtsModel", "laysParts", "(I)V"⟩) ∈ lw_all := lw_g (lw_at lw_ms 84 rfl) rfl
theorem qs85 : (Cond.selects "DoughDebtsModel" ⟨"DoughDebtsModel", "isLed", "(II)Z"⟩ ⟨"DoughDebtsModel", "isLed", "(II)Z"⟩) ∈ lw_all := lw_g (lw_at lw_ms 85 rfl) rfl
theorem qs86 : (Cond.selects "DoughDebtsModel" ⟨"DoughDebtsModel", "laysOdds", "(II)V"⟩ ⟨"DoughDebtsModel", "laysOdds", "(II)V"⟩) ∈ lw_all := lw_g (lw_at lw_ms 86 rfl) rfl
-- ===== end of PART A; then your names; then what follows =====
