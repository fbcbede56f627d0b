-- ===== PART A: goes FIRST, ahead of the names: the tables' words, and 'selects' of the private methods out of them =====
/-- a private method of a class that the tables say can be made, by its rows of tables_1 -/
def lw_okq (q : MethodName × Nat) : Prop := (q.1.cls ≠ "java/lang/invoke/MethodHandle" ∧ q.1.cls ≠ "java/lang/invoke/VarHandle") ∧ Cond.instantiable q.1.cls q.2 ∈ tables_1 ∧ Cond.privateMethod q.1 ∈ tables_1 ∧ Cond.instanceMethod q.1 ∈ tables_1
set_option maxRecDepth 100000
theorem lw_t1 {w : Cond} (h : w ∈ tables_1_1) : w ∈ tables_1 := List.mem_append_left _ h
theorem lw_t2 {w : Cond} (h : w ∈ tables_1_2) : w ∈ tables_1 := List.mem_append_right _ (List.mem_append_left _ h)
theorem lw_t3 {w : Cond} (h : w ∈ tables_1_3) : w ∈ tables_1 := List.mem_append_right _ (List.mem_append_right _ (List.mem_append_left _ h))
theorem lw_t4 {w : Cond} (h : w ∈ tables_1_4) : w ∈ tables_1 := List.mem_append_right _ (List.mem_append_right _ (List.mem_append_right _ (List.mem_append_left _ h)))
theorem lw_t5 {w : Cond} (h : w ∈ tables_1_5) : w ∈ tables_1 := List.mem_append_right _ (List.mem_append_right _ (List.mem_append_right _ (List.mem_append_right _ (List.mem_append_left _ h))))
theorem lw_t6 {w : Cond} (h : w ∈ tables_1_6) : w ∈ tables_1 := List.mem_append_right _ (List.mem_append_right _ (List.mem_append_right _ (List.mem_append_right _ (List.mem_append_right _ (List.mem_append_left _ h)))))
theorem lw_t7 {w : Cond} (h : w ∈ tables_1_7) : w ∈ tables_1 := List.mem_append_right _ (List.mem_append_right _ (List.mem_append_right _ (List.mem_append_right _ (List.mem_append_right _ (List.mem_append_right _ (List.mem_append_left _ h))))))
theorem lw_t8 {w : Cond} (h : w ∈ tables_1_8) : w ∈ tables_1 := List.mem_append_right _ (List.mem_append_right _ (List.mem_append_right _ (List.mem_append_right _ (List.mem_append_right _ (List.mem_append_right _ (List.mem_append_right _ (List.mem_append_left _ h)))))))
theorem lw_t9 {w : Cond} (h : w ∈ tables_1_9) : w ∈ tables_1 := List.mem_append_right _ (List.mem_append_right _ (List.mem_append_right _ (List.mem_append_right _ (List.mem_append_right _ (List.mem_append_right _ (List.mem_append_right _ (List.mem_append_right _ (List.mem_append_left _ h))))))))
theorem lw_t10 {w : Cond} (h : w ∈ tables_1_10) : w ∈ tables_1 := List.mem_append_right _ (List.mem_append_right _ (List.mem_append_right _ (List.mem_append_right _ (List.mem_append_right _ (List.mem_append_right _ (List.mem_append_right _ (List.mem_append_right _ (List.mem_append_right _ (List.mem_append_left _ h)))))))))
theorem lw_t11 {w : Cond} (h : w ∈ tables_1_11) : w ∈ tables_1 := List.mem_append_right _ (List.mem_append_right _ (List.mem_append_right _ (List.mem_append_right _ (List.mem_append_right _ (List.mem_append_right _ (List.mem_append_right _ (List.mem_append_right _ (List.mem_append_right _ (List.mem_append_right _ (List.mem_append_left _ h))))))))))
theorem lw_t12 {w : Cond} (h : w ∈ tables_1_12) : w ∈ tables_1 := List.mem_append_right _ (List.mem_append_right _ (List.mem_append_right _ (List.mem_append_right _ (List.mem_append_right _ (List.mem_append_right _ (List.mem_append_right _ (List.mem_append_right _ (List.mem_append_right _ (List.mem_append_right _ (List.mem_append_right _ h))))))))))
theorem lw_p0 : lw_okq (⟨"java/lang/Throwable", "fillInStackTrace", "(I)Ljava/lang/Throwable;"⟩, 6) := ⟨⟨by decide +kernel, by decide +kernel⟩, lw_t2 (List.mem_of_getElem? (i := 26) rfl), lw_t2 (List.mem_of_getElem? (i := 24) rfl), lw_t2 (List.mem_of_getElem? (i := 25) rfl)⟩
theorem lw_p1 : lw_okq (⟨"FormulaEditor", "lambda$new$5", "(LFormulaEditor$Structure;[[CII)V"⟩, 9) := ⟨⟨by decide +kernel, by decide +kernel⟩, lw_t1 (List.mem_of_getElem? (i := 48) rfl), lw_t5 (List.mem_of_getElem? (i := 52) rfl), lw_t5 (List.mem_of_getElem? (i := 53) rfl)⟩
theorem lw_p2 : lw_okq (⟨"FormulaEditor", "drawFraction", "(LFormulaEditor$Structure;[[CII)V"⟩, 9) := ⟨⟨by decide +kernel, by decide +kernel⟩, lw_t1 (List.mem_of_getElem? (i := 48) rfl), lw_t5 (List.mem_of_getElem? (i := 56) rfl), lw_t5 (List.mem_of_getElem? (i := 57) rfl)⟩
theorem lw_p3 : lw_okq (⟨"FormulaEditor", "draw", "(LFormulaEditor$Row;[[CII)V"⟩, 9) := ⟨⟨by decide +kernel, by decide +kernel⟩, lw_t1 (List.mem_of_getElem? (i := 48) rfl), lw_t5 (List.mem_of_getElem? (i := 60) rfl), lw_t5 (List.mem_of_getElem? (i := 61) rfl)⟩
theorem lw_p4 : lw_okq (⟨"FormulaEditor", "lambda$new$6", "(LFormulaEditor$Structure;[[CII)V"⟩, 9) := ⟨⟨by decide +kernel, by decide +kernel⟩, lw_t1 (List.mem_of_getElem? (i := 48) rfl), lw_t5 (List.mem_of_getElem? (i := 116) rfl), lw_t5 (List.mem_of_getElem? (i := 117) rfl)⟩
theorem lw_p5 : lw_okq (⟨"FormulaEditor", "lambda$new$7", "(LFormulaEditor$Structure;[[CII)V"⟩, 9) := ⟨⟨by decide +kernel, by decide +kernel⟩, lw_t1 (List.mem_of_getElem? (i := 48) rfl), lw_t5 (List.mem_of_getElem? (i := 119) rfl), lw_t5 (List.mem_of_getElem? (i := 120) rfl)⟩
theorem lw_p6 : lw_okq (⟨"FormulaEditor", "lambda$new$8", "(LFormulaEditor$Structure;[[CII)V"⟩, 9) := ⟨⟨by decide +kernel, by decide +kernel⟩, lw_t1 (List.mem_of_getElem? (i := 48) rfl), lw_t5 (List.mem_of_getElem? (i := 122) rfl), lw_t5 (List.mem_of_getElem? (i := 123) rfl)⟩
theorem lw_p7 : lw_okq (⟨"FormulaEditor", "drawRoot", "(LFormulaEditor$Row;[[CII)V"⟩, 9) := ⟨⟨by decide +kernel, by decide +kernel⟩, lw_t1 (List.mem_of_getElem? (i := 48) rfl), lw_t5 (List.mem_of_getElem? (i := 126) rfl), lw_t5 (List.mem_of_getElem? (i := 127) rfl)⟩
theorem lw_p8 : lw_okq (⟨"FormulaEditor", "lambda$new$9", "(LFormulaEditor$Structure;[[CII)V"⟩, 9) := ⟨⟨by decide +kernel, by decide +kernel⟩, lw_t1 (List.mem_of_getElem? (i := 48) rfl), lw_t5 (List.mem_of_getElem? (i := 129) rfl), lw_t5 (List.mem_of_getElem? (i := 130) rfl)⟩
theorem lw_p9 : lw_okq (⟨"FormulaEditor", "drawParentheses", "(LFormulaEditor$Row;[[CII)V"⟩, 9) := ⟨⟨by decide +kernel, by decide +kernel⟩, lw_t1 (List.mem_of_getElem? (i := 48) rfl), lw_t5 (List.mem_of_getElem? (i := 133) rfl), lw_t5 (List.mem_of_getElem? (i := 134) rfl)⟩
theorem lw_p10 : lw_okq (⟨"java/util/ArrayDeque", "grow", "(I)V"⟩, 3) := ⟨⟨by decide +kernel, by decide +kernel⟩, lw_t5 (List.mem_of_getElem? (i := 217) rfl), lw_t6 (List.mem_of_getElem? (i := 89) rfl), lw_t6 (List.mem_of_getElem? (i := 90) rfl)⟩
theorem lw_p11 : lw_okq (⟨"java/util/ArrayDeque", "newCapacity", "(II)I"⟩, 3) := ⟨⟨by decide +kernel, by decide +kernel⟩, lw_t5 (List.mem_of_getElem? (i := 217) rfl), lw_t6 (List.mem_of_getElem? (i := 94) rfl), lw_t6 (List.mem_of_getElem? (i := 95) rfl)⟩
theorem lw_p12 : lw_okq (⟨"FormulaEditor$Parser", "accepts", "(C)Z"⟩, 5) := ⟨⟨by decide +kernel, by decide +kernel⟩, lw_t6 (List.mem_of_getElem? (i := 36) rfl), lw_t6 (List.mem_of_getElem? (i := 146) rfl), lw_t6 (List.mem_of_getElem? (i := 147) rfl)⟩
theorem lw_p13 : lw_okq (⟨"FormulaEditor$Parser", "open", "(Z)Z"⟩, 5) := ⟨⟨by decide +kernel, by decide +kernel⟩, lw_t6 (List.mem_of_getElem? (i := 36) rfl), lw_t6 (List.mem_of_getElem? (i := 150) rfl), lw_t6 (List.mem_of_getElem? (i := 151) rfl)⟩
theorem lw_p14 : lw_okq (⟨"FormulaEditor$Parser", "begin", "()V"⟩, 5) := ⟨⟨by decide +kernel, by decide +kernel⟩, lw_t6 (List.mem_of_getElem? (i := 36) rfl), lw_t6 (List.mem_of_getElem? (i := 164) rfl), lw_t6 (List.mem_of_getElem? (i := 165) rfl)⟩
theorem lw_p15 : lw_okq (⟨"FormulaEditor$Parser", "level", "()LFormulaEditor$Level;"⟩, 5) := ⟨⟨by decide +kernel, by decide +kernel⟩, lw_t6 (List.mem_of_getElem? (i := 36) rfl), lw_t6 (List.mem_of_getElem? (i := 168) rfl), lw_t6 (List.mem_of_getElem? (i := 169) rfl)⟩
def lw_privs_1 : List (MethodName × Nat) := [(⟨"java/lang/Throwable", "fillInStackTrace", "(I)Ljava/lang/Throwable;"⟩, 6), (⟨"FormulaEditor", "lambda$new$5", "(LFormulaEditor$Structure;[[CII)V"⟩, 9), (⟨"FormulaEditor", "drawFraction", "(LFormulaEditor$Structure;[[CII)V"⟩, 9), (⟨"FormulaEditor", "draw", "(LFormulaEditor$Row;[[CII)V"⟩, 9), (⟨"FormulaEditor", "lambda$new$6", "(LFormulaEditor$Structure;[[CII)V"⟩, 9), (⟨"FormulaEditor", "lambda$new$7", "(LFormulaEditor$Structure;[[CII)V"⟩, 9), (⟨"FormulaEditor", "lambda$new$8", "(LFormulaEditor$Structure;[[CII)V"⟩, 9), (⟨"FormulaEditor", "drawRoot", "(LFormulaEditor$Row;[[CII)V"⟩, 9), (⟨"FormulaEditor", "lambda$new$9", "(LFormulaEditor$Structure;[[CII)V"⟩, 9), (⟨"FormulaEditor", "drawParentheses", "(LFormulaEditor$Row;[[CII)V"⟩, 9), (⟨"java/util/ArrayDeque", "grow", "(I)V"⟩, 3), (⟨"java/util/ArrayDeque", "newCapacity", "(II)I"⟩, 3), (⟨"FormulaEditor$Parser", "accepts", "(C)Z"⟩, 5), (⟨"FormulaEditor$Parser", "open", "(Z)Z"⟩, 5), (⟨"FormulaEditor$Parser", "begin", "()V"⟩, 5), (⟨"FormulaEditor$Parser", "level", "()LFormulaEditor$Level;"⟩, 5)]
theorem lw_r1 : ∀ q ∈ lw_privs_1, lw_okq q := List.forall_mem_cons.mpr ⟨lw_p0, List.forall_mem_cons.mpr ⟨lw_p1, List.forall_mem_cons.mpr ⟨lw_p2, List.forall_mem_cons.mpr ⟨lw_p3, List.forall_mem_cons.mpr ⟨lw_p4, List.forall_mem_cons.mpr ⟨lw_p5, List.forall_mem_cons.mpr ⟨lw_p6, List.forall_mem_cons.mpr ⟨lw_p7, List.forall_mem_cons.mpr ⟨lw_p8, List.forall_mem_cons.mpr ⟨lw_p9, List.forall_mem_cons.mpr ⟨lw_p10, List.forall_mem_cons.mpr ⟨lw_p11, List.forall_mem_cons.mpr ⟨lw_p12, List.forall_mem_cons.mpr ⟨lw_p13, List.forall_mem_cons.mpr ⟨lw_p14, List.forall_mem_cons.mpr ⟨lw_p15, fun _ h => absurd h List.not_mem_nil⟩⟩⟩⟩⟩⟩⟩⟩⟩⟩⟩⟩⟩⟩⟩⟩
theorem lw_p16 : lw_okq (⟨"FormulaEditor$Level", "takeFactor", "()LFormulaEditor$Row;"⟩, 6) := ⟨⟨by decide +kernel, by decide +kernel⟩, lw_t6 (List.mem_of_getElem? (i := 44) rfl), lw_t6 (List.mem_of_getElem? (i := 191) rfl), lw_t6 (List.mem_of_getElem? (i := 192) rfl)⟩
theorem lw_p17 : lw_okq (⟨"java/util/ArrayList", "fastRemove", "([Ljava/lang/Object;I)V"⟩, 3) := ⟨⟨by decide +kernel, by decide +kernel⟩, lw_t5 (List.mem_of_getElem? (i := 145) rfl), lw_t6 (List.mem_of_getElem? (i := 212) rfl), lw_t6 (List.mem_of_getElem? (i := 213) rfl)⟩
theorem lw_p18 : lw_okq (⟨"java/util/ArrayList", "rangeCheckForAdd", "(I)V"⟩, 3) := ⟨⟨by decide +kernel, by decide +kernel⟩, lw_t5 (List.mem_of_getElem? (i := 145) rfl), lw_t6 (List.mem_of_getElem? (i := 237) rfl), lw_t6 (List.mem_of_getElem? (i := 238) rfl)⟩
theorem lw_p19 : lw_okq (⟨"java/util/ArrayList", "outOfBoundsMsg", "(I)Ljava/lang/String;"⟩, 3) := ⟨⟨by decide +kernel, by decide +kernel⟩, lw_t5 (List.mem_of_getElem? (i := 145) rfl), lw_t7 (List.mem_of_getElem? (i := 10) rfl), lw_t7 (List.mem_of_getElem? (i := 11) rfl)⟩
theorem lw_p20 : lw_okq (⟨"java/util/ArrayList", "grow", "()[Ljava/lang/Object;"⟩, 3) := ⟨⟨by decide +kernel, by decide +kernel⟩, lw_t5 (List.mem_of_getElem? (i := 145) rfl), lw_t7 (List.mem_of_getElem? (i := 27) rfl), lw_t7 (List.mem_of_getElem? (i := 28) rfl)⟩
theorem lw_p21 : lw_okq (⟨"java/util/ArrayList", "grow", "(I)[Ljava/lang/Object;"⟩, 3) := ⟨⟨by decide +kernel, by decide +kernel⟩, lw_t5 (List.mem_of_getElem? (i := 145) rfl), lw_t7 (List.mem_of_getElem? (i := 31) rfl), lw_t7 (List.mem_of_getElem? (i := 32) rfl)⟩
theorem lw_p22 : lw_okq (⟨"FormulaEditor$Parser", "place", "(LFormulaEditor$Item;)Z"⟩, 5) := ⟨⟨by decide +kernel, by decide +kernel⟩, lw_t6 (List.mem_of_getElem? (i := 36) rfl), lw_t7 (List.mem_of_getElem? (i := 123) rfl), lw_t7 (List.mem_of_getElem? (i := 124) rfl)⟩
theorem lw_p23 : lw_okq (⟨"FormulaEditor$Parser", "placeScript", "(LFormulaEditor$Row;)Z"⟩, 5) := ⟨⟨by decide +kernel, by decide +kernel⟩, lw_t6 (List.mem_of_getElem? (i := 36) rfl), lw_t7 (List.mem_of_getElem? (i := 130) rfl), lw_t7 (List.mem_of_getElem? (i := 131) rfl)⟩
theorem lw_p24 : lw_okq (⟨"FormulaEditor$Parser", "acceptsMore", "(C)Z"⟩, 5) := ⟨⟨by decide +kernel, by decide +kernel⟩, lw_t6 (List.mem_of_getElem? (i := 36) rfl), lw_t7 (List.mem_of_getElem? (i := 138) rfl), lw_t7 (List.mem_of_getElem? (i := 139) rfl)⟩
theorem lw_p25 : lw_okq (⟨"FormulaEditor$Parser", "close", "()Z"⟩, 5) := ⟨⟨by decide +kernel, by decide +kernel⟩, lw_t6 (List.mem_of_getElem? (i := 36) rfl), lw_t7 (List.mem_of_getElem? (i := 178) rfl), lw_t7 (List.mem_of_getElem? (i := 179) rfl)⟩
theorem lw_p26 : lw_okq (⟨"FormulaEditor$Row", "isPlainOperand", "()Z"⟩, 4) := ⟨⟨by decide +kernel, by decide +kernel⟩, lw_t5 (List.mem_of_getElem? (i := 139) rfl), lw_t8 (List.mem_of_getElem? (i := 21) rfl), lw_t8 (List.mem_of_getElem? (i := 22) rfl)⟩
theorem lw_p27 : lw_okq (⟨"FormulaEditor$Row", "isScriptFrom", "(I)Z"⟩, 4) := ⟨⟨by decide +kernel, by decide +kernel⟩, lw_t5 (List.mem_of_getElem? (i := 139) rfl), lw_t8 (List.mem_of_getElem? (i := 37) rfl), lw_t8 (List.mem_of_getElem? (i := 38) rfl)⟩
theorem lw_p28 : lw_okq (⟨"FormulaEditor$Row", "writeAs", "(ZLjava/lang/StringBuilder;)V"⟩, 4) := ⟨⟨by decide +kernel, by decide +kernel⟩, lw_t5 (List.mem_of_getElem? (i := 139) rfl), lw_t8 (List.mem_of_getElem? (i := 45) rfl), lw_t8 (List.mem_of_getElem? (i := 46) rfl)⟩
theorem lw_p29 : lw_okq (⟨"FormulaEditor$Row", "writeInParentheses", "(Ljava/lang/StringBuilder;)V"⟩, 4) := ⟨⟨by decide +kernel, by decide +kernel⟩, lw_t5 (List.mem_of_getElem? (i := 139) rfl), lw_t8 (List.mem_of_getElem? (i := 50) rfl), lw_t8 (List.mem_of_getElem? (i := 51) rfl)⟩
theorem lw_p30 : lw_okq (⟨"FormulaEditor$Row", "isPlainBase", "()Z"⟩, 4) := ⟨⟨by decide +kernel, by decide +kernel⟩, lw_t5 (List.mem_of_getElem? (i := 139) rfl), lw_t8 (List.mem_of_getElem? (i := 75) rfl), lw_t8 (List.mem_of_getElem? (i := 76) rfl)⟩
theorem lw_p31 : lw_okq (⟨"FormulaEditor$Document", "goTo", "(LFormulaEditor$Row;I)V"⟩, 4) := ⟨⟨by decide +kernel, by decide +kernel⟩, lw_t5 (List.mem_of_getElem? (i := 137) rfl), lw_t8 (List.mem_of_getElem? (i := 92) rfl), lw_t8 (List.mem_of_getElem? (i := 93) rfl)⟩
def lw_privs_2 : List (MethodName × Nat) := [(⟨"FormulaEditor$Level", "takeFactor", "()LFormulaEditor$Row;"⟩, 6), (⟨"java/util/ArrayList", "fastRemove", "([Ljava/lang/Object;I)V"⟩, 3), (⟨"java/util/ArrayList", "rangeCheckForAdd", "(I)V"⟩, 3), (⟨"java/util/ArrayList", "outOfBoundsMsg", "(I)Ljava/lang/String;"⟩, 3), (⟨"java/util/ArrayList", "grow", "()[Ljava/lang/Object;"⟩, 3), (⟨"java/util/ArrayList", "grow", "(I)[Ljava/lang/Object;"⟩, 3), (⟨"FormulaEditor$Parser", "place", "(LFormulaEditor$Item;)Z"⟩, 5), (⟨"FormulaEditor$Parser", "placeScript", "(LFormulaEditor$Row;)Z"⟩, 5), (⟨"FormulaEditor$Parser", "acceptsMore", "(C)Z"⟩, 5), (⟨"FormulaEditor$Parser", "close", "()Z"⟩, 5), (⟨"FormulaEditor$Row", "isPlainOperand", "()Z"⟩, 4), (⟨"FormulaEditor$Row", "isScriptFrom", "(I)Z"⟩, 4), (⟨"FormulaEditor$Row", "writeAs", "(ZLjava/lang/StringBuilder;)V"⟩, 4), (⟨"FormulaEditor$Row", "writeInParentheses", "(Ljava/lang/StringBuilder;)V"⟩, 4), (⟨"FormulaEditor$Row", "isPlainBase", "()Z"⟩, 4), (⟨"FormulaEditor$Document", "goTo", "(LFormulaEditor$Row;I)V"⟩, 4)]
theorem lw_r2 : ∀ q ∈ lw_privs_2, lw_okq q := List.forall_mem_cons.mpr ⟨lw_p16, List.forall_mem_cons.mpr ⟨lw_p17, List.forall_mem_cons.mpr ⟨lw_p18, List.forall_mem_cons.mpr ⟨lw_p19, List.forall_mem_cons.mpr ⟨lw_p20, List.forall_mem_cons.mpr ⟨lw_p21, List.forall_mem_cons.mpr ⟨lw_p22, List.forall_mem_cons.mpr ⟨lw_p23, List.forall_mem_cons.mpr ⟨lw_p24, List.forall_mem_cons.mpr ⟨lw_p25, List.forall_mem_cons.mpr ⟨lw_p26, List.forall_mem_cons.mpr ⟨lw_p27, List.forall_mem_cons.mpr ⟨lw_p28, List.forall_mem_cons.mpr ⟨lw_p29, List.forall_mem_cons.mpr ⟨lw_p30, List.forall_mem_cons.mpr ⟨lw_p31, fun _ h => absurd h List.not_mem_nil⟩⟩⟩⟩⟩⟩⟩⟩⟩⟩⟩⟩⟩⟩⟩⟩
theorem lw_p32 : lw_okq (⟨"FormulaEditor", "demandPlace", "(I)V"⟩, 9) := ⟨⟨by decide +kernel, by decide +kernel⟩, lw_t1 (List.mem_of_getElem? (i := 48) rfl), lw_t9 (List.mem_of_getElem? (i := 6) rfl), lw_t9 (List.mem_of_getElem? (i := 7) rfl)⟩
theorem lw_p33 : lw_okq (⟨"FormulaEditor$Document", "enter", "(LFormulaEditor$Structure;I)I"⟩, 4) := ⟨⟨by decide +kernel, by decide +kernel⟩, lw_t5 (List.mem_of_getElem? (i := 137) rfl), lw_t9 (List.mem_of_getElem? (i := 24) rfl), lw_t9 (List.mem_of_getElem? (i := 25) rfl)⟩
theorem lw_p34 : lw_okq (⟨"FormulaEditor", "act", "(LFormulaEditor$Change;)V"⟩, 9) := ⟨⟨by decide +kernel, by decide +kernel⟩, lw_t1 (List.mem_of_getElem? (i := 48) rfl), lw_t9 (List.mem_of_getElem? (i := 171) rfl), lw_t9 (List.mem_of_getElem? (i := 172) rfl)⟩
theorem lw_p35 : lw_okq (⟨"FormulaEditor$Document", "dissolve", "(LFormulaEditor$Structure;I)V"⟩, 4) := ⟨⟨by decide +kernel, by decide +kernel⟩, lw_t5 (List.mem_of_getElem? (i := 137) rfl), lw_t10 (List.mem_of_getElem? (i := 18) rfl), lw_t10 (List.mem_of_getElem? (i := 19) rfl)⟩
theorem lw_p36 : lw_okq (⟨"FormulaEditor", "measure", "(LFormulaEditor$Row;)LFormulaEditor$Box;"⟩, 9) := ⟨⟨by decide +kernel, by decide +kernel⟩, lw_t1 (List.mem_of_getElem? (i := 48) rfl), lw_t10 (List.mem_of_getElem? (i := 75) rfl), lw_t10 (List.mem_of_getElem? (i := 76) rfl)⟩
theorem lw_p37 : lw_okq (⟨"FormulaEditor", "run", "(LFormulaEditor$Document;II)Z"⟩, 9) := ⟨⟨by decide +kernel, by decide +kernel⟩, lw_t1 (List.mem_of_getElem? (i := 48) rfl), lw_t10 (List.mem_of_getElem? (i := 105) rfl), lw_t10 (List.mem_of_getElem? (i := 106) rfl)⟩
theorem lw_p38 : lw_okq (⟨"FormulaEditorModel", "refused", "(I)Z"⟩, 26) := ⟨⟨by decide +kernel, by decide +kernel⟩, lw_t10 (List.mem_of_getElem? (i := 136) rfl), lw_t10 (List.mem_of_getElem? (i := 235) rfl), lw_t10 (List.mem_of_getElem? (i := 236) rfl)⟩
theorem lw_p39 : lw_okq (⟨"FormulaEditorModel", "readText", "()I"⟩, 26) := ⟨⟨by decide +kernel, by decide +kernel⟩, lw_t10 (List.mem_of_getElem? (i := 136) rfl), lw_t11 (List.mem_of_getElem? (i := 7) rfl), lw_t11 (List.mem_of_getElem? (i := 8) rfl)⟩
theorem lw_p40 : lw_okq (⟨"FormulaEditorModel", "openRow", "(I)V"⟩, 26) := ⟨⟨by decide +kernel, by decide +kernel⟩, lw_t10 (List.mem_of_getElem? (i := 136) rfl), lw_t11 (List.mem_of_getElem? (i := 11) rfl), lw_t11 (List.mem_of_getElem? (i := 12) rfl)⟩
theorem lw_p41 : lw_okq (⟨"FormulaEditorModel", "closeChain", "()V"⟩, 26) := ⟨⟨by decide +kernel, by decide +kernel⟩, lw_t10 (List.mem_of_getElem? (i := 136) rfl), lw_t11 (List.mem_of_getElem? (i := 28) rfl), lw_t11 (List.mem_of_getElem? (i := 29) rfl)⟩
theorem lw_p42 : lw_okq (⟨"FormulaEditorModel", "unwrap", "()V"⟩, 26) := ⟨⟨by decide +kernel, by decide +kernel⟩, lw_t10 (List.mem_of_getElem? (i := 136) rfl), lw_t11 (List.mem_of_getElem? (i := 32) rfl), lw_t11 (List.mem_of_getElem? (i := 33) rfl)⟩
theorem lw_p43 : lw_okq (⟨"FormulaEditorModel", "add", "(I)V"⟩, 26) := ⟨⟨by decide +kernel, by decide +kernel⟩, lw_t10 (List.mem_of_getElem? (i := 136) rfl), lw_t11 (List.mem_of_getElem? (i := 36) rfl), lw_t11 (List.mem_of_getElem? (i := 37) rfl)⟩
theorem lw_p44 : lw_okq (⟨"FormulaEditorModel", "line", "()V"⟩, 26) := ⟨⟨by decide +kernel, by decide +kernel⟩, lw_t10 (List.mem_of_getElem? (i := 136) rfl), lw_t11 (List.mem_of_getElem? (i := 40) rfl), lw_t11 (List.mem_of_getElem? (i := 41) rfl)⟩
theorem lw_p45 : lw_okq (⟨"FormulaEditorModel", "insert", "(II)V"⟩, 26) := ⟨⟨by decide +kernel, by decide +kernel⟩, lw_t10 (List.mem_of_getElem? (i := 136) rfl), lw_t11 (List.mem_of_getElem? (i := 44) rfl), lw_t11 (List.mem_of_getElem? (i := 45) rfl)⟩
theorem lw_p46 : lw_okq (⟨"FormulaEditorModel", "isPlace", "(I)Z"⟩, 26) := ⟨⟨by decide +kernel, by decide +kernel⟩, lw_t10 (List.mem_of_getElem? (i := 136) rfl), lw_t11 (List.mem_of_getElem? (i := 70) rfl), lw_t11 (List.mem_of_getElem? (i := 71) rfl)⟩
theorem lw_p47 : lw_okq (⟨"FormulaEditorModel", "layLine", "([I)V"⟩, 26) := ⟨⟨by decide +kernel, by decide +kernel⟩, lw_t10 (List.mem_of_getElem? (i := 136) rfl), lw_t11 (List.mem_of_getElem? (i := 101) rfl), lw_t11 (List.mem_of_getElem? (i := 102) rfl)⟩
def lw_privs_3 : List (MethodName × Nat) := [(⟨"FormulaEditor", "demandPlace", "(I)V"⟩, 9), (⟨"FormulaEditor$Document", "enter", "(LFormulaEditor$Structure;I)I"⟩, 4), (⟨"FormulaEditor", "act", "(LFormulaEditor$Change;)V"⟩, 9), (⟨"FormulaEditor$Document", "dissolve", "(LFormulaEditor$Structure;I)V"⟩, 4), (⟨"FormulaEditor", "measure", "(LFormulaEditor$Row;)LFormulaEditor$Box;"⟩, 9), (⟨"FormulaEditor", "run", "(LFormulaEditor$Document;II)Z"⟩, 9), (⟨"FormulaEditorModel", "refused", "(I)Z"⟩, 26), (⟨"FormulaEditorModel", "readText", "()I"⟩, 26), (⟨"FormulaEditorModel", "openRow", "(I)V"⟩, 26), (⟨"FormulaEditorModel", "closeChain", "()V"⟩, 26), (⟨"FormulaEditorModel", "unwrap", "()V"⟩, 26), (⟨"FormulaEditorModel", "add", "(I)V"⟩, 26), (⟨"FormulaEditorModel", "line", "()V"⟩, 26), (⟨"FormulaEditorModel", "insert", "(II)V"⟩, 26), (⟨"FormulaEditorModel", "isPlace", "(I)Z"⟩, 26), (⟨"FormulaEditorModel", "layLine", "([I)V"⟩, 26)]
theorem lw_r3 : ∀ q ∈ lw_privs_3, lw_okq q := List.forall_mem_cons.mpr ⟨lw_p32, List.forall_mem_cons.mpr ⟨lw_p33, List.forall_mem_cons.mpr ⟨lw_p34, List.forall_mem_cons.mpr ⟨lw_p35, List.forall_mem_cons.mpr ⟨lw_p36, List.forall_mem_cons.mpr ⟨lw_p37, List.forall_mem_cons.mpr ⟨lw_p38, List.forall_mem_cons.mpr ⟨lw_p39, List.forall_mem_cons.mpr ⟨lw_p40, List.forall_mem_cons.mpr ⟨lw_p41, List.forall_mem_cons.mpr ⟨lw_p42, List.forall_mem_cons.mpr ⟨lw_p43, List.forall_mem_cons.mpr ⟨lw_p44, List.forall_mem_cons.mpr ⟨lw_p45, List.forall_mem_cons.mpr ⟨lw_p46, List.forall_mem_cons.mpr ⟨lw_p47, fun _ h => absurd h List.not_mem_nil⟩⟩⟩⟩⟩⟩⟩⟩⟩⟩⟩⟩⟩⟩⟩⟩
theorem lw_p48 : lw_okq (⟨"FormulaEditorModel", "say", "(I)V"⟩, 26) := ⟨⟨by decide +kernel, by decide +kernel⟩, lw_t10 (List.mem_of_getElem? (i := 136) rfl), lw_t11 (List.mem_of_getElem? (i := 105) rfl), lw_t11 (List.mem_of_getElem? (i := 106) rfl)⟩
theorem lw_p49 : lw_okq (⟨"FormulaEditorModel", "sayUnless", "(ZI)V"⟩, 26) := ⟨⟨by decide +kernel, by decide +kernel⟩, lw_t10 (List.mem_of_getElem? (i := 136) rfl), lw_t11 (List.mem_of_getElem? (i := 112) rfl), lw_t11 (List.mem_of_getElem? (i := 113) rfl)⟩
theorem lw_p50 : lw_okq (⟨"FormulaEditorModel", "goTo", "(I)I"⟩, 26) := ⟨⟨by decide +kernel, by decide +kernel⟩, lw_t10 (List.mem_of_getElem? (i := 136) rfl), lw_t11 (List.mem_of_getElem? (i := 143) rfl), lw_t11 (List.mem_of_getElem? (i := 144) rfl)⟩
theorem lw_p51 : lw_okq (⟨"FormulaEditorModel", "take", "()V"⟩, 26) := ⟨⟨by decide +kernel, by decide +kernel⟩, lw_t10 (List.mem_of_getElem? (i := 136) rfl), lw_t11 (List.mem_of_getElem? (i := 184) rfl), lw_t11 (List.mem_of_getElem? (i := 185) rfl)⟩
theorem lw_p52 : lw_okq (⟨"FormulaEditorModel", "note", "()V"⟩, 26) := ⟨⟨by decide +kernel, by decide +kernel⟩, lw_t10 (List.mem_of_getElem? (i := 136) rfl), lw_t11 (List.mem_of_getElem? (i := 188) rfl), lw_t11 (List.mem_of_getElem? (i := 189) rfl)⟩
theorem lw_p53 : lw_okq (⟨"FormulaEditorModel", "layBoxes", "([I)V"⟩, 26) := ⟨⟨by decide +kernel, by decide +kernel⟩, lw_t10 (List.mem_of_getElem? (i := 136) rfl), lw_t11 (List.mem_of_getElem? (i := 222) rfl), lw_t11 (List.mem_of_getElem? (i := 223) rfl)⟩
theorem lw_p54 : lw_okq (⟨"FormulaEditorModel", "layRow", "([II)V"⟩, 26) := ⟨⟨by decide +kernel, by decide +kernel⟩, lw_t10 (List.mem_of_getElem? (i := 136) rfl), lw_t11 (List.mem_of_getElem? (i := 226) rfl), lw_t11 (List.mem_of_getElem? (i := 227) rfl)⟩
theorem lw_p55 : lw_okq (⟨"FormulaEditorModel", "signAt", "([III)I"⟩, 26) := ⟨⟨by decide +kernel, by decide +kernel⟩, lw_t10 (List.mem_of_getElem? (i := 136) rfl), lw_t11 (List.mem_of_getElem? (i := 234) rfl), lw_t11 (List.mem_of_getElem? (i := 235) rfl)⟩
theorem lw_p56 : lw_okq (⟨"FormulaEditorModel", "does", "(III)Z"⟩, 26) := ⟨⟨by decide +kernel, by decide +kernel⟩, lw_t10 (List.mem_of_getElem? (i := 136) rfl), lw_t12 (List.mem_of_getElem? (i := 8) rfl), lw_t12 (List.mem_of_getElem? (i := 9) rfl)⟩
def lw_privs_4 : List (MethodName × Nat) := [(⟨"FormulaEditorModel", "say", "(I)V"⟩, 26), (⟨"FormulaEditorModel", "sayUnless", "(ZI)V"⟩, 26), (⟨"FormulaEditorModel", "goTo", "(I)I"⟩, 26), (⟨"FormulaEditorModel", "take", "()V"⟩, 26), (⟨"FormulaEditorModel", "note", "()V"⟩, 26), (⟨"FormulaEditorModel", "layBoxes", "([I)V"⟩, 26), (⟨"FormulaEditorModel", "layRow", "([II)V"⟩, 26), (⟨"FormulaEditorModel", "signAt", "([III)I"⟩, 26), (⟨"FormulaEditorModel", "does", "(III)Z"⟩, 26)]
theorem lw_r4 : ∀ q ∈ lw_privs_4, lw_okq q := List.forall_mem_cons.mpr ⟨lw_p48, List.forall_mem_cons.mpr ⟨lw_p49, List.forall_mem_cons.mpr ⟨lw_p50, List.forall_mem_cons.mpr ⟨lw_p51, List.forall_mem_cons.mpr ⟨lw_p52, List.forall_mem_cons.mpr ⟨lw_p53, List.forall_mem_cons.mpr ⟨lw_p54, List.forall_mem_cons.mpr ⟨lw_p55, List.forall_mem_cons.mpr ⟨lw_p56, fun _ h => absurd h List.not_mem_nil⟩⟩⟩⟩⟩⟩⟩⟩⟩
def lw_privs : List (MethodName × Nat) := lw_privs_1 ++ (lw_privs_2 ++ (lw_privs_3 ++ (lw_privs_4)))
def lw_tbl : List Cond := k2_sels lw_privs ++ tables_1
theorem lw_privs_ok : ∀ q ∈ lw_privs, lw_okq q := by
  show ∀ q ∈ lw_privs_1 ++ (lw_privs_2 ++ (lw_privs_3 ++ (lw_privs_4))), lw_okq q
  exact List.forall_mem_append.mpr ⟨lw_r1, List.forall_mem_append.mpr ⟨lw_r2, List.forall_mem_append.mpr ⟨lw_r3, lw_r4⟩⟩⟩
-- ===== ONE list of words for every method: the tables' words that hold all through a run =====
def lw_all : List Cond := lw_tbl.filter goodWord
/-- a word of the tables by its place: claim/WORDS.tsv -/
theorem lw_w {w : Cond} (i : Nat) (h : lw_tbl[i]? = some w) (g : goodWord w = true) : w ∈ lw_all := List.mem_filter.mpr ⟨List.mem_of_getElem? h, g⟩
theorem lw_all_tbl {w : Cond} (h : w ∈ lw_all) : w ∈ lw_tbl := (List.mem_filter.mp h).1
theorem lw_self : GoodIn lw_all lw_all := fun w h => ⟨h, good_of_word (List.mem_filter.mp h).2⟩
/-- a class's field words, by their places -/
theorem lw_in (ws : List Cond) (ps : List Nat) (hp : ws = ps.filterMap (fun i => lw_tbl[i]?)) (hg : ws.all goodWord = true) : ∀ w ∈ ws, w ∈ lw_all := by
  intro w h
  have h1 := List.all_eq_true.mp hg w h
  rw [hp] at h
  obtain ⟨i, -, hi⟩ := List.mem_filterMap.mp h
  exact lw_w i hi h1
/-- the words of a contract for the method y with code b, L locals, answer r -/
abbrev ws_ (y : MethodName) (b : ByteArray) (L : Nat) (r : Option FieldType) : List Cond := Cond.code y b L r :: lw_all
theorem lw_meth {y : MethodName} {b : ByteArray} {L : Nat} {r : Option FieldType} (h : Cond.code y b L r ∈ lw_all) : GoodIn lw_all (ws_ y b L r) := by
  intro w hw
  rcases List.mem_cons.mp hw with e | e
  · rw [e]
    exact lw_self _ h
  · exact lw_self _ e
theorem lw_app {a c : List Cond} (ha : ∀ w ∈ a, w ∈ lw_all) (hc : GoodIn lw_all c) : GoodIn lw_all (a ++ c) := by
  intro w hw
  rcases List.mem_append.mp hw with e | e
  · exact lw_self w (ha w e)
  · exact hc w e
/-- what a call through an object asks: cwV n hts (lw_V ..) -/
theorem lw_V {own : String} {idx : Nat} {C : String} {y : MethodName} {b : ByteArray} {L : Nat} {r : Option FieldType} (h1 : Cond.methodLink own idx y ∈ lw_all) (h2 : Cond.instanceMethod y ∈ lw_all) (h3 : Cond.selects C y y ∈ lw_all) (h4 : Cond.initialized C ∈ lw_all) (h5 : Cond.code y b L r ∈ lw_all) : GoodIn lw_all (wsV own idx C y (ws_ y b L r)) := by
  refine lw_app ?_ (lw_meth h5)
  intro w hw
  simp only [List.mem_cons, List.not_mem_nil, or_false] at hw
  rcases hw with e | e | e | e
  · rw [e]; exact h1
  · rw [e]; exact h2
  · rw [e]; exact h3
  · rw [e]; exact h4
/-- what a static call asks: va_cwS n hts (lw_S ..) -/
theorem lw_S {own : String} {idx : Nat} {y : MethodName} {b : ByteArray} {L : Nat} {r : Option FieldType} (h1 : Cond.methodLink own idx y ∈ lw_all) (h2 : Cond.static y ∈ lw_all) (h3 : Cond.initialized y.cls ∈ lw_all) (h4 : Cond.code y b L r ∈ lw_all) : GoodIn lw_all (va_wsS own idx y (ws_ y b L r)) := by
  refine lw_app ?_ (lw_meth h4)
  intro w hw
  simp only [List.mem_cons, List.not_mem_nil, or_false] at hw
  rcases hw with e | e | e
  · rw [e]; exact h1
  · rw [e]; exact h2
  · rw [e]; exact h3
/-- the words of a contract for a method WITH HANDLERS (hh: its table) -/
abbrev wsW_ (y : MethodName) (b : ByteArray) (L : Nat) (r : Option FieldType) (hh : List (Nat × Nat × Nat × Nat)) : List Cond := Cond.codeWith y b L r hh :: lw_all
theorem lw_methW {y : MethodName} {b : ByteArray} {L : Nat} {r : Option FieldType} {hh : List (Nat × Nat × Nat × Nat)} (h : Cond.codeWith y b L r hh ∈ lw_all) : GoodIn lw_all (wsW_ y b L r hh) := by
  intro w hw
  rcases List.mem_cons.mp hw with e | e
  · rw [e]
    exact lw_self _ h
  · exact lw_self _ e
/-- any list of words by their places (lw_in), good -/
theorem lw_good {ws : List Cond} (h : ∀ w ∈ ws, w ∈ lw_all) : GoodIn lw_all ws := fun w hw => lw_self w (h w hw)
/-- what a call of a method with handlers asks: vx_cwVW n hts (lw_VW ..), vx_cwSW n hts (lw_SW ..) -/
theorem lw_VW {own : String} {idx : Nat} {C : String} {y : MethodName} {b : ByteArray} {L : Nat} {r : Option FieldType} {hh : List (Nat × Nat × Nat × Nat)} (h1 : Cond.methodLink own idx y ∈ lw_all) (h2 : Cond.instanceMethod y ∈ lw_all) (h3 : Cond.selects C y y ∈ lw_all) (h4 : Cond.initialized C ∈ lw_all) (h5 : Cond.codeWith y b L r hh ∈ lw_all) : GoodIn lw_all (wsV own idx C y (wsW_ y b L r hh)) := by
  refine lw_app ?_ (lw_methW h5)
  intro w hw
  simp only [List.mem_cons, List.not_mem_nil, or_false] at hw
  rcases hw with e | e | e | e
  · rw [e]; exact h1
  · rw [e]; exact h2
  · rw [e]; exact h3
  · rw [e]; exact h4
theorem lw_SW {own : String} {idx : Nat} {y : MethodName} {b : ByteArray} {L : Nat} {r : Option FieldType} {hh : List (Nat × Nat × Nat × Nat)} (h1 : Cond.methodLink own idx y ∈ lw_all) (h2 : Cond.static y ∈ lw_all) (h3 : Cond.initialized y.cls ∈ lw_all) (h4 : Cond.codeWith y b L r hh ∈ lw_all) : GoodIn lw_all (va_wsS own idx y (wsW_ y b L r hh)) := by
  refine lw_app ?_ (lw_methW h4)
  intro w hw
  simp only [List.mem_cons, List.not_mem_nil, or_false] at hw
  rcases hw with e | e | e
  · rw [e]; exact h1
  · rw [e]; exact h2
  · rw [e]; exact h3
/-- a word by its place in its run of the tables -/
theorem lw_at {r : List Cond} (hr : ∀ w ∈ r, w ∈ lw_tbl) {w : Cond} (i : Nat) (h : r[i]? = some w) : w ∈ lw_tbl := hr w (List.mem_of_getElem? h)
theorem lw_g {w : Cond} (h : w ∈ lw_tbl) (g : goodWord w = true) : w ∈ lw_all := List.mem_filter.mpr ⟨h, g⟩
theorem lw_ms : ∀ w ∈ k2_sels lw_privs, w ∈ lw_tbl := fun w h => show w ∈ k2_sels lw_privs ++ tables_1 from List.mem_append_left _ h
theorem lw_m1 : ∀ w ∈ tables_1_1, w ∈ lw_tbl := fun w h => show w ∈ k2_sels lw_privs ++ tables_1 from List.mem_append_right (k2_sels lw_privs) (show w ∈ tables_1 from List.mem_append_left _ h)
theorem lw_m2 : ∀ w ∈ tables_1_2, w ∈ lw_tbl := fun w h => show w ∈ k2_sels lw_privs ++ tables_1 from List.mem_append_right (k2_sels lw_privs) (show w ∈ tables_1 from List.mem_append_right _ (List.mem_append_left _ h))
theorem lw_m3 : ∀ w ∈ tables_1_3, w ∈ lw_tbl := fun w h => show w ∈ k2_sels lw_privs ++ tables_1 from List.mem_append_right (k2_sels lw_privs) (show w ∈ tables_1 from List.mem_append_right _ (List.mem_append_right _ (List.mem_append_left _ h)))
theorem lw_m4 : ∀ w ∈ tables_1_4, w ∈ lw_tbl := fun w h => show w ∈ k2_sels lw_privs ++ tables_1 from List.mem_append_right (k2_sels lw_privs) (show w ∈ tables_1 from List.mem_append_right _ (List.mem_append_right _ (List.mem_append_right _ (List.mem_append_left _ h))))
theorem lw_m5 : ∀ w ∈ tables_1_5, w ∈ lw_tbl := fun w h => show w ∈ k2_sels lw_privs ++ tables_1 from List.mem_append_right (k2_sels lw_privs) (show w ∈ tables_1 from List.mem_append_right _ (List.mem_append_right _ (List.mem_append_right _ (List.mem_append_right _ (List.mem_append_left _ h)))))
theorem lw_m6 : ∀ w ∈ tables_1_6, w ∈ lw_tbl := fun w h => show w ∈ k2_sels lw_privs ++ tables_1 from List.mem_append_right (k2_sels lw_privs) (show w ∈ tables_1 from List.mem_append_right _ (List.mem_append_right _ (List.mem_append_right _ (List.mem_append_right _ (List.mem_append_right _ (List.mem_append_left _ h))))))
theorem lw_m7 : ∀ w ∈ tables_1_7, w ∈ lw_tbl := fun w h => show w ∈ k2_sels lw_privs ++ tables_1 from List.mem_append_right (k2_sels lw_privs) (show w ∈ tables_1 from List.mem_append_right _ (List.mem_append_right _ (List.mem_append_right _ (List.mem_append_right _ (List.mem_append_right _ (List.mem_append_right _ (List.mem_append_left _ h)))))))
theorem lw_m8 : ∀ w ∈ tables_1_8, w ∈ lw_tbl := fun w h => show w ∈ k2_sels lw_privs ++ tables_1 from List.mem_append_right (k2_sels lw_privs) (show w ∈ tables_1 from List.mem_append_right _ (List.mem_append_right _ (List.mem_append_right _ (List.mem_append_right _ (List.mem_append_right _ (List.mem_append_right _ (List.mem_append_right _ (List.mem_append_left _ h))))))))
theorem lw_m9 : ∀ w ∈ tables_1_9, w ∈ lw_tbl := fun w h => show w ∈ k2_sels lw_privs ++ tables_1 from List.mem_append_right (k2_sels lw_privs) (show w ∈ tables_1 from List.mem_append_right _ (List.mem_append_right _ (List.mem_append_right _ (List.mem_append_right _ (List.mem_append_right _ (List.mem_append_right _ (List.mem_append_right _ (List.mem_append_right _ (List.mem_append_left _ h)))))))))
theorem lw_m10 : ∀ w ∈ tables_1_10, w ∈ lw_tbl := fun w h => show w ∈ k2_sels lw_privs ++ tables_1 from List.mem_append_right (k2_sels lw_privs) (show w ∈ tables_1 from List.mem_append_right _ (List.mem_append_right _ (List.mem_append_right _ (List.mem_append_right _ (List.mem_append_right _ (List.mem_append_right _ (List.mem_append_right _ (List.mem_append_right _ (List.mem_append_right _ (List.mem_append_left _ h))))))))))
theorem lw_m11 : ∀ w ∈ tables_1_11, w ∈ lw_tbl := fun w h => show w ∈ k2_sels lw_privs ++ tables_1 from List.mem_append_right (k2_sels lw_privs) (show w ∈ tables_1 from List.mem_append_right _ (List.mem_append_right _ (List.mem_append_right _ (List.mem_append_right _ (List.mem_append_right _ (List.mem_append_right _ (List.mem_append_right _ (List.mem_append_right _ (List.mem_append_right _ (List.mem_append_right _ (List.mem_append_left _ h)))))))))))
theorem lw_m12 : ∀ w ∈ tables_1_12, w ∈ lw_tbl := fun w h => show w ∈ k2_sels lw_privs ++ tables_1 from List.mem_append_right (k2_sels lw_privs) (show w ∈ tables_1 from List.mem_append_right _ (List.mem_append_right _ (List.mem_append_right _ (List.mem_append_right _ (List.mem_append_right _ (List.mem_append_right _ (List.mem_append_right _ (List.mem_append_right _ (List.mem_append_right _ (List.mem_append_right _ (List.mem_append_right _ h)))))))))))
theorem qs0 : (Cond.selects "java/lang/Throwable" ⟨"java/lang/Throwable", "fillInStackTrace", "(I)Ljava/lang/Throwable;"⟩ ⟨"java/lang/Throwable", "fillInStackTrace", "(I)Ljava/lang/Throwable;"⟩) ∈ lw_all := lw_g (lw_at lw_ms 0 rfl) rfl
theorem qs1 : (Cond.selects "FormulaEditor" ⟨"FormulaEditor", "lambda$new$5", "(LFormulaEditor$Structure;[[CII)V"⟩ ⟨"FormulaEditor", "lambda$new$5", "(LFormulaEditor$Structure;[[CII)V"⟩) ∈ lw_all := lw_g (lw_at lw_ms 1 rfl) rfl
theorem qs2 : (Cond.selects "FormulaEditor" ⟨"FormulaEditor", "drawFraction", "(LFormulaEditor$Structure;[[CII)V"⟩ ⟨"FormulaEditor", "drawFraction", "(LFormulaEditor$Structure;[[CII)V"⟩) ∈ lw_all := lw_g (lw_at lw_ms 2 rfl) rfl
theorem qs3 : (Cond.selects "FormulaEditor" ⟨"FormulaEditor", "draw", "(LFormulaEditor$Row;[[CII)V"⟩ ⟨"FormulaEditor", "draw", "(LFormulaEditor$Row;[[CII)V"⟩) ∈ lw_all := lw_g (lw_at lw_ms 3 rfl) rfl
theorem qs4 : (Cond.selects "FormulaEditor" ⟨"FormulaEditor", "lambda$new$6", "(LFormulaEditor$Structure;[[CII)V"⟩ ⟨"FormulaEditor", "lambda$new$6", "(LFormulaEditor$Structure;[[CII)V"⟩) ∈ lw_all := lw_g (lw_at lw_ms 4 rfl) rfl
theorem qs5 : (Cond.selects "FormulaEditor" ⟨"FormulaEditor", "lambda$new$7", "(LFormulaEditor$Structure;[[CII)V"⟩ ⟨"FormulaEditor", "lambda$new$7", "(LFormulaEditor$Structure;[[CII)V"⟩) ∈ lw_all := lw_g (lw_at lw_ms 5 rfl) rfl
theorem qs6 : (Cond.selects "FormulaEditor" ⟨"FormulaEditor", "lambda$new$8", "(LFormulaEditor$Structure;[[CII)V"⟩ ⟨"FormulaEditor", "lambda$new$8", "(LFormulaEditor$Structure;[[CII)V"⟩) ∈ lw_all := lw_g (lw_at lw_ms 6 rfl) rfl
theorem qs7 : (Cond.selects "FormulaEditor" ⟨"FormulaEditor", "drawRoot", "(LFormulaEditor$Row;[[CII)V"⟩ ⟨"FormulaEditor", "drawRoot", "(LFormulaEditor$Row;[[CII)V"⟩) ∈ lw_all := lw_g (lw_at lw_ms 7 rfl) rfl
theorem qs8 : (Cond.selects "FormulaEditor" ⟨"FormulaEditor", "lambda$new$9", "(LFormulaEditor$Structure;[[CII)V"⟩ ⟨"FormulaEditor", "lambda$new$9", "(LFormulaEditor$Structure;[[CII)V"⟩) ∈ lw_all := lw_g (lw_at lw_ms 8 rfl) rfl
theorem qs9 : (Cond.selects "FormulaEditor" ⟨"FormulaEditor", "drawParentheses", "(LFormulaEditor$Row;[[CII)V"⟩ ⟨"FormulaEditor", "drawParentheses", "(LFormulaEditor$Row;[[CII)V"⟩) ∈ lw_all := lw_g (lw_at lw_ms 9 rfl) rfl
theorem qs10 : (Cond.selects "java/util/ArrayDeque" ⟨"java/util/ArrayDeque", "grow", "(I)V"⟩ ⟨"java/util/ArrayDeque", "grow", "(I)V"⟩) ∈ lw_all := lw_g (lw_at lw_ms 10 rfl) rfl
theorem qs11 : (Cond.selects "java/util/ArrayDeque" ⟨"java/util/ArrayDeque", "newCapacity", "(II)I"⟩ ⟨"java/util/ArrayDeque", "newCapacity", "(II)I"⟩) ∈ lw_all := lw_g (lw_at lw_ms 11 rfl) rfl
theorem qs12 : (Cond.selects "FormulaEditor$Parser" ⟨"FormulaEditor$Parser", "accepts", "(C)Z"⟩ ⟨"FormulaEditor$Parser", "accepts", "(C)Z"⟩) ∈ lw_all := lw_g (lw_at lw_ms 12 rfl) rfl
theorem qs13 : (Cond.selects "FormulaEditor$Parser" ⟨"FormulaEditor$Parser", "open", "(Z)Z"⟩ ⟨"FormulaEditor$Parser", "open", "(Z)Z"⟩) ∈ lw_all := lw_g (lw_at lw_ms 13 rfl) rfl
theorem qs14 : (Cond.selects "FormulaEditor$Parser" ⟨"FormulaEditor$Parser", "begin", "()V"⟩ ⟨"FormulaEditor$Parser", "begin", "()V"⟩) ∈ lw_all := lw_g (lw_at lw_ms 14 rfl) rfl
theorem qs15 : (Cond.selects "FormulaEditor$Parser" ⟨"FormulaEditor$Parser", "level", "()LFormulaEditor$Level;"⟩ ⟨"FormulaEditor$Parser", "level", "()LFormulaEditor$Level;"⟩) ∈ lw_all := lw_g (lw_at lw_ms 15 rfl) rfl
theorem qs16 : (Cond.selects "FormulaEditor$Level" ⟨"FormulaEditor$Level", "takeFactor", "()LFormulaEditor$Row;"⟩ ⟨"FormulaEditor$Level", "takeFactor", "()LFormulaEditor$Row;"⟩) ∈ lw_all := lw_g (lw_at lw_ms 16 rfl) rfl
theorem qs17 : (Cond.selects "java/util/ArrayList" ⟨"java/util/ArrayList", "fastRemove", "([Ljava/lang/Object;I)V"⟩ ⟨"java/util/ArrayList", "fastRemove", "([Ljava/lang/Object;I)V"⟩) ∈ lw_all := lw_g (lw_at lw_ms 17 rfl) rfl
theorem qs18 : (Cond.selects "java/util/ArrayList" ⟨"java/util/ArrayList", "rangeCheckForAdd", "(I)V"⟩ ⟨"java/util/ArrayList", "rangeCheckForAdd", "(I)V"⟩) ∈ lw_all := lw_g (lw_at lw_ms 18 rfl) rfl
theorem qs19 : (Cond.selects "java/util/ArrayList" ⟨"java/util/ArrayList", "outOfBoundsMsg", "(I)Ljava/lang/String;"⟩ ⟨"java/util/ArrayList", "outOfBoundsMsg", "(I)Ljava/lang/String;"⟩) ∈ lw_all := lw_g (lw_at lw_ms 19 rfl) rfl
theorem qs20 : (Cond.selects "java/util/ArrayList" ⟨"java/util/ArrayList", "grow", "()[Ljava/lang/Object;"⟩ ⟨"java/util/ArrayList", "grow", "()[Ljava/lang/Object;"⟩) ∈ lw_all := lw_g (lw_at lw_ms 20 rfl) rfl
theorem qs21 : (Cond.selects "java/util/ArrayList" ⟨"java/util/ArrayList", "grow", "(I)[Ljava/lang/Object;"⟩ ⟨"java/util/ArrayList", "grow", "(I)[Ljava/lang/Object;"⟩) ∈ lw_all := lw_g (lw_at lw_ms 21 rfl) rfl
theorem qs22 : (Cond.selects "FormulaEditor$Parser" ⟨"FormulaEditor$Parser", "place", "(LFormulaEditor$Item;)Z"⟩ ⟨"FormulaEditor$Parser", "place", "(LFormulaEditor$Item;)Z"⟩) ∈ lw_all := lw_g (lw_at lw_ms 22 rfl) rfl
theorem qs23 : (Cond.selects "FormulaEditor$Parser" ⟨"FormulaEditor$Parser", "placeScript", "(LFormulaEditor$Row;)Z"⟩ ⟨"FormulaEditor$Parser", "placeScript", "(LFormulaEditor$Row;)Z"⟩) ∈ lw_all := lw_g (lw_at lw_ms 23 rfl) rfl
theorem qs24 : (Cond.selects "FormulaEditor$Parser" ⟨"FormulaEditor$Parser", "acceptsMore", "(C)Z"⟩ ⟨"FormulaEditor$Parser", "acceptsMore", "(C)Z"⟩) ∈ lw_all := lw_g (lw_at lw_ms 24 rfl) rfl
theorem qs25 : (Cond.selects "FormulaEditor$Parser" ⟨"FormulaEditor$Parser", "close", "()Z"⟩ ⟨"FormulaEditor$Parser", "close", "()Z"⟩) ∈ lw_all := lw_g (lw_at lw_ms 25 rfl) rfl
theorem qs26 : (Cond.selects "FormulaEditor$Row" ⟨"FormulaEditor$Row", "isPlainOperand", "()Z"⟩ ⟨"FormulaEditor$Row", "isPlainOperand", "()Z"⟩) ∈ lw_all := lw_g (lw_at lw_ms 26 rfl) rfl
theorem qs27 : (Cond.selects "FormulaEditor$Row" ⟨"FormulaEditor$Row", "isScriptFrom", "(I)Z"⟩ ⟨"FormulaEditor$Row", "isScriptFrom", "(I)Z"⟩) ∈ lw_all := lw_g (lw_at lw_ms 27 rfl) rfl
theorem qs28 : (Cond.selects "FormulaEditor$Row" ⟨"FormulaEditor$Row", "writeAs", "(ZLjava/lang/StringBuilder;)V"⟩ ⟨"FormulaEditor$Row", "writeAs", "(ZLjava/lang/StringBuilder;)V"⟩) ∈ lw_all := lw_g (lw_at lw_ms 28 rfl) rfl
theorem qs29 : (Cond.selects "FormulaEditor$Row" ⟨"FormulaEditor$Row", "writeInParentheses", "(Ljava/lang/StringBuilder;)V"⟩ ⟨"FormulaEditor$Row", "writeInParentheses", "(Ljava/lang/StringBuilder;)V"⟩) ∈ lw_all := lw_g (lw_at lw_ms 29 rfl) rfl
theorem qs30 : (Cond.selects "FormulaEditor$Row" ⟨"FormulaEditor$Row", "isPlainBase", "()Z"⟩ ⟨"FormulaEditor$Row", "isPlainBase", "()Z"⟩) ∈ lw_all := lw_g (lw_at lw_ms 30 rfl) rfl
theorem qs31 : (Cond.selects "FormulaEditor$Document" ⟨"FormulaEditor$Document", "goTo", "(LFormulaEditor$Row;I)V"⟩ ⟨"FormulaEditor$Document", "goTo", "(LFormulaEditor$Row;I)V"⟩) ∈ lw_all := lw_g (lw_at lw_ms 31 rfl) rfl
theorem qs32 : (Cond.selects "FormulaEditor" ⟨"FormulaEditor", "demandPlace", "(I)V"⟩ ⟨"FormulaEditor", "demandPlace", "(I)V"⟩) ∈ lw_all := lw_g (lw_at lw_ms 32 rfl) rfl
theorem qs33 : (Cond.selects "FormulaEditor$Document" ⟨"FormulaEditor$Document", "enter", "(LFormulaEditor$Structure;I)I"⟩ ⟨"FormulaEditor$Document", "enter", "(LFormulaEditor$Structure;I)I"⟩) ∈ lw_all := lw_g (lw_at lw_ms 33 rfl) rfl
theorem qs34 : (Cond.selects "FormulaEditor" ⟨"FormulaEditor", "act", "(LFormulaEditor$Change;)V"⟩ ⟨"FormulaEditor", "act", "(LFormulaEditor$Change;)V"⟩) ∈ lw_all := lw_g (lw_at lw_ms 34 rfl) rfl
theorem qs35 : (Cond.selects "FormulaEditor$Document" ⟨"FormulaEditor$Document", "dissolve", "(LFormulaEditor$Structure;I)V"⟩ ⟨"FormulaEditor$Document", "dissolve", "(LFormulaEditor$Structure;I)V"⟩) ∈ lw_all := lw_g (lw_at lw_ms 35 rfl) rfl
theorem qs36 : (Cond.selects "FormulaEditor" ⟨"FormulaEditor", "measure", "(LFormulaEditor$Row;)LFormulaEditor$Box;"⟩ ⟨"FormulaEditor", "measure", "(LFormulaEditor$Row;)LFormulaEditor$Box;"⟩) ∈ lw_all := lw_g (lw_at lw_ms 36 rfl) rfl
theorem qs37 : (Cond.selects "FormulaEditor" ⟨"FormulaEditor", "run", "(LFormulaEditor$Document;II)Z"⟩ ⟨"FormulaEditor", "run", "(LFormulaEditor$Document;II)Z"⟩) ∈ lw_all := lw_g (lw_at lw_ms 37 rfl) rfl
theorem qs38 : (Cond.selects "FormulaEditorModel" ⟨"FormulaEditorModel", "refused", "(I)Z"⟩ ⟨"FormulaEditorModel", "refused", "(I)Z"⟩) ∈ lw_all := lw_g (lw_at lw_ms 38 rfl) rfl
theorem qs39 : (Cond.selects "FormulaEditorModel" ⟨"FormulaEditorModel", "readText", "()I"⟩ ⟨"FormulaEditorModel", "readText", "()I"⟩) ∈ lw_all := lw_g (lw_at lw_ms 39 rfl) rfl
theorem qs40 : (Cond.selects "FormulaEditorModel" ⟨"FormulaEditorModel", "openRow", "(I)V"⟩ ⟨"FormulaEditorModel", "openRow", "(I)V"⟩) ∈ lw_all := lw_g (lw_at lw_ms 40 rfl) rfl
theorem qs41 : (Cond.selects "FormulaEditorModel" ⟨"FormulaEditorModel", "closeChain", "()V"⟩ ⟨"FormulaEditorModel", "closeChain", "()V"⟩) ∈ lw_all := lw_g (lw_at lw_ms 41 rfl) rfl
theorem qs42 : (Cond.selects "FormulaEditorModel" ⟨"FormulaEditorModel", "unwrap", "()V"⟩ ⟨"FormulaEditorModel", "unwrap", "()V"⟩) ∈ lw_all := lw_g (lw_at lw_ms 42 rfl) rfl
theorem qs43 : (Cond.selects "FormulaEditorModel" ⟨"FormulaEditorModel", "add", "(I)V"⟩ ⟨"FormulaEditorModel", "add", "(I)V"⟩) ∈ lw_all := lw_g (lw_at lw_ms 43 rfl) rfl
theorem qs44 : (Cond.selects "FormulaEditorModel" ⟨"FormulaEditorModel", "line", "()V"⟩ ⟨"FormulaEditorModel", "line", "()V"⟩) ∈ lw_all := lw_g (lw_at lw_ms 44 rfl) rfl
theorem qs45 : (Cond.selects "FormulaEditorModel" ⟨"FormulaEditorModel", "insert", "(II)V"⟩ ⟨"FormulaEditorModel", "insert", "(II)V"⟩) ∈ lw_all := lw_g (lw_at lw_ms 45 rfl) rfl
theorem qs46 : (Cond.selects "FormulaEditorModel" ⟨"FormulaEditorModel", "isPlace", "(I)Z"⟩ ⟨"FormulaEditorModel", "isPlace", "(I)Z"⟩) ∈ lw_all := lw_g (lw_at lw_ms 46 rfl) rfl
theorem qs47 : (Cond.selects "FormulaEditorModel" ⟨"FormulaEditorModel", "layLine", "([I)V"⟩ ⟨"FormulaEditorModel", "layLine", "([I)V"⟩) ∈ lw_all := lw_g (lw_at lw_ms 47 rfl) rfl
theorem qs48 : (Cond.selects "FormulaEditorModel" ⟨"FormulaEditorModel", "say", "(I)V"⟩ ⟨"FormulaEditorModel", "say", "(I)V"⟩) ∈ lw_all := lw_g (lw_at lw_ms 48 rfl) rfl
theorem qs49 : (Cond.selects "FormulaEditorModel" ⟨"FormulaEditorModel", "sayUnless", "(ZI)V"⟩ ⟨"FormulaEditorModel", "sayUnless", "(ZI)V"⟩) ∈ lw_all := lw_g (lw_at lw_ms 49 rfl) rfl
theorem qs50 : (Cond.selects "FormulaEditorModel" ⟨"FormulaEditorModel", "goTo", "(I)I"⟩ ⟨"FormulaEditorModel", "goTo", "(I)I"⟩) ∈ lw_all := lw_g (lw_at lw_ms 50 rfl) rfl
theorem qs51 : (Cond.selects "FormulaEditorModel" ⟨"FormulaEditorModel", "take", "()V"⟩ ⟨"FormulaEditorModel", "take", "()V"⟩) ∈ lw_all := lw_g (lw_at lw_ms 51 rfl) rfl
theorem qs52 : (Cond.selects "FormulaEditorModel" ⟨"FormulaEditorModel", "note", "()V"⟩ ⟨"FormulaEditorModel", "note", "()V"⟩) ∈ lw_all := lw_g (lw_at lw_ms 52 rfl) rfl
theorem qs53 : (Cond.selects "FormulaEditorModel" ⟨"FormulaEditorModel", "layBoxes", "([I)V"⟩ ⟨"FormulaEditorModel", "layBoxes", "([I)V"⟩) ∈ lw_all := lw_g (lw_at lw_ms 53 rfl) rfl
theorem qs54 : (Cond.selects "FormulaEditorModel" ⟨"FormulaEditorModel", "layRow", "([II)V"⟩ ⟨"FormulaEditorModel", "layRow", "([II)V"⟩) ∈ lw_all := lw_g (lw_at lw_ms 54 rfl) rfl
theorem qs55 : (Cond.selects "FormulaEditorModel" ⟨"FormulaEditorModel", "signAt", "([III)I"⟩ ⟨"FormulaEditorModel", "signAt", "([III)I"⟩) ∈ lw_all := lw_g (lw_at lw_ms 55 rfl) rfl
theorem qs56 : (Cond.selects "FormulaEditorModel" ⟨"FormulaEditorModel", "does", "(III)Z"⟩ ⟨"FormulaEditorModel", "does", "(III)Z"⟩) ∈ lw_all := lw_g (lw_at lw_ms 56 rfl) rfl
