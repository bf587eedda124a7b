-- ===== PART A: goes FIRST, ahead of the names: the tables' words, and 'selects' of the private methods out of them =====
/-- a private method of a class that the tables say can be made, by its rows of tables_1 -/
def lw_okq (q : MethodName × Nat) : Prop := (q.1.cls ≠ "java/lang/invoke/MethodHandle" ∧ q.1.cls ≠ "java/lang/invoke/VarHandle") ∧ Cond.instantiable q.1.cls q.2 ∈ tables_1 ∧ Cond.privateMethod q.1 ∈ tables_1 ∧ Cond.instanceMethod q.1 ∈ tables_1
set_option maxRecDepth 100000
theorem lw_t1 {w : Cond} (h : w ∈ tables_1_1) : w ∈ tables_1 := List.mem_append_left _ h
theorem lw_t2 {w : Cond} (h : w ∈ tables_1_2) : w ∈ tables_1 := List.mem_append_right _ (List.mem_append_left _ h)
theorem lw_t3 {w : Cond} (h : w ∈ tables_1_3) : w ∈ tables_1 := List.mem_append_right _ (List.mem_append_right _ (List.mem_append_left _ h))
theorem lw_t4 {w : Cond} (h : w ∈ tables_1_4) : w ∈ tables_1 := List.mem_append_right _ (List.mem_append_right _ (List.mem_append_right _ (List.mem_append_left _ h)))
theorem lw_t5 {w : Cond} (h : w ∈ tables_1_5) : w ∈ tables_1 := List.mem_append_right _ (List.mem_append_right _ (List.mem_append_right _ (List.mem_append_right _ (List.mem_append_left _ h))))
theorem lw_t6 {w : Cond} (h : w ∈ tables_1_6) : w ∈ tables_1 := List.mem_append_right _ (List.mem_append_right _ (List.mem_append_right _ (List.mem_append_right _ (List.mem_append_right _ (List.mem_append_left _ h)))))
theorem lw_t7 {w : Cond} (h : w ∈ tables_1_7) : w ∈ tables_1 := List.mem_append_right _ (List.mem_append_right _ (List.mem_append_right _ (List.mem_append_right _ (List.mem_append_right _ (List.mem_append_right _ (List.mem_append_left _ h))))))
theorem lw_t8 {w : Cond} (h : w ∈ tables_1_8) : w ∈ tables_1 := List.mem_append_right _ (List.mem_append_right _ (List.mem_append_right _ (List.mem_append_right _ (List.mem_append_right _ (List.mem_append_right _ (List.mem_append_right _ (List.mem_append_left _ h)))))))
theorem lw_t9 {w : Cond} (h : w ∈ tables_1_9) : w ∈ tables_1 := List.mem_append_right _ (List.mem_append_right _ (List.mem_append_right _ (List.mem_append_right _ (List.mem_append_right _ (List.mem_append_right _ (List.mem_append_right _ (List.mem_append_right _ (List.mem_append_left _ h))))))))
theorem lw_t10 {w : Cond} (h : w ∈ tables_1_10) : w ∈ tables_1 := List.mem_append_right _ (List.mem_append_right _ (List.mem_append_right _ (List.mem_append_right _ (List.mem_append_right _ (List.mem_append_right _ (List.mem_append_right _ (List.mem_append_right _ (List.mem_append_right _ h))))))))
theorem lw_p0 : lw_okq (⟨"java/lang/Throwable", "fillInStackTrace", "(I)Ljava/lang/Throwable;"⟩, 6) := ⟨⟨by decide +kernel, by decide +kernel⟩, lw_t2 (List.mem_of_getElem? (i := 141) rfl), lw_t2 (List.mem_of_getElem? (i := 139) rfl), lw_t2 (List.mem_of_getElem? (i := 140) rfl)⟩
theorem lw_p1 : lw_okq (⟨"FlashRatchet$Reader", "takes", "(C)Z"⟩, 10) := ⟨⟨by decide +kernel, by decide +kernel⟩, lw_t3 (List.mem_of_getElem? (i := 13) rfl), lw_t3 (List.mem_of_getElem? (i := 72) rfl), lw_t3 (List.mem_of_getElem? (i := 73) rfl)⟩
theorem lw_p2 : lw_okq (⟨"FlashRatchet$Reader", "isOver", "()Z"⟩, 10) := ⟨⟨by decide +kernel, by decide +kernel⟩, lw_t3 (List.mem_of_getElem? (i := 13) rfl), lw_t3 (List.mem_of_getElem? (i := 76) rfl), lw_t3 (List.mem_of_getElem? (i := 77) rfl)⟩
theorem lw_p3 : lw_okq (⟨"FlashRatchet$Reader", "end", "()V"⟩, 10) := ⟨⟨by decide +kernel, by decide +kernel⟩, lw_t3 (List.mem_of_getElem? (i := 13) rfl), lw_t3 (List.mem_of_getElem? (i := 80) rfl), lw_t3 (List.mem_of_getElem? (i := 81) rfl)⟩
theorem lw_p4 : lw_okq (⟨"FlashRatchet$Reader", "put", "(II)V"⟩, 10) := ⟨⟨by decide +kernel, by decide +kernel⟩, lw_t3 (List.mem_of_getElem? (i := 13) rfl), lw_t3 (List.mem_of_getElem? (i := 84) rfl), lw_t3 (List.mem_of_getElem? (i := 85) rfl)⟩
theorem lw_p5 : lw_okq (⟨"FlashRatchet$Reader", "begins", "(C)Z"⟩, 10) := ⟨⟨by decide +kernel, by decide +kernel⟩, lw_t3 (List.mem_of_getElem? (i := 13) rfl), lw_t3 (List.mem_of_getElem? (i := 88) rfl), lw_t3 (List.mem_of_getElem? (i := 89) rfl)⟩
theorem lw_p6 : lw_okq (⟨"FlashRatchet$Reader", "go", "(ZI)Z"⟩, 10) := ⟨⟨by decide +kernel, by decide +kernel⟩, lw_t3 (List.mem_of_getElem? (i := 13) rfl), lw_t3 (List.mem_of_getElem? (i := 98) rfl), lw_t3 (List.mem_of_getElem? (i := 99) rfl)⟩
theorem lw_p7 : lw_okq (⟨"FlashRatchet$Reader", "takesBack", "(C)Z"⟩, 10) := ⟨⟨by decide +kernel, by decide +kernel⟩, lw_t3 (List.mem_of_getElem? (i := 13) rfl), lw_t3 (List.mem_of_getElem? (i := 102) rfl), lw_t3 (List.mem_of_getElem? (i := 103) rfl)⟩
theorem lw_p8 : lw_okq (⟨"FlashRatchet$Reader", "takesForward", "(C)Z"⟩, 10) := ⟨⟨by decide +kernel, by decide +kernel⟩, lw_t3 (List.mem_of_getElem? (i := 13) rfl), lw_t3 (List.mem_of_getElem? (i := 107) rfl), lw_t3 (List.mem_of_getElem? (i := 108) rfl)⟩
theorem lw_p9 : lw_okq (⟨"FlashRatchet$Reader", "takesLetter", "(C)Z"⟩, 10) := ⟨⟨by decide +kernel, by decide +kernel⟩, lw_t3 (List.mem_of_getElem? (i := 13) rfl), lw_t3 (List.mem_of_getElem? (i := 111) rfl), lw_t3 (List.mem_of_getElem? (i := 112) rfl)⟩
theorem lw_p10 : lw_okq (⟨"FlashRatchet", "paradoxical", "()I"⟩, 12) := ⟨⟨by decide +kernel, by decide +kernel⟩, lw_t1 (List.mem_of_getElem? (i := 47) rfl), lw_t3 (List.mem_of_getElem? (i := 122) rfl), lw_t3 (List.mem_of_getElem? (i := 123) rfl)⟩
theorem lw_p11 : lw_okq (⟨"FlashRatchet", "losesAlone", "(I)Z"⟩, 12) := ⟨⟨by decide +kernel, by decide +kernel⟩, lw_t1 (List.mem_of_getElem? (i := 47) rfl), lw_t3 (List.mem_of_getElem? (i := 126) rfl), lw_t3 (List.mem_of_getElem? (i := 127) rfl)⟩
theorem lw_p12 : lw_okq (⟨"FlashRatchet$Rounds", "tick", "([JI)J"⟩, 6) := ⟨⟨by decide +kernel, by decide +kernel⟩, lw_t3 (List.mem_of_getElem? (i := 130) rfl), lw_t3 (List.mem_of_getElem? (i := 144) rfl), lw_t3 (List.mem_of_getElem? (i := 145) rfl)⟩
theorem lw_p13 : lw_okq (⟨"FlashRatchet", "draws", "(III)I"⟩, 12) := ⟨⟨by decide +kernel, by decide +kernel⟩, lw_t1 (List.mem_of_getElem? (i := 47) rfl), lw_t3 (List.mem_of_getElem? (i := 153) rfl), lw_t3 (List.mem_of_getElem? (i := 154) rfl)⟩
theorem lw_p14 : lw_okq (⟨"FlashRatchet", "isGeared", "(I)Z"⟩, 12) := ⟨⟨by decide +kernel, by decide +kernel⟩, lw_t1 (List.mem_of_getElem? (i := 47) rfl), lw_t3 (List.mem_of_getElem? (i := 157) rfl), lw_t3 (List.mem_of_getElem? (i := 158) rfl)⟩
theorem lw_p15 : lw_okq (⟨"FlashRatchet", "number", "(II)I"⟩, 12) := ⟨⟨by decide +kernel, by decide +kernel⟩, lw_t1 (List.mem_of_getElem? (i := 47) rfl), lw_t3 (List.mem_of_getElem? (i := 161) rfl), lw_t3 (List.mem_of_getElem? (i := 162) rfl)⟩
def lw_privs_1 : List (MethodName × Nat) := [(⟨"java/lang/Throwable", "fillInStackTrace", "(I)Ljava/lang/Throwable;"⟩, 6), (⟨"FlashRatchet$Reader", "takes", "(C)Z"⟩, 10), (⟨"FlashRatchet$Reader", "isOver", "()Z"⟩, 10), (⟨"FlashRatchet$Reader", "end", "()V"⟩, 10), (⟨"FlashRatchet$Reader", "put", "(II)V"⟩, 10), (⟨"FlashRatchet$Reader", "begins", "(C)Z"⟩, 10), (⟨"FlashRatchet$Reader", "go", "(ZI)Z"⟩, 10), (⟨"FlashRatchet$Reader", "takesBack", "(C)Z"⟩, 10), (⟨"FlashRatchet$Reader", "takesForward", "(C)Z"⟩, 10), (⟨"FlashRatchet$Reader", "takesLetter", "(C)Z"⟩, 10), (⟨"FlashRatchet", "paradoxical", "()I"⟩, 12), (⟨"FlashRatchet", "losesAlone", "(I)Z"⟩, 12), (⟨"FlashRatchet$Rounds", "tick", "([JI)J"⟩, 6), (⟨"FlashRatchet", "draws", "(III)I"⟩, 12), (⟨"FlashRatchet", "isGeared", "(I)Z"⟩, 12), (⟨"FlashRatchet", "number", "(II)I"⟩, 12)]
theorem lw_r1 : ∀ q ∈ lw_privs_1, lw_okq q := List.forall_mem_cons.mpr ⟨lw_p0, List.forall_mem_cons.mpr ⟨lw_p1, List.forall_mem_cons.mpr ⟨lw_p2, List.forall_mem_cons.mpr ⟨lw_p3, List.forall_mem_cons.mpr ⟨lw_p4, List.forall_mem_cons.mpr ⟨lw_p5, List.forall_mem_cons.mpr ⟨lw_p6, List.forall_mem_cons.mpr ⟨lw_p7, List.forall_mem_cons.mpr ⟨lw_p8, List.forall_mem_cons.mpr ⟨lw_p9, List.forall_mem_cons.mpr ⟨lw_p10, List.forall_mem_cons.mpr ⟨lw_p11, List.forall_mem_cons.mpr ⟨lw_p12, List.forall_mem_cons.mpr ⟨lw_p13, List.forall_mem_cons.mpr ⟨lw_p14, List.forall_mem_cons.mpr ⟨lw_p15, fun _ h => absurd h List.not_mem_nil⟩⟩⟩⟩⟩⟩⟩⟩⟩⟩⟩⟩⟩⟩⟩⟩
theorem lw_p16 : lw_okq (⟨"FlashRatchet", "moved", "(II)I"⟩, 12) := ⟨⟨by decide +kernel, by decide +kernel⟩, lw_t1 (List.mem_of_getElem? (i := 47) rfl), lw_t3 (List.mem_of_getElem? (i := 165) rfl), lw_t3 (List.mem_of_getElem? (i := 166) rfl)⟩
theorem lw_p17 : lw_okq (⟨"FlashRatchet$Rounds", "reached", "(I)I"⟩, 6) := ⟨⟨by decide +kernel, by decide +kernel⟩, lw_t3 (List.mem_of_getElem? (i := 130) rfl), lw_t3 (List.mem_of_getElem? (i := 193) rfl), lw_t3 (List.mem_of_getElem? (i := 194) rfl)⟩
theorem lw_p18 : lw_okq (⟨"FlashRatchet$Rounds", "trees", "(I)J"⟩, 6) := ⟨⟨by decide +kernel, by decide +kernel⟩, lw_t3 (List.mem_of_getElem? (i := 130) rfl), lw_t3 (List.mem_of_getElem? (i := 205) rfl), lw_t3 (List.mem_of_getElem? (i := 206) rfl)⟩
theorem lw_p19 : lw_okq (⟨"FlashRatchet$Rounds", "product", "(II)J"⟩, 6) := ⟨⟨by decide +kernel, by decide +kernel⟩, lw_t3 (List.mem_of_getElem? (i := 130) rfl), lw_t3 (List.mem_of_getElem? (i := 209) rfl), lw_t3 (List.mem_of_getElem? (i := 210) rfl)⟩
theorem lw_p20 : lw_okq (⟨"FlashRatchet$Rounds", "allTrees", "()J"⟩, 6) := ⟨⟨by decide +kernel, by decide +kernel⟩, lw_t3 (List.mem_of_getElem? (i := 130) rfl), lw_t3 (List.mem_of_getElem? (i := 215) rfl), lw_t3 (List.mem_of_getElem? (i := 216) rfl)⟩
theorem lw_p21 : lw_okq (⟨"FlashRatchet", "bestOf", "(I)LFlashRatchet$Candidate;"⟩, 12) := ⟨⟨by decide +kernel, by decide +kernel⟩, lw_t1 (List.mem_of_getElem? (i := 47) rfl), lw_t3 (List.mem_of_getElem? (i := 237) rfl), lw_t3 (List.mem_of_getElem? (i := 238) rfl)⟩
theorem lw_p22 : lw_okq (⟨"FlashRatchet", "usesGeared", "(I)Z"⟩, 12) := ⟨⟨by decide +kernel, by decide +kernel⟩, lw_t1 (List.mem_of_getElem? (i := 47) rfl), lw_t4 (List.mem_of_getElem? (i := 52) rfl), lw_t4 (List.mem_of_getElem? (i := 53) rfl)⟩
theorem lw_p23 : lw_okq (⟨"java/util/PriorityQueue", "grow", "(I)V"⟩, 4) := ⟨⟨by decide +kernel, by decide +kernel⟩, lw_t4 (List.mem_of_getElem? (i := 1) rfl), lw_t4 (List.mem_of_getElem? (i := 82) rfl), lw_t4 (List.mem_of_getElem? (i := 83) rfl)⟩
theorem lw_p24 : lw_okq (⟨"java/util/PriorityQueue", "siftUp", "(ILjava/lang/Object;)V"⟩, 4) := ⟨⟨by decide +kernel, by decide +kernel⟩, lw_t4 (List.mem_of_getElem? (i := 1) rfl), lw_t4 (List.mem_of_getElem? (i := 123) rfl), lw_t4 (List.mem_of_getElem? (i := 124) rfl)⟩
theorem lw_p25 : lw_okq (⟨"FlashRatchet", "counted", "(I)I"⟩, 12) := ⟨⟨by decide +kernel, by decide +kernel⟩, lw_t1 (List.mem_of_getElem? (i := 47) rfl), lw_t5 (List.mem_of_getElem? (i := 146) rfl), lw_t5 (List.mem_of_getElem? (i := 147) rfl)⟩
theorem lw_p26 : lw_okq (⟨"FlashRatchet", "mix", "(J)V"⟩, 12) := ⟨⟨by decide +kernel, by decide +kernel⟩, lw_t1 (List.mem_of_getElem? (i := 47) rfl), lw_t5 (List.mem_of_getElem? (i := 150) rfl), lw_t5 (List.mem_of_getElem? (i := 151) rfl)⟩
theorem lw_p27 : lw_okq (⟨"FlashRatchet", "told", "(I)I"⟩, 12) := ⟨⟨by decide +kernel, by decide +kernel⟩, lw_t1 (List.mem_of_getElem? (i := 47) rfl), lw_t5 (List.mem_of_getElem? (i := 155) rfl), lw_t5 (List.mem_of_getElem? (i := 156) rfl)⟩
theorem lw_p28 : lw_okq (⟨"FlashRatchet", "cycleLength", "()I"⟩, 12) := ⟨⟨by decide +kernel, by decide +kernel⟩, lw_t1 (List.mem_of_getElem? (i := 47) rfl), lw_t5 (List.mem_of_getElem? (i := 159) rfl), lw_t5 (List.mem_of_getElem? (i := 160) rfl)⟩
theorem lw_p29 : lw_okq (⟨"FlashRatchet", "moveBy", "(III)I"⟩, 12) := ⟨⟨by decide +kernel, by decide +kernel⟩, lw_t1 (List.mem_of_getElem? (i := 47) rfl), lw_t5 (List.mem_of_getElem? (i := 198) rfl), lw_t5 (List.mem_of_getElem? (i := 199) rfl)⟩
theorem lw_p30 : lw_okq (⟨"FlashRatchet", "mixChances", "()V"⟩, 12) := ⟨⟨by decide +kernel, by decide +kernel⟩, lw_t1 (List.mem_of_getElem? (i := 47) rfl), lw_t5 (List.mem_of_getElem? (i := 213) rfl), lw_t5 (List.mem_of_getElem? (i := 214) rfl)⟩
theorem lw_p31 : lw_okq (⟨"FlashRatchet", "freeWays", "(I)LFlashRatchet$Ways;"⟩, 12) := ⟨⟨by decide +kernel, by decide +kernel⟩, lw_t1 (List.mem_of_getElem? (i := 47) rfl), lw_t5 (List.mem_of_getElem? (i := 217) rfl), lw_t5 (List.mem_of_getElem? (i := 218) rfl)⟩
def lw_privs_2 : List (MethodName × Nat) := [(⟨"FlashRatchet", "moved", "(II)I"⟩, 12), (⟨"FlashRatchet$Rounds", "reached", "(I)I"⟩, 6), (⟨"FlashRatchet$Rounds", "trees", "(I)J"⟩, 6), (⟨"FlashRatchet$Rounds", "product", "(II)J"⟩, 6), (⟨"FlashRatchet$Rounds", "allTrees", "()J"⟩, 6), (⟨"FlashRatchet", "bestOf", "(I)LFlashRatchet$Candidate;"⟩, 12), (⟨"FlashRatchet", "usesGeared", "(I)Z"⟩, 12), (⟨"java/util/PriorityQueue", "grow", "(I)V"⟩, 4), (⟨"java/util/PriorityQueue", "siftUp", "(ILjava/lang/Object;)V"⟩, 4), (⟨"FlashRatchet", "counted", "(I)I"⟩, 12), (⟨"FlashRatchet", "mix", "(J)V"⟩, 12), (⟨"FlashRatchet", "told", "(I)I"⟩, 12), (⟨"FlashRatchet", "cycleLength", "()I"⟩, 12), (⟨"FlashRatchet", "moveBy", "(III)I"⟩, 12), (⟨"FlashRatchet", "mixChances", "()V"⟩, 12), (⟨"FlashRatchet", "freeWays", "(I)LFlashRatchet$Ways;"⟩, 12)]
theorem lw_r2 : ∀ q ∈ lw_privs_2, lw_okq q := List.forall_mem_cons.mpr ⟨lw_p16, List.forall_mem_cons.mpr ⟨lw_p17, List.forall_mem_cons.mpr ⟨lw_p18, List.forall_mem_cons.mpr ⟨lw_p19, List.forall_mem_cons.mpr ⟨lw_p20, List.forall_mem_cons.mpr ⟨lw_p21, List.forall_mem_cons.mpr ⟨lw_p22, List.forall_mem_cons.mpr ⟨lw_p23, List.forall_mem_cons.mpr ⟨lw_p24, List.forall_mem_cons.mpr ⟨lw_p25, List.forall_mem_cons.mpr ⟨lw_p26, List.forall_mem_cons.mpr ⟨lw_p27, List.forall_mem_cons.mpr ⟨lw_p28, List.forall_mem_cons.mpr ⟨lw_p29, List.forall_mem_cons.mpr ⟨lw_p30, List.forall_mem_cons.mpr ⟨lw_p31, fun _ h => absurd h List.not_mem_nil⟩⟩⟩⟩⟩⟩⟩⟩⟩⟩⟩⟩⟩⟩⟩⟩
theorem lw_p32 : lw_okq (⟨"java/util/TreeMap", "put", "(Ljava/lang/Object;Ljava/lang/Object;Z)Ljava/lang/Object;"⟩, 9) := ⟨⟨by decide +kernel, by decide +kernel⟩, lw_t5 (List.mem_of_getElem? (i := 227) rfl), lw_t6 (List.mem_of_getElem? (i := 60) rfl), lw_t6 (List.mem_of_getElem? (i := 61) rfl)⟩
theorem lw_p33 : lw_okq (⟨"java/util/TreeMap", "addEntryToEmptyMap", "(Ljava/lang/Object;Ljava/lang/Object;)V"⟩, 9) := ⟨⟨by decide +kernel, by decide +kernel⟩, lw_t5 (List.mem_of_getElem? (i := 227) rfl), lw_t6 (List.mem_of_getElem? (i := 64) rfl), lw_t6 (List.mem_of_getElem? (i := 65) rfl)⟩
theorem lw_p34 : lw_okq (⟨"java/util/TreeMap", "addEntry", "(Ljava/lang/Object;Ljava/lang/Object;Ljava/util/TreeMap$Entry;Z)V"⟩, 9) := ⟨⟨by decide +kernel, by decide +kernel⟩, lw_t5 (List.mem_of_getElem? (i := 227) rfl), lw_t6 (List.mem_of_getElem? (i := 109) rfl), lw_t6 (List.mem_of_getElem? (i := 110) rfl)⟩
theorem lw_p35 : lw_okq (⟨"java/util/TreeMap", "fixAfterInsertion", "(Ljava/util/TreeMap$Entry;)V"⟩, 9) := ⟨⟨by decide +kernel, by decide +kernel⟩, lw_t5 (List.mem_of_getElem? (i := 227) rfl), lw_t6 (List.mem_of_getElem? (i := 113) rfl), lw_t6 (List.mem_of_getElem? (i := 114) rfl)⟩
theorem lw_p36 : lw_okq (⟨"java/util/TreeMap", "rotateLeft", "(Ljava/util/TreeMap$Entry;)V"⟩, 9) := ⟨⟨by decide +kernel, by decide +kernel⟩, lw_t5 (List.mem_of_getElem? (i := 227) rfl), lw_t6 (List.mem_of_getElem? (i := 132) rfl), lw_t6 (List.mem_of_getElem? (i := 133) rfl)⟩
theorem lw_p37 : lw_okq (⟨"java/util/TreeMap", "rotateRight", "(Ljava/util/TreeMap$Entry;)V"⟩, 9) := ⟨⟨by decide +kernel, by decide +kernel⟩, lw_t5 (List.mem_of_getElem? (i := 227) rfl), lw_t6 (List.mem_of_getElem? (i := 136) rfl), lw_t6 (List.mem_of_getElem? (i := 137) rfl)⟩
theorem lw_p38 : lw_okq (⟨"FlashRatchet$Ways", "add", "(Ljava/util/TreeMap;IJ)V"⟩, 2) := ⟨⟨by decide +kernel, by decide +kernel⟩, lw_t5 (List.mem_of_getElem? (i := 221) rfl), lw_t7 (List.mem_of_getElem? (i := 39) rfl), lw_t7 (List.mem_of_getElem? (i := 40) rfl)⟩
theorem lw_p39 : lw_okq (⟨"FlashRatchet", "outcome", "(LFlashRatchet$Ways;III)J"⟩, 12) := ⟨⟨by decide +kernel, by decide +kernel⟩, lw_t1 (List.mem_of_getElem? (i := 47) rfl), lw_t7 (List.mem_of_getElem? (i := 61) rfl), lw_t7 (List.mem_of_getElem? (i := 62) rfl)⟩
theorem lw_p40 : lw_okq (⟨"FlashRatchet", "mixAverages", "()V"⟩, 12) := ⟨⟨by decide +kernel, by decide +kernel⟩, lw_t1 (List.mem_of_getElem? (i := 47) rfl), lw_t7 (List.mem_of_getElem? (i := 65) rfl), lw_t7 (List.mem_of_getElem? (i := 66) rfl)⟩
theorem lw_p41 : lw_okq (⟨"FlashRatchet", "partOf", "(LFlashRatchet$Candidate;I)J"⟩, 12) := ⟨⟨by decide +kernel, by decide +kernel⟩, lw_t1 (List.mem_of_getElem? (i := 47) rfl), lw_t7 (List.mem_of_getElem? (i := 77) rfl), lw_t7 (List.mem_of_getElem? (i := 78) rfl)⟩
theorem lw_p42 : lw_okq (⟨"FlashRatchet", "isPosition", "(I)Z"⟩, 12) := ⟨⟨by decide +kernel, by decide +kernel⟩, lw_t1 (List.mem_of_getElem? (i := 47) rfl), lw_t7 (List.mem_of_getElem? (i := 107) rfl), lw_t7 (List.mem_of_getElem? (i := 108) rfl)⟩
theorem lw_p43 : lw_okq (⟨"FlashRatchetModel", "fresh", "(I)V"⟩, 40) := ⟨⟨by decide +kernel, by decide +kernel⟩, lw_t8 (List.mem_of_getElem? (i := 71) rfl), lw_t8 (List.mem_of_getElem? (i := 77) rfl), lw_t8 (List.mem_of_getElem? (i := 78) rfl)⟩
theorem lw_p44 : lw_okq (⟨"FlashRatchetModel", "isPosition", "(I)Z"⟩, 40) := ⟨⟨by decide +kernel, by decide +kernel⟩, lw_t8 (List.mem_of_getElem? (i := 71) rfl), lw_t8 (List.mem_of_getElem? (i := 220) rfl), lw_t8 (List.mem_of_getElem? (i := 221) rfl)⟩
theorem lw_p45 : lw_okq (⟨"FlashRatchetModel", "told", "(II)I"⟩, 40) := ⟨⟨by decide +kernel, by decide +kernel⟩, lw_t8 (List.mem_of_getElem? (i := 71) rfl), lw_t8 (List.mem_of_getElem? (i := 224) rfl), lw_t8 (List.mem_of_getElem? (i := 225) rfl)⟩
theorem lw_p46 : lw_okq (⟨"FlashRatchetModel", "put", "(IIII)V"⟩, 40) := ⟨⟨by decide +kernel, by decide +kernel⟩, lw_t8 (List.mem_of_getElem? (i := 71) rfl), lw_t8 (List.mem_of_getElem? (i := 228) rfl), lw_t8 (List.mem_of_getElem? (i := 229) rfl)⟩
theorem lw_p47 : lw_okq (⟨"FlashRatchetModel", "tick", "()I"⟩, 40) := ⟨⟨by decide +kernel, by decide +kernel⟩, lw_t8 (List.mem_of_getElem? (i := 71) rfl), lw_t9 (List.mem_of_getElem? (i := 19) rfl), lw_t9 (List.mem_of_getElem? (i := 20) rfl)⟩
def lw_privs_3 : List (MethodName × Nat) := [(⟨"java/util/TreeMap", "put", "(Ljava/lang/Object;Ljava/lang/Object;Z)Ljava/lang/Object;"⟩, 9), (⟨"java/util/TreeMap", "addEntryToEmptyMap", "(Ljava/lang/Object;Ljava/lang/Object;)V"⟩, 9), (⟨"java/util/TreeMap", "addEntry", "(Ljava/lang/Object;Ljava/lang/Object;Ljava/util/TreeMap$Entry;Z)V"⟩, 9), (⟨"java/util/TreeMap", "fixAfterInsertion", "(Ljava/util/TreeMap$Entry;)V"⟩, 9), (⟨"java/util/TreeMap", "rotateLeft", "(Ljava/util/TreeMap$Entry;)V"⟩, 9), (⟨"java/util/TreeMap", "rotateRight", "(Ljava/util/TreeMap$Entry;)V"⟩, 9), (⟨"FlashRatchet$Ways", "add", "(Ljava/util/TreeMap;IJ)V"⟩, 2), (⟨"FlashRatchet", "outcome", "(LFlashRatchet$Ways;III)J"⟩, 12), (⟨"FlashRatchet", "mixAverages", "()V"⟩, 12), (⟨"FlashRatchet", "partOf", "(LFlashRatchet$Candidate;I)J"⟩, 12), (⟨"FlashRatchet", "isPosition", "(I)Z"⟩, 12), (⟨"FlashRatchetModel", "fresh", "(I)V"⟩, 40), (⟨"FlashRatchetModel", "isPosition", "(I)Z"⟩, 40), (⟨"FlashRatchetModel", "told", "(II)I"⟩, 40), (⟨"FlashRatchetModel", "put", "(IIII)V"⟩, 40), (⟨"FlashRatchetModel", "tick", "()I"⟩, 40)]
theorem lw_r3 : ∀ q ∈ lw_privs_3, lw_okq q := List.forall_mem_cons.mpr ⟨lw_p32, List.forall_mem_cons.mpr ⟨lw_p33, List.forall_mem_cons.mpr ⟨lw_p34, List.forall_mem_cons.mpr ⟨lw_p35, List.forall_mem_cons.mpr ⟨lw_p36, List.forall_mem_cons.mpr ⟨lw_p37, List.forall_mem_cons.mpr ⟨lw_p38, List.forall_mem_cons.mpr ⟨lw_p39, List.forall_mem_cons.mpr ⟨lw_p40, List.forall_mem_cons.mpr ⟨lw_p41, List.forall_mem_cons.mpr ⟨lw_p42, List.forall_mem_cons.mpr ⟨lw_p43, List.forall_mem_cons.mpr ⟨lw_p44, List.forall_mem_cons.mpr ⟨lw_p45, List.forall_mem_cons.mpr ⟨lw_p46, List.forall_mem_cons.mpr ⟨lw_p47, fun _ h => absurd h List.not_mem_nil⟩⟩⟩⟩⟩⟩⟩⟩⟩⟩⟩⟩⟩⟩⟩⟩
theorem lw_p48 : lw_okq (⟨"FlashRatchetModel", "isIn", "(I)Z"⟩, 40) := ⟨⟨by decide +kernel, by decide +kernel⟩, lw_t8 (List.mem_of_getElem? (i := 71) rfl), lw_t9 (List.mem_of_getElem? (i := 29) rfl), lw_t9 (List.mem_of_getElem? (i := 30) rfl)⟩
theorem lw_p49 : lw_okq (⟨"FlashRatchetModel", "moved", "(II)I"⟩, 40) := ⟨⟨by decide +kernel, by decide +kernel⟩, lw_t8 (List.mem_of_getElem? (i := 71) rfl), lw_t9 (List.mem_of_getElem? (i := 33) rfl), lw_t9 (List.mem_of_getElem? (i := 34) rfl)⟩
theorem lw_p50 : lw_okq (⟨"FlashRatchetModel", "readText", "()I"⟩, 40) := ⟨⟨by decide +kernel, by decide +kernel⟩, lw_t8 (List.mem_of_getElem? (i := 71) rfl), lw_t9 (List.mem_of_getElem? (i := 49) rfl), lw_t9 (List.mem_of_getElem? (i := 50) rfl)⟩
theorem lw_p51 : lw_okq (⟨"FlashRatchetModel", "takes", "(I)Z"⟩, 40) := ⟨⟨by decide +kernel, by decide +kernel⟩, lw_t8 (List.mem_of_getElem? (i := 71) rfl), lw_t9 (List.mem_of_getElem? (i := 53) rfl), lw_t9 (List.mem_of_getElem? (i := 54) rfl)⟩
theorem lw_p52 : lw_okq (⟨"FlashRatchetModel", "canEnd", "()Z"⟩, 40) := ⟨⟨by decide +kernel, by decide +kernel⟩, lw_t8 (List.mem_of_getElem? (i := 71) rfl), lw_t9 (List.mem_of_getElem? (i := 57) rfl), lw_t9 (List.mem_of_getElem? (i := 58) rfl)⟩
theorem lw_p53 : lw_okq (⟨"FlashRatchetModel", "endItem", "()V"⟩, 40) := ⟨⟨by decide +kernel, by decide +kernel⟩, lw_t8 (List.mem_of_getElem? (i := 71) rfl), lw_t9 (List.mem_of_getElem? (i := 61) rfl), lw_t9 (List.mem_of_getElem? (i := 62) rfl)⟩
theorem lw_p54 : lw_okq (⟨"FlashRatchetModel", "begins", "(I)Z"⟩, 40) := ⟨⟨by decide +kernel, by decide +kernel⟩, lw_t8 (List.mem_of_getElem? (i := 71) rfl), lw_t9 (List.mem_of_getElem? (i := 65) rfl), lw_t9 (List.mem_of_getElem? (i := 66) rfl)⟩
theorem lw_p55 : lw_okq (⟨"FlashRatchetModel", "goes", "(ZI)Z"⟩, 40) := ⟨⟨by decide +kernel, by decide +kernel⟩, lw_t8 (List.mem_of_getElem? (i := 71) rfl), lw_t9 (List.mem_of_getElem? (i := 69) rfl), lw_t9 (List.mem_of_getElem? (i := 70) rfl)⟩
theorem lw_p56 : lw_okq (⟨"FlashRatchetModel", "takesForward", "(I)Z"⟩, 40) := ⟨⟨by decide +kernel, by decide +kernel⟩, lw_t8 (List.mem_of_getElem? (i := 71) rfl), lw_t9 (List.mem_of_getElem? (i := 73) rfl), lw_t9 (List.mem_of_getElem? (i := 74) rfl)⟩
theorem lw_p57 : lw_okq (⟨"FlashRatchetModel", "takesLetter", "(I)Z"⟩, 40) := ⟨⟨by decide +kernel, by decide +kernel⟩, lw_t8 (List.mem_of_getElem? (i := 71) rfl), lw_t9 (List.mem_of_getElem? (i := 77) rfl), lw_t9 (List.mem_of_getElem? (i := 78) rfl)⟩
theorem lw_p58 : lw_okq (⟨"FlashRatchetModel", "cycleNow", "(I)I"⟩, 40) := ⟨⟨by decide +kernel, by decide +kernel⟩, lw_t8 (List.mem_of_getElem? (i := 71) rfl), lw_t9 (List.mem_of_getElem? (i := 89) rfl), lw_t9 (List.mem_of_getElem? (i := 90) rfl)⟩
theorem lw_p59 : lw_okq (⟨"FlashRatchetModel", "chanceAt", "(II)J"⟩, 40) := ⟨⟨by decide +kernel, by decide +kernel⟩, lw_t8 (List.mem_of_getElem? (i := 71) rfl), lw_t9 (List.mem_of_getElem? (i := 97) rfl), lw_t9 (List.mem_of_getElem? (i := 98) rfl)⟩
theorem lw_p60 : lw_okq (⟨"FlashRatchetModel", "go", "(III)V"⟩, 40) := ⟨⟨by decide +kernel, by decide +kernel⟩, lw_t8 (List.mem_of_getElem? (i := 71) rfl), lw_t9 (List.mem_of_getElem? (i := 101) rfl), lw_t9 (List.mem_of_getElem? (i := 102) rfl)⟩
theorem lw_p61 : lw_okq (⟨"FlashRatchetModel", "spread", "(III)V"⟩, 40) := ⟨⟨by decide +kernel, by decide +kernel⟩, lw_t8 (List.mem_of_getElem? (i := 71) rfl), lw_t9 (List.mem_of_getElem? (i := 105) rfl), lw_t9 (List.mem_of_getElem? (i := 106) rfl)⟩
theorem lw_p62 : lw_okq (⟨"FlashRatchetModel", "back", "(II)I"⟩, 40) := ⟨⟨by decide +kernel, by decide +kernel⟩, lw_t8 (List.mem_of_getElem? (i := 71) rfl), lw_t9 (List.mem_of_getElem? (i := 110) rfl), lw_t9 (List.mem_of_getElem? (i := 111) rfl)⟩
theorem lw_p63 : lw_okq (⟨"FlashRatchetModel", "forward", "(II)I"⟩, 40) := ⟨⟨by decide +kernel, by decide +kernel⟩, lw_t8 (List.mem_of_getElem? (i := 71) rfl), lw_t9 (List.mem_of_getElem? (i := 114) rfl), lw_t9 (List.mem_of_getElem? (i := 115) rfl)⟩
def lw_privs_4 : List (MethodName × Nat) := [(⟨"FlashRatchetModel", "isIn", "(I)Z"⟩, 40), (⟨"FlashRatchetModel", "moved", "(II)I"⟩, 40), (⟨"FlashRatchetModel", "readText", "()I"⟩, 40), (⟨"FlashRatchetModel", "takes", "(I)Z"⟩, 40), (⟨"FlashRatchetModel", "canEnd", "()Z"⟩, 40), (⟨"FlashRatchetModel", "endItem", "()V"⟩, 40), (⟨"FlashRatchetModel", "begins", "(I)Z"⟩, 40), (⟨"FlashRatchetModel", "goes", "(ZI)Z"⟩, 40), (⟨"FlashRatchetModel", "takesForward", "(I)Z"⟩, 40), (⟨"FlashRatchetModel", "takesLetter", "(I)Z"⟩, 40), (⟨"FlashRatchetModel", "cycleNow", "(I)I"⟩, 40), (⟨"FlashRatchetModel", "chanceAt", "(II)J"⟩, 40), (⟨"FlashRatchetModel", "go", "(III)V"⟩, 40), (⟨"FlashRatchetModel", "spread", "(III)V"⟩, 40), (⟨"FlashRatchetModel", "back", "(II)I"⟩, 40), (⟨"FlashRatchetModel", "forward", "(II)I"⟩, 40)]
theorem lw_r4 : ∀ q ∈ lw_privs_4, lw_okq q := List.forall_mem_cons.mpr ⟨lw_p48, List.forall_mem_cons.mpr ⟨lw_p49, List.forall_mem_cons.mpr ⟨lw_p50, List.forall_mem_cons.mpr ⟨lw_p51, List.forall_mem_cons.mpr ⟨lw_p52, List.forall_mem_cons.mpr ⟨lw_p53, List.forall_mem_cons.mpr ⟨lw_p54, List.forall_mem_cons.mpr ⟨lw_p55, List.forall_mem_cons.mpr ⟨lw_p56, List.forall_mem_cons.mpr ⟨lw_p57, List.forall_mem_cons.mpr ⟨lw_p58, List.forall_mem_cons.mpr ⟨lw_p59, List.forall_mem_cons.mpr ⟨lw_p60, List.forall_mem_cons.mpr ⟨lw_p61, List.forall_mem_cons.mpr ⟨lw_p62, List.forall_mem_cons.mpr ⟨lw_p63, fun _ h => absurd h List.not_mem_nil⟩⟩⟩⟩⟩⟩⟩⟩⟩⟩⟩⟩⟩⟩⟩⟩
theorem lw_p64 : lw_okq (⟨"FlashRatchetModel", "arrive", "(IIJII)V"⟩, 40) := ⟨⟨by decide +kernel, by decide +kernel⟩, lw_t8 (List.mem_of_getElem? (i := 71) rfl), lw_t9 (List.mem_of_getElem? (i := 118) rfl), lw_t9 (List.mem_of_getElem? (i := 119) rfl)⟩
theorem lw_p65 : lw_okq (⟨"FlashRatchetModel", "chanceFrom", "(II)J"⟩, 40) := ⟨⟨by decide +kernel, by decide +kernel⟩, lw_t8 (List.mem_of_getElem? (i := 71) rfl), lw_t9 (List.mem_of_getElem? (i := 126) rfl), lw_t9 (List.mem_of_getElem? (i := 127) rfl)⟩
theorem lw_p66 : lw_okq (⟨"FlashRatchetModel", "gameOf", "(IIII)J"⟩, 40) := ⟨⟨by decide +kernel, by decide +kernel⟩, lw_t8 (List.mem_of_getElem? (i := 71) rfl), lw_t9 (List.mem_of_getElem? (i := 134) rfl), lw_t9 (List.mem_of_getElem? (i := 135) rfl)⟩
theorem lw_p67 : lw_okq (⟨"FlashRatchetModel", "averageOf", "(II)J"⟩, 40) := ⟨⟨by decide +kernel, by decide +kernel⟩, lw_t8 (List.mem_of_getElem? (i := 71) rfl), lw_t9 (List.mem_of_getElem? (i := 142) rfl), lw_t9 (List.mem_of_getElem? (i := 143) rfl)⟩
theorem lw_p68 : lw_okq (⟨"FlashRatchetModel", "layAverage", "(I)V"⟩, 40) := ⟨⟨by decide +kernel, by decide +kernel⟩, lw_t8 (List.mem_of_getElem? (i := 71) rfl), lw_t9 (List.mem_of_getElem? (i := 146) rfl), lw_t9 (List.mem_of_getElem? (i := 147) rfl)⟩
theorem lw_p69 : lw_okq (⟨"FlashRatchetModel", "layRound", "(I)V"⟩, 40) := ⟨⟨by decide +kernel, by decide +kernel⟩, lw_t8 (List.mem_of_getElem? (i := 71) rfl), lw_t9 (List.mem_of_getElem? (i := 150) rfl), lw_t9 (List.mem_of_getElem? (i := 151) rfl)⟩
theorem lw_p70 : lw_okq (⟨"FlashRatchetModel", "pass", "(I)J"⟩, 40) := ⟨⟨by decide +kernel, by decide +kernel⟩, lw_t8 (List.mem_of_getElem? (i := 71) rfl), lw_t9 (List.mem_of_getElem? (i := 154) rfl), lw_t9 (List.mem_of_getElem? (i := 155) rfl)⟩
theorem lw_p71 : lw_okq (⟨"FlashRatchetModel", "layClasses", "()V"⟩, 40) := ⟨⟨by decide +kernel, by decide +kernel⟩, lw_t8 (List.mem_of_getElem? (i := 71) rfl), lw_t9 (List.mem_of_getElem? (i := 158) rfl), lw_t9 (List.mem_of_getElem? (i := 159) rfl)⟩
theorem lw_p72 : lw_okq (⟨"FlashRatchetModel", "reached", "(I)I"⟩, 40) := ⟨⟨by decide +kernel, by decide +kernel⟩, lw_t8 (List.mem_of_getElem? (i := 71) rfl), lw_t9 (List.mem_of_getElem? (i := 162) rfl), lw_t9 (List.mem_of_getElem? (i := 163) rfl)⟩
theorem lw_p73 : lw_okq (⟨"FlashRatchetModel", "minor", "(I)J"⟩, 40) := ⟨⟨by decide +kernel, by decide +kernel⟩, lw_t8 (List.mem_of_getElem? (i := 71) rfl), lw_t9 (List.mem_of_getElem? (i := 166) rfl), lw_t9 (List.mem_of_getElem? (i := 167) rfl)⟩
theorem lw_p74 : lw_okq (⟨"FlashRatchetModel", "entry", "(II)J"⟩, 40) := ⟨⟨by decide +kernel, by decide +kernel⟩, lw_t8 (List.mem_of_getElem? (i := 71) rfl), lw_t9 (List.mem_of_getElem? (i := 170) rfl), lw_t9 (List.mem_of_getElem? (i := 171) rfl)⟩
theorem lw_p75 : lw_okq (⟨"FlashRatchetModel", "reduce", "(JJ)V"⟩, 40) := ⟨⟨by decide +kernel, by decide +kernel⟩, lw_t8 (List.mem_of_getElem? (i := 71) rfl), lw_t9 (List.mem_of_getElem? (i := 177) rfl), lw_t9 (List.mem_of_getElem? (i := 178) rfl)⟩
theorem lw_p76 : lw_okq (⟨"FlashRatchetModel", "shareOf", "(III)J"⟩, 40) := ⟨⟨by decide +kernel, by decide +kernel⟩, lw_t8 (List.mem_of_getElem? (i := 71) rfl), lw_t9 (List.mem_of_getElem? (i := 185) rfl), lw_t9 (List.mem_of_getElem? (i := 186) rfl)⟩
theorem lw_p77 : lw_okq (⟨"FlashRatchetModel", "bestNow", "(II)J"⟩, 40) := ⟨⟨by decide +kernel, by decide +kernel⟩, lw_t8 (List.mem_of_getElem? (i := 71) rfl), lw_t9 (List.mem_of_getElem? (i := 207) rfl), lw_t9 (List.mem_of_getElem? (i := 208) rfl)⟩
theorem lw_p78 : lw_okq (⟨"FlashRatchetModel", "layBest", "(I)V"⟩, 40) := ⟨⟨by decide +kernel, by decide +kernel⟩, lw_t8 (List.mem_of_getElem? (i := 71) rfl), lw_t9 (List.mem_of_getElem? (i := 211) rfl), lw_t9 (List.mem_of_getElem? (i := 212) rfl)⟩
theorem lw_p79 : lw_okq (⟨"FlashRatchetModel", "usesGeared", "(I)Z"⟩, 40) := ⟨⟨by decide +kernel, by decide +kernel⟩, lw_t8 (List.mem_of_getElem? (i := 71) rfl), lw_t9 (List.mem_of_getElem? (i := 216) rfl), lw_t9 (List.mem_of_getElem? (i := 217) rfl)⟩
def lw_privs_5 : List (MethodName × Nat) := [(⟨"FlashRatchetModel", "arrive", "(IIJII)V"⟩, 40), (⟨"FlashRatchetModel", "chanceFrom", "(II)J"⟩, 40), (⟨"FlashRatchetModel", "gameOf", "(IIII)J"⟩, 40), (⟨"FlashRatchetModel", "averageOf", "(II)J"⟩, 40), (⟨"FlashRatchetModel", "layAverage", "(I)V"⟩, 40), (⟨"FlashRatchetModel", "layRound", "(I)V"⟩, 40), (⟨"FlashRatchetModel", "pass", "(I)J"⟩, 40), (⟨"FlashRatchetModel", "layClasses", "()V"⟩, 40), (⟨"FlashRatchetModel", "reached", "(I)I"⟩, 40), (⟨"FlashRatchetModel", "minor", "(I)J"⟩, 40), (⟨"FlashRatchetModel", "entry", "(II)J"⟩, 40), (⟨"FlashRatchetModel", "reduce", "(JJ)V"⟩, 40), (⟨"FlashRatchetModel", "shareOf", "(III)J"⟩, 40), (⟨"FlashRatchetModel", "bestNow", "(II)J"⟩, 40), (⟨"FlashRatchetModel", "layBest", "(I)V"⟩, 40), (⟨"FlashRatchetModel", "usesGeared", "(I)Z"⟩, 40)]
theorem lw_r5 : ∀ q ∈ lw_privs_5, lw_okq q := List.forall_mem_cons.mpr ⟨lw_p64, List.forall_mem_cons.mpr ⟨lw_p65, List.forall_mem_cons.mpr ⟨lw_p66, List.forall_mem_cons.mpr ⟨lw_p67, List.forall_mem_cons.mpr ⟨lw_p68, List.forall_mem_cons.mpr ⟨lw_p69, List.forall_mem_cons.mpr ⟨lw_p70, List.forall_mem_cons.mpr ⟨lw_p71, List.forall_mem_cons.mpr ⟨lw_p72, List.forall_mem_cons.mpr ⟨lw_p73, List.forall_mem_cons.mpr ⟨lw_p74, List.forall_mem_cons.mpr ⟨lw_p75, List.forall_mem_cons.mpr ⟨lw_p76, List.forall_mem_cons.mpr ⟨lw_p77, List.forall_mem_cons.mpr ⟨lw_p78, List.forall_mem_cons.mpr ⟨lw_p79, fun _ h => absurd h List.not_mem_nil⟩⟩⟩⟩⟩⟩⟩⟩⟩⟩⟩⟩⟩⟩⟩⟩
theorem lw_p80 : lw_okq (⟨"FlashRatchetModel", "paradoxNow", "()I"⟩, 40) := ⟨⟨by decide +kernel, by decide +kernel⟩, lw_t8 (List.mem_of_getElem? (i := 71) rfl), lw_t9 (List.mem_of_getElem? (i := 224) rfl), lw_t9 (List.mem_of_getElem? (i := 225) rfl)⟩
theorem lw_p81 : lw_okq (⟨"FlashRatchetModel", "counted", "(I)I"⟩, 40) := ⟨⟨by decide +kernel, by decide +kernel⟩, lw_t8 (List.mem_of_getElem? (i := 71) rfl), lw_t9 (List.mem_of_getElem? (i := 232) rfl), lw_t9 (List.mem_of_getElem? (i := 233) rfl)⟩
theorem lw_p82 : lw_okq (⟨"FlashRatchetModel", "mix", "(J)V"⟩, 40) := ⟨⟨by decide +kernel, by decide +kernel⟩, lw_t8 (List.mem_of_getElem? (i := 71) rfl), lw_t10 (List.mem_of_getElem? (i := 9) rfl), lw_t10 (List.mem_of_getElem? (i := 10) rfl)⟩
theorem lw_p83 : lw_okq (⟨"FlashRatchetModel", "mixChances", "()V"⟩, 40) := ⟨⟨by decide +kernel, by decide +kernel⟩, lw_t8 (List.mem_of_getElem? (i := 71) rfl), lw_t10 (List.mem_of_getElem? (i := 14) rfl), lw_t10 (List.mem_of_getElem? (i := 15) rfl)⟩
def lw_privs_6 : List (MethodName × Nat) := [(⟨"FlashRatchetModel", "paradoxNow", "()I"⟩, 40), (⟨"FlashRatchetModel", "counted", "(I)I"⟩, 40), (⟨"FlashRatchetModel", "mix", "(J)V"⟩, 40), (⟨"FlashRatchetModel", "mixChances", "()V"⟩, 40)]
theorem lw_r6 : ∀ q ∈ lw_privs_6, lw_okq q := List.forall_mem_cons.mpr ⟨lw_p80, List.forall_mem_cons.mpr ⟨lw_p81, List.forall_mem_cons.mpr ⟨lw_p82, List.forall_mem_cons.mpr ⟨lw_p83, fun _ h => absurd h List.not_mem_nil⟩⟩⟩⟩
def lw_privs : List (MethodName × Nat) := lw_privs_1 ++ (lw_privs_2 ++ (lw_privs_3 ++ (lw_privs_4 ++ (lw_privs_5 ++ (lw_privs_6)))))
def lw_tbl : List Cond := k2_sels lw_privs ++ tables_1
theorem lw_privs_ok : ∀ q ∈ lw_privs, lw_okq q := by
  show ∀ q ∈ lw_privs_1 ++ (lw_privs_2 ++ (lw_privs_3 ++ (lw_privs_4 ++ (lw_privs_5 ++ (lw_privs_6))))), lw_okq q
  exact List.forall_mem_append.mpr ⟨lw_r1, List.forall_mem_append.mpr ⟨lw_r2, List.forall_mem_append.mpr ⟨lw_r3, List.forall_mem_append.mpr ⟨lw_r4, List.forall_mem_append.mpr ⟨lw_r5, lw_r6⟩⟩⟩⟩⟩
-- ===== ONE list of words for every method: the tables' words that hold all through a run =====
def lw_all : List Cond := lw_tbl.filter goodWord
/-- a word of the tables by its place: claim/WORDS.tsv -/
theorem lw_w {w : Cond} (i : Nat) (h : lw_tbl[i]? = some w) (g : goodWord w = true) : w ∈ lw_all := List.mem_filter.mpr ⟨List.mem_of_getElem? h, g⟩
theorem lw_all_tbl {w : Cond} (h : w ∈ lw_all) : w ∈ lw_tbl := (List.mem_filter.mp h).1
theorem lw_self : GoodIn lw_all lw_all := fun w h => ⟨h, good_of_word (List.mem_filter.mp h).2⟩
/-- a class's field words, by their places -/
theorem lw_in (ws : List Cond) (ps : List Nat) (hp : ws = ps.filterMap (fun i => lw_tbl[i]?)) (hg : ws.all goodWord = true) : ∀ w ∈ ws, w ∈ lw_all := by
  intro w h
  have h1 := List.all_eq_true.mp hg w h
  rw [hp] at h
  obtain ⟨i, -, hi⟩ := List.mem_filterMap.mp h
  exact lw_w i hi h1
/-- the words of a contract for the method y with code b, L locals, answer r -/
abbrev ws_ (y : MethodName) (b : ByteArray) (L : Nat) (r : Option FieldType) : List Cond := Cond.code y b L r :: lw_all
theorem lw_meth {y : MethodName} {b : ByteArray} {L : Nat} {r : Option FieldType} (h : Cond.code y b L r ∈ lw_all) : GoodIn lw_all (ws_ y b L r) := by
  intro w hw
  rcases List.mem_cons.mp hw with e | e
  · rw [e]
    exact lw_self _ h
  · exact lw_self _ e
theorem lw_app {a c : List Cond} (ha : ∀ w ∈ a, w ∈ lw_all) (hc : GoodIn lw_all c) : GoodIn lw_all (a ++ c) := by
  intro w hw
  rcases List.mem_append.mp hw with e | e
  · exact lw_self w (ha w e)
  · exact hc w e
/-- what a call through an object asks: cwV n hts (lw_V ..) -/
theorem lw_V {own : String} {idx : Nat} {C : String} {y : MethodName} {b : ByteArray} {L : Nat} {r : Option FieldType} (h1 : Cond.methodLink own idx y ∈ lw_all) (h2 : Cond.instanceMethod y ∈ lw_all) (h3 : Cond.selects C y y ∈ lw_all) (h4 : Cond.initialized C ∈ lw_all) (h5 : Cond.code y b L r ∈ lw_all) : GoodIn lw_all (wsV own idx C y (ws_ y b L r)) := by
  refine lw_app ?_ (lw_meth h5)
  intro w hw
  simp only [List.mem_cons, List.not_mem_nil, or_false] at hw
  rcases hw with e | e | e | e
  · rw [e]; exact h1
  · rw [e]; exact h2
  · rw [e]; exact h3
  · rw [e]; exact h4
/-- what a static call asks: va_cwS n hts (lw_S ..) -/
theorem lw_S {own : String} {idx : Nat} {y : MethodName} {b : ByteArray} {L : Nat} {r : Option FieldType} (h1 : Cond.methodLink own idx y ∈ lw_all) (h2 : Cond.static y ∈ lw_all) (h3 : Cond.initialized y.cls ∈ lw_all) (h4 : Cond.code y b L r ∈ lw_all) : GoodIn lw_all (va_wsS own idx y (ws_ y b L r)) := by
  refine lw_app ?_ (lw_meth h4)
  intro w hw
  simp only [List.mem_cons, List.not_mem_nil, or_false] at hw
  rcases hw with e | e | e
  · rw [e]; exact h1
  · rw [e]; exact h2
  · rw [e]; exact h3
/-- the words of a contract for a method WITH HANDLERS (hh: its table) -/
abbrev wsW_ (y : MethodName) (b : ByteArray) (L : Nat) (r : Option FieldType) (hh : List (Nat × Nat × Nat × Nat)) : List Cond := Cond.codeWith y b L r hh :: lw_all
theorem lw_methW {y : MethodName} {b : ByteArray} {L : Nat} {r : Option FieldType} {hh : List (Nat × Nat × Nat × Nat)} (h : Cond.codeWith y b L r hh ∈ lw_all) : GoodIn lw_all (wsW_ y b L r hh) := by
  intro w hw
  rcases List.mem_cons.mp hw with e | e
  · rw [e]
    exact lw_self _ h
  · exact lw_self _ e
/-- any list of words by their places (lw_in), good -/
theorem lw_good {ws : List Cond} (h : ∀ w ∈ ws, w ∈ lw_all) : GoodIn lw_all ws := fun w hw => lw_self w (h w hw)
/-- what a call of a method with handlers asks: vx_cwVW n hts (lw_VW ..), vx_cwSW n hts (lw_SW ..) -/
theorem lw_VW {own : String} {idx : Nat} {C : String} {y : MethodName} {b : ByteArray} {L : Nat} {r : Option FieldType} {hh : List (Nat × Nat × Nat × Nat)} (h1 : Cond.methodLink own idx y ∈ lw_all) (h2 : Cond.instanceMethod y ∈ lw_all) (h3 : Cond.selects C y y ∈ lw_all) (h4 : Cond.initialized C ∈ lw_all) (h5 : Cond.codeWith y b L r hh ∈ lw_all) : GoodIn lw_all (wsV own idx C y (wsW_ y b L r hh)) := by
  refine lw_app ?_ (lw_methW h5)
  intro w hw
  simp only [List.mem_cons, List.not_mem_nil, or_false] at hw
  rcases hw with e | e | e | e
  · rw [e]; exact h1
  · rw [e]; exact h2
  · rw [e]; exact h3
  · rw [e]; exact h4
theorem lw_SW {own : String} {idx : Nat} {y : MethodName} {b : ByteArray} {L : Nat} {r : Option FieldType} {hh : List (Nat × Nat × Nat × Nat)} (h1 : Cond.methodLink own idx y ∈ lw_all) (h2 : Cond.static y ∈ lw_all) (h3 : Cond.initialized y.cls ∈ lw_all) (h4 : Cond.codeWith y b L r hh ∈ lw_all) : GoodIn lw_all (va_wsS own idx y (wsW_ y b L r hh)) := by
  refine lw_app ?_ (lw_methW h4)
  intro w hw
  simp only [List.mem_cons, List.not_mem_nil, or_false] at hw
  rcases hw with e | e | e
  · rw [e]; exact h1
  · rw [e]; exact h2
  · rw [e]; exact h3
/-- a word by its place in its run of the tables -/
theorem lw_at {r : List Cond} (hr : ∀ w ∈ r, w ∈ lw_tbl) {w : Cond} (i : Nat) (h : r[i]? = some w) : w ∈ lw_tbl := hr w (List.mem_of_getElem? h)
theorem lw_g {w : Cond} (h : w ∈ lw_tbl) (g : goodWord w = true) : w ∈ lw_all := List.mem_filter.mpr ⟨h, g⟩
theorem lw_ms : ∀ w ∈ k2_sels lw_privs, w ∈ lw_tbl := fun w h => show w ∈ k2_sels lw_privs ++ tables_1 from List.mem_append_left _ h
theorem lw_m1 : ∀ w ∈ tables_1_1, w ∈ lw_tbl := fun w h => show w ∈ k2_sels lw_privs ++ tables_1 from List.mem_append_right (k2_sels lw_privs) (show w ∈ tables_1 from List.mem_append_left _ h)
theorem lw_m2 : ∀ w ∈ tables_1_2, w ∈ lw_tbl := fun w h => show w ∈ k2_sels lw_privs ++ tables_1 from List.mem_append_right (k2_sels lw_privs) (show w ∈ tables_1 from List.mem_append_right _ (List.mem_append_left _ h))
theorem lw_m3 : ∀ w ∈ tables_1_3, w ∈ lw_tbl := fun w h => show w ∈ k2_sels lw_privs ++ tables_1 from List.mem_append_right (k2_sels lw_privs) (show w ∈ tables_1 from List.mem_append_right _ (List.mem_append_right _ (List.mem_append_left _ h)))
theorem lw_m4 : ∀ w ∈ tables_1_4, w ∈ lw_tbl := fun w h => show w ∈ k2_sels lw_privs ++ tables_1 from List.mem_append_right (k2_sels lw_privs) (show w ∈ tables_1 from List.mem_append_right _ (List.mem_append_right _ (List.mem_append_right _ (List.mem_append_left _ h))))
theorem lw_m5 : ∀ w ∈ tables_1_5, w ∈ lw_tbl := fun w h => show w ∈ k2_sels lw_privs ++ tables_1 from List.mem_append_right (k2_sels lw_privs) (show w ∈ tables_1 from List.mem_append_right _ (List.mem_append_right _ (List.mem_append_right _ (List.mem_append_right _ (List.mem_append_left _ h)))))
theorem lw_m6 : ∀ w ∈ tables_1_6, w ∈ lw_tbl := fun w h => show w ∈ k2_sels lw_privs ++ tables_1 from List.mem_append_right (k2_sels lw_privs) (show w ∈ tables_1 from List.mem_append_right _ (List.mem_append_right _ (List.mem_append_right _ (List.mem_append_right _ (List.mem_append_right _ (List.mem_append_left _ h))))))
theorem lw_m7 : ∀ w ∈ tables_1_7, w ∈ lw_tbl := fun w h => show w ∈ k2_sels lw_privs ++ tables_1 from List.mem_append_right (k2_sels lw_privs) (show w ∈ tables_1 from List.mem_append_right _ (List.mem_append_right _ (List.mem_append_right _ (List.mem_append_right _ (List.mem_append_right _ (List.mem_append_right _ (List.mem_append_left _ h)))))))
theorem lw_m8 : ∀ w ∈ tables_1_8, w ∈ lw_tbl := fun w h => show w ∈ k2_sels lw_privs ++ tables_1 from List.mem_append_right (k2_sels lw_privs) (show w ∈ tables_1 from List.mem_append_right _ (List.mem_append_right _ (List.mem_append_right _ (List.mem_append_right _ (List.mem_append_right _ (List.mem_append_right _ (List.mem_append_right _ (List.mem_append_left _ h))))))))
theorem lw_m9 : ∀ w ∈ tables_1_9, w ∈ lw_tbl := fun w h => show w ∈ k2_sels lw_privs ++ tables_1 from List.mem_append_right (k2_sels lw_privs) (show w ∈ tables_1 from List.mem_append_right _ (List.mem_append_right _ (List.mem_append_right _ (List.mem_append_right _ (List.mem_append_right _ (List.mem_append_right _ (List.mem_append_right _ (List.mem_append_right _ (List.mem_append_left _ h)))))))))
theorem lw_m10 : ∀ w ∈ tables_1_10, w ∈ lw_tbl := fun w h => show w ∈ k2_sels lw_privs ++ tables_1 from List.mem_append_right (k2_sels lw_privs) (show w ∈ tables_1 from List.mem_append_right _ (List.mem_append_right _ (List.mem_append_right _ (List.mem_append_right _ (List.mem_append_right _ (List.mem_append_right _ (List.mem_append_right _ (List.mem_append_right _ (List.mem_append_right _ h)))))))))
theorem qs0 : (Cond.selects "java/lang/Throwable" ⟨"java/lang/Throwable", "fillInStackTrace", "(I)Ljava/lang/Throwable;"⟩ ⟨"java/lang/Throwable", "fillInStackTrace", "(I)Ljava/lang/Throwable;"⟩) ∈ lw_all := lw_g (lw_at lw_ms 0 rfl) rfl
theorem qs1 : (Cond.selects "FlashRatchet$Reader" ⟨"FlashRatchet$Reader", "takes", "(C)Z"⟩ ⟨"FlashRatchet$Reader", "takes", "(C)Z"⟩) ∈ lw_all := lw_g (lw_at lw_ms 1 rfl) rfl
theorem qs2 : (Cond.selects "FlashRatchet$Reader" ⟨"FlashRatchet$Reader", "isOver", "()Z"⟩ ⟨"FlashRatchet$Reader", "isOver", "()Z"⟩) ∈ lw_all := lw_g (lw_at lw_ms 2 rfl) rfl
theorem qs3 : (Cond.selects "FlashRatchet$Reader" ⟨"FlashRatchet$Reader", "end", "()V"⟩ ⟨"FlashRatchet$Reader", "end", "()V"⟩) ∈ lw_all := lw_g (lw_at lw_ms 3 rfl) rfl
theorem qs4 : (Cond.selects "FlashRatchet$Reader" ⟨"FlashRatchet$Reader", "put", "(II)V"⟩ ⟨"FlashRatchet$Reader", "put", "(II)V"⟩) ∈ lw_all := lw_g (lw_at lw_ms 4 rfl) rfl
theorem qs5 : (Cond.selects "FlashRatchet$Reader" ⟨"FlashRatchet$Reader", "begins", "(C)Z"⟩ ⟨"FlashRatchet$Reader", "begins", "(C)Z"⟩) ∈ lw_all := lw_g (lw_at lw_ms 5 rfl) rfl
theorem qs6 : (Cond.selects "FlashRatchet$Reader" ⟨"FlashRatchet$Reader", "go", "(ZI)Z"⟩ ⟨"FlashRatchet$Reader", "go", "(ZI)Z"⟩) ∈ lw_all := lw_g (lw_at lw_ms 6 rfl) rfl
theorem qs7 : (Cond.selects "FlashRatchet$Reader" ⟨"FlashRatchet$Reader", "takesBack", "(C)Z"⟩ ⟨"FlashRatchet$Reader", "takesBack", "(C)Z"⟩) ∈ lw_all := lw_g (lw_at lw_ms 7 rfl) rfl
theorem qs8 : (Cond.selects "FlashRatchet$Reader" ⟨"FlashRatchet$Reader", "takesForward", "(C)Z"⟩ ⟨"FlashRatchet$Reader", "takesForward", "(C)Z"⟩) ∈ lw_all := lw_g (lw_at lw_ms 8 rfl) rfl
theorem qs9 : (Cond.selects "FlashRatchet$Reader" ⟨"FlashRatchet$Reader", "takesLetter", "(C)Z"⟩ ⟨"FlashRatchet$Reader", "takesLetter", "(C)Z"⟩) ∈ lw_all := lw_g (lw_at lw_ms 9 rfl) rfl
theorem qs10 : (Cond.selects "FlashRatchet" ⟨"FlashRatchet", "paradoxical", "()I"⟩ ⟨"FlashRatchet", "paradoxical", "()I"⟩) ∈ lw_all := lw_g (lw_at lw_ms 10 rfl) rfl
theorem qs11 : (Cond.selects "FlashRatchet" ⟨"FlashRatchet", "losesAlone", "(I)Z"⟩ ⟨"FlashRatchet", "losesAlone", "(I)Z"⟩) ∈ lw_all := lw_g (lw_at lw_ms 11 rfl) rfl
theorem qs12 : (Cond.selects "FlashRatchet$Rounds" ⟨"FlashRatchet$Rounds", "tick", "([JI)J"⟩ ⟨"FlashRatchet$Rounds", "tick", "([JI)J"⟩) ∈ lw_all := lw_g (lw_at lw_ms 12 rfl) rfl
theorem qs13 : (Cond.selects "FlashRatchet" ⟨"FlashRatchet", "draws", "(III)I"⟩ ⟨"FlashRatchet", "draws", "(III)I"⟩) ∈ lw_all := lw_g (lw_at lw_ms 13 rfl) rfl
theorem qs14 : (Cond.selects "FlashRatchet" ⟨"FlashRatchet", "isGeared", "(I)Z"⟩ ⟨"FlashRatchet", "isGeared", "(I)Z"⟩) ∈ lw_all := lw_g (lw_at lw_ms 14 rfl) rfl
theorem qs15 : (Cond.selects "FlashRatchet" ⟨"FlashRatchet", "number", "(II)I"⟩ ⟨"FlashRatchet", "number", "(II)I"⟩) ∈ lw_all := lw_g (lw_at lw_ms 15 rfl) rfl
theorem qs16 : (Cond.selects "FlashRatchet" ⟨"FlashRatchet", "moved", "(II)I"⟩ ⟨"FlashRatchet", "moved", "(II)I"⟩) ∈ lw_all := lw_g (lw_at lw_ms 16 rfl) rfl
theorem qs17 : (Cond.selects "FlashRatchet$Rounds" ⟨"FlashRatchet$Rounds", "reached", "(I)I"⟩ ⟨"FlashRatchet$Rounds", "reached", "(I)I"⟩) ∈ lw_all := lw_g (lw_at lw_ms 17 rfl) rfl
theorem qs18 : (Cond.selects "FlashRatchet$Rounds" ⟨"FlashRatchet$Rounds", "trees", "(I)J"⟩ ⟨"FlashRatchet$Rounds", "trees", "(I)J"⟩) ∈ lw_all := lw_g (lw_at lw_ms 18 rfl) rfl
theorem qs19 : (Cond.selects "FlashRatchet$Rounds" ⟨"FlashRatchet$Rounds", "product", "(II)J"⟩ ⟨"FlashRatchet$Rounds", "product", "(II)J"⟩) ∈ lw_all := lw_g (lw_at lw_ms 19 rfl) rfl
theorem qs20 : (Cond.selects "FlashRatchet$Rounds" ⟨"FlashRatchet$Rounds", "allTrees", "()J"⟩ ⟨"FlashRatchet$Rounds", "allTrees", "()J"⟩) ∈ lw_all := lw_g (lw_at lw_ms 20 rfl) rfl
theorem qs21 : (Cond.selects "FlashRatchet" ⟨"FlashRatchet", "bestOf", "(I)LFlashRatchet$Candidate;"⟩ ⟨"FlashRatchet", "bestOf", "(I)LFlashRatchet$Candidate;"⟩) ∈ lw_all := lw_g (lw_at lw_ms 21 rfl) rfl
theorem qs22 : (Cond.selects "FlashRatchet" ⟨"FlashRatchet", "usesGeared", "(I)Z"⟩ ⟨"FlashRatchet", "usesGeared", "(I)Z"⟩) ∈ lw_all := lw_g (lw_at lw_ms 22 rfl) rfl
theorem qs23 : (Cond.selects "java/util/PriorityQueue" ⟨"java/util/PriorityQueue", "grow", "(I)V"⟩ ⟨"java/util/PriorityQueue", "grow", "(I)V"⟩) ∈ lw_all := lw_g (lw_at lw_ms 23 rfl) rfl
theorem qs24 : (Cond.selects "java/util/PriorityQueue" ⟨"java/util/PriorityQueue", "siftUp", "(ILjava/lang/Object;)V"⟩ ⟨"java/util/PriorityQueue", "siftUp", "(ILjava/lang/Object;)V"⟩) ∈ lw_all := lw_g (lw_at lw_ms 24 rfl) rfl
theorem qs25 : (Cond.selects "FlashRatchet" ⟨"FlashRatchet", "counted", "(I)I"⟩ ⟨"FlashRatchet", "counted", "(I)I"⟩) ∈ lw_all := lw_g (lw_at lw_ms 25 rfl) rfl
theorem qs26 : (Cond.selects "FlashRatchet" ⟨"FlashRatchet", "mix", "(J)V"⟩ ⟨"FlashRatchet", "mix", "(J)V"⟩) ∈ lw_all := lw_g (lw_at lw_ms 26 rfl) rfl
theorem qs27 : (Cond.selects "FlashRatchet" ⟨"FlashRatchet", "told", "(I)I"⟩ ⟨"FlashRatchet", "told", "(I)I"⟩) ∈ lw_all := lw_g (lw_at lw_ms 27 rfl) rfl
theorem qs28 : (Cond.selects "FlashRatchet" ⟨"FlashRatchet", "cycleLength", "()I"⟩ ⟨"FlashRatchet", "cycleLength", "()I"⟩) ∈ lw_all := lw_g (lw_at lw_ms 28 rfl) rfl
theorem qs29 : (Cond.selects "FlashRatchet" ⟨"FlashRatchet", "moveBy", "(III)I"⟩ ⟨"FlashRatchet", "moveBy", "(III)I"⟩) ∈ lw_all := lw_g (lw_at lw_ms 29 rfl) rfl
theorem qs30 : (Cond.selects "FlashRatchet" ⟨"FlashRatchet", "mixChances", "()V"⟩ ⟨"FlashRatchet", "mixChances", "()V"⟩) ∈ lw_all := lw_g (lw_at lw_ms 30 rfl) rfl
theorem qs31 : (Cond.selects "FlashRatchet" ⟨"FlashRatchet", "freeWays", "(I)LFlashRatchet$Ways;"⟩ ⟨"FlashRatchet", "freeWays", "(I)LFlashRatchet$Ways;"⟩) ∈ lw_all := lw_g (lw_at lw_ms 31 rfl) rfl
theorem qs32 : (Cond.selects "java/util/TreeMap" ⟨"java/util/TreeMap", "put", "(Ljava/lang/Object;Ljava/lang/Object;Z)Ljava/lang/Object;"⟩ ⟨"java/util/TreeMap", "put", "(Ljava/lang/Object;Ljava/lang/Object;Z)Ljava/lang/Object;"⟩) ∈ lw_all := lw_g (lw_at lw_ms 32 rfl) rfl
theorem qs33 : (Cond.selects "java/util/TreeMap" ⟨"java/util/TreeMap", "addEntryToEmptyMap", "(Ljava/lang/Object;Ljava/lang/Object;)V"⟩ ⟨"java/util/TreeMap", "addEntryToEmptyMap", "(Ljava/lang/Object;Ljava/lang/Object;)V"⟩) ∈ lw_all := lw_g (lw_at lw_ms 33 rfl) rfl
theorem qs34 : (Cond.selects "java/util/TreeMap" ⟨"java/util/TreeMap", "addEntry", "(Ljava/lang/Object;Ljava/lang/Object;Ljava/util/TreeMap$Entry;Z)V"⟩ ⟨"java/util/TreeMap", "addEntry", "(Ljava/lang/Object;Ljava/lang/Object;Ljava/util/TreeMap$Entry;Z)V"⟩) ∈ lw_all := lw_g (lw_at lw_ms 34 rfl) rfl
theorem qs35 : (Cond.selects "java/util/TreeMap" ⟨"java/util/TreeMap", "fixAfterInsertion", "(Ljava/util/TreeMap$Entry;)V"⟩ ⟨"java/util/TreeMap", "fixAfterInsertion", "(Ljava/util/TreeMap$Entry;)V"⟩) ∈ lw_all := lw_g (lw_at lw_ms 35 rfl) rfl
theorem qs36 : (Cond.selects "java/util/TreeMap" ⟨"java/util/TreeMap", "rotateLeft", "(Ljava/util/TreeMap$Entry;)V"⟩ ⟨"java/util/TreeMap", "rotateLeft", "(Ljava/util/TreeMap$Entry;)V"⟩) ∈ lw_all := lw_g (lw_at lw_ms 36 rfl) rfl
theorem qs37 : (Cond.selects "java/util/TreeMap" ⟨"java/util/TreeMap", "rotateRight", "(Ljava/util/TreeMap$Entry;)V"⟩ ⟨"java/util/TreeMap", "rotateRight", "(Ljava/util/TreeMap$Entry;)V"⟩) ∈ lw_all := lw_g (lw_at lw_ms 37 rfl) rfl
theorem qs38 : (Cond.selects "FlashRatchet$Ways" ⟨"FlashRatchet$Ways", "add", "(Ljava/util/TreeMap;IJ)V"⟩ ⟨"FlashRatchet$Ways", "add", "(Ljava/util/TreeMap;IJ)V"⟩) ∈ lw_all := lw_g (lw_at lw_ms 38 rfl) rfl
theorem qs39 : (Cond.selects "FlashRatchet" ⟨"FlashRatchet", "outcome", "(LFlashRatchet$Ways;III)J"⟩ ⟨"FlashRatchet", "outcome", "(LFlashRatchet$Ways;III)J"⟩) ∈ lw_all := lw_g (lw_at lw_ms 39 rfl) rfl
theorem qs40 : (Cond.selects "FlashRatchet" ⟨"FlashRatchet", "mixAverages", "()V"⟩ ⟨"FlashRatchet", "mixAverages", "()V"⟩) ∈ lw_all := lw_g (lw_at lw_ms 40 rfl) rfl
theorem qs41 : (Cond.selects "FlashRatchet" ⟨"FlashRatchet", "partOf", "(LFlashRatchet$Candidate;I)J"⟩ ⟨"FlashRatchet", "partOf", "(LFlashRatchet$Candidate;I)J"⟩) ∈ lw_all := lw_g (lw_at lw_ms 41 rfl) rfl
theorem qs42 : (Cond.selects "FlashRatchet" ⟨"FlashRatchet", "isPosition", "(I)Z"⟩ ⟨"FlashRatchet", "isPosition", "(I)Z"⟩) ∈ lw_all := lw_g (lw_at lw_ms 42 rfl) rfl
theorem qs43 : (Cond.selects "FlashRatchetModel" ⟨"FlashRatchetModel", "fresh", "(I)V"⟩ ⟨"FlashRatchetModel", "fresh", "(I)V"⟩) ∈ lw_all := lw_g (lw_at lw_ms 43 rfl) rfl
theorem qs44 : (Cond.selects "FlashRatchetModel" ⟨"FlashRatchetModel", "isPosition", "(I)Z"⟩ ⟨"FlashRatchetModel", "isPosition", "(I)Z"⟩) ∈ lw_all := lw_g (lw_at lw_ms 44 rfl) rfl
theorem qs45 : (Cond.selects "FlashRatchetModel" ⟨"FlashRatchetModel", "told", "(II)I"⟩ ⟨"FlashRatchetModel", "told", "(II)I"⟩) ∈ lw_all := lw_g (lw_at lw_ms 45 rfl) rfl
theorem qs46 : (Cond.selects "FlashRatchetModel" ⟨"FlashRatchetModel", "put", "(IIII)V"⟩ ⟨"FlashRatchetModel", "put", "(IIII)V"⟩) ∈ lw_all := lw_g (lw_at lw_ms 46 rfl) rfl
theorem qs47 : (Cond.selects "FlashRatchetModel" ⟨"FlashRatchetModel", "tick", "()I"⟩ ⟨"FlashRatchetModel", "tick", "()I"⟩) ∈ lw_all := lw_g (lw_at lw_ms 47 rfl) rfl
theorem qs48 : (Cond.selects "FlashRatchetModel" ⟨"FlashRatchetModel", "isIn", "(I)Z"⟩ ⟨"FlashRatchetModel", "isIn", "(I)Z"⟩) ∈ lw_all := lw_g (lw_at lw_ms 48 rfl) rfl
theorem qs49 : (Cond.selects "FlashRatchetModel" ⟨"FlashRatchetModel", "moved", "(II)I"⟩ ⟨"FlashRatchetModel", "moved", "(II)I"⟩) ∈ lw_all := lw_g (lw_at lw_ms 49 rfl) rfl
theorem qs50 : (Cond.selects "FlashRatchetModel" ⟨"FlashRatchetModel", "readText", "()I"⟩ ⟨"FlashRatchetModel", "readText", "()I"⟩) ∈ lw_all := lw_g (lw_at lw_ms 50 rfl) rfl
theorem qs51 : (Cond.selects "FlashRatchetModel" ⟨"FlashRatchetModel", "takes", "(I)Z"⟩ ⟨"FlashRatchetModel", "takes", "(I)Z"⟩) ∈ lw_all := lw_g (lw_at lw_ms 51 rfl) rfl
theorem qs52 : (Cond.selects "FlashRatchetModel" ⟨"FlashRatchetModel", "canEnd", "()Z"⟩ ⟨"FlashRatchetModel", "canEnd", "()Z"⟩) ∈ lw_all := lw_g (lw_at lw_ms 52 rfl) rfl
theorem qs53 : (Cond.selects "FlashRatchetModel" ⟨"FlashRatchetModel", "endItem", "()V"⟩ ⟨"FlashRatchetModel", "endItem", "()V"⟩) ∈ lw_all := lw_g (lw_at lw_ms 53 rfl) rfl
theorem qs54 : (Cond.selects "FlashRatchetModel" ⟨"FlashRatchetModel", "begins", "(I)Z"⟩ ⟨"FlashRatchetModel", "begins", "(I)Z"⟩) ∈ lw_all := lw_g (lw_at lw_ms 54 rfl) rfl
theorem qs55 : (Cond.selects "FlashRatchetModel" ⟨"FlashRatchetModel", "goes", "(ZI)Z"⟩ ⟨"FlashRatchetModel", "goes", "(ZI)Z"⟩) ∈ lw_all := lw_g (lw_at lw_ms 55 rfl) rfl
theorem qs56 : (Cond.selects "FlashRatchetModel" ⟨"FlashRatchetModel", "takesForward", "(I)Z"⟩ ⟨"FlashRatchetModel", "takesForward", "(I)Z"⟩) ∈ lw_all := lw_g (lw_at lw_ms 56 rfl) rfl
theorem qs57 : (Cond.selects "FlashRatchetModel" ⟨"FlashRatchetModel", "takesLetter", "(I)Z"⟩ ⟨"FlashRatchetModel", "takesLetter", "(I)Z"⟩) ∈ lw_all := lw_g (lw_at lw_ms 57 rfl) rfl
theorem qs58 : (Cond.selects "FlashRatchetModel" ⟨"FlashRatchetModel", "cycleNow", "(I)I"⟩ ⟨"FlashRatchetModel", "cycleNow", "(I)I"⟩) ∈ lw_all := lw_g (lw_at lw_ms 58 rfl) rfl
theorem qs59 : (Cond.selects "FlashRatchetModel" ⟨"FlashRatchetModel", "chanceAt", "(II)J"⟩ ⟨"FlashRatchetModel", "chanceAt", "(II)J"⟩) ∈ lw_all := lw_g (lw_at lw_ms 59 rfl) rfl
theorem qs60 : (Cond.selects "FlashRatchetModel" ⟨"FlashRatchetModel", "go", "(III)V"⟩ ⟨"FlashRatchetModel", "go", "(III)V"⟩) ∈ lw_all := lw_g (lw_at lw_ms 60 rfl) rfl
theorem qs61 : (Cond.selects "FlashRatchetModel" ⟨"FlashRatchetModel", "spread", "(III)V"⟩ ⟨"FlashRatchetModel", "spread", "(III)V"⟩) ∈ lw_all := lw_g (lw_at lw_ms 61 rfl) rfl
theorem qs62 : (Cond.selects "FlashRatchetModel" ⟨"FlashRatchetModel", "back", "(II)I"⟩ ⟨"FlashRatchetModel", "back", "(II)I"⟩) ∈ lw_all := lw_g (lw_at lw_ms 62 rfl) rfl
theorem qs63 : (Cond.selects "FlashRatchetModel" ⟨"FlashRatchetModel", "forward", "(II)I"⟩ ⟨"FlashRatchetModel", "forward", "(II)I"⟩) ∈ lw_all := lw_g (lw_at lw_ms 63 rfl) rfl
theorem qs64 : (Cond.selects "FlashRatchetModel" ⟨"FlashRatchetModel", "arrive", "(IIJII)V"⟩ ⟨"FlashRatchetModel", "arrive", "(IIJII)V"⟩) ∈ lw_all := lw_g (lw_at lw_ms 64 rfl) rfl
theorem qs65 : (Cond.selects "FlashRatchetModel" ⟨"FlashRatchetModel", "chanceFrom", "(II)J"⟩ ⟨"FlashRatchetModel", "chanceFrom", "(II)J"⟩) ∈ lw_all := lw_g (lw_at lw_ms 65 rfl) rfl
theorem qs66 : (Cond.selects "FlashRatchetModel" ⟨"FlashRatchetModel", "gameOf", "(IIII)J"⟩ ⟨"FlashRatchetModel", "gameOf", "(IIII)J"⟩) ∈ lw_all := lw_g (lw_at lw_ms 66 rfl) rfl
theorem qs67 : (Cond.selects "FlashRatchetModel" ⟨"FlashRatchetModel", "averageOf", "(II)J"⟩ ⟨"FlashRatchetModel", "averageOf", "(II)J"⟩) ∈ lw_all := lw_g (lw_at lw_ms 67 rfl) rfl
theorem qs68 : (Cond.selects "FlashRatchetModel" ⟨"FlashRatchetModel", "layAverage", "(I)V"⟩ ⟨"FlashRatchetModel", "layAverage", "(I)V"⟩) ∈ lw_all := lw_g (lw_at lw_ms 68 rfl) rfl
theorem qs69 : (Cond.selects "FlashRatchetModel" ⟨"FlashRatchetModel", "layRound", "(I)V"⟩ ⟨"FlashRatchetModel", "layRound", "(I)V"⟩) ∈ lw_all := lw_g (lw_at lw_ms 69 rfl) rfl
theorem qs70 : (Cond.selects "FlashRatchetModel" ⟨"FlashRatchetModel", "pass", "(I)J"⟩ ⟨"FlashRatchetModel", "pass", "(I)J"⟩) ∈ lw_all := lw_g (lw_at lw_ms 70 rfl) rfl
theorem qs71 : (Cond.selects "FlashRatchetModel" ⟨"FlashRatchetModel", "layClasses", "()V"⟩ ⟨"FlashRatchetModel", "layClasses", "()V"⟩) ∈ lw_all := lw_g (lw_at lw_ms 71 rfl) rfl
theorem qs72 : (Cond.selects "FlashRatchetModel" ⟨"FlashRatchetModel", "reached", "(I)I"⟩ ⟨"FlashRatchetModel", "reached", "(I)I"⟩) ∈ lw_all := lw_g (lw_at lw_ms 72 rfl) rfl
theorem qs73 : (Cond.selects "FlashRatchetModel" ⟨"FlashRatchetModel", "minor", "(I)J"⟩ ⟨"FlashRatchetModel", "minor", "(I)J"⟩) ∈ lw_all := lw_g (lw_at lw_ms 73 rfl) rfl
theorem qs74 : (Cond.selects "FlashRatchetModel" ⟨"FlashRatchetModel", "entry", "(II)J"⟩ ⟨"FlashRatchetModel", "entry", "(II)J"⟩) ∈ lw_all := lw_g (lw_at lw_ms 74 rfl) rfl
theorem qs75 : (Cond.selects "FlashRatchetModel" ⟨"FlashRatchetModel", "reduce", "(JJ)V"⟩ ⟨"FlashRatchetModel", "reduce", "(JJ)V"⟩) ∈ lw_all := lw_g (lw_at lw_ms 75 rfl) rfl
theorem qs76 : (Cond.selects "FlashRatchetModel" ⟨"FlashRatchetModel", "shareOf", "(III)J"⟩ ⟨"FlashRatchetModel", "shareOf", "(III)J"⟩) ∈ lw_all := lw_g (lw_at lw_ms 76 rfl) rfl
theorem qs77 : (Cond.selects "FlashRatchetModel" ⟨"FlashRatchetModel", "bestNow", "(II)J"⟩ ⟨"FlashRatchetModel", "bestNow", "(II)J"⟩) ∈ lw_all := lw_g (lw_at lw_ms 77 rfl) rfl
theorem qs78 : (Cond.selects "FlashRatchetModel" ⟨"FlashRatchetModel", "layBest", "(I)V"⟩ ⟨"FlashRatchetModel", "layBest", "(I)V"⟩) ∈ lw_all := lw_g (lw_at lw_ms 78 rfl) rfl
theorem qs79 : (Cond.selects "FlashRatchetModel" ⟨"FlashRatchetModel", "usesGeared", "(I)Z"⟩ ⟨"FlashRatchetModel", "usesGeared", "(I)Z"⟩) ∈ lw_all := lw_g (lw_at lw_ms 79 rfl) rfl
theorem qs80 : (Cond.selects "FlashRatchetModel" ⟨"FlashRatchetModel", "paradoxNow", "()I"⟩ ⟨"FlashRatchetModel", "paradoxNow", "()I"⟩) ∈ lw_all := lw_g (lw_at lw_ms 80 rfl) rfl
theorem qs81 : (Cond.selects "FlashRatchetModel" ⟨"FlashRatchetModel", "counted", "(I)I"⟩ ⟨"FlashRatchetModel", "counted", "(I)I"⟩) ∈ lw_all := lw_g (lw_at lw_ms 81 rfl) rfl
theorem qs82 : (Cond.selects "FlashRatchetModel" ⟨"FlashRatchetModel", "mix", "(J)V"⟩ ⟨"FlashRatchetModel", "mix", "(J)V"⟩) ∈ lw_all := lw_g (lw_at lw_ms 82 rfl) rfl
theorem qs83 : (Cond.selects "FlashRatchetModel" ⟨"FlashRatchetModel", "mixChances", "()V"⟩ ⟨"FlashRatchetModel", "mixChances", "()V"⟩) ∈ lw_all := lw_g (lw_at lw_ms 83 rfl) rfl
