/-! words of the tables: PART A of kit/laws/SKELETON.whole, the opcodes' lemmas, the classes' heads and words (claim/names), joined by tools/gen_words.py -/
/-- a private method of a class that the tables say can be made, by its rows of tables_1 -/
def lw_okq (q : MethodName × Nat) : Prop := (q.1.cls ≠ "java/lang/invoke/MethodHandle" ∧ q.1.cls ≠ "java/lang/invoke/VarHandle") ∧ Cond.instantiable q.1.cls q.2 ∈ tables_1 ∧ Cond.privateMethod q.1 ∈ tables_1 ∧ Cond.instanceMethod q.1 ∈ tables_1
set_option maxRecDepth 100000
theorem lw_t1 {w : Cond} (h : w ∈ tables_1_1) : w ∈ tables_1 := List.mem_append_left _ h
theorem lw_t2 {w : Cond} (h : w ∈ tables_1_2) : w ∈ tables_1 := List.mem_append_right _ (List.mem_append_left _ h)
theorem lw_t3 {w : Cond} (h : w ∈ tables_1_3) : w ∈ tables_1 := List.mem_append_right _ (List.mem_append_right _ (List.mem_append_left _ h))
theorem lw_t4 {w : Cond} (h : w ∈ tables_1_4) : w ∈ tables_1 := List.mem_append_right _ (List.mem_append_right _ (List.mem_append_right _ (List.mem_append_left _ h)))
theorem lw_t5 {w : Cond} (h : w ∈ tables_1_5) : w ∈ tables_1 := List.mem_append_right _ (List.mem_append_right _ (List.mem_append_right _ (List.mem_append_right _ (List.mem_append_left _ h))))
theorem lw_t6 {w : Cond} (h : w ∈ tables_1_6) : w ∈ tables_1 := List.mem_append_right _ (List.mem_append_right _ (List.mem_append_right _ (List.mem_append_right _ (List.mem_append_right _ (List.mem_append_left _ h)))))
theorem lw_t7 {w : Cond} (h : w ∈ tables_1_7) : w ∈ tables_1 := List.mem_append_right _ (List.mem_append_right _ (List.mem_append_right _ (List.mem_append_right _ (List.mem_append_right _ (List.mem_append_right _ (List.mem_append_left _ h))))))
theorem lw_t8 {w : Cond} (h : w ∈ tables_1_8) : w ∈ tables_1 := List.mem_append_right _ (List.mem_append_right _ (List.mem_append_right _ (List.mem_append_right _ (List.mem_append_right _ (List.mem_append_right _ (List.mem_append_right _ (List.mem_append_left _ h)))))))
theorem lw_t9 {w : Cond} (h : w ∈ tables_1_9) : w ∈ tables_1 := List.mem_append_right _ (List.mem_append_right _ (List.mem_append_right _ (List.mem_append_right _ (List.mem_append_right _ (List.mem_append_right _ (List.mem_append_right _ (List.mem_append_right _ (List.mem_append_left _ h))))))))
theorem lw_t10 {w : Cond} (h : w ∈ tables_1_10) : w ∈ tables_1 := List.mem_append_right _ (List.mem_append_right _ (List.mem_append_right _ (List.mem_append_right _ (List.mem_append_right _ (List.mem_append_right _ (List.mem_append_right _ (List.mem_append_right _ (List.mem_append_right _ (List.mem_append_left _ h)))))))))
theorem lw_t11 {w : Cond} (h : w ∈ tables_1_11) : w ∈ tables_1 := List.mem_append_right _ (List.mem_append_right _ (List.mem_append_right _ (List.mem_append_right _ (List.mem_append_right _ (List.mem_append_right _ (List.mem_append_right _ (List.mem_append_right _ (List.mem_append_right _ (List.mem_append_right _ (List.mem_append_left _ h))))))))))
theorem lw_t12 {w : Cond} (h : w ∈ tables_1_12) : w ∈ tables_1 := List.mem_append_right _ (List.mem_append_right _ (List.mem_append_right _ (List.mem_append_right _ (List.mem_append_right _ (List.mem_append_right _ (List.mem_append_right _ (List.mem_append_right _ (List.mem_append_right _ (List.mem_append_right _ (List.mem_append_right _ (List.mem_append_left _ h)))))))))))
theorem lw_t13 {w : Cond} (h : w ∈ tables_1_13) : w ∈ tables_1 := List.mem_append_right _ (List.mem_append_right _ (List.mem_append_right _ (List.mem_append_right _ (List.mem_append_right _ (List.mem_append_right _ (List.mem_append_right _ (List.mem_append_right _ (List.mem_append_right _ (List.mem_append_right _ (List.mem_append_right _ (List.mem_append_right _ (List.mem_append_left _ h))))))))))))
theorem lw_t14 {w : Cond} (h : w ∈ tables_1_14) : w ∈ tables_1 := List.mem_append_right _ (List.mem_append_right _ (List.mem_append_right _ (List.mem_append_right _ (List.mem_append_right _ (List.mem_append_right _ (List.mem_append_right _ (List.mem_append_right _ (List.mem_append_right _ (List.mem_append_right _ (List.mem_append_right _ (List.mem_append_right _ (List.mem_append_right _ (List.mem_append_left _ h)))))))))))))
theorem lw_t15 {w : Cond} (h : w ∈ tables_1_15) : w ∈ tables_1 := List.mem_append_right _ (List.mem_append_right _ (List.mem_append_right _ (List.mem_append_right _ (List.mem_append_right _ (List.mem_append_right _ (List.mem_append_right _ (List.mem_append_right _ (List.mem_append_right _ (List.mem_append_right _ (List.mem_append_right _ (List.mem_append_right _ (List.mem_append_right _ (List.mem_append_right _ h)))))))))))))
theorem lw_p0 : lw_okq (⟨"java/util/ArrayDeque", "grow", "(I)V"⟩, 3) := ⟨⟨by decide +kernel, by decide +kernel⟩, lw_t2 (List.mem_of_getElem? (i := 22) rfl), lw_t2 (List.mem_of_getElem? (i := 109) rfl), lw_t2 (List.mem_of_getElem? (i := 110) rfl)⟩
theorem lw_p1 : lw_okq (⟨"java/util/ArrayDeque", "newCapacity", "(II)I"⟩, 3) := ⟨⟨by decide +kernel, by decide +kernel⟩, lw_t2 (List.mem_of_getElem? (i := 22) rfl), lw_t2 (List.mem_of_getElem? (i := 114) rfl), lw_t2 (List.mem_of_getElem? (i := 115) rfl)⟩
theorem lw_p2 : lw_okq (⟨"java/lang/Throwable", "fillInStackTrace", "(I)Ljava/lang/Throwable;"⟩, 6) := ⟨⟨by decide +kernel, by decide +kernel⟩, lw_t2 (List.mem_of_getElem? (i := 163) rfl), lw_t2 (List.mem_of_getElem? (i := 161) rfl), lw_t2 (List.mem_of_getElem? (i := 162) rfl)⟩
theorem lw_p3 : lw_okq (⟨"java/util/TreeMap", "put", "(Ljava/lang/Object;Ljava/lang/Object;Z)Ljava/lang/Object;"⟩, 9) := ⟨⟨by decide +kernel, by decide +kernel⟩, lw_t1 (List.mem_of_getElem? (i := 82) rfl), lw_t6 (List.mem_of_getElem? (i := 42) rfl), lw_t6 (List.mem_of_getElem? (i := 43) rfl)⟩
theorem lw_p4 : lw_okq (⟨"java/util/TreeMap", "addEntryToEmptyMap", "(Ljava/lang/Object;Ljava/lang/Object;)V"⟩, 9) := ⟨⟨by decide +kernel, by decide +kernel⟩, lw_t1 (List.mem_of_getElem? (i := 82) rfl), lw_t6 (List.mem_of_getElem? (i := 46) rfl), lw_t6 (List.mem_of_getElem? (i := 47) rfl)⟩
theorem lw_p5 : lw_okq (⟨"java/util/TreeMap", "addEntry", "(Ljava/lang/Object;Ljava/lang/Object;Ljava/util/TreeMap$Entry;Z)V"⟩, 9) := ⟨⟨by decide +kernel, by decide +kernel⟩, lw_t1 (List.mem_of_getElem? (i := 82) rfl), lw_t6 (List.mem_of_getElem? (i := 92) rfl), lw_t6 (List.mem_of_getElem? (i := 93) rfl)⟩
theorem lw_p6 : lw_okq (⟨"java/util/TreeMap", "fixAfterInsertion", "(Ljava/util/TreeMap$Entry;)V"⟩, 9) := ⟨⟨by decide +kernel, by decide +kernel⟩, lw_t1 (List.mem_of_getElem? (i := 82) rfl), lw_t6 (List.mem_of_getElem? (i := 96) rfl), lw_t6 (List.mem_of_getElem? (i := 97) rfl)⟩
theorem lw_p7 : lw_okq (⟨"java/util/TreeMap", "rotateLeft", "(Ljava/util/TreeMap$Entry;)V"⟩, 9) := ⟨⟨by decide +kernel, by decide +kernel⟩, lw_t1 (List.mem_of_getElem? (i := 82) rfl), lw_t6 (List.mem_of_getElem? (i := 115) rfl), lw_t6 (List.mem_of_getElem? (i := 116) rfl)⟩
theorem lw_p8 : lw_okq (⟨"java/util/TreeMap", "rotateRight", "(Ljava/util/TreeMap$Entry;)V"⟩, 9) := ⟨⟨by decide +kernel, by decide +kernel⟩, lw_t1 (List.mem_of_getElem? (i := 82) rfl), lw_t6 (List.mem_of_getElem? (i := 119) rfl), lw_t6 (List.mem_of_getElem? (i := 120) rfl)⟩
theorem lw_p9 : lw_okq (⟨"java/util/PriorityQueue", "siftDown", "(ILjava/lang/Object;)V"⟩, 4) := ⟨⟨by decide +kernel, by decide +kernel⟩, lw_t7 (List.mem_of_getElem? (i := 56) rfl), lw_t7 (List.mem_of_getElem? (i := 54) rfl), lw_t7 (List.mem_of_getElem? (i := 55) rfl)⟩
theorem lw_p10 : lw_okq (⟨"java/util/PriorityQueue", "siftUp", "(ILjava/lang/Object;)V"⟩, 4) := ⟨⟨by decide +kernel, by decide +kernel⟩, lw_t7 (List.mem_of_getElem? (i := 56) rfl), lw_t7 (List.mem_of_getElem? (i := 70) rfl), lw_t7 (List.mem_of_getElem? (i := 71) rfl)⟩
theorem lw_p11 : lw_okq (⟨"java/util/TreeMap", "deleteEntry", "(Ljava/util/TreeMap$Entry;)V"⟩, 9) := ⟨⟨by decide +kernel, by decide +kernel⟩, lw_t1 (List.mem_of_getElem? (i := 82) rfl), lw_t7 (List.mem_of_getElem? (i := 101) rfl), lw_t7 (List.mem_of_getElem? (i := 102) rfl)⟩
theorem lw_p12 : lw_okq (⟨"java/util/TreeMap", "fixAfterDeletion", "(Ljava/util/TreeMap$Entry;)V"⟩, 9) := ⟨⟨by decide +kernel, by decide +kernel⟩, lw_t1 (List.mem_of_getElem? (i := 82) rfl), lw_t7 (List.mem_of_getElem? (i := 106) rfl), lw_t7 (List.mem_of_getElem? (i := 107) rfl)⟩
theorem lw_p13 : lw_okq (⟨"TissueBalloons", "keep", "()V"⟩, 11) := ⟨⟨by decide +kernel, by decide +kernel⟩, lw_t1 (List.mem_of_getElem? (i := 68) rfl), lw_t8 (List.mem_of_getElem? (i := 40) rfl), lw_t8 (List.mem_of_getElem? (i := 41) rfl)⟩
theorem lw_p14 : lw_okq (⟨"TissueBalloons", "tryOn", "()LTissueBalloons$Festival;"⟩, 11) := ⟨⟨by decide +kernel, by decide +kernel⟩, lw_t1 (List.mem_of_getElem? (i := 68) rfl), lw_t8 (List.mem_of_getElem? (i := 69) rfl), lw_t8 (List.mem_of_getElem? (i := 70) rfl)⟩
theorem lw_p15 : lw_okq (⟨"TissueBalloons", "becomes", "(I)I"⟩, 11) := ⟨⟨by decide +kernel, by decide +kernel⟩, lw_t1 (List.mem_of_getElem? (i := 68) rfl), lw_t8 (List.mem_of_getElem? (i := 134) rfl), lw_t8 (List.mem_of_getElem? (i := 135) rfl)⟩
def lw_privs_1 : List (MethodName × Nat) := [(⟨"java/util/ArrayDeque", "grow", "(I)V"⟩, 3), (⟨"java/util/ArrayDeque", "newCapacity", "(II)I"⟩, 3), (⟨"java/lang/Throwable", "fillInStackTrace", "(I)Ljava/lang/Throwable;"⟩, 6), (⟨"java/util/TreeMap", "put", "(Ljava/lang/Object;Ljava/lang/Object;Z)Ljava/lang/Object;"⟩, 9), (⟨"java/util/TreeMap", "addEntryToEmptyMap", "(Ljava/lang/Object;Ljava/lang/Object;)V"⟩, 9), (⟨"java/util/TreeMap", "addEntry", "(Ljava/lang/Object;Ljava/lang/Object;Ljava/util/TreeMap$Entry;Z)V"⟩, 9), (⟨"java/util/TreeMap", "fixAfterInsertion", "(Ljava/util/TreeMap$Entry;)V"⟩, 9), (⟨"java/util/TreeMap", "rotateLeft", "(Ljava/util/TreeMap$Entry;)V"⟩, 9), (⟨"java/util/TreeMap", "rotateRight", "(Ljava/util/TreeMap$Entry;)V"⟩, 9), (⟨"java/util/PriorityQueue", "siftDown", "(ILjava/lang/Object;)V"⟩, 4), (⟨"java/util/PriorityQueue", "siftUp", "(ILjava/lang/Object;)V"⟩, 4), (⟨"java/util/TreeMap", "deleteEntry", "(Ljava/util/TreeMap$Entry;)V"⟩, 9), (⟨"java/util/TreeMap", "fixAfterDeletion", "(Ljava/util/TreeMap$Entry;)V"⟩, 9), (⟨"TissueBalloons", "keep", "()V"⟩, 11), (⟨"TissueBalloons", "tryOn", "()LTissueBalloons$Festival;"⟩, 11), (⟨"TissueBalloons", "becomes", "(I)I"⟩, 11)]
theorem lw_r1 : ∀ q ∈ lw_privs_1, lw_okq q := List.forall_mem_cons.mpr ⟨lw_p0, List.forall_mem_cons.mpr ⟨lw_p1, List.forall_mem_cons.mpr ⟨lw_p2, List.forall_mem_cons.mpr ⟨lw_p3, List.forall_mem_cons.mpr ⟨lw_p4, List.forall_mem_cons.mpr ⟨lw_p5, List.forall_mem_cons.mpr ⟨lw_p6, List.forall_mem_cons.mpr ⟨lw_p7, List.forall_mem_cons.mpr ⟨lw_p8, List.forall_mem_cons.mpr ⟨lw_p9, List.forall_mem_cons.mpr ⟨lw_p10, List.forall_mem_cons.mpr ⟨lw_p11, List.forall_mem_cons.mpr ⟨lw_p12, List.forall_mem_cons.mpr ⟨lw_p13, List.forall_mem_cons.mpr ⟨lw_p14, List.forall_mem_cons.mpr ⟨lw_p15, fun _ h => absurd h List.not_mem_nil⟩⟩⟩⟩⟩⟩⟩⟩⟩⟩⟩⟩⟩⟩⟩⟩
theorem lw_p16 : lw_okq (⟨"TissueBalloons", "because", "(LTissueBalloons$Refused;)Ljava/lang/UnsupportedOperationException;"⟩, 11) := ⟨⟨by decide +kernel, by decide +kernel⟩, lw_t1 (List.mem_of_getElem? (i := 68) rfl), lw_t8 (List.mem_of_getElem? (i := 138) rfl), lw_t8 (List.mem_of_getElem? (i := 139) rfl)⟩
theorem lw_p17 : lw_okq (⟨"TissueBalloons", "roofThere", "(I)LTissueBalloons$Roof;"⟩, 11) := ⟨⟨by decide +kernel, by decide +kernel⟩, lw_t1 (List.mem_of_getElem? (i := 68) rfl), lw_t8 (List.mem_of_getElem? (i := 165) rfl), lw_t8 (List.mem_of_getElem? (i := 166) rfl)⟩
theorem lw_p18 : lw_okq (⟨"TissueBalloons", "balloonThat", "(I)LTissueBalloons$Balloon;"⟩, 11) := ⟨⟨by decide +kernel, by decide +kernel⟩, lw_t1 (List.mem_of_getElem? (i := 68) rfl), lw_t10 (List.mem_of_getElem? (i := 128) rfl), lw_t10 (List.mem_of_getElem? (i := 129) rfl)⟩
theorem lw_p19 : lw_okq (⟨"java/util/PriorityQueue", "grow", "(I)V"⟩, 4) := ⟨⟨by decide +kernel, by decide +kernel⟩, lw_t7 (List.mem_of_getElem? (i := 56) rfl), lw_t10 (List.mem_of_getElem? (i := 210) rfl), lw_t10 (List.mem_of_getElem? (i := 211) rfl)⟩
theorem lw_p20 : lw_okq (⟨"TissueBalloons$Festival", "planned", "()V"⟩, 11) := ⟨⟨by decide +kernel, by decide +kernel⟩, lw_t1 (List.mem_of_getElem? (i := 76) rfl), lw_t11 (List.mem_of_getElem? (i := 28) rfl), lw_t11 (List.mem_of_getElem? (i := 29) rfl)⟩
theorem lw_p21 : lw_okq (⟨"TissueBalloons$Festival", "fliesOn", "(LTissueBalloons$Balloon;)V"⟩, 11) := ⟨⟨by decide +kernel, by decide +kernel⟩, lw_t1 (List.mem_of_getElem? (i := 76) rfl), lw_t11 (List.mem_of_getElem? (i := 161) rfl), lw_t11 (List.mem_of_getElem? (i := 162) rfl)⟩
theorem lw_p22 : lw_okq (⟨"TissueBalloons$Festival", "lands", "(LTissueBalloons$Balloon;)V"⟩, 11) := ⟨⟨by decide +kernel, by decide +kernel⟩, lw_t1 (List.mem_of_getElem? (i := 76) rfl), lw_t11 (List.mem_of_getElem? (i := 165) rfl), lw_t11 (List.mem_of_getElem? (i := 166) rfl)⟩
theorem lw_p23 : lw_okq (⟨"TissueBalloons$Festival", "tears", "(LTissueBalloons$Balloon;)V"⟩, 11) := ⟨⟨by decide +kernel, by decide +kernel⟩, lw_t1 (List.mem_of_getElem? (i := 76) rfl), lw_t11 (List.mem_of_getElem? (i := 178) rfl), lw_t11 (List.mem_of_getElem? (i := 179) rfl)⟩
theorem lw_p24 : lw_okq (⟨"TissueBalloons$Reader", "order", "()V"⟩, 6) := ⟨⟨by decide +kernel, by decide +kernel⟩, lw_t2 (List.mem_of_getElem? (i := 75) rfl), lw_t12 (List.mem_of_getElem? (i := 49) rfl), lw_t12 (List.mem_of_getElem? (i := 50) rfl)⟩
theorem lw_p25 : lw_okq (⟨"TissueBalloons$Reader", "skip", "(I)Z"⟩, 6) := ⟨⟨by decide +kernel, by decide +kernel⟩, lw_t2 (List.mem_of_getElem? (i := 75) rfl), lw_t12 (List.mem_of_getElem? (i := 53) rfl), lw_t12 (List.mem_of_getElem? (i := 54) rfl)⟩
theorem lw_p26 : lw_okq (⟨"TissueBalloons$Reader", "here", "()I"⟩, 6) := ⟨⟨by decide +kernel, by decide +kernel⟩, lw_t2 (List.mem_of_getElem? (i := 75) rfl), lw_t12 (List.mem_of_getElem? (i := 57) rfl), lw_t12 (List.mem_of_getElem? (i := 58) rfl)⟩
theorem lw_p27 : lw_okq (⟨"TissueBalloons$Reader", "digit", "()I"⟩, 6) := ⟨⟨by decide +kernel, by decide +kernel⟩, lw_t2 (List.mem_of_getElem? (i := 75) rfl), lw_t12 (List.mem_of_getElem? (i := 72) rfl), lw_t12 (List.mem_of_getElem? (i := 73) rfl)⟩
theorem lw_p28 : lw_okq (⟨"TissueBalloons$Reader", "must", "(I)V"⟩, 6) := ⟨⟨by decide +kernel, by decide +kernel⟩, lw_t2 (List.mem_of_getElem? (i := 75) rfl), lw_t12 (List.mem_of_getElem? (i := 96) rfl), lw_t12 (List.mem_of_getElem? (i := 97) rfl)⟩
theorem lw_p29 : lw_okq (⟨"TissueBalloons$Reader", "signed", "()I"⟩, 6) := ⟨⟨by decide +kernel, by decide +kernel⟩, lw_t2 (List.mem_of_getElem? (i := 75) rfl), lw_t12 (List.mem_of_getElem? (i := 100) rfl), lw_t12 (List.mem_of_getElem? (i := 101) rfl)⟩
theorem lw_p30 : lw_okq (⟨"TissueBalloons$Reader", "number", "()I"⟩, 6) := ⟨⟨by decide +kernel, by decide +kernel⟩, lw_t2 (List.mem_of_getElem? (i := 75) rfl), lw_t12 (List.mem_of_getElem? (i := 104) rfl), lw_t12 (List.mem_of_getElem? (i := 105) rfl)⟩
theorem lw_p31 : lw_okq (⟨"TissueBalloonsModel", "begins", "()V"⟩, 21) := ⟨⟨by decide +kernel, by decide +kernel⟩, lw_t13 (List.mem_of_getElem? (i := 131) rfl), lw_t13 (List.mem_of_getElem? (i := 209) rfl), lw_t13 (List.mem_of_getElem? (i := 210) rfl)⟩
def lw_privs_2 : List (MethodName × Nat) := [(⟨"TissueBalloons", "because", "(LTissueBalloons$Refused;)Ljava/lang/UnsupportedOperationException;"⟩, 11), (⟨"TissueBalloons", "roofThere", "(I)LTissueBalloons$Roof;"⟩, 11), (⟨"TissueBalloons", "balloonThat", "(I)LTissueBalloons$Balloon;"⟩, 11), (⟨"java/util/PriorityQueue", "grow", "(I)V"⟩, 4), (⟨"TissueBalloons$Festival", "planned", "()V"⟩, 11), (⟨"TissueBalloons$Festival", "fliesOn", "(LTissueBalloons$Balloon;)V"⟩, 11), (⟨"TissueBalloons$Festival", "lands", "(LTissueBalloons$Balloon;)V"⟩, 11), (⟨"TissueBalloons$Festival", "tears", "(LTissueBalloons$Balloon;)V"⟩, 11), (⟨"TissueBalloons$Reader", "order", "()V"⟩, 6), (⟨"TissueBalloons$Reader", "skip", "(I)Z"⟩, 6), (⟨"TissueBalloons$Reader", "here", "()I"⟩, 6), (⟨"TissueBalloons$Reader", "digit", "()I"⟩, 6), (⟨"TissueBalloons$Reader", "must", "(I)V"⟩, 6), (⟨"TissueBalloons$Reader", "signed", "()I"⟩, 6), (⟨"TissueBalloons$Reader", "number", "()I"⟩, 6), (⟨"TissueBalloonsModel", "begins", "()V"⟩, 21)]
theorem lw_r2 : ∀ q ∈ lw_privs_2, lw_okq q := List.forall_mem_cons.mpr ⟨lw_p16, List.forall_mem_cons.mpr ⟨lw_p17, List.forall_mem_cons.mpr ⟨lw_p18, List.forall_mem_cons.mpr ⟨lw_p19, List.forall_mem_cons.mpr ⟨lw_p20, List.forall_mem_cons.mpr ⟨lw_p21, List.forall_mem_cons.mpr ⟨lw_p22, List.forall_mem_cons.mpr ⟨lw_p23, List.forall_mem_cons.mpr ⟨lw_p24, List.forall_mem_cons.mpr ⟨lw_p25, List.forall_mem_cons.mpr ⟨lw_p26, List.forall_mem_cons.mpr ⟨lw_p27, List.forall_mem_cons.mpr ⟨lw_p28, List.forall_mem_cons.mpr ⟨lw_p29, List.forall_mem_cons.mpr ⟨lw_p30, List.forall_mem_cons.mpr ⟨lw_p31, fun _ h => absurd h List.not_mem_nil⟩⟩⟩⟩⟩⟩⟩⟩⟩⟩⟩⟩⟩⟩⟩⟩
theorem lw_p32 : lw_okq (⟨"TissueBalloonsModel", "no", "(I)I"⟩, 21) := ⟨⟨by decide +kernel, by decide +kernel⟩, lw_t13 (List.mem_of_getElem? (i := 131) rfl), lw_t13 (List.mem_of_getElem? (i := 222) rfl), lw_t13 (List.mem_of_getElem? (i := 223) rfl)⟩
theorem lw_p33 : lw_okq (⟨"TissueBalloonsModel", "sets", "(II)I"⟩, 21) := ⟨⟨by decide +kernel, by decide +kernel⟩, lw_t13 (List.mem_of_getElem? (i := 131) rfl), lw_t13 (List.mem_of_getElem? (i := 229) rfl), lw_t13 (List.mem_of_getElem? (i := 230) rfl)⟩
theorem lw_p34 : lw_okq (⟨"TissueBalloonsModel", "keeps", "(I)I"⟩, 21) := ⟨⟨by decide +kernel, by decide +kernel⟩, lw_t13 (List.mem_of_getElem? (i := 131) rfl), lw_t13 (List.mem_of_getElem? (i := 233) rfl), lw_t13 (List.mem_of_getElem? (i := 234) rfl)⟩
theorem lw_p35 : lw_okq (⟨"TissueBalloonsModel", "roofAtPlace", "(I)I"⟩, 21) := ⟨⟨by decide +kernel, by decide +kernel⟩, lw_t13 (List.mem_of_getElem? (i := 131) rfl), lw_t14 (List.mem_of_getElem? (i := 8) rfl), lw_t14 (List.mem_of_getElem? (i := 9) rfl)⟩
theorem lw_p36 : lw_okq (⟨"TissueBalloonsModel", "rv", "(II)I"⟩, 21) := ⟨⟨by decide +kernel, by decide +kernel⟩, lw_t13 (List.mem_of_getElem? (i := 131) rfl), lw_t14 (List.mem_of_getElem? (i := 12) rfl), lw_t14 (List.mem_of_getElem? (i := 13) rfl)⟩
theorem lw_p37 : lw_okq (⟨"TissueBalloonsModel", "isBad", "(II)Z"⟩, 21) := ⟨⟨by decide +kernel, by decide +kernel⟩, lw_t13 (List.mem_of_getElem? (i := 131) rfl), lw_t14 (List.mem_of_getElem? (i := 16) rfl), lw_t14 (List.mem_of_getElem? (i := 17) rfl)⟩
theorem lw_p38 : lw_okq (⟨"TissueBalloonsModel", "refused", "(I)I"⟩, 21) := ⟨⟨by decide +kernel, by decide +kernel⟩, lw_t13 (List.mem_of_getElem? (i := 131) rfl), lw_t14 (List.mem_of_getElem? (i := 20) rfl), lw_t14 (List.mem_of_getElem? (i := 21) rfl)⟩
theorem lw_p39 : lw_okq (⟨"TissueBalloonsModel", "lr", "(III)V"⟩, 21) := ⟨⟨by decide +kernel, by decide +kernel⟩, lw_t13 (List.mem_of_getElem? (i := 131) rfl), lw_t14 (List.mem_of_getElem? (i := 24) rfl), lw_t14 (List.mem_of_getElem? (i := 25) rfl)⟩
theorem lw_p40 : lw_okq (⟨"TissueBalloonsModel", "watches", "(IZ)I"⟩, 21) := ⟨⟨by decide +kernel, by decide +kernel⟩, lw_t13 (List.mem_of_getElem? (i := 131) rfl), lw_t14 (List.mem_of_getElem? (i := 44) rfl), lw_t14 (List.mem_of_getElem? (i := 45) rfl)⟩
theorem lw_p41 : lw_okq (⟨"TissueBalloonsModel", "roofsWith", "(I)I"⟩, 21) := ⟨⟨by decide +kernel, by decide +kernel⟩, lw_t13 (List.mem_of_getElem? (i := 131) rfl), lw_t14 (List.mem_of_getElem? (i := 48) rfl), lw_t14 (List.mem_of_getElem? (i := 49) rfl)⟩
theorem lw_p42 : lw_okq (⟨"TissueBalloonsModel", "isRefusedWet", "(I)Z"⟩, 21) := ⟨⟨by decide +kernel, by decide +kernel⟩, lw_t13 (List.mem_of_getElem? (i := 131) rfl), lw_t14 (List.mem_of_getElem? (i := 56) rfl), lw_t14 (List.mem_of_getElem? (i := 57) rfl)⟩
theorem lw_p43 : lw_okq (⟨"TissueBalloonsModel", "wets", "(II)I"⟩, 21) := ⟨⟨by decide +kernel, by decide +kernel⟩, lw_t13 (List.mem_of_getElem? (i := 131) rfl), lw_t14 (List.mem_of_getElem? (i := 60) rfl), lw_t14 (List.mem_of_getElem? (i := 61) rfl)⟩
theorem lw_p44 : lw_okq (⟨"TissueBalloonsModel", "isFlying", "(I)Z"⟩, 21) := ⟨⟨by decide +kernel, by decide +kernel⟩, lw_t13 (List.mem_of_getElem? (i := 131) rfl), lw_t14 (List.mem_of_getElem? (i := 71) rfl), lw_t14 (List.mem_of_getElem? (i := 72) rfl)⟩
theorem lw_p45 : lw_okq (⟨"TissueBalloonsModel", "bv", "(II)I"⟩, 21) := ⟨⟨by decide +kernel, by decide +kernel⟩, lw_t13 (List.mem_of_getElem? (i := 131) rfl), lw_t14 (List.mem_of_getElem? (i := 75) rfl), lw_t14 (List.mem_of_getElem? (i := 76) rfl)⟩
theorem lw_p46 : lw_okq (⟨"TissueBalloonsModel", "lb", "(III)V"⟩, 21) := ⟨⟨by decide +kernel, by decide +kernel⟩, lw_t13 (List.mem_of_getElem? (i := 131) rfl), lw_t14 (List.mem_of_getElem? (i := 83) rfl), lw_t14 (List.mem_of_getElem? (i := 84) rfl)⟩
theorem lw_p47 : lw_okq (⟨"TissueBalloonsModel", "lc", "(III)V"⟩, 21) := ⟨⟨by decide +kernel, by decide +kernel⟩, lw_t13 (List.mem_of_getElem? (i := 131) rfl), lw_t14 (List.mem_of_getElem? (i := 91) rfl), lw_t14 (List.mem_of_getElem? (i := 92) rfl)⟩
def lw_privs_3 : List (MethodName × Nat) := [(⟨"TissueBalloonsModel", "no", "(I)I"⟩, 21), (⟨"TissueBalloonsModel", "sets", "(II)I"⟩, 21), (⟨"TissueBalloonsModel", "keeps", "(I)I"⟩, 21), (⟨"TissueBalloonsModel", "roofAtPlace", "(I)I"⟩, 21), (⟨"TissueBalloonsModel", "rv", "(II)I"⟩, 21), (⟨"TissueBalloonsModel", "isBad", "(II)Z"⟩, 21), (⟨"TissueBalloonsModel", "refused", "(I)I"⟩, 21), (⟨"TissueBalloonsModel", "lr", "(III)V"⟩, 21), (⟨"TissueBalloonsModel", "watches", "(IZ)I"⟩, 21), (⟨"TissueBalloonsModel", "roofsWith", "(I)I"⟩, 21), (⟨"TissueBalloonsModel", "isRefusedWet", "(I)Z"⟩, 21), (⟨"TissueBalloonsModel", "wets", "(II)I"⟩, 21), (⟨"TissueBalloonsModel", "isFlying", "(I)Z"⟩, 21), (⟨"TissueBalloonsModel", "bv", "(II)I"⟩, 21), (⟨"TissueBalloonsModel", "lb", "(III)V"⟩, 21), (⟨"TissueBalloonsModel", "lc", "(III)V"⟩, 21)]
theorem lw_r3 : ∀ q ∈ lw_privs_3, lw_okq q := List.forall_mem_cons.mpr ⟨lw_p32, List.forall_mem_cons.mpr ⟨lw_p33, List.forall_mem_cons.mpr ⟨lw_p34, List.forall_mem_cons.mpr ⟨lw_p35, List.forall_mem_cons.mpr ⟨lw_p36, List.forall_mem_cons.mpr ⟨lw_p37, List.forall_mem_cons.mpr ⟨lw_p38, List.forall_mem_cons.mpr ⟨lw_p39, List.forall_mem_cons.mpr ⟨lw_p40, List.forall_mem_cons.mpr ⟨lw_p41, List.forall_mem_cons.mpr ⟨lw_p42, List.forall_mem_cons.mpr ⟨lw_p43, List.forall_mem_cons.mpr ⟨lw_p44, List.forall_mem_cons.mpr ⟨lw_p45, List.forall_mem_cons.mpr ⟨lw_p46, List.forall_mem_cons.mpr ⟨lw_p47, fun _ h => absurd h List.not_mem_nil⟩⟩⟩⟩⟩⟩⟩⟩⟩⟩⟩⟩⟩⟩⟩⟩
theorem lw_p48 : lw_okq (⟨"TissueBalloonsModel", "isCrew", "(I)Z"⟩, 21) := ⟨⟨by decide +kernel, by decide +kernel⟩, lw_t13 (List.mem_of_getElem? (i := 131) rfl), lw_t14 (List.mem_of_getElem? (i := 99) rfl), lw_t14 (List.mem_of_getElem? (i := 100) rfl)⟩
theorem lw_p49 : lw_okq (⟨"TissueBalloonsModel", "cv", "(II)I"⟩, 21) := ⟨⟨by decide +kernel, by decide +kernel⟩, lw_t13 (List.mem_of_getElem? (i := 131) rfl), lw_t14 (List.mem_of_getElem? (i := 103) rfl), lw_t14 (List.mem_of_getElem? (i := 104) rfl)⟩
theorem lw_p50 : lw_okq (⟨"TissueBalloonsModel", "isBalloon", "(I)Z"⟩, 21) := ⟨⟨by decide +kernel, by decide +kernel⟩, lw_t13 (List.mem_of_getElem? (i := 131) rfl), lw_t14 (List.mem_of_getElem? (i := 111) rfl), lw_t14 (List.mem_of_getElem? (i := 112) rfl)⟩
theorem lw_p51 : lw_okq (⟨"TissueBalloonsModel", "isRefusedLaunch", "(II)Z"⟩, 21) := ⟨⟨by decide +kernel, by decide +kernel⟩, lw_t13 (List.mem_of_getElem? (i := 131) rfl), lw_t14 (List.mem_of_getElem? (i := 115) rfl), lw_t14 (List.mem_of_getElem? (i := 116) rfl)⟩
theorem lw_p52 : lw_okq (⟨"TissueBalloonsModel", "launches", "(II)I"⟩, 21) := ⟨⟨by decide +kernel, by decide +kernel⟩, lw_t13 (List.mem_of_getElem? (i := 131) rfl), lw_t14 (List.mem_of_getElem? (i := 119) rfl), lw_t14 (List.mem_of_getElem? (i := 120) rfl)⟩
theorem lw_p53 : lw_okq (⟨"TissueBalloonsModel", "isRefusedPlan", "(II)Z"⟩, 21) := ⟨⟨by decide +kernel, by decide +kernel⟩, lw_t13 (List.mem_of_getElem? (i := 131) rfl), lw_t14 (List.mem_of_getElem? (i := 127) rfl), lw_t14 (List.mem_of_getElem? (i := 128) rfl)⟩
theorem lw_p54 : lw_okq (⟨"TissueBalloonsModel", "planOf", "(I)I"⟩, 21) := ⟨⟨by decide +kernel, by decide +kernel⟩, lw_t13 (List.mem_of_getElem? (i := 131) rfl), lw_t14 (List.mem_of_getElem? (i := 131) rfl), lw_t14 (List.mem_of_getElem? (i := 132) rfl)⟩
theorem lw_p55 : lw_okq (⟨"TissueBalloonsModel", "pv", "(II)I"⟩, 21) := ⟨⟨by decide +kernel, by decide +kernel⟩, lw_t13 (List.mem_of_getElem? (i := 131) rfl), lw_t14 (List.mem_of_getElem? (i := 135) rfl), lw_t14 (List.mem_of_getElem? (i := 136) rfl)⟩
theorem lw_p56 : lw_okq (⟨"TissueBalloonsModel", "plans", "(III)I"⟩, 21) := ⟨⟨by decide +kernel, by decide +kernel⟩, lw_t13 (List.mem_of_getElem? (i := 131) rfl), lw_t14 (List.mem_of_getElem? (i := 139) rfl), lw_t14 (List.mem_of_getElem? (i := 140) rfl)⟩
theorem lw_p57 : lw_okq (⟨"TissueBalloonsModel", "movesPlan", "(II)V"⟩, 21) := ⟨⟨by decide +kernel, by decide +kernel⟩, lw_t13 (List.mem_of_getElem? (i := 131) rfl), lw_t14 (List.mem_of_getElem? (i := 143) rfl), lw_t14 (List.mem_of_getElem? (i := 144) rfl)⟩
theorem lw_p58 : lw_okq (⟨"TissueBalloonsModel", "lp", "(III)V"⟩, 21) := ⟨⟨by decide +kernel, by decide +kernel⟩, lw_t13 (List.mem_of_getElem? (i := 131) rfl), lw_t14 (List.mem_of_getElem? (i := 147) rfl), lw_t14 (List.mem_of_getElem? (i := 148) rfl)⟩
theorem lw_p59 : lw_okq (⟨"TissueBalloonsModel", "planGoes", "(I)V"⟩, 21) := ⟨⟨by decide +kernel, by decide +kernel⟩, lw_t13 (List.mem_of_getElem? (i := 131) rfl), lw_t14 (List.mem_of_getElem? (i := 155) rfl), lw_t14 (List.mem_of_getElem? (i := 156) rfl)⟩
theorem lw_p60 : lw_okq (⟨"TissueBalloonsModel", "goes", "(I)I"⟩, 21) := ⟨⟨by decide +kernel, by decide +kernel⟩, lw_t13 (List.mem_of_getElem? (i := 131) rfl), lw_t14 (List.mem_of_getElem? (i := 182) rfl), lw_t14 (List.mem_of_getElem? (i := 183) rfl)⟩
theorem lw_p61 : lw_okq (⟨"TissueBalloonsModel", "goesMinute", "()I"⟩, 21) := ⟨⟨by decide +kernel, by decide +kernel⟩, lw_t13 (List.mem_of_getElem? (i := 131) rfl), lw_t14 (List.mem_of_getElem? (i := 186) rfl), lw_t14 (List.mem_of_getElem? (i := 187) rfl)⟩
theorem lw_p62 : lw_okq (⟨"TissueBalloonsModel", "plansOfNow", "()V"⟩, 21) := ⟨⟨by decide +kernel, by decide +kernel⟩, lw_t13 (List.mem_of_getElem? (i := 131) rfl), lw_t14 (List.mem_of_getElem? (i := 190) rfl), lw_t14 (List.mem_of_getElem? (i := 191) rfl)⟩
theorem lw_p63 : lw_okq (⟨"TissueBalloonsModel", "fliesOn", "(I)V"⟩, 21) := ⟨⟨by decide +kernel, by decide +kernel⟩, lw_t13 (List.mem_of_getElem? (i := 131) rfl), lw_t14 (List.mem_of_getElem? (i := 194) rfl), lw_t14 (List.mem_of_getElem? (i := 195) rfl)⟩
def lw_privs_4 : List (MethodName × Nat) := [(⟨"TissueBalloonsModel", "isCrew", "(I)Z"⟩, 21), (⟨"TissueBalloonsModel", "cv", "(II)I"⟩, 21), (⟨"TissueBalloonsModel", "isBalloon", "(I)Z"⟩, 21), (⟨"TissueBalloonsModel", "isRefusedLaunch", "(II)Z"⟩, 21), (⟨"TissueBalloonsModel", "launches", "(II)I"⟩, 21), (⟨"TissueBalloonsModel", "isRefusedPlan", "(II)Z"⟩, 21), (⟨"TissueBalloonsModel", "planOf", "(I)I"⟩, 21), (⟨"TissueBalloonsModel", "pv", "(II)I"⟩, 21), (⟨"TissueBalloonsModel", "plans", "(III)I"⟩, 21), (⟨"TissueBalloonsModel", "movesPlan", "(II)V"⟩, 21), (⟨"TissueBalloonsModel", "lp", "(III)V"⟩, 21), (⟨"TissueBalloonsModel", "planGoes", "(I)V"⟩, 21), (⟨"TissueBalloonsModel", "goes", "(I)I"⟩, 21), (⟨"TissueBalloonsModel", "goesMinute", "()I"⟩, 21), (⟨"TissueBalloonsModel", "plansOfNow", "()V"⟩, 21), (⟨"TissueBalloonsModel", "fliesOn", "(I)V"⟩, 21)]
theorem lw_r4 : ∀ q ∈ lw_privs_4, lw_okq q := List.forall_mem_cons.mpr ⟨lw_p48, List.forall_mem_cons.mpr ⟨lw_p49, List.forall_mem_cons.mpr ⟨lw_p50, List.forall_mem_cons.mpr ⟨lw_p51, List.forall_mem_cons.mpr ⟨lw_p52, List.forall_mem_cons.mpr ⟨lw_p53, List.forall_mem_cons.mpr ⟨lw_p54, List.forall_mem_cons.mpr ⟨lw_p55, List.forall_mem_cons.mpr ⟨lw_p56, List.forall_mem_cons.mpr ⟨lw_p57, List.forall_mem_cons.mpr ⟨lw_p58, List.forall_mem_cons.mpr ⟨lw_p59, List.forall_mem_cons.mpr ⟨lw_p60, List.forall_mem_cons.mpr ⟨lw_p61, List.forall_mem_cons.mpr ⟨lw_p62, List.forall_mem_cons.mpr ⟨lw_p63, fun _ h => absurd h List.not_mem_nil⟩⟩⟩⟩⟩⟩⟩⟩⟩⟩⟩⟩⟩⟩⟩⟩
theorem lw_p64 : lw_okq (⟨"TissueBalloonsModel", "lands", "(I)V"⟩, 21) := ⟨⟨by decide +kernel, by decide +kernel⟩, lw_t13 (List.mem_of_getElem? (i := 131) rfl), lw_t14 (List.mem_of_getElem? (i := 201) rfl), lw_t14 (List.mem_of_getElem? (i := 202) rfl)⟩
theorem lw_p65 : lw_okq (⟨"TissueBalloonsModel", "ends", "(II)V"⟩, 21) := ⟨⟨by decide +kernel, by decide +kernel⟩, lw_t13 (List.mem_of_getElem? (i := 131) rfl), lw_t14 (List.mem_of_getElem? (i := 205) rfl), lw_t14 (List.mem_of_getElem? (i := 206) rfl)⟩
theorem lw_p66 : lw_okq (⟨"TissueBalloonsModel", "drifts", "(I)V"⟩, 21) := ⟨⟨by decide +kernel, by decide +kernel⟩, lw_t13 (List.mem_of_getElem? (i := 131) rfl), lw_t14 (List.mem_of_getElem? (i := 209) rfl), lw_t14 (List.mem_of_getElem? (i := 210) rfl)⟩
theorem lw_p67 : lw_okq (⟨"TissueBalloonsModel", "reads", "()V"⟩, 21) := ⟨⟨by decide +kernel, by decide +kernel⟩, lw_t13 (List.mem_of_getElem? (i := 131) rfl), lw_t14 (List.mem_of_getElem? (i := 233) rfl), lw_t14 (List.mem_of_getElem? (i := 234) rfl)⟩
theorem lw_p68 : lw_okq (⟨"TissueBalloonsModel", "order", "()V"⟩, 21) := ⟨⟨by decide +kernel, by decide +kernel⟩, lw_t13 (List.mem_of_getElem? (i := 131) rfl), lw_t14 (List.mem_of_getElem? (i := 237) rfl), lw_t14 (List.mem_of_getElem? (i := 238) rfl)⟩
theorem lw_p69 : lw_okq (⟨"TissueBalloonsModel", "next", "()I"⟩, 21) := ⟨⟨by decide +kernel, by decide +kernel⟩, lw_t13 (List.mem_of_getElem? (i := 131) rfl), lw_t15 (List.mem_of_getElem? (i := 1) rfl), lw_t15 (List.mem_of_getElem? (i := 2) rfl)⟩
theorem lw_p70 : lw_okq (⟨"TissueBalloonsModel", "digit", "()I"⟩, 21) := ⟨⟨by decide +kernel, by decide +kernel⟩, lw_t13 (List.mem_of_getElem? (i := 131) rfl), lw_t15 (List.mem_of_getElem? (i := 5) rfl), lw_t15 (List.mem_of_getElem? (i := 6) rfl)⟩
theorem lw_p71 : lw_okq (⟨"TissueBalloonsModel", "number", "()I"⟩, 21) := ⟨⟨by decide +kernel, by decide +kernel⟩, lw_t13 (List.mem_of_getElem? (i := 131) rfl), lw_t15 (List.mem_of_getElem? (i := 9) rfl), lw_t15 (List.mem_of_getElem? (i := 10) rfl)⟩
theorem lw_p72 : lw_okq (⟨"TissueBalloonsModel", "takes", "(I)V"⟩, 21) := ⟨⟨by decide +kernel, by decide +kernel⟩, lw_t13 (List.mem_of_getElem? (i := 131) rfl), lw_t15 (List.mem_of_getElem? (i := 13) rfl), lw_t15 (List.mem_of_getElem? (i := 14) rfl)⟩
theorem lw_p73 : lw_okq (⟨"TissueBalloonsModel", "drift", "()I"⟩, 21) := ⟨⟨by decide +kernel, by decide +kernel⟩, lw_t13 (List.mem_of_getElem? (i := 131) rfl), lw_t15 (List.mem_of_getElem? (i := 17) rfl), lw_t15 (List.mem_of_getElem? (i := 18) rfl)⟩
theorem lw_p74 : lw_okq (⟨"TissueBalloonsModel", "does", "(I)I"⟩, 21) := ⟨⟨by decide +kernel, by decide +kernel⟩, lw_t13 (List.mem_of_getElem? (i := 131) rfl), lw_t15 (List.mem_of_getElem? (i := 21) rfl), lw_t15 (List.mem_of_getElem? (i := 22) rfl)⟩
theorem lw_p75 : lw_okq (⟨"TissueBalloonsModel", "inState", "(I)I"⟩, 21) := ⟨⟨by decide +kernel, by decide +kernel⟩, lw_t13 (List.mem_of_getElem? (i := 131) rfl), lw_t15 (List.mem_of_getElem? (i := 37) rfl), lw_t15 (List.mem_of_getElem? (i := 38) rfl)⟩
theorem lw_p76 : lw_okq (⟨"TissueBalloonsModel", "busy", "()I"⟩, 21) := ⟨⟨by decide +kernel, by decide +kernel⟩, lw_t13 (List.mem_of_getElem? (i := 131) rfl), lw_t15 (List.mem_of_getElem? (i := 41) rfl), lw_t15 (List.mem_of_getElem? (i := 42) rfl)⟩
def lw_privs_5 : List (MethodName × Nat) := [(⟨"TissueBalloonsModel", "lands", "(I)V"⟩, 21), (⟨"TissueBalloonsModel", "ends", "(II)V"⟩, 21), (⟨"TissueBalloonsModel", "drifts", "(I)V"⟩, 21), (⟨"TissueBalloonsModel", "reads", "()V"⟩, 21), (⟨"TissueBalloonsModel", "order", "()V"⟩, 21), (⟨"TissueBalloonsModel", "next", "()I"⟩, 21), (⟨"TissueBalloonsModel", "digit", "()I"⟩, 21), (⟨"TissueBalloonsModel", "number", "()I"⟩, 21), (⟨"TissueBalloonsModel", "takes", "(I)V"⟩, 21), (⟨"TissueBalloonsModel", "drift", "()I"⟩, 21), (⟨"TissueBalloonsModel", "does", "(I)I"⟩, 21), (⟨"TissueBalloonsModel", "inState", "(I)I"⟩, 21), (⟨"TissueBalloonsModel", "busy", "()I"⟩, 21)]
theorem lw_r5 : ∀ q ∈ lw_privs_5, lw_okq q := List.forall_mem_cons.mpr ⟨lw_p64, List.forall_mem_cons.mpr ⟨lw_p65, List.forall_mem_cons.mpr ⟨lw_p66, List.forall_mem_cons.mpr ⟨lw_p67, List.forall_mem_cons.mpr ⟨lw_p68, List.forall_mem_cons.mpr ⟨lw_p69, List.forall_mem_cons.mpr ⟨lw_p70, List.forall_mem_cons.mpr ⟨lw_p71, List.forall_mem_cons.mpr ⟨lw_p72, List.forall_mem_cons.mpr ⟨lw_p73, List.forall_mem_cons.mpr ⟨lw_p74, List.forall_mem_cons.mpr ⟨lw_p75, List.forall_mem_cons.mpr ⟨lw_p76, fun _ h => absurd h List.not_mem_nil⟩⟩⟩⟩⟩⟩⟩⟩⟩⟩⟩⟩⟩
def lw_privs : List (MethodName × Nat) := lw_privs_1 ++ (lw_privs_2 ++ (lw_privs_3 ++ (lw_privs_4 ++ (lw_privs_5))))
def lw_tbl : List Cond := k2_sels lw_privs ++ tables_1
theorem lw_privs_ok : ∀ q ∈ lw_privs, lw_okq q := by
  show ∀ q ∈ lw_privs_1 ++ (lw_privs_2 ++ (lw_privs_3 ++ (lw_privs_4 ++ (lw_privs_5)))), lw_okq q
  exact List.forall_mem_append.mpr ⟨lw_r1, List.forall_mem_append.mpr ⟨lw_r2, List.forall_mem_append.mpr ⟨lw_r3, List.forall_mem_append.mpr ⟨lw_r4, lw_r5⟩⟩⟩⟩
-- ===== ONE list of words for every method: the tables' words that hold all through a run =====
def lw_all : List Cond := lw_tbl.filter goodWord
/-- a word of the tables by its place: claim/WORDS.tsv -/
theorem lw_w {w : Cond} (i : Nat) (h : lw_tbl[i]? = some w) (g : goodWord w = true) : w ∈ lw_all := List.mem_filter.mpr ⟨List.mem_of_getElem? h, g⟩
theorem lw_all_tbl {w : Cond} (h : w ∈ lw_all) : w ∈ lw_tbl := (List.mem_filter.mp h).1
theorem lw_self : GoodIn lw_all lw_all := fun w h => ⟨h, good_of_word (List.mem_filter.mp h).2⟩
/-- a class's field words, by their places -/
theorem lw_in (ws : List Cond) (ps : List Nat) (hp : ws = ps.filterMap (fun i => lw_tbl[i]?)) (hg : ws.all goodWord = true) : ∀ w ∈ ws, w ∈ lw_all := by
  intro w h
  have h1 := List.all_eq_true.mp hg w h
  rw [hp] at h
  obtain ⟨i, -, hi⟩ := List.mem_filterMap.mp h
  exact lw_w i hi h1
/-- the words of a contract for the method y with code b, L locals, answer r -/
abbrev ws_ (y : MethodName) (b : ByteArray) (L : Nat) (r : Option FieldType) : List Cond := Cond.code y b L r :: lw_all
theorem lw_meth {y : MethodName} {b : ByteArray} {L : Nat} {r : Option FieldType} (h : Cond.code y b L r ∈ lw_all) : GoodIn lw_all (ws_ y b L r) := by
  intro w hw
  rcases List.mem_cons.mp hw with e | e
  · rw [e]
    exact lw_self _ h
  · exact lw_self _ e
theorem lw_app {a c : List Cond} (ha : ∀ w ∈ a, w ∈ lw_all) (hc : GoodIn lw_all c) : GoodIn lw_all (a ++ c) := by
  intro w hw
  rcases List.mem_append.mp hw with e | e
  · exact lw_self w (ha w e)
  · exact hc w e
/-- what a call through an object asks: cwV n hts (lw_V ..) -/
theorem lw_V {own : String} {idx : Nat} {C : String} {y : MethodName} {b : ByteArray} {L : Nat} {r : Option FieldType} (h1 : Cond.methodLink own idx y ∈ lw_all) (h2 : Cond.instanceMethod y ∈ lw_all) (h3 : Cond.selects C y y ∈ lw_all) (h4 : Cond.initialized C ∈ lw_all) (h5 : Cond.code y b L r ∈ lw_all) : GoodIn lw_all (wsV own idx C y (ws_ y b L r)) := by
  refine lw_app ?_ (lw_meth h5)
  intro w hw
  simp only [List.mem_cons, List.not_mem_nil, or_false] at hw
  rcases hw with e | e | e | e
  · rw [e]; exact h1
  · rw [e]; exact h2
  · rw [e]; exact h3
  · rw [e]; exact h4
/-- what a static call asks: va_cwS n hts (lw_S ..) -/
theorem lw_S {own : String} {idx : Nat} {y : MethodName} {b : ByteArray} {L : Nat} {r : Option FieldType} (h1 : Cond.methodLink own idx y ∈ lw_all) (h2 : Cond.static y ∈ lw_all) (h3 : Cond.initialized y.cls ∈ lw_all) (h4 : Cond.code y b L r ∈ lw_all) : GoodIn lw_all (va_wsS own idx y (ws_ y b L r)) := by
  refine lw_app ?_ (lw_meth h4)
  intro w hw
  simp only [List.mem_cons, List.not_mem_nil, or_false] at hw
  rcases hw with e | e | e
  · rw [e]; exact h1
  · rw [e]; exact h2
  · rw [e]; exact h3
/-- the words of a contract for a method WITH HANDLERS (hh: its table) -/
abbrev wsW_ (y : MethodName) (b : ByteArray) (L : Nat) (r : Option FieldType) (hh : List (Nat × Nat × Nat × Nat)) : List Cond := Cond.codeWith y b L r hh :: lw_all
theorem lw_methW {y : MethodName} {b : ByteArray} {L : Nat} {r : Option FieldType} {hh : List (Nat × Nat × Nat × Nat)} (h : Cond.codeWith y b L r hh ∈ lw_all) : GoodIn lw_all (wsW_ y b L r hh) := by
  intro w hw
  rcases List.mem_cons.mp hw with e | e
  · rw [e]
    exact lw_self _ h
  · exact lw_self _ e
/-- any list of words by their places (lw_in), good -/
theorem lw_good {ws : List Cond} (h : ∀ w ∈ ws, w ∈ lw_all) : GoodIn lw_all ws := fun w hw => lw_self w (h w hw)
/-- what a call of a method with handlers asks: vx_cwVW n hts (lw_VW ..), vx_cwSW n hts (lw_SW ..) -/
theorem lw_VW {own : String} {idx : Nat} {C : String} {y : MethodName} {b : ByteArray} {L : Nat} {r : Option FieldType} {hh : List (Nat × Nat × Nat × Nat)} (h1 : Cond.methodLink own idx y ∈ lw_all) (h2 : Cond.instanceMethod y ∈ lw_all) (h3 : Cond.selects C y y ∈ lw_all) (h4 : Cond.initialized C ∈ lw_all) (h5 : Cond.codeWith y b L r hh ∈ lw_all) : GoodIn lw_all (wsV own idx C y (wsW_ y b L r hh)) := by
  refine lw_app ?_ (lw_methW h5)
  intro w hw
  simp only [List.mem_cons, List.not_mem_nil, or_false] at hw
  rcases hw with e | e | e | e
  · rw [e]; exact h1
  · rw [e]; exact h2
  · rw [e]; exact h3
  · rw [e]; exact h4
theorem lw_SW {own : String} {idx : Nat} {y : MethodName} {b : ByteArray} {L : Nat} {r : Option FieldType} {hh : List (Nat × Nat × Nat × Nat)} (h1 : Cond.methodLink own idx y ∈ lw_all) (h2 : Cond.static y ∈ lw_all) (h3 : Cond.initialized y.cls ∈ lw_all) (h4 : Cond.codeWith y b L r hh ∈ lw_all) : GoodIn lw_all (va_wsS own idx y (wsW_ y b L r hh)) := by
  refine lw_app ?_ (lw_methW h4)
  intro w hw
  simp only [List.mem_cons, List.not_mem_nil, or_false] at hw
  rcases hw with e | e | e
  · rw [e]; exact h1
  · rw [e]; exact h2
  · rw [e]; exact h3
/-- a word by its place in its run of the tables -/
theorem lw_at {r : List Cond} (hr : ∀ w ∈ r, w ∈ lw_tbl) {w : Cond} (i : Nat) (h : r[i]? = some w) : w ∈ lw_tbl := hr w (List.mem_of_getElem? h)
theorem lw_g {w : Cond} (h : w ∈ lw_tbl) (g : goodWord w = true) : w ∈ lw_all := List.mem_filter.mpr ⟨h, g⟩
theorem lw_ms : ∀ w ∈ k2_sels lw_privs, w ∈ lw_tbl := fun w h => show w ∈ k2_sels lw_privs ++ tables_1 from List.mem_append_left _ h
theorem lw_m1 : ∀ w ∈ tables_1_1, w ∈ lw_tbl := fun w h => show w ∈ k2_sels lw_privs ++ tables_1 from List.mem_append_right (k2_sels lw_privs) (show w ∈ tables_1 from List.mem_append_left _ h)
theorem lw_m2 : ∀ w ∈ tables_1_2, w ∈ lw_tbl := fun w h => show w ∈ k2_sels lw_privs ++ tables_1 from List.mem_append_right (k2_sels lw_privs) (show w ∈ tables_1 from List.mem_append_right _ (List.mem_append_left _ h))
theorem lw_m3 : ∀ w ∈ tables_1_3, w ∈ lw_tbl := fun w h => show w ∈ k2_sels lw_privs ++ tables_1 from List.mem_append_right (k2_sels lw_privs) (show w ∈ tables_1 from List.mem_append_right _ (List.mem_append_right _ (List.mem_append_left _ h)))
theorem lw_m4 : ∀ w ∈ tables_1_4, w ∈ lw_tbl := fun w h => show w ∈ k2_sels lw_privs ++ tables_1 from List.mem_append_right (k2_sels lw_privs) (show w ∈ tables_1 from List.mem_append_right _ (List.mem_append_right _ (List.mem_append_right _ (List.mem_append_left _ h))))
theorem lw_m5 : ∀ w ∈ tables_1_5, w ∈ lw_tbl := fun w h => show w ∈ k2_sels lw_privs ++ tables_1 from List.mem_append_right (k2_sels lw_privs) (show w ∈ tables_1 from List.mem_append_right _ (List.mem_append_right _ (List.mem_append_right _ (List.mem_append_right _ (List.mem_append_left _ h)))))
theorem lw_m6 : ∀ w ∈ tables_1_6, w ∈ lw_tbl := fun w h => show w ∈ k2_sels lw_privs ++ tables_1 from List.mem_append_right (k2_sels lw_privs) (show w ∈ tables_1 from List.mem_append_right _ (List.mem_append_right _ (List.mem_append_right _ (List.mem_append_right _ (List.mem_append_right _ (List.mem_append_left _ h))))))
theorem lw_m7 : ∀ w ∈ tables_1_7, w ∈ lw_tbl := fun w h => show w ∈ k2_sels lw_privs ++ tables_1 from List.mem_append_right (k2_sels lw_privs) (show w ∈ tables_1 from List.mem_append_right _ (List.mem_append_right _ (List.mem_append_right _ (List.mem_append_right _ (List.mem_append_right _ (List.mem_append_right _ (List.mem_append_left _ h)))))))
theorem lw_m8 : ∀ w ∈ tables_1_8, w ∈ lw_tbl := fun w h => show w ∈ k2_sels lw_privs ++ tables_1 from List.mem_append_right (k2_sels lw_privs) (show w ∈ tables_1 from List.mem_append_right _ (List.mem_append_right _ (List.mem_append_right _ (List.mem_append_right _ (List.mem_append_right _ (List.mem_append_right _ (List.mem_append_right _ (List.mem_append_left _ h))))))))
theorem lw_m9 : ∀ w ∈ tables_1_9, w ∈ lw_tbl := fun w h => show w ∈ k2_sels lw_privs ++ tables_1 from List.mem_append_right (k2_sels lw_privs) (show w ∈ tables_1 from List.mem_append_right _ (List.mem_append_right _ (List.mem_append_right _ (List.mem_append_right _ (List.mem_append_right _ (List.mem_append_right _ (List.mem_append_right _ (List.mem_append_right _ (List.mem_append_left _ h)))))))))
theorem lw_m10 : ∀ w ∈ tables_1_10, w ∈ lw_tbl := fun w h => show w ∈ k2_sels lw_privs ++ tables_1 from List.mem_append_right (k2_sels lw_privs) (show w ∈ tables_1 from List.mem_append_right _ (List.mem_append_right _ (List.mem_append_right _ (List.mem_append_right _ (List.mem_append_right _ (List.mem_append_right _ (List.mem_append_right _ (List.mem_append_right _ (List.mem_append_right _ (List.mem_append_left _ h))))))))))
theorem lw_m11 : ∀ w ∈ tables_1_11, w ∈ lw_tbl := fun w h => show w ∈ k2_sels lw_privs ++ tables_1 from List.mem_append_right (k2_sels lw_privs) (show w ∈ tables_1 from List.mem_append_right _ (List.mem_append_right _ (List.mem_append_right _ (List.mem_append_right _ (List.mem_append_right _ (List.mem_append_right _ (List.mem_append_right _ (List.mem_append_right _ (List.mem_append_right _ (List.mem_append_right _ (List.mem_append_left _ h)))))))))))
theorem lw_m12 : ∀ w ∈ tables_1_12, w ∈ lw_tbl := fun w h => show w ∈ k2_sels lw_privs ++ tables_1 from List.mem_append_right (k2_sels lw_privs) (show w ∈ tables_1 from List.mem_append_right _ (List.mem_append_right _ (List.mem_append_right _ (List.mem_append_right _ (List.mem_append_right _ (List.mem_append_right _ (List.mem_append_right _ (List.mem_append_right _ (List.mem_append_right _ (List.mem_append_right _ (List.mem_append_right _ (List.mem_append_left _ h))))))))))))
theorem lw_m13 : ∀ w ∈ tables_1_13, w ∈ lw_tbl := fun w h => show w ∈ k2_sels lw_privs ++ tables_1 from List.mem_append_right (k2_sels lw_privs) (show w ∈ tables_1 from List.mem_append_right _ (List.mem_append_right _ (List.mem_append_right _ (List.mem_append_right _ (List.mem_append_right _ (List.mem_append_right _ (List.mem_append_right _ (List.mem_append_right _ (List.mem_append_right _ (List.mem_append_right _ (List.mem_append_right _ (List.mem_append_right _ (List.mem_append_left _ h)))))))))))))
theorem lw_m14 : ∀ w ∈ tables_1_14, w ∈ lw_tbl := fun w h => show w ∈ k2_sels lw_privs ++ tables_1 from List.mem_append_right (k2_sels lw_privs) (show w ∈ tables_1 from List.mem_append_right _ (List.mem_append_right _ (List.mem_append_right _ (List.mem_append_right _ (List.mem_append_right _ (List.mem_append_right _ (List.mem_append_right _ (List.mem_append_right _ (List.mem_append_right _ (List.mem_append_right _ (List.mem_append_right _ (List.mem_append_right _ (List.mem_append_right _ (List.mem_append_left _ h))))))))))))))
theorem lw_m15 : ∀ w ∈ tables_1_15, w ∈ lw_tbl := fun w h => show w ∈ k2_sels lw_privs ++ tables_1 from List.mem_append_right (k2_sels lw_privs) (show w ∈ tables_1 from List.mem_append_right _ (List.mem_append_right _ (List.mem_append_right _ (List.mem_append_right _ (List.mem_append_right _ (List.mem_append_right _ (List.mem_append_right _ (List.mem_append_right _ (List.mem_append_right _ (List.mem_append_right _ (List.mem_append_right _ (List.mem_append_right _ (List.mem_append_right _ (List.mem_append_right _ h))))))))))))))
theorem qs0 : (Cond.selects "java/util/ArrayDeque" ⟨"java/util/ArrayDeque", "grow", "(I)V"⟩ ⟨"java/util/ArrayDeque", "grow", "(I)V"⟩) ∈ lw_all := lw_g (lw_at lw_ms 0 rfl) rfl
theorem qs1 : (Cond.selects "java/util/ArrayDeque" ⟨"java/util/ArrayDeque", "newCapacity", "(II)I"⟩ ⟨"java/util/ArrayDeque", "newCapacity", "(II)I"⟩) ∈ lw_all := lw_g (lw_at lw_ms 1 rfl) rfl
theorem qs2 : (Cond.selects "java/lang/Throwable" ⟨"java/lang/Throwable", "fillInStackTrace", "(I)Ljava/lang/Throwable;"⟩ ⟨"java/lang/Throwable", "fillInStackTrace", "(I)Ljava/lang/Throwable;"⟩) ∈ lw_all := lw_g (lw_at lw_ms 2 rfl) rfl
theorem qs3 : (Cond.selects "java/util/TreeMap" ⟨"java/util/TreeMap", "put", "(Ljava/lang/Object;Ljava/lang/Object;Z)Ljava/lang/Object;"⟩ ⟨"java/util/TreeMap", "put", "(Ljava/lang/Object;Ljava/lang/Object;Z)Ljava/lang/Object;"⟩) ∈ lw_all := lw_g (lw_at lw_ms 3 rfl) rfl
theorem qs4 : (Cond.selects "java/util/TreeMap" ⟨"java/util/TreeMap", "addEntryToEmptyMap", "(Ljava/lang/Object;Ljava/lang/Object;)V"⟩ ⟨"java/util/TreeMap", "addEntryToEmptyMap", "(Ljava/lang/Object;Ljava/lang/Object;)V"⟩) ∈ lw_all := lw_g (lw_at lw_ms 4 rfl) rfl
theorem qs5 : (Cond.selects "java/util/TreeMap" ⟨"java/util/TreeMap", "addEntry", "(Ljava/lang/Object;Ljava/lang/Object;Ljava/util/TreeMap$Entry;Z)V"⟩ ⟨"java/util/TreeMap", "addEntry", "(Ljava/lang/Object;Ljava/lang/Object;Ljava/util/TreeMap$Entry;Z)V"⟩) ∈ lw_all := lw_g (lw_at lw_ms 5 rfl) rfl
theorem qs6 : (Cond.selects "java/util/TreeMap" ⟨"java/util/TreeMap", "fixAfterInsertion", "(Ljava/util/TreeMap$Entry;)V"⟩ ⟨"java/util/TreeMap", "fixAfterInsertion", "(Ljava/util/TreeMap$Entry;)V"⟩) ∈ lw_all := lw_g (lw_at lw_ms 6 rfl) rfl
theorem qs7 : (Cond.selects "java/util/TreeMap" ⟨"java/util/TreeMap", "rotateLeft", "(Ljava/util/TreeMap$Entry;)V"⟩ ⟨"java/util/TreeMap", "rotateLeft", "(Ljava/util/TreeMap$Entry;)V"⟩) ∈ lw_all := lw_g (lw_at lw_ms 7 rfl) rfl
theorem qs8 : (Cond.selects "java/util/TreeMap" ⟨"java/util/TreeMap", "rotateRight", "(Ljava/util/TreeMap$Entry;)V"⟩ ⟨"java/util/TreeMap", "rotateRight", "(Ljava/util/TreeMap$Entry;)V"⟩) ∈ lw_all := lw_g (lw_at lw_ms 8 rfl) rfl
theorem qs9 : (Cond.selects "java/util/PriorityQueue" ⟨"java/util/PriorityQueue", "siftDown", "(ILjava/lang/Object;)V"⟩ ⟨"java/util/PriorityQueue", "siftDown", "(ILjava/lang/Object;)V"⟩) ∈ lw_all := lw_g (lw_at lw_ms 9 rfl) rfl
theorem qs10 : (Cond.selects "java/util/PriorityQueue" ⟨"java/util/PriorityQueue", "siftUp", "(ILjava/lang/Object;)V"⟩ ⟨"java/util/PriorityQueue", "siftUp", "(ILjava/lang/Object;)V"⟩) ∈ lw_all := lw_g (lw_at lw_ms 10 rfl) rfl
theorem qs11 : (Cond.selects "java/util/TreeMap" ⟨"java/util/TreeMap", "deleteEntry", "(Ljava/util/TreeMap$Entry;)V"⟩ ⟨"java/util/TreeMap", "deleteEntry", "(Ljava/util/TreeMap$Entry;)V"⟩) ∈ lw_all := lw_g (lw_at lw_ms 11 rfl) rfl
theorem qs12 : (Cond.selects "java/util/TreeMap" ⟨"java/util/TreeMap", "fixAfterDeletion", "(Ljava/util/TreeMap$Entry;)V"⟩ ⟨"java/util/TreeMap", "fixAfterDeletion", "(Ljava/util/TreeMap$Entry;)V"⟩) ∈ lw_all := lw_g (lw_at lw_ms 12 rfl) rfl
theorem qs13 : (Cond.selects "TissueBalloons" ⟨"TissueBalloons", "keep", "()V"⟩ ⟨"TissueBalloons", "keep", "()V"⟩) ∈ lw_all := lw_g (lw_at lw_ms 13 rfl) rfl
theorem qs14 : (Cond.selects "TissueBalloons" ⟨"TissueBalloons", "tryOn", "()LTissueBalloons$Festival;"⟩ ⟨"TissueBalloons", "tryOn", "()LTissueBalloons$Festival;"⟩) ∈ lw_all := lw_g (lw_at lw_ms 14 rfl) rfl
theorem qs15 : (Cond.selects "TissueBalloons" ⟨"TissueBalloons", "becomes", "(I)I"⟩ ⟨"TissueBalloons", "becomes", "(I)I"⟩) ∈ lw_all := lw_g (lw_at lw_ms 15 rfl) rfl
theorem qs16 : (Cond.selects "TissueBalloons" ⟨"TissueBalloons", "because", "(LTissueBalloons$Refused;)Ljava/lang/UnsupportedOperationException;"⟩ ⟨"TissueBalloons", "because", "(LTissueBalloons$Refused;)Ljava/lang/UnsupportedOperationException;"⟩) ∈ lw_all := lw_g (lw_at lw_ms 16 rfl) rfl
theorem qs17 : (Cond.selects "TissueBalloons" ⟨"TissueBalloons", "roofThere", "(I)LTissueBalloons$Roof;"⟩ ⟨"TissueBalloons", "roofThere", "(I)LTissueBalloons$Roof;"⟩) ∈ lw_all := lw_g (lw_at lw_ms 17 rfl) rfl
theorem qs18 : (Cond.selects "TissueBalloons" ⟨"TissueBalloons", "balloonThat", "(I)LTissueBalloons$Balloon;"⟩ ⟨"TissueBalloons", "balloonThat", "(I)LTissueBalloons$Balloon;"⟩) ∈ lw_all := lw_g (lw_at lw_ms 18 rfl) rfl
theorem qs19 : (Cond.selects "java/util/PriorityQueue" ⟨"java/util/PriorityQueue", "grow", "(I)V"⟩ ⟨"java/util/PriorityQueue", "grow", "(I)V"⟩) ∈ lw_all := lw_g (lw_at lw_ms 19 rfl) rfl
theorem qs20 : (Cond.selects "TissueBalloons$Festival" ⟨"TissueBalloons$Festival", "planned", "()V"⟩ ⟨"TissueBalloons$Festival", "planned", "()V"⟩) ∈ lw_all := lw_g (lw_at lw_ms 20 rfl) rfl
theorem qs21 : (Cond.selects "TissueBalloons$Festival" ⟨"TissueBalloons$Festival", "fliesOn", "(LTissueBalloons$Balloon;)V"⟩ ⟨"TissueBalloons$Festival", "fliesOn", "(LTissueBalloons$Balloon;)V"⟩) ∈ lw_all := lw_g (lw_at lw_ms 21 rfl) rfl
theorem qs22 : (Cond.selects "TissueBalloons$Festival" ⟨"TissueBalloons$Festival", "lands", "(LTissueBalloons$Balloon;)V"⟩ ⟨"TissueBalloons$Festival", "lands", "(LTissueBalloons$Balloon;)V"⟩) ∈ lw_all := lw_g (lw_at lw_ms 22 rfl) rfl
theorem qs23 : (Cond.selects "TissueBalloons$Festival" ⟨"TissueBalloons$Festival", "tears", "(LTissueBalloons$Balloon;)V"⟩ ⟨"TissueBalloons$Festival", "tears", "(LTissueBalloons$Balloon;)V"⟩) ∈ lw_all := lw_g (lw_at lw_ms 23 rfl) rfl
theorem qs24 : (Cond.selects "TissueBalloons$Reader" ⟨"TissueBalloons$Reader", "order", "()V"⟩ ⟨"TissueBalloons$Reader", "order", "()V"⟩) ∈ lw_all := lw_g (lw_at lw_ms 24 rfl) rfl
theorem qs25 : (Cond.selects "TissueBalloons$Reader" ⟨"TissueBalloons$Reader", "skip", "(I)Z"⟩ ⟨"TissueBalloons$Reader", "skip", "(I)Z"⟩) ∈ lw_all := lw_g (lw_at lw_ms 25 rfl) rfl
theorem qs26 : (Cond.selects "TissueBalloons$Reader" ⟨"TissueBalloons$Reader", "here", "()I"⟩ ⟨"TissueBalloons$Reader", "here", "()I"⟩) ∈ lw_all := lw_g (lw_at lw_ms 26 rfl) rfl
theorem qs27 : (Cond.selects "TissueBalloons$Reader" ⟨"TissueBalloons$Reader", "digit", "()I"⟩ ⟨"TissueBalloons$Reader", "digit", "()I"⟩) ∈ lw_all := lw_g (lw_at lw_ms 27 rfl) rfl
theorem qs28 : (Cond.selects "TissueBalloons$Reader" ⟨"TissueBalloons$Reader", "must", "(I)V"⟩ ⟨"TissueBalloons$Reader", "must", "(I)V"⟩) ∈ lw_all := lw_g (lw_at lw_ms 28 rfl) rfl
theorem qs29 : (Cond.selects "TissueBalloons$Reader" ⟨"TissueBalloons$Reader", "signed", "()I"⟩ ⟨"TissueBalloons$Reader", "signed", "()I"⟩) ∈ lw_all := lw_g (lw_at lw_ms 29 rfl) rfl
theorem qs30 : (Cond.selects "TissueBalloons$Reader" ⟨"TissueBalloons$Reader", "number", "()I"⟩ ⟨"TissueBalloons$Reader", "number", "()I"⟩) ∈ lw_all := lw_g (lw_at lw_ms 30 rfl) rfl
theorem qs31 : (Cond.selects "TissueBalloonsModel" ⟨"TissueBalloonsModel", "begins", "()V"⟩ ⟨"TissueBalloonsModel", "begins", "()V"⟩) ∈ lw_all := lw_g (lw_at lw_ms 31 rfl) rfl
theorem qs32 : (Cond.selects "TissueBalloonsModel" ⟨"TissueBalloonsModel", "no", "(I)I"⟩ ⟨"TissueBalloonsModel", "no", "(I)I"⟩) ∈ lw_all := lw_g (lw_at lw_ms 32 rfl) rfl
theorem qs33 : (Cond.selects "TissueBalloonsModel" ⟨"TissueBalloonsModel", "sets", "(II)I"⟩ ⟨"TissueBalloonsModel", "sets", "(II)I"⟩) ∈ lw_all := lw_g (lw_at lw_ms 33 rfl) rfl
theorem qs34 : (Cond.selects "TissueBalloonsModel" ⟨"TissueBalloonsModel", "keeps", "(I)I"⟩ ⟨"TissueBalloonsModel", "keeps", "(I)I"⟩) ∈ lw_all := lw_g (lw_at lw_ms 34 rfl) rfl
theorem qs35 : (Cond.selects "TissueBalloonsModel" ⟨"TissueBalloonsModel", "roofAtPlace", "(I)I"⟩ ⟨"TissueBalloonsModel", "roofAtPlace", "(I)I"⟩) ∈ lw_all := lw_g (lw_at lw_ms 35 rfl) rfl
theorem qs36 : (Cond.selects "TissueBalloonsModel" ⟨"TissueBalloonsModel", "rv", "(II)I"⟩ ⟨"TissueBalloonsModel", "rv", "(II)I"⟩) ∈ lw_all := lw_g (lw_at lw_ms 36 rfl) rfl
theorem qs37 : (Cond.selects "TissueBalloonsModel" ⟨"TissueBalloonsModel", "isBad", "(II)Z"⟩ ⟨"TissueBalloonsModel", "isBad", "(II)Z"⟩) ∈ lw_all := lw_g (lw_at lw_ms 37 rfl) rfl
theorem qs38 : (Cond.selects "TissueBalloonsModel" ⟨"TissueBalloonsModel", "refused", "(I)I"⟩ ⟨"TissueBalloonsModel", "refused", "(I)I"⟩) ∈ lw_all := lw_g (lw_at lw_ms 38 rfl) rfl
theorem qs39 : (Cond.selects "TissueBalloonsModel" ⟨"TissueBalloonsModel", "lr", "(III)V"⟩ ⟨"TissueBalloonsModel", "lr", "(III)V"⟩) ∈ lw_all := lw_g (lw_at lw_ms 39 rfl) rfl
theorem qs40 : (Cond.selects "TissueBalloonsModel" ⟨"TissueBalloonsModel", "watches", "(IZ)I"⟩ ⟨"TissueBalloonsModel", "watches", "(IZ)I"⟩) ∈ lw_all := lw_g (lw_at lw_ms 40 rfl) rfl
theorem qs41 : (Cond.selects "TissueBalloonsModel" ⟨"TissueBalloonsModel", "roofsWith", "(I)I"⟩ ⟨"TissueBalloonsModel", "roofsWith", "(I)I"⟩) ∈ lw_all := lw_g (lw_at lw_ms 41 rfl) rfl
theorem qs42 : (Cond.selects "TissueBalloonsModel" ⟨"TissueBalloonsModel", "isRefusedWet", "(I)Z"⟩ ⟨"TissueBalloonsModel", "isRefusedWet", "(I)Z"⟩) ∈ lw_all := lw_g (lw_at lw_ms 42 rfl) rfl
theorem qs43 : (Cond.selects "TissueBalloonsModel" ⟨"TissueBalloonsModel", "wets", "(II)I"⟩ ⟨"TissueBalloonsModel", "wets", "(II)I"⟩) ∈ lw_all := lw_g (lw_at lw_ms 43 rfl) rfl
theorem qs44 : (Cond.selects "TissueBalloonsModel" ⟨"TissueBalloonsModel", "isFlying", "(I)Z"⟩ ⟨"TissueBalloonsModel", "isFlying", "(I)Z"⟩) ∈ lw_all := lw_g (lw_at lw_ms 44 rfl) rfl
theorem qs45 : (Cond.selects "TissueBalloonsModel" ⟨"TissueBalloonsModel", "bv", "(II)I"⟩ ⟨"TissueBalloonsModel", "bv", "(II)I"⟩) ∈ lw_all := lw_g (lw_at lw_ms 45 rfl) rfl
theorem qs46 : (Cond.selects "TissueBalloonsModel" ⟨"TissueBalloonsModel", "lb", "(III)V"⟩ ⟨"TissueBalloonsModel", "lb", "(III)V"⟩) ∈ lw_all := lw_g (lw_at lw_ms 46 rfl) rfl
theorem qs47 : (Cond.selects "TissueBalloonsModel" ⟨"TissueBalloonsModel", "lc", "(III)V"⟩ ⟨"TissueBalloonsModel", "lc", "(III)V"⟩) ∈ lw_all := lw_g (lw_at lw_ms 47 rfl) rfl
theorem qs48 : (Cond.selects "TissueBalloonsModel" ⟨"TissueBalloonsModel", "isCrew", "(I)Z"⟩ ⟨"TissueBalloonsModel", "isCrew", "(I)Z"⟩) ∈ lw_all := lw_g (lw_at lw_ms 48 rfl) rfl
theorem qs49 : (Cond.selects "TissueBalloonsModel" ⟨"TissueBalloonsModel", "cv", "(II)I"⟩ ⟨"TissueBalloonsModel", "cv", "(II)I"⟩) ∈ lw_all := lw_g (lw_at lw_ms 49 rfl) rfl
theorem qs50 : (Cond.selects "TissueBalloonsModel" ⟨"TissueBalloonsModel", "isBalloon", "(I)Z"⟩ ⟨"TissueBalloonsModel", "isBalloon", "(I)Z"⟩) ∈ lw_all := lw_g (lw_at lw_ms 50 rfl) rfl
theorem qs51 : (Cond.selects "TissueBalloonsModel" ⟨"TissueBalloonsModel", "isRefusedLaunch", "(II)Z"⟩ ⟨"TissueBalloonsModel", "isRefusedLaunch", "(II)Z"⟩) ∈ lw_all := lw_g (lw_at lw_ms 51 rfl) rfl
theorem qs52 : (Cond.selects "TissueBalloonsModel" ⟨"TissueBalloonsModel", "launches", "(II)I"⟩ ⟨"TissueBalloonsModel", "launches", "(II)I"⟩) ∈ lw_all := lw_g (lw_at lw_ms 52 rfl) rfl
theorem qs53 : (Cond.selects "TissueBalloonsModel" ⟨"TissueBalloonsModel", "isRefusedPlan", "(II)Z"⟩ ⟨"TissueBalloonsModel", "isRefusedPlan", "(II)Z"⟩) ∈ lw_all := lw_g (lw_at lw_ms 53 rfl) rfl
theorem qs54 : (Cond.selects "TissueBalloonsModel" ⟨"TissueBalloonsModel", "planOf", "(I)I"⟩ ⟨"TissueBalloonsModel", "planOf", "(I)I"⟩) ∈ lw_all := lw_g (lw_at lw_ms 54 rfl) rfl
theorem qs55 : (Cond.selects "TissueBalloonsModel" ⟨"TissueBalloonsModel", "pv", "(II)I"⟩ ⟨"TissueBalloonsModel", "pv", "(II)I"⟩) ∈ lw_all := lw_g (lw_at lw_ms 55 rfl) rfl
theorem qs56 : (Cond.selects "TissueBalloonsModel" ⟨"TissueBalloonsModel", "plans", "(III)I"⟩ ⟨"TissueBalloonsModel", "plans", "(III)I"⟩) ∈ lw_all := lw_g (lw_at lw_ms 56 rfl) rfl
theorem qs57 : (Cond.selects "TissueBalloonsModel" ⟨"TissueBalloonsModel", "movesPlan", "(II)V"⟩ ⟨"TissueBalloonsModel", "movesPlan", "(II)V"⟩) ∈ lw_all := lw_g (lw_at lw_ms 57 rfl) rfl
theorem qs58 : (Cond.selects "TissueBalloonsModel" ⟨"TissueBalloonsModel", "lp", "(III)V"⟩ ⟨"TissueBalloonsModel", "lp", "(III)V"⟩) ∈ lw_all := lw_g (lw_at lw_ms 58 rfl) rfl
theorem qs59 : (Cond.selects "TissueBalloonsModel" ⟨"TissueBalloonsModel", "planGoes", "(I)V"⟩ ⟨"TissueBalloonsModel", "planGoes", "(I)V"⟩) ∈ lw_all := lw_g (lw_at lw_ms 59 rfl) rfl
theorem qs60 : (Cond.selects "TissueBalloonsModel" ⟨"TissueBalloonsModel", "goes", "(I)I"⟩ ⟨"TissueBalloonsModel", "goes", "(I)I"⟩) ∈ lw_all := lw_g (lw_at lw_ms 60 rfl) rfl
theorem qs61 : (Cond.selects "TissueBalloonsModel" ⟨"TissueBalloonsModel", "goesMinute", "()I"⟩ ⟨"TissueBalloonsModel", "goesMinute", "()I"⟩) ∈ lw_all := lw_g (lw_at lw_ms 61 rfl) rfl
theorem qs62 : (Cond.selects "TissueBalloonsModel" ⟨"TissueBalloonsModel", "plansOfNow", "()V"⟩ ⟨"TissueBalloonsModel", "plansOfNow", "()V"⟩) ∈ lw_all := lw_g (lw_at lw_ms 62 rfl) rfl
theorem qs63 : (Cond.selects "TissueBalloonsModel" ⟨"TissueBalloonsModel", "fliesOn", "(I)V"⟩ ⟨"TissueBalloonsModel", "fliesOn", "(I)V"⟩) ∈ lw_all := lw_g (lw_at lw_ms 63 rfl) rfl
theorem qs64 : (Cond.selects "TissueBalloonsModel" ⟨"TissueBalloonsModel", "lands", "(I)V"⟩ ⟨"TissueBalloonsModel", "lands", "(I)V"⟩) ∈ lw_all := lw_g (lw_at lw_ms 64 rfl) rfl
theorem qs65 : (Cond.selects "TissueBalloonsModel" ⟨"TissueBalloonsModel", "ends", "(II)V"⟩ ⟨"TissueBalloonsModel", "ends", "(II)V"⟩) ∈ lw_all := lw_g (lw_at lw_ms 65 rfl) rfl
theorem qs66 : (Cond.selects "TissueBalloonsModel" ⟨"TissueBalloonsModel", "drifts", "(I)V"⟩ ⟨"TissueBalloonsModel", "drifts", "(I)V"⟩) ∈ lw_all := lw_g (lw_at lw_ms 66 rfl) rfl
theorem qs67 : (Cond.selects "TissueBalloonsModel" ⟨"TissueBalloonsModel", "reads", "()V"⟩ ⟨"TissueBalloonsModel", "reads", "()V"⟩) ∈ lw_all := lw_g (lw_at lw_ms 67 rfl) rfl
theorem qs68 : (Cond.selects "TissueBalloonsModel" ⟨"TissueBalloonsModel", "order", "()V"⟩ ⟨"TissueBalloonsModel", "order", "()V"⟩) ∈ lw_all := lw_g (lw_at lw_ms 68 rfl) rfl
theorem qs69 : (Cond.selects "TissueBalloonsModel" ⟨"TissueBalloonsModel", "next", "()I"⟩ ⟨"TissueBalloonsModel", "next", "()I"⟩) ∈ lw_all := lw_g (lw_at lw_ms 69 rfl) rfl
theorem qs70 : (Cond.selects "TissueBalloonsModel" ⟨"TissueBalloonsModel", "digit", "()I"⟩ ⟨"TissueBalloonsModel", "digit", "()I"⟩) ∈ lw_all := lw_g (lw_at lw_ms 70 rfl) rfl
theorem qs71 : (Cond.selects "TissueBalloonsModel" ⟨"TissueBalloonsModel", "number", "()I"⟩ ⟨"TissueBalloonsModel", "number", "()I"⟩) ∈ lw_all := lw_g (lw_at lw_ms 71 rfl) rfl
theorem qs72 : (Cond.selects "TissueBalloonsModel" ⟨"TissueBalloonsModel", "takes", "(I)V"⟩ ⟨"TissueBalloonsModel", "takes", "(I)V"⟩) ∈ lw_all := lw_g (lw_at lw_ms 72 rfl) rfl
theorem qs73 : (Cond.selects "TissueBalloonsModel" ⟨"TissueBalloonsModel", "drift", "()I"⟩ ⟨"TissueBalloonsModel", "drift", "()I"⟩) ∈ lw_all := lw_g (lw_at lw_ms 73 rfl) rfl
theorem qs74 : (Cond.selects "TissueBalloonsModel" ⟨"TissueBalloonsModel", "does", "(I)I"⟩ ⟨"TissueBalloonsModel", "does", "(I)I"⟩) ∈ lw_all := lw_g (lw_at lw_ms 74 rfl) rfl
theorem qs75 : (Cond.selects "TissueBalloonsModel" ⟨"TissueBalloonsModel", "inState", "(I)I"⟩ ⟨"TissueBalloonsModel", "inState", "(I)I"⟩) ∈ lw_all := lw_g (lw_at lw_ms 75 rfl) rfl
theorem qs76 : (Cond.selects "TissueBalloonsModel" ⟨"TissueBalloonsModel", "busy", "()I"⟩ ⟨"TissueBalloonsModel", "busy", "()I"⟩) ∈ lw_all := lw_g (lw_at lw_ms 76 rfl) rfl
/-! DECODE ROWS BY BYTES: one lemma an opcode; a method's code is cut into short pieces once, and a row reads its own piece alone. -/
set_option maxRecDepth 100000
/-- the code has just these bytes from pc on -/
def DkAt (code : ByteArray) (pc : Nat) (bs : List UInt8) : Prop := ∀ (j : Nat) (b : UInt8), bs[j]? = some b → code.data.toList[pc + j]? = some b
/-- the piece W has the bytes bs from its place j on -/
def dkIn (W : List UInt8) (j : Nat) (bs : List UInt8) : Bool := decide ((W.drop j).take bs.length = bs)
theorem dk_seg {l W T : List UInt8} {o o2 : Nat} (h : l.drop o = W ++ T) (n : Nat) (hn : W.length = n) (ho : o + n = o2) : l.drop o2 = T := by
  subst ho
  rw [← List.drop_drop, h, List.drop_left' hn]
theorem dk_at {code : ByteArray} {W T bs : List UInt8} {o pc : Nat} (h : code.data.toList.drop o = W ++ T) (j : Nat) (hp : o + j = pc) (hw : dkIn W j bs = true) : DkAt code pc bs := by
  subst hp
  intro i b e
  have h1 := of_decide_eq_true hw
  have h2 : i < bs.length := (List.getElem?_eq_some_iff.mp e).1
  have h3 : W[j + i]? = some b := by
    rw [← h1, List.getElem?_take, if_pos h2, List.getElem?_drop] at e
    exact e
  have h4 : j + i < W.length := (List.getElem?_eq_some_iff.mp h3).1
  have h5 : (code.data.toList.drop o)[j + i]? = some b := by
    rw [h, List.getElem?_append_left h4]
    exact h3
  rw [List.getElem?_drop, ← Nat.add_assoc] at h5
  exact h5
theorem dk_u1 {A : ByteArray} {p : Nat} {b : UInt8} (h : A.data.toList[p]? = some b) : (Reader.u1 : Reader DecodeError Nat) A p = .ok (b.toNat, p + 1) := by
  obtain ⟨h1, h2⟩ := List.getElem?_eq_some_iff.mp h
  have h3 : p < A.size := by simpa using h1
  have h4 : A[p]'h3 = b := h2
  have e : (Reader.u1 : Reader DecodeError Nat) A p = (if h : p < A.size then .ok (A[p].toNat, p + 1) else .error (HasTruncated.truncated p)) := by
    show (do if h : p < A.size then do set (p + 1); Pure.pure A[p].toNat else MonadExcept.throw (HasTruncated.truncated p) : Reader DecodeError Nat) A p = _
    by_cases hi : p < A.size
    · rw [dif_pos hi, dif_pos hi]; rfl
    · rw [dif_neg hi, dif_neg hi]; rfl
  rw [e, dif_pos h3, h4]
theorem dk_bind {α β : Type} {r : Reader DecodeError α} {f : α → Reader DecodeError β} {A : ByteArray} {p s : Nat} {a : α} (h : r A p = .ok (a, s)) : (r >>= f) A p = f a A s := by
  show (do let (a, s) ← r A p; f a A s : Except DecodeError (β × Nat)) = _
  rw [h]
  rfl
theorem dk_map {α β : Type} {r : Reader DecodeError α} {g : α → β} {A : ByteArray} {p s : Nat} {a : α} (h : r A p = .ok (a, s)) : (g <$> r) A p = .ok (g a, s) := by
  show (do let (a, s) ← r A p; .ok (g a, s) : Except DecodeError (β × Nat)) = _
  rw [h]
  rfl
theorem dk_u2 {A : ByteArray} {p : Nat} {a b : UInt8} (h : A.data.toList[p]? = some a) (h2 : A.data.toList[p + 1]? = some b) : (Reader.u2 : Reader DecodeError Nat) A p = .ok (a.toNat * 256 + b.toNat, p + 2) := by
  show (Reader.u1 >>= fun hi => Reader.u1 >>= fun lo => Pure.pure (hi * 256 + lo) : Reader DecodeError Nat) A p = _
  rw [dk_bind (dk_u1 h), dk_bind (dk_u1 h2)]
  rfl
theorem dk_of {code : ByteArray} {pc n : Nat} {i : Instr} (h : Decoder.instr pc code pc = .ok (i, pc + n)) : decode code pc = .ok (i, n) := by
  have e : decode code pc = (match Decoder.instr pc code pc with | .error x => .error x | .ok (j, s) => .ok (j, s - pc)) := by
    show (do let (j, s) ← Decoder.instr pc code pc; Pure.pure (j, s - pc) : Except DecodeError (Instr × Nat)) = _
    cases Decoder.instr pc code pc <;> rfl
  rw [e, h]
  show Except.ok (i, pc + n - pc) = _
  rw [Nat.add_sub_cancel_left]
theorem dk_1 {code : ByteArray} {pc : Nat} (h : DkAt code pc [1]) : decode code pc = .ok (.aconst_null, 1) := dk_of ((dk_bind (dk_u1 (h 0 _ rfl))).trans rfl)
theorem dk_2 {code : ByteArray} {pc : Nat} (h : DkAt code pc [2]) : decode code pc = .ok (.iconst (-1), 1) := dk_of ((dk_bind (dk_u1 (h 0 _ rfl))).trans rfl)
theorem dk_3 {code : ByteArray} {pc : Nat} (h : DkAt code pc [3]) : decode code pc = .ok (.iconst 0, 1) := dk_of ((dk_bind (dk_u1 (h 0 _ rfl))).trans rfl)
theorem dk_4 {code : ByteArray} {pc : Nat} (h : DkAt code pc [4]) : decode code pc = .ok (.iconst 1, 1) := dk_of ((dk_bind (dk_u1 (h 0 _ rfl))).trans rfl)
theorem dk_5 {code : ByteArray} {pc : Nat} (h : DkAt code pc [5]) : decode code pc = .ok (.iconst 2, 1) := dk_of ((dk_bind (dk_u1 (h 0 _ rfl))).trans rfl)
theorem dk_6 {code : ByteArray} {pc : Nat} (h : DkAt code pc [6]) : decode code pc = .ok (.iconst 3, 1) := dk_of ((dk_bind (dk_u1 (h 0 _ rfl))).trans rfl)
theorem dk_7 {code : ByteArray} {pc : Nat} (h : DkAt code pc [7]) : decode code pc = .ok (.iconst 4, 1) := dk_of ((dk_bind (dk_u1 (h 0 _ rfl))).trans rfl)
theorem dk_8 {code : ByteArray} {pc : Nat} (h : DkAt code pc [8]) : decode code pc = .ok (.iconst 5, 1) := dk_of ((dk_bind (dk_u1 (h 0 _ rfl))).trans rfl)
theorem dk_9 {code : ByteArray} {pc : Nat} (h : DkAt code pc [9]) : decode code pc = .ok (.lconst 0, 1) := dk_of ((dk_bind (dk_u1 (h 0 _ rfl))).trans rfl)
theorem dk_10 {code : ByteArray} {pc : Nat} (h : DkAt code pc [10]) : decode code pc = .ok (.lconst 1, 1) := dk_of ((dk_bind (dk_u1 (h 0 _ rfl))).trans rfl)
theorem dk_11 {code : ByteArray} {pc : Nat} (h : DkAt code pc [11]) : decode code pc = .ok (.fconst 0, 1) := dk_of ((dk_bind (dk_u1 (h 0 _ rfl))).trans rfl)
theorem dk_14 {code : ByteArray} {pc : Nat} (h : DkAt code pc [14]) : decode code pc = .ok (.dconst 0, 1) := dk_of ((dk_bind (dk_u1 (h 0 _ rfl))).trans rfl)
theorem dk_16 {code : ByteArray} {pc : Nat} (a : UInt8) (h : DkAt code pc [16, a]) : decode code pc = .ok (.bipush (Reader.signed 8 a.toNat), 2) := dk_of ((dk_bind (dk_u1 (h 0 _ rfl))).trans ((dk_bind (dk_map (dk_u1 (h 1 _ rfl)))).trans rfl))
theorem dk_17 {code : ByteArray} {pc : Nat} (a b : UInt8) (h : DkAt code pc [17, a, b]) : decode code pc = .ok (.sipush (Reader.signed 16 (a.toNat * 256 + b.toNat)), 3) := dk_of ((dk_bind (dk_u1 (h 0 _ rfl))).trans ((dk_bind (dk_map (dk_u2 (h 1 _ rfl) (h 2 _ rfl)))).trans rfl))
theorem dk_18 {code : ByteArray} {pc : Nat} (a : UInt8) (h : DkAt code pc [18, a]) : decode code pc = .ok (.ldc a.toNat, 2) := dk_of ((dk_bind (dk_u1 (h 0 _ rfl))).trans ((dk_bind (dk_u1 (h 1 _ rfl))).trans rfl))
theorem dk_19 {code : ByteArray} {pc : Nat} (a b : UInt8) (h : DkAt code pc [19, a, b]) : decode code pc = .ok (.ldc_w (a.toNat * 256 + b.toNat), 3) := dk_of ((dk_bind (dk_u1 (h 0 _ rfl))).trans ((dk_bind (dk_u2 (h 1 _ rfl) (h 2 _ rfl))).trans rfl))
theorem dk_20 {code : ByteArray} {pc : Nat} (a b : UInt8) (h : DkAt code pc [20, a, b]) : decode code pc = .ok (.ldc2_w (a.toNat * 256 + b.toNat), 3) := dk_of ((dk_bind (dk_u1 (h 0 _ rfl))).trans ((dk_bind (dk_u2 (h 1 _ rfl) (h 2 _ rfl))).trans rfl))
theorem dk_21 {code : ByteArray} {pc : Nat} (a : UInt8) (h : DkAt code pc [21, a]) : decode code pc = .ok (.iload a.toNat, 2) := dk_of ((dk_bind (dk_u1 (h 0 _ rfl))).trans ((dk_bind (dk_u1 (h 1 _ rfl))).trans rfl))
theorem dk_22 {code : ByteArray} {pc : Nat} (a : UInt8) (h : DkAt code pc [22, a]) : decode code pc = .ok (.lload a.toNat, 2) := dk_of ((dk_bind (dk_u1 (h 0 _ rfl))).trans ((dk_bind (dk_u1 (h 1 _ rfl))).trans rfl))
theorem dk_23 {code : ByteArray} {pc : Nat} (a : UInt8) (h : DkAt code pc [23, a]) : decode code pc = .ok (.fload a.toNat, 2) := dk_of ((dk_bind (dk_u1 (h 0 _ rfl))).trans ((dk_bind (dk_u1 (h 1 _ rfl))).trans rfl))
theorem dk_24 {code : ByteArray} {pc : Nat} (a : UInt8) (h : DkAt code pc [24, a]) : decode code pc = .ok (.dload a.toNat, 2) := dk_of ((dk_bind (dk_u1 (h 0 _ rfl))).trans ((dk_bind (dk_u1 (h 1 _ rfl))).trans rfl))
theorem dk_25 {code : ByteArray} {pc : Nat} (a : UInt8) (h : DkAt code pc [25, a]) : decode code pc = .ok (.aload a.toNat, 2) := dk_of ((dk_bind (dk_u1 (h 0 _ rfl))).trans ((dk_bind (dk_u1 (h 1 _ rfl))).trans rfl))
theorem dk_26 {code : ByteArray} {pc : Nat} (h : DkAt code pc [26]) : decode code pc = .ok (.iload_n 0, 1) := dk_of ((dk_bind (dk_u1 (h 0 _ rfl))).trans rfl)
theorem dk_27 {code : ByteArray} {pc : Nat} (h : DkAt code pc [27]) : decode code pc = .ok (.iload_n 1, 1) := dk_of ((dk_bind (dk_u1 (h 0 _ rfl))).trans rfl)
theorem dk_28 {code : ByteArray} {pc : Nat} (h : DkAt code pc [28]) : decode code pc = .ok (.iload_n 2, 1) := dk_of ((dk_bind (dk_u1 (h 0 _ rfl))).trans rfl)
theorem dk_29 {code : ByteArray} {pc : Nat} (h : DkAt code pc [29]) : decode code pc = .ok (.iload_n 3, 1) := dk_of ((dk_bind (dk_u1 (h 0 _ rfl))).trans rfl)
theorem dk_30 {code : ByteArray} {pc : Nat} (h : DkAt code pc [30]) : decode code pc = .ok (.lload_n 0, 1) := dk_of ((dk_bind (dk_u1 (h 0 _ rfl))).trans rfl)
theorem dk_31 {code : ByteArray} {pc : Nat} (h : DkAt code pc [31]) : decode code pc = .ok (.lload_n 1, 1) := dk_of ((dk_bind (dk_u1 (h 0 _ rfl))).trans rfl)
theorem dk_32 {code : ByteArray} {pc : Nat} (h : DkAt code pc [32]) : decode code pc = .ok (.lload_n 2, 1) := dk_of ((dk_bind (dk_u1 (h 0 _ rfl))).trans rfl)
theorem dk_42 {code : ByteArray} {pc : Nat} (h : DkAt code pc [42]) : decode code pc = .ok (.aload_n 0, 1) := dk_of ((dk_bind (dk_u1 (h 0 _ rfl))).trans rfl)
theorem dk_43 {code : ByteArray} {pc : Nat} (h : DkAt code pc [43]) : decode code pc = .ok (.aload_n 1, 1) := dk_of ((dk_bind (dk_u1 (h 0 _ rfl))).trans rfl)
theorem dk_44 {code : ByteArray} {pc : Nat} (h : DkAt code pc [44]) : decode code pc = .ok (.aload_n 2, 1) := dk_of ((dk_bind (dk_u1 (h 0 _ rfl))).trans rfl)
theorem dk_45 {code : ByteArray} {pc : Nat} (h : DkAt code pc [45]) : decode code pc = .ok (.aload_n 3, 1) := dk_of ((dk_bind (dk_u1 (h 0 _ rfl))).trans rfl)
theorem dk_46 {code : ByteArray} {pc : Nat} (h : DkAt code pc [46]) : decode code pc = .ok (.iaload, 1) := dk_of ((dk_bind (dk_u1 (h 0 _ rfl))).trans rfl)
theorem dk_47 {code : ByteArray} {pc : Nat} (h : DkAt code pc [47]) : decode code pc = .ok (.laload, 1) := dk_of ((dk_bind (dk_u1 (h 0 _ rfl))).trans rfl)
theorem dk_49 {code : ByteArray} {pc : Nat} (h : DkAt code pc [49]) : decode code pc = .ok (.daload, 1) := dk_of ((dk_bind (dk_u1 (h 0 _ rfl))).trans rfl)
theorem dk_50 {code : ByteArray} {pc : Nat} (h : DkAt code pc [50]) : decode code pc = .ok (.aaload, 1) := dk_of ((dk_bind (dk_u1 (h 0 _ rfl))).trans rfl)
theorem dk_51 {code : ByteArray} {pc : Nat} (h : DkAt code pc [51]) : decode code pc = .ok (.baload, 1) := dk_of ((dk_bind (dk_u1 (h 0 _ rfl))).trans rfl)
theorem dk_52 {code : ByteArray} {pc : Nat} (h : DkAt code pc [52]) : decode code pc = .ok (.caload, 1) := dk_of ((dk_bind (dk_u1 (h 0 _ rfl))).trans rfl)
theorem dk_54 {code : ByteArray} {pc : Nat} (a : UInt8) (h : DkAt code pc [54, a]) : decode code pc = .ok (.istore a.toNat, 2) := dk_of ((dk_bind (dk_u1 (h 0 _ rfl))).trans ((dk_bind (dk_u1 (h 1 _ rfl))).trans rfl))
theorem dk_55 {code : ByteArray} {pc : Nat} (a : UInt8) (h : DkAt code pc [55, a]) : decode code pc = .ok (.lstore a.toNat, 2) := dk_of ((dk_bind (dk_u1 (h 0 _ rfl))).trans ((dk_bind (dk_u1 (h 1 _ rfl))).trans rfl))
theorem dk_56 {code : ByteArray} {pc : Nat} (a : UInt8) (h : DkAt code pc [56, a]) : decode code pc = .ok (.fstore a.toNat, 2) := dk_of ((dk_bind (dk_u1 (h 0 _ rfl))).trans ((dk_bind (dk_u1 (h 1 _ rfl))).trans rfl))
theorem dk_57 {code : ByteArray} {pc : Nat} (a : UInt8) (h : DkAt code pc [57, a]) : decode code pc = .ok (.dstore a.toNat, 2) := dk_of ((dk_bind (dk_u1 (h 0 _ rfl))).trans ((dk_bind (dk_u1 (h 1 _ rfl))).trans rfl))
theorem dk_58 {code : ByteArray} {pc : Nat} (a : UInt8) (h : DkAt code pc [58, a]) : decode code pc = .ok (.astore a.toNat, 2) := dk_of ((dk_bind (dk_u1 (h 0 _ rfl))).trans ((dk_bind (dk_u1 (h 1 _ rfl))).trans rfl))
theorem dk_59 {code : ByteArray} {pc : Nat} (h : DkAt code pc [59]) : decode code pc = .ok (.istore_n 0, 1) := dk_of ((dk_bind (dk_u1 (h 0 _ rfl))).trans rfl)
theorem dk_60 {code : ByteArray} {pc : Nat} (h : DkAt code pc [60]) : decode code pc = .ok (.istore_n 1, 1) := dk_of ((dk_bind (dk_u1 (h 0 _ rfl))).trans rfl)
theorem dk_61 {code : ByteArray} {pc : Nat} (h : DkAt code pc [61]) : decode code pc = .ok (.istore_n 2, 1) := dk_of ((dk_bind (dk_u1 (h 0 _ rfl))).trans rfl)
theorem dk_62 {code : ByteArray} {pc : Nat} (h : DkAt code pc [62]) : decode code pc = .ok (.istore_n 3, 1) := dk_of ((dk_bind (dk_u1 (h 0 _ rfl))).trans rfl)
theorem dk_76 {code : ByteArray} {pc : Nat} (h : DkAt code pc [76]) : decode code pc = .ok (.astore_n 1, 1) := dk_of ((dk_bind (dk_u1 (h 0 _ rfl))).trans rfl)
theorem dk_77 {code : ByteArray} {pc : Nat} (h : DkAt code pc [77]) : decode code pc = .ok (.astore_n 2, 1) := dk_of ((dk_bind (dk_u1 (h 0 _ rfl))).trans rfl)
theorem dk_78 {code : ByteArray} {pc : Nat} (h : DkAt code pc [78]) : decode code pc = .ok (.astore_n 3, 1) := dk_of ((dk_bind (dk_u1 (h 0 _ rfl))).trans rfl)
theorem dk_79 {code : ByteArray} {pc : Nat} (h : DkAt code pc [79]) : decode code pc = .ok (.iastore, 1) := dk_of ((dk_bind (dk_u1 (h 0 _ rfl))).trans rfl)
theorem dk_80 {code : ByteArray} {pc : Nat} (h : DkAt code pc [80]) : decode code pc = .ok (.lastore, 1) := dk_of ((dk_bind (dk_u1 (h 0 _ rfl))).trans rfl)
theorem dk_82 {code : ByteArray} {pc : Nat} (h : DkAt code pc [82]) : decode code pc = .ok (.dastore, 1) := dk_of ((dk_bind (dk_u1 (h 0 _ rfl))).trans rfl)
theorem dk_83 {code : ByteArray} {pc : Nat} (h : DkAt code pc [83]) : decode code pc = .ok (.aastore, 1) := dk_of ((dk_bind (dk_u1 (h 0 _ rfl))).trans rfl)
theorem dk_84 {code : ByteArray} {pc : Nat} (h : DkAt code pc [84]) : decode code pc = .ok (.bastore, 1) := dk_of ((dk_bind (dk_u1 (h 0 _ rfl))).trans rfl)
theorem dk_85 {code : ByteArray} {pc : Nat} (h : DkAt code pc [85]) : decode code pc = .ok (.castore, 1) := dk_of ((dk_bind (dk_u1 (h 0 _ rfl))).trans rfl)
theorem dk_87 {code : ByteArray} {pc : Nat} (h : DkAt code pc [87]) : decode code pc = .ok (.pop, 1) := dk_of ((dk_bind (dk_u1 (h 0 _ rfl))).trans rfl)
theorem dk_89 {code : ByteArray} {pc : Nat} (h : DkAt code pc [89]) : decode code pc = .ok (.dup, 1) := dk_of ((dk_bind (dk_u1 (h 0 _ rfl))).trans rfl)
theorem dk_90 {code : ByteArray} {pc : Nat} (h : DkAt code pc [90]) : decode code pc = .ok (.dup_x1, 1) := dk_of ((dk_bind (dk_u1 (h 0 _ rfl))).trans rfl)
theorem dk_92 {code : ByteArray} {pc : Nat} (h : DkAt code pc [92]) : decode code pc = .ok (.dup2, 1) := dk_of ((dk_bind (dk_u1 (h 0 _ rfl))).trans rfl)
theorem dk_96 {code : ByteArray} {pc : Nat} (h : DkAt code pc [96]) : decode code pc = .ok (.iadd, 1) := dk_of ((dk_bind (dk_u1 (h 0 _ rfl))).trans rfl)
theorem dk_97 {code : ByteArray} {pc : Nat} (h : DkAt code pc [97]) : decode code pc = .ok (.ladd, 1) := dk_of ((dk_bind (dk_u1 (h 0 _ rfl))).trans rfl)
theorem dk_100 {code : ByteArray} {pc : Nat} (h : DkAt code pc [100]) : decode code pc = .ok (.isub, 1) := dk_of ((dk_bind (dk_u1 (h 0 _ rfl))).trans rfl)
theorem dk_104 {code : ByteArray} {pc : Nat} (h : DkAt code pc [104]) : decode code pc = .ok (.imul, 1) := dk_of ((dk_bind (dk_u1 (h 0 _ rfl))).trans rfl)
theorem dk_108 {code : ByteArray} {pc : Nat} (h : DkAt code pc [108]) : decode code pc = .ok (.idiv, 1) := dk_of ((dk_bind (dk_u1 (h 0 _ rfl))).trans rfl)
theorem dk_110 {code : ByteArray} {pc : Nat} (h : DkAt code pc [110]) : decode code pc = .ok (.fdiv, 1) := dk_of ((dk_bind (dk_u1 (h 0 _ rfl))).trans rfl)
theorem dk_111 {code : ByteArray} {pc : Nat} (h : DkAt code pc [111]) : decode code pc = .ok (.ddiv, 1) := dk_of ((dk_bind (dk_u1 (h 0 _ rfl))).trans rfl)
theorem dk_112 {code : ByteArray} {pc : Nat} (h : DkAt code pc [112]) : decode code pc = .ok (.irem, 1) := dk_of ((dk_bind (dk_u1 (h 0 _ rfl))).trans rfl)
theorem dk_116 {code : ByteArray} {pc : Nat} (h : DkAt code pc [116]) : decode code pc = .ok (.ineg, 1) := dk_of ((dk_bind (dk_u1 (h 0 _ rfl))).trans rfl)
theorem dk_120 {code : ByteArray} {pc : Nat} (h : DkAt code pc [120]) : decode code pc = .ok (.ishl, 1) := dk_of ((dk_bind (dk_u1 (h 0 _ rfl))).trans rfl)
theorem dk_121 {code : ByteArray} {pc : Nat} (h : DkAt code pc [121]) : decode code pc = .ok (.lshl, 1) := dk_of ((dk_bind (dk_u1 (h 0 _ rfl))).trans rfl)
theorem dk_122 {code : ByteArray} {pc : Nat} (h : DkAt code pc [122]) : decode code pc = .ok (.ishr, 1) := dk_of ((dk_bind (dk_u1 (h 0 _ rfl))).trans rfl)
theorem dk_124 {code : ByteArray} {pc : Nat} (h : DkAt code pc [124]) : decode code pc = .ok (.iushr, 1) := dk_of ((dk_bind (dk_u1 (h 0 _ rfl))).trans rfl)
theorem dk_125 {code : ByteArray} {pc : Nat} (h : DkAt code pc [125]) : decode code pc = .ok (.lushr, 1) := dk_of ((dk_bind (dk_u1 (h 0 _ rfl))).trans rfl)
theorem dk_126 {code : ByteArray} {pc : Nat} (h : DkAt code pc [126]) : decode code pc = .ok (.iand, 1) := dk_of ((dk_bind (dk_u1 (h 0 _ rfl))).trans rfl)
theorem dk_127 {code : ByteArray} {pc : Nat} (h : DkAt code pc [127]) : decode code pc = .ok (.land, 1) := dk_of ((dk_bind (dk_u1 (h 0 _ rfl))).trans rfl)
theorem dk_128 {code : ByteArray} {pc : Nat} (h : DkAt code pc [128]) : decode code pc = .ok (.ior, 1) := dk_of ((dk_bind (dk_u1 (h 0 _ rfl))).trans rfl)
theorem dk_129 {code : ByteArray} {pc : Nat} (h : DkAt code pc [129]) : decode code pc = .ok (.lor, 1) := dk_of ((dk_bind (dk_u1 (h 0 _ rfl))).trans rfl)
theorem dk_130 {code : ByteArray} {pc : Nat} (h : DkAt code pc [130]) : decode code pc = .ok (.ixor, 1) := dk_of ((dk_bind (dk_u1 (h 0 _ rfl))).trans rfl)
theorem dk_131 {code : ByteArray} {pc : Nat} (h : DkAt code pc [131]) : decode code pc = .ok (.lxor, 1) := dk_of ((dk_bind (dk_u1 (h 0 _ rfl))).trans rfl)
theorem dk_132 {code : ByteArray} {pc : Nat} (a b : UInt8) (h : DkAt code pc [132, a, b]) : decode code pc = .ok (.iinc a.toNat (Reader.signed 8 b.toNat), 3) := dk_of ((dk_bind (dk_u1 (h 0 _ rfl))).trans ((dk_bind (dk_u1 (h 1 _ rfl))).trans ((dk_bind (dk_map (dk_u1 (h 2 _ rfl)))).trans rfl)))
theorem dk_133 {code : ByteArray} {pc : Nat} (h : DkAt code pc [133]) : decode code pc = .ok (.i2l, 1) := dk_of ((dk_bind (dk_u1 (h 0 _ rfl))).trans rfl)
theorem dk_134 {code : ByteArray} {pc : Nat} (h : DkAt code pc [134]) : decode code pc = .ok (.i2f, 1) := dk_of ((dk_bind (dk_u1 (h 0 _ rfl))).trans rfl)
theorem dk_135 {code : ByteArray} {pc : Nat} (h : DkAt code pc [135]) : decode code pc = .ok (.i2d, 1) := dk_of ((dk_bind (dk_u1 (h 0 _ rfl))).trans rfl)
theorem dk_136 {code : ByteArray} {pc : Nat} (h : DkAt code pc [136]) : decode code pc = .ok (.l2i, 1) := dk_of ((dk_bind (dk_u1 (h 0 _ rfl))).trans rfl)
theorem dk_141 {code : ByteArray} {pc : Nat} (h : DkAt code pc [141]) : decode code pc = .ok (.f2d, 1) := dk_of ((dk_bind (dk_u1 (h 0 _ rfl))).trans rfl)
theorem dk_145 {code : ByteArray} {pc : Nat} (h : DkAt code pc [145]) : decode code pc = .ok (.i2b, 1) := dk_of ((dk_bind (dk_u1 (h 0 _ rfl))).trans rfl)
theorem dk_146 {code : ByteArray} {pc : Nat} (h : DkAt code pc [146]) : decode code pc = .ok (.i2c, 1) := dk_of ((dk_bind (dk_u1 (h 0 _ rfl))).trans rfl)
theorem dk_148 {code : ByteArray} {pc : Nat} (h : DkAt code pc [148]) : decode code pc = .ok (.lcmp, 1) := dk_of ((dk_bind (dk_u1 (h 0 _ rfl))).trans rfl)
theorem dk_149 {code : ByteArray} {pc : Nat} (h : DkAt code pc [149]) : decode code pc = .ok (.fcmp .l, 1) := dk_of ((dk_bind (dk_u1 (h 0 _ rfl))).trans rfl)
theorem dk_151 {code : ByteArray} {pc : Nat} (h : DkAt code pc [151]) : decode code pc = .ok (.dcmp .l, 1) := dk_of ((dk_bind (dk_u1 (h 0 _ rfl))).trans rfl)
theorem dk_153 {code : ByteArray} {pc : Nat} (a b : UInt8) (h : DkAt code pc [153, a, b]) : decode code pc = .ok (.ifCond .eq (Reader.signed 16 (a.toNat * 256 + b.toNat)), 3) := dk_of ((dk_bind (dk_u1 (h 0 _ rfl))).trans ((dk_bind (dk_map (dk_u2 (h 1 _ rfl) (h 2 _ rfl)))).trans rfl))
theorem dk_154 {code : ByteArray} {pc : Nat} (a b : UInt8) (h : DkAt code pc [154, a, b]) : decode code pc = .ok (.ifCond .ne (Reader.signed 16 (a.toNat * 256 + b.toNat)), 3) := dk_of ((dk_bind (dk_u1 (h 0 _ rfl))).trans ((dk_bind (dk_map (dk_u2 (h 1 _ rfl) (h 2 _ rfl)))).trans rfl))
theorem dk_155 {code : ByteArray} {pc : Nat} (a b : UInt8) (h : DkAt code pc [155, a, b]) : decode code pc = .ok (.ifCond .lt (Reader.signed 16 (a.toNat * 256 + b.toNat)), 3) := dk_of ((dk_bind (dk_u1 (h 0 _ rfl))).trans ((dk_bind (dk_map (dk_u2 (h 1 _ rfl) (h 2 _ rfl)))).trans rfl))
theorem dk_156 {code : ByteArray} {pc : Nat} (a b : UInt8) (h : DkAt code pc [156, a, b]) : decode code pc = .ok (.ifCond .ge (Reader.signed 16 (a.toNat * 256 + b.toNat)), 3) := dk_of ((dk_bind (dk_u1 (h 0 _ rfl))).trans ((dk_bind (dk_map (dk_u2 (h 1 _ rfl) (h 2 _ rfl)))).trans rfl))
theorem dk_157 {code : ByteArray} {pc : Nat} (a b : UInt8) (h : DkAt code pc [157, a, b]) : decode code pc = .ok (.ifCond .gt (Reader.signed 16 (a.toNat * 256 + b.toNat)), 3) := dk_of ((dk_bind (dk_u1 (h 0 _ rfl))).trans ((dk_bind (dk_map (dk_u2 (h 1 _ rfl) (h 2 _ rfl)))).trans rfl))
theorem dk_158 {code : ByteArray} {pc : Nat} (a b : UInt8) (h : DkAt code pc [158, a, b]) : decode code pc = .ok (.ifCond .le (Reader.signed 16 (a.toNat * 256 + b.toNat)), 3) := dk_of ((dk_bind (dk_u1 (h 0 _ rfl))).trans ((dk_bind (dk_map (dk_u2 (h 1 _ rfl) (h 2 _ rfl)))).trans rfl))
theorem dk_159 {code : ByteArray} {pc : Nat} (a b : UInt8) (h : DkAt code pc [159, a, b]) : decode code pc = .ok (.if_icmp .eq (Reader.signed 16 (a.toNat * 256 + b.toNat)), 3) := dk_of ((dk_bind (dk_u1 (h 0 _ rfl))).trans ((dk_bind (dk_map (dk_u2 (h 1 _ rfl) (h 2 _ rfl)))).trans rfl))
theorem dk_160 {code : ByteArray} {pc : Nat} (a b : UInt8) (h : DkAt code pc [160, a, b]) : decode code pc = .ok (.if_icmp .ne (Reader.signed 16 (a.toNat * 256 + b.toNat)), 3) := dk_of ((dk_bind (dk_u1 (h 0 _ rfl))).trans ((dk_bind (dk_map (dk_u2 (h 1 _ rfl) (h 2 _ rfl)))).trans rfl))
theorem dk_161 {code : ByteArray} {pc : Nat} (a b : UInt8) (h : DkAt code pc [161, a, b]) : decode code pc = .ok (.if_icmp .lt (Reader.signed 16 (a.toNat * 256 + b.toNat)), 3) := dk_of ((dk_bind (dk_u1 (h 0 _ rfl))).trans ((dk_bind (dk_map (dk_u2 (h 1 _ rfl) (h 2 _ rfl)))).trans rfl))
theorem dk_162 {code : ByteArray} {pc : Nat} (a b : UInt8) (h : DkAt code pc [162, a, b]) : decode code pc = .ok (.if_icmp .ge (Reader.signed 16 (a.toNat * 256 + b.toNat)), 3) := dk_of ((dk_bind (dk_u1 (h 0 _ rfl))).trans ((dk_bind (dk_map (dk_u2 (h 1 _ rfl) (h 2 _ rfl)))).trans rfl))
theorem dk_163 {code : ByteArray} {pc : Nat} (a b : UInt8) (h : DkAt code pc [163, a, b]) : decode code pc = .ok (.if_icmp .gt (Reader.signed 16 (a.toNat * 256 + b.toNat)), 3) := dk_of ((dk_bind (dk_u1 (h 0 _ rfl))).trans ((dk_bind (dk_map (dk_u2 (h 1 _ rfl) (h 2 _ rfl)))).trans rfl))
theorem dk_164 {code : ByteArray} {pc : Nat} (a b : UInt8) (h : DkAt code pc [164, a, b]) : decode code pc = .ok (.if_icmp .le (Reader.signed 16 (a.toNat * 256 + b.toNat)), 3) := dk_of ((dk_bind (dk_u1 (h 0 _ rfl))).trans ((dk_bind (dk_map (dk_u2 (h 1 _ rfl) (h 2 _ rfl)))).trans rfl))
theorem dk_165 {code : ByteArray} {pc : Nat} (a b : UInt8) (h : DkAt code pc [165, a, b]) : decode code pc = .ok (.if_acmp .eq (Reader.signed 16 (a.toNat * 256 + b.toNat)), 3) := dk_of ((dk_bind (dk_u1 (h 0 _ rfl))).trans ((dk_bind (dk_map (dk_u2 (h 1 _ rfl) (h 2 _ rfl)))).trans rfl))
theorem dk_166 {code : ByteArray} {pc : Nat} (a b : UInt8) (h : DkAt code pc [166, a, b]) : decode code pc = .ok (.if_acmp .ne (Reader.signed 16 (a.toNat * 256 + b.toNat)), 3) := dk_of ((dk_bind (dk_u1 (h 0 _ rfl))).trans ((dk_bind (dk_map (dk_u2 (h 1 _ rfl) (h 2 _ rfl)))).trans rfl))
theorem dk_167 {code : ByteArray} {pc : Nat} (a b : UInt8) (h : DkAt code pc [167, a, b]) : decode code pc = .ok (.goto (Reader.signed 16 (a.toNat * 256 + b.toNat)), 3) := dk_of ((dk_bind (dk_u1 (h 0 _ rfl))).trans ((dk_bind (dk_map (dk_u2 (h 1 _ rfl) (h 2 _ rfl)))).trans rfl))
theorem dk_172 {code : ByteArray} {pc : Nat} (h : DkAt code pc [172]) : decode code pc = .ok (.ireturn, 1) := dk_of ((dk_bind (dk_u1 (h 0 _ rfl))).trans rfl)
theorem dk_173 {code : ByteArray} {pc : Nat} (h : DkAt code pc [173]) : decode code pc = .ok (.lreturn, 1) := dk_of ((dk_bind (dk_u1 (h 0 _ rfl))).trans rfl)
theorem dk_174 {code : ByteArray} {pc : Nat} (h : DkAt code pc [174]) : decode code pc = .ok (.freturn, 1) := dk_of ((dk_bind (dk_u1 (h 0 _ rfl))).trans rfl)
theorem dk_175 {code : ByteArray} {pc : Nat} (h : DkAt code pc [175]) : decode code pc = .ok (.dreturn, 1) := dk_of ((dk_bind (dk_u1 (h 0 _ rfl))).trans rfl)
theorem dk_176 {code : ByteArray} {pc : Nat} (h : DkAt code pc [176]) : decode code pc = .ok (.areturn, 1) := dk_of ((dk_bind (dk_u1 (h 0 _ rfl))).trans rfl)
theorem dk_177 {code : ByteArray} {pc : Nat} (h : DkAt code pc [177]) : decode code pc = .ok (.return_, 1) := dk_of ((dk_bind (dk_u1 (h 0 _ rfl))).trans rfl)
theorem dk_178 {code : ByteArray} {pc : Nat} (a b : UInt8) (h : DkAt code pc [178, a, b]) : decode code pc = .ok (.getstatic (a.toNat * 256 + b.toNat), 3) := dk_of ((dk_bind (dk_u1 (h 0 _ rfl))).trans ((dk_bind (dk_u2 (h 1 _ rfl) (h 2 _ rfl))).trans rfl))
theorem dk_180 {code : ByteArray} {pc : Nat} (a b : UInt8) (h : DkAt code pc [180, a, b]) : decode code pc = .ok (.getfield (a.toNat * 256 + b.toNat), 3) := dk_of ((dk_bind (dk_u1 (h 0 _ rfl))).trans ((dk_bind (dk_u2 (h 1 _ rfl) (h 2 _ rfl))).trans rfl))
theorem dk_181 {code : ByteArray} {pc : Nat} (a b : UInt8) (h : DkAt code pc [181, a, b]) : decode code pc = .ok (.putfield (a.toNat * 256 + b.toNat), 3) := dk_of ((dk_bind (dk_u1 (h 0 _ rfl))).trans ((dk_bind (dk_u2 (h 1 _ rfl) (h 2 _ rfl))).trans rfl))
theorem dk_182 {code : ByteArray} {pc : Nat} (a b : UInt8) (h : DkAt code pc [182, a, b]) : decode code pc = .ok (.invokevirtual (a.toNat * 256 + b.toNat), 3) := dk_of ((dk_bind (dk_u1 (h 0 _ rfl))).trans ((dk_bind (dk_u2 (h 1 _ rfl) (h 2 _ rfl))).trans rfl))
theorem dk_183 {code : ByteArray} {pc : Nat} (a b : UInt8) (h : DkAt code pc [183, a, b]) : decode code pc = .ok (.invokespecial (a.toNat * 256 + b.toNat), 3) := dk_of ((dk_bind (dk_u1 (h 0 _ rfl))).trans ((dk_bind (dk_u2 (h 1 _ rfl) (h 2 _ rfl))).trans rfl))
theorem dk_184 {code : ByteArray} {pc : Nat} (a b : UInt8) (h : DkAt code pc [184, a, b]) : decode code pc = .ok (.invokestatic (a.toNat * 256 + b.toNat), 3) := dk_of ((dk_bind (dk_u1 (h 0 _ rfl))).trans ((dk_bind (dk_u2 (h 1 _ rfl) (h 2 _ rfl))).trans rfl))
theorem dk_187 {code : ByteArray} {pc : Nat} (a b : UInt8) (h : DkAt code pc [187, a, b]) : decode code pc = .ok (.new (a.toNat * 256 + b.toNat), 3) := dk_of ((dk_bind (dk_u1 (h 0 _ rfl))).trans ((dk_bind (dk_u2 (h 1 _ rfl) (h 2 _ rfl))).trans rfl))
theorem dk_188_5 {code : ByteArray} {pc : Nat} (h : DkAt code pc [188, 5]) : decode code pc = .ok (.newarray .char, 2) := dk_of ((dk_bind (dk_u1 (h 0 _ rfl))).trans ((dk_bind (dk_u1 (h 1 _ rfl))).trans rfl))
theorem dk_188_7 {code : ByteArray} {pc : Nat} (h : DkAt code pc [188, 7]) : decode code pc = .ok (.newarray .double, 2) := dk_of ((dk_bind (dk_u1 (h 0 _ rfl))).trans ((dk_bind (dk_u1 (h 1 _ rfl))).trans rfl))
theorem dk_188_8 {code : ByteArray} {pc : Nat} (h : DkAt code pc [188, 8]) : decode code pc = .ok (.newarray .byte, 2) := dk_of ((dk_bind (dk_u1 (h 0 _ rfl))).trans ((dk_bind (dk_u1 (h 1 _ rfl))).trans rfl))
theorem dk_188_10 {code : ByteArray} {pc : Nat} (h : DkAt code pc [188, 10]) : decode code pc = .ok (.newarray .int, 2) := dk_of ((dk_bind (dk_u1 (h 0 _ rfl))).trans ((dk_bind (dk_u1 (h 1 _ rfl))).trans rfl))
theorem dk_188_11 {code : ByteArray} {pc : Nat} (h : DkAt code pc [188, 11]) : decode code pc = .ok (.newarray .long, 2) := dk_of ((dk_bind (dk_u1 (h 0 _ rfl))).trans ((dk_bind (dk_u1 (h 1 _ rfl))).trans rfl))
theorem dk_189 {code : ByteArray} {pc : Nat} (a b : UInt8) (h : DkAt code pc [189, a, b]) : decode code pc = .ok (.anewarray (a.toNat * 256 + b.toNat), 3) := dk_of ((dk_bind (dk_u1 (h 0 _ rfl))).trans ((dk_bind (dk_u2 (h 1 _ rfl) (h 2 _ rfl))).trans rfl))
theorem dk_190 {code : ByteArray} {pc : Nat} (h : DkAt code pc [190]) : decode code pc = .ok (.arraylength, 1) := dk_of ((dk_bind (dk_u1 (h 0 _ rfl))).trans rfl)
theorem dk_191 {code : ByteArray} {pc : Nat} (h : DkAt code pc [191]) : decode code pc = .ok (.athrow, 1) := dk_of ((dk_bind (dk_u1 (h 0 _ rfl))).trans rfl)
theorem dk_192 {code : ByteArray} {pc : Nat} (a b : UInt8) (h : DkAt code pc [192, a, b]) : decode code pc = .ok (.checkcast (a.toNat * 256 + b.toNat), 3) := dk_of ((dk_bind (dk_u1 (h 0 _ rfl))).trans ((dk_bind (dk_u2 (h 1 _ rfl) (h 2 _ rfl))).trans rfl))
theorem dk_193 {code : ByteArray} {pc : Nat} (a b : UInt8) (h : DkAt code pc [193, a, b]) : decode code pc = .ok (.instanceof (a.toNat * 256 + b.toNat), 3) := dk_of ((dk_bind (dk_u1 (h 0 _ rfl))).trans ((dk_bind (dk_u2 (h 1 _ rfl) (h 2 _ rfl))).trans rfl))
theorem dk_198 {code : ByteArray} {pc : Nat} (a b : UInt8) (h : DkAt code pc [198, a, b]) : decode code pc = .ok (.ifnull (Reader.signed 16 (a.toNat * 256 + b.toNat)), 3) := dk_of ((dk_bind (dk_u1 (h 0 _ rfl))).trans ((dk_bind (dk_map (dk_u2 (h 1 _ rfl) (h 2 _ rfl)))).trans rfl))
theorem dk_199 {code : ByteArray} {pc : Nat} (a b : UInt8) (h : DkAt code pc [199, a, b]) : decode code pc = .ok (.ifnonnull (Reader.signed 16 (a.toNat * 256 + b.toNat)), 3) := dk_of ((dk_bind (dk_u1 (h 0 _ rfl))).trans ((dk_bind (dk_map (dk_u2 (h 1 _ rfl) (h 2 _ rfl)))).trans rfl))

def RJ0 : String := "java/util/AbstractMap"
theorem q80 : (Jvm.Cond.initialized "java/util/AbstractMap") ∈ lw_all := lw_g (lw_at lw_m1 3 rfl) rfl
theorem q164 : (Jvm.Cond.instanceMethod ({ cls := "java/util/AbstractMap", name := "<init>", desc := "()V" } : Jvm.MethodName)) ∈ lw_all := lw_g (lw_at lw_m1 87 rfl) rfl
theorem q165 : (Jvm.Cond.code ({ cls := "java/util/AbstractMap", name := "<init>", desc := "()V" } : Jvm.MethodName) prog_45_method_1_code (1 : Nat) (Option.none : Option Jvm.ClassFile.FieldType)) ∈ lw_all := lw_g (lw_at lw_m1 88 rfl) rfl
theorem q166 : (Jvm.Cond.methodLink "java/util/AbstractMap" (1 : Nat) ({ cls := "java/lang/Object", name := "<init>", desc := "()V" } : Jvm.MethodName)) ∈ lw_all := lw_g (lw_at lw_m1 89 rfl) rfl
theorem q193 : (Jvm.Cond.soleField "java/util/AbstractMap" "keySet") ∈ lw_all := lw_g (lw_at lw_m1 116 rfl) rfl
theorem q195 : (Jvm.Cond.soleField "java/util/AbstractMap" "values") ∈ lw_all := lw_g (lw_at lw_m1 118 rfl) rfl
theorem q1411 : (Jvm.Cond.instanceMethod ({ cls := "java/util/AbstractMap", name := "clear", desc := "()V" } : Jvm.MethodName)) ∈ lw_all := lw_g (lw_at lw_m6 134 rfl) rfl
theorem q1412 : (Jvm.Cond.publicMethod ({ cls := "java/util/AbstractMap", name := "clear", desc := "()V" } : Jvm.MethodName)) ∈ lw_tbl := lw_at lw_m6 135 rfl
theorem q1413 : (Jvm.Cond.code ({ cls := "java/util/AbstractMap", name := "clear", desc := "()V" } : Jvm.MethodName) prog_45_method_10_code (1 : Nat) (Option.none : Option Jvm.ClassFile.FieldType)) ∈ lw_all := lw_g (lw_at lw_m6 136 rfl) rfl
theorem q1414 : (Jvm.Cond.methodLink "java/util/AbstractMap" (7 : Nat) ({ cls := "java/util/AbstractMap", name := "entrySet", desc := "()Ljava/util/Set;" } : Jvm.MethodName)) ∈ lw_all := lw_g (lw_at lw_m6 137 rfl) rfl
theorem q1415 : (Jvm.Cond.declares ({ cls := "java/util/AbstractMap", name := "entrySet", desc := "()Ljava/util/Set;" } : Jvm.MethodName)) ∈ lw_tbl := lw_at lw_m6 138 rfl
theorem q1416 : (Jvm.Cond.sameMethod "java/util/AbstractMap" "java/util/AbstractMap" "entrySet" "()Ljava/util/Set;") ∈ lw_all := lw_g (lw_at lw_m6 139 rfl) rfl
theorem q1443 : (Jvm.Cond.interfaceEntry "java/util/AbstractMap" (59 : Nat)) ∈ lw_tbl := lw_at lw_m6 166 rfl
theorem q1444 : (Jvm.Cond.methodLink "java/util/AbstractMap" (59 : Nat) ({ cls := "java/util/Set", name := "clear", desc := "()V" } : Jvm.MethodName)) ∈ lw_all := lw_g (lw_at lw_m6 167 rfl) rfl
theorem q1960 : (Jvm.Cond.declares ({ cls := "java/util/AbstractMap", name := "isEmpty", desc := "()Z" } : Jvm.MethodName)) ∈ lw_tbl := lw_at lw_m8 203 rfl
theorem q1962 : (Jvm.Cond.instanceMethod ({ cls := "java/util/AbstractMap", name := "isEmpty", desc := "()Z" } : Jvm.MethodName)) ∈ lw_all := lw_g (lw_at lw_m8 205 rfl) rfl
theorem q1963 : (Jvm.Cond.code ({ cls := "java/util/AbstractMap", name := "isEmpty", desc := "()Z" } : Jvm.MethodName) prog_45_method_3_code (1 : Nat) (Option.some Jvm.ClassFile.FieldType.boolean)) ∈ lw_all := lw_g (lw_at lw_m8 206 rfl) rfl
theorem q1964 : (Jvm.Cond.methodLink "java/util/AbstractMap" (19 : Nat) ({ cls := "java/util/AbstractMap", name := "size", desc := "()I" } : Jvm.MethodName)) ∈ lw_all := lw_g (lw_at lw_m8 207 rfl) rfl
theorem q1965 : (Jvm.Cond.instanceMethod ({ cls := "java/util/AbstractMap", name := "size", desc := "()I" } : Jvm.MethodName)) ∈ lw_all := lw_g (lw_at lw_m8 208 rfl) rfl
theorem q1966 : (Jvm.Cond.sameMethod "java/util/AbstractMap" "java/util/AbstractMap" "size" "()I") ∈ lw_all := lw_g (lw_at lw_m8 209 rfl) rfl
theorem q2018 : (Jvm.Cond.declares ({ cls := "java/util/AbstractMap", name := "size", desc := "()I" } : Jvm.MethodName)) ∈ lw_tbl := lw_at lw_m9 21 rfl
theorem q2518 : (Jvm.Cond.publicMethod ({ cls := "java/util/AbstractMap", name := "isEmpty", desc := "()Z" } : Jvm.MethodName)) ∈ lw_tbl := lw_at lw_m11 41 rfl
def RJ1 : String := "java/util/TreeMap"
def TJ1 : u_T := fun k => match k with
  | 0 => ("java/util/AbstractMap", "keySet", "Ljava/util/Set;", false)
  | 1 => ("java/util/AbstractMap", "values", "Ljava/util/Collection;", false)
  | 2 => ("java/util/TreeMap", "comparator", "Ljava/util/Comparator;", true)
  | 3 => ("java/util/TreeMap", "root", "Ljava/util/TreeMap$Entry;", false)
  | 4 => ("java/util/TreeMap", "size", "I", false)
  | 5 => ("java/util/TreeMap", "modCount", "I", false)
  | 6 => ("java/util/TreeMap", "entrySet", "Ljava/util/TreeMap$EntrySet;", false)
  | 7 => ("java/util/TreeMap", "navigableKeySet", "Ljava/util/TreeMap$KeySet;", false)
  | _ => ("java/util/TreeMap", "descendingMap", "Ljava/util/NavigableMap;", false)
def tyJ1 : Nat → FieldType := fun k => match k with
  | 0 => .object "java/util/Set"
  | 1 => .object "java/util/Collection"
  | 2 => .object "java/util/Comparator"
  | 3 => .object "java/util/TreeMap$Entry"
  | 4 => .int
  | 5 => .int
  | 6 => .object "java/util/TreeMap$EntrySet"
  | 7 => .object "java/util/TreeMap$KeySet"
  | _ => .object "java/util/NavigableMap"
abbrev wsJ10 : List Cond := u_ws RJ1 TJ1 9
theorem nmJ1 : ∀ a, a < 9 → ∀ b, b < 9 → a ≠ b → (TJ1 a).2.1 ≠ (TJ1 b).2.1 := by decide +kernel
theorem tyJ1_ok : ∀ k, k < 9 → parseFieldDescriptor (TJ1 k).2.2.1 = some (tyJ1 k) := by decide +kernel
theorem q81 : (Jvm.Cond.initialized "java/util/TreeMap") ∈ lw_all := lw_g (lw_at lw_m1 4 rfl) rfl
theorem q159 : (Jvm.Cond.instantiable "java/util/TreeMap" (9 : Nat)) ∈ lw_all := lw_g (lw_at lw_m1 82 rfl) rfl
theorem q161 : (Jvm.Cond.instanceMethod ({ cls := "java/util/TreeMap", name := "<init>", desc := "()V" } : Jvm.MethodName)) ∈ lw_all := lw_g (lw_at lw_m1 84 rfl) rfl
theorem q162 : (Jvm.Cond.code ({ cls := "java/util/TreeMap", name := "<init>", desc := "()V" } : Jvm.MethodName) prog_75_method_1_code (1 : Nat) (Option.none : Option Jvm.ClassFile.FieldType)) ∈ lw_all := lw_g (lw_at lw_m1 85 rfl) rfl
theorem q163 : (Jvm.Cond.methodLink "java/util/TreeMap" (1 : Nat) ({ cls := "java/util/AbstractMap", name := "<init>", desc := "()V" } : Jvm.MethodName)) ∈ lw_all := lw_g (lw_at lw_m1 86 rfl) rfl
theorem q167 : (Jvm.Cond.fieldLink "java/util/TreeMap" (16 : Nat) "java/util/TreeMap" "comparator" "Ljava/util/Comparator;") ∈ lw_all := lw_g (lw_at lw_m1 90 rfl) rfl
theorem q168 : (Jvm.Cond.fieldLink "java/util/TreeMap" (101 : Nat) "java/util/TreeMap" "root" "Ljava/util/TreeMap$Entry;") ∈ lw_all := lw_g (lw_at lw_m1 91 rfl) rfl
theorem q169 : (Jvm.Cond.fieldLink "java/util/TreeMap" (7 : Nat) "java/util/TreeMap" "size" "I") ∈ lw_all := lw_g (lw_at lw_m1 92 rfl) rfl
theorem q170 : (Jvm.Cond.fieldLink "java/util/TreeMap" (13 : Nat) "java/util/TreeMap" "modCount" "I") ∈ lw_all := lw_g (lw_at lw_m1 93 rfl) rfl
theorem q174 : (Jvm.Cond.fieldLink "java/util/TreeMap" (188 : Nat) "java/util/TreeMap" "entrySet" "Ljava/util/TreeMap$EntrySet;") ∈ lw_all := lw_g (lw_at lw_m1 97 rfl) rfl
theorem q175 : (Jvm.Cond.fieldLink "java/util/TreeMap" (191 : Nat) "java/util/TreeMap" "navigableKeySet" "Ljava/util/TreeMap$KeySet;") ∈ lw_all := lw_g (lw_at lw_m1 98 rfl) rfl
theorem q176 : (Jvm.Cond.fieldLink "java/util/TreeMap" (233 : Nat) "java/util/TreeMap" "values" "Ljava/util/Collection;") ∈ lw_all := lw_g (lw_at lw_m1 99 rfl) rfl
theorem q177 : (Jvm.Cond.sameField "java/util/TreeMap" "java/util/AbstractMap" "values" "Ljava/util/Collection;") ∈ lw_all := lw_g (lw_at lw_m1 100 rfl) rfl
theorem q178 : (Jvm.Cond.laysFinal "java/util/TreeMap" "java/util/TreeMap" "comparator" "Ljava/util/Comparator;") ∈ lw_all := lw_g (lw_at lw_m1 101 rfl) rfl
theorem q179 : (Jvm.Cond.soleField "java/util/TreeMap" "comparator") ∈ lw_all := lw_g (lw_at lw_m1 102 rfl) rfl
theorem q180 : (Jvm.Cond.lays "java/util/TreeMap" "java/util/TreeMap" "root" "Ljava/util/TreeMap$Entry;") ∈ lw_all := lw_g (lw_at lw_m1 103 rfl) rfl
theorem q181 : (Jvm.Cond.soleField "java/util/TreeMap" "root") ∈ lw_all := lw_g (lw_at lw_m1 104 rfl) rfl
theorem q182 : (Jvm.Cond.lays "java/util/TreeMap" "java/util/TreeMap" "size" "I") ∈ lw_all := lw_g (lw_at lw_m1 105 rfl) rfl
theorem q183 : (Jvm.Cond.soleField "java/util/TreeMap" "size") ∈ lw_all := lw_g (lw_at lw_m1 106 rfl) rfl
theorem q184 : (Jvm.Cond.lays "java/util/TreeMap" "java/util/TreeMap" "modCount" "I") ∈ lw_all := lw_g (lw_at lw_m1 107 rfl) rfl
theorem q185 : (Jvm.Cond.soleField "java/util/TreeMap" "modCount") ∈ lw_all := lw_g (lw_at lw_m1 108 rfl) rfl
theorem q186 : (Jvm.Cond.lays "java/util/TreeMap" "java/util/TreeMap" "entrySet" "Ljava/util/TreeMap$EntrySet;") ∈ lw_all := lw_g (lw_at lw_m1 109 rfl) rfl
theorem q187 : (Jvm.Cond.soleField "java/util/TreeMap" "entrySet") ∈ lw_all := lw_g (lw_at lw_m1 110 rfl) rfl
theorem q188 : (Jvm.Cond.lays "java/util/TreeMap" "java/util/TreeMap" "navigableKeySet" "Ljava/util/TreeMap$KeySet;") ∈ lw_all := lw_g (lw_at lw_m1 111 rfl) rfl
theorem q189 : (Jvm.Cond.soleField "java/util/TreeMap" "navigableKeySet") ∈ lw_all := lw_g (lw_at lw_m1 112 rfl) rfl
theorem q190 : (Jvm.Cond.lays "java/util/TreeMap" "java/util/TreeMap" "descendingMap" "Ljava/util/NavigableMap;") ∈ lw_all := lw_g (lw_at lw_m1 113 rfl) rfl
theorem q191 : (Jvm.Cond.soleField "java/util/TreeMap" "descendingMap") ∈ lw_all := lw_g (lw_at lw_m1 114 rfl) rfl
theorem q192 : (Jvm.Cond.lays "java/util/TreeMap" "java/util/AbstractMap" "keySet" "Ljava/util/Set;") ∈ lw_all := lw_g (lw_at lw_m1 115 rfl) rfl
theorem q194 : (Jvm.Cond.lays "java/util/TreeMap" "java/util/AbstractMap" "values" "Ljava/util/Collection;") ∈ lw_all := lw_g (lw_at lw_m1 117 rfl) rfl
theorem q196 : (Jvm.Cond.superclass "java/util/TreeMap" "java/util/AbstractMap") ∈ lw_all := lw_g (lw_at lw_m1 119 rfl) rfl
theorem q543 : (Jvm.Cond.selects "java/util/TreeMap" ({ cls := "java/lang/Object", name := "getClass", desc := "()Ljava/lang/Class;" } : Jvm.MethodName) ({ cls := "java/lang/Object", name := "getClass", desc := "()Ljava/lang/Class;" } : Jvm.MethodName)) ∈ lw_all := lw_g (lw_at lw_m2 226 rfl) rfl
theorem q630 : (Jvm.Cond.instanceMethod ({ cls := "java/util/TreeMap", name := "clear", desc := "()V" } : Jvm.MethodName)) ∈ lw_all := lw_g (lw_at lw_m3 73 rfl) rfl
theorem q631 : (Jvm.Cond.selects "java/util/TreeMap" ({ cls := "java/util/TreeMap", name := "clear", desc := "()V" } : Jvm.MethodName) ({ cls := "java/util/TreeMap", name := "clear", desc := "()V" } : Jvm.MethodName)) ∈ lw_all := lw_g (lw_at lw_m3 74 rfl) rfl
theorem q632 : (Jvm.Cond.code ({ cls := "java/util/TreeMap", name := "clear", desc := "()V" } : Jvm.MethodName) prog_75_method_35_code (1 : Nat) (Option.none : Option Jvm.ClassFile.FieldType)) ∈ lw_all := lw_g (lw_at lw_m3 75 rfl) rfl
theorem q634 : (Jvm.Cond.instanceMethod ({ cls := "java/util/TreeMap", name := "entrySet", desc := "()Ljava/util/Set;" } : Jvm.MethodName)) ∈ lw_all := lw_g (lw_at lw_m3 77 rfl) rfl
theorem q635 : (Jvm.Cond.selects "java/util/TreeMap" ({ cls := "java/util/TreeMap", name := "entrySet", desc := "()Ljava/util/Set;" } : Jvm.MethodName) ({ cls := "java/util/TreeMap", name := "entrySet", desc := "()Ljava/util/Set;" } : Jvm.MethodName)) ∈ lw_all := lw_g (lw_at lw_m3 78 rfl) rfl
theorem q636 : (Jvm.Cond.code ({ cls := "java/util/TreeMap", name := "entrySet", desc := "()Ljava/util/Set;" } : Jvm.MethodName) prog_75_method_53_code (2 : Nat) (Option.some (Jvm.ClassFile.FieldType.object "java/util/Set"))) ∈ lw_all := lw_g (lw_at lw_m3 79 rfl) rfl
theorem q637 : (Jvm.Cond.classLink "java/util/TreeMap" (242 : Nat) "java/util/TreeMap$EntrySet") ∈ lw_all := lw_g (lw_at lw_m3 80 rfl) rfl
theorem q639 : (Jvm.Cond.methodLink "java/util/TreeMap" (244 : Nat) ({ cls := "java/util/TreeMap$EntrySet", name := "<init>", desc := "(Ljava/util/TreeMap;)V" } : Jvm.MethodName)) ∈ lw_all := lw_g (lw_at lw_m3 82 rfl) rfl
theorem q666 : (Jvm.Cond.instanceMethod ({ cls := "java/util/TreeMap", name := "getFirstEntry", desc := "()Ljava/util/TreeMap$Entry;" } : Jvm.MethodName)) ∈ lw_all := lw_g (lw_at lw_m3 109 rfl) rfl
theorem q667 : (Jvm.Cond.selects "java/util/TreeMap" ({ cls := "java/util/TreeMap", name := "getFirstEntry", desc := "()Ljava/util/TreeMap$Entry;" } : Jvm.MethodName) ({ cls := "java/util/TreeMap", name := "getFirstEntry", desc := "()Ljava/util/TreeMap$Entry;" } : Jvm.MethodName)) ∈ lw_all := lw_g (lw_at lw_m3 110 rfl) rfl
theorem q668 : (Jvm.Cond.code ({ cls := "java/util/TreeMap", name := "getFirstEntry", desc := "()Ljava/util/TreeMap$Entry;" } : Jvm.MethodName) prog_75_method_72_code (2 : Nat) (Option.some (Jvm.ClassFile.FieldType.object "java/util/TreeMap$Entry"))) ∈ lw_all := lw_g (lw_at lw_m3 111 rfl) rfl
theorem q670 : (Jvm.Cond.instanceMethod ({ cls := "java/util/TreeMap", name := "getCeilingEntry", desc := "(Ljava/lang/Object;)Ljava/util/TreeMap$Entry;" } : Jvm.MethodName)) ∈ lw_all := lw_g (lw_at lw_m3 113 rfl) rfl
theorem q671 : (Jvm.Cond.selects "java/util/TreeMap" ({ cls := "java/util/TreeMap", name := "getCeilingEntry", desc := "(Ljava/lang/Object;)Ljava/util/TreeMap$Entry;" } : Jvm.MethodName) ({ cls := "java/util/TreeMap", name := "getCeilingEntry", desc := "(Ljava/lang/Object;)Ljava/util/TreeMap$Entry;" } : Jvm.MethodName)) ∈ lw_all := lw_g (lw_at lw_m3 114 rfl) rfl
theorem q672 : (Jvm.Cond.code ({ cls := "java/util/TreeMap", name := "getCeilingEntry", desc := "(Ljava/lang/Object;)Ljava/util/TreeMap$Entry;" } : Jvm.MethodName) prog_75_method_17_code (6 : Nat) (Option.some (Jvm.ClassFile.FieldType.object "java/util/TreeMap$Entry"))) ∈ lw_all := lw_g (lw_at lw_m3 115 rfl) rfl
theorem q673 : (Jvm.Cond.methodLink "java/util/TreeMap" (123 : Nat) ({ cls := "java/util/TreeMap", name := "compare", desc := "(Ljava/lang/Object;Ljava/lang/Object;)I" } : Jvm.MethodName)) ∈ lw_all := lw_g (lw_at lw_m3 116 rfl) rfl
theorem q674 : (Jvm.Cond.instanceMethod ({ cls := "java/util/TreeMap", name := "compare", desc := "(Ljava/lang/Object;Ljava/lang/Object;)I" } : Jvm.MethodName)) ∈ lw_all := lw_g (lw_at lw_m3 117 rfl) rfl
theorem q675 : (Jvm.Cond.selects "java/util/TreeMap" ({ cls := "java/util/TreeMap", name := "compare", desc := "(Ljava/lang/Object;Ljava/lang/Object;)I" } : Jvm.MethodName) ({ cls := "java/util/TreeMap", name := "compare", desc := "(Ljava/lang/Object;Ljava/lang/Object;)I" } : Jvm.MethodName)) ∈ lw_all := lw_g (lw_at lw_m3 118 rfl) rfl
theorem q676 : (Jvm.Cond.code ({ cls := "java/util/TreeMap", name := "compare", desc := "(Ljava/lang/Object;Ljava/lang/Object;)I" } : Jvm.MethodName) prog_75_method_67_code (3 : Nat) (Option.some Jvm.ClassFile.FieldType.int)) ∈ lw_all := lw_g (lw_at lw_m3 119 rfl) rfl
theorem q677 : (Jvm.Cond.classLink "java/util/TreeMap" (99 : Nat) "java/lang/Comparable") ∈ lw_all := lw_g (lw_at lw_m3 120 rfl) rfl
theorem q678 : (Jvm.Cond.interfaceEntry "java/util/TreeMap" (107 : Nat)) ∈ lw_tbl := lw_at lw_m3 121 rfl
theorem q679 : (Jvm.Cond.methodLink "java/util/TreeMap" (107 : Nat) ({ cls := "java/lang/Comparable", name := "compareTo", desc := "(Ljava/lang/Object;)I" } : Jvm.MethodName)) ∈ lw_all := lw_g (lw_at lw_m3 122 rfl) rfl
theorem q910 : (Jvm.Cond.interfaceEntry "java/util/TreeMap" (117 : Nat)) ∈ lw_tbl := lw_at lw_m4 113 rfl
theorem q911 : (Jvm.Cond.methodLink "java/util/TreeMap" (117 : Nat) ({ cls := "java/util/Comparator", name := "compare", desc := "(Ljava/lang/Object;Ljava/lang/Object;)I" } : Jvm.MethodName)) ∈ lw_all := lw_g (lw_at lw_m4 114 rfl) rfl
theorem q937 : (Jvm.Cond.instanceMethod ({ cls := "java/util/TreeMap", name := "getHigherEntry", desc := "(Ljava/lang/Object;)Ljava/util/TreeMap$Entry;" } : Jvm.MethodName)) ∈ lw_all := lw_g (lw_at lw_m4 140 rfl) rfl
theorem q938 : (Jvm.Cond.selects "java/util/TreeMap" ({ cls := "java/util/TreeMap", name := "getHigherEntry", desc := "(Ljava/lang/Object;)Ljava/util/TreeMap$Entry;" } : Jvm.MethodName) ({ cls := "java/util/TreeMap", name := "getHigherEntry", desc := "(Ljava/lang/Object;)Ljava/util/TreeMap$Entry;" } : Jvm.MethodName)) ∈ lw_all := lw_g (lw_at lw_m4 141 rfl) rfl
theorem q939 : (Jvm.Cond.code ({ cls := "java/util/TreeMap", name := "getHigherEntry", desc := "(Ljava/lang/Object;)Ljava/util/TreeMap$Entry;" } : Jvm.MethodName) prog_75_method_19_code (6 : Nat) (Option.some (Jvm.ClassFile.FieldType.object "java/util/TreeMap$Entry"))) ∈ lw_all := lw_g (lw_at lw_m4 142 rfl) rfl
theorem q960 : (Jvm.Cond.laysStatic "java/util/TreeMap" "UNBOUNDED" "Ljava/lang/Object;") ∈ lw_tbl := lw_at lw_m4 163 rfl
theorem q1014 : (Jvm.Cond.instanceMethod ({ cls := "java/util/TreeMap", name := "keyIterator", desc := "()Ljava/util/Iterator;" } : Jvm.MethodName)) ∈ lw_all := lw_g (lw_at lw_m4 217 rfl) rfl
theorem q1015 : (Jvm.Cond.selects "java/util/TreeMap" ({ cls := "java/util/TreeMap", name := "keyIterator", desc := "()Ljava/util/Iterator;" } : Jvm.MethodName) ({ cls := "java/util/TreeMap", name := "keyIterator", desc := "()Ljava/util/Iterator;" } : Jvm.MethodName)) ∈ lw_all := lw_g (lw_at lw_m4 218 rfl) rfl
theorem q1016 : (Jvm.Cond.code ({ cls := "java/util/TreeMap", name := "keyIterator", desc := "()Ljava/util/Iterator;" } : Jvm.MethodName) prog_75_method_65_code (1 : Nat) (Option.some (Jvm.ClassFile.FieldType.object "java/util/Iterator"))) ∈ lw_all := lw_g (lw_at lw_m4 219 rfl) rfl
theorem q1017 : (Jvm.Cond.classLink "java/util/TreeMap" (269 : Nat) "java/util/TreeMap$KeyIterator") ∈ lw_all := lw_g (lw_at lw_m4 220 rfl) rfl
theorem q1019 : (Jvm.Cond.methodLink "java/util/TreeMap" (54 : Nat) ({ cls := "java/util/TreeMap", name := "getFirstEntry", desc := "()Ljava/util/TreeMap$Entry;" } : Jvm.MethodName)) ∈ lw_all := lw_g (lw_at lw_m4 222 rfl) rfl
theorem q1020 : (Jvm.Cond.methodLink "java/util/TreeMap" (271 : Nat) ({ cls := "java/util/TreeMap$KeyIterator", name := "<init>", desc := "(Ljava/util/TreeMap;Ljava/util/TreeMap$Entry;)V" } : Jvm.MethodName)) ∈ lw_all := lw_g (lw_at lw_m4 223 rfl) rfl
theorem q1063 : (Jvm.Cond.castable "java/util/TreeMap" "java/util/NavigableMap") ∈ lw_tbl := lw_at lw_m5 26 rfl
theorem q1064 : (Jvm.Cond.selects "java/util/TreeMap" ({ cls := "java/util/NavigableMap", name := "navigableKeySet", desc := "()Ljava/util/NavigableSet;" } : Jvm.MethodName) ({ cls := "java/util/TreeMap", name := "navigableKeySet", desc := "()Ljava/util/NavigableSet;" } : Jvm.MethodName)) ∈ lw_all := lw_g (lw_at lw_m5 27 rfl) rfl
theorem q1065 : (Jvm.Cond.unhidden "java/util/TreeMap" "navigableKeySet" "()Ljava/util/NavigableSet;") ∈ lw_tbl := lw_at lw_m5 28 rfl
theorem q1066 : (Jvm.Cond.instanceMethod ({ cls := "java/util/TreeMap", name := "navigableKeySet", desc := "()Ljava/util/NavigableSet;" } : Jvm.MethodName)) ∈ lw_all := lw_g (lw_at lw_m5 29 rfl) rfl
theorem q1067 : (Jvm.Cond.publicMethod ({ cls := "java/util/TreeMap", name := "navigableKeySet", desc := "()Ljava/util/NavigableSet;" } : Jvm.MethodName)) ∈ lw_tbl := lw_at lw_m5 30 rfl
theorem q1068 : (Jvm.Cond.code ({ cls := "java/util/TreeMap", name := "navigableKeySet", desc := "()Ljava/util/NavigableSet;" } : Jvm.MethodName) prog_75_method_50_code (2 : Nat) (Option.some (Jvm.ClassFile.FieldType.object "java/util/NavigableSet"))) ∈ lw_all := lw_g (lw_at lw_m5 31 rfl) rfl
theorem q1069 : (Jvm.Cond.classLink "java/util/TreeMap" (222 : Nat) "java/util/TreeMap$KeySet") ∈ lw_all := lw_g (lw_at lw_m5 32 rfl) rfl
theorem q1071 : (Jvm.Cond.methodLink "java/util/TreeMap" (224 : Nat) ({ cls := "java/util/TreeMap$KeySet", name := "<init>", desc := "(Ljava/util/NavigableMap;)V" } : Jvm.MethodName)) ∈ lw_all := lw_g (lw_at lw_m5 34 rfl) rfl
theorem q1206 : (Jvm.Cond.static ({ cls := "java/util/TreeMap", name := "successor", desc := "(Ljava/util/TreeMap$Entry;)Ljava/util/TreeMap$Entry;" } : Jvm.MethodName)) ∈ lw_all := lw_g (lw_at lw_m5 169 rfl) rfl
theorem q1207 : (Jvm.Cond.code ({ cls := "java/util/TreeMap", name := "successor", desc := "(Ljava/util/TreeMap$Entry;)Ljava/util/TreeMap$Entry;" } : Jvm.MethodName) prog_75_method_74_code (3 : Nat) (Option.some (Jvm.ClassFile.FieldType.object "java/util/TreeMap$Entry"))) ∈ lw_all := lw_g (lw_at lw_m5 170 rfl) rfl
theorem q1315 : (Jvm.Cond.instanceMethod ({ cls := "java/util/TreeMap", name := "put", desc := "(Ljava/lang/Object;Ljava/lang/Object;)Ljava/lang/Object;" } : Jvm.MethodName)) ∈ lw_all := lw_g (lw_at lw_m6 38 rfl) rfl
theorem q1316 : (Jvm.Cond.selects "java/util/TreeMap" ({ cls := "java/util/TreeMap", name := "put", desc := "(Ljava/lang/Object;Ljava/lang/Object;)Ljava/lang/Object;" } : Jvm.MethodName) ({ cls := "java/util/TreeMap", name := "put", desc := "(Ljava/lang/Object;Ljava/lang/Object;)Ljava/lang/Object;" } : Jvm.MethodName)) ∈ lw_all := lw_g (lw_at lw_m6 39 rfl) rfl
theorem q1317 : (Jvm.Cond.code ({ cls := "java/util/TreeMap", name := "put", desc := "(Ljava/lang/Object;Ljava/lang/Object;)Ljava/lang/Object;" } : Jvm.MethodName) prog_75_method_21_code (3 : Nat) (Option.some (Jvm.ClassFile.FieldType.object "java/lang/Object"))) ∈ lw_all := lw_g (lw_at lw_m6 40 rfl) rfl
theorem q1318 : (Jvm.Cond.methodLink "java/util/TreeMap" (127 : Nat) ({ cls := "java/util/TreeMap", name := "put", desc := "(Ljava/lang/Object;Ljava/lang/Object;Z)Ljava/lang/Object;" } : Jvm.MethodName)) ∈ lw_all := lw_g (lw_at lw_m6 41 rfl) rfl
theorem q1319 : (Jvm.Cond.privateMethod ({ cls := "java/util/TreeMap", name := "put", desc := "(Ljava/lang/Object;Ljava/lang/Object;Z)Ljava/lang/Object;" } : Jvm.MethodName)) ∈ lw_tbl := lw_at lw_m6 42 rfl
theorem q1320 : (Jvm.Cond.instanceMethod ({ cls := "java/util/TreeMap", name := "put", desc := "(Ljava/lang/Object;Ljava/lang/Object;Z)Ljava/lang/Object;" } : Jvm.MethodName)) ∈ lw_all := lw_g (lw_at lw_m6 43 rfl) rfl
theorem q1321 : (Jvm.Cond.code ({ cls := "java/util/TreeMap", name := "put", desc := "(Ljava/lang/Object;Ljava/lang/Object;Z)Ljava/lang/Object;" } : Jvm.MethodName) prog_75_method_31_code (10 : Nat) (Option.some (Jvm.ClassFile.FieldType.object "java/lang/Object"))) ∈ lw_all := lw_g (lw_at lw_m6 44 rfl) rfl
theorem q1322 : (Jvm.Cond.methodLink "java/util/TreeMap" (135 : Nat) ({ cls := "java/util/TreeMap", name := "addEntryToEmptyMap", desc := "(Ljava/lang/Object;Ljava/lang/Object;)V" } : Jvm.MethodName)) ∈ lw_all := lw_g (lw_at lw_m6 45 rfl) rfl
theorem q1323 : (Jvm.Cond.privateMethod ({ cls := "java/util/TreeMap", name := "addEntryToEmptyMap", desc := "(Ljava/lang/Object;Ljava/lang/Object;)V" } : Jvm.MethodName)) ∈ lw_tbl := lw_at lw_m6 46 rfl
theorem q1324 : (Jvm.Cond.instanceMethod ({ cls := "java/util/TreeMap", name := "addEntryToEmptyMap", desc := "(Ljava/lang/Object;Ljava/lang/Object;)V" } : Jvm.MethodName)) ∈ lw_all := lw_g (lw_at lw_m6 47 rfl) rfl
theorem q1325 : (Jvm.Cond.code ({ cls := "java/util/TreeMap", name := "addEntryToEmptyMap", desc := "(Ljava/lang/Object;Ljava/lang/Object;)V" } : Jvm.MethodName) prog_75_method_30_code (3 : Nat) (Option.none : Option Jvm.ClassFile.FieldType)) ∈ lw_all := lw_g (lw_at lw_m6 48 rfl) rfl
theorem q1326 : (Jvm.Cond.classLink "java/util/TreeMap" (59 : Nat) "java/util/TreeMap$Entry") ∈ lw_all := lw_g (lw_at lw_m6 49 rfl) rfl
theorem q1328 : (Jvm.Cond.methodLink "java/util/TreeMap" (167 : Nat) ({ cls := "java/util/TreeMap$Entry", name := "<init>", desc := "(Ljava/lang/Object;Ljava/lang/Object;Ljava/util/TreeMap$Entry;)V" } : Jvm.MethodName)) ∈ lw_all := lw_g (lw_at lw_m6 51 rfl) rfl
theorem q1338 : (Jvm.Cond.fieldLink "java/util/TreeMap" (105 : Nat) "java/util/TreeMap$Entry" "key" "Ljava/lang/Object;") ∈ lw_all := lw_g (lw_at lw_m6 61 rfl) rfl
theorem q1341 : (Jvm.Cond.fieldLink "java/util/TreeMap" (58 : Nat) "java/util/TreeMap$Entry" "value" "Ljava/lang/Object;") ∈ lw_all := lw_g (lw_at lw_m6 64 rfl) rfl
theorem q1344 : (Jvm.Cond.fieldLink "java/util/TreeMap" (111 : Nat) "java/util/TreeMap$Entry" "left" "Ljava/util/TreeMap$Entry;") ∈ lw_all := lw_g (lw_at lw_m6 67 rfl) rfl
theorem q1347 : (Jvm.Cond.fieldLink "java/util/TreeMap" (114 : Nat) "java/util/TreeMap$Entry" "right" "Ljava/util/TreeMap$Entry;") ∈ lw_all := lw_g (lw_at lw_m6 70 rfl) rfl
theorem q1349 : (Jvm.Cond.fieldLink "java/util/TreeMap" (124 : Nat) "java/util/TreeMap$Entry" "parent" "Ljava/util/TreeMap$Entry;") ∈ lw_all := lw_g (lw_at lw_m6 72 rfl) rfl
theorem q1351 : (Jvm.Cond.fieldLink "java/util/TreeMap" (290 : Nat) "java/util/TreeMap$Entry" "color" "Z") ∈ lw_all := lw_g (lw_at lw_m6 74 rfl) rfl
theorem q1365 : (Jvm.Cond.methodLink "java/util/TreeMap" (95 : Nat) ({ cls := "java/util/Objects", name := "requireNonNull", desc := "(Ljava/lang/Object;)Ljava/lang/Object;" } : Jvm.MethodName)) ∈ lw_all := lw_g (lw_at lw_m6 88 rfl) rfl
theorem q1368 : (Jvm.Cond.methodLink "java/util/TreeMap" (139 : Nat) ({ cls := "java/util/TreeMap", name := "addEntry", desc := "(Ljava/lang/Object;Ljava/lang/Object;Ljava/util/TreeMap$Entry;Z)V" } : Jvm.MethodName)) ∈ lw_all := lw_g (lw_at lw_m6 91 rfl) rfl
theorem q1369 : (Jvm.Cond.privateMethod ({ cls := "java/util/TreeMap", name := "addEntry", desc := "(Ljava/lang/Object;Ljava/lang/Object;Ljava/util/TreeMap$Entry;Z)V" } : Jvm.MethodName)) ∈ lw_tbl := lw_at lw_m6 92 rfl
theorem q1370 : (Jvm.Cond.instanceMethod ({ cls := "java/util/TreeMap", name := "addEntry", desc := "(Ljava/lang/Object;Ljava/lang/Object;Ljava/util/TreeMap$Entry;Z)V" } : Jvm.MethodName)) ∈ lw_all := lw_g (lw_at lw_m6 93 rfl) rfl
theorem q1371 : (Jvm.Cond.code ({ cls := "java/util/TreeMap", name := "addEntry", desc := "(Ljava/lang/Object;Ljava/lang/Object;Ljava/util/TreeMap$Entry;Z)V" } : Jvm.MethodName) prog_75_method_29_code (6 : Nat) (Option.none : Option Jvm.ClassFile.FieldType)) ∈ lw_all := lw_g (lw_at lw_m6 94 rfl) rfl
theorem q1372 : (Jvm.Cond.methodLink "java/util/TreeMap" (170 : Nat) ({ cls := "java/util/TreeMap", name := "fixAfterInsertion", desc := "(Ljava/util/TreeMap$Entry;)V" } : Jvm.MethodName)) ∈ lw_all := lw_g (lw_at lw_m6 95 rfl) rfl
theorem q1373 : (Jvm.Cond.privateMethod ({ cls := "java/util/TreeMap", name := "fixAfterInsertion", desc := "(Ljava/util/TreeMap$Entry;)V" } : Jvm.MethodName)) ∈ lw_tbl := lw_at lw_m6 96 rfl
theorem q1374 : (Jvm.Cond.instanceMethod ({ cls := "java/util/TreeMap", name := "fixAfterInsertion", desc := "(Ljava/util/TreeMap$Entry;)V" } : Jvm.MethodName)) ∈ lw_all := lw_g (lw_at lw_m6 97 rfl) rfl
theorem q1375 : (Jvm.Cond.code ({ cls := "java/util/TreeMap", name := "fixAfterInsertion", desc := "(Ljava/util/TreeMap$Entry;)V" } : Jvm.MethodName) prog_75_method_83_code (3 : Nat) (Option.none : Option Jvm.ClassFile.FieldType)) ∈ lw_all := lw_g (lw_at lw_m6 98 rfl) rfl
theorem q1376 : (Jvm.Cond.methodLink "java/util/TreeMap" (294 : Nat) ({ cls := "java/util/TreeMap", name := "parentOf", desc := "(Ljava/util/TreeMap$Entry;)Ljava/util/TreeMap$Entry;" } : Jvm.MethodName)) ∈ lw_all := lw_g (lw_at lw_m6 99 rfl) rfl
theorem q1377 : (Jvm.Cond.static ({ cls := "java/util/TreeMap", name := "parentOf", desc := "(Ljava/util/TreeMap$Entry;)Ljava/util/TreeMap$Entry;" } : Jvm.MethodName)) ∈ lw_all := lw_g (lw_at lw_m6 100 rfl) rfl
theorem q1378 : (Jvm.Cond.code ({ cls := "java/util/TreeMap", name := "parentOf", desc := "(Ljava/util/TreeMap$Entry;)Ljava/util/TreeMap$Entry;" } : Jvm.MethodName) prog_75_method_77_code (1 : Nat) (Option.some (Jvm.ClassFile.FieldType.object "java/util/TreeMap$Entry"))) ∈ lw_all := lw_g (lw_at lw_m6 101 rfl) rfl
theorem q1379 : (Jvm.Cond.methodLink "java/util/TreeMap" (297 : Nat) ({ cls := "java/util/TreeMap", name := "leftOf", desc := "(Ljava/util/TreeMap$Entry;)Ljava/util/TreeMap$Entry;" } : Jvm.MethodName)) ∈ lw_all := lw_g (lw_at lw_m6 102 rfl) rfl
theorem q1380 : (Jvm.Cond.static ({ cls := "java/util/TreeMap", name := "leftOf", desc := "(Ljava/util/TreeMap$Entry;)Ljava/util/TreeMap$Entry;" } : Jvm.MethodName)) ∈ lw_all := lw_g (lw_at lw_m6 103 rfl) rfl
theorem q1381 : (Jvm.Cond.code ({ cls := "java/util/TreeMap", name := "leftOf", desc := "(Ljava/util/TreeMap$Entry;)Ljava/util/TreeMap$Entry;" } : Jvm.MethodName) prog_75_method_79_code (1 : Nat) (Option.some (Jvm.ClassFile.FieldType.object "java/util/TreeMap$Entry"))) ∈ lw_all := lw_g (lw_at lw_m6 104 rfl) rfl
theorem q1382 : (Jvm.Cond.methodLink "java/util/TreeMap" (300 : Nat) ({ cls := "java/util/TreeMap", name := "rightOf", desc := "(Ljava/util/TreeMap$Entry;)Ljava/util/TreeMap$Entry;" } : Jvm.MethodName)) ∈ lw_all := lw_g (lw_at lw_m6 105 rfl) rfl
theorem q1383 : (Jvm.Cond.static ({ cls := "java/util/TreeMap", name := "rightOf", desc := "(Ljava/util/TreeMap$Entry;)Ljava/util/TreeMap$Entry;" } : Jvm.MethodName)) ∈ lw_all := lw_g (lw_at lw_m6 106 rfl) rfl
theorem q1384 : (Jvm.Cond.code ({ cls := "java/util/TreeMap", name := "rightOf", desc := "(Ljava/util/TreeMap$Entry;)Ljava/util/TreeMap$Entry;" } : Jvm.MethodName) prog_75_method_80_code (1 : Nat) (Option.some (Jvm.ClassFile.FieldType.object "java/util/TreeMap$Entry"))) ∈ lw_all := lw_g (lw_at lw_m6 107 rfl) rfl
theorem q1385 : (Jvm.Cond.methodLink "java/util/TreeMap" (303 : Nat) ({ cls := "java/util/TreeMap", name := "colorOf", desc := "(Ljava/util/TreeMap$Entry;)Z" } : Jvm.MethodName)) ∈ lw_all := lw_g (lw_at lw_m6 108 rfl) rfl
theorem q1386 : (Jvm.Cond.static ({ cls := "java/util/TreeMap", name := "colorOf", desc := "(Ljava/util/TreeMap$Entry;)Z" } : Jvm.MethodName)) ∈ lw_all := lw_g (lw_at lw_m6 109 rfl) rfl
theorem q1387 : (Jvm.Cond.code ({ cls := "java/util/TreeMap", name := "colorOf", desc := "(Ljava/util/TreeMap$Entry;)Z" } : Jvm.MethodName) prog_75_method_76_code (1 : Nat) (Option.some Jvm.ClassFile.FieldType.boolean)) ∈ lw_all := lw_g (lw_at lw_m6 110 rfl) rfl
theorem q1388 : (Jvm.Cond.methodLink "java/util/TreeMap" (307 : Nat) ({ cls := "java/util/TreeMap", name := "setColor", desc := "(Ljava/util/TreeMap$Entry;Z)V" } : Jvm.MethodName)) ∈ lw_all := lw_g (lw_at lw_m6 111 rfl) rfl
theorem q1389 : (Jvm.Cond.static ({ cls := "java/util/TreeMap", name := "setColor", desc := "(Ljava/util/TreeMap$Entry;Z)V" } : Jvm.MethodName)) ∈ lw_all := lw_g (lw_at lw_m6 112 rfl) rfl
theorem q1390 : (Jvm.Cond.code ({ cls := "java/util/TreeMap", name := "setColor", desc := "(Ljava/util/TreeMap$Entry;Z)V" } : Jvm.MethodName) prog_75_method_78_code (2 : Nat) (Option.none : Option Jvm.ClassFile.FieldType)) ∈ lw_all := lw_g (lw_at lw_m6 113 rfl) rfl
theorem q1391 : (Jvm.Cond.methodLink "java/util/TreeMap" (311 : Nat) ({ cls := "java/util/TreeMap", name := "rotateLeft", desc := "(Ljava/util/TreeMap$Entry;)V" } : Jvm.MethodName)) ∈ lw_all := lw_g (lw_at lw_m6 114 rfl) rfl
theorem q1392 : (Jvm.Cond.privateMethod ({ cls := "java/util/TreeMap", name := "rotateLeft", desc := "(Ljava/util/TreeMap$Entry;)V" } : Jvm.MethodName)) ∈ lw_tbl := lw_at lw_m6 115 rfl
theorem q1393 : (Jvm.Cond.instanceMethod ({ cls := "java/util/TreeMap", name := "rotateLeft", desc := "(Ljava/util/TreeMap$Entry;)V" } : Jvm.MethodName)) ∈ lw_all := lw_g (lw_at lw_m6 116 rfl) rfl
theorem q1394 : (Jvm.Cond.code ({ cls := "java/util/TreeMap", name := "rotateLeft", desc := "(Ljava/util/TreeMap$Entry;)V" } : Jvm.MethodName) prog_75_method_81_code (3 : Nat) (Option.none : Option Jvm.ClassFile.FieldType)) ∈ lw_all := lw_g (lw_at lw_m6 117 rfl) rfl
theorem q1395 : (Jvm.Cond.methodLink "java/util/TreeMap" (314 : Nat) ({ cls := "java/util/TreeMap", name := "rotateRight", desc := "(Ljava/util/TreeMap$Entry;)V" } : Jvm.MethodName)) ∈ lw_all := lw_g (lw_at lw_m6 118 rfl) rfl
theorem q1396 : (Jvm.Cond.privateMethod ({ cls := "java/util/TreeMap", name := "rotateRight", desc := "(Ljava/util/TreeMap$Entry;)V" } : Jvm.MethodName)) ∈ lw_tbl := lw_at lw_m6 119 rfl
theorem q1397 : (Jvm.Cond.instanceMethod ({ cls := "java/util/TreeMap", name := "rotateRight", desc := "(Ljava/util/TreeMap$Entry;)V" } : Jvm.MethodName)) ∈ lw_all := lw_g (lw_at lw_m6 120 rfl) rfl
theorem q1398 : (Jvm.Cond.code ({ cls := "java/util/TreeMap", name := "rotateRight", desc := "(Ljava/util/TreeMap$Entry;)V" } : Jvm.MethodName) prog_75_method_82_code (3 : Nat) (Option.none : Option Jvm.ClassFile.FieldType)) ∈ lw_all := lw_g (lw_at lw_m6 121 rfl) rfl
theorem q1406 : (Jvm.Cond.selects "java/util/TreeMap" ({ cls := "java/util/Map", name := "clear", desc := "()V" } : Jvm.MethodName) ({ cls := "java/util/TreeMap", name := "clear", desc := "()V" } : Jvm.MethodName)) ∈ lw_all := lw_g (lw_at lw_m6 129 rfl) rfl
theorem q1407 : (Jvm.Cond.unhidden "java/util/TreeMap" "clear" "()V") ∈ lw_tbl := lw_at lw_m6 130 rfl
theorem q1408 : (Jvm.Cond.publicMethod ({ cls := "java/util/TreeMap", name := "clear", desc := "()V" } : Jvm.MethodName)) ∈ lw_tbl := lw_at lw_m6 131 rfl
theorem q1417 : (Jvm.Cond.selects "java/util/TreeMap" ({ cls := "java/util/AbstractMap", name := "entrySet", desc := "()Ljava/util/Set;" } : Jvm.MethodName) ({ cls := "java/util/TreeMap", name := "entrySet", desc := "()Ljava/util/Set;" } : Jvm.MethodName)) ∈ lw_all := lw_g (lw_at lw_m6 140 rfl) rfl
theorem q1618 : (Jvm.Cond.privateMethod ({ cls := "java/util/TreeMap", name := "deleteEntry", desc := "(Ljava/util/TreeMap$Entry;)V" } : Jvm.MethodName)) ∈ lw_tbl := lw_at lw_m7 101 rfl
theorem q1619 : (Jvm.Cond.instanceMethod ({ cls := "java/util/TreeMap", name := "deleteEntry", desc := "(Ljava/util/TreeMap$Entry;)V" } : Jvm.MethodName)) ∈ lw_all := lw_g (lw_at lw_m7 102 rfl) rfl
theorem q1620 : (Jvm.Cond.code ({ cls := "java/util/TreeMap", name := "deleteEntry", desc := "(Ljava/util/TreeMap$Entry;)V" } : Jvm.MethodName) prog_75_method_84_code (3 : Nat) (Option.none : Option Jvm.ClassFile.FieldType)) ∈ lw_all := lw_g (lw_at lw_m7 103 rfl) rfl
theorem q1621 : (Jvm.Cond.methodLink "java/util/TreeMap" (68 : Nat) ({ cls := "java/util/TreeMap", name := "successor", desc := "(Ljava/util/TreeMap$Entry;)Ljava/util/TreeMap$Entry;" } : Jvm.MethodName)) ∈ lw_all := lw_g (lw_at lw_m7 104 rfl) rfl
theorem q1622 : (Jvm.Cond.methodLink "java/util/TreeMap" (317 : Nat) ({ cls := "java/util/TreeMap", name := "fixAfterDeletion", desc := "(Ljava/util/TreeMap$Entry;)V" } : Jvm.MethodName)) ∈ lw_all := lw_g (lw_at lw_m7 105 rfl) rfl
theorem q1623 : (Jvm.Cond.privateMethod ({ cls := "java/util/TreeMap", name := "fixAfterDeletion", desc := "(Ljava/util/TreeMap$Entry;)V" } : Jvm.MethodName)) ∈ lw_tbl := lw_at lw_m7 106 rfl
theorem q1624 : (Jvm.Cond.instanceMethod ({ cls := "java/util/TreeMap", name := "fixAfterDeletion", desc := "(Ljava/util/TreeMap$Entry;)V" } : Jvm.MethodName)) ∈ lw_all := lw_g (lw_at lw_m7 107 rfl) rfl
theorem q1625 : (Jvm.Cond.code ({ cls := "java/util/TreeMap", name := "fixAfterDeletion", desc := "(Ljava/util/TreeMap$Entry;)V" } : Jvm.MethodName) prog_75_method_85_code (3 : Nat) (Option.none : Option Jvm.ClassFile.FieldType)) ∈ lw_all := lw_g (lw_at lw_m7 108 rfl) rfl
theorem q1678 : (Jvm.Cond.selects "java/util/TreeMap" ({ cls := "java/util/Map", name := "put", desc := "(Ljava/lang/Object;Ljava/lang/Object;)Ljava/lang/Object;" } : Jvm.MethodName) ({ cls := "java/util/TreeMap", name := "put", desc := "(Ljava/lang/Object;Ljava/lang/Object;)Ljava/lang/Object;" } : Jvm.MethodName)) ∈ lw_all := lw_g (lw_at lw_m7 161 rfl) rfl
theorem q1679 : (Jvm.Cond.unhidden "java/util/TreeMap" "put" "(Ljava/lang/Object;Ljava/lang/Object;)Ljava/lang/Object;") ∈ lw_tbl := lw_at lw_m7 162 rfl
theorem q1680 : (Jvm.Cond.publicMethod ({ cls := "java/util/TreeMap", name := "put", desc := "(Ljava/lang/Object;Ljava/lang/Object;)Ljava/lang/Object;" } : Jvm.MethodName)) ∈ lw_tbl := lw_at lw_m7 163 rfl
theorem q1849 : (Jvm.Cond.instanceMethod ({ cls := "java/util/TreeMap", name := "get", desc := "(Ljava/lang/Object;)Ljava/lang/Object;" } : Jvm.MethodName)) ∈ lw_all := lw_g (lw_at lw_m8 92 rfl) rfl
theorem q1850 : (Jvm.Cond.selects "java/util/TreeMap" ({ cls := "java/util/TreeMap", name := "get", desc := "(Ljava/lang/Object;)Ljava/lang/Object;" } : Jvm.MethodName) ({ cls := "java/util/TreeMap", name := "get", desc := "(Ljava/lang/Object;)Ljava/lang/Object;" } : Jvm.MethodName)) ∈ lw_all := lw_g (lw_at lw_m8 93 rfl) rfl
theorem q1851 : (Jvm.Cond.code ({ cls := "java/util/TreeMap", name := "get", desc := "(Ljava/lang/Object;)Ljava/lang/Object;" } : Jvm.MethodName) prog_75_method_8_code (3 : Nat) (Option.some (Jvm.ClassFile.FieldType.object "java/lang/Object"))) ∈ lw_all := lw_g (lw_at lw_m8 94 rfl) rfl
theorem q1852 : (Jvm.Cond.methodLink "java/util/TreeMap" (50 : Nat) ({ cls := "java/util/TreeMap", name := "getEntry", desc := "(Ljava/lang/Object;)Ljava/util/TreeMap$Entry;" } : Jvm.MethodName)) ∈ lw_all := lw_g (lw_at lw_m8 95 rfl) rfl
theorem q1853 : (Jvm.Cond.instanceMethod ({ cls := "java/util/TreeMap", name := "getEntry", desc := "(Ljava/lang/Object;)Ljava/util/TreeMap$Entry;" } : Jvm.MethodName)) ∈ lw_all := lw_g (lw_at lw_m8 96 rfl) rfl
theorem q1854 : (Jvm.Cond.selects "java/util/TreeMap" ({ cls := "java/util/TreeMap", name := "getEntry", desc := "(Ljava/lang/Object;)Ljava/util/TreeMap$Entry;" } : Jvm.MethodName) ({ cls := "java/util/TreeMap", name := "getEntry", desc := "(Ljava/lang/Object;)Ljava/util/TreeMap$Entry;" } : Jvm.MethodName)) ∈ lw_all := lw_g (lw_at lw_m8 97 rfl) rfl
theorem q1855 : (Jvm.Cond.code ({ cls := "java/util/TreeMap", name := "getEntry", desc := "(Ljava/lang/Object;)Ljava/util/TreeMap$Entry;" } : Jvm.MethodName) prog_75_method_15_code (5 : Nat) (Option.some (Jvm.ClassFile.FieldType.object "java/util/TreeMap$Entry"))) ∈ lw_all := lw_g (lw_at lw_m8 98 rfl) rfl
theorem q1856 : (Jvm.Cond.methodLink "java/util/TreeMap" (92 : Nat) ({ cls := "java/util/TreeMap", name := "getEntryUsingComparator", desc := "(Ljava/lang/Object;)Ljava/util/TreeMap$Entry;" } : Jvm.MethodName)) ∈ lw_all := lw_g (lw_at lw_m8 99 rfl) rfl
theorem q1857 : (Jvm.Cond.instanceMethod ({ cls := "java/util/TreeMap", name := "getEntryUsingComparator", desc := "(Ljava/lang/Object;)Ljava/util/TreeMap$Entry;" } : Jvm.MethodName)) ∈ lw_all := lw_g (lw_at lw_m8 100 rfl) rfl
theorem q1858 : (Jvm.Cond.selects "java/util/TreeMap" ({ cls := "java/util/TreeMap", name := "getEntryUsingComparator", desc := "(Ljava/lang/Object;)Ljava/util/TreeMap$Entry;" } : Jvm.MethodName) ({ cls := "java/util/TreeMap", name := "getEntryUsingComparator", desc := "(Ljava/lang/Object;)Ljava/util/TreeMap$Entry;" } : Jvm.MethodName)) ∈ lw_all := lw_g (lw_at lw_m8 101 rfl) rfl
theorem q1859 : (Jvm.Cond.code ({ cls := "java/util/TreeMap", name := "getEntryUsingComparator", desc := "(Ljava/lang/Object;)Ljava/util/TreeMap$Entry;" } : Jvm.MethodName) prog_75_method_16_code (6 : Nat) (Option.some (Jvm.ClassFile.FieldType.object "java/util/TreeMap$Entry"))) ∈ lw_all := lw_g (lw_at lw_m8 102 rfl) rfl
theorem q1886 : (Jvm.Cond.instanceMethod ({ cls := "java/util/TreeMap", name := "size", desc := "()I" } : Jvm.MethodName)) ∈ lw_all := lw_g (lw_at lw_m8 129 rfl) rfl
theorem q1887 : (Jvm.Cond.selects "java/util/TreeMap" ({ cls := "java/util/TreeMap", name := "size", desc := "()I" } : Jvm.MethodName) ({ cls := "java/util/TreeMap", name := "size", desc := "()I" } : Jvm.MethodName)) ∈ lw_all := lw_g (lw_at lw_m8 130 rfl) rfl
theorem q1888 : (Jvm.Cond.code ({ cls := "java/util/TreeMap", name := "size", desc := "()I" } : Jvm.MethodName) prog_75_method_5_code (1 : Nat) (Option.some Jvm.ClassFile.FieldType.int)) ∈ lw_all := lw_g (lw_at lw_m8 131 rfl) rfl
theorem q1940 : (Jvm.Cond.instanceMethod ({ cls := "java/util/TreeMap", name := "keySet", desc := "()Ljava/util/Set;" } : Jvm.MethodName)) ∈ lw_all := lw_g (lw_at lw_m8 183 rfl) rfl
theorem q1941 : (Jvm.Cond.selects "java/util/TreeMap" ({ cls := "java/util/TreeMap", name := "keySet", desc := "()Ljava/util/Set;" } : Jvm.MethodName) ({ cls := "java/util/TreeMap", name := "keySet", desc := "()Ljava/util/Set;" } : Jvm.MethodName)) ∈ lw_all := lw_g (lw_at lw_m8 184 rfl) rfl
theorem q1942 : (Jvm.Cond.code ({ cls := "java/util/TreeMap", name := "keySet", desc := "()Ljava/util/Set;" } : Jvm.MethodName) prog_75_method_49_code (1 : Nat) (Option.some (Jvm.ClassFile.FieldType.object "java/util/Set"))) ∈ lw_all := lw_g (lw_at lw_m8 185 rfl) rfl
theorem q1943 : (Jvm.Cond.methodLink "java/util/TreeMap" (219 : Nat) ({ cls := "java/util/TreeMap", name := "navigableKeySet", desc := "()Ljava/util/NavigableSet;" } : Jvm.MethodName)) ∈ lw_all := lw_g (lw_at lw_m8 186 rfl) rfl
theorem q1959 : (Jvm.Cond.sameMethod "java/util/TreeMap" "java/util/AbstractMap" "isEmpty" "()Z") ∈ lw_all := lw_g (lw_at lw_m8 202 rfl) rfl
theorem q1961 : (Jvm.Cond.selects "java/util/TreeMap" ({ cls := "java/util/TreeMap", name := "isEmpty", desc := "()Z" } : Jvm.MethodName) ({ cls := "java/util/AbstractMap", name := "isEmpty", desc := "()Z" } : Jvm.MethodName)) ∈ lw_all := lw_g (lw_at lw_m8 204 rfl) rfl
theorem q1967 : (Jvm.Cond.selects "java/util/TreeMap" ({ cls := "java/util/AbstractMap", name := "size", desc := "()I" } : Jvm.MethodName) ({ cls := "java/util/TreeMap", name := "size", desc := "()I" } : Jvm.MethodName)) ∈ lw_all := lw_g (lw_at lw_m8 210 rfl) rfl
theorem q2006 : (Jvm.Cond.selects "java/util/TreeMap" ({ cls := "java/util/Map", name := "size", desc := "()I" } : Jvm.MethodName) ({ cls := "java/util/TreeMap", name := "size", desc := "()I" } : Jvm.MethodName)) ∈ lw_all := lw_g (lw_at lw_m9 9 rfl) rfl
theorem q2007 : (Jvm.Cond.unhidden "java/util/TreeMap" "size" "()I") ∈ lw_tbl := lw_at lw_m9 10 rfl
theorem q2008 : (Jvm.Cond.publicMethod ({ cls := "java/util/TreeMap", name := "size", desc := "()I" } : Jvm.MethodName)) ∈ lw_tbl := lw_at lw_m9 11 rfl
theorem q2024 : (Jvm.Cond.instanceMethod ({ cls := "java/util/TreeMap", name := "floorKey", desc := "(Ljava/lang/Object;)Ljava/lang/Object;" } : Jvm.MethodName)) ∈ lw_all := lw_g (lw_at lw_m9 27 rfl) rfl
theorem q2025 : (Jvm.Cond.selects "java/util/TreeMap" ({ cls := "java/util/TreeMap", name := "floorKey", desc := "(Ljava/lang/Object;)Ljava/lang/Object;" } : Jvm.MethodName) ({ cls := "java/util/TreeMap", name := "floorKey", desc := "(Ljava/lang/Object;)Ljava/lang/Object;" } : Jvm.MethodName)) ∈ lw_all := lw_g (lw_at lw_m9 28 rfl) rfl
theorem q2026 : (Jvm.Cond.code ({ cls := "java/util/TreeMap", name := "floorKey", desc := "(Ljava/lang/Object;)Ljava/lang/Object;" } : Jvm.MethodName) prog_75_method_44_code (2 : Nat) (Option.some (Jvm.ClassFile.FieldType.object "java/lang/Object"))) ∈ lw_all := lw_g (lw_at lw_m9 29 rfl) rfl
theorem q2027 : (Jvm.Cond.methodLink "java/util/TreeMap" (210 : Nat) ({ cls := "java/util/TreeMap", name := "getFloorEntry", desc := "(Ljava/lang/Object;)Ljava/util/TreeMap$Entry;" } : Jvm.MethodName)) ∈ lw_all := lw_g (lw_at lw_m9 30 rfl) rfl
theorem q2028 : (Jvm.Cond.instanceMethod ({ cls := "java/util/TreeMap", name := "getFloorEntry", desc := "(Ljava/lang/Object;)Ljava/util/TreeMap$Entry;" } : Jvm.MethodName)) ∈ lw_all := lw_g (lw_at lw_m9 31 rfl) rfl
theorem q2029 : (Jvm.Cond.selects "java/util/TreeMap" ({ cls := "java/util/TreeMap", name := "getFloorEntry", desc := "(Ljava/lang/Object;)Ljava/util/TreeMap$Entry;" } : Jvm.MethodName) ({ cls := "java/util/TreeMap", name := "getFloorEntry", desc := "(Ljava/lang/Object;)Ljava/util/TreeMap$Entry;" } : Jvm.MethodName)) ∈ lw_all := lw_g (lw_at lw_m9 32 rfl) rfl
theorem q2030 : (Jvm.Cond.code ({ cls := "java/util/TreeMap", name := "getFloorEntry", desc := "(Ljava/lang/Object;)Ljava/util/TreeMap$Entry;" } : Jvm.MethodName) prog_75_method_18_code (6 : Nat) (Option.some (Jvm.ClassFile.FieldType.object "java/util/TreeMap$Entry"))) ∈ lw_all := lw_g (lw_at lw_m9 33 rfl) rfl
theorem q2031 : (Jvm.Cond.methodLink "java/util/TreeMap" (207 : Nat) ({ cls := "java/util/TreeMap", name := "keyOrNull", desc := "(Ljava/util/TreeMap$Entry;)Ljava/lang/Object;" } : Jvm.MethodName)) ∈ lw_all := lw_g (lw_at lw_m9 34 rfl) rfl
theorem q2032 : (Jvm.Cond.static ({ cls := "java/util/TreeMap", name := "keyOrNull", desc := "(Ljava/util/TreeMap$Entry;)Ljava/lang/Object;" } : Jvm.MethodName)) ∈ lw_all := lw_g (lw_at lw_m9 35 rfl) rfl
theorem q2033 : (Jvm.Cond.code ({ cls := "java/util/TreeMap", name := "keyOrNull", desc := "(Ljava/util/TreeMap$Entry;)Ljava/lang/Object;" } : Jvm.MethodName) prog_75_method_70_code (1 : Nat) (Option.some (Jvm.ClassFile.FieldType.object "java/lang/Object"))) ∈ lw_all := lw_g (lw_at lw_m9 36 rfl) rfl
theorem q2035 : (Jvm.Cond.instanceMethod ({ cls := "java/util/TreeMap", name := "ceilingKey", desc := "(Ljava/lang/Object;)Ljava/lang/Object;" } : Jvm.MethodName)) ∈ lw_all := lw_g (lw_at lw_m9 38 rfl) rfl
theorem q2036 : (Jvm.Cond.selects "java/util/TreeMap" ({ cls := "java/util/TreeMap", name := "ceilingKey", desc := "(Ljava/lang/Object;)Ljava/lang/Object;" } : Jvm.MethodName) ({ cls := "java/util/TreeMap", name := "ceilingKey", desc := "(Ljava/lang/Object;)Ljava/lang/Object;" } : Jvm.MethodName)) ∈ lw_all := lw_g (lw_at lw_m9 39 rfl) rfl
theorem q2037 : (Jvm.Cond.code ({ cls := "java/util/TreeMap", name := "ceilingKey", desc := "(Ljava/lang/Object;)Ljava/lang/Object;" } : Jvm.MethodName) prog_75_method_46_code (2 : Nat) (Option.some (Jvm.ClassFile.FieldType.object "java/lang/Object"))) ∈ lw_all := lw_g (lw_at lw_m9 40 rfl) rfl
theorem q2038 : (Jvm.Cond.methodLink "java/util/TreeMap" (213 : Nat) ({ cls := "java/util/TreeMap", name := "getCeilingEntry", desc := "(Ljava/lang/Object;)Ljava/util/TreeMap$Entry;" } : Jvm.MethodName)) ∈ lw_all := lw_g (lw_at lw_m9 41 rfl) rfl
theorem q2055 : (Jvm.Cond.instanceMethod ({ cls := "java/util/TreeMap", name := "values", desc := "()Ljava/util/Collection;" } : Jvm.MethodName)) ∈ lw_all := lw_g (lw_at lw_m9 58 rfl) rfl
theorem q2056 : (Jvm.Cond.selects "java/util/TreeMap" ({ cls := "java/util/TreeMap", name := "values", desc := "()Ljava/util/Collection;" } : Jvm.MethodName) ({ cls := "java/util/TreeMap", name := "values", desc := "()Ljava/util/Collection;" } : Jvm.MethodName)) ∈ lw_all := lw_g (lw_at lw_m9 59 rfl) rfl
theorem q2057 : (Jvm.Cond.code ({ cls := "java/util/TreeMap", name := "values", desc := "()Ljava/util/Collection;" } : Jvm.MethodName) prog_75_method_52_code (2 : Nat) (Option.some (Jvm.ClassFile.FieldType.object "java/util/Collection"))) ∈ lw_all := lw_g (lw_at lw_m9 60 rfl) rfl
theorem q2058 : (Jvm.Cond.classLink "java/util/TreeMap" (237 : Nat) "java/util/TreeMap$Values") ∈ lw_all := lw_g (lw_at lw_m9 61 rfl) rfl
theorem q2060 : (Jvm.Cond.methodLink "java/util/TreeMap" (239 : Nat) ({ cls := "java/util/TreeMap$Values", name := "<init>", desc := "(Ljava/util/TreeMap;)V" } : Jvm.MethodName)) ∈ lw_all := lw_g (lw_at lw_m9 63 rfl) rfl
theorem q2226 : (Jvm.Cond.selects "java/util/TreeMap" ({ cls := "java/util/NavigableMap", name := "headMap", desc := "(Ljava/lang/Object;Z)Ljava/util/NavigableMap;" } : Jvm.MethodName) ({ cls := "java/util/TreeMap", name := "headMap", desc := "(Ljava/lang/Object;Z)Ljava/util/NavigableMap;" } : Jvm.MethodName)) ∈ lw_all := lw_g (lw_at lw_m9 229 rfl) rfl
theorem q2227 : (Jvm.Cond.unhidden "java/util/TreeMap" "headMap" "(Ljava/lang/Object;Z)Ljava/util/NavigableMap;") ∈ lw_tbl := lw_at lw_m9 230 rfl
theorem q2228 : (Jvm.Cond.instanceMethod ({ cls := "java/util/TreeMap", name := "headMap", desc := "(Ljava/lang/Object;Z)Ljava/util/NavigableMap;" } : Jvm.MethodName)) ∈ lw_all := lw_g (lw_at lw_m9 231 rfl) rfl
theorem q2229 : (Jvm.Cond.publicMethod ({ cls := "java/util/TreeMap", name := "headMap", desc := "(Ljava/lang/Object;Z)Ljava/util/NavigableMap;" } : Jvm.MethodName)) ∈ lw_tbl := lw_at lw_m9 232 rfl
theorem q2230 : (Jvm.Cond.code ({ cls := "java/util/TreeMap", name := "headMap", desc := "(Ljava/lang/Object;Z)Ljava/util/NavigableMap;" } : Jvm.MethodName) prog_75_method_56_code (3 : Nat) (Option.some (Jvm.ClassFile.FieldType.object "java/util/NavigableMap"))) ∈ lw_all := lw_g (lw_at lw_m9 233 rfl) rfl
theorem q2231 : (Jvm.Cond.classLink "java/util/TreeMap" (250 : Nat) "java/util/TreeMap$AscendingSubMap") ∈ lw_all := lw_g (lw_at lw_m9 234 rfl) rfl
theorem q2233 : (Jvm.Cond.methodLink "java/util/TreeMap" (252 : Nat) ({ cls := "java/util/TreeMap$AscendingSubMap", name := "<init>", desc := "(Ljava/util/TreeMap;ZLjava/lang/Object;ZZLjava/lang/Object;Z)V" } : Jvm.MethodName)) ∈ lw_all := lw_g (lw_at lw_m9 236 rfl) rfl
theorem q2333 : (Jvm.Cond.selects "java/util/TreeMap" ({ cls := "java/util/Map", name := "remove", desc := "(Ljava/lang/Object;)Ljava/lang/Object;" } : Jvm.MethodName) ({ cls := "java/util/TreeMap", name := "remove", desc := "(Ljava/lang/Object;)Ljava/lang/Object;" } : Jvm.MethodName)) ∈ lw_all := lw_g (lw_at lw_m10 96 rfl) rfl
theorem q2334 : (Jvm.Cond.unhidden "java/util/TreeMap" "remove" "(Ljava/lang/Object;)Ljava/lang/Object;") ∈ lw_tbl := lw_at lw_m10 97 rfl
theorem q2335 : (Jvm.Cond.instanceMethod ({ cls := "java/util/TreeMap", name := "remove", desc := "(Ljava/lang/Object;)Ljava/lang/Object;" } : Jvm.MethodName)) ∈ lw_all := lw_g (lw_at lw_m10 98 rfl) rfl
theorem q2336 : (Jvm.Cond.publicMethod ({ cls := "java/util/TreeMap", name := "remove", desc := "(Ljava/lang/Object;)Ljava/lang/Object;" } : Jvm.MethodName)) ∈ lw_tbl := lw_at lw_m10 99 rfl
theorem q2337 : (Jvm.Cond.code ({ cls := "java/util/TreeMap", name := "remove", desc := "(Ljava/lang/Object;)Ljava/lang/Object;" } : Jvm.MethodName) prog_75_method_34_code (4 : Nat) (Option.some (Jvm.ClassFile.FieldType.object "java/lang/Object"))) ∈ lw_all := lw_g (lw_at lw_m10 100 rfl) rfl
theorem q2338 : (Jvm.Cond.methodLink "java/util/TreeMap" (174 : Nat) ({ cls := "java/util/TreeMap", name := "deleteEntry", desc := "(Ljava/util/TreeMap$Entry;)V" } : Jvm.MethodName)) ∈ lw_all := lw_g (lw_at lw_m10 101 rfl) rfl
theorem q2390 : (Jvm.Cond.instanceMethod ({ cls := "java/util/TreeMap", name := "<init>", desc := "(Ljava/util/Comparator;)V" } : Jvm.MethodName)) ∈ lw_all := lw_g (lw_at lw_m10 153 rfl) rfl
theorem q2391 : (Jvm.Cond.code ({ cls := "java/util/TreeMap", name := "<init>", desc := "(Ljava/util/Comparator;)V" } : Jvm.MethodName) prog_75_method_2_code (2 : Nat) (Option.none : Option Jvm.ClassFile.FieldType)) ∈ lw_all := lw_g (lw_at lw_m10 154 rfl) rfl
theorem q2516 : (Jvm.Cond.selects "java/util/TreeMap" ({ cls := "java/util/Map", name := "isEmpty", desc := "()Z" } : Jvm.MethodName) ({ cls := "java/util/AbstractMap", name := "isEmpty", desc := "()Z" } : Jvm.MethodName)) ∈ lw_all := lw_g (lw_at lw_m11 39 rfl) rfl
theorem q2517 : (Jvm.Cond.unhidden "java/util/TreeMap" "isEmpty" "()Z") ∈ lw_tbl := lw_at lw_m11 40 rfl
theorem q2572 : (Jvm.Cond.selects "java/util/TreeMap" ({ cls := "java/util/SortedMap", name := "firstKey", desc := "()Ljava/lang/Object;" } : Jvm.MethodName) ({ cls := "java/util/TreeMap", name := "firstKey", desc := "()Ljava/lang/Object;" } : Jvm.MethodName)) ∈ lw_all := lw_g (lw_at lw_m11 95 rfl) rfl
theorem q2573 : (Jvm.Cond.unhidden "java/util/TreeMap" "firstKey" "()Ljava/lang/Object;") ∈ lw_tbl := lw_at lw_m11 96 rfl
theorem q2574 : (Jvm.Cond.instanceMethod ({ cls := "java/util/TreeMap", name := "firstKey", desc := "()Ljava/lang/Object;" } : Jvm.MethodName)) ∈ lw_all := lw_g (lw_at lw_m11 97 rfl) rfl
theorem q2575 : (Jvm.Cond.publicMethod ({ cls := "java/util/TreeMap", name := "firstKey", desc := "()Ljava/lang/Object;" } : Jvm.MethodName)) ∈ lw_tbl := lw_at lw_m11 98 rfl
theorem q2576 : (Jvm.Cond.code ({ cls := "java/util/TreeMap", name := "firstKey", desc := "()Ljava/lang/Object;" } : Jvm.MethodName) prog_75_method_10_code (1 : Nat) (Option.some (Jvm.ClassFile.FieldType.object "java/lang/Object"))) ∈ lw_all := lw_g (lw_at lw_m11 99 rfl) rfl
theorem q2577 : (Jvm.Cond.methodLink "java/util/TreeMap" (72 : Nat) ({ cls := "java/util/TreeMap", name := "key", desc := "(Ljava/util/TreeMap$Entry;)Ljava/lang/Object;" } : Jvm.MethodName)) ∈ lw_all := lw_g (lw_at lw_m11 100 rfl) rfl
theorem q2578 : (Jvm.Cond.static ({ cls := "java/util/TreeMap", name := "key", desc := "(Ljava/util/TreeMap$Entry;)Ljava/lang/Object;" } : Jvm.MethodName)) ∈ lw_all := lw_g (lw_at lw_m11 101 rfl) rfl
theorem q2579 : (Jvm.Cond.code ({ cls := "java/util/TreeMap", name := "key", desc := "(Ljava/util/TreeMap$Entry;)Ljava/lang/Object;" } : Jvm.MethodName) prog_75_method_71_code (1 : Nat) (Option.some (Jvm.ClassFile.FieldType.object "java/lang/Object"))) ∈ lw_all := lw_g (lw_at lw_m11 102 rfl) rfl
theorem q2580 : (Jvm.Cond.classLink "java/util/TreeMap" (287 : Nat) "java/util/NoSuchElementException") ∈ lw_all := lw_g (lw_at lw_m11 103 rfl) rfl
theorem q2581 : (Jvm.Cond.methodLink "java/util/TreeMap" (289 : Nat) ({ cls := "java/util/NoSuchElementException", name := "<init>", desc := "()V" } : Jvm.MethodName)) ∈ lw_all := lw_g (lw_at lw_m11 104 rfl) rfl
theorem q2602 : (Jvm.Cond.selects "java/util/TreeMap" ({ cls := "java/util/NavigableMap", name := "pollFirstEntry", desc := "()Ljava/util/Map$Entry;" } : Jvm.MethodName) ({ cls := "java/util/TreeMap", name := "pollFirstEntry", desc := "()Ljava/util/Map$Entry;" } : Jvm.MethodName)) ∈ lw_all := lw_g (lw_at lw_m11 125 rfl) rfl
theorem q2603 : (Jvm.Cond.unhidden "java/util/TreeMap" "pollFirstEntry" "()Ljava/util/Map$Entry;") ∈ lw_tbl := lw_at lw_m11 126 rfl
theorem q2604 : (Jvm.Cond.instanceMethod ({ cls := "java/util/TreeMap", name := "pollFirstEntry", desc := "()Ljava/util/Map$Entry;" } : Jvm.MethodName)) ∈ lw_all := lw_g (lw_at lw_m11 127 rfl) rfl
theorem q2605 : (Jvm.Cond.publicMethod ({ cls := "java/util/TreeMap", name := "pollFirstEntry", desc := "()Ljava/util/Map$Entry;" } : Jvm.MethodName)) ∈ lw_tbl := lw_at lw_m11 128 rfl
theorem q2606 : (Jvm.Cond.code ({ cls := "java/util/TreeMap", name := "pollFirstEntry", desc := "()Ljava/util/Map$Entry;" } : Jvm.MethodName) prog_75_method_39_code (3 : Nat) (Option.some (Jvm.ClassFile.FieldType.object "java/util/Map$Entry"))) ∈ lw_all := lw_g (lw_at lw_m11 129 rfl) rfl
theorem q2607 : (Jvm.Cond.methodLink "java/util/TreeMap" (200 : Nat) ({ cls := "java/util/TreeMap", name := "exportEntry", desc := "(Ljava/util/TreeMap$Entry;)Ljava/util/Map$Entry;" } : Jvm.MethodName)) ∈ lw_all := lw_g (lw_at lw_m11 130 rfl) rfl
theorem q2608 : (Jvm.Cond.static ({ cls := "java/util/TreeMap", name := "exportEntry", desc := "(Ljava/util/TreeMap$Entry;)Ljava/util/Map$Entry;" } : Jvm.MethodName)) ∈ lw_all := lw_g (lw_at lw_m11 131 rfl) rfl
theorem q2609 : (Jvm.Cond.code ({ cls := "java/util/TreeMap", name := "exportEntry", desc := "(Ljava/util/TreeMap$Entry;)Ljava/util/Map$Entry;" } : Jvm.MethodName) prog_75_method_69_code (1 : Nat) (Option.some (Jvm.ClassFile.FieldType.object "java/util/Map$Entry"))) ∈ lw_all := lw_g (lw_at lw_m11 132 rfl) rfl
theorem q2610 : (Jvm.Cond.classLink "java/util/TreeMap" (282 : Nat) "java/util/AbstractMap$SimpleImmutableEntry") ∈ lw_all := lw_g (lw_at lw_m11 133 rfl) rfl
theorem q2612 : (Jvm.Cond.methodLink "java/util/TreeMap" (284 : Nat) ({ cls := "java/util/AbstractMap$SimpleImmutableEntry", name := "<init>", desc := "(Ljava/util/Map$Entry;)V" } : Jvm.MethodName)) ∈ lw_all := lw_g (lw_at lw_m11 135 rfl) rfl
theorem q3510 : (Jvm.Cond.selects "java/util/TreeMap" ({ cls := "java/util/TreeMap", name := "navigableKeySet", desc := "()Ljava/util/NavigableSet;" } : Jvm.MethodName) ({ cls := "java/util/TreeMap", name := "navigableKeySet", desc := "()Ljava/util/NavigableSet;" } : Jvm.MethodName)) ∈ lw_all := lw_g (lw_at lw_m15 73 rfl) rfl
theorem q3512 : (Jvm.Cond.selects "java/util/TreeMap" ({ cls := "java/util/TreeMap", name := "remove", desc := "(Ljava/lang/Object;)Ljava/lang/Object;" } : Jvm.MethodName) ({ cls := "java/util/TreeMap", name := "remove", desc := "(Ljava/lang/Object;)Ljava/lang/Object;" } : Jvm.MethodName)) ∈ lw_all := lw_g (lw_at lw_m15 75 rfl) rfl
theorem q3536 : (Jvm.Cond.castable "java/util/TreeMap" "java/lang/Object") ∈ lw_tbl := lw_at lw_m15 99 rfl
def RJ10 : String := "java/lang/Throwable"
def TJ10 : u_T := fun k => match k with
  | 0 => ("java/lang/Throwable", "cause", "Ljava/lang/Throwable;", false)
  | 1 => ("java/lang/Throwable", "stackTrace", "[Ljava/lang/StackTraceElement;", false)
  | 2 => ("java/lang/Throwable", "suppressedExceptions", "Ljava/util/List;", false)
  | 3 => ("java/lang/Throwable", "detailMessage", "Ljava/lang/String;", false)
  | _ => ("java/lang/Throwable", "backtrace", "Ljava/lang/Object;", false)
def tyJ10 : Nat → FieldType := fun k => match k with
  | 0 => .object "java/lang/Throwable"
  | 1 => .array (.object "java/lang/StackTraceElement")
  | 2 => .object "java/util/List"
  | 3 => .object "java/lang/String"
  | _ => .object "java/lang/Object"
abbrev wsJ100 : List Cond := u_ws RJ10 TJ10 5
theorem nmJ10 : ∀ a, a < 5 → ∀ b, b < 5 → a ≠ b → (TJ10 a).2.1 ≠ (TJ10 b).2.1 := by decide +kernel
theorem tyJ10_ok : ∀ k, k < 5 → parseFieldDescriptor (TJ10 k).2.2.1 = some (tyJ10 k) := by decide +kernel
theorem q93 : (Jvm.Cond.initialized "java/lang/Throwable") ∈ lw_all := lw_g (lw_at lw_m1 16 rfl) rfl
theorem q441 : (Jvm.Cond.declares ({ cls := "java/lang/Throwable", name := "<init>", desc := "()V" } : Jvm.MethodName)) ∈ lw_tbl := lw_at lw_m2 124 rfl
theorem q442 : (Jvm.Cond.declares ({ cls := "java/lang/Throwable", name := "<init>", desc := "(Ljava/lang/String;)V" } : Jvm.MethodName)) ∈ lw_tbl := lw_at lw_m2 125 rfl
theorem q446 : (Jvm.Cond.lays "java/lang/Throwable" "java/lang/Throwable" "cause" "Ljava/lang/Throwable;") ∈ lw_all := lw_g (lw_at lw_m2 129 rfl) rfl
theorem q448 : (Jvm.Cond.lays "java/lang/Throwable" "java/lang/Throwable" "stackTrace" "[Ljava/lang/StackTraceElement;") ∈ lw_all := lw_g (lw_at lw_m2 131 rfl) rfl
theorem q450 : (Jvm.Cond.lays "java/lang/Throwable" "java/lang/Throwable" "suppressedExceptions" "Ljava/util/List;") ∈ lw_all := lw_g (lw_at lw_m2 133 rfl) rfl
theorem q452 : (Jvm.Cond.lays "java/lang/Throwable" "java/lang/Throwable" "detailMessage" "Ljava/lang/String;") ∈ lw_all := lw_g (lw_at lw_m2 135 rfl) rfl
theorem q454 : (Jvm.Cond.lays "java/lang/Throwable" "java/lang/Throwable" "backtrace" "Ljava/lang/Object;") ∈ lw_all := lw_g (lw_at lw_m2 137 rfl) rfl
theorem q455 : (Jvm.Cond.fieldLink "java/lang/Throwable" (198 : Nat) "java/lang/Throwable" "backtrace" "Ljava/lang/Object;") ∈ lw_all := lw_g (lw_at lw_m2 138 rfl) rfl
theorem q456 : (Jvm.Cond.superclass "java/lang/Throwable" "java/lang/Object") ∈ lw_all := lw_g (lw_at lw_m2 139 rfl) rfl
theorem q457 : (Jvm.Cond.instanceMethod ({ cls := "java/lang/Throwable", name := "<init>", desc := "()V" } : Jvm.MethodName)) ∈ lw_all := lw_g (lw_at lw_m2 140 rfl) rfl
theorem q458 : (Jvm.Cond.code ({ cls := "java/lang/Throwable", name := "<init>", desc := "()V" } : Jvm.MethodName) prog_39_method_1_code (1 : Nat) (Option.none : Option Jvm.ClassFile.FieldType)) ∈ lw_all := lw_g (lw_at lw_m2 141 rfl) rfl
theorem q459 : (Jvm.Cond.methodLink "java/lang/Throwable" (1 : Nat) ({ cls := "java/lang/Object", name := "<init>", desc := "()V" } : Jvm.MethodName)) ∈ lw_all := lw_g (lw_at lw_m2 142 rfl) rfl
theorem q460 : (Jvm.Cond.fieldLink "java/lang/Throwable" (13 : Nat) "java/lang/Throwable" "UNASSIGNED_STACK" "[Ljava/lang/StackTraceElement;") ∈ lw_all := lw_g (lw_at lw_m2 143 rfl) rfl
theorem q461 : (Jvm.Cond.laysStatic "java/lang/Throwable" "UNASSIGNED_STACK" "[Ljava/lang/StackTraceElement;") ∈ lw_tbl := lw_at lw_m2 144 rfl
theorem q462 : (Jvm.Cond.fieldLink "java/lang/Throwable" (20 : Nat) "java/lang/Throwable" "SUPPRESSED_SENTINEL" "Ljava/util/List;") ∈ lw_all := lw_g (lw_at lw_m2 145 rfl) rfl
theorem q463 : (Jvm.Cond.laysStatic "java/lang/Throwable" "SUPPRESSED_SENTINEL" "Ljava/util/List;") ∈ lw_tbl := lw_at lw_m2 146 rfl
theorem q464 : (Jvm.Cond.methodLink "java/lang/Throwable" (27 : Nat) ({ cls := "java/lang/Throwable", name := "fillInStackTrace", desc := "()Ljava/lang/Throwable;" } : Jvm.MethodName)) ∈ lw_all := lw_g (lw_at lw_m2 147 rfl) rfl
theorem q465 : (Jvm.Cond.instanceMethod ({ cls := "java/lang/Throwable", name := "fillInStackTrace", desc := "()Ljava/lang/Throwable;" } : Jvm.MethodName)) ∈ lw_all := lw_g (lw_at lw_m2 148 rfl) rfl
theorem q466 : (Jvm.Cond.sameMethod "java/lang/Throwable" "java/lang/Throwable" "fillInStackTrace" "()Ljava/lang/Throwable;") ∈ lw_all := lw_g (lw_at lw_m2 149 rfl) rfl
theorem q476 : (Jvm.Cond.codeSync ({ cls := "java/lang/Throwable", name := "fillInStackTrace", desc := "()Ljava/lang/Throwable;" } : Jvm.MethodName) prog_39_method_18_code (1 : Nat) (Option.some (Jvm.ClassFile.FieldType.object "java/lang/Throwable"))) ∈ lw_all := lw_g (lw_at lw_m2 159 rfl) rfl
theorem q477 : (Jvm.Cond.methodLink "java/lang/Throwable" (202 : Nat) ({ cls := "java/lang/Throwable", name := "fillInStackTrace", desc := "(I)Ljava/lang/Throwable;" } : Jvm.MethodName)) ∈ lw_all := lw_g (lw_at lw_m2 160 rfl) rfl
theorem q478 : (Jvm.Cond.privateMethod ({ cls := "java/lang/Throwable", name := "fillInStackTrace", desc := "(I)Ljava/lang/Throwable;" } : Jvm.MethodName)) ∈ lw_tbl := lw_at lw_m2 161 rfl
theorem q479 : (Jvm.Cond.instanceMethod ({ cls := "java/lang/Throwable", name := "fillInStackTrace", desc := "(I)Ljava/lang/Throwable;" } : Jvm.MethodName)) ∈ lw_all := lw_g (lw_at lw_m2 162 rfl) rfl
theorem q480 : (Jvm.Cond.instantiable "java/lang/Throwable" (6 : Nat)) ∈ lw_all := lw_g (lw_at lw_m2 163 rfl) rfl
theorem q481 : (Jvm.Cond.native ({ cls := "java/lang/Throwable", name := "fillInStackTrace", desc := "(I)Ljava/lang/Throwable;" } : Jvm.MethodName)) ∈ lw_all := lw_g (lw_at lw_m2 164 rfl) rfl
theorem q493 : (Jvm.Cond.instanceMethod ({ cls := "java/lang/Throwable", name := "<init>", desc := "(Ljava/lang/String;)V" } : Jvm.MethodName)) ∈ lw_all := lw_g (lw_at lw_m2 176 rfl) rfl
theorem q494 : (Jvm.Cond.code ({ cls := "java/lang/Throwable", name := "<init>", desc := "(Ljava/lang/String;)V" } : Jvm.MethodName) prog_39_method_2_code (2 : Nat) (Option.none : Option Jvm.ClassFile.FieldType)) ∈ lw_all := lw_g (lw_at lw_m2 177 rfl) rfl
theorem q495 : (Jvm.Cond.fieldLink "java/lang/Throwable" (198 : Nat) "java/lang/Throwable" "backtrace" "Ljava/lang/Object;") ∈ lw_all := lw_g (lw_at lw_m2 178 rfl) rfl
theorem q496 : (Jvm.Cond.fieldLink "java/lang/Throwable" (31 : Nat) "java/lang/Throwable" "detailMessage" "Ljava/lang/String;") ∈ lw_all := lw_g (lw_at lw_m2 179 rfl) rfl
theorem q497 : (Jvm.Cond.fieldLink "java/lang/Throwable" (7 : Nat) "java/lang/Throwable" "cause" "Ljava/lang/Throwable;") ∈ lw_all := lw_g (lw_at lw_m2 180 rfl) rfl
theorem q498 : (Jvm.Cond.fieldLink "java/lang/Throwable" (17 : Nat) "java/lang/Throwable" "stackTrace" "[Ljava/lang/StackTraceElement;") ∈ lw_all := lw_g (lw_at lw_m2 181 rfl) rfl
theorem q499 : (Jvm.Cond.fieldLink "java/lang/Throwable" (24 : Nat) "java/lang/Throwable" "suppressedExceptions" "Ljava/util/List;") ∈ lw_all := lw_g (lw_at lw_m2 182 rfl) rfl
theorem q500 : (Jvm.Cond.soleField "java/lang/Throwable" "backtrace") ∈ lw_all := lw_g (lw_at lw_m2 183 rfl) rfl
theorem q501 : (Jvm.Cond.soleField "java/lang/Throwable" "detailMessage") ∈ lw_all := lw_g (lw_at lw_m2 184 rfl) rfl
theorem q502 : (Jvm.Cond.soleField "java/lang/Throwable" "cause") ∈ lw_all := lw_g (lw_at lw_m2 185 rfl) rfl
theorem q503 : (Jvm.Cond.soleField "java/lang/Throwable" "stackTrace") ∈ lw_all := lw_g (lw_at lw_m2 186 rfl) rfl
theorem q505 : (Jvm.Cond.soleField "java/lang/Throwable" "depth") ∈ lw_all := lw_g (lw_at lw_m2 188 rfl) rfl
theorem q506 : (Jvm.Cond.soleField "java/lang/Throwable" "suppressedExceptions") ∈ lw_all := lw_g (lw_at lw_m2 189 rfl) rfl
theorem q3507 : (Jvm.Cond.sameMethod "java/lang/Throwable" "java/lang/Throwable" "fillInStackTrace" "(I)Ljava/lang/Throwable;") ∈ lw_all := lw_g (lw_at lw_m15 70 rfl) rfl
theorem q3574 : (Jvm.Cond.castable "java/lang/Throwable" "java/lang/Object") ∈ lw_tbl := lw_at lw_m15 137 rfl
def RJ11 : String := "java/lang/Exception"
theorem q94 : (Jvm.Cond.initialized "java/lang/Exception") ∈ lw_all := lw_g (lw_at lw_m1 17 rfl) rfl
theorem q439 : (Jvm.Cond.declares ({ cls := "java/lang/Exception", name := "<init>", desc := "()V" } : Jvm.MethodName)) ∈ lw_tbl := lw_at lw_m2 122 rfl
theorem q440 : (Jvm.Cond.declares ({ cls := "java/lang/Exception", name := "<init>", desc := "(Ljava/lang/String;)V" } : Jvm.MethodName)) ∈ lw_tbl := lw_at lw_m2 123 rfl
theorem q490 : (Jvm.Cond.instanceMethod ({ cls := "java/lang/Exception", name := "<init>", desc := "(Ljava/lang/String;)V" } : Jvm.MethodName)) ∈ lw_all := lw_g (lw_at lw_m2 173 rfl) rfl
theorem q491 : (Jvm.Cond.code ({ cls := "java/lang/Exception", name := "<init>", desc := "(Ljava/lang/String;)V" } : Jvm.MethodName) prog_23_method_2_code (2 : Nat) (Option.none : Option Jvm.ClassFile.FieldType)) ∈ lw_all := lw_g (lw_at lw_m2 174 rfl) rfl
theorem q492 : (Jvm.Cond.methodLink "java/lang/Exception" (7 : Nat) ({ cls := "java/lang/Throwable", name := "<init>", desc := "(Ljava/lang/String;)V" } : Jvm.MethodName)) ∈ lw_all := lw_g (lw_at lw_m2 175 rfl) rfl
theorem q1161 : (Jvm.Cond.instanceMethod ({ cls := "java/lang/Exception", name := "<init>", desc := "()V" } : Jvm.MethodName)) ∈ lw_all := lw_g (lw_at lw_m5 124 rfl) rfl
theorem q1162 : (Jvm.Cond.code ({ cls := "java/lang/Exception", name := "<init>", desc := "()V" } : Jvm.MethodName) prog_23_method_1_code (1 : Nat) (Option.none : Option Jvm.ClassFile.FieldType)) ∈ lw_all := lw_g (lw_at lw_m5 125 rfl) rfl
theorem q1163 : (Jvm.Cond.methodLink "java/lang/Exception" (1 : Nat) ({ cls := "java/lang/Throwable", name := "<init>", desc := "()V" } : Jvm.MethodName)) ∈ lw_all := lw_g (lw_at lw_m5 126 rfl) rfl
def RJ12 : String := "java/lang/RuntimeException"
theorem q95 : (Jvm.Cond.initialized "java/lang/RuntimeException") ∈ lw_all := lw_g (lw_at lw_m1 18 rfl) rfl
theorem q437 : (Jvm.Cond.declares ({ cls := "java/lang/RuntimeException", name := "<init>", desc := "()V" } : Jvm.MethodName)) ∈ lw_tbl := lw_at lw_m2 120 rfl
theorem q438 : (Jvm.Cond.declares ({ cls := "java/lang/RuntimeException", name := "<init>", desc := "(Ljava/lang/String;)V" } : Jvm.MethodName)) ∈ lw_tbl := lw_at lw_m2 121 rfl
theorem q487 : (Jvm.Cond.instanceMethod ({ cls := "java/lang/RuntimeException", name := "<init>", desc := "(Ljava/lang/String;)V" } : Jvm.MethodName)) ∈ lw_all := lw_g (lw_at lw_m2 170 rfl) rfl
theorem q488 : (Jvm.Cond.code ({ cls := "java/lang/RuntimeException", name := "<init>", desc := "(Ljava/lang/String;)V" } : Jvm.MethodName) prog_32_method_2_code (2 : Nat) (Option.none : Option Jvm.ClassFile.FieldType)) ∈ lw_all := lw_g (lw_at lw_m2 171 rfl) rfl
theorem q489 : (Jvm.Cond.methodLink "java/lang/RuntimeException" (7 : Nat) ({ cls := "java/lang/Exception", name := "<init>", desc := "(Ljava/lang/String;)V" } : Jvm.MethodName)) ∈ lw_all := lw_g (lw_at lw_m2 172 rfl) rfl
theorem q1158 : (Jvm.Cond.instanceMethod ({ cls := "java/lang/RuntimeException", name := "<init>", desc := "()V" } : Jvm.MethodName)) ∈ lw_all := lw_g (lw_at lw_m5 121 rfl) rfl
theorem q1159 : (Jvm.Cond.code ({ cls := "java/lang/RuntimeException", name := "<init>", desc := "()V" } : Jvm.MethodName) prog_32_method_1_code (1 : Nat) (Option.none : Option Jvm.ClassFile.FieldType)) ∈ lw_all := lw_g (lw_at lw_m5 122 rfl) rfl
theorem q1160 : (Jvm.Cond.methodLink "java/lang/RuntimeException" (1 : Nat) ({ cls := "java/lang/Exception", name := "<init>", desc := "()V" } : Jvm.MethodName)) ∈ lw_all := lw_g (lw_at lw_m5 123 rfl) rfl
def RJ13 : String := "java/lang/IllegalStateException"
def TJ13 : u_T := fun k => match k with
  | 0 => ("java/lang/Throwable", "cause", "Ljava/lang/Throwable;", false)
  | 1 => ("java/lang/Throwable", "stackTrace", "[Ljava/lang/StackTraceElement;", false)
  | 2 => ("java/lang/Throwable", "suppressedExceptions", "Ljava/util/List;", false)
  | 3 => ("java/lang/Throwable", "detailMessage", "Ljava/lang/String;", false)
  | 4 => ("java/lang/Throwable", "backtrace", "Ljava/lang/Object;", false)
  | _ => ("java/lang/Throwable", "depth", "I", false)
def tyJ13 : Nat → FieldType := fun k => match k with
  | 0 => .object "java/lang/Throwable"
  | 1 => .array (.object "java/lang/StackTraceElement")
  | 2 => .object "java/util/List"
  | 3 => .object "java/lang/String"
  | 4 => .object "java/lang/Object"
  | _ => .int
abbrev wsJ130 : List Cond := u_ws RJ13 TJ13 6
theorem nmJ13 : ∀ a, a < 6 → ∀ b, b < 6 → a ≠ b → (TJ13 a).2.1 ≠ (TJ13 b).2.1 := by decide +kernel
theorem tyJ13_ok : ∀ k, k < 6 → parseFieldDescriptor (TJ13 k).2.2.1 = some (tyJ13 k) := by decide +kernel
theorem q96 : (Jvm.Cond.initialized "java/lang/IllegalStateException") ∈ lw_all := lw_g (lw_at lw_m1 19 rfl) rfl
theorem q435 : (Jvm.Cond.instantiable "java/lang/IllegalStateException" (6 : Nat)) ∈ lw_all := lw_g (lw_at lw_m2 118 rfl) rfl
theorem q436 : (Jvm.Cond.castable "java/lang/IllegalStateException" "java/lang/IllegalStateException") ∈ lw_tbl := lw_at lw_m2 119 rfl
theorem q443 : (Jvm.Cond.selects "java/lang/IllegalStateException" ({ cls := "java/lang/Throwable", name := "fillInStackTrace", desc := "(I)Ljava/lang/Throwable;" } : Jvm.MethodName) ({ cls := "java/lang/Throwable", name := "fillInStackTrace", desc := "(I)Ljava/lang/Throwable;" } : Jvm.MethodName)) ∈ lw_all := lw_g (lw_at lw_m2 126 rfl) rfl
theorem q444 : (Jvm.Cond.selects "java/lang/IllegalStateException" ({ cls := "java/lang/Throwable", name := "fillInStackTrace", desc := "()Ljava/lang/Throwable;" } : Jvm.MethodName) ({ cls := "java/lang/Throwable", name := "fillInStackTrace", desc := "()Ljava/lang/Throwable;" } : Jvm.MethodName)) ∈ lw_all := lw_g (lw_at lw_m2 127 rfl) rfl
theorem q445 : (Jvm.Cond.lays "java/lang/IllegalStateException" "java/lang/Throwable" "cause" "Ljava/lang/Throwable;") ∈ lw_all := lw_g (lw_at lw_m2 128 rfl) rfl
theorem q447 : (Jvm.Cond.lays "java/lang/IllegalStateException" "java/lang/Throwable" "stackTrace" "[Ljava/lang/StackTraceElement;") ∈ lw_all := lw_g (lw_at lw_m2 130 rfl) rfl
theorem q449 : (Jvm.Cond.lays "java/lang/IllegalStateException" "java/lang/Throwable" "suppressedExceptions" "Ljava/util/List;") ∈ lw_all := lw_g (lw_at lw_m2 132 rfl) rfl
theorem q451 : (Jvm.Cond.lays "java/lang/IllegalStateException" "java/lang/Throwable" "detailMessage" "Ljava/lang/String;") ∈ lw_all := lw_g (lw_at lw_m2 134 rfl) rfl
theorem q453 : (Jvm.Cond.lays "java/lang/IllegalStateException" "java/lang/Throwable" "backtrace" "Ljava/lang/Object;") ∈ lw_all := lw_g (lw_at lw_m2 136 rfl) rfl
theorem q484 : (Jvm.Cond.instanceMethod ({ cls := "java/lang/IllegalStateException", name := "<init>", desc := "(Ljava/lang/String;)V" } : Jvm.MethodName)) ∈ lw_all := lw_g (lw_at lw_m2 167 rfl) rfl
theorem q485 : (Jvm.Cond.code ({ cls := "java/lang/IllegalStateException", name := "<init>", desc := "(Ljava/lang/String;)V" } : Jvm.MethodName) prog_25_method_2_code (2 : Nat) (Option.none : Option Jvm.ClassFile.FieldType)) ∈ lw_all := lw_g (lw_at lw_m2 168 rfl) rfl
theorem q486 : (Jvm.Cond.methodLink "java/lang/IllegalStateException" (7 : Nat) ({ cls := "java/lang/RuntimeException", name := "<init>", desc := "(Ljava/lang/String;)V" } : Jvm.MethodName)) ∈ lw_all := lw_g (lw_at lw_m2 169 rfl) rfl
theorem q504 : (Jvm.Cond.lays "java/lang/IllegalStateException" "java/lang/Throwable" "depth" "I") ∈ lw_all := lw_g (lw_at lw_m2 187 rfl) rfl
theorem q507 : (Jvm.Cond.superclass "java/lang/IllegalStateException" "java/lang/RuntimeException") ∈ lw_all := lw_g (lw_at lw_m2 190 rfl) rfl
theorem q531 : (Jvm.Cond.selects "java/lang/IllegalStateException" ({ cls := "java/lang/Object", name := "getClass", desc := "()Ljava/lang/Class;" } : Jvm.MethodName) ({ cls := "java/lang/Object", name := "getClass", desc := "()Ljava/lang/Class;" } : Jvm.MethodName)) ∈ lw_all := lw_g (lw_at lw_m2 214 rfl) rfl
theorem q1546 : (Jvm.Cond.instanceMethod ({ cls := "java/lang/IllegalStateException", name := "<init>", desc := "()V" } : Jvm.MethodName)) ∈ lw_all := lw_g (lw_at lw_m7 29 rfl) rfl
theorem q1547 : (Jvm.Cond.code ({ cls := "java/lang/IllegalStateException", name := "<init>", desc := "()V" } : Jvm.MethodName) prog_25_method_1_code (1 : Nat) (Option.none : Option Jvm.ClassFile.FieldType)) ∈ lw_all := lw_g (lw_at lw_m7 30 rfl) rfl
theorem q1548 : (Jvm.Cond.methodLink "java/lang/IllegalStateException" (1 : Nat) ({ cls := "java/lang/RuntimeException", name := "<init>", desc := "()V" } : Jvm.MethodName)) ∈ lw_all := lw_g (lw_at lw_m7 31 rfl) rfl
theorem q3541 : (Jvm.Cond.castable "java/lang/IllegalStateException" "java/lang/Object") ∈ lw_tbl := lw_at lw_m15 104 rfl
def RJ14 : String := "java/util/Arrays"
theorem q97 : (Jvm.Cond.initialized "java/util/Arrays") ∈ lw_all := lw_g (lw_at lw_m1 20 rfl) rfl
theorem q510 : (Jvm.Cond.static ({ cls := "java/util/Arrays", name := "copyOf", desc := "([Ljava/lang/Object;I)[Ljava/lang/Object;" } : Jvm.MethodName)) ∈ lw_all := lw_g (lw_at lw_m2 193 rfl) rfl
theorem q511 : (Jvm.Cond.code ({ cls := "java/util/Arrays", name := "copyOf", desc := "([Ljava/lang/Object;I)[Ljava/lang/Object;" } : Jvm.MethodName) prog_52_method_119_code (2 : Nat) (Option.some (Jvm.ClassFile.FieldType.array (Jvm.ClassFile.FieldType.object "java/lang/Object")))) ∈ lw_all := lw_g (lw_at lw_m2 194 rfl) rfl
theorem q512 : (Jvm.Cond.methodLink "java/util/Arrays" (86 : Nat) ({ cls := "java/lang/Object", name := "getClass", desc := "()Ljava/lang/Class;" } : Jvm.MethodName)) ∈ lw_all := lw_g (lw_at lw_m2 195 rfl) rfl
theorem q558 : (Jvm.Cond.methodLink "java/util/Arrays" (300 : Nat) ({ cls := "java/util/Arrays", name := "copyOf", desc := "([Ljava/lang/Object;ILjava/lang/Class;)[Ljava/lang/Object;" } : Jvm.MethodName)) ∈ lw_all := lw_g (lw_at lw_m3 1 rfl) rfl
theorem q559 : (Jvm.Cond.static ({ cls := "java/util/Arrays", name := "copyOf", desc := "([Ljava/lang/Object;ILjava/lang/Class;)[Ljava/lang/Object;" } : Jvm.MethodName)) ∈ lw_all := lw_g (lw_at lw_m3 2 rfl) rfl
theorem q560 : (Jvm.Cond.code ({ cls := "java/util/Arrays", name := "copyOf", desc := "([Ljava/lang/Object;ILjava/lang/Class;)[Ljava/lang/Object;" } : Jvm.MethodName) prog_52_method_120_code (4 : Nat) (Option.some (Jvm.ClassFile.FieldType.array (Jvm.ClassFile.FieldType.object "java/lang/Object")))) ∈ lw_all := lw_g (lw_at lw_m3 3 rfl) rfl
theorem q561 : (Jvm.Cond.classLink "java/util/Arrays" (110 : Nat) "[Ljava/lang/Object;") ∈ lw_all := lw_g (lw_at lw_m3 4 rfl) rfl
theorem q562 : (Jvm.Cond.classLink "java/util/Arrays" (2 : Nat) "java/lang/Object") ∈ lw_all := lw_g (lw_at lw_m3 5 rfl) rfl
theorem q563 : (Jvm.Cond.methodLink "java/util/Arrays" (304 : Nat) ({ cls := "java/lang/Math", name := "min", desc := "(II)I" } : Jvm.MethodName)) ∈ lw_all := lw_g (lw_at lw_m3 6 rfl) rfl
theorem q566 : (Jvm.Cond.methodLink "java/util/Arrays" (150 : Nat) ({ cls := "java/lang/System", name := "arraycopy", desc := "(Ljava/lang/Object;ILjava/lang/Object;II)V" } : Jvm.MethodName)) ∈ lw_all := lw_g (lw_at lw_m3 9 rfl) rfl
theorem q2707 : (Jvm.Cond.static ({ cls := "java/util/Arrays", name := "copyOf", desc := "([BI)[B" } : Jvm.MethodName)) ∈ lw_all := lw_g (lw_at lw_m11 230 rfl) rfl
theorem q2708 : (Jvm.Cond.code ({ cls := "java/util/Arrays", name := "copyOf", desc := "([BI)[B" } : Jvm.MethodName) prog_52_method_121_code (3 : Nat) (Option.some (Jvm.ClassFile.FieldType.array Jvm.ClassFile.FieldType.byte))) ∈ lw_all := lw_g (lw_at lw_m11 231 rfl) rfl
theorem q2709 : (Jvm.Cond.methodLink "java/util/Arrays" (310 : Nat) ({ cls := "[B", name := "clone", desc := "()Ljava/lang/Object;" } : Jvm.MethodName)) ∈ lw_all := lw_g (lw_at lw_m11 232 rfl) rfl
theorem q2715 : (Jvm.Cond.classLink "java/util/Arrays" (311 : Nat) "[B") ∈ lw_all := lw_g (lw_at lw_m11 238 rfl) rfl
theorem q2923 : (Jvm.Cond.static ({ cls := "java/util/Arrays", name := "copyOfRange", desc := "([BII)[B" } : Jvm.MethodName)) ∈ lw_all := lw_g (lw_at lw_m12 206 rfl) rfl
theorem q2924 : (Jvm.Cond.code ({ cls := "java/util/Arrays", name := "copyOfRange", desc := "([BII)[B" } : Jvm.MethodName) prog_52_method_132_code (3 : Nat) (Option.some (Jvm.ClassFile.FieldType.array Jvm.ClassFile.FieldType.byte))) ∈ lw_all := lw_g (lw_at lw_m12 207 rfl) rfl
theorem q2925 : (Jvm.Cond.methodLink "java/util/Arrays" (339 : Nat) ({ cls := "java/util/Arrays", name := "copyOfRangeByte", desc := "([BII)[B" } : Jvm.MethodName)) ∈ lw_all := lw_g (lw_at lw_m12 208 rfl) rfl
theorem q2926 : (Jvm.Cond.static ({ cls := "java/util/Arrays", name := "copyOfRangeByte", desc := "([BII)[B" } : Jvm.MethodName)) ∈ lw_all := lw_g (lw_at lw_m12 209 rfl) rfl
theorem q2927 : (Jvm.Cond.code ({ cls := "java/util/Arrays", name := "copyOfRangeByte", desc := "([BII)[B" } : Jvm.MethodName) prog_52_method_133_code (5 : Nat) (Option.some (Jvm.ClassFile.FieldType.array Jvm.ClassFile.FieldType.byte))) ∈ lw_all := lw_g (lw_at lw_m12 210 rfl) rfl
theorem q2928 : (Jvm.Cond.methodLink "java/util/Arrays" (343 : Nat) ({ cls := "java/util/Arrays", name := "checkLength", desc := "(II)V" } : Jvm.MethodName)) ∈ lw_all := lw_g (lw_at lw_m12 211 rfl) rfl
theorem q2929 : (Jvm.Cond.static ({ cls := "java/util/Arrays", name := "checkLength", desc := "(II)V" } : Jvm.MethodName)) ∈ lw_all := lw_g (lw_at lw_m12 212 rfl) rfl
theorem q2930 : (Jvm.Cond.code ({ cls := "java/util/Arrays", name := "checkLength", desc := "(II)V" } : Jvm.MethodName) prog_52_method_131_code (2 : Nat) (Option.none : Option Jvm.ClassFile.FieldType)) ∈ lw_all := lw_g (lw_at lw_m12 213 rfl) rfl
theorem q2931 : (Jvm.Cond.classLink "java/util/Arrays" (43 : Nat) "java/lang/IllegalArgumentException") ∈ lw_all := lw_g (lw_at lw_m12 214 rfl) rfl
theorem q2932 : (Jvm.Cond.classLink "java/util/Arrays" (45 : Nat) "java/lang/StringBuilder") ∈ lw_all := lw_g (lw_at lw_m12 215 rfl) rfl
theorem q2933 : (Jvm.Cond.methodLink "java/util/Arrays" (47 : Nat) ({ cls := "java/lang/StringBuilder", name := "<init>", desc := "()V" } : Jvm.MethodName)) ∈ lw_all := lw_g (lw_at lw_m12 216 rfl) rfl
theorem q2934 : (Jvm.Cond.methodLink "java/util/Arrays" (54 : Nat) ({ cls := "java/lang/StringBuilder", name := "append", desc := "(I)Ljava/lang/StringBuilder;" } : Jvm.MethodName)) ∈ lw_all := lw_g (lw_at lw_m12 217 rfl) rfl
theorem q2935 : (Jvm.Cond.stringRef "java/util/Arrays" (337 : Nat) " > ") ∈ lw_tbl := lw_at lw_m12 218 rfl
theorem q2936 : (Jvm.Cond.methodLink "java/util/Arrays" (50 : Nat) ({ cls := "java/lang/StringBuilder", name := "append", desc := "(Ljava/lang/String;)Ljava/lang/StringBuilder;" } : Jvm.MethodName)) ∈ lw_all := lw_g (lw_at lw_m12 219 rfl) rfl
theorem q2937 : (Jvm.Cond.methodLink "java/util/Arrays" (61 : Nat) ({ cls := "java/lang/StringBuilder", name := "toString", desc := "()Ljava/lang/String;" } : Jvm.MethodName)) ∈ lw_all := lw_g (lw_at lw_m12 220 rfl) rfl
theorem q2938 : (Jvm.Cond.methodLink "java/util/Arrays" (65 : Nat) ({ cls := "java/lang/IllegalArgumentException", name := "<init>", desc := "(Ljava/lang/String;)V" } : Jvm.MethodName)) ∈ lw_all := lw_g (lw_at lw_m12 221 rfl) rfl
theorem q2968 : (Jvm.Cond.static ({ cls := "java/util/Arrays", name := "fill", desc := "([BIIB)V" } : Jvm.MethodName)) ∈ lw_all := lw_g (lw_at lw_m13 11 rfl) rfl
theorem q2969 : (Jvm.Cond.code ({ cls := "java/util/Arrays", name := "fill", desc := "([BIIB)V" } : Jvm.MethodName) prog_52_method_110_code (5 : Nat) (Option.none : Option Jvm.ClassFile.FieldType)) ∈ lw_all := lw_g (lw_at lw_m13 12 rfl) rfl
theorem q2970 : (Jvm.Cond.methodLink "java/util/Arrays" (13 : Nat) ({ cls := "java/util/Arrays", name := "rangeCheck", desc := "(III)V" } : Jvm.MethodName)) ∈ lw_all := lw_g (lw_at lw_m13 13 rfl) rfl
theorem q2971 : (Jvm.Cond.static ({ cls := "java/util/Arrays", name := "rangeCheck", desc := "(III)V" } : Jvm.MethodName)) ∈ lw_all := lw_g (lw_at lw_m13 14 rfl) rfl
theorem q2972 : (Jvm.Cond.code ({ cls := "java/util/Arrays", name := "rangeCheck", desc := "(III)V" } : Jvm.MethodName) prog_52_method_30_code (3 : Nat) (Option.none : Option Jvm.ClassFile.FieldType)) ∈ lw_all := lw_g (lw_at lw_m13 15 rfl) rfl
theorem q2973 : (Jvm.Cond.stringRef "java/util/Arrays" (48 : Nat) "fromIndex(") ∈ lw_tbl := lw_at lw_m13 16 rfl
theorem q2974 : (Jvm.Cond.stringRef "java/util/Arrays" (57 : Nat) ") > toIndex(") ∈ lw_tbl := lw_at lw_m13 17 rfl
theorem q2975 : (Jvm.Cond.stringRef "java/util/Arrays" (59 : Nat) ")") ∈ lw_tbl := lw_at lw_m13 18 rfl
theorem q2976 : (Jvm.Cond.classLink "java/util/Arrays" (68 : Nat) "java/lang/ArrayIndexOutOfBoundsException") ∈ lw_all := lw_g (lw_at lw_m13 19 rfl) rfl
theorem q2977 : (Jvm.Cond.methodLink "java/util/Arrays" (70 : Nat) ({ cls := "java/lang/ArrayIndexOutOfBoundsException", name := "<init>", desc := "(I)V" } : Jvm.MethodName)) ∈ lw_all := lw_g (lw_at lw_m13 20 rfl) rfl
def RJ15 : String := "java/lang/Math"
theorem q98 : (Jvm.Cond.initialized "java/lang/Math") ∈ lw_all := lw_g (lw_at lw_m1 21 rfl) rfl
theorem q564 : (Jvm.Cond.static ({ cls := "java/lang/Math", name := "min", desc := "(II)I" } : Jvm.MethodName)) ∈ lw_all := lw_g (lw_at lw_m3 7 rfl) rfl
theorem q565 : (Jvm.Cond.code ({ cls := "java/lang/Math", name := "min", desc := "(II)I" } : Jvm.MethodName) prog_30_method_69_code (2 : Nat) (Option.some Jvm.ClassFile.FieldType.int)) ∈ lw_all := lw_g (lw_at lw_m3 8 rfl) rfl
theorem q2174 : (Jvm.Cond.static ({ cls := "java/lang/Math", name := "abs", desc := "(I)I" } : Jvm.MethodName)) ∈ lw_all := lw_g (lw_at lw_m9 177 rfl) rfl
theorem q2175 : (Jvm.Cond.code ({ cls := "java/lang/Math", name := "abs", desc := "(I)I" } : Jvm.MethodName) prog_30_method_59_code (1 : Nat) (Option.some Jvm.ClassFile.FieldType.int)) ∈ lw_all := lw_g (lw_at lw_m9 178 rfl) rfl
theorem q2454 : (Jvm.Cond.static ({ cls := "java/lang/Math", name := "max", desc := "(II)I" } : Jvm.MethodName)) ∈ lw_all := lw_g (lw_at lw_m10 217 rfl) rfl
theorem q2455 : (Jvm.Cond.code ({ cls := "java/lang/Math", name := "max", desc := "(II)I" } : Jvm.MethodName) prog_30_method_65_code (2 : Nat) (Option.some Jvm.ClassFile.FieldType.int)) ∈ lw_all := lw_g (lw_at lw_m10 218 rfl) rfl
def RJ16 : String := "java/lang/IndexOutOfBoundsException"
def TJ16 : u_T := fun k => match k with
  | 0 => ("java/lang/Throwable", "cause", "Ljava/lang/Throwable;", false)
  | 1 => ("java/lang/Throwable", "stackTrace", "[Ljava/lang/StackTraceElement;", false)
  | 2 => ("java/lang/Throwable", "suppressedExceptions", "Ljava/util/List;", false)
  | 3 => ("java/lang/Throwable", "detailMessage", "Ljava/lang/String;", false)
  | 4 => ("java/lang/Throwable", "backtrace", "Ljava/lang/Object;", false)
  | _ => ("java/lang/Throwable", "depth", "I", false)
def tyJ16 : Nat → FieldType := fun k => match k with
  | 0 => .object "java/lang/Throwable"
  | 1 => .array (.object "java/lang/StackTraceElement")
  | 2 => .object "java/util/List"
  | 3 => .object "java/lang/String"
  | 4 => .object "java/lang/Object"
  | _ => .int
abbrev wsJ160 : List Cond := u_ws RJ16 TJ16 6
theorem nmJ16 : ∀ a, a < 6 → ∀ b, b < 6 → a ≠ b → (TJ16 a).2.1 ≠ (TJ16 b).2.1 := by decide +kernel
theorem tyJ16_ok : ∀ k, k < 6 → parseFieldDescriptor (TJ16 k).2.2.1 = some (tyJ16 k) := by decide +kernel
theorem q101 : (Jvm.Cond.initialized "java/lang/IndexOutOfBoundsException") ∈ lw_all := lw_g (lw_at lw_m1 24 rfl) rfl
theorem q472 : (Jvm.Cond.selects "java/lang/IndexOutOfBoundsException" ({ cls := "java/lang/Throwable", name := "fillInStackTrace", desc := "()Ljava/lang/Throwable;" } : Jvm.MethodName) ({ cls := "java/lang/Throwable", name := "fillInStackTrace", desc := "()Ljava/lang/Throwable;" } : Jvm.MethodName)) ∈ lw_all := lw_g (lw_at lw_m2 155 rfl) rfl
theorem q532 : (Jvm.Cond.selects "java/lang/IndexOutOfBoundsException" ({ cls := "java/lang/Object", name := "getClass", desc := "()Ljava/lang/Class;" } : Jvm.MethodName) ({ cls := "java/lang/Object", name := "getClass", desc := "()Ljava/lang/Class;" } : Jvm.MethodName)) ∈ lw_all := lw_g (lw_at lw_m2 215 rfl) rfl
theorem q1737 : (Jvm.Cond.instanceMethod ({ cls := "java/lang/IndexOutOfBoundsException", name := "<init>", desc := "(Ljava/lang/String;)V" } : Jvm.MethodName)) ∈ lw_all := lw_g (lw_at lw_m7 220 rfl) rfl
theorem q1738 : (Jvm.Cond.code ({ cls := "java/lang/IndexOutOfBoundsException", name := "<init>", desc := "(Ljava/lang/String;)V" } : Jvm.MethodName) prog_26_method_2_code (2 : Nat) (Option.none : Option Jvm.ClassFile.FieldType)) ∈ lw_all := lw_g (lw_at lw_m7 221 rfl) rfl
theorem q1739 : (Jvm.Cond.methodLink "java/lang/IndexOutOfBoundsException" (7 : Nat) ({ cls := "java/lang/RuntimeException", name := "<init>", desc := "(Ljava/lang/String;)V" } : Jvm.MethodName)) ∈ lw_all := lw_g (lw_at lw_m7 222 rfl) rfl
theorem q1748 : (Jvm.Cond.declares ({ cls := "java/lang/IndexOutOfBoundsException", name := "<init>", desc := "()V" } : Jvm.MethodName)) ∈ lw_tbl := lw_at lw_m7 231 rfl
theorem q1749 : (Jvm.Cond.declares ({ cls := "java/lang/IndexOutOfBoundsException", name := "<init>", desc := "(Ljava/lang/String;)V" } : Jvm.MethodName)) ∈ lw_tbl := lw_at lw_m7 232 rfl
theorem q1771 : (Jvm.Cond.instantiable "java/lang/IndexOutOfBoundsException" (6 : Nat)) ∈ lw_all := lw_g (lw_at lw_m8 14 rfl) rfl
theorem q1772 : (Jvm.Cond.castable "java/lang/IndexOutOfBoundsException" "java/lang/IndexOutOfBoundsException") ∈ lw_tbl := lw_at lw_m8 15 rfl
theorem q1773 : (Jvm.Cond.selects "java/lang/IndexOutOfBoundsException" ({ cls := "java/lang/Throwable", name := "fillInStackTrace", desc := "(I)Ljava/lang/Throwable;" } : Jvm.MethodName) ({ cls := "java/lang/Throwable", name := "fillInStackTrace", desc := "(I)Ljava/lang/Throwable;" } : Jvm.MethodName)) ∈ lw_all := lw_g (lw_at lw_m8 16 rfl) rfl
theorem q1774 : (Jvm.Cond.lays "java/lang/IndexOutOfBoundsException" "java/lang/Throwable" "cause" "Ljava/lang/Throwable;") ∈ lw_all := lw_g (lw_at lw_m8 17 rfl) rfl
theorem q1775 : (Jvm.Cond.lays "java/lang/IndexOutOfBoundsException" "java/lang/Throwable" "stackTrace" "[Ljava/lang/StackTraceElement;") ∈ lw_all := lw_g (lw_at lw_m8 18 rfl) rfl
theorem q1776 : (Jvm.Cond.lays "java/lang/IndexOutOfBoundsException" "java/lang/Throwable" "suppressedExceptions" "Ljava/util/List;") ∈ lw_all := lw_g (lw_at lw_m8 19 rfl) rfl
theorem q1777 : (Jvm.Cond.lays "java/lang/IndexOutOfBoundsException" "java/lang/Throwable" "detailMessage" "Ljava/lang/String;") ∈ lw_all := lw_g (lw_at lw_m8 20 rfl) rfl
theorem q1778 : (Jvm.Cond.lays "java/lang/IndexOutOfBoundsException" "java/lang/Throwable" "backtrace" "Ljava/lang/Object;") ∈ lw_all := lw_g (lw_at lw_m8 21 rfl) rfl
theorem q1780 : (Jvm.Cond.instanceMethod ({ cls := "java/lang/IndexOutOfBoundsException", name := "<init>", desc := "()V" } : Jvm.MethodName)) ∈ lw_all := lw_g (lw_at lw_m8 23 rfl) rfl
theorem q1781 : (Jvm.Cond.code ({ cls := "java/lang/IndexOutOfBoundsException", name := "<init>", desc := "()V" } : Jvm.MethodName) prog_26_method_1_code (1 : Nat) (Option.none : Option Jvm.ClassFile.FieldType)) ∈ lw_all := lw_g (lw_at lw_m8 24 rfl) rfl
theorem q1782 : (Jvm.Cond.methodLink "java/lang/IndexOutOfBoundsException" (1 : Nat) ({ cls := "java/lang/RuntimeException", name := "<init>", desc := "()V" } : Jvm.MethodName)) ∈ lw_all := lw_g (lw_at lw_m8 25 rfl) rfl
theorem q1783 : (Jvm.Cond.lays "java/lang/IndexOutOfBoundsException" "java/lang/Throwable" "depth" "I") ∈ lw_all := lw_g (lw_at lw_m8 26 rfl) rfl
theorem q1784 : (Jvm.Cond.superclass "java/lang/IndexOutOfBoundsException" "java/lang/RuntimeException") ∈ lw_all := lw_g (lw_at lw_m8 27 rfl) rfl
theorem q3544 : (Jvm.Cond.castable "java/lang/IndexOutOfBoundsException" "java/lang/Object") ∈ lw_tbl := lw_at lw_m15 107 rfl
def RJ17 : String := "java/lang/ArrayIndexOutOfBoundsException"
def TJ17 : u_T := fun k => match k with
  | 0 => ("java/lang/Throwable", "backtrace", "Ljava/lang/Object;", false)
  | 1 => ("java/lang/Throwable", "detailMessage", "Ljava/lang/String;", false)
  | 2 => ("java/lang/Throwable", "cause", "Ljava/lang/Throwable;", false)
  | 3 => ("java/lang/Throwable", "stackTrace", "[Ljava/lang/StackTraceElement;", false)
  | 4 => ("java/lang/Throwable", "depth", "I", false)
  | _ => ("java/lang/Throwable", "suppressedExceptions", "Ljava/util/List;", false)
def tyJ17 : Nat → FieldType := fun k => match k with
  | 0 => .object "java/lang/Object"
  | 1 => .object "java/lang/String"
  | 2 => .object "java/lang/Throwable"
  | 3 => .array (.object "java/lang/StackTraceElement")
  | 4 => .int
  | _ => .object "java/util/List"
abbrev wsJ170 : List Cond := u_ws RJ17 TJ17 6
theorem nmJ17 : ∀ a, a < 6 → ∀ b, b < 6 → a ≠ b → (TJ17 a).2.1 ≠ (TJ17 b).2.1 := by decide +kernel
theorem tyJ17_ok : ∀ k, k < 6 → parseFieldDescriptor (TJ17 k).2.2.1 = some (tyJ17 k) := by decide +kernel
theorem q102 : (Jvm.Cond.initialized "java/lang/ArrayIndexOutOfBoundsException") ∈ lw_all := lw_g (lw_at lw_m1 25 rfl) rfl
theorem q470 : (Jvm.Cond.selects "java/lang/ArrayIndexOutOfBoundsException" ({ cls := "java/lang/Throwable", name := "fillInStackTrace", desc := "()Ljava/lang/Throwable;" } : Jvm.MethodName) ({ cls := "java/lang/Throwable", name := "fillInStackTrace", desc := "()Ljava/lang/Throwable;" } : Jvm.MethodName)) ∈ lw_all := lw_g (lw_at lw_m2 153 rfl) rfl
theorem q529 : (Jvm.Cond.selects "java/lang/ArrayIndexOutOfBoundsException" ({ cls := "java/lang/Object", name := "getClass", desc := "()Ljava/lang/Class;" } : Jvm.MethodName) ({ cls := "java/lang/Object", name := "getClass", desc := "()Ljava/lang/Class;" } : Jvm.MethodName)) ∈ lw_all := lw_g (lw_at lw_m2 212 rfl) rfl
theorem q1733 : (Jvm.Cond.instantiable "java/lang/ArrayIndexOutOfBoundsException" (6 : Nat)) ∈ lw_all := lw_g (lw_at lw_m7 216 rfl) rfl
theorem q1734 : (Jvm.Cond.instanceMethod ({ cls := "java/lang/ArrayIndexOutOfBoundsException", name := "<init>", desc := "(Ljava/lang/String;)V" } : Jvm.MethodName)) ∈ lw_all := lw_g (lw_at lw_m7 217 rfl) rfl
theorem q1735 : (Jvm.Cond.code ({ cls := "java/lang/ArrayIndexOutOfBoundsException", name := "<init>", desc := "(Ljava/lang/String;)V" } : Jvm.MethodName) prog_19_method_2_code (2 : Nat) (Option.none : Option Jvm.ClassFile.FieldType)) ∈ lw_all := lw_g (lw_at lw_m7 218 rfl) rfl
theorem q1736 : (Jvm.Cond.methodLink "java/lang/ArrayIndexOutOfBoundsException" (7 : Nat) ({ cls := "java/lang/IndexOutOfBoundsException", name := "<init>", desc := "(Ljava/lang/String;)V" } : Jvm.MethodName)) ∈ lw_all := lw_g (lw_at lw_m7 219 rfl) rfl
theorem q1740 : (Jvm.Cond.lays "java/lang/ArrayIndexOutOfBoundsException" "java/lang/Throwable" "backtrace" "Ljava/lang/Object;") ∈ lw_all := lw_g (lw_at lw_m7 223 rfl) rfl
theorem q1741 : (Jvm.Cond.lays "java/lang/ArrayIndexOutOfBoundsException" "java/lang/Throwable" "detailMessage" "Ljava/lang/String;") ∈ lw_all := lw_g (lw_at lw_m7 224 rfl) rfl
theorem q1742 : (Jvm.Cond.lays "java/lang/ArrayIndexOutOfBoundsException" "java/lang/Throwable" "cause" "Ljava/lang/Throwable;") ∈ lw_all := lw_g (lw_at lw_m7 225 rfl) rfl
theorem q1743 : (Jvm.Cond.lays "java/lang/ArrayIndexOutOfBoundsException" "java/lang/Throwable" "stackTrace" "[Ljava/lang/StackTraceElement;") ∈ lw_all := lw_g (lw_at lw_m7 226 rfl) rfl
theorem q1744 : (Jvm.Cond.lays "java/lang/ArrayIndexOutOfBoundsException" "java/lang/Throwable" "depth" "I") ∈ lw_all := lw_g (lw_at lw_m7 227 rfl) rfl
theorem q1745 : (Jvm.Cond.lays "java/lang/ArrayIndexOutOfBoundsException" "java/lang/Throwable" "suppressedExceptions" "Ljava/util/List;") ∈ lw_all := lw_g (lw_at lw_m7 228 rfl) rfl
theorem q1746 : (Jvm.Cond.superclass "java/lang/ArrayIndexOutOfBoundsException" "java/lang/IndexOutOfBoundsException") ∈ lw_all := lw_g (lw_at lw_m7 229 rfl) rfl
theorem q1747 : (Jvm.Cond.castable "java/lang/ArrayIndexOutOfBoundsException" "java/lang/ArrayIndexOutOfBoundsException") ∈ lw_tbl := lw_at lw_m7 230 rfl
theorem q1750 : (Jvm.Cond.selects "java/lang/ArrayIndexOutOfBoundsException" ({ cls := "java/lang/Throwable", name := "fillInStackTrace", desc := "(I)Ljava/lang/Throwable;" } : Jvm.MethodName) ({ cls := "java/lang/Throwable", name := "fillInStackTrace", desc := "(I)Ljava/lang/Throwable;" } : Jvm.MethodName)) ∈ lw_all := lw_g (lw_at lw_m7 233 rfl) rfl
theorem q2978 : (Jvm.Cond.instanceMethod ({ cls := "java/lang/ArrayIndexOutOfBoundsException", name := "<init>", desc := "(I)V" } : Jvm.MethodName)) ∈ lw_all := lw_g (lw_at lw_m13 21 rfl) rfl
theorem q2979 : (Jvm.Cond.code ({ cls := "java/lang/ArrayIndexOutOfBoundsException", name := "<init>", desc := "(I)V" } : Jvm.MethodName) prog_19_method_3_code (2 : Nat) (Option.none : Option Jvm.ClassFile.FieldType)) ∈ lw_all := lw_g (lw_at lw_m13 22 rfl) rfl
theorem q2980 : (Jvm.Cond.classLink "java/lang/ArrayIndexOutOfBoundsException" (10 : Nat) "java/lang/StringBuilder") ∈ lw_all := lw_g (lw_at lw_m13 23 rfl) rfl
theorem q2981 : (Jvm.Cond.methodLink "java/lang/ArrayIndexOutOfBoundsException" (12 : Nat) ({ cls := "java/lang/StringBuilder", name := "<init>", desc := "()V" } : Jvm.MethodName)) ∈ lw_all := lw_g (lw_at lw_m13 24 rfl) rfl
theorem q2982 : (Jvm.Cond.stringRef "java/lang/ArrayIndexOutOfBoundsException" (13 : Nat) "Array index out of range: ") ∈ lw_tbl := lw_at lw_m13 25 rfl
theorem q2983 : (Jvm.Cond.methodLink "java/lang/ArrayIndexOutOfBoundsException" (15 : Nat) ({ cls := "java/lang/StringBuilder", name := "append", desc := "(Ljava/lang/String;)Ljava/lang/StringBuilder;" } : Jvm.MethodName)) ∈ lw_all := lw_g (lw_at lw_m13 26 rfl) rfl
theorem q2984 : (Jvm.Cond.methodLink "java/lang/ArrayIndexOutOfBoundsException" (19 : Nat) ({ cls := "java/lang/StringBuilder", name := "append", desc := "(I)Ljava/lang/StringBuilder;" } : Jvm.MethodName)) ∈ lw_all := lw_g (lw_at lw_m13 27 rfl) rfl
theorem q2985 : (Jvm.Cond.methodLink "java/lang/ArrayIndexOutOfBoundsException" (22 : Nat) ({ cls := "java/lang/StringBuilder", name := "toString", desc := "()Ljava/lang/String;" } : Jvm.MethodName)) ∈ lw_all := lw_g (lw_at lw_m13 28 rfl) rfl
theorem q3529 : (Jvm.Cond.castable "java/lang/ArrayIndexOutOfBoundsException" "java/lang/IndexOutOfBoundsException") ∈ lw_tbl := lw_at lw_m15 92 rfl
theorem q3543 : (Jvm.Cond.castable "java/lang/ArrayIndexOutOfBoundsException" "java/lang/Object") ∈ lw_tbl := lw_at lw_m15 106 rfl
def RJ18 : String := "java/lang/IllegalArgumentException"
def TJ18 : u_T := fun k => match k with
  | 0 => ("java/lang/Throwable", "cause", "Ljava/lang/Throwable;", false)
  | 1 => ("java/lang/Throwable", "stackTrace", "[Ljava/lang/StackTraceElement;", false)
  | 2 => ("java/lang/Throwable", "suppressedExceptions", "Ljava/util/List;", false)
  | 3 => ("java/lang/Throwable", "detailMessage", "Ljava/lang/String;", false)
  | 4 => ("java/lang/Throwable", "backtrace", "Ljava/lang/Object;", false)
  | _ => ("java/lang/Throwable", "depth", "I", false)
def tyJ18 : Nat → FieldType := fun k => match k with
  | 0 => .object "java/lang/Throwable"
  | 1 => .array (.object "java/lang/StackTraceElement")
  | 2 => .object "java/util/List"
  | 3 => .object "java/lang/String"
  | 4 => .object "java/lang/Object"
  | _ => .int
abbrev wsJ180 : List Cond := u_ws RJ18 TJ18 6
theorem nmJ18 : ∀ a, a < 6 → ∀ b, b < 6 → a ≠ b → (TJ18 a).2.1 ≠ (TJ18 b).2.1 := by decide +kernel
theorem tyJ18_ok : ∀ k, k < 6 → parseFieldDescriptor (TJ18 k).2.2.1 = some (tyJ18 k) := by decide +kernel
theorem q103 : (Jvm.Cond.initialized "java/lang/IllegalArgumentException") ∈ lw_all := lw_g (lw_at lw_m1 26 rfl) rfl
theorem q471 : (Jvm.Cond.selects "java/lang/IllegalArgumentException" ({ cls := "java/lang/Throwable", name := "fillInStackTrace", desc := "()Ljava/lang/Throwable;" } : Jvm.MethodName) ({ cls := "java/lang/Throwable", name := "fillInStackTrace", desc := "()Ljava/lang/Throwable;" } : Jvm.MethodName)) ∈ lw_all := lw_g (lw_at lw_m2 154 rfl) rfl
theorem q530 : (Jvm.Cond.selects "java/lang/IllegalArgumentException" ({ cls := "java/lang/Object", name := "getClass", desc := "()Ljava/lang/Class;" } : Jvm.MethodName) ({ cls := "java/lang/Object", name := "getClass", desc := "()Ljava/lang/Class;" } : Jvm.MethodName)) ∈ lw_all := lw_g (lw_at lw_m2 213 rfl) rfl
theorem q1697 : (Jvm.Cond.instantiable "java/lang/IllegalArgumentException" (6 : Nat)) ∈ lw_all := lw_g (lw_at lw_m7 180 rfl) rfl
theorem q1698 : (Jvm.Cond.castable "java/lang/IllegalArgumentException" "java/lang/IllegalArgumentException") ∈ lw_tbl := lw_at lw_m7 181 rfl
theorem q1699 : (Jvm.Cond.selects "java/lang/IllegalArgumentException" ({ cls := "java/lang/Throwable", name := "fillInStackTrace", desc := "(I)Ljava/lang/Throwable;" } : Jvm.MethodName) ({ cls := "java/lang/Throwable", name := "fillInStackTrace", desc := "(I)Ljava/lang/Throwable;" } : Jvm.MethodName)) ∈ lw_all := lw_g (lw_at lw_m7 182 rfl) rfl
theorem q1700 : (Jvm.Cond.lays "java/lang/IllegalArgumentException" "java/lang/Throwable" "cause" "Ljava/lang/Throwable;") ∈ lw_all := lw_g (lw_at lw_m7 183 rfl) rfl
theorem q1701 : (Jvm.Cond.lays "java/lang/IllegalArgumentException" "java/lang/Throwable" "stackTrace" "[Ljava/lang/StackTraceElement;") ∈ lw_all := lw_g (lw_at lw_m7 184 rfl) rfl
theorem q1702 : (Jvm.Cond.lays "java/lang/IllegalArgumentException" "java/lang/Throwable" "suppressedExceptions" "Ljava/util/List;") ∈ lw_all := lw_g (lw_at lw_m7 185 rfl) rfl
theorem q1703 : (Jvm.Cond.lays "java/lang/IllegalArgumentException" "java/lang/Throwable" "detailMessage" "Ljava/lang/String;") ∈ lw_all := lw_g (lw_at lw_m7 186 rfl) rfl
theorem q1704 : (Jvm.Cond.lays "java/lang/IllegalArgumentException" "java/lang/Throwable" "backtrace" "Ljava/lang/Object;") ∈ lw_all := lw_g (lw_at lw_m7 187 rfl) rfl
theorem q1707 : (Jvm.Cond.instanceMethod ({ cls := "java/lang/IllegalArgumentException", name := "<init>", desc := "(Ljava/lang/String;)V" } : Jvm.MethodName)) ∈ lw_all := lw_g (lw_at lw_m7 190 rfl) rfl
theorem q1708 : (Jvm.Cond.code ({ cls := "java/lang/IllegalArgumentException", name := "<init>", desc := "(Ljava/lang/String;)V" } : Jvm.MethodName) prog_24_method_2_code (2 : Nat) (Option.none : Option Jvm.ClassFile.FieldType)) ∈ lw_all := lw_g (lw_at lw_m7 191 rfl) rfl
theorem q1709 : (Jvm.Cond.methodLink "java/lang/IllegalArgumentException" (7 : Nat) ({ cls := "java/lang/RuntimeException", name := "<init>", desc := "(Ljava/lang/String;)V" } : Jvm.MethodName)) ∈ lw_all := lw_g (lw_at lw_m7 192 rfl) rfl
theorem q1710 : (Jvm.Cond.lays "java/lang/IllegalArgumentException" "java/lang/Throwable" "depth" "I") ∈ lw_all := lw_g (lw_at lw_m7 193 rfl) rfl
theorem q1711 : (Jvm.Cond.superclass "java/lang/IllegalArgumentException" "java/lang/RuntimeException") ∈ lw_all := lw_g (lw_at lw_m7 194 rfl) rfl
theorem q1793 : (Jvm.Cond.instanceMethod ({ cls := "java/lang/IllegalArgumentException", name := "<init>", desc := "()V" } : Jvm.MethodName)) ∈ lw_all := lw_g (lw_at lw_m8 36 rfl) rfl
theorem q1794 : (Jvm.Cond.code ({ cls := "java/lang/IllegalArgumentException", name := "<init>", desc := "()V" } : Jvm.MethodName) prog_24_method_1_code (1 : Nat) (Option.none : Option Jvm.ClassFile.FieldType)) ∈ lw_all := lw_g (lw_at lw_m8 37 rfl) rfl
theorem q1795 : (Jvm.Cond.methodLink "java/lang/IllegalArgumentException" (1 : Nat) ({ cls := "java/lang/RuntimeException", name := "<init>", desc := "()V" } : Jvm.MethodName)) ∈ lw_all := lw_g (lw_at lw_m8 38 rfl) rfl
theorem q3545 : (Jvm.Cond.castable "java/lang/IllegalArgumentException" "java/lang/Object") ∈ lw_tbl := lw_at lw_m15 108 rfl
def RJ19 : String := "java/util/TreeMap$EntrySet"
def TJ19 : u_T := fun k => match k with
  | _ => ("java/util/TreeMap$EntrySet", "this$0", "Ljava/util/TreeMap;", true)
def tyJ19 : Nat → FieldType := fun k => match k with
  | _ => .object "java/util/TreeMap"
abbrev wsJ190 : List Cond := u_ws RJ19 TJ19 1
theorem nmJ19 : ∀ a, a < 1 → ∀ b, b < 1 → a ≠ b → (TJ19 a).2.1 ≠ (TJ19 b).2.1 := by decide +kernel
theorem tyJ19_ok : ∀ k, k < 1 → parseFieldDescriptor (TJ19 k).2.2.1 = some (tyJ19 k) := by decide +kernel
theorem q104 : (Jvm.Cond.initialized "java/util/TreeMap$EntrySet") ∈ lw_all := lw_g (lw_at lw_m1 27 rfl) rfl
theorem q548 : (Jvm.Cond.selects "java/util/TreeMap$EntrySet" ({ cls := "java/lang/Object", name := "getClass", desc := "()Ljava/lang/Class;" } : Jvm.MethodName) ({ cls := "java/lang/Object", name := "getClass", desc := "()Ljava/lang/Class;" } : Jvm.MethodName)) ∈ lw_all := lw_g (lw_at lw_m2 231 rfl) rfl
theorem q638 : (Jvm.Cond.instantiable "java/util/TreeMap$EntrySet" (1 : Nat)) ∈ lw_all := lw_g (lw_at lw_m3 81 rfl) rfl
theorem q640 : (Jvm.Cond.instanceMethod ({ cls := "java/util/TreeMap$EntrySet", name := "<init>", desc := "(Ljava/util/TreeMap;)V" } : Jvm.MethodName)) ∈ lw_all := lw_g (lw_at lw_m3 83 rfl) rfl
theorem q641 : (Jvm.Cond.code ({ cls := "java/util/TreeMap$EntrySet", name := "<init>", desc := "(Ljava/util/TreeMap;)V" } : Jvm.MethodName) prog_80_method_1_code (2 : Nat) (Option.none : Option Jvm.ClassFile.FieldType)) ∈ lw_all := lw_g (lw_at lw_m3 84 rfl) rfl
theorem q642 : (Jvm.Cond.methodLink "java/util/TreeMap$EntrySet" (7 : Nat) ({ cls := "java/util/AbstractSet", name := "<init>", desc := "()V" } : Jvm.MethodName)) ∈ lw_all := lw_g (lw_at lw_m3 85 rfl) rfl
theorem q643 : (Jvm.Cond.fieldLink "java/util/TreeMap$EntrySet" (1 : Nat) "java/util/TreeMap$EntrySet" "this$0" "Ljava/util/TreeMap;") ∈ lw_all := lw_g (lw_at lw_m3 86 rfl) rfl
theorem q644 : (Jvm.Cond.laysFinal "java/util/TreeMap$EntrySet" "java/util/TreeMap$EntrySet" "this$0" "Ljava/util/TreeMap;") ∈ lw_all := lw_g (lw_at lw_m3 87 rfl) rfl
theorem q645 : (Jvm.Cond.soleField "java/util/TreeMap$EntrySet" "this$0") ∈ lw_all := lw_g (lw_at lw_m3 88 rfl) rfl
theorem q646 : (Jvm.Cond.superclass "java/util/TreeMap$EntrySet" "java/util/AbstractSet") ∈ lw_all := lw_g (lw_at lw_m3 89 rfl) rfl
theorem q977 : (Jvm.Cond.castable "java/util/TreeMap$EntrySet" "java/util/Set") ∈ lw_tbl := lw_at lw_m4 180 rfl
theorem q978 : (Jvm.Cond.selects "java/util/TreeMap$EntrySet" ({ cls := "java/util/Set", name := "iterator", desc := "()Ljava/util/Iterator;" } : Jvm.MethodName) ({ cls := "java/util/TreeMap$EntrySet", name := "iterator", desc := "()Ljava/util/Iterator;" } : Jvm.MethodName)) ∈ lw_all := lw_g (lw_at lw_m4 181 rfl) rfl
theorem q979 : (Jvm.Cond.unhidden "java/util/TreeMap$EntrySet" "iterator" "()Ljava/util/Iterator;") ∈ lw_tbl := lw_at lw_m4 182 rfl
theorem q980 : (Jvm.Cond.instanceMethod ({ cls := "java/util/TreeMap$EntrySet", name := "iterator", desc := "()Ljava/util/Iterator;" } : Jvm.MethodName)) ∈ lw_all := lw_g (lw_at lw_m4 183 rfl) rfl
theorem q981 : (Jvm.Cond.publicMethod ({ cls := "java/util/TreeMap$EntrySet", name := "iterator", desc := "()Ljava/util/Iterator;" } : Jvm.MethodName)) ∈ lw_tbl := lw_at lw_m4 184 rfl
theorem q982 : (Jvm.Cond.code ({ cls := "java/util/TreeMap$EntrySet", name := "iterator", desc := "()Ljava/util/Iterator;" } : Jvm.MethodName) prog_80_method_2_code (1 : Nat) (Option.some (Jvm.ClassFile.FieldType.object "java/util/Iterator"))) ∈ lw_all := lw_g (lw_at lw_m4 185 rfl) rfl
theorem q983 : (Jvm.Cond.classLink "java/util/TreeMap$EntrySet" (13 : Nat) "java/util/TreeMap$EntryIterator") ∈ lw_all := lw_g (lw_at lw_m4 186 rfl) rfl
theorem q985 : (Jvm.Cond.methodLink "java/util/TreeMap$EntrySet" (15 : Nat) ({ cls := "java/util/TreeMap", name := "getFirstEntry", desc := "()Ljava/util/TreeMap$Entry;" } : Jvm.MethodName)) ∈ lw_all := lw_g (lw_at lw_m4 188 rfl) rfl
theorem q986 : (Jvm.Cond.methodLink "java/util/TreeMap$EntrySet" (21 : Nat) ({ cls := "java/util/TreeMap$EntryIterator", name := "<init>", desc := "(Ljava/util/TreeMap;Ljava/util/TreeMap$Entry;)V" } : Jvm.MethodName)) ∈ lw_all := lw_g (lw_at lw_m4 189 rfl) rfl
theorem q1513 : (Jvm.Cond.selects "java/util/TreeMap$EntrySet" ({ cls := "java/util/AbstractCollection", name := "iterator", desc := "()Ljava/util/Iterator;" } : Jvm.MethodName) ({ cls := "java/util/TreeMap$EntrySet", name := "iterator", desc := "()Ljava/util/Iterator;" } : Jvm.MethodName)) ∈ lw_all := lw_g (lw_at lw_m6 236 rfl) rfl
theorem q1652 : (Jvm.Cond.selects "java/util/TreeMap$EntrySet" ({ cls := "java/util/Set", name := "clear", desc := "()V" } : Jvm.MethodName) ({ cls := "java/util/TreeMap$EntrySet", name := "clear", desc := "()V" } : Jvm.MethodName)) ∈ lw_all := lw_g (lw_at lw_m7 135 rfl) rfl
theorem q1653 : (Jvm.Cond.unhidden "java/util/TreeMap$EntrySet" "clear" "()V") ∈ lw_tbl := lw_at lw_m7 136 rfl
theorem q1654 : (Jvm.Cond.instanceMethod ({ cls := "java/util/TreeMap$EntrySet", name := "clear", desc := "()V" } : Jvm.MethodName)) ∈ lw_all := lw_g (lw_at lw_m7 137 rfl) rfl
theorem q1655 : (Jvm.Cond.publicMethod ({ cls := "java/util/TreeMap$EntrySet", name := "clear", desc := "()V" } : Jvm.MethodName)) ∈ lw_tbl := lw_at lw_m7 138 rfl
theorem q1656 : (Jvm.Cond.code ({ cls := "java/util/TreeMap$EntrySet", name := "clear", desc := "()V" } : Jvm.MethodName) prog_80_method_6_code (1 : Nat) (Option.none : Option Jvm.ClassFile.FieldType)) ∈ lw_all := lw_g (lw_at lw_m7 139 rfl) rfl
theorem q1657 : (Jvm.Cond.methodLink "java/util/TreeMap$EntrySet" (52 : Nat) ({ cls := "java/util/TreeMap", name := "clear", desc := "()V" } : Jvm.MethodName)) ∈ lw_all := lw_g (lw_at lw_m7 140 rfl) rfl
theorem q1992 : (Jvm.Cond.selects "java/util/TreeMap$EntrySet" ({ cls := "java/util/Set", name := "size", desc := "()I" } : Jvm.MethodName) ({ cls := "java/util/TreeMap$EntrySet", name := "size", desc := "()I" } : Jvm.MethodName)) ∈ lw_all := lw_g (lw_at lw_m8 235 rfl) rfl
theorem q1993 : (Jvm.Cond.unhidden "java/util/TreeMap$EntrySet" "size" "()I") ∈ lw_tbl := lw_at lw_m8 236 rfl
theorem q1994 : (Jvm.Cond.instanceMethod ({ cls := "java/util/TreeMap$EntrySet", name := "size", desc := "()I" } : Jvm.MethodName)) ∈ lw_all := lw_g (lw_at lw_m8 237 rfl) rfl
theorem q1995 : (Jvm.Cond.publicMethod ({ cls := "java/util/TreeMap$EntrySet", name := "size", desc := "()I" } : Jvm.MethodName)) ∈ lw_tbl := lw_at lw_m8 238 rfl
theorem q1996 : (Jvm.Cond.code ({ cls := "java/util/TreeMap$EntrySet", name := "size", desc := "()I" } : Jvm.MethodName) prog_80_method_5_code (1 : Nat) (Option.some Jvm.ClassFile.FieldType.int)) ∈ lw_all := lw_g (lw_at lw_m8 239 rfl) rfl
theorem q1997 : (Jvm.Cond.methodLink "java/util/TreeMap$EntrySet" (48 : Nat) ({ cls := "java/util/TreeMap", name := "size", desc := "()I" } : Jvm.MethodName)) ∈ lw_all := lw_g (lw_at lw_m9 0 rfl) rfl
theorem q2082 : (Jvm.Cond.castable "java/util/TreeMap$EntrySet" "java/util/Collection") ∈ lw_tbl := lw_at lw_m9 85 rfl
theorem q2083 : (Jvm.Cond.selects "java/util/TreeMap$EntrySet" ({ cls := "java/util/Collection", name := "iterator", desc := "()Ljava/util/Iterator;" } : Jvm.MethodName) ({ cls := "java/util/TreeMap$EntrySet", name := "iterator", desc := "()Ljava/util/Iterator;" } : Jvm.MethodName)) ∈ lw_all := lw_g (lw_at lw_m9 86 rfl) rfl
theorem q2536 : (Jvm.Cond.selects "java/util/TreeMap$EntrySet" ({ cls := "java/util/Set", name := "isEmpty", desc := "()Z" } : Jvm.MethodName) ({ cls := "java/util/AbstractCollection", name := "isEmpty", desc := "()Z" } : Jvm.MethodName)) ∈ lw_all := lw_g (lw_at lw_m11 59 rfl) rfl
theorem q2537 : (Jvm.Cond.unhidden "java/util/TreeMap$EntrySet" "isEmpty" "()Z") ∈ lw_tbl := lw_at lw_m11 60 rfl
theorem q2549 : (Jvm.Cond.selects "java/util/TreeMap$EntrySet" ({ cls := "java/util/AbstractCollection", name := "size", desc := "()I" } : Jvm.MethodName) ({ cls := "java/util/TreeMap$EntrySet", name := "size", desc := "()I" } : Jvm.MethodName)) ∈ lw_all := lw_g (lw_at lw_m11 72 rfl) rfl
theorem q3546 : (Jvm.Cond.castable "java/util/TreeMap$EntrySet" "java/lang/Object") ∈ lw_tbl := lw_at lw_m15 109 rfl
def RJ2 : String := "java/util/AbstractCollection"
theorem q82 : (Jvm.Cond.initialized "java/util/AbstractCollection") ∈ lw_all := lw_g (lw_at lw_m1 5 rfl) rfl
theorem q212 : (Jvm.Cond.instanceMethod ({ cls := "java/util/AbstractCollection", name := "<init>", desc := "()V" } : Jvm.MethodName)) ∈ lw_all := lw_g (lw_at lw_m1 135 rfl) rfl
theorem q213 : (Jvm.Cond.code ({ cls := "java/util/AbstractCollection", name := "<init>", desc := "()V" } : Jvm.MethodName) prog_43_method_1_code (1 : Nat) (Option.none : Option Jvm.ClassFile.FieldType)) ∈ lw_all := lw_g (lw_at lw_m1 136 rfl) rfl
theorem q214 : (Jvm.Cond.methodLink "java/util/AbstractCollection" (1 : Nat) ({ cls := "java/lang/Object", name := "<init>", desc := "()V" } : Jvm.MethodName)) ∈ lw_all := lw_g (lw_at lw_m1 137 rfl) rfl
theorem q1449 : (Jvm.Cond.instanceMethod ({ cls := "java/util/AbstractCollection", name := "clear", desc := "()V" } : Jvm.MethodName)) ∈ lw_all := lw_g (lw_at lw_m6 172 rfl) rfl
theorem q1450 : (Jvm.Cond.publicMethod ({ cls := "java/util/AbstractCollection", name := "clear", desc := "()V" } : Jvm.MethodName)) ∈ lw_tbl := lw_at lw_m6 173 rfl
theorem q1451 : (Jvm.Cond.code ({ cls := "java/util/AbstractCollection", name := "clear", desc := "()V" } : Jvm.MethodName) prog_43_method_15_code (2 : Nat) (Option.none : Option Jvm.ClassFile.FieldType)) ∈ lw_all := lw_g (lw_at lw_m6 174 rfl) rfl
theorem q1452 : (Jvm.Cond.methodLink "java/util/AbstractCollection" (13 : Nat) ({ cls := "java/util/AbstractCollection", name := "iterator", desc := "()Ljava/util/Iterator;" } : Jvm.MethodName)) ∈ lw_all := lw_g (lw_at lw_m6 175 rfl) rfl
theorem q1453 : (Jvm.Cond.declares ({ cls := "java/util/AbstractCollection", name := "iterator", desc := "()Ljava/util/Iterator;" } : Jvm.MethodName)) ∈ lw_tbl := lw_at lw_m6 176 rfl
theorem q1454 : (Jvm.Cond.sameMethod "java/util/AbstractCollection" "java/util/AbstractCollection" "iterator" "()Ljava/util/Iterator;") ∈ lw_all := lw_g (lw_at lw_m6 177 rfl) rfl
theorem q1531 : (Jvm.Cond.interfaceEntry "java/util/AbstractCollection" (17 : Nat)) ∈ lw_tbl := lw_at lw_m7 14 rfl
theorem q1532 : (Jvm.Cond.methodLink "java/util/AbstractCollection" (17 : Nat) ({ cls := "java/util/Iterator", name := "hasNext", desc := "()Z" } : Jvm.MethodName)) ∈ lw_all := lw_g (lw_at lw_m7 15 rfl) rfl
theorem q1533 : (Jvm.Cond.interfaceEntry "java/util/AbstractCollection" (23 : Nat)) ∈ lw_tbl := lw_at lw_m7 16 rfl
theorem q1534 : (Jvm.Cond.methodLink "java/util/AbstractCollection" (23 : Nat) ({ cls := "java/util/Iterator", name := "next", desc := "()Ljava/lang/Object;" } : Jvm.MethodName)) ∈ lw_all := lw_g (lw_at lw_m7 17 rfl) rfl
theorem q1535 : (Jvm.Cond.interfaceEntry "java/util/AbstractCollection" (73 : Nat)) ∈ lw_tbl := lw_at lw_m7 18 rfl
theorem q1536 : (Jvm.Cond.methodLink "java/util/AbstractCollection" (73 : Nat) ({ cls := "java/util/Iterator", name := "remove", desc := "()V" } : Jvm.MethodName)) ∈ lw_all := lw_g (lw_at lw_m7 19 rfl) rfl
theorem q2538 : (Jvm.Cond.instanceMethod ({ cls := "java/util/AbstractCollection", name := "isEmpty", desc := "()Z" } : Jvm.MethodName)) ∈ lw_all := lw_g (lw_at lw_m11 61 rfl) rfl
theorem q2539 : (Jvm.Cond.publicMethod ({ cls := "java/util/AbstractCollection", name := "isEmpty", desc := "()Z" } : Jvm.MethodName)) ∈ lw_tbl := lw_at lw_m11 62 rfl
theorem q2540 : (Jvm.Cond.code ({ cls := "java/util/AbstractCollection", name := "isEmpty", desc := "()Z" } : Jvm.MethodName) prog_43_method_4_code (1 : Nat) (Option.some Jvm.ClassFile.FieldType.boolean)) ∈ lw_all := lw_g (lw_at lw_m11 63 rfl) rfl
theorem q2541 : (Jvm.Cond.methodLink "java/util/AbstractCollection" (7 : Nat) ({ cls := "java/util/AbstractCollection", name := "size", desc := "()I" } : Jvm.MethodName)) ∈ lw_all := lw_g (lw_at lw_m11 64 rfl) rfl
theorem q2542 : (Jvm.Cond.declares ({ cls := "java/util/AbstractCollection", name := "size", desc := "()I" } : Jvm.MethodName)) ∈ lw_tbl := lw_at lw_m11 65 rfl
theorem q2543 : (Jvm.Cond.sameMethod "java/util/AbstractCollection" "java/util/AbstractCollection" "size" "()I") ∈ lw_all := lw_g (lw_at lw_m11 66 rfl) rfl
def RJ20 : String := "java/util/TreeMap$NavigableSubMap$SubMapIterator"
theorem q105 : (Jvm.Cond.initialized "java/util/TreeMap$NavigableSubMap$SubMapIterator") ∈ lw_all := lw_g (lw_at lw_m1 28 rfl) rfl
theorem q172 : (Jvm.Cond.fieldLinkNest "java/util/TreeMap$NavigableSubMap$SubMapIterator" (19 : Nat) "java/util/TreeMap" "modCount" "I" "java/util/TreeMap") ∈ lw_tbl := lw_at lw_m1 95 rfl
theorem q956 : (Jvm.Cond.instanceMethod ({ cls := "java/util/TreeMap$NavigableSubMap$SubMapIterator", name := "<init>", desc := "(Ljava/util/TreeMap$NavigableSubMap;Ljava/util/TreeMap$Entry;Ljava/util/TreeMap$Entry;)V" } : Jvm.MethodName)) ∈ lw_all := lw_g (lw_at lw_m4 159 rfl) rfl
theorem q957 : (Jvm.Cond.code ({ cls := "java/util/TreeMap$NavigableSubMap$SubMapIterator", name := "<init>", desc := "(Ljava/util/TreeMap$NavigableSubMap;Ljava/util/TreeMap$Entry;Ljava/util/TreeMap$Entry;)V" } : Jvm.MethodName) prog_86_method_1_code (4 : Nat) (Option.none : Option Jvm.ClassFile.FieldType)) ∈ lw_all := lw_g (lw_at lw_m4 160 rfl) rfl
theorem q958 : (Jvm.Cond.methodLink "java/util/TreeMap$NavigableSubMap$SubMapIterator" (7 : Nat) ({ cls := "java/lang/Object", name := "<init>", desc := "()V" } : Jvm.MethodName)) ∈ lw_all := lw_g (lw_at lw_m4 161 rfl) rfl
theorem q959 : (Jvm.Cond.fieldLinkNest "java/util/TreeMap$NavigableSubMap$SubMapIterator" (35 : Nat) "java/util/TreeMap" "UNBOUNDED" "Ljava/lang/Object;" "java/util/TreeMap") ∈ lw_tbl := lw_at lw_m4 162 rfl
theorem q961 : (Jvm.Cond.fieldLink "java/util/TreeMap$NavigableSubMap$SubMapIterator" (28 : Nat) "java/util/TreeMap$NavigableSubMap$SubMapIterator" "lastReturned" "Ljava/util/TreeMap$Entry;") ∈ lw_all := lw_g (lw_at lw_m4 164 rfl) rfl
theorem q962 : (Jvm.Cond.fieldLink "java/util/TreeMap$NavigableSubMap$SubMapIterator" (32 : Nat) "java/util/TreeMap$NavigableSubMap$SubMapIterator" "next" "Ljava/util/TreeMap$Entry;") ∈ lw_all := lw_g (lw_at lw_m4 165 rfl) rfl
theorem q963 : (Jvm.Cond.fieldLink "java/util/TreeMap$NavigableSubMap$SubMapIterator" (44 : Nat) "java/util/TreeMap$NavigableSubMap$SubMapIterator" "fenceKey" "Ljava/lang/Object;") ∈ lw_all := lw_g (lw_at lw_m4 166 rfl) rfl
theorem q964 : (Jvm.Cond.fieldLink "java/util/TreeMap$NavigableSubMap$SubMapIterator" (25 : Nat) "java/util/TreeMap$NavigableSubMap$SubMapIterator" "expectedModCount" "I") ∈ lw_all := lw_g (lw_at lw_m4 167 rfl) rfl
theorem q965 : (Jvm.Cond.fieldLink "java/util/TreeMap$NavigableSubMap$SubMapIterator" (1 : Nat) "java/util/TreeMap$NavigableSubMap$SubMapIterator" "this$0" "Ljava/util/TreeMap$NavigableSubMap;") ∈ lw_all := lw_g (lw_at lw_m4 168 rfl) rfl
theorem q967 : (Jvm.Cond.soleField "java/util/TreeMap$NavigableSubMap$SubMapIterator" "lastReturned") ∈ lw_all := lw_g (lw_at lw_m4 170 rfl) rfl
theorem q969 : (Jvm.Cond.soleField "java/util/TreeMap$NavigableSubMap$SubMapIterator" "next") ∈ lw_all := lw_g (lw_at lw_m4 172 rfl) rfl
theorem q971 : (Jvm.Cond.soleField "java/util/TreeMap$NavigableSubMap$SubMapIterator" "fenceKey") ∈ lw_all := lw_g (lw_at lw_m4 174 rfl) rfl
theorem q973 : (Jvm.Cond.soleField "java/util/TreeMap$NavigableSubMap$SubMapIterator" "expectedModCount") ∈ lw_all := lw_g (lw_at lw_m4 176 rfl) rfl
theorem q975 : (Jvm.Cond.soleField "java/util/TreeMap$NavigableSubMap$SubMapIterator" "this$0") ∈ lw_all := lw_g (lw_at lw_m4 178 rfl) rfl
theorem q1127 : (Jvm.Cond.instanceMethod ({ cls := "java/util/TreeMap$NavigableSubMap$SubMapIterator", name := "hasNext", desc := "()Z" } : Jvm.MethodName)) ∈ lw_all := lw_g (lw_at lw_m5 90 rfl) rfl
theorem q1128 : (Jvm.Cond.publicMethod ({ cls := "java/util/TreeMap$NavigableSubMap$SubMapIterator", name := "hasNext", desc := "()Z" } : Jvm.MethodName)) ∈ lw_tbl := lw_at lw_m5 91 rfl
theorem q1129 : (Jvm.Cond.code ({ cls := "java/util/TreeMap$NavigableSubMap$SubMapIterator", name := "hasNext", desc := "()Z" } : Jvm.MethodName) prog_86_method_2_code (1 : Nat) (Option.some Jvm.ClassFile.FieldType.boolean)) ∈ lw_all := lw_g (lw_at lw_m5 92 rfl) rfl
theorem q1227 : (Jvm.Cond.declares ({ cls := "java/util/TreeMap$NavigableSubMap$SubMapIterator", name := "nextEntry", desc := "()Ljava/util/TreeMap$Entry;" } : Jvm.MethodName)) ∈ lw_tbl := lw_at lw_m5 190 rfl
theorem q1229 : (Jvm.Cond.instanceMethod ({ cls := "java/util/TreeMap$NavigableSubMap$SubMapIterator", name := "nextEntry", desc := "()Ljava/util/TreeMap$Entry;" } : Jvm.MethodName)) ∈ lw_all := lw_g (lw_at lw_m5 192 rfl) rfl
theorem q1230 : (Jvm.Cond.code ({ cls := "java/util/TreeMap$NavigableSubMap$SubMapIterator", name := "nextEntry", desc := "()Ljava/util/TreeMap$Entry;" } : Jvm.MethodName) prog_86_method_3_code (2 : Nat) (Option.some (Jvm.ClassFile.FieldType.object "java/util/TreeMap$Entry"))) ∈ lw_all := lw_g (lw_at lw_m5 193 rfl) rfl
theorem q1231 : (Jvm.Cond.classLink "java/util/TreeMap$NavigableSubMap$SubMapIterator" (47 : Nat) "java/util/NoSuchElementException") ∈ lw_all := lw_g (lw_at lw_m5 194 rfl) rfl
theorem q1232 : (Jvm.Cond.methodLink "java/util/TreeMap$NavigableSubMap$SubMapIterator" (49 : Nat) ({ cls := "java/util/NoSuchElementException", name := "<init>", desc := "()V" } : Jvm.MethodName)) ∈ lw_all := lw_g (lw_at lw_m5 195 rfl) rfl
theorem q1233 : (Jvm.Cond.methodLink "java/util/TreeMap$NavigableSubMap$SubMapIterator" (53 : Nat) ({ cls := "java/util/TreeMap", name := "successor", desc := "(Ljava/util/TreeMap$Entry;)Ljava/util/TreeMap$Entry;" } : Jvm.MethodName)) ∈ lw_all := lw_g (lw_at lw_m5 196 rfl) rfl
theorem q1333 : (Jvm.Cond.fieldLink "java/util/TreeMap$NavigableSubMap$SubMapIterator" (39 : Nat) "java/util/TreeMap$Entry" "key" "Ljava/lang/Object;") ∈ lw_all := lw_g (lw_at lw_m6 56 rfl) rfl
theorem q1343 : (Jvm.Cond.fieldLink "java/util/TreeMap$NavigableSubMap$SubMapIterator" (63 : Nat) "java/util/TreeMap$Entry" "left" "Ljava/util/TreeMap$Entry;") ∈ lw_all := lw_g (lw_at lw_m6 66 rfl) rfl
theorem q1346 : (Jvm.Cond.fieldLink "java/util/TreeMap$NavigableSubMap$SubMapIterator" (66 : Nat) "java/util/TreeMap$Entry" "right" "Ljava/util/TreeMap$Entry;") ∈ lw_all := lw_g (lw_at lw_m6 69 rfl) rfl
theorem q1635 : (Jvm.Cond.declares ({ cls := "java/util/TreeMap$NavigableSubMap$SubMapIterator", name := "removeAscending", desc := "()V" } : Jvm.MethodName)) ∈ lw_tbl := lw_at lw_m7 118 rfl
theorem q1637 : (Jvm.Cond.instanceMethod ({ cls := "java/util/TreeMap$NavigableSubMap$SubMapIterator", name := "removeAscending", desc := "()V" } : Jvm.MethodName)) ∈ lw_all := lw_g (lw_at lw_m7 120 rfl) rfl
theorem q1638 : (Jvm.Cond.code ({ cls := "java/util/TreeMap$NavigableSubMap$SubMapIterator", name := "removeAscending", desc := "()V" } : Jvm.MethodName) prog_86_method_5_code (1 : Nat) (Option.none : Option Jvm.ClassFile.FieldType)) ∈ lw_all := lw_g (lw_at lw_m7 121 rfl) rfl
theorem q1639 : (Jvm.Cond.classLink "java/util/TreeMap$NavigableSubMap$SubMapIterator" (60 : Nat) "java/lang/IllegalStateException") ∈ lw_all := lw_g (lw_at lw_m7 122 rfl) rfl
theorem q1640 : (Jvm.Cond.methodLink "java/util/TreeMap$NavigableSubMap$SubMapIterator" (62 : Nat) ({ cls := "java/lang/IllegalStateException", name := "<init>", desc := "()V" } : Jvm.MethodName)) ∈ lw_all := lw_g (lw_at lw_m7 123 rfl) rfl
theorem q1641 : (Jvm.Cond.methodLinkNest "java/util/TreeMap$NavigableSubMap$SubMapIterator" (69 : Nat) ({ cls := "java/util/TreeMap", name := "deleteEntry", desc := "(Ljava/util/TreeMap$Entry;)V" } : Jvm.MethodName) "java/util/TreeMap") ∈ lw_tbl := lw_at lw_m7 124 rfl
theorem q2241 : (Jvm.Cond.fieldLink "java/util/TreeMap$NavigableSubMap$SubMapIterator" (13 : Nat) "java/util/TreeMap$NavigableSubMap" "m" "Ljava/util/TreeMap;") ∈ lw_all := lw_g (lw_at lw_m10 4 rfl) rfl
def RJ21 : String := "java/util/TreeMap$NavigableSubMap$SubMapEntryIterator"
def TJ21 : u_T := fun k => match k with
  | 0 => ("java/util/TreeMap$NavigableSubMap$SubMapIterator", "lastReturned", "Ljava/util/TreeMap$Entry;", false)
  | 1 => ("java/util/TreeMap$NavigableSubMap$SubMapIterator", "next", "Ljava/util/TreeMap$Entry;", false)
  | 2 => ("java/util/TreeMap$NavigableSubMap$SubMapIterator", "fenceKey", "Ljava/lang/Object;", true)
  | 3 => ("java/util/TreeMap$NavigableSubMap$SubMapIterator", "expectedModCount", "I", false)
  | _ => ("java/util/TreeMap$NavigableSubMap$SubMapIterator", "this$0", "Ljava/util/TreeMap$NavigableSubMap;", true)
def tyJ21 : Nat → FieldType := fun k => match k with
  | 0 => .object "java/util/TreeMap$Entry"
  | 1 => .object "java/util/TreeMap$Entry"
  | 2 => .object "java/lang/Object"
  | 3 => .int
  | _ => .object "java/util/TreeMap$NavigableSubMap"
abbrev wsJ210 : List Cond := u_ws RJ21 TJ21 5
theorem nmJ21 : ∀ a, a < 5 → ∀ b, b < 5 → a ≠ b → (TJ21 a).2.1 ≠ (TJ21 b).2.1 := by decide +kernel
theorem tyJ21_ok : ∀ k, k < 5 → parseFieldDescriptor (TJ21 k).2.2.1 = some (tyJ21 k) := by decide +kernel
theorem q106 : (Jvm.Cond.initialized "java/util/TreeMap$NavigableSubMap$SubMapEntryIterator") ∈ lw_all := lw_g (lw_at lw_m1 29 rfl) rfl
theorem q551 : (Jvm.Cond.selects "java/util/TreeMap$NavigableSubMap$SubMapEntryIterator" ({ cls := "java/lang/Object", name := "getClass", desc := "()Ljava/lang/Class;" } : Jvm.MethodName) ({ cls := "java/lang/Object", name := "getClass", desc := "()Ljava/lang/Class;" } : Jvm.MethodName)) ∈ lw_all := lw_g (lw_at lw_m2 234 rfl) rfl
theorem q658 : (Jvm.Cond.instantiable "java/util/TreeMap$NavigableSubMap$SubMapEntryIterator" (5 : Nat)) ∈ lw_all := lw_g (lw_at lw_m3 101 rfl) rfl
theorem q953 : (Jvm.Cond.instanceMethod ({ cls := "java/util/TreeMap$NavigableSubMap$SubMapEntryIterator", name := "<init>", desc := "(Ljava/util/TreeMap$NavigableSubMap;Ljava/util/TreeMap$Entry;Ljava/util/TreeMap$Entry;)V" } : Jvm.MethodName)) ∈ lw_all := lw_g (lw_at lw_m4 156 rfl) rfl
theorem q954 : (Jvm.Cond.code ({ cls := "java/util/TreeMap$NavigableSubMap$SubMapEntryIterator", name := "<init>", desc := "(Ljava/util/TreeMap$NavigableSubMap;Ljava/util/TreeMap$Entry;Ljava/util/TreeMap$Entry;)V" } : Jvm.MethodName) prog_85_method_1_code (4 : Nat) (Option.none : Option Jvm.ClassFile.FieldType)) ∈ lw_all := lw_g (lw_at lw_m4 157 rfl) rfl
theorem q955 : (Jvm.Cond.methodLink "java/util/TreeMap$NavigableSubMap$SubMapEntryIterator" (1 : Nat) ({ cls := "java/util/TreeMap$NavigableSubMap$SubMapIterator", name := "<init>", desc := "(Ljava/util/TreeMap$NavigableSubMap;Ljava/util/TreeMap$Entry;Ljava/util/TreeMap$Entry;)V" } : Jvm.MethodName)) ∈ lw_all := lw_g (lw_at lw_m4 158 rfl) rfl
theorem q966 : (Jvm.Cond.lays "java/util/TreeMap$NavigableSubMap$SubMapEntryIterator" "java/util/TreeMap$NavigableSubMap$SubMapIterator" "lastReturned" "Ljava/util/TreeMap$Entry;") ∈ lw_all := lw_g (lw_at lw_m4 169 rfl) rfl
theorem q968 : (Jvm.Cond.lays "java/util/TreeMap$NavigableSubMap$SubMapEntryIterator" "java/util/TreeMap$NavigableSubMap$SubMapIterator" "next" "Ljava/util/TreeMap$Entry;") ∈ lw_all := lw_g (lw_at lw_m4 171 rfl) rfl
theorem q970 : (Jvm.Cond.laysFinal "java/util/TreeMap$NavigableSubMap$SubMapEntryIterator" "java/util/TreeMap$NavigableSubMap$SubMapIterator" "fenceKey" "Ljava/lang/Object;") ∈ lw_all := lw_g (lw_at lw_m4 173 rfl) rfl
theorem q972 : (Jvm.Cond.lays "java/util/TreeMap$NavigableSubMap$SubMapEntryIterator" "java/util/TreeMap$NavigableSubMap$SubMapIterator" "expectedModCount" "I") ∈ lw_all := lw_g (lw_at lw_m4 175 rfl) rfl
theorem q974 : (Jvm.Cond.laysFinal "java/util/TreeMap$NavigableSubMap$SubMapEntryIterator" "java/util/TreeMap$NavigableSubMap$SubMapIterator" "this$0" "Ljava/util/TreeMap$NavigableSubMap;") ∈ lw_all := lw_g (lw_at lw_m4 177 rfl) rfl
theorem q976 : (Jvm.Cond.superclass "java/util/TreeMap$NavigableSubMap$SubMapEntryIterator" "java/util/TreeMap$NavigableSubMap$SubMapIterator") ∈ lw_all := lw_g (lw_at lw_m4 179 rfl) rfl
theorem q1124 : (Jvm.Cond.castable "java/util/TreeMap$NavigableSubMap$SubMapEntryIterator" "java/util/Iterator") ∈ lw_tbl := lw_at lw_m5 87 rfl
theorem q1125 : (Jvm.Cond.selects "java/util/TreeMap$NavigableSubMap$SubMapEntryIterator" ({ cls := "java/util/Iterator", name := "hasNext", desc := "()Z" } : Jvm.MethodName) ({ cls := "java/util/TreeMap$NavigableSubMap$SubMapIterator", name := "hasNext", desc := "()Z" } : Jvm.MethodName)) ∈ lw_all := lw_g (lw_at lw_m5 88 rfl) rfl
theorem q1126 : (Jvm.Cond.unhidden "java/util/TreeMap$NavigableSubMap$SubMapEntryIterator" "hasNext" "()Z") ∈ lw_tbl := lw_at lw_m5 89 rfl
theorem q1216 : (Jvm.Cond.selects "java/util/TreeMap$NavigableSubMap$SubMapEntryIterator" ({ cls := "java/util/Iterator", name := "next", desc := "()Ljava/lang/Object;" } : Jvm.MethodName) ({ cls := "java/util/TreeMap$NavigableSubMap$SubMapEntryIterator", name := "next", desc := "()Ljava/lang/Object;" } : Jvm.MethodName)) ∈ lw_all := lw_g (lw_at lw_m5 179 rfl) rfl
theorem q1217 : (Jvm.Cond.unhidden "java/util/TreeMap$NavigableSubMap$SubMapEntryIterator" "next" "()Ljava/lang/Object;") ∈ lw_tbl := lw_at lw_m5 180 rfl
theorem q1218 : (Jvm.Cond.instanceMethod ({ cls := "java/util/TreeMap$NavigableSubMap$SubMapEntryIterator", name := "next", desc := "()Ljava/lang/Object;" } : Jvm.MethodName)) ∈ lw_all := lw_g (lw_at lw_m5 181 rfl) rfl
theorem q1219 : (Jvm.Cond.publicMethod ({ cls := "java/util/TreeMap$NavigableSubMap$SubMapEntryIterator", name := "next", desc := "()Ljava/lang/Object;" } : Jvm.MethodName)) ∈ lw_tbl := lw_at lw_m5 182 rfl
theorem q1220 : (Jvm.Cond.code ({ cls := "java/util/TreeMap$NavigableSubMap$SubMapEntryIterator", name := "next", desc := "()Ljava/lang/Object;" } : Jvm.MethodName) prog_85_method_4_code (1 : Nat) (Option.some (Jvm.ClassFile.FieldType.object "java/lang/Object"))) ∈ lw_all := lw_g (lw_at lw_m5 183 rfl) rfl
theorem q1221 : (Jvm.Cond.methodLink "java/util/TreeMap$NavigableSubMap$SubMapEntryIterator" (17 : Nat) ({ cls := "java/util/TreeMap$NavigableSubMap$SubMapEntryIterator", name := "next", desc := "()Ljava/util/Map$Entry;" } : Jvm.MethodName)) ∈ lw_all := lw_g (lw_at lw_m5 184 rfl) rfl
theorem q1222 : (Jvm.Cond.instanceMethod ({ cls := "java/util/TreeMap$NavigableSubMap$SubMapEntryIterator", name := "next", desc := "()Ljava/util/Map$Entry;" } : Jvm.MethodName)) ∈ lw_all := lw_g (lw_at lw_m5 185 rfl) rfl
theorem q1223 : (Jvm.Cond.selects "java/util/TreeMap$NavigableSubMap$SubMapEntryIterator" ({ cls := "java/util/TreeMap$NavigableSubMap$SubMapEntryIterator", name := "next", desc := "()Ljava/util/Map$Entry;" } : Jvm.MethodName) ({ cls := "java/util/TreeMap$NavigableSubMap$SubMapEntryIterator", name := "next", desc := "()Ljava/util/Map$Entry;" } : Jvm.MethodName)) ∈ lw_all := lw_g (lw_at lw_m5 186 rfl) rfl
theorem q1224 : (Jvm.Cond.code ({ cls := "java/util/TreeMap$NavigableSubMap$SubMapEntryIterator", name := "next", desc := "()Ljava/util/Map$Entry;" } : Jvm.MethodName) prog_85_method_2_code (1 : Nat) (Option.some (Jvm.ClassFile.FieldType.object "java/util/Map$Entry"))) ∈ lw_all := lw_g (lw_at lw_m5 187 rfl) rfl
theorem q1225 : (Jvm.Cond.methodLink "java/util/TreeMap$NavigableSubMap$SubMapEntryIterator" (7 : Nat) ({ cls := "java/util/TreeMap$NavigableSubMap$SubMapEntryIterator", name := "nextEntry", desc := "()Ljava/util/TreeMap$Entry;" } : Jvm.MethodName)) ∈ lw_all := lw_g (lw_at lw_m5 188 rfl) rfl
theorem q1226 : (Jvm.Cond.sameMethod "java/util/TreeMap$NavigableSubMap$SubMapEntryIterator" "java/util/TreeMap$NavigableSubMap$SubMapIterator" "nextEntry" "()Ljava/util/TreeMap$Entry;") ∈ lw_all := lw_g (lw_at lw_m5 189 rfl) rfl
theorem q1228 : (Jvm.Cond.selects "java/util/TreeMap$NavigableSubMap$SubMapEntryIterator" ({ cls := "java/util/TreeMap$NavigableSubMap$SubMapEntryIterator", name := "nextEntry", desc := "()Ljava/util/TreeMap$Entry;" } : Jvm.MethodName) ({ cls := "java/util/TreeMap$NavigableSubMap$SubMapIterator", name := "nextEntry", desc := "()Ljava/util/TreeMap$Entry;" } : Jvm.MethodName)) ∈ lw_all := lw_g (lw_at lw_m5 191 rfl) rfl
theorem q1628 : (Jvm.Cond.selects "java/util/TreeMap$NavigableSubMap$SubMapEntryIterator" ({ cls := "java/util/Iterator", name := "remove", desc := "()V" } : Jvm.MethodName) ({ cls := "java/util/TreeMap$NavigableSubMap$SubMapEntryIterator", name := "remove", desc := "()V" } : Jvm.MethodName)) ∈ lw_all := lw_g (lw_at lw_m7 111 rfl) rfl
theorem q1629 : (Jvm.Cond.unhidden "java/util/TreeMap$NavigableSubMap$SubMapEntryIterator" "remove" "()V") ∈ lw_tbl := lw_at lw_m7 112 rfl
theorem q1630 : (Jvm.Cond.instanceMethod ({ cls := "java/util/TreeMap$NavigableSubMap$SubMapEntryIterator", name := "remove", desc := "()V" } : Jvm.MethodName)) ∈ lw_all := lw_g (lw_at lw_m7 113 rfl) rfl
theorem q1631 : (Jvm.Cond.publicMethod ({ cls := "java/util/TreeMap$NavigableSubMap$SubMapEntryIterator", name := "remove", desc := "()V" } : Jvm.MethodName)) ∈ lw_tbl := lw_at lw_m7 114 rfl
theorem q1632 : (Jvm.Cond.code ({ cls := "java/util/TreeMap$NavigableSubMap$SubMapEntryIterator", name := "remove", desc := "()V" } : Jvm.MethodName) prog_85_method_3_code (1 : Nat) (Option.none : Option Jvm.ClassFile.FieldType)) ∈ lw_all := lw_g (lw_at lw_m7 115 rfl) rfl
theorem q1633 : (Jvm.Cond.methodLink "java/util/TreeMap$NavigableSubMap$SubMapEntryIterator" (13 : Nat) ({ cls := "java/util/TreeMap$NavigableSubMap$SubMapEntryIterator", name := "removeAscending", desc := "()V" } : Jvm.MethodName)) ∈ lw_all := lw_g (lw_at lw_m7 116 rfl) rfl
theorem q1634 : (Jvm.Cond.sameMethod "java/util/TreeMap$NavigableSubMap$SubMapEntryIterator" "java/util/TreeMap$NavigableSubMap$SubMapIterator" "removeAscending" "()V") ∈ lw_all := lw_g (lw_at lw_m7 117 rfl) rfl
theorem q1636 : (Jvm.Cond.selects "java/util/TreeMap$NavigableSubMap$SubMapEntryIterator" ({ cls := "java/util/TreeMap$NavigableSubMap$SubMapEntryIterator", name := "removeAscending", desc := "()V" } : Jvm.MethodName) ({ cls := "java/util/TreeMap$NavigableSubMap$SubMapIterator", name := "removeAscending", desc := "()V" } : Jvm.MethodName)) ∈ lw_all := lw_g (lw_at lw_m7 119 rfl) rfl
theorem q3566 : (Jvm.Cond.castable "java/util/TreeMap$NavigableSubMap$SubMapEntryIterator" "java/lang/Object") ∈ lw_tbl := lw_at lw_m15 129 rfl
def RJ22 : String := "java/lang/StringLatin1"
theorem q107 : (Jvm.Cond.initialized "java/lang/StringLatin1") ∈ lw_all := lw_g (lw_at lw_m1 30 rfl) rfl
theorem q721 : (Jvm.Cond.static ({ cls := "java/lang/StringLatin1", name := "compareTo", desc := "([B[B)I" } : Jvm.MethodName)) ∈ lw_all := lw_g (lw_at lw_m3 164 rfl) rfl
theorem q722 : (Jvm.Cond.code ({ cls := "java/lang/StringLatin1", name := "compareTo", desc := "([B[B)I" } : Jvm.MethodName) prog_36_method_14_code (4 : Nat) (Option.some Jvm.ClassFile.FieldType.int)) ∈ lw_all := lw_g (lw_at lw_m3 165 rfl) rfl
theorem q723 : (Jvm.Cond.methodLink "java/lang/StringLatin1" (34 : Nat) ({ cls := "java/lang/StringLatin1", name := "compareTo", desc := "([B[BII)I" } : Jvm.MethodName)) ∈ lw_all := lw_g (lw_at lw_m3 166 rfl) rfl
theorem q724 : (Jvm.Cond.static ({ cls := "java/lang/StringLatin1", name := "compareTo", desc := "([B[BII)I" } : Jvm.MethodName)) ∈ lw_all := lw_g (lw_at lw_m3 167 rfl) rfl
theorem q725 : (Jvm.Cond.code ({ cls := "java/lang/StringLatin1", name := "compareTo", desc := "([B[BII)I" } : Jvm.MethodName) prog_36_method_15_code (6 : Nat) (Option.some Jvm.ClassFile.FieldType.int)) ∈ lw_all := lw_g (lw_at lw_m3 168 rfl) rfl
theorem q726 : (Jvm.Cond.methodLink "java/lang/StringLatin1" (38 : Nat) ({ cls := "java/lang/Math", name := "min", desc := "(II)I" } : Jvm.MethodName)) ∈ lw_all := lw_g (lw_at lw_m3 169 rfl) rfl
theorem q727 : (Jvm.Cond.methodLink "java/lang/StringLatin1" (44 : Nat) ({ cls := "jdk/internal/util/ArraysSupport", name := "mismatch", desc := "([B[BI)I" } : Jvm.MethodName)) ∈ lw_all := lw_g (lw_at lw_m3 170 rfl) rfl
theorem q831 : (Jvm.Cond.methodLink "java/lang/StringLatin1" (50 : Nat) ({ cls := "java/lang/StringLatin1", name := "getChar", desc := "([BI)C" } : Jvm.MethodName)) ∈ lw_all := lw_g (lw_at lw_m4 34 rfl) rfl
theorem q832 : (Jvm.Cond.static ({ cls := "java/lang/StringLatin1", name := "getChar", desc := "([BI)C" } : Jvm.MethodName)) ∈ lw_all := lw_g (lw_at lw_m4 35 rfl) rfl
theorem q833 : (Jvm.Cond.code ({ cls := "java/lang/StringLatin1", name := "getChar", desc := "([BI)C" } : Jvm.MethodName) prog_36_method_44_code (2 : Nat) (Option.some Jvm.ClassFile.FieldType.char)) ∈ lw_all := lw_g (lw_at lw_m4 36 rfl) rfl
theorem q854 : (Jvm.Cond.static ({ cls := "java/lang/StringLatin1", name := "compareToUTF16", desc := "([B[B)I" } : Jvm.MethodName)) ∈ lw_all := lw_g (lw_at lw_m4 57 rfl) rfl
theorem q855 : (Jvm.Cond.code ({ cls := "java/lang/StringLatin1", name := "compareToUTF16", desc := "([B[B)I" } : Jvm.MethodName) prog_36_method_16_code (4 : Nat) (Option.some Jvm.ClassFile.FieldType.int)) ∈ lw_all := lw_g (lw_at lw_m4 58 rfl) rfl
theorem q856 : (Jvm.Cond.methodLink "java/lang/StringLatin1" (54 : Nat) ({ cls := "java/lang/StringLatin1", name := "length", desc := "([B)I" } : Jvm.MethodName)) ∈ lw_all := lw_g (lw_at lw_m4 59 rfl) rfl
theorem q857 : (Jvm.Cond.static ({ cls := "java/lang/StringLatin1", name := "length", desc := "([B)I" } : Jvm.MethodName)) ∈ lw_all := lw_g (lw_at lw_m4 60 rfl) rfl
theorem q858 : (Jvm.Cond.code ({ cls := "java/lang/StringLatin1", name := "length", desc := "([B)I" } : Jvm.MethodName) prog_36_method_5_code (1 : Nat) (Option.some Jvm.ClassFile.FieldType.int)) ∈ lw_all := lw_g (lw_at lw_m4 61 rfl) rfl
theorem q859 : (Jvm.Cond.methodLink "java/lang/StringLatin1" (58 : Nat) ({ cls := "java/lang/StringUTF16", name := "length", desc := "([B)I" } : Jvm.MethodName)) ∈ lw_all := lw_g (lw_at lw_m4 62 rfl) rfl
theorem q860 : (Jvm.Cond.methodLink "java/lang/StringLatin1" (59 : Nat) ({ cls := "java/lang/StringLatin1", name := "compareToUTF16Values", desc := "([B[BII)I" } : Jvm.MethodName)) ∈ lw_all := lw_g (lw_at lw_m4 63 rfl) rfl
theorem q861 : (Jvm.Cond.static ({ cls := "java/lang/StringLatin1", name := "compareToUTF16Values", desc := "([B[BII)I" } : Jvm.MethodName)) ∈ lw_all := lw_g (lw_at lw_m4 64 rfl) rfl
theorem q862 : (Jvm.Cond.code ({ cls := "java/lang/StringLatin1", name := "compareToUTF16Values", desc := "([B[BII)I" } : Jvm.MethodName) prog_36_method_18_code (8 : Nat) (Option.some Jvm.ClassFile.FieldType.int)) ∈ lw_all := lw_g (lw_at lw_m4 65 rfl) rfl
theorem q863 : (Jvm.Cond.methodLink "java/lang/StringLatin1" (65 : Nat) ({ cls := "java/lang/StringUTF16", name := "getChar", desc := "([BI)C" } : Jvm.MethodName)) ∈ lw_all := lw_g (lw_at lw_m4 66 rfl) rfl
theorem q903 : (Jvm.Cond.static ({ cls := "java/lang/StringLatin1", name := "compareToUTF16", desc := "([B[BII)I" } : Jvm.MethodName)) ∈ lw_all := lw_g (lw_at lw_m4 106 rfl) rfl
theorem q904 : (Jvm.Cond.code ({ cls := "java/lang/StringLatin1", name := "compareToUTF16", desc := "([B[BII)I" } : Jvm.MethodName) prog_36_method_17_code (4 : Nat) (Option.some Jvm.ClassFile.FieldType.int)) ∈ lw_all := lw_g (lw_at lw_m4 107 rfl) rfl
theorem q905 : (Jvm.Cond.methodLink "java/lang/StringLatin1" (62 : Nat) ({ cls := "java/lang/String", name := "checkOffset", desc := "(II)V" } : Jvm.MethodName)) ∈ lw_all := lw_g (lw_at lw_m4 108 rfl) rfl
theorem q2717 : (Jvm.Cond.static ({ cls := "java/lang/StringLatin1", name := "canEncode", desc := "(C)Z" } : Jvm.MethodName)) ∈ lw_all := lw_g (lw_at lw_m12 0 rfl) rfl
theorem q2718 : (Jvm.Cond.code ({ cls := "java/lang/StringLatin1", name := "canEncode", desc := "(C)Z" } : Jvm.MethodName) prog_36_method_3_code (1 : Nat) (Option.some Jvm.ClassFile.FieldType.boolean)) ∈ lw_all := lw_g (lw_at lw_m12 1 rfl) rfl
theorem q2724 : (Jvm.Cond.static ({ cls := "java/lang/StringLatin1", name := "inflate", desc := "([BI[BII)V" } : Jvm.MethodName)) ∈ lw_all := lw_g (lw_at lw_m12 7 rfl) rfl
theorem q2725 : (Jvm.Cond.code ({ cls := "java/lang/StringLatin1", name := "inflate", desc := "([BI[BII)V" } : Jvm.MethodName) prog_36_method_50_code (5 : Nat) (Option.none : Option Jvm.ClassFile.FieldType)) ∈ lw_all := lw_g (lw_at lw_m12 8 rfl) rfl
theorem q2726 : (Jvm.Cond.methodLink "java/lang/StringLatin1" (240 : Nat) ({ cls := "java/lang/StringUTF16", name := "inflate", desc := "([BI[BII)V" } : Jvm.MethodName)) ∈ lw_all := lw_g (lw_at lw_m12 9 rfl) rfl
theorem q2965 : (Jvm.Cond.static ({ cls := "java/lang/StringLatin1", name := "fillNull", desc := "([BII)V" } : Jvm.MethodName)) ∈ lw_all := lw_g (lw_at lw_m13 8 rfl) rfl
theorem q2966 : (Jvm.Cond.code ({ cls := "java/lang/StringLatin1", name := "fillNull", desc := "([BII)V" } : Jvm.MethodName) prog_36_method_48_code (3 : Nat) (Option.none : Option Jvm.ClassFile.FieldType)) ∈ lw_all := lw_g (lw_at lw_m13 9 rfl) rfl
theorem q2967 : (Jvm.Cond.methodLink "java/lang/StringLatin1" (236 : Nat) ({ cls := "java/util/Arrays", name := "fill", desc := "([BIIB)V" } : Jvm.MethodName)) ∈ lw_all := lw_g (lw_at lw_m13 10 rfl) rfl
def RJ23 : String := "jdk/internal/util/ArraysSupport"
theorem q108 : (Jvm.Cond.initialized "jdk/internal/util/ArraysSupport") ∈ lw_all := lw_g (lw_at lw_m1 31 rfl) rfl
theorem q728 : (Jvm.Cond.static ({ cls := "jdk/internal/util/ArraysSupport", name := "mismatch", desc := "([B[BI)I" } : Jvm.MethodName)) ∈ lw_all := lw_g (lw_at lw_m3 171 rfl) rfl
theorem q729 : (Jvm.Cond.code ({ cls := "jdk/internal/util/ArraysSupport", name := "mismatch", desc := "([B[BI)I" } : Jvm.MethodName) prog_94_method_13_code (4 : Nat) (Option.some Jvm.ClassFile.FieldType.int)) ∈ lw_all := lw_g (lw_at lw_m3 172 rfl) rfl
theorem q730 : (Jvm.Cond.fieldLink "jdk/internal/util/ArraysSupport" (126 : Nat) "jdk/internal/misc/Unsafe" "ARRAY_BYTE_BASE_OFFSET" "I") ∈ lw_all := lw_g (lw_at lw_m3 173 rfl) rfl
theorem q732 : (Jvm.Cond.fieldLink "jdk/internal/util/ArraysSupport" (129 : Nat) "jdk/internal/util/ArraysSupport" "LOG2_ARRAY_BYTE_INDEX_SCALE" "I") ∈ lw_all := lw_g (lw_at lw_m3 175 rfl) rfl
theorem q733 : (Jvm.Cond.laysStatic "jdk/internal/util/ArraysSupport" "LOG2_ARRAY_BYTE_INDEX_SCALE" "I") ∈ lw_tbl := lw_at lw_m3 176 rfl
theorem q734 : (Jvm.Cond.methodLink "jdk/internal/util/ArraysSupport" (122 : Nat) ({ cls := "jdk/internal/util/ArraysSupport", name := "vectorizedMismatch", desc := "(Ljava/lang/Object;JLjava/lang/Object;JII)I" } : Jvm.MethodName)) ∈ lw_all := lw_g (lw_at lw_m3 177 rfl) rfl
theorem q735 : (Jvm.Cond.static ({ cls := "jdk/internal/util/ArraysSupport", name := "vectorizedMismatch", desc := "(Ljava/lang/Object;JLjava/lang/Object;JII)I" } : Jvm.MethodName)) ∈ lw_all := lw_g (lw_at lw_m3 178 rfl) rfl
theorem q736 : (Jvm.Cond.code ({ cls := "jdk/internal/util/ArraysSupport", name := "vectorizedMismatch", desc := "(Ljava/lang/Object;JLjava/lang/Object;JII)I" } : Jvm.MethodName) prog_94_method_3_code (19 : Nat) (Option.some Jvm.ClassFile.FieldType.int)) ∈ lw_all := lw_g (lw_at lw_m3 179 rfl) rfl
theorem q737 : (Jvm.Cond.fieldLink "jdk/internal/util/ArraysSupport" (20 : Nat) "jdk/internal/util/ArraysSupport" "LOG2_ARRAY_LONG_INDEX_SCALE" "I") ∈ lw_all := lw_g (lw_at lw_m3 180 rfl) rfl
theorem q738 : (Jvm.Cond.laysStatic "jdk/internal/util/ArraysSupport" "LOG2_ARRAY_LONG_INDEX_SCALE" "I") ∈ lw_tbl := lw_at lw_m3 181 rfl
theorem q739 : (Jvm.Cond.fieldLink "jdk/internal/util/ArraysSupport" (26 : Nat) "jdk/internal/util/ArraysSupport" "U" "Ljdk/internal/misc/Unsafe;") ∈ lw_all := lw_g (lw_at lw_m3 182 rfl) rfl
theorem q740 : (Jvm.Cond.laysStatic "jdk/internal/util/ArraysSupport" "U" "Ljdk/internal/misc/Unsafe;") ∈ lw_tbl := lw_at lw_m3 183 rfl
theorem q741 : (Jvm.Cond.methodLink "jdk/internal/util/ArraysSupport" (30 : Nat) ({ cls := "jdk/internal/misc/Unsafe", name := "getLongUnaligned", desc := "(Ljava/lang/Object;J)J" } : Jvm.MethodName)) ∈ lw_all := lw_g (lw_at lw_m3 184 rfl) rfl
theorem q793 : (Jvm.Cond.fieldLink "jdk/internal/util/ArraysSupport" (36 : Nat) "jdk/internal/util/ArraysSupport" "BIG_ENDIAN" "Z") ∈ lw_all := lw_g (lw_at lw_m3 236 rfl) rfl
theorem q794 : (Jvm.Cond.laysStatic "jdk/internal/util/ArraysSupport" "BIG_ENDIAN" "Z") ∈ lw_tbl := lw_at lw_m3 237 rfl
theorem q795 : (Jvm.Cond.methodLink "jdk/internal/util/ArraysSupport" (40 : Nat) ({ cls := "java/lang/Long", name := "numberOfLeadingZeros", desc := "(J)I" } : Jvm.MethodName)) ∈ lw_all := lw_g (lw_at lw_m3 238 rfl) rfl
theorem q802 : (Jvm.Cond.fieldLink "jdk/internal/util/ArraysSupport" (46 : Nat) "jdk/internal/util/ArraysSupport" "LOG2_BYTE_BIT_SIZE" "I") ∈ lw_all := lw_g (lw_at lw_m4 5 rfl) rfl
theorem q803 : (Jvm.Cond.laysStatic "jdk/internal/util/ArraysSupport" "LOG2_BYTE_BIT_SIZE" "I") ∈ lw_tbl := lw_at lw_m4 6 rfl
theorem q804 : (Jvm.Cond.methodLink "jdk/internal/util/ArraysSupport" (49 : Nat) ({ cls := "java/lang/Long", name := "numberOfTrailingZeros", desc := "(J)I" } : Jvm.MethodName)) ∈ lw_all := lw_g (lw_at lw_m4 7 rfl) rfl
theorem q810 : (Jvm.Cond.fieldLink "jdk/internal/util/ArraysSupport" (51 : Nat) "jdk/internal/util/ArraysSupport" "LOG2_ARRAY_INT_INDEX_SCALE" "I") ∈ lw_all := lw_g (lw_at lw_m4 13 rfl) rfl
theorem q811 : (Jvm.Cond.laysStatic "jdk/internal/util/ArraysSupport" "LOG2_ARRAY_INT_INDEX_SCALE" "I") ∈ lw_tbl := lw_at lw_m4 14 rfl
theorem q812 : (Jvm.Cond.methodLink "jdk/internal/util/ArraysSupport" (54 : Nat) ({ cls := "jdk/internal/misc/Unsafe", name := "getIntUnaligned", desc := "(Ljava/lang/Object;J)I" } : Jvm.MethodName)) ∈ lw_all := lw_g (lw_at lw_m4 15 rfl) rfl
theorem q829 : (Jvm.Cond.methodLink "jdk/internal/util/ArraysSupport" (58 : Nat) ({ cls := "java/lang/Integer", name := "numberOfLeadingZeros", desc := "(I)I" } : Jvm.MethodName)) ∈ lw_all := lw_g (lw_at lw_m4 32 rfl) rfl
theorem q830 : (Jvm.Cond.methodLink "jdk/internal/util/ArraysSupport" (11 : Nat) ({ cls := "java/lang/Integer", name := "numberOfTrailingZeros", desc := "(I)I" } : Jvm.MethodName)) ∈ lw_all := lw_g (lw_at lw_m4 33 rfl) rfl
theorem q2451 : (Jvm.Cond.static ({ cls := "jdk/internal/util/ArraysSupport", name := "newLength", desc := "(III)I" } : Jvm.MethodName)) ∈ lw_all := lw_g (lw_at lw_m10 214 rfl) rfl
theorem q2452 : (Jvm.Cond.code ({ cls := "jdk/internal/util/ArraysSupport", name := "newLength", desc := "(III)I" } : Jvm.MethodName) prog_94_method_27_code (4 : Nat) (Option.some Jvm.ClassFile.FieldType.int)) ∈ lw_all := lw_g (lw_at lw_m10 215 rfl) rfl
theorem q2453 : (Jvm.Cond.methodLink "jdk/internal/util/ArraysSupport" (194 : Nat) ({ cls := "java/lang/Math", name := "max", desc := "(II)I" } : Jvm.MethodName)) ∈ lw_all := lw_g (lw_at lw_m10 216 rfl) rfl
theorem q2456 : (Jvm.Cond.constant "jdk/internal/util/ArraysSupport" (200 : Nat) (2147483639 : Int32)) ∈ lw_all := lw_g (lw_at lw_m10 219 rfl) rfl
theorem q2457 : (Jvm.Cond.methodLink "jdk/internal/util/ArraysSupport" (201 : Nat) ({ cls := "jdk/internal/util/ArraysSupport", name := "hugeLength", desc := "(II)I" } : Jvm.MethodName)) ∈ lw_all := lw_g (lw_at lw_m10 220 rfl) rfl
theorem q2458 : (Jvm.Cond.static ({ cls := "jdk/internal/util/ArraysSupport", name := "hugeLength", desc := "(II)I" } : Jvm.MethodName)) ∈ lw_all := lw_g (lw_at lw_m10 221 rfl) rfl
theorem q2459 : (Jvm.Cond.code ({ cls := "jdk/internal/util/ArraysSupport", name := "hugeLength", desc := "(II)I" } : Jvm.MethodName) prog_94_method_28_code (3 : Nat) (Option.some Jvm.ClassFile.FieldType.int)) ∈ lw_all := lw_g (lw_at lw_m10 222 rfl) rfl
def RJ24 : String := "jdk/internal/misc/Unsafe"
theorem q109 : (Jvm.Cond.initialized "jdk/internal/misc/Unsafe") ∈ lw_all := lw_g (lw_at lw_m1 32 rfl) rfl
theorem q556 : (Jvm.Cond.selects "jdk/internal/misc/Unsafe" ({ cls := "java/lang/Object", name := "getClass", desc := "()Ljava/lang/Class;" } : Jvm.MethodName) ({ cls := "java/lang/Object", name := "getClass", desc := "()Ljava/lang/Class;" } : Jvm.MethodName)) ∈ lw_all := lw_g (lw_at lw_m2 239 rfl) rfl
theorem q731 : (Jvm.Cond.laysStatic "jdk/internal/misc/Unsafe" "ARRAY_BYTE_BASE_OFFSET" "I") ∈ lw_tbl := lw_at lw_m3 174 rfl
theorem q742 : (Jvm.Cond.instanceMethod ({ cls := "jdk/internal/misc/Unsafe", name := "getLongUnaligned", desc := "(Ljava/lang/Object;J)J" } : Jvm.MethodName)) ∈ lw_all := lw_g (lw_at lw_m3 185 rfl) rfl
theorem q743 : (Jvm.Cond.selects "jdk/internal/misc/Unsafe" ({ cls := "jdk/internal/misc/Unsafe", name := "getLongUnaligned", desc := "(Ljava/lang/Object;J)J" } : Jvm.MethodName) ({ cls := "jdk/internal/misc/Unsafe", name := "getLongUnaligned", desc := "(Ljava/lang/Object;J)J" } : Jvm.MethodName)) ∈ lw_all := lw_g (lw_at lw_m3 186 rfl) rfl
theorem q744 : (Jvm.Cond.code ({ cls := "jdk/internal/misc/Unsafe", name := "getLongUnaligned", desc := "(Ljava/lang/Object;J)J" } : Jvm.MethodName) prog_92_method_334_code (4 : Nat) (Option.some Jvm.ClassFile.FieldType.long)) ∈ lw_all := lw_g (lw_at lw_m3 187 rfl) rfl
theorem q745 : (Jvm.Cond.constantLong "jdk/internal/misc/Unsafe" (696 : Nat) (7 : Int64)) ∈ lw_all := lw_g (lw_at lw_m3 188 rfl) rfl
theorem q746 : (Jvm.Cond.methodLink "jdk/internal/misc/Unsafe" (27 : Nat) ({ cls := "jdk/internal/misc/Unsafe", name := "getLong", desc := "(Ljava/lang/Object;J)J" } : Jvm.MethodName)) ∈ lw_all := lw_g (lw_at lw_m3 189 rfl) rfl
theorem q747 : (Jvm.Cond.instanceMethod ({ cls := "jdk/internal/misc/Unsafe", name := "getLong", desc := "(Ljava/lang/Object;J)J" } : Jvm.MethodName)) ∈ lw_all := lw_g (lw_at lw_m3 190 rfl) rfl
theorem q748 : (Jvm.Cond.selects "jdk/internal/misc/Unsafe" ({ cls := "jdk/internal/misc/Unsafe", name := "getLong", desc := "(Ljava/lang/Object;J)J" } : Jvm.MethodName) ({ cls := "jdk/internal/misc/Unsafe", name := "getLong", desc := "(Ljava/lang/Object;J)J" } : Jvm.MethodName)) ∈ lw_all := lw_g (lw_at lw_m3 191 rfl) rfl
theorem q749 : (Jvm.Cond.native ({ cls := "jdk/internal/misc/Unsafe", name := "getLong", desc := "(Ljava/lang/Object;J)J" } : Jvm.MethodName)) ∈ lw_all := lw_g (lw_at lw_m3 192 rfl) rfl
theorem q750 : (Jvm.Cond.constantLong "jdk/internal/misc/Unsafe" (349 : Nat) (3 : Int64)) ∈ lw_all := lw_g (lw_at lw_m3 193 rfl) rfl
theorem q751 : (Jvm.Cond.methodLink "jdk/internal/misc/Unsafe" (17 : Nat) ({ cls := "jdk/internal/misc/Unsafe", name := "getInt", desc := "(Ljava/lang/Object;J)I" } : Jvm.MethodName)) ∈ lw_all := lw_g (lw_at lw_m3 194 rfl) rfl
theorem q752 : (Jvm.Cond.instanceMethod ({ cls := "jdk/internal/misc/Unsafe", name := "getInt", desc := "(Ljava/lang/Object;J)I" } : Jvm.MethodName)) ∈ lw_all := lw_g (lw_at lw_m3 195 rfl) rfl
theorem q753 : (Jvm.Cond.selects "jdk/internal/misc/Unsafe" ({ cls := "jdk/internal/misc/Unsafe", name := "getInt", desc := "(Ljava/lang/Object;J)I" } : Jvm.MethodName) ({ cls := "jdk/internal/misc/Unsafe", name := "getInt", desc := "(Ljava/lang/Object;J)I" } : Jvm.MethodName)) ∈ lw_all := lw_g (lw_at lw_m3 196 rfl) rfl
theorem q754 : (Jvm.Cond.native ({ cls := "jdk/internal/misc/Unsafe", name := "getInt", desc := "(Ljava/lang/Object;J)I" } : Jvm.MethodName)) ∈ lw_all := lw_g (lw_at lw_m3 197 rfl) rfl
theorem q755 : (Jvm.Cond.constantLong "jdk/internal/misc/Unsafe" (205 : Nat) (4 : Int64)) ∈ lw_all := lw_g (lw_at lw_m3 198 rfl) rfl
theorem q756 : (Jvm.Cond.methodLink "jdk/internal/misc/Unsafe" (698 : Nat) ({ cls := "jdk/internal/misc/Unsafe", name := "makeLong", desc := "(II)J" } : Jvm.MethodName)) ∈ lw_all := lw_g (lw_at lw_m3 199 rfl) rfl
theorem q757 : (Jvm.Cond.static ({ cls := "jdk/internal/misc/Unsafe", name := "makeLong", desc := "(II)J" } : Jvm.MethodName)) ∈ lw_all := lw_g (lw_at lw_m3 200 rfl) rfl
theorem q758 : (Jvm.Cond.code ({ cls := "jdk/internal/misc/Unsafe", name := "makeLong", desc := "(II)J" } : Jvm.MethodName) prog_92_method_353_code (2 : Nat) (Option.some Jvm.ClassFile.FieldType.long)) ∈ lw_all := lw_g (lw_at lw_m3 201 rfl) rfl
theorem q759 : (Jvm.Cond.methodLink "jdk/internal/misc/Unsafe" (791 : Nat) ({ cls := "jdk/internal/misc/Unsafe", name := "toUnsignedLong", desc := "(I)J" } : Jvm.MethodName)) ∈ lw_all := lw_g (lw_at lw_m3 202 rfl) rfl
theorem q760 : (Jvm.Cond.static ({ cls := "jdk/internal/misc/Unsafe", name := "toUnsignedLong", desc := "(I)J" } : Jvm.MethodName)) ∈ lw_all := lw_g (lw_at lw_m3 203 rfl) rfl
theorem q761 : (Jvm.Cond.code ({ cls := "jdk/internal/misc/Unsafe", name := "toUnsignedLong", desc := "(I)J" } : Jvm.MethodName) prog_92_method_370_code (1 : Nat) (Option.some Jvm.ClassFile.FieldType.long)) ∈ lw_all := lw_g (lw_at lw_m3 204 rfl) rfl
theorem q762 : (Jvm.Cond.constantLong "jdk/internal/misc/Unsafe" (812 : Nat) (4294967295 : Int64)) ∈ lw_all := lw_g (lw_at lw_m3 205 rfl) rfl
theorem q763 : (Jvm.Cond.methodLink "jdk/internal/misc/Unsafe" (784 : Nat) ({ cls := "jdk/internal/misc/Unsafe", name := "pickPos", desc := "(II)I" } : Jvm.MethodName)) ∈ lw_all := lw_g (lw_at lw_m3 206 rfl) rfl
theorem q764 : (Jvm.Cond.static ({ cls := "jdk/internal/misc/Unsafe", name := "pickPos", desc := "(II)I" } : Jvm.MethodName)) ∈ lw_all := lw_g (lw_at lw_m3 207 rfl) rfl
theorem q765 : (Jvm.Cond.code ({ cls := "jdk/internal/misc/Unsafe", name := "pickPos", desc := "(II)I" } : Jvm.MethodName) prog_92_method_350_code (2 : Nat) (Option.some Jvm.ClassFile.FieldType.int)) ∈ lw_all := lw_g (lw_at lw_m3 208 rfl) rfl
theorem q766 : (Jvm.Cond.fieldLink "jdk/internal/misc/Unsafe" (351 : Nat) "jdk/internal/misc/UnsafeConstants" "BIG_ENDIAN" "Z") ∈ lw_all := lw_g (lw_at lw_m3 209 rfl) rfl
theorem q768 : (Jvm.Cond.methodLink "jdk/internal/misc/Unsafe" (47 : Nat) ({ cls := "jdk/internal/misc/Unsafe", name := "getShort", desc := "(Ljava/lang/Object;J)S" } : Jvm.MethodName)) ∈ lw_all := lw_g (lw_at lw_m3 211 rfl) rfl
theorem q769 : (Jvm.Cond.instanceMethod ({ cls := "jdk/internal/misc/Unsafe", name := "getShort", desc := "(Ljava/lang/Object;J)S" } : Jvm.MethodName)) ∈ lw_all := lw_g (lw_at lw_m3 212 rfl) rfl
theorem q770 : (Jvm.Cond.selects "jdk/internal/misc/Unsafe" ({ cls := "jdk/internal/misc/Unsafe", name := "getShort", desc := "(Ljava/lang/Object;J)S" } : Jvm.MethodName) ({ cls := "jdk/internal/misc/Unsafe", name := "getShort", desc := "(Ljava/lang/Object;J)S" } : Jvm.MethodName)) ∈ lw_all := lw_g (lw_at lw_m3 213 rfl) rfl
theorem q771 : (Jvm.Cond.native ({ cls := "jdk/internal/misc/Unsafe", name := "getShort", desc := "(Ljava/lang/Object;J)S" } : Jvm.MethodName)) ∈ lw_all := lw_g (lw_at lw_m3 214 rfl) rfl
theorem q772 : (Jvm.Cond.constantLong "jdk/internal/misc/Unsafe" (203 : Nat) (2 : Int64)) ∈ lw_all := lw_g (lw_at lw_m3 215 rfl) rfl
theorem q773 : (Jvm.Cond.constantLong "jdk/internal/misc/Unsafe" (702 : Nat) (6 : Int64)) ∈ lw_all := lw_g (lw_at lw_m3 216 rfl) rfl
theorem q774 : (Jvm.Cond.methodLink "jdk/internal/misc/Unsafe" (704 : Nat) ({ cls := "jdk/internal/misc/Unsafe", name := "makeLong", desc := "(SSSS)J" } : Jvm.MethodName)) ∈ lw_all := lw_g (lw_at lw_m3 217 rfl) rfl
theorem q775 : (Jvm.Cond.static ({ cls := "jdk/internal/misc/Unsafe", name := "makeLong", desc := "(SSSS)J" } : Jvm.MethodName)) ∈ lw_all := lw_g (lw_at lw_m3 218 rfl) rfl
theorem q776 : (Jvm.Cond.code ({ cls := "jdk/internal/misc/Unsafe", name := "makeLong", desc := "(SSSS)J" } : Jvm.MethodName) prog_92_method_352_code (4 : Nat) (Option.some Jvm.ClassFile.FieldType.long)) ∈ lw_all := lw_g (lw_at lw_m3 219 rfl) rfl
theorem q777 : (Jvm.Cond.methodLink "jdk/internal/misc/Unsafe" (788 : Nat) ({ cls := "jdk/internal/misc/Unsafe", name := "toUnsignedLong", desc := "(S)J" } : Jvm.MethodName)) ∈ lw_all := lw_g (lw_at lw_m3 220 rfl) rfl
theorem q778 : (Jvm.Cond.static ({ cls := "jdk/internal/misc/Unsafe", name := "toUnsignedLong", desc := "(S)J" } : Jvm.MethodName)) ∈ lw_all := lw_g (lw_at lw_m3 221 rfl) rfl
theorem q779 : (Jvm.Cond.code ({ cls := "jdk/internal/misc/Unsafe", name := "toUnsignedLong", desc := "(S)J" } : Jvm.MethodName) prog_92_method_369_code (1 : Nat) (Option.some Jvm.ClassFile.FieldType.long)) ∈ lw_all := lw_g (lw_at lw_m3 222 rfl) rfl
theorem q780 : (Jvm.Cond.constantLong "jdk/internal/misc/Unsafe" (810 : Nat) (65535 : Int64)) ∈ lw_all := lw_g (lw_at lw_m3 223 rfl) rfl
theorem q781 : (Jvm.Cond.methodLink "jdk/internal/misc/Unsafe" (39 : Nat) ({ cls := "jdk/internal/misc/Unsafe", name := "getByte", desc := "(Ljava/lang/Object;J)B" } : Jvm.MethodName)) ∈ lw_all := lw_g (lw_at lw_m3 224 rfl) rfl
theorem q782 : (Jvm.Cond.instanceMethod ({ cls := "jdk/internal/misc/Unsafe", name := "getByte", desc := "(Ljava/lang/Object;J)B" } : Jvm.MethodName)) ∈ lw_all := lw_g (lw_at lw_m3 225 rfl) rfl
theorem q783 : (Jvm.Cond.selects "jdk/internal/misc/Unsafe" ({ cls := "jdk/internal/misc/Unsafe", name := "getByte", desc := "(Ljava/lang/Object;J)B" } : Jvm.MethodName) ({ cls := "jdk/internal/misc/Unsafe", name := "getByte", desc := "(Ljava/lang/Object;J)B" } : Jvm.MethodName)) ∈ lw_all := lw_g (lw_at lw_m3 226 rfl) rfl
theorem q784 : (Jvm.Cond.native ({ cls := "jdk/internal/misc/Unsafe", name := "getByte", desc := "(Ljava/lang/Object;J)B" } : Jvm.MethodName)) ∈ lw_all := lw_g (lw_at lw_m3 227 rfl) rfl
theorem q785 : (Jvm.Cond.constantLong "jdk/internal/misc/Unsafe" (707 : Nat) (5 : Int64)) ∈ lw_all := lw_g (lw_at lw_m3 228 rfl) rfl
theorem q786 : (Jvm.Cond.methodLink "jdk/internal/misc/Unsafe" (709 : Nat) ({ cls := "jdk/internal/misc/Unsafe", name := "makeLong", desc := "(BBBBBBBB)J" } : Jvm.MethodName)) ∈ lw_all := lw_g (lw_at lw_m3 229 rfl) rfl
theorem q787 : (Jvm.Cond.static ({ cls := "jdk/internal/misc/Unsafe", name := "makeLong", desc := "(BBBBBBBB)J" } : Jvm.MethodName)) ∈ lw_all := lw_g (lw_at lw_m3 230 rfl) rfl
theorem q788 : (Jvm.Cond.code ({ cls := "jdk/internal/misc/Unsafe", name := "makeLong", desc := "(BBBBBBBB)J" } : Jvm.MethodName) prog_92_method_351_code (8 : Nat) (Option.some Jvm.ClassFile.FieldType.long)) ∈ lw_all := lw_g (lw_at lw_m3 231 rfl) rfl
theorem q789 : (Jvm.Cond.methodLink "jdk/internal/misc/Unsafe" (781 : Nat) ({ cls := "jdk/internal/misc/Unsafe", name := "toUnsignedLong", desc := "(B)J" } : Jvm.MethodName)) ∈ lw_all := lw_g (lw_at lw_m3 232 rfl) rfl
theorem q790 : (Jvm.Cond.static ({ cls := "jdk/internal/misc/Unsafe", name := "toUnsignedLong", desc := "(B)J" } : Jvm.MethodName)) ∈ lw_all := lw_g (lw_at lw_m3 233 rfl) rfl
theorem q791 : (Jvm.Cond.code ({ cls := "jdk/internal/misc/Unsafe", name := "toUnsignedLong", desc := "(B)J" } : Jvm.MethodName) prog_92_method_368_code (1 : Nat) (Option.some Jvm.ClassFile.FieldType.long)) ∈ lw_all := lw_g (lw_at lw_m3 234 rfl) rfl
theorem q792 : (Jvm.Cond.constantLong "jdk/internal/misc/Unsafe" (808 : Nat) (255 : Int64)) ∈ lw_all := lw_g (lw_at lw_m3 235 rfl) rfl
theorem q813 : (Jvm.Cond.instanceMethod ({ cls := "jdk/internal/misc/Unsafe", name := "getIntUnaligned", desc := "(Ljava/lang/Object;J)I" } : Jvm.MethodName)) ∈ lw_all := lw_g (lw_at lw_m4 16 rfl) rfl
theorem q814 : (Jvm.Cond.selects "jdk/internal/misc/Unsafe" ({ cls := "jdk/internal/misc/Unsafe", name := "getIntUnaligned", desc := "(Ljava/lang/Object;J)I" } : Jvm.MethodName) ({ cls := "jdk/internal/misc/Unsafe", name := "getIntUnaligned", desc := "(Ljava/lang/Object;J)I" } : Jvm.MethodName)) ∈ lw_all := lw_g (lw_at lw_m4 17 rfl) rfl
theorem q815 : (Jvm.Cond.code ({ cls := "jdk/internal/misc/Unsafe", name := "getIntUnaligned", desc := "(Ljava/lang/Object;J)I" } : Jvm.MethodName) prog_92_method_336_code (4 : Nat) (Option.some Jvm.ClassFile.FieldType.int)) ∈ lw_all := lw_g (lw_at lw_m4 18 rfl) rfl
theorem q816 : (Jvm.Cond.methodLink "jdk/internal/misc/Unsafe" (719 : Nat) ({ cls := "jdk/internal/misc/Unsafe", name := "makeInt", desc := "(SS)I" } : Jvm.MethodName)) ∈ lw_all := lw_g (lw_at lw_m4 19 rfl) rfl
theorem q817 : (Jvm.Cond.static ({ cls := "jdk/internal/misc/Unsafe", name := "makeInt", desc := "(SS)I" } : Jvm.MethodName)) ∈ lw_all := lw_g (lw_at lw_m4 20 rfl) rfl
theorem q818 : (Jvm.Cond.code ({ cls := "jdk/internal/misc/Unsafe", name := "makeInt", desc := "(SS)I" } : Jvm.MethodName) prog_92_method_354_code (2 : Nat) (Option.some Jvm.ClassFile.FieldType.int)) ∈ lw_all := lw_g (lw_at lw_m4 21 rfl) rfl
theorem q819 : (Jvm.Cond.methodLink "jdk/internal/misc/Unsafe" (792 : Nat) ({ cls := "jdk/internal/misc/Unsafe", name := "toUnsignedInt", desc := "(S)I" } : Jvm.MethodName)) ∈ lw_all := lw_g (lw_at lw_m4 22 rfl) rfl
theorem q820 : (Jvm.Cond.static ({ cls := "jdk/internal/misc/Unsafe", name := "toUnsignedInt", desc := "(S)I" } : Jvm.MethodName)) ∈ lw_all := lw_g (lw_at lw_m4 23 rfl) rfl
theorem q821 : (Jvm.Cond.code ({ cls := "jdk/internal/misc/Unsafe", name := "toUnsignedInt", desc := "(S)I" } : Jvm.MethodName) prog_92_method_367_code (1 : Nat) (Option.some Jvm.ClassFile.FieldType.int)) ∈ lw_all := lw_g (lw_at lw_m4 24 rfl) rfl
theorem q822 : (Jvm.Cond.constant "jdk/internal/misc/Unsafe" (374 : Nat) (65535 : Int32)) ∈ lw_all := lw_g (lw_at lw_m4 25 rfl) rfl
theorem q823 : (Jvm.Cond.methodLink "jdk/internal/misc/Unsafe" (723 : Nat) ({ cls := "jdk/internal/misc/Unsafe", name := "makeInt", desc := "(BBBB)I" } : Jvm.MethodName)) ∈ lw_all := lw_g (lw_at lw_m4 26 rfl) rfl
theorem q824 : (Jvm.Cond.static ({ cls := "jdk/internal/misc/Unsafe", name := "makeInt", desc := "(BBBB)I" } : Jvm.MethodName)) ∈ lw_all := lw_g (lw_at lw_m4 27 rfl) rfl
theorem q825 : (Jvm.Cond.code ({ cls := "jdk/internal/misc/Unsafe", name := "makeInt", desc := "(BBBB)I" } : Jvm.MethodName) prog_92_method_355_code (4 : Nat) (Option.some Jvm.ClassFile.FieldType.int)) ∈ lw_all := lw_g (lw_at lw_m4 28 rfl) rfl
theorem q826 : (Jvm.Cond.methodLink "jdk/internal/misc/Unsafe" (796 : Nat) ({ cls := "jdk/internal/misc/Unsafe", name := "toUnsignedInt", desc := "(B)I" } : Jvm.MethodName)) ∈ lw_all := lw_g (lw_at lw_m4 29 rfl) rfl
theorem q827 : (Jvm.Cond.static ({ cls := "jdk/internal/misc/Unsafe", name := "toUnsignedInt", desc := "(B)I" } : Jvm.MethodName)) ∈ lw_all := lw_g (lw_at lw_m4 30 rfl) rfl
theorem q828 : (Jvm.Cond.code ({ cls := "jdk/internal/misc/Unsafe", name := "toUnsignedInt", desc := "(B)I" } : Jvm.MethodName) prog_92_method_366_code (1 : Nat) (Option.some Jvm.ClassFile.FieldType.int)) ∈ lw_all := lw_g (lw_at lw_m4 31 rfl) rfl
theorem q3552 : (Jvm.Cond.castable "jdk/internal/misc/Unsafe" "java/lang/Object") ∈ lw_tbl := lw_at lw_m15 115 rfl
def RJ25 : String := "java/lang/Long"
theorem q112 : (Jvm.Cond.initialized "java/lang/Long") ∈ lw_all := lw_g (lw_at lw_m1 35 rfl) rfl
theorem q796 : (Jvm.Cond.static ({ cls := "java/lang/Long", name := "numberOfLeadingZeros", desc := "(J)I" } : Jvm.MethodName)) ∈ lw_all := lw_g (lw_at lw_m3 239 rfl) rfl
theorem q797 : (Jvm.Cond.code ({ cls := "java/lang/Long", name := "numberOfLeadingZeros", desc := "(J)I" } : Jvm.MethodName) prog_29_method_48_code (3 : Nat) (Option.some Jvm.ClassFile.FieldType.int)) ∈ lw_all := lw_g (lw_at lw_m4 0 rfl) rfl
theorem q798 : (Jvm.Cond.methodLink "java/lang/Long" (308 : Nat) ({ cls := "java/lang/Integer", name := "numberOfLeadingZeros", desc := "(I)I" } : Jvm.MethodName)) ∈ lw_all := lw_g (lw_at lw_m4 1 rfl) rfl
theorem q805 : (Jvm.Cond.static ({ cls := "java/lang/Long", name := "numberOfTrailingZeros", desc := "(J)I" } : Jvm.MethodName)) ∈ lw_all := lw_g (lw_at lw_m4 8 rfl) rfl
theorem q806 : (Jvm.Cond.code ({ cls := "java/lang/Long", name := "numberOfTrailingZeros", desc := "(J)I" } : Jvm.MethodName) prog_29_method_49_code (3 : Nat) (Option.some Jvm.ClassFile.FieldType.int)) ∈ lw_all := lw_g (lw_at lw_m4 9 rfl) rfl
theorem q807 : (Jvm.Cond.methodLink "java/lang/Long" (311 : Nat) ({ cls := "java/lang/Integer", name := "numberOfTrailingZeros", desc := "(I)I" } : Jvm.MethodName)) ∈ lw_all := lw_g (lw_at lw_m4 10 rfl) rfl
def RJ26 : String := "java/lang/Integer"
theorem q113 : (Jvm.Cond.initialized "java/lang/Integer") ∈ lw_all := lw_g (lw_at lw_m1 36 rfl) rfl
theorem q799 : (Jvm.Cond.static ({ cls := "java/lang/Integer", name := "numberOfLeadingZeros", desc := "(I)I" } : Jvm.MethodName)) ∈ lw_all := lw_g (lw_at lw_m4 2 rfl) rfl
theorem q800 : (Jvm.Cond.code ({ cls := "java/lang/Integer", name := "numberOfLeadingZeros", desc := "(I)I" } : Jvm.MethodName) prog_27_method_47_code (2 : Nat) (Option.some Jvm.ClassFile.FieldType.int)) ∈ lw_all := lw_g (lw_at lw_m4 3 rfl) rfl
theorem q801 : (Jvm.Cond.constant "java/lang/Integer" (264 : Nat) (65536 : Int32)) ∈ lw_all := lw_g (lw_at lw_m4 4 rfl) rfl
theorem q808 : (Jvm.Cond.static ({ cls := "java/lang/Integer", name := "numberOfTrailingZeros", desc := "(I)I" } : Jvm.MethodName)) ∈ lw_all := lw_g (lw_at lw_m4 11 rfl) rfl
theorem q809 : (Jvm.Cond.code ({ cls := "java/lang/Integer", name := "numberOfTrailingZeros", desc := "(I)I" } : Jvm.MethodName) prog_27_method_48_code (2 : Nat) (Option.some Jvm.ClassFile.FieldType.int)) ∈ lw_all := lw_g (lw_at lw_m4 12 rfl) rfl
theorem q2886 : (Jvm.Cond.static ({ cls := "java/lang/Integer", name := "stringSize", desc := "(I)I" } : Jvm.MethodName)) ∈ lw_all := lw_g (lw_at lw_m12 169 rfl) rfl
theorem q2887 : (Jvm.Cond.code ({ cls := "java/lang/Integer", name := "stringSize", desc := "(I)I" } : Jvm.MethodName) prog_27_method_13_code (4 : Nat) (Option.some Jvm.ClassFile.FieldType.int)) ∈ lw_all := lw_g (lw_at lw_m12 170 rfl) rfl
theorem q2889 : (Jvm.Cond.static ({ cls := "java/lang/Integer", name := "getChars", desc := "(II[B)I" } : Jvm.MethodName)) ∈ lw_all := lw_g (lw_at lw_m12 172 rfl) rfl
theorem q2890 : (Jvm.Cond.code ({ cls := "java/lang/Integer", name := "getChars", desc := "(II[B)I" } : Jvm.MethodName) prog_27_method_12_code (7 : Nat) (Option.some Jvm.ClassFile.FieldType.int)) ∈ lw_all := lw_g (lw_at lw_m12 173 rfl) rfl
theorem q2891 : (Jvm.Cond.fieldLink "java/lang/Integer" (83 : Nat) "java/lang/Integer" "DigitOnes" "[B") ∈ lw_all := lw_g (lw_at lw_m12 174 rfl) rfl
theorem q2892 : (Jvm.Cond.laysStatic "java/lang/Integer" "DigitOnes" "[B") ∈ lw_tbl := lw_at lw_m12 175 rfl
theorem q2893 : (Jvm.Cond.fieldLink "java/lang/Integer" (87 : Nat) "java/lang/Integer" "DigitTens" "[B") ∈ lw_all := lw_g (lw_at lw_m12 176 rfl) rfl
theorem q2894 : (Jvm.Cond.laysStatic "java/lang/Integer" "DigitTens" "[B") ∈ lw_tbl := lw_at lw_m12 177 rfl
def RJ27 : String := "jdk/internal/util/Preconditions"
theorem q114 : (Jvm.Cond.initialized "jdk/internal/util/Preconditions") ∈ lw_all := lw_g (lw_at lw_m1 37 rfl) rfl
theorem q898 : (Jvm.Cond.laysStatic "jdk/internal/util/Preconditions" "SIOOBE_FORMATTER" "Ljava/util/function/BiFunction;") ∈ lw_tbl := lw_at lw_m4 101 rfl
theorem q900 : (Jvm.Cond.static ({ cls := "jdk/internal/util/Preconditions", name := "checkFromToIndex", desc := "(IIILjava/util/function/BiFunction;)I" } : Jvm.MethodName)) ∈ lw_all := lw_g (lw_at lw_m4 103 rfl) rfl
theorem q901 : (Jvm.Cond.code ({ cls := "jdk/internal/util/Preconditions", name := "checkFromToIndex", desc := "(IIILjava/util/function/BiFunction;)I" } : Jvm.MethodName) prog_95_method_12_code (4 : Nat) (Option.some Jvm.ClassFile.FieldType.int)) ∈ lw_all := lw_g (lw_at lw_m4 104 rfl) rfl
theorem q2736 : (Jvm.Cond.static ({ cls := "jdk/internal/util/Preconditions", name := "checkFromIndexSize", desc := "(IIILjava/util/function/BiFunction;)I" } : Jvm.MethodName)) ∈ lw_all := lw_g (lw_at lw_m12 19 rfl) rfl
theorem q2737 : (Jvm.Cond.code ({ cls := "jdk/internal/util/Preconditions", name := "checkFromIndexSize", desc := "(IIILjava/util/function/BiFunction;)I" } : Jvm.MethodName) prog_95_method_13_code (4 : Nat) (Option.some Jvm.ClassFile.FieldType.int)) ∈ lw_all := lw_g (lw_at lw_m12 20 rfl) rfl
theorem q2751 : (Jvm.Cond.static ({ cls := "jdk/internal/util/Preconditions", name := "checkIndex", desc := "(IILjava/util/function/BiFunction;)I" } : Jvm.MethodName)) ∈ lw_all := lw_g (lw_at lw_m12 34 rfl) rfl
theorem q2752 : (Jvm.Cond.code ({ cls := "jdk/internal/util/Preconditions", name := "checkIndex", desc := "(IILjava/util/function/BiFunction;)I" } : Jvm.MethodName) prog_95_method_11_code (3 : Nat) (Option.some Jvm.ClassFile.FieldType.int)) ∈ lw_all := lw_g (lw_at lw_m12 35 rfl) rfl
def RJ28 : String := "java/util/TreeMap$PrivateEntryIterator"
theorem q115 : (Jvm.Cond.initialized "java/util/TreeMap$PrivateEntryIterator") ∈ lw_all := lw_g (lw_at lw_m1 38 rfl) rfl
theorem q171 : (Jvm.Cond.fieldLinkNest "java/util/TreeMap$PrivateEntryIterator" (13 : Nat) "java/util/TreeMap" "modCount" "I" "java/util/TreeMap") ∈ lw_tbl := lw_at lw_m1 94 rfl
theorem q990 : (Jvm.Cond.instanceMethod ({ cls := "java/util/TreeMap$PrivateEntryIterator", name := "<init>", desc := "(Ljava/util/TreeMap;Ljava/util/TreeMap$Entry;)V" } : Jvm.MethodName)) ∈ lw_all := lw_g (lw_at lw_m4 193 rfl) rfl
theorem q991 : (Jvm.Cond.code ({ cls := "java/util/TreeMap$PrivateEntryIterator", name := "<init>", desc := "(Ljava/util/TreeMap;Ljava/util/TreeMap$Entry;)V" } : Jvm.MethodName) prog_88_method_1_code (3 : Nat) (Option.none : Option Jvm.ClassFile.FieldType)) ∈ lw_all := lw_g (lw_at lw_m4 194 rfl) rfl
theorem q992 : (Jvm.Cond.methodLink "java/util/TreeMap$PrivateEntryIterator" (7 : Nat) ({ cls := "java/lang/Object", name := "<init>", desc := "()V" } : Jvm.MethodName)) ∈ lw_all := lw_g (lw_at lw_m4 195 rfl) rfl
theorem q993 : (Jvm.Cond.fieldLink "java/util/TreeMap$PrivateEntryIterator" (26 : Nat) "java/util/TreeMap$PrivateEntryIterator" "next" "Ljava/util/TreeMap$Entry;") ∈ lw_all := lw_g (lw_at lw_m4 196 rfl) rfl
theorem q994 : (Jvm.Cond.fieldLink "java/util/TreeMap$PrivateEntryIterator" (22 : Nat) "java/util/TreeMap$PrivateEntryIterator" "lastReturned" "Ljava/util/TreeMap$Entry;") ∈ lw_all := lw_g (lw_at lw_m4 197 rfl) rfl
theorem q995 : (Jvm.Cond.fieldLink "java/util/TreeMap$PrivateEntryIterator" (19 : Nat) "java/util/TreeMap$PrivateEntryIterator" "expectedModCount" "I") ∈ lw_all := lw_g (lw_at lw_m4 198 rfl) rfl
theorem q996 : (Jvm.Cond.fieldLink "java/util/TreeMap$PrivateEntryIterator" (1 : Nat) "java/util/TreeMap$PrivateEntryIterator" "this$0" "Ljava/util/TreeMap;") ∈ lw_all := lw_g (lw_at lw_m4 199 rfl) rfl
theorem q998 : (Jvm.Cond.soleField "java/util/TreeMap$PrivateEntryIterator" "next") ∈ lw_all := lw_g (lw_at lw_m4 201 rfl) rfl
theorem q1000 : (Jvm.Cond.soleField "java/util/TreeMap$PrivateEntryIterator" "lastReturned") ∈ lw_all := lw_g (lw_at lw_m4 203 rfl) rfl
theorem q1002 : (Jvm.Cond.soleField "java/util/TreeMap$PrivateEntryIterator" "expectedModCount") ∈ lw_all := lw_g (lw_at lw_m4 205 rfl) rfl
theorem q1004 : (Jvm.Cond.soleField "java/util/TreeMap$PrivateEntryIterator" "this$0") ∈ lw_all := lw_g (lw_at lw_m4 207 rfl) rfl
theorem q1118 : (Jvm.Cond.instanceMethod ({ cls := "java/util/TreeMap$PrivateEntryIterator", name := "hasNext", desc := "()Z" } : Jvm.MethodName)) ∈ lw_all := lw_g (lw_at lw_m5 81 rfl) rfl
theorem q1119 : (Jvm.Cond.publicMethod ({ cls := "java/util/TreeMap$PrivateEntryIterator", name := "hasNext", desc := "()Z" } : Jvm.MethodName)) ∈ lw_tbl := lw_at lw_m5 82 rfl
theorem q1120 : (Jvm.Cond.code ({ cls := "java/util/TreeMap$PrivateEntryIterator", name := "hasNext", desc := "()Z" } : Jvm.MethodName) prog_88_method_2_code (1 : Nat) (Option.some Jvm.ClassFile.FieldType.boolean)) ∈ lw_all := lw_g (lw_at lw_m5 83 rfl) rfl
theorem q1199 : (Jvm.Cond.declares ({ cls := "java/util/TreeMap$PrivateEntryIterator", name := "nextEntry", desc := "()Ljava/util/TreeMap$Entry;" } : Jvm.MethodName)) ∈ lw_tbl := lw_at lw_m5 162 rfl
theorem q1201 : (Jvm.Cond.instanceMethod ({ cls := "java/util/TreeMap$PrivateEntryIterator", name := "nextEntry", desc := "()Ljava/util/TreeMap$Entry;" } : Jvm.MethodName)) ∈ lw_all := lw_g (lw_at lw_m5 164 rfl) rfl
theorem q1202 : (Jvm.Cond.code ({ cls := "java/util/TreeMap$PrivateEntryIterator", name := "nextEntry", desc := "()Ljava/util/TreeMap$Entry;" } : Jvm.MethodName) prog_88_method_3_code (2 : Nat) (Option.some (Jvm.ClassFile.FieldType.object "java/util/TreeMap$Entry"))) ∈ lw_all := lw_g (lw_at lw_m5 165 rfl) rfl
theorem q1203 : (Jvm.Cond.classLink "java/util/TreeMap$PrivateEntryIterator" (29 : Nat) "java/util/NoSuchElementException") ∈ lw_all := lw_g (lw_at lw_m5 166 rfl) rfl
theorem q1204 : (Jvm.Cond.methodLink "java/util/TreeMap$PrivateEntryIterator" (31 : Nat) ({ cls := "java/util/NoSuchElementException", name := "<init>", desc := "()V" } : Jvm.MethodName)) ∈ lw_all := lw_g (lw_at lw_m5 167 rfl) rfl
theorem q1205 : (Jvm.Cond.methodLink "java/util/TreeMap$PrivateEntryIterator" (35 : Nat) ({ cls := "java/util/TreeMap", name := "successor", desc := "(Ljava/util/TreeMap$Entry;)Ljava/util/TreeMap$Entry;" } : Jvm.MethodName)) ∈ lw_all := lw_g (lw_at lw_m5 168 rfl) rfl
theorem q1342 : (Jvm.Cond.fieldLink "java/util/TreeMap$PrivateEntryIterator" (45 : Nat) "java/util/TreeMap$Entry" "left" "Ljava/util/TreeMap$Entry;") ∈ lw_all := lw_g (lw_at lw_m6 65 rfl) rfl
theorem q1345 : (Jvm.Cond.fieldLink "java/util/TreeMap$PrivateEntryIterator" (50 : Nat) "java/util/TreeMap$Entry" "right" "Ljava/util/TreeMap$Entry;") ∈ lw_all := lw_g (lw_at lw_m6 68 rfl) rfl
theorem q1612 : (Jvm.Cond.instanceMethod ({ cls := "java/util/TreeMap$PrivateEntryIterator", name := "remove", desc := "()V" } : Jvm.MethodName)) ∈ lw_all := lw_g (lw_at lw_m7 95 rfl) rfl
theorem q1613 : (Jvm.Cond.publicMethod ({ cls := "java/util/TreeMap$PrivateEntryIterator", name := "remove", desc := "()V" } : Jvm.MethodName)) ∈ lw_tbl := lw_at lw_m7 96 rfl
theorem q1614 : (Jvm.Cond.code ({ cls := "java/util/TreeMap$PrivateEntryIterator", name := "remove", desc := "()V" } : Jvm.MethodName) prog_88_method_5_code (1 : Nat) (Option.none : Option Jvm.ClassFile.FieldType)) ∈ lw_all := lw_g (lw_at lw_m7 97 rfl) rfl
theorem q1615 : (Jvm.Cond.classLink "java/util/TreeMap$PrivateEntryIterator" (42 : Nat) "java/lang/IllegalStateException") ∈ lw_all := lw_g (lw_at lw_m7 98 rfl) rfl
theorem q1616 : (Jvm.Cond.methodLink "java/util/TreeMap$PrivateEntryIterator" (44 : Nat) ({ cls := "java/lang/IllegalStateException", name := "<init>", desc := "()V" } : Jvm.MethodName)) ∈ lw_all := lw_g (lw_at lw_m7 99 rfl) rfl
theorem q1617 : (Jvm.Cond.methodLinkNest "java/util/TreeMap$PrivateEntryIterator" (53 : Nat) ({ cls := "java/util/TreeMap", name := "deleteEntry", desc := "(Ljava/util/TreeMap$Entry;)V" } : Jvm.MethodName) "java/util/TreeMap") ∈ lw_tbl := lw_at lw_m7 100 rfl
def RJ29 : String := "java/util/TreeMap$EntryIterator"
def TJ29 : u_T := fun k => match k with
  | 0 => ("java/util/TreeMap$PrivateEntryIterator", "next", "Ljava/util/TreeMap$Entry;", false)
  | 1 => ("java/util/TreeMap$PrivateEntryIterator", "lastReturned", "Ljava/util/TreeMap$Entry;", false)
  | 2 => ("java/util/TreeMap$PrivateEntryIterator", "expectedModCount", "I", false)
  | _ => ("java/util/TreeMap$PrivateEntryIterator", "this$0", "Ljava/util/TreeMap;", true)
def tyJ29 : Nat → FieldType := fun k => match k with
  | 0 => .object "java/util/TreeMap$Entry"
  | 1 => .object "java/util/TreeMap$Entry"
  | 2 => .int
  | _ => .object "java/util/TreeMap"
abbrev wsJ290 : List Cond := u_ws RJ29 TJ29 4
theorem nmJ29 : ∀ a, a < 4 → ∀ b, b < 4 → a ≠ b → (TJ29 a).2.1 ≠ (TJ29 b).2.1 := by decide +kernel
theorem tyJ29_ok : ∀ k, k < 4 → parseFieldDescriptor (TJ29 k).2.2.1 = some (tyJ29 k) := by decide +kernel
theorem q116 : (Jvm.Cond.initialized "java/util/TreeMap$EntryIterator") ∈ lw_all := lw_g (lw_at lw_m1 39 rfl) rfl
theorem q547 : (Jvm.Cond.selects "java/util/TreeMap$EntryIterator" ({ cls := "java/lang/Object", name := "getClass", desc := "()Ljava/lang/Class;" } : Jvm.MethodName) ({ cls := "java/lang/Object", name := "getClass", desc := "()Ljava/lang/Class;" } : Jvm.MethodName)) ∈ lw_all := lw_g (lw_at lw_m2 230 rfl) rfl
theorem q984 : (Jvm.Cond.instantiable "java/util/TreeMap$EntryIterator" (4 : Nat)) ∈ lw_all := lw_g (lw_at lw_m4 187 rfl) rfl
theorem q987 : (Jvm.Cond.instanceMethod ({ cls := "java/util/TreeMap$EntryIterator", name := "<init>", desc := "(Ljava/util/TreeMap;Ljava/util/TreeMap$Entry;)V" } : Jvm.MethodName)) ∈ lw_all := lw_g (lw_at lw_m4 190 rfl) rfl
theorem q988 : (Jvm.Cond.code ({ cls := "java/util/TreeMap$EntryIterator", name := "<init>", desc := "(Ljava/util/TreeMap;Ljava/util/TreeMap$Entry;)V" } : Jvm.MethodName) prog_79_method_1_code (3 : Nat) (Option.none : Option Jvm.ClassFile.FieldType)) ∈ lw_all := lw_g (lw_at lw_m4 191 rfl) rfl
theorem q989 : (Jvm.Cond.methodLink "java/util/TreeMap$EntryIterator" (1 : Nat) ({ cls := "java/util/TreeMap$PrivateEntryIterator", name := "<init>", desc := "(Ljava/util/TreeMap;Ljava/util/TreeMap$Entry;)V" } : Jvm.MethodName)) ∈ lw_all := lw_g (lw_at lw_m4 192 rfl) rfl
theorem q997 : (Jvm.Cond.lays "java/util/TreeMap$EntryIterator" "java/util/TreeMap$PrivateEntryIterator" "next" "Ljava/util/TreeMap$Entry;") ∈ lw_all := lw_g (lw_at lw_m4 200 rfl) rfl
theorem q999 : (Jvm.Cond.lays "java/util/TreeMap$EntryIterator" "java/util/TreeMap$PrivateEntryIterator" "lastReturned" "Ljava/util/TreeMap$Entry;") ∈ lw_all := lw_g (lw_at lw_m4 202 rfl) rfl
theorem q1001 : (Jvm.Cond.lays "java/util/TreeMap$EntryIterator" "java/util/TreeMap$PrivateEntryIterator" "expectedModCount" "I") ∈ lw_all := lw_g (lw_at lw_m4 204 rfl) rfl
theorem q1003 : (Jvm.Cond.laysFinal "java/util/TreeMap$EntryIterator" "java/util/TreeMap$PrivateEntryIterator" "this$0" "Ljava/util/TreeMap;") ∈ lw_all := lw_g (lw_at lw_m4 206 rfl) rfl
theorem q1005 : (Jvm.Cond.superclass "java/util/TreeMap$EntryIterator" "java/util/TreeMap$PrivateEntryIterator") ∈ lw_all := lw_g (lw_at lw_m4 208 rfl) rfl
theorem q1115 : (Jvm.Cond.castable "java/util/TreeMap$EntryIterator" "java/util/Iterator") ∈ lw_tbl := lw_at lw_m5 78 rfl
theorem q1116 : (Jvm.Cond.selects "java/util/TreeMap$EntryIterator" ({ cls := "java/util/Iterator", name := "hasNext", desc := "()Z" } : Jvm.MethodName) ({ cls := "java/util/TreeMap$PrivateEntryIterator", name := "hasNext", desc := "()Z" } : Jvm.MethodName)) ∈ lw_all := lw_g (lw_at lw_m5 79 rfl) rfl
theorem q1117 : (Jvm.Cond.unhidden "java/util/TreeMap$EntryIterator" "hasNext" "()Z") ∈ lw_tbl := lw_at lw_m5 80 rfl
theorem q1188 : (Jvm.Cond.selects "java/util/TreeMap$EntryIterator" ({ cls := "java/util/Iterator", name := "next", desc := "()Ljava/lang/Object;" } : Jvm.MethodName) ({ cls := "java/util/TreeMap$EntryIterator", name := "next", desc := "()Ljava/lang/Object;" } : Jvm.MethodName)) ∈ lw_all := lw_g (lw_at lw_m5 151 rfl) rfl
theorem q1189 : (Jvm.Cond.unhidden "java/util/TreeMap$EntryIterator" "next" "()Ljava/lang/Object;") ∈ lw_tbl := lw_at lw_m5 152 rfl
theorem q1190 : (Jvm.Cond.instanceMethod ({ cls := "java/util/TreeMap$EntryIterator", name := "next", desc := "()Ljava/lang/Object;" } : Jvm.MethodName)) ∈ lw_all := lw_g (lw_at lw_m5 153 rfl) rfl
theorem q1191 : (Jvm.Cond.publicMethod ({ cls := "java/util/TreeMap$EntryIterator", name := "next", desc := "()Ljava/lang/Object;" } : Jvm.MethodName)) ∈ lw_tbl := lw_at lw_m5 154 rfl
theorem q1192 : (Jvm.Cond.code ({ cls := "java/util/TreeMap$EntryIterator", name := "next", desc := "()Ljava/lang/Object;" } : Jvm.MethodName) prog_79_method_3_code (1 : Nat) (Option.some (Jvm.ClassFile.FieldType.object "java/lang/Object"))) ∈ lw_all := lw_g (lw_at lw_m5 155 rfl) rfl
theorem q1193 : (Jvm.Cond.methodLink "java/util/TreeMap$EntryIterator" (13 : Nat) ({ cls := "java/util/TreeMap$EntryIterator", name := "next", desc := "()Ljava/util/Map$Entry;" } : Jvm.MethodName)) ∈ lw_all := lw_g (lw_at lw_m5 156 rfl) rfl
theorem q1194 : (Jvm.Cond.instanceMethod ({ cls := "java/util/TreeMap$EntryIterator", name := "next", desc := "()Ljava/util/Map$Entry;" } : Jvm.MethodName)) ∈ lw_all := lw_g (lw_at lw_m5 157 rfl) rfl
theorem q1195 : (Jvm.Cond.selects "java/util/TreeMap$EntryIterator" ({ cls := "java/util/TreeMap$EntryIterator", name := "next", desc := "()Ljava/util/Map$Entry;" } : Jvm.MethodName) ({ cls := "java/util/TreeMap$EntryIterator", name := "next", desc := "()Ljava/util/Map$Entry;" } : Jvm.MethodName)) ∈ lw_all := lw_g (lw_at lw_m5 158 rfl) rfl
theorem q1196 : (Jvm.Cond.code ({ cls := "java/util/TreeMap$EntryIterator", name := "next", desc := "()Ljava/util/Map$Entry;" } : Jvm.MethodName) prog_79_method_2_code (1 : Nat) (Option.some (Jvm.ClassFile.FieldType.object "java/util/Map$Entry"))) ∈ lw_all := lw_g (lw_at lw_m5 159 rfl) rfl
theorem q1197 : (Jvm.Cond.methodLink "java/util/TreeMap$EntryIterator" (7 : Nat) ({ cls := "java/util/TreeMap$EntryIterator", name := "nextEntry", desc := "()Ljava/util/TreeMap$Entry;" } : Jvm.MethodName)) ∈ lw_all := lw_g (lw_at lw_m5 160 rfl) rfl
theorem q1198 : (Jvm.Cond.sameMethod "java/util/TreeMap$EntryIterator" "java/util/TreeMap$PrivateEntryIterator" "nextEntry" "()Ljava/util/TreeMap$Entry;") ∈ lw_all := lw_g (lw_at lw_m5 161 rfl) rfl
theorem q1200 : (Jvm.Cond.selects "java/util/TreeMap$EntryIterator" ({ cls := "java/util/TreeMap$EntryIterator", name := "nextEntry", desc := "()Ljava/util/TreeMap$Entry;" } : Jvm.MethodName) ({ cls := "java/util/TreeMap$PrivateEntryIterator", name := "nextEntry", desc := "()Ljava/util/TreeMap$Entry;" } : Jvm.MethodName)) ∈ lw_all := lw_g (lw_at lw_m5 163 rfl) rfl
theorem q1610 : (Jvm.Cond.selects "java/util/TreeMap$EntryIterator" ({ cls := "java/util/Iterator", name := "remove", desc := "()V" } : Jvm.MethodName) ({ cls := "java/util/TreeMap$PrivateEntryIterator", name := "remove", desc := "()V" } : Jvm.MethodName)) ∈ lw_all := lw_g (lw_at lw_m7 93 rfl) rfl
theorem q1611 : (Jvm.Cond.unhidden "java/util/TreeMap$EntryIterator" "remove" "()V") ∈ lw_tbl := lw_at lw_m7 94 rfl
theorem q3547 : (Jvm.Cond.castable "java/util/TreeMap$EntryIterator" "java/lang/Object") ∈ lw_tbl := lw_at lw_m15 110 rfl
def RJ3 : String := "java/util/AbstractSet"
theorem q83 : (Jvm.Cond.initialized "java/util/AbstractSet") ∈ lw_all := lw_g (lw_at lw_m1 6 rfl) rfl
theorem q209 : (Jvm.Cond.instanceMethod ({ cls := "java/util/AbstractSet", name := "<init>", desc := "()V" } : Jvm.MethodName)) ∈ lw_all := lw_g (lw_at lw_m1 132 rfl) rfl
theorem q210 : (Jvm.Cond.code ({ cls := "java/util/AbstractSet", name := "<init>", desc := "()V" } : Jvm.MethodName) prog_48_method_1_code (1 : Nat) (Option.none : Option Jvm.ClassFile.FieldType)) ∈ lw_all := lw_g (lw_at lw_m1 133 rfl) rfl
theorem q211 : (Jvm.Cond.methodLink "java/util/AbstractSet" (1 : Nat) ({ cls := "java/util/AbstractCollection", name := "<init>", desc := "()V" } : Jvm.MethodName)) ∈ lw_all := lw_g (lw_at lw_m1 134 rfl) rfl
def RJ30 : String := "java/util/TreeMap$KeyIterator"
def TJ30 : u_T := fun k => match k with
  | 0 => ("java/util/TreeMap$PrivateEntryIterator", "next", "Ljava/util/TreeMap$Entry;", false)
  | 1 => ("java/util/TreeMap$PrivateEntryIterator", "lastReturned", "Ljava/util/TreeMap$Entry;", false)
  | 2 => ("java/util/TreeMap$PrivateEntryIterator", "expectedModCount", "I", false)
  | _ => ("java/util/TreeMap$PrivateEntryIterator", "this$0", "Ljava/util/TreeMap;", true)
def tyJ30 : Nat → FieldType := fun k => match k with
  | 0 => .object "java/util/TreeMap$Entry"
  | 1 => .object "java/util/TreeMap$Entry"
  | 2 => .int
  | _ => .object "java/util/TreeMap"
abbrev wsJ300 : List Cond := u_ws RJ30 TJ30 4
theorem nmJ30 : ∀ a, a < 4 → ∀ b, b < 4 → a ≠ b → (TJ30 a).2.1 ≠ (TJ30 b).2.1 := by decide +kernel
theorem tyJ30_ok : ∀ k, k < 4 → parseFieldDescriptor (TJ30 k).2.2.1 = some (tyJ30 k) := by decide +kernel
theorem q117 : (Jvm.Cond.initialized "java/util/TreeMap$KeyIterator") ∈ lw_all := lw_g (lw_at lw_m1 40 rfl) rfl
theorem q549 : (Jvm.Cond.selects "java/util/TreeMap$KeyIterator" ({ cls := "java/lang/Object", name := "getClass", desc := "()Ljava/lang/Class;" } : Jvm.MethodName) ({ cls := "java/lang/Object", name := "getClass", desc := "()Ljava/lang/Class;" } : Jvm.MethodName)) ∈ lw_all := lw_g (lw_at lw_m2 232 rfl) rfl
theorem q1018 : (Jvm.Cond.instantiable "java/util/TreeMap$KeyIterator" (4 : Nat)) ∈ lw_all := lw_g (lw_at lw_m4 221 rfl) rfl
theorem q1021 : (Jvm.Cond.instanceMethod ({ cls := "java/util/TreeMap$KeyIterator", name := "<init>", desc := "(Ljava/util/TreeMap;Ljava/util/TreeMap$Entry;)V" } : Jvm.MethodName)) ∈ lw_all := lw_g (lw_at lw_m4 224 rfl) rfl
theorem q1022 : (Jvm.Cond.code ({ cls := "java/util/TreeMap$KeyIterator", name := "<init>", desc := "(Ljava/util/TreeMap;Ljava/util/TreeMap$Entry;)V" } : Jvm.MethodName) prog_81_method_1_code (3 : Nat) (Option.none : Option Jvm.ClassFile.FieldType)) ∈ lw_all := lw_g (lw_at lw_m4 225 rfl) rfl
theorem q1023 : (Jvm.Cond.methodLink "java/util/TreeMap$KeyIterator" (1 : Nat) ({ cls := "java/util/TreeMap$PrivateEntryIterator", name := "<init>", desc := "(Ljava/util/TreeMap;Ljava/util/TreeMap$Entry;)V" } : Jvm.MethodName)) ∈ lw_all := lw_g (lw_at lw_m4 226 rfl) rfl
theorem q1024 : (Jvm.Cond.lays "java/util/TreeMap$KeyIterator" "java/util/TreeMap$PrivateEntryIterator" "next" "Ljava/util/TreeMap$Entry;") ∈ lw_all := lw_g (lw_at lw_m4 227 rfl) rfl
theorem q1025 : (Jvm.Cond.lays "java/util/TreeMap$KeyIterator" "java/util/TreeMap$PrivateEntryIterator" "lastReturned" "Ljava/util/TreeMap$Entry;") ∈ lw_all := lw_g (lw_at lw_m4 228 rfl) rfl
theorem q1026 : (Jvm.Cond.lays "java/util/TreeMap$KeyIterator" "java/util/TreeMap$PrivateEntryIterator" "expectedModCount" "I") ∈ lw_all := lw_g (lw_at lw_m4 229 rfl) rfl
theorem q1027 : (Jvm.Cond.laysFinal "java/util/TreeMap$KeyIterator" "java/util/TreeMap$PrivateEntryIterator" "this$0" "Ljava/util/TreeMap;") ∈ lw_all := lw_g (lw_at lw_m4 230 rfl) rfl
theorem q1028 : (Jvm.Cond.superclass "java/util/TreeMap$KeyIterator" "java/util/TreeMap$PrivateEntryIterator") ∈ lw_all := lw_g (lw_at lw_m4 231 rfl) rfl
theorem q1121 : (Jvm.Cond.castable "java/util/TreeMap$KeyIterator" "java/util/Iterator") ∈ lw_tbl := lw_at lw_m5 84 rfl
theorem q1122 : (Jvm.Cond.selects "java/util/TreeMap$KeyIterator" ({ cls := "java/util/Iterator", name := "hasNext", desc := "()Z" } : Jvm.MethodName) ({ cls := "java/util/TreeMap$PrivateEntryIterator", name := "hasNext", desc := "()Z" } : Jvm.MethodName)) ∈ lw_all := lw_g (lw_at lw_m5 85 rfl) rfl
theorem q1123 : (Jvm.Cond.unhidden "java/util/TreeMap$KeyIterator" "hasNext" "()Z") ∈ lw_tbl := lw_at lw_m5 86 rfl
theorem q1208 : (Jvm.Cond.selects "java/util/TreeMap$KeyIterator" ({ cls := "java/util/Iterator", name := "next", desc := "()Ljava/lang/Object;" } : Jvm.MethodName) ({ cls := "java/util/TreeMap$KeyIterator", name := "next", desc := "()Ljava/lang/Object;" } : Jvm.MethodName)) ∈ lw_all := lw_g (lw_at lw_m5 171 rfl) rfl
theorem q1209 : (Jvm.Cond.unhidden "java/util/TreeMap$KeyIterator" "next" "()Ljava/lang/Object;") ∈ lw_tbl := lw_at lw_m5 172 rfl
theorem q1210 : (Jvm.Cond.instanceMethod ({ cls := "java/util/TreeMap$KeyIterator", name := "next", desc := "()Ljava/lang/Object;" } : Jvm.MethodName)) ∈ lw_all := lw_g (lw_at lw_m5 173 rfl) rfl
theorem q1211 : (Jvm.Cond.publicMethod ({ cls := "java/util/TreeMap$KeyIterator", name := "next", desc := "()Ljava/lang/Object;" } : Jvm.MethodName)) ∈ lw_tbl := lw_at lw_m5 174 rfl
theorem q1212 : (Jvm.Cond.code ({ cls := "java/util/TreeMap$KeyIterator", name := "next", desc := "()Ljava/lang/Object;" } : Jvm.MethodName) prog_81_method_2_code (1 : Nat) (Option.some (Jvm.ClassFile.FieldType.object "java/lang/Object"))) ∈ lw_all := lw_g (lw_at lw_m5 175 rfl) rfl
theorem q1213 : (Jvm.Cond.methodLink "java/util/TreeMap$KeyIterator" (7 : Nat) ({ cls := "java/util/TreeMap$KeyIterator", name := "nextEntry", desc := "()Ljava/util/TreeMap$Entry;" } : Jvm.MethodName)) ∈ lw_all := lw_g (lw_at lw_m5 176 rfl) rfl
theorem q1214 : (Jvm.Cond.sameMethod "java/util/TreeMap$KeyIterator" "java/util/TreeMap$PrivateEntryIterator" "nextEntry" "()Ljava/util/TreeMap$Entry;") ∈ lw_all := lw_g (lw_at lw_m5 177 rfl) rfl
theorem q1215 : (Jvm.Cond.selects "java/util/TreeMap$KeyIterator" ({ cls := "java/util/TreeMap$KeyIterator", name := "nextEntry", desc := "()Ljava/util/TreeMap$Entry;" } : Jvm.MethodName) ({ cls := "java/util/TreeMap$PrivateEntryIterator", name := "nextEntry", desc := "()Ljava/util/TreeMap$Entry;" } : Jvm.MethodName)) ∈ lw_all := lw_g (lw_at lw_m5 178 rfl) rfl
theorem q1334 : (Jvm.Cond.fieldLink "java/util/TreeMap$KeyIterator" (13 : Nat) "java/util/TreeMap$Entry" "key" "Ljava/lang/Object;") ∈ lw_all := lw_g (lw_at lw_m6 57 rfl) rfl
theorem q1626 : (Jvm.Cond.selects "java/util/TreeMap$KeyIterator" ({ cls := "java/util/Iterator", name := "remove", desc := "()V" } : Jvm.MethodName) ({ cls := "java/util/TreeMap$PrivateEntryIterator", name := "remove", desc := "()V" } : Jvm.MethodName)) ∈ lw_all := lw_g (lw_at lw_m7 109 rfl) rfl
theorem q1627 : (Jvm.Cond.unhidden "java/util/TreeMap$KeyIterator" "remove" "()V") ∈ lw_tbl := lw_at lw_m7 110 rfl
theorem q3549 : (Jvm.Cond.castable "java/util/TreeMap$KeyIterator" "java/lang/Object") ∈ lw_tbl := lw_at lw_m15 112 rfl
def RJ31 : String := "java/util/TreeMap$NavigableSubMap$SubMapKeyIterator"
def TJ31 : u_T := fun k => match k with
  | 0 => ("java/util/TreeMap$NavigableSubMap$SubMapIterator", "lastReturned", "Ljava/util/TreeMap$Entry;", false)
  | 1 => ("java/util/TreeMap$NavigableSubMap$SubMapIterator", "next", "Ljava/util/TreeMap$Entry;", false)
  | 2 => ("java/util/TreeMap$NavigableSubMap$SubMapIterator", "fenceKey", "Ljava/lang/Object;", true)
  | 3 => ("java/util/TreeMap$NavigableSubMap$SubMapIterator", "expectedModCount", "I", false)
  | 4 => ("java/util/TreeMap$NavigableSubMap$SubMapIterator", "this$0", "Ljava/util/TreeMap$NavigableSubMap;", true)
  | _ => ("java/util/TreeMap$NavigableSubMap$SubMapKeyIterator", "this$0", "Ljava/util/TreeMap$NavigableSubMap;", true)
def tyJ31 : Nat → FieldType := fun k => match k with
  | 0 => .object "java/util/TreeMap$Entry"
  | 1 => .object "java/util/TreeMap$Entry"
  | 2 => .object "java/lang/Object"
  | 3 => .int
  | 4 => .object "java/util/TreeMap$NavigableSubMap"
  | _ => .object "java/util/TreeMap$NavigableSubMap"
abbrev wsJ310 : List Cond := u_ws RJ31 TJ31 6
-- two fields of one name: no nmJ31
theorem tyJ31_ok : ∀ k, k < 6 → parseFieldDescriptor (TJ31 k).2.2.1 = some (tyJ31 k) := by decide +kernel
theorem q118 : (Jvm.Cond.initialized "java/util/TreeMap$NavigableSubMap$SubMapKeyIterator") ∈ lw_all := lw_g (lw_at lw_m1 41 rfl) rfl
theorem q552 : (Jvm.Cond.selects "java/util/TreeMap$NavigableSubMap$SubMapKeyIterator" ({ cls := "java/lang/Object", name := "getClass", desc := "()Ljava/lang/Class;" } : Jvm.MethodName) ({ cls := "java/lang/Object", name := "getClass", desc := "()Ljava/lang/Class;" } : Jvm.MethodName)) ∈ lw_all := lw_g (lw_at lw_m2 235 rfl) rfl
theorem q1037 : (Jvm.Cond.instantiable "java/util/TreeMap$NavigableSubMap$SubMapKeyIterator" (6 : Nat)) ∈ lw_all := lw_g (lw_at lw_m5 0 rfl) rfl
theorem q1041 : (Jvm.Cond.instanceMethod ({ cls := "java/util/TreeMap$NavigableSubMap$SubMapKeyIterator", name := "<init>", desc := "(Ljava/util/TreeMap$NavigableSubMap;Ljava/util/TreeMap$Entry;Ljava/util/TreeMap$Entry;)V" } : Jvm.MethodName)) ∈ lw_all := lw_g (lw_at lw_m5 4 rfl) rfl
theorem q1042 : (Jvm.Cond.code ({ cls := "java/util/TreeMap$NavigableSubMap$SubMapKeyIterator", name := "<init>", desc := "(Ljava/util/TreeMap$NavigableSubMap;Ljava/util/TreeMap$Entry;Ljava/util/TreeMap$Entry;)V" } : Jvm.MethodName) prog_87_method_1_code (4 : Nat) (Option.none : Option Jvm.ClassFile.FieldType)) ∈ lw_all := lw_g (lw_at lw_m5 5 rfl) rfl
theorem q1043 : (Jvm.Cond.methodLink "java/util/TreeMap$NavigableSubMap$SubMapKeyIterator" (7 : Nat) ({ cls := "java/util/TreeMap$NavigableSubMap$SubMapIterator", name := "<init>", desc := "(Ljava/util/TreeMap$NavigableSubMap;Ljava/util/TreeMap$Entry;Ljava/util/TreeMap$Entry;)V" } : Jvm.MethodName)) ∈ lw_all := lw_g (lw_at lw_m5 6 rfl) rfl
theorem q1044 : (Jvm.Cond.fieldLink "java/util/TreeMap$NavigableSubMap$SubMapKeyIterator" (1 : Nat) "java/util/TreeMap$NavigableSubMap$SubMapKeyIterator" "this$0" "Ljava/util/TreeMap$NavigableSubMap;") ∈ lw_all := lw_g (lw_at lw_m5 7 rfl) rfl
theorem q1045 : (Jvm.Cond.laysFinal "java/util/TreeMap$NavigableSubMap$SubMapKeyIterator" "java/util/TreeMap$NavigableSubMap$SubMapKeyIterator" "this$0" "Ljava/util/TreeMap$NavigableSubMap;") ∈ lw_all := lw_g (lw_at lw_m5 8 rfl) rfl
theorem q1046 : (Jvm.Cond.soleField "java/util/TreeMap$NavigableSubMap$SubMapKeyIterator" "this$0") ∈ lw_all := lw_g (lw_at lw_m5 9 rfl) rfl
theorem q1047 : (Jvm.Cond.lays "java/util/TreeMap$NavigableSubMap$SubMapKeyIterator" "java/util/TreeMap$NavigableSubMap$SubMapIterator" "lastReturned" "Ljava/util/TreeMap$Entry;") ∈ lw_all := lw_g (lw_at lw_m5 10 rfl) rfl
theorem q1048 : (Jvm.Cond.lays "java/util/TreeMap$NavigableSubMap$SubMapKeyIterator" "java/util/TreeMap$NavigableSubMap$SubMapIterator" "next" "Ljava/util/TreeMap$Entry;") ∈ lw_all := lw_g (lw_at lw_m5 11 rfl) rfl
theorem q1049 : (Jvm.Cond.laysFinal "java/util/TreeMap$NavigableSubMap$SubMapKeyIterator" "java/util/TreeMap$NavigableSubMap$SubMapIterator" "fenceKey" "Ljava/lang/Object;") ∈ lw_all := lw_g (lw_at lw_m5 12 rfl) rfl
theorem q1050 : (Jvm.Cond.lays "java/util/TreeMap$NavigableSubMap$SubMapKeyIterator" "java/util/TreeMap$NavigableSubMap$SubMapIterator" "expectedModCount" "I") ∈ lw_all := lw_g (lw_at lw_m5 13 rfl) rfl
theorem q1051 : (Jvm.Cond.laysFinal "java/util/TreeMap$NavigableSubMap$SubMapKeyIterator" "java/util/TreeMap$NavigableSubMap$SubMapIterator" "this$0" "Ljava/util/TreeMap$NavigableSubMap;") ∈ lw_all := lw_g (lw_at lw_m5 14 rfl) rfl
theorem q1052 : (Jvm.Cond.superclass "java/util/TreeMap$NavigableSubMap$SubMapKeyIterator" "java/util/TreeMap$NavigableSubMap$SubMapIterator") ∈ lw_all := lw_g (lw_at lw_m5 15 rfl) rfl
theorem q1130 : (Jvm.Cond.castable "java/util/TreeMap$NavigableSubMap$SubMapKeyIterator" "java/util/Iterator") ∈ lw_tbl := lw_at lw_m5 93 rfl
theorem q1131 : (Jvm.Cond.selects "java/util/TreeMap$NavigableSubMap$SubMapKeyIterator" ({ cls := "java/util/Iterator", name := "hasNext", desc := "()Z" } : Jvm.MethodName) ({ cls := "java/util/TreeMap$NavigableSubMap$SubMapIterator", name := "hasNext", desc := "()Z" } : Jvm.MethodName)) ∈ lw_all := lw_g (lw_at lw_m5 94 rfl) rfl
theorem q1132 : (Jvm.Cond.unhidden "java/util/TreeMap$NavigableSubMap$SubMapKeyIterator" "hasNext" "()Z") ∈ lw_tbl := lw_at lw_m5 95 rfl
theorem q1234 : (Jvm.Cond.selects "java/util/TreeMap$NavigableSubMap$SubMapKeyIterator" ({ cls := "java/util/Iterator", name := "next", desc := "()Ljava/lang/Object;" } : Jvm.MethodName) ({ cls := "java/util/TreeMap$NavigableSubMap$SubMapKeyIterator", name := "next", desc := "()Ljava/lang/Object;" } : Jvm.MethodName)) ∈ lw_all := lw_g (lw_at lw_m5 197 rfl) rfl
theorem q1235 : (Jvm.Cond.unhidden "java/util/TreeMap$NavigableSubMap$SubMapKeyIterator" "next" "()Ljava/lang/Object;") ∈ lw_tbl := lw_at lw_m5 198 rfl
theorem q1236 : (Jvm.Cond.instanceMethod ({ cls := "java/util/TreeMap$NavigableSubMap$SubMapKeyIterator", name := "next", desc := "()Ljava/lang/Object;" } : Jvm.MethodName)) ∈ lw_all := lw_g (lw_at lw_m5 199 rfl) rfl
theorem q1237 : (Jvm.Cond.publicMethod ({ cls := "java/util/TreeMap$NavigableSubMap$SubMapKeyIterator", name := "next", desc := "()Ljava/lang/Object;" } : Jvm.MethodName)) ∈ lw_tbl := lw_at lw_m5 200 rfl
theorem q1238 : (Jvm.Cond.code ({ cls := "java/util/TreeMap$NavigableSubMap$SubMapKeyIterator", name := "next", desc := "()Ljava/lang/Object;" } : Jvm.MethodName) prog_87_method_2_code (1 : Nat) (Option.some (Jvm.ClassFile.FieldType.object "java/lang/Object"))) ∈ lw_all := lw_g (lw_at lw_m5 201 rfl) rfl
theorem q1239 : (Jvm.Cond.methodLink "java/util/TreeMap$NavigableSubMap$SubMapKeyIterator" (13 : Nat) ({ cls := "java/util/TreeMap$NavigableSubMap$SubMapKeyIterator", name := "nextEntry", desc := "()Ljava/util/TreeMap$Entry;" } : Jvm.MethodName)) ∈ lw_all := lw_g (lw_at lw_m5 202 rfl) rfl
theorem q1240 : (Jvm.Cond.sameMethod "java/util/TreeMap$NavigableSubMap$SubMapKeyIterator" "java/util/TreeMap$NavigableSubMap$SubMapIterator" "nextEntry" "()Ljava/util/TreeMap$Entry;") ∈ lw_all := lw_g (lw_at lw_m5 203 rfl) rfl
theorem q1241 : (Jvm.Cond.selects "java/util/TreeMap$NavigableSubMap$SubMapKeyIterator" ({ cls := "java/util/TreeMap$NavigableSubMap$SubMapKeyIterator", name := "nextEntry", desc := "()Ljava/util/TreeMap$Entry;" } : Jvm.MethodName) ({ cls := "java/util/TreeMap$NavigableSubMap$SubMapIterator", name := "nextEntry", desc := "()Ljava/util/TreeMap$Entry;" } : Jvm.MethodName)) ∈ lw_all := lw_g (lw_at lw_m5 204 rfl) rfl
theorem q1335 : (Jvm.Cond.fieldLink "java/util/TreeMap$NavigableSubMap$SubMapKeyIterator" (17 : Nat) "java/util/TreeMap$Entry" "key" "Ljava/lang/Object;") ∈ lw_all := lw_g (lw_at lw_m6 58 rfl) rfl
theorem q1642 : (Jvm.Cond.selects "java/util/TreeMap$NavigableSubMap$SubMapKeyIterator" ({ cls := "java/util/Iterator", name := "remove", desc := "()V" } : Jvm.MethodName) ({ cls := "java/util/TreeMap$NavigableSubMap$SubMapKeyIterator", name := "remove", desc := "()V" } : Jvm.MethodName)) ∈ lw_all := lw_g (lw_at lw_m7 125 rfl) rfl
theorem q1643 : (Jvm.Cond.unhidden "java/util/TreeMap$NavigableSubMap$SubMapKeyIterator" "remove" "()V") ∈ lw_tbl := lw_at lw_m7 126 rfl
theorem q1644 : (Jvm.Cond.instanceMethod ({ cls := "java/util/TreeMap$NavigableSubMap$SubMapKeyIterator", name := "remove", desc := "()V" } : Jvm.MethodName)) ∈ lw_all := lw_g (lw_at lw_m7 127 rfl) rfl
theorem q1645 : (Jvm.Cond.publicMethod ({ cls := "java/util/TreeMap$NavigableSubMap$SubMapKeyIterator", name := "remove", desc := "()V" } : Jvm.MethodName)) ∈ lw_tbl := lw_at lw_m7 128 rfl
theorem q1646 : (Jvm.Cond.code ({ cls := "java/util/TreeMap$NavigableSubMap$SubMapKeyIterator", name := "remove", desc := "()V" } : Jvm.MethodName) prog_87_method_3_code (1 : Nat) (Option.none : Option Jvm.ClassFile.FieldType)) ∈ lw_all := lw_g (lw_at lw_m7 129 rfl) rfl
theorem q1647 : (Jvm.Cond.methodLink "java/util/TreeMap$NavigableSubMap$SubMapKeyIterator" (23 : Nat) ({ cls := "java/util/TreeMap$NavigableSubMap$SubMapKeyIterator", name := "removeAscending", desc := "()V" } : Jvm.MethodName)) ∈ lw_all := lw_g (lw_at lw_m7 130 rfl) rfl
theorem q1648 : (Jvm.Cond.sameMethod "java/util/TreeMap$NavigableSubMap$SubMapKeyIterator" "java/util/TreeMap$NavigableSubMap$SubMapIterator" "removeAscending" "()V") ∈ lw_all := lw_g (lw_at lw_m7 131 rfl) rfl
theorem q1649 : (Jvm.Cond.selects "java/util/TreeMap$NavigableSubMap$SubMapKeyIterator" ({ cls := "java/util/TreeMap$NavigableSubMap$SubMapKeyIterator", name := "removeAscending", desc := "()V" } : Jvm.MethodName) ({ cls := "java/util/TreeMap$NavigableSubMap$SubMapIterator", name := "removeAscending", desc := "()V" } : Jvm.MethodName)) ∈ lw_all := lw_g (lw_at lw_m7 132 rfl) rfl
theorem q3573 : (Jvm.Cond.castable "java/util/TreeMap$NavigableSubMap$SubMapKeyIterator" "java/lang/Object") ∈ lw_tbl := lw_at lw_m15 136 rfl
def RJ32 : String := "java/util/TreeMap$KeySet"
def TJ32 : u_T := fun k => match k with
  | _ => ("java/util/TreeMap$KeySet", "m", "Ljava/util/NavigableMap;", true)
def tyJ32 : Nat → FieldType := fun k => match k with
  | _ => .object "java/util/NavigableMap"
abbrev wsJ320 : List Cond := u_ws RJ32 TJ32 1
theorem nmJ32 : ∀ a, a < 1 → ∀ b, b < 1 → a ≠ b → (TJ32 a).2.1 ≠ (TJ32 b).2.1 := by decide +kernel
theorem tyJ32_ok : ∀ k, k < 1 → parseFieldDescriptor (TJ32 k).2.2.1 = some (tyJ32 k) := by decide +kernel
theorem q119 : (Jvm.Cond.initialized "java/util/TreeMap$KeySet") ∈ lw_all := lw_g (lw_at lw_m1 42 rfl) rfl
theorem q550 : (Jvm.Cond.selects "java/util/TreeMap$KeySet" ({ cls := "java/lang/Object", name := "getClass", desc := "()Ljava/lang/Class;" } : Jvm.MethodName) ({ cls := "java/lang/Object", name := "getClass", desc := "()Ljava/lang/Class;" } : Jvm.MethodName)) ∈ lw_all := lw_g (lw_at lw_m2 233 rfl) rfl
theorem q1006 : (Jvm.Cond.castable "java/util/TreeMap$KeySet" "java/util/Set") ∈ lw_tbl := lw_at lw_m4 209 rfl
theorem q1007 : (Jvm.Cond.selects "java/util/TreeMap$KeySet" ({ cls := "java/util/Set", name := "iterator", desc := "()Ljava/util/Iterator;" } : Jvm.MethodName) ({ cls := "java/util/TreeMap$KeySet", name := "iterator", desc := "()Ljava/util/Iterator;" } : Jvm.MethodName)) ∈ lw_all := lw_g (lw_at lw_m4 210 rfl) rfl
theorem q1008 : (Jvm.Cond.unhidden "java/util/TreeMap$KeySet" "iterator" "()Ljava/util/Iterator;") ∈ lw_tbl := lw_at lw_m4 211 rfl
theorem q1009 : (Jvm.Cond.instanceMethod ({ cls := "java/util/TreeMap$KeySet", name := "iterator", desc := "()Ljava/util/Iterator;" } : Jvm.MethodName)) ∈ lw_all := lw_g (lw_at lw_m4 212 rfl) rfl
theorem q1010 : (Jvm.Cond.publicMethod ({ cls := "java/util/TreeMap$KeySet", name := "iterator", desc := "()Ljava/util/Iterator;" } : Jvm.MethodName)) ∈ lw_tbl := lw_at lw_m4 213 rfl
theorem q1011 : (Jvm.Cond.code ({ cls := "java/util/TreeMap$KeySet", name := "iterator", desc := "()Ljava/util/Iterator;" } : Jvm.MethodName) prog_82_method_2_code (1 : Nat) (Option.some (Jvm.ClassFile.FieldType.object "java/util/Iterator"))) ∈ lw_all := lw_g (lw_at lw_m4 214 rfl) rfl
theorem q1012 : (Jvm.Cond.classLink "java/util/TreeMap$KeySet" (13 : Nat) "java/util/TreeMap") ∈ lw_all := lw_g (lw_at lw_m4 215 rfl) rfl
theorem q1013 : (Jvm.Cond.methodLink "java/util/TreeMap$KeySet" (15 : Nat) ({ cls := "java/util/TreeMap", name := "keyIterator", desc := "()Ljava/util/Iterator;" } : Jvm.MethodName)) ∈ lw_all := lw_g (lw_at lw_m4 216 rfl) rfl
theorem q1029 : (Jvm.Cond.classLink "java/util/TreeMap$KeySet" (19 : Nat) "java/util/TreeMap$NavigableSubMap") ∈ lw_all := lw_g (lw_at lw_m4 232 rfl) rfl
theorem q1030 : (Jvm.Cond.methodLink "java/util/TreeMap$KeySet" (21 : Nat) ({ cls := "java/util/TreeMap$NavigableSubMap", name := "keyIterator", desc := "()Ljava/util/Iterator;" } : Jvm.MethodName)) ∈ lw_all := lw_g (lw_at lw_m4 233 rfl) rfl
theorem q1070 : (Jvm.Cond.instantiable "java/util/TreeMap$KeySet" (1 : Nat)) ∈ lw_all := lw_g (lw_at lw_m5 33 rfl) rfl
theorem q1072 : (Jvm.Cond.instanceMethod ({ cls := "java/util/TreeMap$KeySet", name := "<init>", desc := "(Ljava/util/NavigableMap;)V" } : Jvm.MethodName)) ∈ lw_all := lw_g (lw_at lw_m5 35 rfl) rfl
theorem q1073 : (Jvm.Cond.code ({ cls := "java/util/TreeMap$KeySet", name := "<init>", desc := "(Ljava/util/NavigableMap;)V" } : Jvm.MethodName) prog_82_method_1_code (2 : Nat) (Option.none : Option Jvm.ClassFile.FieldType)) ∈ lw_all := lw_g (lw_at lw_m5 36 rfl) rfl
theorem q1074 : (Jvm.Cond.methodLink "java/util/TreeMap$KeySet" (1 : Nat) ({ cls := "java/util/AbstractSet", name := "<init>", desc := "()V" } : Jvm.MethodName)) ∈ lw_all := lw_g (lw_at lw_m5 37 rfl) rfl
theorem q1075 : (Jvm.Cond.fieldLink "java/util/TreeMap$KeySet" (7 : Nat) "java/util/TreeMap$KeySet" "m" "Ljava/util/NavigableMap;") ∈ lw_all := lw_g (lw_at lw_m5 38 rfl) rfl
theorem q1076 : (Jvm.Cond.laysFinal "java/util/TreeMap$KeySet" "java/util/TreeMap$KeySet" "m" "Ljava/util/NavigableMap;") ∈ lw_all := lw_g (lw_at lw_m5 39 rfl) rfl
theorem q1077 : (Jvm.Cond.soleField "java/util/TreeMap$KeySet" "m") ∈ lw_all := lw_g (lw_at lw_m5 40 rfl) rfl
theorem q1078 : (Jvm.Cond.superclass "java/util/TreeMap$KeySet" "java/util/AbstractSet") ∈ lw_all := lw_g (lw_at lw_m5 41 rfl) rfl
theorem q1091 : (Jvm.Cond.castable "java/util/TreeMap$KeySet" "java/util/NavigableSet") ∈ lw_tbl := lw_at lw_m5 54 rfl
theorem q1092 : (Jvm.Cond.selects "java/util/TreeMap$KeySet" ({ cls := "java/util/NavigableSet", name := "iterator", desc := "()Ljava/util/Iterator;" } : Jvm.MethodName) ({ cls := "java/util/TreeMap$KeySet", name := "iterator", desc := "()Ljava/util/Iterator;" } : Jvm.MethodName)) ∈ lw_all := lw_g (lw_at lw_m5 55 rfl) rfl
theorem q1514 : (Jvm.Cond.selects "java/util/TreeMap$KeySet" ({ cls := "java/util/AbstractCollection", name := "iterator", desc := "()Ljava/util/Iterator;" } : Jvm.MethodName) ({ cls := "java/util/TreeMap$KeySet", name := "iterator", desc := "()Ljava/util/Iterator;" } : Jvm.MethodName)) ∈ lw_all := lw_g (lw_at lw_m6 237 rfl) rfl
theorem q1658 : (Jvm.Cond.selects "java/util/TreeMap$KeySet" ({ cls := "java/util/Set", name := "clear", desc := "()V" } : Jvm.MethodName) ({ cls := "java/util/TreeMap$KeySet", name := "clear", desc := "()V" } : Jvm.MethodName)) ∈ lw_all := lw_g (lw_at lw_m7 141 rfl) rfl
theorem q1659 : (Jvm.Cond.unhidden "java/util/TreeMap$KeySet" "clear" "()V") ∈ lw_tbl := lw_at lw_m7 142 rfl
theorem q1660 : (Jvm.Cond.instanceMethod ({ cls := "java/util/TreeMap$KeySet", name := "clear", desc := "()V" } : Jvm.MethodName)) ∈ lw_all := lw_g (lw_at lw_m7 143 rfl) rfl
theorem q1661 : (Jvm.Cond.publicMethod ({ cls := "java/util/TreeMap$KeySet", name := "clear", desc := "()V" } : Jvm.MethodName)) ∈ lw_tbl := lw_at lw_m7 144 rfl
theorem q1662 : (Jvm.Cond.code ({ cls := "java/util/TreeMap$KeySet", name := "clear", desc := "()V" } : Jvm.MethodName) prog_82_method_7_code (1 : Nat) (Option.none : Option Jvm.ClassFile.FieldType)) ∈ lw_all := lw_g (lw_at lw_m7 145 rfl) rfl
theorem q1663 : (Jvm.Cond.interfaceEntry "java/util/TreeMap$KeySet" (40 : Nat)) ∈ lw_tbl := lw_at lw_m7 146 rfl
theorem q1998 : (Jvm.Cond.selects "java/util/TreeMap$KeySet" ({ cls := "java/util/Set", name := "size", desc := "()I" } : Jvm.MethodName) ({ cls := "java/util/TreeMap$KeySet", name := "size", desc := "()I" } : Jvm.MethodName)) ∈ lw_all := lw_g (lw_at lw_m9 1 rfl) rfl
theorem q1999 : (Jvm.Cond.unhidden "java/util/TreeMap$KeySet" "size" "()I") ∈ lw_tbl := lw_at lw_m9 2 rfl
theorem q2000 : (Jvm.Cond.instanceMethod ({ cls := "java/util/TreeMap$KeySet", name := "size", desc := "()I" } : Jvm.MethodName)) ∈ lw_all := lw_g (lw_at lw_m9 3 rfl) rfl
theorem q2001 : (Jvm.Cond.publicMethod ({ cls := "java/util/TreeMap$KeySet", name := "size", desc := "()I" } : Jvm.MethodName)) ∈ lw_tbl := lw_at lw_m9 4 rfl
theorem q2002 : (Jvm.Cond.code ({ cls := "java/util/TreeMap$KeySet", name := "size", desc := "()I" } : Jvm.MethodName) prog_82_method_4_code (1 : Nat) (Option.some Jvm.ClassFile.FieldType.int)) ∈ lw_all := lw_g (lw_at lw_m9 5 rfl) rfl
theorem q2003 : (Jvm.Cond.interfaceEntry "java/util/TreeMap$KeySet" (26 : Nat)) ∈ lw_tbl := lw_at lw_m9 6 rfl
theorem q2084 : (Jvm.Cond.castable "java/util/TreeMap$KeySet" "java/util/Collection") ∈ lw_tbl := lw_at lw_m9 87 rfl
theorem q2085 : (Jvm.Cond.selects "java/util/TreeMap$KeySet" ({ cls := "java/util/Collection", name := "iterator", desc := "()Ljava/util/Iterator;" } : Jvm.MethodName) ({ cls := "java/util/TreeMap$KeySet", name := "iterator", desc := "()Ljava/util/Iterator;" } : Jvm.MethodName)) ∈ lw_all := lw_g (lw_at lw_m9 88 rfl) rfl
theorem q2310 : (Jvm.Cond.castable "java/util/TreeMap$KeySet" "java/util/SortedSet") ∈ lw_tbl := lw_at lw_m10 73 rfl
theorem q2311 : (Jvm.Cond.selects "java/util/TreeMap$KeySet" ({ cls := "java/util/Collection", name := "size", desc := "()I" } : Jvm.MethodName) ({ cls := "java/util/TreeMap$KeySet", name := "size", desc := "()I" } : Jvm.MethodName)) ∈ lw_all := lw_g (lw_at lw_m10 74 rfl) rfl
theorem q2550 : (Jvm.Cond.selects "java/util/TreeMap$KeySet" ({ cls := "java/util/AbstractCollection", name := "size", desc := "()I" } : Jvm.MethodName) ({ cls := "java/util/TreeMap$KeySet", name := "size", desc := "()I" } : Jvm.MethodName)) ∈ lw_all := lw_g (lw_at lw_m11 73 rfl) rfl
theorem q2556 : (Jvm.Cond.selects "java/util/TreeMap$KeySet" ({ cls := "java/util/Set", name := "isEmpty", desc := "()Z" } : Jvm.MethodName) ({ cls := "java/util/TreeMap$KeySet", name := "isEmpty", desc := "()Z" } : Jvm.MethodName)) ∈ lw_all := lw_g (lw_at lw_m11 79 rfl) rfl
theorem q2557 : (Jvm.Cond.unhidden "java/util/TreeMap$KeySet" "isEmpty" "()Z") ∈ lw_tbl := lw_at lw_m11 80 rfl
theorem q2558 : (Jvm.Cond.instanceMethod ({ cls := "java/util/TreeMap$KeySet", name := "isEmpty", desc := "()Z" } : Jvm.MethodName)) ∈ lw_all := lw_g (lw_at lw_m11 81 rfl) rfl
theorem q2559 : (Jvm.Cond.publicMethod ({ cls := "java/util/TreeMap$KeySet", name := "isEmpty", desc := "()Z" } : Jvm.MethodName)) ∈ lw_tbl := lw_at lw_m11 82 rfl
theorem q2560 : (Jvm.Cond.code ({ cls := "java/util/TreeMap$KeySet", name := "isEmpty", desc := "()Z" } : Jvm.MethodName) prog_82_method_5_code (1 : Nat) (Option.some Jvm.ClassFile.FieldType.boolean)) ∈ lw_all := lw_g (lw_at lw_m11 83 rfl) rfl
theorem q2561 : (Jvm.Cond.interfaceEntry "java/util/TreeMap$KeySet" (32 : Nat)) ∈ lw_tbl := lw_at lw_m11 84 rfl
theorem q3548 : (Jvm.Cond.castable "java/util/TreeMap$KeySet" "java/lang/Object") ∈ lw_tbl := lw_at lw_m15 111 rfl
def RJ33 : String := "java/util/NoSuchElementException"
def TJ33 : u_T := fun k => match k with
  | 0 => ("java/lang/Throwable", "cause", "Ljava/lang/Throwable;", false)
  | 1 => ("java/lang/Throwable", "stackTrace", "[Ljava/lang/StackTraceElement;", false)
  | 2 => ("java/lang/Throwable", "suppressedExceptions", "Ljava/util/List;", false)
  | 3 => ("java/lang/Throwable", "detailMessage", "Ljava/lang/String;", false)
  | 4 => ("java/lang/Throwable", "backtrace", "Ljava/lang/Object;", false)
  | _ => ("java/lang/Throwable", "depth", "I", false)
def tyJ33 : Nat → FieldType := fun k => match k with
  | 0 => .object "java/lang/Throwable"
  | 1 => .array (.object "java/lang/StackTraceElement")
  | 2 => .object "java/util/List"
  | 3 => .object "java/lang/String"
  | 4 => .object "java/lang/Object"
  | _ => .int
abbrev wsJ330 : List Cond := u_ws RJ33 TJ33 6
theorem nmJ33 : ∀ a, a < 6 → ∀ b, b < 6 → a ≠ b → (TJ33 a).2.1 ≠ (TJ33 b).2.1 := by decide +kernel
theorem tyJ33_ok : ∀ k, k < 6 → parseFieldDescriptor (TJ33 k).2.2.1 = some (tyJ33 k) := by decide +kernel
theorem q120 : (Jvm.Cond.initialized "java/util/NoSuchElementException") ∈ lw_all := lw_g (lw_at lw_m1 43 rfl) rfl
theorem q475 : (Jvm.Cond.selects "java/util/NoSuchElementException" ({ cls := "java/lang/Throwable", name := "fillInStackTrace", desc := "()Ljava/lang/Throwable;" } : Jvm.MethodName) ({ cls := "java/lang/Throwable", name := "fillInStackTrace", desc := "()Ljava/lang/Throwable;" } : Jvm.MethodName)) ∈ lw_all := lw_g (lw_at lw_m2 158 rfl) rfl
theorem q540 : (Jvm.Cond.selects "java/util/NoSuchElementException" ({ cls := "java/lang/Object", name := "getClass", desc := "()Ljava/lang/Class;" } : Jvm.MethodName) ({ cls := "java/lang/Object", name := "getClass", desc := "()Ljava/lang/Class;" } : Jvm.MethodName)) ∈ lw_all := lw_g (lw_at lw_m2 223 rfl) rfl
theorem q1146 : (Jvm.Cond.instantiable "java/util/NoSuchElementException" (6 : Nat)) ∈ lw_all := lw_g (lw_at lw_m5 109 rfl) rfl
theorem q1147 : (Jvm.Cond.castable "java/util/NoSuchElementException" "java/util/NoSuchElementException") ∈ lw_tbl := lw_at lw_m5 110 rfl
theorem q1148 : (Jvm.Cond.selects "java/util/NoSuchElementException" ({ cls := "java/lang/Throwable", name := "fillInStackTrace", desc := "(I)Ljava/lang/Throwable;" } : Jvm.MethodName) ({ cls := "java/lang/Throwable", name := "fillInStackTrace", desc := "(I)Ljava/lang/Throwable;" } : Jvm.MethodName)) ∈ lw_all := lw_g (lw_at lw_m5 111 rfl) rfl
theorem q1149 : (Jvm.Cond.lays "java/util/NoSuchElementException" "java/lang/Throwable" "cause" "Ljava/lang/Throwable;") ∈ lw_all := lw_g (lw_at lw_m5 112 rfl) rfl
theorem q1150 : (Jvm.Cond.lays "java/util/NoSuchElementException" "java/lang/Throwable" "stackTrace" "[Ljava/lang/StackTraceElement;") ∈ lw_all := lw_g (lw_at lw_m5 113 rfl) rfl
theorem q1151 : (Jvm.Cond.lays "java/util/NoSuchElementException" "java/lang/Throwable" "suppressedExceptions" "Ljava/util/List;") ∈ lw_all := lw_g (lw_at lw_m5 114 rfl) rfl
theorem q1152 : (Jvm.Cond.lays "java/util/NoSuchElementException" "java/lang/Throwable" "detailMessage" "Ljava/lang/String;") ∈ lw_all := lw_g (lw_at lw_m5 115 rfl) rfl
theorem q1153 : (Jvm.Cond.lays "java/util/NoSuchElementException" "java/lang/Throwable" "backtrace" "Ljava/lang/Object;") ∈ lw_all := lw_g (lw_at lw_m5 116 rfl) rfl
theorem q1155 : (Jvm.Cond.instanceMethod ({ cls := "java/util/NoSuchElementException", name := "<init>", desc := "()V" } : Jvm.MethodName)) ∈ lw_all := lw_g (lw_at lw_m5 118 rfl) rfl
theorem q1156 : (Jvm.Cond.code ({ cls := "java/util/NoSuchElementException", name := "<init>", desc := "()V" } : Jvm.MethodName) prog_62_method_1_code (1 : Nat) (Option.none : Option Jvm.ClassFile.FieldType)) ∈ lw_all := lw_g (lw_at lw_m5 119 rfl) rfl
theorem q1157 : (Jvm.Cond.methodLink "java/util/NoSuchElementException" (1 : Nat) ({ cls := "java/lang/RuntimeException", name := "<init>", desc := "()V" } : Jvm.MethodName)) ∈ lw_all := lw_g (lw_at lw_m5 120 rfl) rfl
theorem q1164 : (Jvm.Cond.lays "java/util/NoSuchElementException" "java/lang/Throwable" "depth" "I") ∈ lw_all := lw_g (lw_at lw_m5 127 rfl) rfl
theorem q1165 : (Jvm.Cond.superclass "java/util/NoSuchElementException" "java/lang/RuntimeException") ∈ lw_all := lw_g (lw_at lw_m5 128 rfl) rfl
theorem q3550 : (Jvm.Cond.castable "java/util/NoSuchElementException" "java/lang/Object") ∈ lw_tbl := lw_at lw_m15 113 rfl
def RJ34 : String := "java/util/TreeMap$Entry"
def TJ34 : u_T := fun k => match k with
  | 0 => ("java/util/TreeMap$Entry", "key", "Ljava/lang/Object;", false)
  | 1 => ("java/util/TreeMap$Entry", "value", "Ljava/lang/Object;", false)
  | 2 => ("java/util/TreeMap$Entry", "left", "Ljava/util/TreeMap$Entry;", false)
  | 3 => ("java/util/TreeMap$Entry", "right", "Ljava/util/TreeMap$Entry;", false)
  | 4 => ("java/util/TreeMap$Entry", "parent", "Ljava/util/TreeMap$Entry;", false)
  | _ => ("java/util/TreeMap$Entry", "color", "Z", false)
def tyJ34 : Nat → FieldType := fun k => match k with
  | 0 => .object "java/lang/Object"
  | 1 => .object "java/lang/Object"
  | 2 => .object "java/util/TreeMap$Entry"
  | 3 => .object "java/util/TreeMap$Entry"
  | 4 => .object "java/util/TreeMap$Entry"
  | _ => .boolean
abbrev wsJ340 : List Cond := u_ws RJ34 TJ34 6
theorem nmJ34 : ∀ a, a < 6 → ∀ b, b < 6 → a ≠ b → (TJ34 a).2.1 ≠ (TJ34 b).2.1 := by decide +kernel
theorem tyJ34_ok : ∀ k, k < 6 → parseFieldDescriptor (TJ34 k).2.2.1 = some (tyJ34 k) := by decide +kernel
theorem q122 : (Jvm.Cond.initialized "java/util/TreeMap$Entry") ∈ lw_all := lw_g (lw_at lw_m1 45 rfl) rfl
theorem q546 : (Jvm.Cond.selects "java/util/TreeMap$Entry" ({ cls := "java/lang/Object", name := "getClass", desc := "()Ljava/lang/Class;" } : Jvm.MethodName) ({ cls := "java/lang/Object", name := "getClass", desc := "()Ljava/lang/Class;" } : Jvm.MethodName)) ∈ lw_all := lw_g (lw_at lw_m2 229 rfl) rfl
theorem q1261 : (Jvm.Cond.castable "java/util/TreeMap$Entry" "java/util/Map$Entry") ∈ lw_tbl := lw_at lw_m5 224 rfl
theorem q1262 : (Jvm.Cond.selects "java/util/TreeMap$Entry" ({ cls := "java/util/Map$Entry", name := "getKey", desc := "()Ljava/lang/Object;" } : Jvm.MethodName) ({ cls := "java/util/TreeMap$Entry", name := "getKey", desc := "()Ljava/lang/Object;" } : Jvm.MethodName)) ∈ lw_all := lw_g (lw_at lw_m5 225 rfl) rfl
theorem q1263 : (Jvm.Cond.unhidden "java/util/TreeMap$Entry" "getKey" "()Ljava/lang/Object;") ∈ lw_tbl := lw_at lw_m5 226 rfl
theorem q1264 : (Jvm.Cond.instanceMethod ({ cls := "java/util/TreeMap$Entry", name := "getKey", desc := "()Ljava/lang/Object;" } : Jvm.MethodName)) ∈ lw_all := lw_g (lw_at lw_m5 227 rfl) rfl
theorem q1265 : (Jvm.Cond.publicMethod ({ cls := "java/util/TreeMap$Entry", name := "getKey", desc := "()Ljava/lang/Object;" } : Jvm.MethodName)) ∈ lw_tbl := lw_at lw_m5 228 rfl
theorem q1266 : (Jvm.Cond.code ({ cls := "java/util/TreeMap$Entry", name := "getKey", desc := "()Ljava/lang/Object;" } : Jvm.MethodName) prog_78_method_2_code (1 : Nat) (Option.some (Jvm.ClassFile.FieldType.object "java/lang/Object"))) ∈ lw_all := lw_g (lw_at lw_m5 229 rfl) rfl
theorem q1277 : (Jvm.Cond.selects "java/util/TreeMap$Entry" ({ cls := "java/util/Map$Entry", name := "getValue", desc := "()Ljava/lang/Object;" } : Jvm.MethodName) ({ cls := "java/util/TreeMap$Entry", name := "getValue", desc := "()Ljava/lang/Object;" } : Jvm.MethodName)) ∈ lw_all := lw_g (lw_at lw_m6 0 rfl) rfl
theorem q1278 : (Jvm.Cond.unhidden "java/util/TreeMap$Entry" "getValue" "()Ljava/lang/Object;") ∈ lw_tbl := lw_at lw_m6 1 rfl
theorem q1279 : (Jvm.Cond.instanceMethod ({ cls := "java/util/TreeMap$Entry", name := "getValue", desc := "()Ljava/lang/Object;" } : Jvm.MethodName)) ∈ lw_all := lw_g (lw_at lw_m6 2 rfl) rfl
theorem q1280 : (Jvm.Cond.publicMethod ({ cls := "java/util/TreeMap$Entry", name := "getValue", desc := "()Ljava/lang/Object;" } : Jvm.MethodName)) ∈ lw_tbl := lw_at lw_m6 3 rfl
theorem q1281 : (Jvm.Cond.code ({ cls := "java/util/TreeMap$Entry", name := "getValue", desc := "()Ljava/lang/Object;" } : Jvm.MethodName) prog_78_method_3_code (1 : Nat) (Option.some (Jvm.ClassFile.FieldType.object "java/lang/Object"))) ∈ lw_all := lw_g (lw_at lw_m6 4 rfl) rfl
theorem q1327 : (Jvm.Cond.instantiable "java/util/TreeMap$Entry" (6 : Nat)) ∈ lw_all := lw_g (lw_at lw_m6 50 rfl) rfl
theorem q1329 : (Jvm.Cond.instanceMethod ({ cls := "java/util/TreeMap$Entry", name := "<init>", desc := "(Ljava/lang/Object;Ljava/lang/Object;Ljava/util/TreeMap$Entry;)V" } : Jvm.MethodName)) ∈ lw_all := lw_g (lw_at lw_m6 52 rfl) rfl
theorem q1330 : (Jvm.Cond.code ({ cls := "java/util/TreeMap$Entry", name := "<init>", desc := "(Ljava/lang/Object;Ljava/lang/Object;Ljava/util/TreeMap$Entry;)V" } : Jvm.MethodName) prog_78_method_1_code (4 : Nat) (Option.none : Option Jvm.ClassFile.FieldType)) ∈ lw_all := lw_g (lw_at lw_m6 53 rfl) rfl
theorem q1331 : (Jvm.Cond.methodLink "java/util/TreeMap$Entry" (3 : Nat) ({ cls := "java/lang/Object", name := "<init>", desc := "()V" } : Jvm.MethodName)) ∈ lw_all := lw_g (lw_at lw_m6 54 rfl) rfl
theorem q1332 : (Jvm.Cond.fieldLink "java/util/TreeMap$Entry" (15 : Nat) "java/util/TreeMap$Entry" "key" "Ljava/lang/Object;") ∈ lw_all := lw_g (lw_at lw_m6 55 rfl) rfl
theorem q1339 : (Jvm.Cond.fieldLink "java/util/TreeMap$Entry" (19 : Nat) "java/util/TreeMap$Entry" "value" "Ljava/lang/Object;") ∈ lw_all := lw_g (lw_at lw_m6 62 rfl) rfl
theorem q1348 : (Jvm.Cond.fieldLink "java/util/TreeMap$Entry" (22 : Nat) "java/util/TreeMap$Entry" "parent" "Ljava/util/TreeMap$Entry;") ∈ lw_all := lw_g (lw_at lw_m6 71 rfl) rfl
theorem q1350 : (Jvm.Cond.fieldLink "java/util/TreeMap$Entry" (9 : Nat) "java/util/TreeMap$Entry" "color" "Z") ∈ lw_all := lw_g (lw_at lw_m6 73 rfl) rfl
theorem q1352 : (Jvm.Cond.lays "java/util/TreeMap$Entry" "java/util/TreeMap$Entry" "key" "Ljava/lang/Object;") ∈ lw_all := lw_g (lw_at lw_m6 75 rfl) rfl
theorem q1353 : (Jvm.Cond.soleField "java/util/TreeMap$Entry" "key") ∈ lw_all := lw_g (lw_at lw_m6 76 rfl) rfl
theorem q1354 : (Jvm.Cond.lays "java/util/TreeMap$Entry" "java/util/TreeMap$Entry" "value" "Ljava/lang/Object;") ∈ lw_all := lw_g (lw_at lw_m6 77 rfl) rfl
theorem q1355 : (Jvm.Cond.soleField "java/util/TreeMap$Entry" "value") ∈ lw_all := lw_g (lw_at lw_m6 78 rfl) rfl
theorem q1356 : (Jvm.Cond.lays "java/util/TreeMap$Entry" "java/util/TreeMap$Entry" "left" "Ljava/util/TreeMap$Entry;") ∈ lw_all := lw_g (lw_at lw_m6 79 rfl) rfl
theorem q1357 : (Jvm.Cond.soleField "java/util/TreeMap$Entry" "left") ∈ lw_all := lw_g (lw_at lw_m6 80 rfl) rfl
theorem q1358 : (Jvm.Cond.lays "java/util/TreeMap$Entry" "java/util/TreeMap$Entry" "right" "Ljava/util/TreeMap$Entry;") ∈ lw_all := lw_g (lw_at lw_m6 81 rfl) rfl
theorem q1359 : (Jvm.Cond.soleField "java/util/TreeMap$Entry" "right") ∈ lw_all := lw_g (lw_at lw_m6 82 rfl) rfl
theorem q1360 : (Jvm.Cond.lays "java/util/TreeMap$Entry" "java/util/TreeMap$Entry" "parent" "Ljava/util/TreeMap$Entry;") ∈ lw_all := lw_g (lw_at lw_m6 83 rfl) rfl
theorem q1361 : (Jvm.Cond.soleField "java/util/TreeMap$Entry" "parent") ∈ lw_all := lw_g (lw_at lw_m6 84 rfl) rfl
theorem q1362 : (Jvm.Cond.lays "java/util/TreeMap$Entry" "java/util/TreeMap$Entry" "color" "Z") ∈ lw_all := lw_g (lw_at lw_m6 85 rfl) rfl
theorem q1363 : (Jvm.Cond.soleField "java/util/TreeMap$Entry" "color") ∈ lw_all := lw_g (lw_at lw_m6 86 rfl) rfl
theorem q1364 : (Jvm.Cond.superclass "java/util/TreeMap$Entry" "java/lang/Object") ∈ lw_all := lw_g (lw_at lw_m6 87 rfl) rfl
theorem q3553 : (Jvm.Cond.castable "java/util/TreeMap$Entry" "java/lang/Object") ∈ lw_tbl := lw_at lw_m15 116 rfl
def RJ35 : String := "java/util/Objects"
theorem q123 : (Jvm.Cond.initialized "java/util/Objects") ∈ lw_all := lw_g (lw_at lw_m1 46 rfl) rfl
theorem q1366 : (Jvm.Cond.static ({ cls := "java/util/Objects", name := "requireNonNull", desc := "(Ljava/lang/Object;)Ljava/lang/Object;" } : Jvm.MethodName)) ∈ lw_all := lw_g (lw_at lw_m6 89 rfl) rfl
theorem q1367 : (Jvm.Cond.code ({ cls := "java/util/Objects", name := "requireNonNull", desc := "(Ljava/lang/Object;)Ljava/lang/Object;" } : Jvm.MethodName) prog_63_method_10_code (1 : Nat) (Option.some (Jvm.ClassFile.FieldType.object "java/lang/Object"))) ∈ lw_all := lw_g (lw_at lw_m6 90 rfl) rfl
def RJ36 : String := "java/util/TreeMap$NavigableSubMap$EntrySetView"
theorem q124 : (Jvm.Cond.initialized "java/util/TreeMap$NavigableSubMap$EntrySetView") ∈ lw_all := lw_g (lw_at lw_m1 47 rfl) rfl
theorem q173 : (Jvm.Cond.fieldLinkNest "java/util/TreeMap$NavigableSubMap$EntrySetView" (38 : Nat) "java/util/TreeMap" "modCount" "I" "java/util/TreeMap") ∈ lw_tbl := lw_at lw_m1 96 rfl
theorem q1336 : (Jvm.Cond.fieldLink "java/util/TreeMap$NavigableSubMap$EntrySetView" (59 : Nat) "java/util/TreeMap$Entry" "key" "Ljava/lang/Object;") ∈ lw_all := lw_g (lw_at lw_m6 59 rfl) rfl
theorem q1427 : (Jvm.Cond.instanceMethod ({ cls := "java/util/TreeMap$NavigableSubMap$EntrySetView", name := "<init>", desc := "(Ljava/util/TreeMap$NavigableSubMap;)V" } : Jvm.MethodName)) ∈ lw_all := lw_g (lw_at lw_m6 150 rfl) rfl
theorem q1428 : (Jvm.Cond.code ({ cls := "java/util/TreeMap$NavigableSubMap$EntrySetView", name := "<init>", desc := "(Ljava/util/TreeMap$NavigableSubMap;)V" } : Jvm.MethodName) prog_84_method_1_code (2 : Nat) (Option.none : Option Jvm.ClassFile.FieldType)) ∈ lw_all := lw_g (lw_at lw_m6 151 rfl) rfl
theorem q1429 : (Jvm.Cond.methodLink "java/util/TreeMap$NavigableSubMap$EntrySetView" (7 : Nat) ({ cls := "java/util/AbstractSet", name := "<init>", desc := "()V" } : Jvm.MethodName)) ∈ lw_all := lw_g (lw_at lw_m6 152 rfl) rfl
theorem q1431 : (Jvm.Cond.fieldLink "java/util/TreeMap$NavigableSubMap$EntrySetView" (13 : Nat) "java/util/TreeMap$NavigableSubMap$EntrySetView" "size" "I") ∈ lw_all := lw_g (lw_at lw_m6 154 rfl) rfl
theorem q1432 : (Jvm.Cond.fieldLink "java/util/TreeMap$NavigableSubMap$EntrySetView" (35 : Nat) "java/util/TreeMap$NavigableSubMap$EntrySetView" "sizeModCount" "I") ∈ lw_all := lw_g (lw_at lw_m6 155 rfl) rfl
theorem q1433 : (Jvm.Cond.fieldLink "java/util/TreeMap$NavigableSubMap$EntrySetView" (1 : Nat) "java/util/TreeMap$NavigableSubMap$EntrySetView" "this$0" "Ljava/util/TreeMap$NavigableSubMap;") ∈ lw_all := lw_g (lw_at lw_m6 156 rfl) rfl
theorem q1437 : (Jvm.Cond.soleField "java/util/TreeMap$NavigableSubMap$EntrySetView" "size") ∈ lw_all := lw_g (lw_at lw_m6 160 rfl) rfl
theorem q1439 : (Jvm.Cond.soleField "java/util/TreeMap$NavigableSubMap$EntrySetView" "sizeModCount") ∈ lw_all := lw_g (lw_at lw_m6 162 rfl) rfl
theorem q1441 : (Jvm.Cond.soleField "java/util/TreeMap$NavigableSubMap$EntrySetView" "this$0") ∈ lw_all := lw_g (lw_at lw_m6 164 rfl) rfl
theorem q1981 : (Jvm.Cond.instanceMethod ({ cls := "java/util/TreeMap$NavigableSubMap$EntrySetView", name := "size", desc := "()I" } : Jvm.MethodName)) ∈ lw_all := lw_g (lw_at lw_m8 224 rfl) rfl
theorem q1982 : (Jvm.Cond.publicMethod ({ cls := "java/util/TreeMap$NavigableSubMap$EntrySetView", name := "size", desc := "()I" } : Jvm.MethodName)) ∈ lw_tbl := lw_at lw_m8 225 rfl
theorem q1983 : (Jvm.Cond.code ({ cls := "java/util/TreeMap$NavigableSubMap$EntrySetView", name := "size", desc := "()I" } : Jvm.MethodName) prog_84_method_2_code (2 : Nat) (Option.some Jvm.ClassFile.FieldType.int)) ∈ lw_all := lw_g (lw_at lw_m8 226 rfl) rfl
theorem q1984 : (Jvm.Cond.methodLink "java/util/TreeMap$NavigableSubMap$EntrySetView" (30 : Nat) ({ cls := "java/util/TreeMap", name := "size", desc := "()I" } : Jvm.MethodName)) ∈ lw_all := lw_g (lw_at lw_m8 227 rfl) rfl
theorem q1985 : (Jvm.Cond.methodLink "java/util/TreeMap$NavigableSubMap$EntrySetView" (41 : Nat) ({ cls := "java/util/TreeMap$NavigableSubMap$EntrySetView", name := "iterator", desc := "()Ljava/util/Iterator;" } : Jvm.MethodName)) ∈ lw_all := lw_g (lw_at lw_m8 228 rfl) rfl
theorem q1986 : (Jvm.Cond.sameMethod "java/util/TreeMap$NavigableSubMap$EntrySetView" "java/util/AbstractCollection" "iterator" "()Ljava/util/Iterator;") ∈ lw_all := lw_g (lw_at lw_m8 229 rfl) rfl
theorem q1988 : (Jvm.Cond.interfaceEntry "java/util/TreeMap$NavigableSubMap$EntrySetView" (45 : Nat)) ∈ lw_tbl := lw_at lw_m8 231 rfl
theorem q1989 : (Jvm.Cond.methodLink "java/util/TreeMap$NavigableSubMap$EntrySetView" (45 : Nat) ({ cls := "java/util/Iterator", name := "hasNext", desc := "()Z" } : Jvm.MethodName)) ∈ lw_all := lw_g (lw_at lw_m8 232 rfl) rfl
theorem q1990 : (Jvm.Cond.interfaceEntry "java/util/TreeMap$NavigableSubMap$EntrySetView" (51 : Nat)) ∈ lw_tbl := lw_at lw_m8 233 rfl
theorem q1991 : (Jvm.Cond.methodLink "java/util/TreeMap$NavigableSubMap$EntrySetView" (51 : Nat) ({ cls := "java/util/Iterator", name := "next", desc := "()Ljava/lang/Object;" } : Jvm.MethodName)) ∈ lw_all := lw_g (lw_at lw_m8 234 rfl) rfl
theorem q2243 : (Jvm.Cond.fieldLink "java/util/TreeMap$NavigableSubMap$EntrySetView" (26 : Nat) "java/util/TreeMap$NavigableSubMap" "m" "Ljava/util/TreeMap;") ∈ lw_all := lw_g (lw_at lw_m10 6 rfl) rfl
theorem q2251 : (Jvm.Cond.fieldLink "java/util/TreeMap$NavigableSubMap$EntrySetView" (17 : Nat) "java/util/TreeMap$NavigableSubMap" "fromStart" "Z") ∈ lw_all := lw_g (lw_at lw_m10 14 rfl) rfl
theorem q2255 : (Jvm.Cond.fieldLink "java/util/TreeMap$NavigableSubMap$EntrySetView" (23 : Nat) "java/util/TreeMap$NavigableSubMap" "toEnd" "Z") ∈ lw_all := lw_g (lw_at lw_m10 18 rfl) rfl
theorem q2531 : (Jvm.Cond.instanceMethod ({ cls := "java/util/TreeMap$NavigableSubMap$EntrySetView", name := "isEmpty", desc := "()Z" } : Jvm.MethodName)) ∈ lw_all := lw_g (lw_at lw_m11 54 rfl) rfl
theorem q2532 : (Jvm.Cond.publicMethod ({ cls := "java/util/TreeMap$NavigableSubMap$EntrySetView", name := "isEmpty", desc := "()Z" } : Jvm.MethodName)) ∈ lw_tbl := lw_at lw_m11 55 rfl
theorem q2533 : (Jvm.Cond.code ({ cls := "java/util/TreeMap$NavigableSubMap$EntrySetView", name := "isEmpty", desc := "()Z" } : Jvm.MethodName) prog_84_method_3_code (2 : Nat) (Option.some Jvm.ClassFile.FieldType.boolean)) ∈ lw_all := lw_g (lw_at lw_m11 56 rfl) rfl
theorem q2534 : (Jvm.Cond.methodLink "java/util/TreeMap$NavigableSubMap$EntrySetView" (55 : Nat) ({ cls := "java/util/TreeMap$NavigableSubMap", name := "absLowest", desc := "()Ljava/util/TreeMap$Entry;" } : Jvm.MethodName)) ∈ lw_all := lw_g (lw_at lw_m11 57 rfl) rfl
theorem q2535 : (Jvm.Cond.methodLink "java/util/TreeMap$NavigableSubMap$EntrySetView" (65 : Nat) ({ cls := "java/util/TreeMap$NavigableSubMap", name := "tooHigh", desc := "(Ljava/lang/Object;)Z" } : Jvm.MethodName)) ∈ lw_all := lw_g (lw_at lw_m11 58 rfl) rfl
def RJ37 : String := "java/util/TreeMap$AscendingSubMap$AscendingEntrySetView"
def TJ37 : u_T := fun k => match k with
  | 0 => ("java/util/TreeMap$NavigableSubMap$EntrySetView", "size", "I", false)
  | 1 => ("java/util/TreeMap$NavigableSubMap$EntrySetView", "sizeModCount", "I", false)
  | 2 => ("java/util/TreeMap$NavigableSubMap$EntrySetView", "this$0", "Ljava/util/TreeMap$NavigableSubMap;", true)
  | _ => ("java/util/TreeMap$AscendingSubMap$AscendingEntrySetView", "this$0", "Ljava/util/TreeMap$AscendingSubMap;", true)
def tyJ37 : Nat → FieldType := fun k => match k with
  | 0 => .int
  | 1 => .int
  | 2 => .object "java/util/TreeMap$NavigableSubMap"
  | _ => .object "java/util/TreeMap$AscendingSubMap"
abbrev wsJ370 : List Cond := u_ws RJ37 TJ37 4
-- two fields of one name: no nmJ37
theorem tyJ37_ok : ∀ k, k < 4 → parseFieldDescriptor (TJ37 k).2.2.1 = some (tyJ37 k) := by decide +kernel
theorem q125 : (Jvm.Cond.initialized "java/util/TreeMap$AscendingSubMap$AscendingEntrySetView") ∈ lw_all := lw_g (lw_at lw_m1 48 rfl) rfl
theorem q545 : (Jvm.Cond.selects "java/util/TreeMap$AscendingSubMap$AscendingEntrySetView" ({ cls := "java/lang/Object", name := "getClass", desc := "()Ljava/lang/Class;" } : Jvm.MethodName) ({ cls := "java/lang/Object", name := "getClass", desc := "()Ljava/lang/Class;" } : Jvm.MethodName)) ∈ lw_all := lw_g (lw_at lw_m2 228 rfl) rfl
theorem q651 : (Jvm.Cond.castable "java/util/TreeMap$AscendingSubMap$AscendingEntrySetView" "java/util/Set") ∈ lw_tbl := lw_at lw_m3 94 rfl
theorem q652 : (Jvm.Cond.selects "java/util/TreeMap$AscendingSubMap$AscendingEntrySetView" ({ cls := "java/util/Set", name := "iterator", desc := "()Ljava/util/Iterator;" } : Jvm.MethodName) ({ cls := "java/util/TreeMap$AscendingSubMap$AscendingEntrySetView", name := "iterator", desc := "()Ljava/util/Iterator;" } : Jvm.MethodName)) ∈ lw_all := lw_g (lw_at lw_m3 95 rfl) rfl
theorem q653 : (Jvm.Cond.unhidden "java/util/TreeMap$AscendingSubMap$AscendingEntrySetView" "iterator" "()Ljava/util/Iterator;") ∈ lw_tbl := lw_at lw_m3 96 rfl
theorem q654 : (Jvm.Cond.instanceMethod ({ cls := "java/util/TreeMap$AscendingSubMap$AscendingEntrySetView", name := "iterator", desc := "()Ljava/util/Iterator;" } : Jvm.MethodName)) ∈ lw_all := lw_g (lw_at lw_m3 97 rfl) rfl
theorem q655 : (Jvm.Cond.publicMethod ({ cls := "java/util/TreeMap$AscendingSubMap$AscendingEntrySetView", name := "iterator", desc := "()Ljava/util/Iterator;" } : Jvm.MethodName)) ∈ lw_tbl := lw_at lw_m3 98 rfl
theorem q656 : (Jvm.Cond.code ({ cls := "java/util/TreeMap$AscendingSubMap$AscendingEntrySetView", name := "iterator", desc := "()Ljava/util/Iterator;" } : Jvm.MethodName) prog_77_method_2_code (1 : Nat) (Option.some (Jvm.ClassFile.FieldType.object "java/util/Iterator"))) ∈ lw_all := lw_g (lw_at lw_m3 99 rfl) rfl
theorem q657 : (Jvm.Cond.classLink "java/util/TreeMap$AscendingSubMap$AscendingEntrySetView" (13 : Nat) "java/util/TreeMap$NavigableSubMap$SubMapEntryIterator") ∈ lw_all := lw_g (lw_at lw_m3 100 rfl) rfl
theorem q659 : (Jvm.Cond.methodLink "java/util/TreeMap$AscendingSubMap$AscendingEntrySetView" (15 : Nat) ({ cls := "java/util/TreeMap$AscendingSubMap", name := "absLowest", desc := "()Ljava/util/TreeMap$Entry;" } : Jvm.MethodName)) ∈ lw_all := lw_g (lw_at lw_m3 102 rfl) rfl
theorem q946 : (Jvm.Cond.methodLink "java/util/TreeMap$AscendingSubMap$AscendingEntrySetView" (21 : Nat) ({ cls := "java/util/TreeMap$AscendingSubMap", name := "absHighFence", desc := "()Ljava/util/TreeMap$Entry;" } : Jvm.MethodName)) ∈ lw_all := lw_g (lw_at lw_m4 149 rfl) rfl
theorem q952 : (Jvm.Cond.methodLink "java/util/TreeMap$AscendingSubMap$AscendingEntrySetView" (24 : Nat) ({ cls := "java/util/TreeMap$NavigableSubMap$SubMapEntryIterator", name := "<init>", desc := "(Ljava/util/TreeMap$NavigableSubMap;Ljava/util/TreeMap$Entry;Ljava/util/TreeMap$Entry;)V" } : Jvm.MethodName)) ∈ lw_all := lw_g (lw_at lw_m4 155 rfl) rfl
theorem q1422 : (Jvm.Cond.instantiable "java/util/TreeMap$AscendingSubMap$AscendingEntrySetView" (4 : Nat)) ∈ lw_all := lw_g (lw_at lw_m6 145 rfl) rfl
theorem q1424 : (Jvm.Cond.instanceMethod ({ cls := "java/util/TreeMap$AscendingSubMap$AscendingEntrySetView", name := "<init>", desc := "(Ljava/util/TreeMap$AscendingSubMap;)V" } : Jvm.MethodName)) ∈ lw_all := lw_g (lw_at lw_m6 147 rfl) rfl
theorem q1425 : (Jvm.Cond.code ({ cls := "java/util/TreeMap$AscendingSubMap$AscendingEntrySetView", name := "<init>", desc := "(Ljava/util/TreeMap$AscendingSubMap;)V" } : Jvm.MethodName) prog_77_method_1_code (2 : Nat) (Option.none : Option Jvm.ClassFile.FieldType)) ∈ lw_all := lw_g (lw_at lw_m6 148 rfl) rfl
theorem q1426 : (Jvm.Cond.methodLink "java/util/TreeMap$AscendingSubMap$AscendingEntrySetView" (7 : Nat) ({ cls := "java/util/TreeMap$NavigableSubMap$EntrySetView", name := "<init>", desc := "(Ljava/util/TreeMap$NavigableSubMap;)V" } : Jvm.MethodName)) ∈ lw_all := lw_g (lw_at lw_m6 149 rfl) rfl
theorem q1430 : (Jvm.Cond.fieldLink "java/util/TreeMap$AscendingSubMap$AscendingEntrySetView" (1 : Nat) "java/util/TreeMap$AscendingSubMap$AscendingEntrySetView" "this$0" "Ljava/util/TreeMap$AscendingSubMap;") ∈ lw_all := lw_g (lw_at lw_m6 153 rfl) rfl
theorem q1434 : (Jvm.Cond.laysFinal "java/util/TreeMap$AscendingSubMap$AscendingEntrySetView" "java/util/TreeMap$AscendingSubMap$AscendingEntrySetView" "this$0" "Ljava/util/TreeMap$AscendingSubMap;") ∈ lw_all := lw_g (lw_at lw_m6 157 rfl) rfl
theorem q1435 : (Jvm.Cond.soleField "java/util/TreeMap$AscendingSubMap$AscendingEntrySetView" "this$0") ∈ lw_all := lw_g (lw_at lw_m6 158 rfl) rfl
theorem q1436 : (Jvm.Cond.lays "java/util/TreeMap$AscendingSubMap$AscendingEntrySetView" "java/util/TreeMap$NavigableSubMap$EntrySetView" "size" "I") ∈ lw_all := lw_g (lw_at lw_m6 159 rfl) rfl
theorem q1438 : (Jvm.Cond.lays "java/util/TreeMap$AscendingSubMap$AscendingEntrySetView" "java/util/TreeMap$NavigableSubMap$EntrySetView" "sizeModCount" "I") ∈ lw_all := lw_g (lw_at lw_m6 161 rfl) rfl
theorem q1440 : (Jvm.Cond.laysFinal "java/util/TreeMap$AscendingSubMap$AscendingEntrySetView" "java/util/TreeMap$NavigableSubMap$EntrySetView" "this$0" "Ljava/util/TreeMap$NavigableSubMap;") ∈ lw_all := lw_g (lw_at lw_m6 163 rfl) rfl
theorem q1442 : (Jvm.Cond.superclass "java/util/TreeMap$AscendingSubMap$AscendingEntrySetView" "java/util/TreeMap$NavigableSubMap$EntrySetView") ∈ lw_all := lw_g (lw_at lw_m6 165 rfl) rfl
theorem q1447 : (Jvm.Cond.selects "java/util/TreeMap$AscendingSubMap$AscendingEntrySetView" ({ cls := "java/util/Set", name := "clear", desc := "()V" } : Jvm.MethodName) ({ cls := "java/util/AbstractCollection", name := "clear", desc := "()V" } : Jvm.MethodName)) ∈ lw_all := lw_g (lw_at lw_m6 170 rfl) rfl
theorem q1448 : (Jvm.Cond.unhidden "java/util/TreeMap$AscendingSubMap$AscendingEntrySetView" "clear" "()V") ∈ lw_tbl := lw_at lw_m6 171 rfl
theorem q1512 : (Jvm.Cond.selects "java/util/TreeMap$AscendingSubMap$AscendingEntrySetView" ({ cls := "java/util/AbstractCollection", name := "iterator", desc := "()Ljava/util/Iterator;" } : Jvm.MethodName) ({ cls := "java/util/TreeMap$AscendingSubMap$AscendingEntrySetView", name := "iterator", desc := "()Ljava/util/Iterator;" } : Jvm.MethodName)) ∈ lw_all := lw_g (lw_at lw_m6 235 rfl) rfl
theorem q1979 : (Jvm.Cond.selects "java/util/TreeMap$AscendingSubMap$AscendingEntrySetView" ({ cls := "java/util/Set", name := "size", desc := "()I" } : Jvm.MethodName) ({ cls := "java/util/TreeMap$NavigableSubMap$EntrySetView", name := "size", desc := "()I" } : Jvm.MethodName)) ∈ lw_all := lw_g (lw_at lw_m8 222 rfl) rfl
theorem q1980 : (Jvm.Cond.unhidden "java/util/TreeMap$AscendingSubMap$AscendingEntrySetView" "size" "()I") ∈ lw_tbl := lw_at lw_m8 223 rfl
theorem q1987 : (Jvm.Cond.selects "java/util/TreeMap$AscendingSubMap$AscendingEntrySetView" ({ cls := "java/util/TreeMap$NavigableSubMap$EntrySetView", name := "iterator", desc := "()Ljava/util/Iterator;" } : Jvm.MethodName) ({ cls := "java/util/TreeMap$AscendingSubMap$AscendingEntrySetView", name := "iterator", desc := "()Ljava/util/Iterator;" } : Jvm.MethodName)) ∈ lw_all := lw_g (lw_at lw_m8 230 rfl) rfl
theorem q2080 : (Jvm.Cond.castable "java/util/TreeMap$AscendingSubMap$AscendingEntrySetView" "java/util/Collection") ∈ lw_tbl := lw_at lw_m9 83 rfl
theorem q2081 : (Jvm.Cond.selects "java/util/TreeMap$AscendingSubMap$AscendingEntrySetView" ({ cls := "java/util/Collection", name := "iterator", desc := "()Ljava/util/Iterator;" } : Jvm.MethodName) ({ cls := "java/util/TreeMap$AscendingSubMap$AscendingEntrySetView", name := "iterator", desc := "()Ljava/util/Iterator;" } : Jvm.MethodName)) ∈ lw_all := lw_g (lw_at lw_m9 84 rfl) rfl
theorem q2529 : (Jvm.Cond.selects "java/util/TreeMap$AscendingSubMap$AscendingEntrySetView" ({ cls := "java/util/Set", name := "isEmpty", desc := "()Z" } : Jvm.MethodName) ({ cls := "java/util/TreeMap$NavigableSubMap$EntrySetView", name := "isEmpty", desc := "()Z" } : Jvm.MethodName)) ∈ lw_all := lw_g (lw_at lw_m11 52 rfl) rfl
theorem q2530 : (Jvm.Cond.unhidden "java/util/TreeMap$AscendingSubMap$AscendingEntrySetView" "isEmpty" "()Z") ∈ lw_tbl := lw_at lw_m11 53 rfl
theorem q2548 : (Jvm.Cond.selects "java/util/TreeMap$AscendingSubMap$AscendingEntrySetView" ({ cls := "java/util/AbstractCollection", name := "size", desc := "()I" } : Jvm.MethodName) ({ cls := "java/util/TreeMap$NavigableSubMap$EntrySetView", name := "size", desc := "()I" } : Jvm.MethodName)) ∈ lw_all := lw_g (lw_at lw_m11 71 rfl) rfl
theorem q3565 : (Jvm.Cond.castable "java/util/TreeMap$AscendingSubMap$AscendingEntrySetView" "java/lang/Object") ∈ lw_tbl := lw_at lw_m15 128 rfl
def RJ38 : String := "java/util/ArrayDeque$DeqIterator"
def TJ38 : u_T := fun k => match k with
  | 0 => ("java/util/ArrayDeque$DeqIterator", "cursor", "I", false)
  | 1 => ("java/util/ArrayDeque$DeqIterator", "remaining", "I", false)
  | 2 => ("java/util/ArrayDeque$DeqIterator", "lastRet", "I", false)
  | _ => ("java/util/ArrayDeque$DeqIterator", "this$0", "Ljava/util/ArrayDeque;", true)
def tyJ38 : Nat → FieldType := fun k => match k with
  | 0 => .int
  | 1 => .int
  | 2 => .int
  | _ => .object "java/util/ArrayDeque"
abbrev wsJ380 : List Cond := u_ws RJ38 TJ38 4
theorem nmJ38 : ∀ a, a < 4 → ∀ b, b < 4 → a ≠ b → (TJ38 a).2.1 ≠ (TJ38 b).2.1 := by decide +kernel
theorem tyJ38_ok : ∀ k, k < 4 → parseFieldDescriptor (TJ38 k).2.2.1 = some (tyJ38 k) := by decide +kernel
theorem q126 : (Jvm.Cond.initialized "java/util/ArrayDeque$DeqIterator") ∈ lw_all := lw_g (lw_at lw_m1 49 rfl) rfl
theorem q347 : (Jvm.Cond.fieldLink "java/util/ArrayDeque$DeqIterator" (35 : Nat) "java/util/ArrayDeque" "elements" "[Ljava/lang/Object;") ∈ lw_all := lw_g (lw_at lw_m2 30 rfl) rfl
theorem q348 : (Jvm.Cond.fieldLink "java/util/ArrayDeque$DeqIterator" (26 : Nat) "java/util/ArrayDeque" "head" "I") ∈ lw_all := lw_g (lw_at lw_m2 31 rfl) rfl
theorem q539 : (Jvm.Cond.selects "java/util/ArrayDeque$DeqIterator" ({ cls := "java/lang/Object", name := "getClass", desc := "()Ljava/lang/Class;" } : Jvm.MethodName) ({ cls := "java/lang/Object", name := "getClass", desc := "()Ljava/lang/Class;" } : Jvm.MethodName)) ∈ lw_all := lw_g (lw_at lw_m2 222 rfl) rfl
theorem q1099 : (Jvm.Cond.castable "java/util/ArrayDeque$DeqIterator" "java/util/Iterator") ∈ lw_tbl := lw_at lw_m5 62 rfl
theorem q1100 : (Jvm.Cond.selects "java/util/ArrayDeque$DeqIterator" ({ cls := "java/util/Iterator", name := "hasNext", desc := "()Z" } : Jvm.MethodName) ({ cls := "java/util/ArrayDeque$DeqIterator", name := "hasNext", desc := "()Z" } : Jvm.MethodName)) ∈ lw_all := lw_g (lw_at lw_m5 63 rfl) rfl
theorem q1101 : (Jvm.Cond.unhidden "java/util/ArrayDeque$DeqIterator" "hasNext" "()Z") ∈ lw_tbl := lw_at lw_m5 64 rfl
theorem q1102 : (Jvm.Cond.instanceMethod ({ cls := "java/util/ArrayDeque$DeqIterator", name := "hasNext", desc := "()Z" } : Jvm.MethodName)) ∈ lw_all := lw_g (lw_at lw_m5 65 rfl) rfl
theorem q1103 : (Jvm.Cond.publicMethod ({ cls := "java/util/ArrayDeque$DeqIterator", name := "hasNext", desc := "()Z" } : Jvm.MethodName)) ∈ lw_tbl := lw_at lw_m5 66 rfl
theorem q1104 : (Jvm.Cond.code ({ cls := "java/util/ArrayDeque$DeqIterator", name := "hasNext", desc := "()Z" } : Jvm.MethodName) prog_50_method_2_code (1 : Nat) (Option.some Jvm.ClassFile.FieldType.boolean)) ∈ lw_all := lw_g (lw_at lw_m5 67 rfl) rfl
theorem q1140 : (Jvm.Cond.selects "java/util/ArrayDeque$DeqIterator" ({ cls := "java/util/Iterator", name := "next", desc := "()Ljava/lang/Object;" } : Jvm.MethodName) ({ cls := "java/util/ArrayDeque$DeqIterator", name := "next", desc := "()Ljava/lang/Object;" } : Jvm.MethodName)) ∈ lw_all := lw_g (lw_at lw_m5 103 rfl) rfl
theorem q1141 : (Jvm.Cond.unhidden "java/util/ArrayDeque$DeqIterator" "next" "()Ljava/lang/Object;") ∈ lw_tbl := lw_at lw_m5 104 rfl
theorem q1142 : (Jvm.Cond.instanceMethod ({ cls := "java/util/ArrayDeque$DeqIterator", name := "next", desc := "()Ljava/lang/Object;" } : Jvm.MethodName)) ∈ lw_all := lw_g (lw_at lw_m5 105 rfl) rfl
theorem q1143 : (Jvm.Cond.publicMethod ({ cls := "java/util/ArrayDeque$DeqIterator", name := "next", desc := "()Ljava/lang/Object;" } : Jvm.MethodName)) ∈ lw_tbl := lw_at lw_m5 106 rfl
theorem q1144 : (Jvm.Cond.code ({ cls := "java/util/ArrayDeque$DeqIterator", name := "next", desc := "()Ljava/lang/Object;" } : Jvm.MethodName) prog_50_method_3_code (3 : Nat) (Option.some (Jvm.ClassFile.FieldType.object "java/lang/Object"))) ∈ lw_all := lw_g (lw_at lw_m5 107 rfl) rfl
theorem q1145 : (Jvm.Cond.classLink "java/util/ArrayDeque$DeqIterator" (32 : Nat) "java/util/NoSuchElementException") ∈ lw_all := lw_g (lw_at lw_m5 108 rfl) rfl
theorem q1154 : (Jvm.Cond.methodLink "java/util/ArrayDeque$DeqIterator" (34 : Nat) ({ cls := "java/util/NoSuchElementException", name := "<init>", desc := "()V" } : Jvm.MethodName)) ∈ lw_all := lw_g (lw_at lw_m5 117 rfl) rfl
theorem q1166 : (Jvm.Cond.methodLink "java/util/ArrayDeque$DeqIterator" (39 : Nat) ({ cls := "java/util/ArrayDeque", name := "nonNullElementAt", desc := "([Ljava/lang/Object;I)Ljava/lang/Object;" } : Jvm.MethodName)) ∈ lw_all := lw_g (lw_at lw_m5 129 rfl) rfl
theorem q1169 : (Jvm.Cond.methodLink "java/util/ArrayDeque$DeqIterator" (43 : Nat) ({ cls := "java/util/ArrayDeque", name := "inc", desc := "(II)I" } : Jvm.MethodName)) ∈ lw_all := lw_g (lw_at lw_m5 132 rfl) rfl
theorem q1459 : (Jvm.Cond.instantiable "java/util/ArrayDeque$DeqIterator" (4 : Nat)) ∈ lw_all := lw_g (lw_at lw_m6 182 rfl) rfl
theorem q1461 : (Jvm.Cond.instanceMethod ({ cls := "java/util/ArrayDeque$DeqIterator", name := "<init>", desc := "(Ljava/util/ArrayDeque;)V" } : Jvm.MethodName)) ∈ lw_all := lw_g (lw_at lw_m6 184 rfl) rfl
theorem q1462 : (Jvm.Cond.code ({ cls := "java/util/ArrayDeque$DeqIterator", name := "<init>", desc := "(Ljava/util/ArrayDeque;)V" } : Jvm.MethodName) prog_50_method_1_code (2 : Nat) (Option.none : Option Jvm.ClassFile.FieldType)) ∈ lw_all := lw_g (lw_at lw_m6 185 rfl) rfl
theorem q1463 : (Jvm.Cond.methodLink "java/util/ArrayDeque$DeqIterator" (7 : Nat) ({ cls := "java/lang/Object", name := "<init>", desc := "()V" } : Jvm.MethodName)) ∈ lw_all := lw_g (lw_at lw_m6 186 rfl) rfl
theorem q1464 : (Jvm.Cond.methodLink "java/util/ArrayDeque$DeqIterator" (13 : Nat) ({ cls := "java/util/ArrayDeque", name := "size", desc := "()I" } : Jvm.MethodName)) ∈ lw_all := lw_g (lw_at lw_m6 187 rfl) rfl
theorem q1471 : (Jvm.Cond.fieldLink "java/util/ArrayDeque$DeqIterator" (29 : Nat) "java/util/ArrayDeque$DeqIterator" "cursor" "I") ∈ lw_all := lw_g (lw_at lw_m6 194 rfl) rfl
theorem q1472 : (Jvm.Cond.fieldLink "java/util/ArrayDeque$DeqIterator" (19 : Nat) "java/util/ArrayDeque$DeqIterator" "remaining" "I") ∈ lw_all := lw_g (lw_at lw_m6 195 rfl) rfl
theorem q1473 : (Jvm.Cond.fieldLink "java/util/ArrayDeque$DeqIterator" (23 : Nat) "java/util/ArrayDeque$DeqIterator" "lastRet" "I") ∈ lw_all := lw_g (lw_at lw_m6 196 rfl) rfl
theorem q1474 : (Jvm.Cond.fieldLink "java/util/ArrayDeque$DeqIterator" (1 : Nat) "java/util/ArrayDeque$DeqIterator" "this$0" "Ljava/util/ArrayDeque;") ∈ lw_all := lw_g (lw_at lw_m6 197 rfl) rfl
theorem q1475 : (Jvm.Cond.lays "java/util/ArrayDeque$DeqIterator" "java/util/ArrayDeque$DeqIterator" "cursor" "I") ∈ lw_all := lw_g (lw_at lw_m6 198 rfl) rfl
theorem q1476 : (Jvm.Cond.soleField "java/util/ArrayDeque$DeqIterator" "cursor") ∈ lw_all := lw_g (lw_at lw_m6 199 rfl) rfl
theorem q1477 : (Jvm.Cond.lays "java/util/ArrayDeque$DeqIterator" "java/util/ArrayDeque$DeqIterator" "remaining" "I") ∈ lw_all := lw_g (lw_at lw_m6 200 rfl) rfl
theorem q1478 : (Jvm.Cond.soleField "java/util/ArrayDeque$DeqIterator" "remaining") ∈ lw_all := lw_g (lw_at lw_m6 201 rfl) rfl
theorem q1479 : (Jvm.Cond.lays "java/util/ArrayDeque$DeqIterator" "java/util/ArrayDeque$DeqIterator" "lastRet" "I") ∈ lw_all := lw_g (lw_at lw_m6 202 rfl) rfl
theorem q1480 : (Jvm.Cond.soleField "java/util/ArrayDeque$DeqIterator" "lastRet") ∈ lw_all := lw_g (lw_at lw_m6 203 rfl) rfl
theorem q1481 : (Jvm.Cond.laysFinal "java/util/ArrayDeque$DeqIterator" "java/util/ArrayDeque$DeqIterator" "this$0" "Ljava/util/ArrayDeque;") ∈ lw_all := lw_g (lw_at lw_m6 204 rfl) rfl
theorem q1482 : (Jvm.Cond.soleField "java/util/ArrayDeque$DeqIterator" "this$0") ∈ lw_all := lw_g (lw_at lw_m6 205 rfl) rfl
theorem q1483 : (Jvm.Cond.superclass "java/util/ArrayDeque$DeqIterator" "java/lang/Object") ∈ lw_all := lw_g (lw_at lw_m6 206 rfl) rfl
theorem q1539 : (Jvm.Cond.selects "java/util/ArrayDeque$DeqIterator" ({ cls := "java/util/Iterator", name := "remove", desc := "()V" } : Jvm.MethodName) ({ cls := "java/util/ArrayDeque$DeqIterator", name := "remove", desc := "()V" } : Jvm.MethodName)) ∈ lw_all := lw_g (lw_at lw_m7 22 rfl) rfl
theorem q1540 : (Jvm.Cond.unhidden "java/util/ArrayDeque$DeqIterator" "remove" "()V") ∈ lw_tbl := lw_at lw_m7 23 rfl
theorem q1541 : (Jvm.Cond.instanceMethod ({ cls := "java/util/ArrayDeque$DeqIterator", name := "remove", desc := "()V" } : Jvm.MethodName)) ∈ lw_all := lw_g (lw_at lw_m7 24 rfl) rfl
theorem q1542 : (Jvm.Cond.publicMethod ({ cls := "java/util/ArrayDeque$DeqIterator", name := "remove", desc := "()V" } : Jvm.MethodName)) ∈ lw_tbl := lw_at lw_m7 25 rfl
theorem q1543 : (Jvm.Cond.code ({ cls := "java/util/ArrayDeque$DeqIterator", name := "remove", desc := "()V" } : Jvm.MethodName) prog_50_method_5_code (1 : Nat) (Option.none : Option Jvm.ClassFile.FieldType)) ∈ lw_all := lw_g (lw_at lw_m7 26 rfl) rfl
theorem q1544 : (Jvm.Cond.classLink "java/util/ArrayDeque$DeqIterator" (50 : Nat) "java/lang/IllegalStateException") ∈ lw_all := lw_g (lw_at lw_m7 27 rfl) rfl
theorem q1545 : (Jvm.Cond.methodLink "java/util/ArrayDeque$DeqIterator" (52 : Nat) ({ cls := "java/lang/IllegalStateException", name := "<init>", desc := "()V" } : Jvm.MethodName)) ∈ lw_all := lw_g (lw_at lw_m7 28 rfl) rfl
theorem q1549 : (Jvm.Cond.methodLink "java/util/ArrayDeque$DeqIterator" (53 : Nat) ({ cls := "java/util/ArrayDeque", name := "delete", desc := "(I)Z" } : Jvm.MethodName)) ∈ lw_all := lw_g (lw_at lw_m7 32 rfl) rfl
theorem q1556 : (Jvm.Cond.methodLink "java/util/ArrayDeque$DeqIterator" (57 : Nat) ({ cls := "java/util/ArrayDeque$DeqIterator", name := "postDelete", desc := "(Z)V" } : Jvm.MethodName)) ∈ lw_all := lw_g (lw_at lw_m7 39 rfl) rfl
theorem q1557 : (Jvm.Cond.instanceMethod ({ cls := "java/util/ArrayDeque$DeqIterator", name := "postDelete", desc := "(Z)V" } : Jvm.MethodName)) ∈ lw_all := lw_g (lw_at lw_m7 40 rfl) rfl
theorem q1558 : (Jvm.Cond.selects "java/util/ArrayDeque$DeqIterator" ({ cls := "java/util/ArrayDeque$DeqIterator", name := "postDelete", desc := "(Z)V" } : Jvm.MethodName) ({ cls := "java/util/ArrayDeque$DeqIterator", name := "postDelete", desc := "(Z)V" } : Jvm.MethodName)) ∈ lw_all := lw_g (lw_at lw_m7 41 rfl) rfl
theorem q1559 : (Jvm.Cond.code ({ cls := "java/util/ArrayDeque$DeqIterator", name := "postDelete", desc := "(Z)V" } : Jvm.MethodName) prog_50_method_4_code (2 : Nat) (Option.none : Option Jvm.ClassFile.FieldType)) ∈ lw_all := lw_g (lw_at lw_m7 42 rfl) rfl
theorem q1560 : (Jvm.Cond.methodLink "java/util/ArrayDeque$DeqIterator" (47 : Nat) ({ cls := "java/util/ArrayDeque", name := "dec", desc := "(II)I" } : Jvm.MethodName)) ∈ lw_all := lw_g (lw_at lw_m7 43 rfl) rfl
theorem q3558 : (Jvm.Cond.castable "java/util/ArrayDeque$DeqIterator" "java/lang/Object") ∈ lw_tbl := lw_at lw_m15 121 rfl
def RJ39 : String := "java/util/PriorityQueue$Itr"
def TJ39 : u_T := fun k => match k with
  | 0 => ("java/util/PriorityQueue$Itr", "cursor", "I", false)
  | 1 => ("java/util/PriorityQueue$Itr", "lastRet", "I", false)
  | 2 => ("java/util/PriorityQueue$Itr", "forgetMeNot", "Ljava/util/ArrayDeque;", false)
  | 3 => ("java/util/PriorityQueue$Itr", "lastRetElt", "Ljava/lang/Object;", false)
  | 4 => ("java/util/PriorityQueue$Itr", "expectedModCount", "I", false)
  | _ => ("java/util/PriorityQueue$Itr", "this$0", "Ljava/util/PriorityQueue;", true)
def tyJ39 : Nat → FieldType := fun k => match k with
  | 0 => .int
  | 1 => .int
  | 2 => .object "java/util/ArrayDeque"
  | 3 => .object "java/lang/Object"
  | 4 => .int
  | _ => .object "java/util/PriorityQueue"
abbrev wsJ390 : List Cond := u_ws RJ39 TJ39 6
theorem nmJ39 : ∀ a, a < 6 → ∀ b, b < 6 → a ≠ b → (TJ39 a).2.1 ≠ (TJ39 b).2.1 := by decide +kernel
theorem tyJ39_ok : ∀ k, k < 6 → parseFieldDescriptor (TJ39 k).2.2.1 = some (tyJ39 k) := by decide +kernel
theorem q127 : (Jvm.Cond.initialized "java/util/PriorityQueue$Itr") ∈ lw_all := lw_g (lw_at lw_m1 50 rfl) rfl
theorem q542 : (Jvm.Cond.selects "java/util/PriorityQueue$Itr" ({ cls := "java/lang/Object", name := "getClass", desc := "()Ljava/lang/Class;" } : Jvm.MethodName) ({ cls := "java/lang/Object", name := "getClass", desc := "()Ljava/lang/Class;" } : Jvm.MethodName)) ∈ lw_all := lw_g (lw_at lw_m2 225 rfl) rfl
theorem q1105 : (Jvm.Cond.castable "java/util/PriorityQueue$Itr" "java/util/Iterator") ∈ lw_tbl := lw_at lw_m5 68 rfl
theorem q1106 : (Jvm.Cond.selects "java/util/PriorityQueue$Itr" ({ cls := "java/util/Iterator", name := "hasNext", desc := "()Z" } : Jvm.MethodName) ({ cls := "java/util/PriorityQueue$Itr", name := "hasNext", desc := "()Z" } : Jvm.MethodName)) ∈ lw_all := lw_g (lw_at lw_m5 69 rfl) rfl
theorem q1107 : (Jvm.Cond.unhidden "java/util/PriorityQueue$Itr" "hasNext" "()Z") ∈ lw_tbl := lw_at lw_m5 70 rfl
theorem q1108 : (Jvm.Cond.instanceMethod ({ cls := "java/util/PriorityQueue$Itr", name := "hasNext", desc := "()Z" } : Jvm.MethodName)) ∈ lw_all := lw_g (lw_at lw_m5 71 rfl) rfl
theorem q1109 : (Jvm.Cond.publicMethod ({ cls := "java/util/PriorityQueue$Itr", name := "hasNext", desc := "()Z" } : Jvm.MethodName)) ∈ lw_tbl := lw_at lw_m5 72 rfl
theorem q1110 : (Jvm.Cond.code ({ cls := "java/util/PriorityQueue$Itr", name := "hasNext", desc := "()Z" } : Jvm.MethodName) prog_65_method_2_code (1 : Nat) (Option.some Jvm.ClassFile.FieldType.boolean)) ∈ lw_all := lw_g (lw_at lw_m5 73 rfl) rfl
theorem q1111 : (Jvm.Cond.methodLink "java/util/PriorityQueue$Itr" (35 : Nat) ({ cls := "java/util/ArrayDeque", name := "isEmpty", desc := "()Z" } : Jvm.MethodName)) ∈ lw_all := lw_g (lw_at lw_m5 74 rfl) rfl
theorem q1170 : (Jvm.Cond.selects "java/util/PriorityQueue$Itr" ({ cls := "java/util/Iterator", name := "next", desc := "()Ljava/lang/Object;" } : Jvm.MethodName) ({ cls := "java/util/PriorityQueue$Itr", name := "next", desc := "()Ljava/lang/Object;" } : Jvm.MethodName)) ∈ lw_all := lw_g (lw_at lw_m5 133 rfl) rfl
theorem q1171 : (Jvm.Cond.unhidden "java/util/PriorityQueue$Itr" "next" "()Ljava/lang/Object;") ∈ lw_tbl := lw_at lw_m5 134 rfl
theorem q1172 : (Jvm.Cond.instanceMethod ({ cls := "java/util/PriorityQueue$Itr", name := "next", desc := "()Ljava/lang/Object;" } : Jvm.MethodName)) ∈ lw_all := lw_g (lw_at lw_m5 135 rfl) rfl
theorem q1173 : (Jvm.Cond.publicMethod ({ cls := "java/util/PriorityQueue$Itr", name := "next", desc := "()Ljava/lang/Object;" } : Jvm.MethodName)) ∈ lw_tbl := lw_at lw_m5 136 rfl
theorem q1174 : (Jvm.Cond.code ({ cls := "java/util/PriorityQueue$Itr", name := "next", desc := "()Ljava/lang/Object;" } : Jvm.MethodName) prog_65_method_3_code (1 : Nat) (Option.some (Jvm.ClassFile.FieldType.object "java/lang/Object"))) ∈ lw_all := lw_g (lw_at lw_m5 137 rfl) rfl
theorem q1175 : (Jvm.Cond.methodLink "java/util/PriorityQueue$Itr" (48 : Nat) ({ cls := "java/util/ArrayDeque", name := "poll", desc := "()Ljava/lang/Object;" } : Jvm.MethodName)) ∈ lw_all := lw_g (lw_at lw_m5 138 rfl) rfl
theorem q1186 : (Jvm.Cond.classLink "java/util/PriorityQueue$Itr" (56 : Nat) "java/util/NoSuchElementException") ∈ lw_all := lw_g (lw_at lw_m5 149 rfl) rfl
theorem q1187 : (Jvm.Cond.methodLink "java/util/PriorityQueue$Itr" (58 : Nat) ({ cls := "java/util/NoSuchElementException", name := "<init>", desc := "()V" } : Jvm.MethodName)) ∈ lw_all := lw_g (lw_at lw_m5 150 rfl) rfl
theorem q1488 : (Jvm.Cond.instantiable "java/util/PriorityQueue$Itr" (6 : Nat)) ∈ lw_all := lw_g (lw_at lw_m6 211 rfl) rfl
theorem q1490 : (Jvm.Cond.instanceMethod ({ cls := "java/util/PriorityQueue$Itr", name := "<init>", desc := "(Ljava/util/PriorityQueue;)V" } : Jvm.MethodName)) ∈ lw_all := lw_g (lw_at lw_m6 213 rfl) rfl
theorem q1491 : (Jvm.Cond.code ({ cls := "java/util/PriorityQueue$Itr", name := "<init>", desc := "(Ljava/util/PriorityQueue;)V" } : Jvm.MethodName) prog_65_method_1_code (2 : Nat) (Option.none : Option Jvm.ClassFile.FieldType)) ∈ lw_all := lw_g (lw_at lw_m6 214 rfl) rfl
theorem q1492 : (Jvm.Cond.methodLink "java/util/PriorityQueue$Itr" (7 : Nat) ({ cls := "java/lang/Object", name := "<init>", desc := "()V" } : Jvm.MethodName)) ∈ lw_all := lw_g (lw_at lw_m6 215 rfl) rfl
theorem q1493 : (Jvm.Cond.fieldLink "java/util/PriorityQueue$Itr" (25 : Nat) "java/util/PriorityQueue$Itr" "cursor" "I") ∈ lw_all := lw_g (lw_at lw_m6 216 rfl) rfl
theorem q1494 : (Jvm.Cond.fieldLink "java/util/PriorityQueue$Itr" (13 : Nat) "java/util/PriorityQueue$Itr" "lastRet" "I") ∈ lw_all := lw_g (lw_at lw_m6 217 rfl) rfl
theorem q1495 : (Jvm.Cond.fieldLink "java/util/PriorityQueue$Itr" (31 : Nat) "java/util/PriorityQueue$Itr" "forgetMeNot" "Ljava/util/ArrayDeque;") ∈ lw_all := lw_g (lw_at lw_m6 218 rfl) rfl
theorem q1496 : (Jvm.Cond.fieldLink "java/util/PriorityQueue$Itr" (52 : Nat) "java/util/PriorityQueue$Itr" "lastRetElt" "Ljava/lang/Object;") ∈ lw_all := lw_g (lw_at lw_m6 219 rfl) rfl
theorem q1497 : (Jvm.Cond.fieldLink "java/util/PriorityQueue$Itr" (22 : Nat) "java/util/PriorityQueue$Itr" "expectedModCount" "I") ∈ lw_all := lw_g (lw_at lw_m6 220 rfl) rfl
theorem q1498 : (Jvm.Cond.fieldLink "java/util/PriorityQueue$Itr" (1 : Nat) "java/util/PriorityQueue$Itr" "this$0" "Ljava/util/PriorityQueue;") ∈ lw_all := lw_g (lw_at lw_m6 221 rfl) rfl
theorem q1499 : (Jvm.Cond.lays "java/util/PriorityQueue$Itr" "java/util/PriorityQueue$Itr" "cursor" "I") ∈ lw_all := lw_g (lw_at lw_m6 222 rfl) rfl
theorem q1500 : (Jvm.Cond.soleField "java/util/PriorityQueue$Itr" "cursor") ∈ lw_all := lw_g (lw_at lw_m6 223 rfl) rfl
theorem q1501 : (Jvm.Cond.lays "java/util/PriorityQueue$Itr" "java/util/PriorityQueue$Itr" "lastRet" "I") ∈ lw_all := lw_g (lw_at lw_m6 224 rfl) rfl
theorem q1502 : (Jvm.Cond.soleField "java/util/PriorityQueue$Itr" "lastRet") ∈ lw_all := lw_g (lw_at lw_m6 225 rfl) rfl
theorem q1503 : (Jvm.Cond.lays "java/util/PriorityQueue$Itr" "java/util/PriorityQueue$Itr" "forgetMeNot" "Ljava/util/ArrayDeque;") ∈ lw_all := lw_g (lw_at lw_m6 226 rfl) rfl
theorem q1504 : (Jvm.Cond.soleField "java/util/PriorityQueue$Itr" "forgetMeNot") ∈ lw_all := lw_g (lw_at lw_m6 227 rfl) rfl
theorem q1505 : (Jvm.Cond.lays "java/util/PriorityQueue$Itr" "java/util/PriorityQueue$Itr" "lastRetElt" "Ljava/lang/Object;") ∈ lw_all := lw_g (lw_at lw_m6 228 rfl) rfl
theorem q1506 : (Jvm.Cond.soleField "java/util/PriorityQueue$Itr" "lastRetElt") ∈ lw_all := lw_g (lw_at lw_m6 229 rfl) rfl
theorem q1507 : (Jvm.Cond.lays "java/util/PriorityQueue$Itr" "java/util/PriorityQueue$Itr" "expectedModCount" "I") ∈ lw_all := lw_g (lw_at lw_m6 230 rfl) rfl
theorem q1508 : (Jvm.Cond.soleField "java/util/PriorityQueue$Itr" "expectedModCount") ∈ lw_all := lw_g (lw_at lw_m6 231 rfl) rfl
theorem q1509 : (Jvm.Cond.laysFinal "java/util/PriorityQueue$Itr" "java/util/PriorityQueue$Itr" "this$0" "Ljava/util/PriorityQueue;") ∈ lw_all := lw_g (lw_at lw_m6 232 rfl) rfl
theorem q1510 : (Jvm.Cond.soleField "java/util/PriorityQueue$Itr" "this$0") ∈ lw_all := lw_g (lw_at lw_m6 233 rfl) rfl
theorem q1511 : (Jvm.Cond.superclass "java/util/PriorityQueue$Itr" "java/lang/Object") ∈ lw_all := lw_g (lw_at lw_m6 234 rfl) rfl
theorem q1561 : (Jvm.Cond.selects "java/util/PriorityQueue$Itr" ({ cls := "java/util/Iterator", name := "remove", desc := "()V" } : Jvm.MethodName) ({ cls := "java/util/PriorityQueue$Itr", name := "remove", desc := "()V" } : Jvm.MethodName)) ∈ lw_all := lw_g (lw_at lw_m7 44 rfl) rfl
theorem q1562 : (Jvm.Cond.unhidden "java/util/PriorityQueue$Itr" "remove" "()V") ∈ lw_tbl := lw_at lw_m7 45 rfl
theorem q1563 : (Jvm.Cond.instanceMethod ({ cls := "java/util/PriorityQueue$Itr", name := "remove", desc := "()V" } : Jvm.MethodName)) ∈ lw_all := lw_g (lw_at lw_m7 46 rfl) rfl
theorem q1564 : (Jvm.Cond.publicMethod ({ cls := "java/util/PriorityQueue$Itr", name := "remove", desc := "()V" } : Jvm.MethodName)) ∈ lw_tbl := lw_at lw_m7 47 rfl
theorem q1565 : (Jvm.Cond.code ({ cls := "java/util/PriorityQueue$Itr", name := "remove", desc := "()V" } : Jvm.MethodName) prog_65_method_4_code (2 : Nat) (Option.none : Option Jvm.ClassFile.FieldType)) ∈ lw_all := lw_g (lw_at lw_m7 48 rfl) rfl
theorem q1566 : (Jvm.Cond.methodLink "java/util/PriorityQueue$Itr" (59 : Nat) ({ cls := "java/util/PriorityQueue", name := "removeAt", desc := "(I)Ljava/lang/Object;" } : Jvm.MethodName)) ∈ lw_all := lw_g (lw_at lw_m7 49 rfl) rfl
theorem q1596 : (Jvm.Cond.classLink "java/util/PriorityQueue$Itr" (36 : Nat) "java/util/ArrayDeque") ∈ lw_all := lw_g (lw_at lw_m7 79 rfl) rfl
theorem q1597 : (Jvm.Cond.methodLink "java/util/PriorityQueue$Itr" (63 : Nat) ({ cls := "java/util/ArrayDeque", name := "<init>", desc := "()V" } : Jvm.MethodName)) ∈ lw_all := lw_g (lw_at lw_m7 80 rfl) rfl
theorem q1598 : (Jvm.Cond.methodLink "java/util/PriorityQueue$Itr" (64 : Nat) ({ cls := "java/util/ArrayDeque", name := "add", desc := "(Ljava/lang/Object;)Z" } : Jvm.MethodName)) ∈ lw_all := lw_g (lw_at lw_m7 81 rfl) rfl
theorem q1603 : (Jvm.Cond.methodLink "java/util/PriorityQueue$Itr" (68 : Nat) ({ cls := "java/util/PriorityQueue", name := "removeEq", desc := "(Ljava/lang/Object;)V" } : Jvm.MethodName)) ∈ lw_all := lw_g (lw_at lw_m7 86 rfl) rfl
theorem q1608 : (Jvm.Cond.classLink "java/util/PriorityQueue$Itr" (72 : Nat) "java/lang/IllegalStateException") ∈ lw_all := lw_g (lw_at lw_m7 91 rfl) rfl
theorem q1609 : (Jvm.Cond.methodLink "java/util/PriorityQueue$Itr" (74 : Nat) ({ cls := "java/lang/IllegalStateException", name := "<init>", desc := "()V" } : Jvm.MethodName)) ∈ lw_all := lw_g (lw_at lw_m7 92 rfl) rfl
theorem q2426 : (Jvm.Cond.fieldLink "java/util/PriorityQueue$Itr" (44 : Nat) "java/util/PriorityQueue" "queue" "[Ljava/lang/Object;") ∈ lw_all := lw_g (lw_at lw_m10 189 rfl) rfl
theorem q2428 : (Jvm.Cond.fieldLink "java/util/PriorityQueue$Itr" (28 : Nat) "java/util/PriorityQueue" "size" "I") ∈ lw_all := lw_g (lw_at lw_m10 191 rfl) rfl
theorem q2431 : (Jvm.Cond.fieldLink "java/util/PriorityQueue$Itr" (17 : Nat) "java/util/PriorityQueue" "modCount" "I") ∈ lw_all := lw_g (lw_at lw_m10 194 rfl) rfl
theorem q3568 : (Jvm.Cond.castable "java/util/PriorityQueue$Itr" "java/lang/Object") ∈ lw_tbl := lw_at lw_m15 131 rfl
def RJ4 : String := "java/util/TreeSet"
def TJ4 : u_T := fun k => match k with
  | _ => ("java/util/TreeSet", "m", "Ljava/util/NavigableMap;", false)
def tyJ4 : Nat → FieldType := fun k => match k with
  | _ => .object "java/util/NavigableMap"
abbrev wsJ40 : List Cond := u_ws RJ4 TJ4 1
theorem nmJ4 : ∀ a, a < 1 → ∀ b, b < 1 → a ≠ b → (TJ4 a).2.1 ≠ (TJ4 b).2.1 := by decide +kernel
theorem tyJ4_ok : ∀ k, k < 1 → parseFieldDescriptor (TJ4 k).2.2.1 = some (tyJ4 k) := by decide +kernel
theorem q84 : (Jvm.Cond.initialized "java/util/TreeSet") ∈ lw_all := lw_g (lw_at lw_m1 7 rfl) rfl
theorem q199 : (Jvm.Cond.instantiable "java/util/TreeSet" (1 : Nat)) ∈ lw_all := lw_g (lw_at lw_m1 122 rfl) rfl
theorem q201 : (Jvm.Cond.instanceMethod ({ cls := "java/util/TreeSet", name := "<init>", desc := "()V" } : Jvm.MethodName)) ∈ lw_all := lw_g (lw_at lw_m1 124 rfl) rfl
theorem q202 : (Jvm.Cond.code ({ cls := "java/util/TreeSet", name := "<init>", desc := "()V" } : Jvm.MethodName) prog_91_method_2_code (1 : Nat) (Option.none : Option Jvm.ClassFile.FieldType)) ∈ lw_all := lw_g (lw_at lw_m1 125 rfl) rfl
theorem q203 : (Jvm.Cond.classLink "java/util/TreeSet" (13 : Nat) "java/util/TreeMap") ∈ lw_all := lw_g (lw_at lw_m1 126 rfl) rfl
theorem q204 : (Jvm.Cond.methodLink "java/util/TreeSet" (15 : Nat) ({ cls := "java/util/TreeMap", name := "<init>", desc := "()V" } : Jvm.MethodName)) ∈ lw_all := lw_g (lw_at lw_m1 127 rfl) rfl
theorem q205 : (Jvm.Cond.methodLink "java/util/TreeSet" (16 : Nat) ({ cls := "java/util/TreeSet", name := "<init>", desc := "(Ljava/util/NavigableMap;)V" } : Jvm.MethodName)) ∈ lw_all := lw_g (lw_at lw_m1 128 rfl) rfl
theorem q206 : (Jvm.Cond.instanceMethod ({ cls := "java/util/TreeSet", name := "<init>", desc := "(Ljava/util/NavigableMap;)V" } : Jvm.MethodName)) ∈ lw_all := lw_g (lw_at lw_m1 129 rfl) rfl
theorem q207 : (Jvm.Cond.code ({ cls := "java/util/TreeSet", name := "<init>", desc := "(Ljava/util/NavigableMap;)V" } : Jvm.MethodName) prog_91_method_1_code (2 : Nat) (Option.none : Option Jvm.ClassFile.FieldType)) ∈ lw_all := lw_g (lw_at lw_m1 130 rfl) rfl
theorem q208 : (Jvm.Cond.methodLink "java/util/TreeSet" (1 : Nat) ({ cls := "java/util/AbstractSet", name := "<init>", desc := "()V" } : Jvm.MethodName)) ∈ lw_all := lw_g (lw_at lw_m1 131 rfl) rfl
theorem q215 : (Jvm.Cond.fieldLink "java/util/TreeSet" (7 : Nat) "java/util/TreeSet" "m" "Ljava/util/NavigableMap;") ∈ lw_all := lw_g (lw_at lw_m1 138 rfl) rfl
theorem q216 : (Jvm.Cond.lays "java/util/TreeSet" "java/util/TreeSet" "m" "Ljava/util/NavigableMap;") ∈ lw_all := lw_g (lw_at lw_m1 139 rfl) rfl
theorem q217 : (Jvm.Cond.soleField "java/util/TreeSet" "m") ∈ lw_all := lw_g (lw_at lw_m1 140 rfl) rfl
theorem q218 : (Jvm.Cond.superclass "java/util/TreeSet" "java/util/AbstractSet") ∈ lw_all := lw_g (lw_at lw_m1 141 rfl) rfl
theorem q555 : (Jvm.Cond.selects "java/util/TreeSet" ({ cls := "java/lang/Object", name := "getClass", desc := "()Ljava/lang/Class;" } : Jvm.MethodName) ({ cls := "java/lang/Object", name := "getClass", desc := "()Ljava/lang/Class;" } : Jvm.MethodName)) ∈ lw_all := lw_g (lw_at lw_m2 238 rfl) rfl
theorem q1053 : (Jvm.Cond.castable "java/util/TreeSet" "java/util/Set") ∈ lw_tbl := lw_at lw_m5 16 rfl
theorem q1054 : (Jvm.Cond.selects "java/util/TreeSet" ({ cls := "java/util/Set", name := "iterator", desc := "()Ljava/util/Iterator;" } : Jvm.MethodName) ({ cls := "java/util/TreeSet", name := "iterator", desc := "()Ljava/util/Iterator;" } : Jvm.MethodName)) ∈ lw_all := lw_g (lw_at lw_m5 17 rfl) rfl
theorem q1055 : (Jvm.Cond.unhidden "java/util/TreeSet" "iterator" "()Ljava/util/Iterator;") ∈ lw_tbl := lw_at lw_m5 18 rfl
theorem q1056 : (Jvm.Cond.instanceMethod ({ cls := "java/util/TreeSet", name := "iterator", desc := "()Ljava/util/Iterator;" } : Jvm.MethodName)) ∈ lw_all := lw_g (lw_at lw_m5 19 rfl) rfl
theorem q1057 : (Jvm.Cond.publicMethod ({ cls := "java/util/TreeSet", name := "iterator", desc := "()Ljava/util/Iterator;" } : Jvm.MethodName)) ∈ lw_tbl := lw_at lw_m5 20 rfl
theorem q1058 : (Jvm.Cond.code ({ cls := "java/util/TreeSet", name := "iterator", desc := "()Ljava/util/Iterator;" } : Jvm.MethodName) prog_91_method_6_code (1 : Nat) (Option.some (Jvm.ClassFile.FieldType.object "java/util/Iterator"))) ∈ lw_all := lw_g (lw_at lw_m5 21 rfl) rfl
theorem q1059 : (Jvm.Cond.interfaceEntry "java/util/TreeSet" (34 : Nat)) ∈ lw_tbl := lw_at lw_m5 22 rfl
theorem q1060 : (Jvm.Cond.methodLink "java/util/TreeSet" (34 : Nat) ({ cls := "java/util/NavigableMap", name := "navigableKeySet", desc := "()Ljava/util/NavigableSet;" } : Jvm.MethodName)) ∈ lw_all := lw_g (lw_at lw_m5 23 rfl) rfl
theorem q1087 : (Jvm.Cond.interfaceEntry "java/util/TreeSet" (40 : Nat)) ∈ lw_tbl := lw_at lw_m5 50 rfl
theorem q1088 : (Jvm.Cond.methodLink "java/util/TreeSet" (40 : Nat) ({ cls := "java/util/NavigableSet", name := "iterator", desc := "()Ljava/util/Iterator;" } : Jvm.MethodName)) ∈ lw_all := lw_g (lw_at lw_m5 51 rfl) rfl
theorem q1093 : (Jvm.Cond.castable "java/util/TreeSet" "java/util/NavigableSet") ∈ lw_tbl := lw_at lw_m5 56 rfl
theorem q1094 : (Jvm.Cond.selects "java/util/TreeSet" ({ cls := "java/util/NavigableSet", name := "iterator", desc := "()Ljava/util/Iterator;" } : Jvm.MethodName) ({ cls := "java/util/TreeSet", name := "iterator", desc := "()Ljava/util/Iterator;" } : Jvm.MethodName)) ∈ lw_all := lw_g (lw_at lw_m5 57 rfl) rfl
theorem q1400 : (Jvm.Cond.instanceMethod ({ cls := "java/util/TreeSet", name := "clear", desc := "()V" } : Jvm.MethodName)) ∈ lw_all := lw_g (lw_at lw_m6 123 rfl) rfl
theorem q1401 : (Jvm.Cond.selects "java/util/TreeSet" ({ cls := "java/util/TreeSet", name := "clear", desc := "()V" } : Jvm.MethodName) ({ cls := "java/util/TreeSet", name := "clear", desc := "()V" } : Jvm.MethodName)) ∈ lw_all := lw_g (lw_at lw_m6 124 rfl) rfl
theorem q1402 : (Jvm.Cond.code ({ cls := "java/util/TreeSet", name := "clear", desc := "()V" } : Jvm.MethodName) prog_91_method_14_code (1 : Nat) (Option.none : Option Jvm.ClassFile.FieldType)) ∈ lw_all := lw_g (lw_at lw_m6 125 rfl) rfl
theorem q1403 : (Jvm.Cond.interfaceEntry "java/util/TreeSet" (77 : Nat)) ∈ lw_tbl := lw_at lw_m6 126 rfl
theorem q1530 : (Jvm.Cond.selects "java/util/TreeSet" ({ cls := "java/util/AbstractCollection", name := "iterator", desc := "()Ljava/util/Iterator;" } : Jvm.MethodName) ({ cls := "java/util/TreeSet", name := "iterator", desc := "()Ljava/util/Iterator;" } : Jvm.MethodName)) ∈ lw_all := lw_g (lw_at lw_m7 13 rfl) rfl
theorem q1664 : (Jvm.Cond.selects "java/util/TreeSet" ({ cls := "java/util/Set", name := "clear", desc := "()V" } : Jvm.MethodName) ({ cls := "java/util/TreeSet", name := "clear", desc := "()V" } : Jvm.MethodName)) ∈ lw_all := lw_g (lw_at lw_m7 147 rfl) rfl
theorem q1665 : (Jvm.Cond.unhidden "java/util/TreeSet" "clear" "()V") ∈ lw_tbl := lw_at lw_m7 148 rfl
theorem q1666 : (Jvm.Cond.publicMethod ({ cls := "java/util/TreeSet", name := "clear", desc := "()V" } : Jvm.MethodName)) ∈ lw_tbl := lw_at lw_m7 149 rfl
theorem q1670 : (Jvm.Cond.instanceMethod ({ cls := "java/util/TreeSet", name := "add", desc := "(Ljava/lang/Object;)Z" } : Jvm.MethodName)) ∈ lw_all := lw_g (lw_at lw_m7 153 rfl) rfl
theorem q1671 : (Jvm.Cond.selects "java/util/TreeSet" ({ cls := "java/util/TreeSet", name := "add", desc := "(Ljava/lang/Object;)Z" } : Jvm.MethodName) ({ cls := "java/util/TreeSet", name := "add", desc := "(Ljava/lang/Object;)Z" } : Jvm.MethodName)) ∈ lw_all := lw_g (lw_at lw_m7 154 rfl) rfl
theorem q1672 : (Jvm.Cond.code ({ cls := "java/util/TreeSet", name := "add", desc := "(Ljava/lang/Object;)Z" } : Jvm.MethodName) prog_91_method_12_code (2 : Nat) (Option.some Jvm.ClassFile.FieldType.boolean)) ∈ lw_all := lw_g (lw_at lw_m7 155 rfl) rfl
theorem q1673 : (Jvm.Cond.fieldLink "java/util/TreeSet" (65 : Nat) "java/util/TreeSet" "PRESENT" "Ljava/lang/Object;") ∈ lw_all := lw_g (lw_at lw_m7 156 rfl) rfl
theorem q1674 : (Jvm.Cond.laysStatic "java/util/TreeSet" "PRESENT" "Ljava/lang/Object;") ∈ lw_tbl := lw_at lw_m7 157 rfl
theorem q1675 : (Jvm.Cond.interfaceEntry "java/util/TreeSet" (69 : Nat)) ∈ lw_tbl := lw_at lw_m7 158 rfl
theorem q2012 : (Jvm.Cond.selects "java/util/TreeSet" ({ cls := "java/util/Set", name := "size", desc := "()I" } : Jvm.MethodName) ({ cls := "java/util/TreeSet", name := "size", desc := "()I" } : Jvm.MethodName)) ∈ lw_all := lw_g (lw_at lw_m9 15 rfl) rfl
theorem q2013 : (Jvm.Cond.unhidden "java/util/TreeSet" "size" "()I") ∈ lw_tbl := lw_at lw_m9 16 rfl
theorem q2014 : (Jvm.Cond.instanceMethod ({ cls := "java/util/TreeSet", name := "size", desc := "()I" } : Jvm.MethodName)) ∈ lw_all := lw_g (lw_at lw_m9 17 rfl) rfl
theorem q2015 : (Jvm.Cond.publicMethod ({ cls := "java/util/TreeSet", name := "size", desc := "()I" } : Jvm.MethodName)) ∈ lw_tbl := lw_at lw_m9 18 rfl
theorem q2016 : (Jvm.Cond.code ({ cls := "java/util/TreeSet", name := "size", desc := "()I" } : Jvm.MethodName) prog_91_method_9_code (1 : Nat) (Option.some Jvm.ClassFile.FieldType.int)) ∈ lw_all := lw_g (lw_at lw_m9 19 rfl) rfl
theorem q2017 : (Jvm.Cond.interfaceEntry "java/util/TreeSet" (53 : Nat)) ∈ lw_tbl := lw_at lw_m9 20 rfl
theorem q2090 : (Jvm.Cond.castable "java/util/TreeSet" "java/util/Collection") ∈ lw_tbl := lw_at lw_m9 93 rfl
theorem q2091 : (Jvm.Cond.selects "java/util/TreeSet" ({ cls := "java/util/Collection", name := "iterator", desc := "()Ljava/util/Iterator;" } : Jvm.MethodName) ({ cls := "java/util/TreeSet", name := "iterator", desc := "()Ljava/util/Iterator;" } : Jvm.MethodName)) ∈ lw_all := lw_g (lw_at lw_m9 94 rfl) rfl
theorem q2214 : (Jvm.Cond.instanceMethod ({ cls := "java/util/TreeSet", name := "headSet", desc := "(Ljava/lang/Object;)Ljava/util/SortedSet;" } : Jvm.MethodName)) ∈ lw_all := lw_g (lw_at lw_m9 217 rfl) rfl
theorem q2215 : (Jvm.Cond.selects "java/util/TreeSet" ({ cls := "java/util/TreeSet", name := "headSet", desc := "(Ljava/lang/Object;)Ljava/util/SortedSet;" } : Jvm.MethodName) ({ cls := "java/util/TreeSet", name := "headSet", desc := "(Ljava/lang/Object;)Ljava/util/SortedSet;" } : Jvm.MethodName)) ∈ lw_all := lw_g (lw_at lw_m9 218 rfl) rfl
theorem q2216 : (Jvm.Cond.code ({ cls := "java/util/TreeSet", name := "headSet", desc := "(Ljava/lang/Object;)Ljava/util/SortedSet;" } : Jvm.MethodName) prog_91_method_20_code (2 : Nat) (Option.some (Jvm.ClassFile.FieldType.object "java/util/SortedSet"))) ∈ lw_all := lw_g (lw_at lw_m9 219 rfl) rfl
theorem q2217 : (Jvm.Cond.methodLink "java/util/TreeSet" (110 : Nat) ({ cls := "java/util/TreeSet", name := "headSet", desc := "(Ljava/lang/Object;Z)Ljava/util/NavigableSet;" } : Jvm.MethodName)) ∈ lw_all := lw_g (lw_at lw_m9 220 rfl) rfl
theorem q2218 : (Jvm.Cond.instanceMethod ({ cls := "java/util/TreeSet", name := "headSet", desc := "(Ljava/lang/Object;Z)Ljava/util/NavigableSet;" } : Jvm.MethodName)) ∈ lw_all := lw_g (lw_at lw_m9 221 rfl) rfl
theorem q2219 : (Jvm.Cond.selects "java/util/TreeSet" ({ cls := "java/util/TreeSet", name := "headSet", desc := "(Ljava/lang/Object;Z)Ljava/util/NavigableSet;" } : Jvm.MethodName) ({ cls := "java/util/TreeSet", name := "headSet", desc := "(Ljava/lang/Object;Z)Ljava/util/NavigableSet;" } : Jvm.MethodName)) ∈ lw_all := lw_g (lw_at lw_m9 222 rfl) rfl
theorem q2220 : (Jvm.Cond.code ({ cls := "java/util/TreeSet", name := "headSet", desc := "(Ljava/lang/Object;Z)Ljava/util/NavigableSet;" } : Jvm.MethodName) prog_91_method_17_code (3 : Nat) (Option.some (Jvm.ClassFile.FieldType.object "java/util/NavigableSet"))) ∈ lw_all := lw_g (lw_at lw_m9 223 rfl) rfl
theorem q2221 : (Jvm.Cond.classLink "java/util/TreeSet" (8 : Nat) "java/util/TreeSet") ∈ lw_all := lw_g (lw_at lw_m9 224 rfl) rfl
theorem q2222 : (Jvm.Cond.interfaceEntry "java/util/TreeSet" (99 : Nat)) ∈ lw_tbl := lw_at lw_m9 225 rfl
theorem q2223 : (Jvm.Cond.methodLink "java/util/TreeSet" (99 : Nat) ({ cls := "java/util/NavigableMap", name := "headMap", desc := "(Ljava/lang/Object;Z)Ljava/util/NavigableMap;" } : Jvm.MethodName)) ∈ lw_all := lw_g (lw_at lw_m9 226 rfl) rfl
theorem q2312 : (Jvm.Cond.castable "java/util/TreeSet" "java/util/SortedSet") ∈ lw_tbl := lw_at lw_m10 75 rfl
theorem q2313 : (Jvm.Cond.selects "java/util/TreeSet" ({ cls := "java/util/Collection", name := "size", desc := "()I" } : Jvm.MethodName) ({ cls := "java/util/TreeSet", name := "size", desc := "()I" } : Jvm.MethodName)) ∈ lw_all := lw_g (lw_at lw_m10 76 rfl) rfl
theorem q2327 : (Jvm.Cond.instanceMethod ({ cls := "java/util/TreeSet", name := "remove", desc := "(Ljava/lang/Object;)Z" } : Jvm.MethodName)) ∈ lw_all := lw_g (lw_at lw_m10 90 rfl) rfl
theorem q2328 : (Jvm.Cond.selects "java/util/TreeSet" ({ cls := "java/util/TreeSet", name := "remove", desc := "(Ljava/lang/Object;)Z" } : Jvm.MethodName) ({ cls := "java/util/TreeSet", name := "remove", desc := "(Ljava/lang/Object;)Z" } : Jvm.MethodName)) ∈ lw_all := lw_g (lw_at lw_m10 91 rfl) rfl
theorem q2329 : (Jvm.Cond.code ({ cls := "java/util/TreeSet", name := "remove", desc := "(Ljava/lang/Object;)Z" } : Jvm.MethodName) prog_91_method_13_code (2 : Nat) (Option.some Jvm.ClassFile.FieldType.boolean)) ∈ lw_all := lw_g (lw_at lw_m10 92 rfl) rfl
theorem q2330 : (Jvm.Cond.interfaceEntry "java/util/TreeSet" (73 : Nat)) ∈ lw_tbl := lw_at lw_m10 93 rfl
theorem q2387 : (Jvm.Cond.instanceMethod ({ cls := "java/util/TreeSet", name := "<init>", desc := "(Ljava/util/Comparator;)V" } : Jvm.MethodName)) ∈ lw_all := lw_g (lw_at lw_m10 150 rfl) rfl
theorem q2388 : (Jvm.Cond.code ({ cls := "java/util/TreeSet", name := "<init>", desc := "(Ljava/util/Comparator;)V" } : Jvm.MethodName) prog_91_method_3_code (2 : Nat) (Option.none : Option Jvm.ClassFile.FieldType)) ∈ lw_all := lw_g (lw_at lw_m10 151 rfl) rfl
theorem q2389 : (Jvm.Cond.methodLink "java/util/TreeSet" (19 : Nat) ({ cls := "java/util/TreeMap", name := "<init>", desc := "(Ljava/util/Comparator;)V" } : Jvm.MethodName)) ∈ lw_all := lw_g (lw_at lw_m10 152 rfl) rfl
theorem q2510 : (Jvm.Cond.instanceMethod ({ cls := "java/util/TreeSet", name := "isEmpty", desc := "()Z" } : Jvm.MethodName)) ∈ lw_all := lw_g (lw_at lw_m11 33 rfl) rfl
theorem q2511 : (Jvm.Cond.selects "java/util/TreeSet" ({ cls := "java/util/TreeSet", name := "isEmpty", desc := "()Z" } : Jvm.MethodName) ({ cls := "java/util/TreeSet", name := "isEmpty", desc := "()Z" } : Jvm.MethodName)) ∈ lw_all := lw_g (lw_at lw_m11 34 rfl) rfl
theorem q2512 : (Jvm.Cond.code ({ cls := "java/util/TreeSet", name := "isEmpty", desc := "()Z" } : Jvm.MethodName) prog_91_method_10_code (1 : Nat) (Option.some Jvm.ClassFile.FieldType.boolean)) ∈ lw_all := lw_g (lw_at lw_m11 35 rfl) rfl
theorem q2513 : (Jvm.Cond.interfaceEntry "java/util/TreeSet" (57 : Nat)) ∈ lw_tbl := lw_at lw_m11 36 rfl
theorem q2555 : (Jvm.Cond.selects "java/util/TreeSet" ({ cls := "java/util/AbstractCollection", name := "size", desc := "()I" } : Jvm.MethodName) ({ cls := "java/util/TreeSet", name := "size", desc := "()I" } : Jvm.MethodName)) ∈ lw_all := lw_g (lw_at lw_m11 78 rfl) rfl
theorem q2562 : (Jvm.Cond.selects "java/util/TreeSet" ({ cls := "java/util/Set", name := "isEmpty", desc := "()Z" } : Jvm.MethodName) ({ cls := "java/util/TreeSet", name := "isEmpty", desc := "()Z" } : Jvm.MethodName)) ∈ lw_all := lw_g (lw_at lw_m11 85 rfl) rfl
theorem q2563 : (Jvm.Cond.unhidden "java/util/TreeSet" "isEmpty" "()Z") ∈ lw_tbl := lw_at lw_m11 86 rfl
theorem q2564 : (Jvm.Cond.publicMethod ({ cls := "java/util/TreeSet", name := "isEmpty", desc := "()Z" } : Jvm.MethodName)) ∈ lw_tbl := lw_at lw_m11 87 rfl
theorem q2566 : (Jvm.Cond.instanceMethod ({ cls := "java/util/TreeSet", name := "first", desc := "()Ljava/lang/Object;" } : Jvm.MethodName)) ∈ lw_all := lw_g (lw_at lw_m11 89 rfl) rfl
theorem q2567 : (Jvm.Cond.selects "java/util/TreeSet" ({ cls := "java/util/TreeSet", name := "first", desc := "()Ljava/lang/Object;" } : Jvm.MethodName) ({ cls := "java/util/TreeSet", name := "first", desc := "()Ljava/lang/Object;" } : Jvm.MethodName)) ∈ lw_all := lw_g (lw_at lw_m11 90 rfl) rfl
theorem q2568 : (Jvm.Cond.code ({ cls := "java/util/TreeSet", name := "first", desc := "()Ljava/lang/Object;" } : Jvm.MethodName) prog_91_method_23_code (1 : Nat) (Option.some (Jvm.ClassFile.FieldType.object "java/lang/Object"))) ∈ lw_all := lw_g (lw_at lw_m11 91 rfl) rfl
theorem q2569 : (Jvm.Cond.interfaceEntry "java/util/TreeSet" (118 : Nat)) ∈ lw_tbl := lw_at lw_m11 92 rfl
theorem q2595 : (Jvm.Cond.instanceMethod ({ cls := "java/util/TreeSet", name := "pollFirst", desc := "()Ljava/lang/Object;" } : Jvm.MethodName)) ∈ lw_all := lw_g (lw_at lw_m11 118 rfl) rfl
theorem q2596 : (Jvm.Cond.selects "java/util/TreeSet" ({ cls := "java/util/TreeSet", name := "pollFirst", desc := "()Ljava/lang/Object;" } : Jvm.MethodName) ({ cls := "java/util/TreeSet", name := "pollFirst", desc := "()Ljava/lang/Object;" } : Jvm.MethodName)) ∈ lw_all := lw_g (lw_at lw_m11 119 rfl) rfl
theorem q2597 : (Jvm.Cond.code ({ cls := "java/util/TreeSet", name := "pollFirst", desc := "()Ljava/lang/Object;" } : Jvm.MethodName) prog_91_method_29_code (2 : Nat) (Option.some (Jvm.ClassFile.FieldType.object "java/lang/Object"))) ∈ lw_all := lw_g (lw_at lw_m11 120 rfl) rfl
theorem q2598 : (Jvm.Cond.interfaceEntry "java/util/TreeSet" (137 : Nat)) ∈ lw_tbl := lw_at lw_m11 121 rfl
theorem q2599 : (Jvm.Cond.methodLink "java/util/TreeSet" (137 : Nat) ({ cls := "java/util/NavigableMap", name := "pollFirstEntry", desc := "()Ljava/util/Map$Entry;" } : Jvm.MethodName)) ∈ lw_all := lw_g (lw_at lw_m11 122 rfl) rfl
theorem q2634 : (Jvm.Cond.interfaceEntry "java/util/TreeSet" (141 : Nat)) ∈ lw_tbl := lw_at lw_m11 157 rfl
theorem q2635 : (Jvm.Cond.methodLink "java/util/TreeSet" (141 : Nat) ({ cls := "java/util/Map$Entry", name := "getKey", desc := "()Ljava/lang/Object;" } : Jvm.MethodName)) ∈ lw_all := lw_g (lw_at lw_m11 158 rfl) rfl
theorem q3509 : (Jvm.Cond.selects "java/util/TreeSet" ({ cls := "java/util/TreeSet", name := "iterator", desc := "()Ljava/util/Iterator;" } : Jvm.MethodName) ({ cls := "java/util/TreeSet", name := "iterator", desc := "()Ljava/util/Iterator;" } : Jvm.MethodName)) ∈ lw_all := lw_g (lw_at lw_m15 72 rfl) rfl
theorem q3511 : (Jvm.Cond.selects "java/util/TreeSet" ({ cls := "java/util/TreeSet", name := "size", desc := "()I" } : Jvm.MethodName) ({ cls := "java/util/TreeSet", name := "size", desc := "()I" } : Jvm.MethodName)) ∈ lw_all := lw_g (lw_at lw_m15 74 rfl) rfl
theorem q3537 : (Jvm.Cond.castable "java/util/TreeSet" "java/lang/Object") ∈ lw_tbl := lw_at lw_m15 100 rfl
def RJ40 : String := "java/util/TreeMap$ValueIterator"
def TJ40 : u_T := fun k => match k with
  | 0 => ("java/util/TreeMap$PrivateEntryIterator", "next", "Ljava/util/TreeMap$Entry;", false)
  | 1 => ("java/util/TreeMap$PrivateEntryIterator", "lastReturned", "Ljava/util/TreeMap$Entry;", false)
  | 2 => ("java/util/TreeMap$PrivateEntryIterator", "expectedModCount", "I", false)
  | _ => ("java/util/TreeMap$PrivateEntryIterator", "this$0", "Ljava/util/TreeMap;", true)
def tyJ40 : Nat → FieldType := fun k => match k with
  | 0 => .object "java/util/TreeMap$Entry"
  | 1 => .object "java/util/TreeMap$Entry"
  | 2 => .int
  | _ => .object "java/util/TreeMap"
abbrev wsJ400 : List Cond := u_ws RJ40 TJ40 4
theorem nmJ40 : ∀ a, a < 4 → ∀ b, b < 4 → a ≠ b → (TJ40 a).2.1 ≠ (TJ40 b).2.1 := by decide +kernel
theorem tyJ40_ok : ∀ k, k < 4 → parseFieldDescriptor (TJ40 k).2.2.1 = some (tyJ40 k) := by decide +kernel
theorem q128 : (Jvm.Cond.initialized "java/util/TreeMap$ValueIterator") ∈ lw_all := lw_g (lw_at lw_m1 51 rfl) rfl
theorem q553 : (Jvm.Cond.selects "java/util/TreeMap$ValueIterator" ({ cls := "java/lang/Object", name := "getClass", desc := "()Ljava/lang/Class;" } : Jvm.MethodName) ({ cls := "java/lang/Object", name := "getClass", desc := "()Ljava/lang/Class;" } : Jvm.MethodName)) ∈ lw_all := lw_g (lw_at lw_m2 236 rfl) rfl
theorem q1133 : (Jvm.Cond.castable "java/util/TreeMap$ValueIterator" "java/util/Iterator") ∈ lw_tbl := lw_at lw_m5 96 rfl
theorem q1134 : (Jvm.Cond.selects "java/util/TreeMap$ValueIterator" ({ cls := "java/util/Iterator", name := "hasNext", desc := "()Z" } : Jvm.MethodName) ({ cls := "java/util/TreeMap$PrivateEntryIterator", name := "hasNext", desc := "()Z" } : Jvm.MethodName)) ∈ lw_all := lw_g (lw_at lw_m5 97 rfl) rfl
theorem q1135 : (Jvm.Cond.unhidden "java/util/TreeMap$ValueIterator" "hasNext" "()Z") ∈ lw_tbl := lw_at lw_m5 98 rfl
theorem q1242 : (Jvm.Cond.selects "java/util/TreeMap$ValueIterator" ({ cls := "java/util/Iterator", name := "next", desc := "()Ljava/lang/Object;" } : Jvm.MethodName) ({ cls := "java/util/TreeMap$ValueIterator", name := "next", desc := "()Ljava/lang/Object;" } : Jvm.MethodName)) ∈ lw_all := lw_g (lw_at lw_m5 205 rfl) rfl
theorem q1243 : (Jvm.Cond.unhidden "java/util/TreeMap$ValueIterator" "next" "()Ljava/lang/Object;") ∈ lw_tbl := lw_at lw_m5 206 rfl
theorem q1244 : (Jvm.Cond.instanceMethod ({ cls := "java/util/TreeMap$ValueIterator", name := "next", desc := "()Ljava/lang/Object;" } : Jvm.MethodName)) ∈ lw_all := lw_g (lw_at lw_m5 207 rfl) rfl
theorem q1245 : (Jvm.Cond.publicMethod ({ cls := "java/util/TreeMap$ValueIterator", name := "next", desc := "()Ljava/lang/Object;" } : Jvm.MethodName)) ∈ lw_tbl := lw_at lw_m5 208 rfl
theorem q1246 : (Jvm.Cond.code ({ cls := "java/util/TreeMap$ValueIterator", name := "next", desc := "()Ljava/lang/Object;" } : Jvm.MethodName) prog_89_method_2_code (1 : Nat) (Option.some (Jvm.ClassFile.FieldType.object "java/lang/Object"))) ∈ lw_all := lw_g (lw_at lw_m5 209 rfl) rfl
theorem q1247 : (Jvm.Cond.methodLink "java/util/TreeMap$ValueIterator" (7 : Nat) ({ cls := "java/util/TreeMap$ValueIterator", name := "nextEntry", desc := "()Ljava/util/TreeMap$Entry;" } : Jvm.MethodName)) ∈ lw_all := lw_g (lw_at lw_m5 210 rfl) rfl
theorem q1248 : (Jvm.Cond.sameMethod "java/util/TreeMap$ValueIterator" "java/util/TreeMap$PrivateEntryIterator" "nextEntry" "()Ljava/util/TreeMap$Entry;") ∈ lw_all := lw_g (lw_at lw_m5 211 rfl) rfl
theorem q1249 : (Jvm.Cond.selects "java/util/TreeMap$ValueIterator" ({ cls := "java/util/TreeMap$ValueIterator", name := "nextEntry", desc := "()Ljava/util/TreeMap$Entry;" } : Jvm.MethodName) ({ cls := "java/util/TreeMap$PrivateEntryIterator", name := "nextEntry", desc := "()Ljava/util/TreeMap$Entry;" } : Jvm.MethodName)) ∈ lw_all := lw_g (lw_at lw_m5 212 rfl) rfl
theorem q1340 : (Jvm.Cond.fieldLink "java/util/TreeMap$ValueIterator" (13 : Nat) "java/util/TreeMap$Entry" "value" "Ljava/lang/Object;") ∈ lw_all := lw_g (lw_at lw_m6 63 rfl) rfl
theorem q1519 : (Jvm.Cond.instantiable "java/util/TreeMap$ValueIterator" (4 : Nat)) ∈ lw_all := lw_g (lw_at lw_m7 2 rfl) rfl
theorem q1522 : (Jvm.Cond.instanceMethod ({ cls := "java/util/TreeMap$ValueIterator", name := "<init>", desc := "(Ljava/util/TreeMap;Ljava/util/TreeMap$Entry;)V" } : Jvm.MethodName)) ∈ lw_all := lw_g (lw_at lw_m7 5 rfl) rfl
theorem q1523 : (Jvm.Cond.code ({ cls := "java/util/TreeMap$ValueIterator", name := "<init>", desc := "(Ljava/util/TreeMap;Ljava/util/TreeMap$Entry;)V" } : Jvm.MethodName) prog_89_method_1_code (3 : Nat) (Option.none : Option Jvm.ClassFile.FieldType)) ∈ lw_all := lw_g (lw_at lw_m7 6 rfl) rfl
theorem q1524 : (Jvm.Cond.methodLink "java/util/TreeMap$ValueIterator" (1 : Nat) ({ cls := "java/util/TreeMap$PrivateEntryIterator", name := "<init>", desc := "(Ljava/util/TreeMap;Ljava/util/TreeMap$Entry;)V" } : Jvm.MethodName)) ∈ lw_all := lw_g (lw_at lw_m7 7 rfl) rfl
theorem q1525 : (Jvm.Cond.lays "java/util/TreeMap$ValueIterator" "java/util/TreeMap$PrivateEntryIterator" "next" "Ljava/util/TreeMap$Entry;") ∈ lw_all := lw_g (lw_at lw_m7 8 rfl) rfl
theorem q1526 : (Jvm.Cond.lays "java/util/TreeMap$ValueIterator" "java/util/TreeMap$PrivateEntryIterator" "lastReturned" "Ljava/util/TreeMap$Entry;") ∈ lw_all := lw_g (lw_at lw_m7 9 rfl) rfl
theorem q1527 : (Jvm.Cond.lays "java/util/TreeMap$ValueIterator" "java/util/TreeMap$PrivateEntryIterator" "expectedModCount" "I") ∈ lw_all := lw_g (lw_at lw_m7 10 rfl) rfl
theorem q1528 : (Jvm.Cond.laysFinal "java/util/TreeMap$ValueIterator" "java/util/TreeMap$PrivateEntryIterator" "this$0" "Ljava/util/TreeMap;") ∈ lw_all := lw_g (lw_at lw_m7 11 rfl) rfl
theorem q1529 : (Jvm.Cond.superclass "java/util/TreeMap$ValueIterator" "java/util/TreeMap$PrivateEntryIterator") ∈ lw_all := lw_g (lw_at lw_m7 12 rfl) rfl
theorem q1650 : (Jvm.Cond.selects "java/util/TreeMap$ValueIterator" ({ cls := "java/util/Iterator", name := "remove", desc := "()V" } : Jvm.MethodName) ({ cls := "java/util/TreeMap$PrivateEntryIterator", name := "remove", desc := "()V" } : Jvm.MethodName)) ∈ lw_all := lw_g (lw_at lw_m7 133 rfl) rfl
theorem q1651 : (Jvm.Cond.unhidden "java/util/TreeMap$ValueIterator" "remove" "()V") ∈ lw_tbl := lw_at lw_m7 134 rfl
theorem q3559 : (Jvm.Cond.castable "java/util/TreeMap$ValueIterator" "java/lang/Object") ∈ lw_tbl := lw_at lw_m15 122 rfl
def RJ41 : String := "java/lang/UnsupportedOperationException"
def TJ41 : u_T := fun k => match k with
  | 0 => ("java/lang/Throwable", "cause", "Ljava/lang/Throwable;", false)
  | 1 => ("java/lang/Throwable", "stackTrace", "[Ljava/lang/StackTraceElement;", false)
  | 2 => ("java/lang/Throwable", "suppressedExceptions", "Ljava/util/List;", false)
  | 3 => ("java/lang/Throwable", "detailMessage", "Ljava/lang/String;", false)
  | 4 => ("java/lang/Throwable", "backtrace", "Ljava/lang/Object;", false)
  | _ => ("java/lang/Throwable", "depth", "I", false)
def tyJ41 : Nat → FieldType := fun k => match k with
  | 0 => .object "java/lang/Throwable"
  | 1 => .array (.object "java/lang/StackTraceElement")
  | 2 => .object "java/util/List"
  | 3 => .object "java/lang/String"
  | 4 => .object "java/lang/Object"
  | _ => .int
abbrev wsJ410 : List Cond := u_ws RJ41 TJ41 6
theorem nmJ41 : ∀ a, a < 6 → ∀ b, b < 6 → a ≠ b → (TJ41 a).2.1 ≠ (TJ41 b).2.1 := by decide +kernel
theorem tyJ41_ok : ∀ k, k < 6 → parseFieldDescriptor (TJ41 k).2.2.1 = some (tyJ41 k) := by decide +kernel
theorem q129 : (Jvm.Cond.initialized "java/lang/UnsupportedOperationException") ∈ lw_all := lw_g (lw_at lw_m1 52 rfl) rfl
theorem q474 : (Jvm.Cond.selects "java/lang/UnsupportedOperationException" ({ cls := "java/lang/Throwable", name := "fillInStackTrace", desc := "()Ljava/lang/Throwable;" } : Jvm.MethodName) ({ cls := "java/lang/Throwable", name := "fillInStackTrace", desc := "()Ljava/lang/Throwable;" } : Jvm.MethodName)) ∈ lw_all := lw_g (lw_at lw_m2 157 rfl) rfl
theorem q536 : (Jvm.Cond.selects "java/lang/UnsupportedOperationException" ({ cls := "java/lang/Object", name := "getClass", desc := "()Ljava/lang/Class;" } : Jvm.MethodName) ({ cls := "java/lang/Object", name := "getClass", desc := "()Ljava/lang/Class;" } : Jvm.MethodName)) ∈ lw_all := lw_g (lw_at lw_m2 219 rfl) rfl
theorem q1899 : (Jvm.Cond.instantiable "java/lang/UnsupportedOperationException" (6 : Nat)) ∈ lw_all := lw_g (lw_at lw_m8 142 rfl) rfl
theorem q1900 : (Jvm.Cond.castable "java/lang/UnsupportedOperationException" "java/lang/UnsupportedOperationException") ∈ lw_tbl := lw_at lw_m8 143 rfl
theorem q1901 : (Jvm.Cond.selects "java/lang/UnsupportedOperationException" ({ cls := "java/lang/Throwable", name := "fillInStackTrace", desc := "(I)Ljava/lang/Throwable;" } : Jvm.MethodName) ({ cls := "java/lang/Throwable", name := "fillInStackTrace", desc := "(I)Ljava/lang/Throwable;" } : Jvm.MethodName)) ∈ lw_all := lw_g (lw_at lw_m8 144 rfl) rfl
theorem q1902 : (Jvm.Cond.lays "java/lang/UnsupportedOperationException" "java/lang/Throwable" "cause" "Ljava/lang/Throwable;") ∈ lw_all := lw_g (lw_at lw_m8 145 rfl) rfl
theorem q1903 : (Jvm.Cond.lays "java/lang/UnsupportedOperationException" "java/lang/Throwable" "stackTrace" "[Ljava/lang/StackTraceElement;") ∈ lw_all := lw_g (lw_at lw_m8 146 rfl) rfl
theorem q1904 : (Jvm.Cond.lays "java/lang/UnsupportedOperationException" "java/lang/Throwable" "suppressedExceptions" "Ljava/util/List;") ∈ lw_all := lw_g (lw_at lw_m8 147 rfl) rfl
theorem q1905 : (Jvm.Cond.lays "java/lang/UnsupportedOperationException" "java/lang/Throwable" "detailMessage" "Ljava/lang/String;") ∈ lw_all := lw_g (lw_at lw_m8 148 rfl) rfl
theorem q1906 : (Jvm.Cond.lays "java/lang/UnsupportedOperationException" "java/lang/Throwable" "backtrace" "Ljava/lang/Object;") ∈ lw_all := lw_g (lw_at lw_m8 149 rfl) rfl
theorem q1908 : (Jvm.Cond.instanceMethod ({ cls := "java/lang/UnsupportedOperationException", name := "<init>", desc := "()V" } : Jvm.MethodName)) ∈ lw_all := lw_g (lw_at lw_m8 151 rfl) rfl
theorem q1909 : (Jvm.Cond.code ({ cls := "java/lang/UnsupportedOperationException", name := "<init>", desc := "()V" } : Jvm.MethodName) prog_40_method_1_code (1 : Nat) (Option.none : Option Jvm.ClassFile.FieldType)) ∈ lw_all := lw_g (lw_at lw_m8 152 rfl) rfl
theorem q1910 : (Jvm.Cond.methodLink "java/lang/UnsupportedOperationException" (1 : Nat) ({ cls := "java/lang/RuntimeException", name := "<init>", desc := "()V" } : Jvm.MethodName)) ∈ lw_all := lw_g (lw_at lw_m8 153 rfl) rfl
theorem q1911 : (Jvm.Cond.lays "java/lang/UnsupportedOperationException" "java/lang/Throwable" "depth" "I") ∈ lw_all := lw_g (lw_at lw_m8 154 rfl) rfl
theorem q1912 : (Jvm.Cond.superclass "java/lang/UnsupportedOperationException" "java/lang/RuntimeException") ∈ lw_all := lw_g (lw_at lw_m8 155 rfl) rfl
theorem q3556 : (Jvm.Cond.castable "java/lang/UnsupportedOperationException" "java/lang/Object") ∈ lw_tbl := lw_at lw_m15 119 rfl
def RJ42 : String := "java/util/AbstractQueue"
theorem q130 : (Jvm.Cond.initialized "java/util/AbstractQueue") ∈ lw_all := lw_g (lw_at lw_m1 53 rfl) rfl
theorem q2420 : (Jvm.Cond.instanceMethod ({ cls := "java/util/AbstractQueue", name := "<init>", desc := "()V" } : Jvm.MethodName)) ∈ lw_all := lw_g (lw_at lw_m10 183 rfl) rfl
theorem q2421 : (Jvm.Cond.code ({ cls := "java/util/AbstractQueue", name := "<init>", desc := "()V" } : Jvm.MethodName) prog_47_method_1_code (1 : Nat) (Option.none : Option Jvm.ClassFile.FieldType)) ∈ lw_all := lw_g (lw_at lw_m10 184 rfl) rfl
theorem q2422 : (Jvm.Cond.methodLink "java/util/AbstractQueue" (1 : Nat) ({ cls := "java/util/AbstractCollection", name := "<init>", desc := "()V" } : Jvm.MethodName)) ∈ lw_all := lw_g (lw_at lw_m10 185 rfl) rfl
def RJ43 : String := "java/util/PriorityQueue"
def TJ43 : u_T := fun k => match k with
  | 0 => ("java/util/PriorityQueue", "queue", "[Ljava/lang/Object;", false)
  | 1 => ("java/util/PriorityQueue", "size", "I", false)
  | 2 => ("java/util/PriorityQueue", "comparator", "Ljava/util/Comparator;", true)
  | _ => ("java/util/PriorityQueue", "modCount", "I", false)
def tyJ43 : Nat → FieldType := fun k => match k with
  | 0 => .array (.object "java/lang/Object")
  | 1 => .int
  | 2 => .object "java/util/Comparator"
  | _ => .int
abbrev wsJ430 : List Cond := u_ws RJ43 TJ43 4
theorem nmJ43 : ∀ a, a < 4 → ∀ b, b < 4 → a ≠ b → (TJ43 a).2.1 ≠ (TJ43 b).2.1 := by decide +kernel
theorem tyJ43_ok : ∀ k, k < 4 → parseFieldDescriptor (TJ43 k).2.2.1 = some (tyJ43 k) := by decide +kernel
theorem q131 : (Jvm.Cond.initialized "java/util/PriorityQueue") ∈ lw_all := lw_g (lw_at lw_m1 54 rfl) rfl
theorem q541 : (Jvm.Cond.selects "java/util/PriorityQueue" ({ cls := "java/lang/Object", name := "getClass", desc := "()Ljava/lang/Class;" } : Jvm.MethodName) ({ cls := "java/lang/Object", name := "getClass", desc := "()Ljava/lang/Class;" } : Jvm.MethodName)) ∈ lw_all := lw_g (lw_at lw_m2 224 rfl) rfl
theorem q1484 : (Jvm.Cond.selects "java/util/PriorityQueue" ({ cls := "java/util/AbstractCollection", name := "iterator", desc := "()Ljava/util/Iterator;" } : Jvm.MethodName) ({ cls := "java/util/PriorityQueue", name := "iterator", desc := "()Ljava/util/Iterator;" } : Jvm.MethodName)) ∈ lw_all := lw_g (lw_at lw_m6 207 rfl) rfl
theorem q1485 : (Jvm.Cond.instanceMethod ({ cls := "java/util/PriorityQueue", name := "iterator", desc := "()Ljava/util/Iterator;" } : Jvm.MethodName)) ∈ lw_all := lw_g (lw_at lw_m6 208 rfl) rfl
theorem q1486 : (Jvm.Cond.code ({ cls := "java/util/PriorityQueue", name := "iterator", desc := "()Ljava/util/Iterator;" } : Jvm.MethodName) prog_64_method_22_code (1 : Nat) (Option.some (Jvm.ClassFile.FieldType.object "java/util/Iterator"))) ∈ lw_all := lw_g (lw_at lw_m6 209 rfl) rfl
theorem q1487 : (Jvm.Cond.classLink "java/util/PriorityQueue" (121 : Nat) "java/util/PriorityQueue$Itr") ∈ lw_all := lw_g (lw_at lw_m6 210 rfl) rfl
theorem q1489 : (Jvm.Cond.methodLink "java/util/PriorityQueue" (123 : Nat) ({ cls := "java/util/PriorityQueue$Itr", name := "<init>", desc := "(Ljava/util/PriorityQueue;)V" } : Jvm.MethodName)) ∈ lw_all := lw_g (lw_at lw_m6 212 rfl) rfl
theorem q1567 : (Jvm.Cond.instanceMethod ({ cls := "java/util/PriorityQueue", name := "removeAt", desc := "(I)Ljava/lang/Object;" } : Jvm.MethodName)) ∈ lw_all := lw_g (lw_at lw_m7 50 rfl) rfl
theorem q1568 : (Jvm.Cond.selects "java/util/PriorityQueue" ({ cls := "java/util/PriorityQueue", name := "removeAt", desc := "(I)Ljava/lang/Object;" } : Jvm.MethodName) ({ cls := "java/util/PriorityQueue", name := "removeAt", desc := "(I)Ljava/lang/Object;" } : Jvm.MethodName)) ∈ lw_all := lw_g (lw_at lw_m7 51 rfl) rfl
theorem q1569 : (Jvm.Cond.code ({ cls := "java/util/PriorityQueue", name := "removeAt", desc := "(I)Ljava/lang/Object;" } : Jvm.MethodName) prog_64_method_26_code (5 : Nat) (Option.some (Jvm.ClassFile.FieldType.object "java/lang/Object"))) ∈ lw_all := lw_g (lw_at lw_m7 52 rfl) rfl
theorem q1570 : (Jvm.Cond.methodLink "java/util/PriorityQueue" (133 : Nat) ({ cls := "java/util/PriorityQueue", name := "siftDown", desc := "(ILjava/lang/Object;)V" } : Jvm.MethodName)) ∈ lw_all := lw_g (lw_at lw_m7 53 rfl) rfl
theorem q1571 : (Jvm.Cond.privateMethod ({ cls := "java/util/PriorityQueue", name := "siftDown", desc := "(ILjava/lang/Object;)V" } : Jvm.MethodName)) ∈ lw_tbl := lw_at lw_m7 54 rfl
theorem q1572 : (Jvm.Cond.instanceMethod ({ cls := "java/util/PriorityQueue", name := "siftDown", desc := "(ILjava/lang/Object;)V" } : Jvm.MethodName)) ∈ lw_all := lw_g (lw_at lw_m7 55 rfl) rfl
theorem q1573 : (Jvm.Cond.instantiable "java/util/PriorityQueue" (4 : Nat)) ∈ lw_all := lw_g (lw_at lw_m7 56 rfl) rfl
theorem q1574 : (Jvm.Cond.code ({ cls := "java/util/PriorityQueue", name := "siftDown", desc := "(ILjava/lang/Object;)V" } : Jvm.MethodName) prog_64_method_30_code (3 : Nat) (Option.none : Option Jvm.ClassFile.FieldType)) ∈ lw_all := lw_g (lw_at lw_m7 57 rfl) rfl
theorem q1575 : (Jvm.Cond.methodLink "java/util/PriorityQueue" (129 : Nat) ({ cls := "java/util/PriorityQueue", name := "siftDownUsingComparator", desc := "(ILjava/lang/Object;[Ljava/lang/Object;ILjava/util/Comparator;)V" } : Jvm.MethodName)) ∈ lw_all := lw_g (lw_at lw_m7 58 rfl) rfl
theorem q1576 : (Jvm.Cond.static ({ cls := "java/util/PriorityQueue", name := "siftDownUsingComparator", desc := "(ILjava/lang/Object;[Ljava/lang/Object;ILjava/util/Comparator;)V" } : Jvm.MethodName)) ∈ lw_all := lw_g (lw_at lw_m7 59 rfl) rfl
theorem q1577 : (Jvm.Cond.code ({ cls := "java/util/PriorityQueue", name := "siftDownUsingComparator", desc := "(ILjava/lang/Object;[Ljava/lang/Object;ILjava/util/Comparator;)V" } : Jvm.MethodName) prog_64_method_32_code (9 : Nat) (Option.none : Option Jvm.ClassFile.FieldType)) ∈ lw_all := lw_g (lw_at lw_m7 60 rfl) rfl
theorem q1578 : (Jvm.Cond.interfaceEntry "java/util/PriorityQueue" (149 : Nat)) ∈ lw_tbl := lw_at lw_m7 61 rfl
theorem q1579 : (Jvm.Cond.methodLink "java/util/PriorityQueue" (149 : Nat) ({ cls := "java/util/Comparator", name := "compare", desc := "(Ljava/lang/Object;Ljava/lang/Object;)I" } : Jvm.MethodName)) ∈ lw_all := lw_g (lw_at lw_m7 62 rfl) rfl
theorem q1580 : (Jvm.Cond.methodLink "java/util/PriorityQueue" (125 : Nat) ({ cls := "java/util/PriorityQueue", name := "siftDownComparable", desc := "(ILjava/lang/Object;[Ljava/lang/Object;I)V" } : Jvm.MethodName)) ∈ lw_all := lw_g (lw_at lw_m7 63 rfl) rfl
theorem q1581 : (Jvm.Cond.static ({ cls := "java/util/PriorityQueue", name := "siftDownComparable", desc := "(ILjava/lang/Object;[Ljava/lang/Object;I)V" } : Jvm.MethodName)) ∈ lw_all := lw_g (lw_at lw_m7 64 rfl) rfl
theorem q1582 : (Jvm.Cond.code ({ cls := "java/util/PriorityQueue", name := "siftDownComparable", desc := "(ILjava/lang/Object;[Ljava/lang/Object;I)V" } : Jvm.MethodName) prog_64_method_31_code (9 : Nat) (Option.none : Option Jvm.ClassFile.FieldType)) ∈ lw_all := lw_g (lw_at lw_m7 65 rfl) rfl
theorem q1583 : (Jvm.Cond.classLink "java/util/PriorityQueue" (144 : Nat) "java/lang/Comparable") ∈ lw_all := lw_g (lw_at lw_m7 66 rfl) rfl
theorem q1584 : (Jvm.Cond.interfaceEntry "java/util/PriorityQueue" (146 : Nat)) ∈ lw_tbl := lw_at lw_m7 67 rfl
theorem q1585 : (Jvm.Cond.methodLink "java/util/PriorityQueue" (146 : Nat) ({ cls := "java/lang/Comparable", name := "compareTo", desc := "(Ljava/lang/Object;)I" } : Jvm.MethodName)) ∈ lw_all := lw_g (lw_at lw_m7 68 rfl) rfl
theorem q1586 : (Jvm.Cond.methodLink "java/util/PriorityQueue" (100 : Nat) ({ cls := "java/util/PriorityQueue", name := "siftUp", desc := "(ILjava/lang/Object;)V" } : Jvm.MethodName)) ∈ lw_all := lw_g (lw_at lw_m7 69 rfl) rfl
theorem q1587 : (Jvm.Cond.privateMethod ({ cls := "java/util/PriorityQueue", name := "siftUp", desc := "(ILjava/lang/Object;)V" } : Jvm.MethodName)) ∈ lw_tbl := lw_at lw_m7 70 rfl
theorem q1588 : (Jvm.Cond.instanceMethod ({ cls := "java/util/PriorityQueue", name := "siftUp", desc := "(ILjava/lang/Object;)V" } : Jvm.MethodName)) ∈ lw_all := lw_g (lw_at lw_m7 71 rfl) rfl
theorem q1589 : (Jvm.Cond.code ({ cls := "java/util/PriorityQueue", name := "siftUp", desc := "(ILjava/lang/Object;)V" } : Jvm.MethodName) prog_64_method_27_code (3 : Nat) (Option.none : Option Jvm.ClassFile.FieldType)) ∈ lw_all := lw_g (lw_at lw_m7 72 rfl) rfl
theorem q1590 : (Jvm.Cond.methodLink "java/util/PriorityQueue" (136 : Nat) ({ cls := "java/util/PriorityQueue", name := "siftUpUsingComparator", desc := "(ILjava/lang/Object;[Ljava/lang/Object;Ljava/util/Comparator;)V" } : Jvm.MethodName)) ∈ lw_all := lw_g (lw_at lw_m7 73 rfl) rfl
theorem q1591 : (Jvm.Cond.static ({ cls := "java/util/PriorityQueue", name := "siftUpUsingComparator", desc := "(ILjava/lang/Object;[Ljava/lang/Object;Ljava/util/Comparator;)V" } : Jvm.MethodName)) ∈ lw_all := lw_g (lw_at lw_m7 74 rfl) rfl
theorem q1592 : (Jvm.Cond.code ({ cls := "java/util/PriorityQueue", name := "siftUpUsingComparator", desc := "(ILjava/lang/Object;[Ljava/lang/Object;Ljava/util/Comparator;)V" } : Jvm.MethodName) prog_64_method_29_code (6 : Nat) (Option.none : Option Jvm.ClassFile.FieldType)) ∈ lw_all := lw_g (lw_at lw_m7 75 rfl) rfl
theorem q1593 : (Jvm.Cond.methodLink "java/util/PriorityQueue" (140 : Nat) ({ cls := "java/util/PriorityQueue", name := "siftUpComparable", desc := "(ILjava/lang/Object;[Ljava/lang/Object;)V" } : Jvm.MethodName)) ∈ lw_all := lw_g (lw_at lw_m7 76 rfl) rfl
theorem q1594 : (Jvm.Cond.static ({ cls := "java/util/PriorityQueue", name := "siftUpComparable", desc := "(ILjava/lang/Object;[Ljava/lang/Object;)V" } : Jvm.MethodName)) ∈ lw_all := lw_g (lw_at lw_m7 77 rfl) rfl
theorem q1595 : (Jvm.Cond.code ({ cls := "java/util/PriorityQueue", name := "siftUpComparable", desc := "(ILjava/lang/Object;[Ljava/lang/Object;)V" } : Jvm.MethodName) prog_64_method_28_code (6 : Nat) (Option.none : Option Jvm.ClassFile.FieldType)) ∈ lw_all := lw_g (lw_at lw_m7 78 rfl) rfl
theorem q1604 : (Jvm.Cond.instanceMethod ({ cls := "java/util/PriorityQueue", name := "removeEq", desc := "(Ljava/lang/Object;)V" } : Jvm.MethodName)) ∈ lw_all := lw_g (lw_at lw_m7 87 rfl) rfl
theorem q1605 : (Jvm.Cond.selects "java/util/PriorityQueue" ({ cls := "java/util/PriorityQueue", name := "removeEq", desc := "(Ljava/lang/Object;)V" } : Jvm.MethodName) ({ cls := "java/util/PriorityQueue", name := "removeEq", desc := "(Ljava/lang/Object;)V" } : Jvm.MethodName)) ∈ lw_all := lw_g (lw_at lw_m7 88 rfl) rfl
theorem q1606 : (Jvm.Cond.code ({ cls := "java/util/PriorityQueue", name := "removeEq", desc := "(Ljava/lang/Object;)V" } : Jvm.MethodName) prog_64_method_18_code (5 : Nat) (Option.none : Option Jvm.ClassFile.FieldType)) ∈ lw_all := lw_g (lw_at lw_m7 89 rfl) rfl
theorem q1607 : (Jvm.Cond.methodLink "java/util/PriorityQueue" (111 : Nat) ({ cls := "java/util/PriorityQueue", name := "removeAt", desc := "(I)Ljava/lang/Object;" } : Jvm.MethodName)) ∈ lw_all := lw_g (lw_at lw_m7 90 rfl) rfl
theorem q2076 : (Jvm.Cond.castable "java/util/PriorityQueue" "java/util/Collection") ∈ lw_tbl := lw_at lw_m9 79 rfl
theorem q2077 : (Jvm.Cond.selects "java/util/PriorityQueue" ({ cls := "java/util/Collection", name := "iterator", desc := "()Ljava/util/Iterator;" } : Jvm.MethodName) ({ cls := "java/util/PriorityQueue", name := "iterator", desc := "()Ljava/util/Iterator;" } : Jvm.MethodName)) ∈ lw_all := lw_g (lw_at lw_m9 80 rfl) rfl
theorem q2078 : (Jvm.Cond.unhidden "java/util/PriorityQueue" "iterator" "()Ljava/util/Iterator;") ∈ lw_tbl := lw_at lw_m9 81 rfl
theorem q2079 : (Jvm.Cond.publicMethod ({ cls := "java/util/PriorityQueue", name := "iterator", desc := "()Ljava/util/Iterator;" } : Jvm.MethodName)) ∈ lw_tbl := lw_at lw_m9 82 rfl
theorem q2414 : (Jvm.Cond.instanceMethod ({ cls := "java/util/PriorityQueue", name := "<init>", desc := "(Ljava/util/Comparator;)V" } : Jvm.MethodName)) ∈ lw_all := lw_g (lw_at lw_m10 177 rfl) rfl
theorem q2415 : (Jvm.Cond.code ({ cls := "java/util/PriorityQueue", name := "<init>", desc := "(Ljava/util/Comparator;)V" } : Jvm.MethodName) prog_64_method_3_code (2 : Nat) (Option.none : Option Jvm.ClassFile.FieldType)) ∈ lw_all := lw_g (lw_at lw_m10 178 rfl) rfl
theorem q2416 : (Jvm.Cond.methodLink "java/util/PriorityQueue" (3 : Nat) ({ cls := "java/util/PriorityQueue", name := "<init>", desc := "(ILjava/util/Comparator;)V" } : Jvm.MethodName)) ∈ lw_all := lw_g (lw_at lw_m10 179 rfl) rfl
theorem q2417 : (Jvm.Cond.instanceMethod ({ cls := "java/util/PriorityQueue", name := "<init>", desc := "(ILjava/util/Comparator;)V" } : Jvm.MethodName)) ∈ lw_all := lw_g (lw_at lw_m10 180 rfl) rfl
theorem q2418 : (Jvm.Cond.code ({ cls := "java/util/PriorityQueue", name := "<init>", desc := "(ILjava/util/Comparator;)V" } : Jvm.MethodName) prog_64_method_4_code (3 : Nat) (Option.none : Option Jvm.ClassFile.FieldType)) ∈ lw_all := lw_g (lw_at lw_m10 181 rfl) rfl
theorem q2419 : (Jvm.Cond.methodLink "java/util/PriorityQueue" (7 : Nat) ({ cls := "java/util/AbstractQueue", name := "<init>", desc := "()V" } : Jvm.MethodName)) ∈ lw_all := lw_g (lw_at lw_m10 182 rfl) rfl
theorem q2423 : (Jvm.Cond.classLink "java/util/PriorityQueue" (12 : Nat) "java/lang/IllegalArgumentException") ∈ lw_all := lw_g (lw_at lw_m10 186 rfl) rfl
theorem q2424 : (Jvm.Cond.methodLink "java/util/PriorityQueue" (14 : Nat) ({ cls := "java/lang/IllegalArgumentException", name := "<init>", desc := "()V" } : Jvm.MethodName)) ∈ lw_all := lw_g (lw_at lw_m10 187 rfl) rfl
theorem q2425 : (Jvm.Cond.classLink "java/util/PriorityQueue" (15 : Nat) "java/lang/Object") ∈ lw_all := lw_g (lw_at lw_m10 188 rfl) rfl
theorem q2427 : (Jvm.Cond.fieldLink "java/util/PriorityQueue" (17 : Nat) "java/util/PriorityQueue" "queue" "[Ljava/lang/Object;") ∈ lw_all := lw_g (lw_at lw_m10 190 rfl) rfl
theorem q2429 : (Jvm.Cond.fieldLink "java/util/PriorityQueue" (58 : Nat) "java/util/PriorityQueue" "size" "I") ∈ lw_all := lw_g (lw_at lw_m10 192 rfl) rfl
theorem q2430 : (Jvm.Cond.fieldLink "java/util/PriorityQueue" (21 : Nat) "java/util/PriorityQueue" "comparator" "Ljava/util/Comparator;") ∈ lw_all := lw_g (lw_at lw_m10 193 rfl) rfl
theorem q2432 : (Jvm.Cond.fieldLink "java/util/PriorityQueue" (93 : Nat) "java/util/PriorityQueue" "modCount" "I") ∈ lw_all := lw_g (lw_at lw_m10 195 rfl) rfl
theorem q2433 : (Jvm.Cond.lays "java/util/PriorityQueue" "java/util/PriorityQueue" "queue" "[Ljava/lang/Object;") ∈ lw_all := lw_g (lw_at lw_m10 196 rfl) rfl
theorem q2434 : (Jvm.Cond.soleField "java/util/PriorityQueue" "queue") ∈ lw_all := lw_g (lw_at lw_m10 197 rfl) rfl
theorem q2435 : (Jvm.Cond.lays "java/util/PriorityQueue" "java/util/PriorityQueue" "size" "I") ∈ lw_all := lw_g (lw_at lw_m10 198 rfl) rfl
theorem q2436 : (Jvm.Cond.soleField "java/util/PriorityQueue" "size") ∈ lw_all := lw_g (lw_at lw_m10 199 rfl) rfl
theorem q2437 : (Jvm.Cond.laysFinal "java/util/PriorityQueue" "java/util/PriorityQueue" "comparator" "Ljava/util/Comparator;") ∈ lw_all := lw_g (lw_at lw_m10 200 rfl) rfl
theorem q2438 : (Jvm.Cond.soleField "java/util/PriorityQueue" "comparator") ∈ lw_all := lw_g (lw_at lw_m10 201 rfl) rfl
theorem q2439 : (Jvm.Cond.lays "java/util/PriorityQueue" "java/util/PriorityQueue" "modCount" "I") ∈ lw_all := lw_g (lw_at lw_m10 202 rfl) rfl
theorem q2440 : (Jvm.Cond.soleField "java/util/PriorityQueue" "modCount") ∈ lw_all := lw_g (lw_at lw_m10 203 rfl) rfl
theorem q2441 : (Jvm.Cond.superclass "java/util/PriorityQueue" "java/util/AbstractQueue") ∈ lw_all := lw_g (lw_at lw_m10 204 rfl) rfl
theorem q2443 : (Jvm.Cond.instanceMethod ({ cls := "java/util/PriorityQueue", name := "offer", desc := "(Ljava/lang/Object;)Z" } : Jvm.MethodName)) ∈ lw_all := lw_g (lw_at lw_m10 206 rfl) rfl
theorem q2444 : (Jvm.Cond.selects "java/util/PriorityQueue" ({ cls := "java/util/PriorityQueue", name := "offer", desc := "(Ljava/lang/Object;)Z" } : Jvm.MethodName) ({ cls := "java/util/PriorityQueue", name := "offer", desc := "(Ljava/lang/Object;)Z" } : Jvm.MethodName)) ∈ lw_all := lw_g (lw_at lw_m10 207 rfl) rfl
theorem q2445 : (Jvm.Cond.code ({ cls := "java/util/PriorityQueue", name := "offer", desc := "(Ljava/lang/Object;)Z" } : Jvm.MethodName) prog_64_method_14_code (3 : Nat) (Option.some Jvm.ClassFile.FieldType.boolean)) ∈ lw_all := lw_g (lw_at lw_m10 208 rfl) rfl
theorem q2446 : (Jvm.Cond.methodLink "java/util/PriorityQueue" (96 : Nat) ({ cls := "java/util/PriorityQueue", name := "grow", desc := "(I)V" } : Jvm.MethodName)) ∈ lw_all := lw_g (lw_at lw_m10 209 rfl) rfl
theorem q2447 : (Jvm.Cond.privateMethod ({ cls := "java/util/PriorityQueue", name := "grow", desc := "(I)V" } : Jvm.MethodName)) ∈ lw_tbl := lw_at lw_m10 210 rfl
theorem q2448 : (Jvm.Cond.instanceMethod ({ cls := "java/util/PriorityQueue", name := "grow", desc := "(I)V" } : Jvm.MethodName)) ∈ lw_all := lw_g (lw_at lw_m10 211 rfl) rfl
theorem q2449 : (Jvm.Cond.code ({ cls := "java/util/PriorityQueue", name := "grow", desc := "(I)V" } : Jvm.MethodName) prog_64_method_12_code (4 : Nat) (Option.none : Option Jvm.ClassFile.FieldType)) ∈ lw_all := lw_g (lw_at lw_m10 212 rfl) rfl
theorem q2450 : (Jvm.Cond.methodLink "java/util/PriorityQueue" (80 : Nat) ({ cls := "jdk/internal/util/ArraysSupport", name := "newLength", desc := "(III)I" } : Jvm.MethodName)) ∈ lw_all := lw_g (lw_at lw_m10 213 rfl) rfl
theorem q2460 : (Jvm.Cond.methodLink "java/util/PriorityQueue" (86 : Nat) ({ cls := "java/util/Arrays", name := "copyOf", desc := "([Ljava/lang/Object;I)[Ljava/lang/Object;" } : Jvm.MethodName)) ∈ lw_all := lw_g (lw_at lw_m10 223 rfl) rfl
theorem q2462 : (Jvm.Cond.instanceMethod ({ cls := "java/util/PriorityQueue", name := "poll", desc := "()Ljava/lang/Object;" } : Jvm.MethodName)) ∈ lw_all := lw_g (lw_at lw_m10 225 rfl) rfl
theorem q2463 : (Jvm.Cond.selects "java/util/PriorityQueue" ({ cls := "java/util/PriorityQueue", name := "poll", desc := "()Ljava/lang/Object;" } : Jvm.MethodName) ({ cls := "java/util/PriorityQueue", name := "poll", desc := "()Ljava/lang/Object;" } : Jvm.MethodName)) ∈ lw_all := lw_g (lw_at lw_m10 226 rfl) rfl
theorem q2464 : (Jvm.Cond.code ({ cls := "java/util/PriorityQueue", name := "poll", desc := "()Ljava/lang/Object;" } : Jvm.MethodName) prog_64_method_25_code (6 : Nat) (Option.some (Jvm.ClassFile.FieldType.object "java/lang/Object"))) ∈ lw_all := lw_g (lw_at lw_m10 227 rfl) rfl
theorem q2545 : (Jvm.Cond.selects "java/util/PriorityQueue" ({ cls := "java/util/AbstractCollection", name := "size", desc := "()I" } : Jvm.MethodName) ({ cls := "java/util/PriorityQueue", name := "size", desc := "()I" } : Jvm.MethodName)) ∈ lw_all := lw_g (lw_at lw_m11 68 rfl) rfl
theorem q2546 : (Jvm.Cond.instanceMethod ({ cls := "java/util/PriorityQueue", name := "size", desc := "()I" } : Jvm.MethodName)) ∈ lw_all := lw_g (lw_at lw_m11 69 rfl) rfl
theorem q2547 : (Jvm.Cond.code ({ cls := "java/util/PriorityQueue", name := "size", desc := "()I" } : Jvm.MethodName) prog_64_method_23_code (1 : Nat) (Option.some Jvm.ClassFile.FieldType.int)) ∈ lw_all := lw_g (lw_at lw_m11 70 rfl) rfl
theorem q3563 : (Jvm.Cond.castable "java/util/PriorityQueue" "java/lang/Object") ∈ lw_tbl := lw_at lw_m15 126 rfl
def RJ44 : String := "java/util/TreeMap$Values"
def TJ44 : u_T := fun k => match k with
  | _ => ("java/util/TreeMap$Values", "this$0", "Ljava/util/TreeMap;", true)
def tyJ44 : Nat → FieldType := fun k => match k with
  | _ => .object "java/util/TreeMap"
abbrev wsJ440 : List Cond := u_ws RJ44 TJ44 1
theorem nmJ44 : ∀ a, a < 1 → ∀ b, b < 1 → a ≠ b → (TJ44 a).2.1 ≠ (TJ44 b).2.1 := by decide +kernel
theorem tyJ44_ok : ∀ k, k < 1 → parseFieldDescriptor (TJ44 k).2.2.1 = some (tyJ44 k) := by decide +kernel
theorem q134 : (Jvm.Cond.initialized "java/util/TreeMap$Values") ∈ lw_all := lw_g (lw_at lw_m1 57 rfl) rfl
theorem q554 : (Jvm.Cond.selects "java/util/TreeMap$Values" ({ cls := "java/lang/Object", name := "getClass", desc := "()Ljava/lang/Class;" } : Jvm.MethodName) ({ cls := "java/lang/Object", name := "getClass", desc := "()Ljava/lang/Class;" } : Jvm.MethodName)) ∈ lw_all := lw_g (lw_at lw_m2 237 rfl) rfl
theorem q1515 : (Jvm.Cond.selects "java/util/TreeMap$Values" ({ cls := "java/util/AbstractCollection", name := "iterator", desc := "()Ljava/util/Iterator;" } : Jvm.MethodName) ({ cls := "java/util/TreeMap$Values", name := "iterator", desc := "()Ljava/util/Iterator;" } : Jvm.MethodName)) ∈ lw_all := lw_g (lw_at lw_m6 238 rfl) rfl
theorem q1516 : (Jvm.Cond.instanceMethod ({ cls := "java/util/TreeMap$Values", name := "iterator", desc := "()Ljava/util/Iterator;" } : Jvm.MethodName)) ∈ lw_all := lw_g (lw_at lw_m6 239 rfl) rfl
theorem q1517 : (Jvm.Cond.code ({ cls := "java/util/TreeMap$Values", name := "iterator", desc := "()Ljava/util/Iterator;" } : Jvm.MethodName) prog_90_method_2_code (1 : Nat) (Option.some (Jvm.ClassFile.FieldType.object "java/util/Iterator"))) ∈ lw_all := lw_g (lw_at lw_m7 0 rfl) rfl
theorem q1518 : (Jvm.Cond.classLink "java/util/TreeMap$Values" (13 : Nat) "java/util/TreeMap$ValueIterator") ∈ lw_all := lw_g (lw_at lw_m7 1 rfl) rfl
theorem q1520 : (Jvm.Cond.methodLink "java/util/TreeMap$Values" (15 : Nat) ({ cls := "java/util/TreeMap", name := "getFirstEntry", desc := "()Ljava/util/TreeMap$Entry;" } : Jvm.MethodName)) ∈ lw_all := lw_g (lw_at lw_m7 3 rfl) rfl
theorem q1521 : (Jvm.Cond.methodLink "java/util/TreeMap$Values" (21 : Nat) ({ cls := "java/util/TreeMap$ValueIterator", name := "<init>", desc := "(Ljava/util/TreeMap;Ljava/util/TreeMap$Entry;)V" } : Jvm.MethodName)) ∈ lw_all := lw_g (lw_at lw_m7 4 rfl) rfl
theorem q2059 : (Jvm.Cond.instantiable "java/util/TreeMap$Values" (1 : Nat)) ∈ lw_all := lw_g (lw_at lw_m9 62 rfl) rfl
theorem q2061 : (Jvm.Cond.instanceMethod ({ cls := "java/util/TreeMap$Values", name := "<init>", desc := "(Ljava/util/TreeMap;)V" } : Jvm.MethodName)) ∈ lw_all := lw_g (lw_at lw_m9 64 rfl) rfl
theorem q2062 : (Jvm.Cond.code ({ cls := "java/util/TreeMap$Values", name := "<init>", desc := "(Ljava/util/TreeMap;)V" } : Jvm.MethodName) prog_90_method_1_code (2 : Nat) (Option.none : Option Jvm.ClassFile.FieldType)) ∈ lw_all := lw_g (lw_at lw_m9 65 rfl) rfl
theorem q2063 : (Jvm.Cond.methodLink "java/util/TreeMap$Values" (7 : Nat) ({ cls := "java/util/AbstractCollection", name := "<init>", desc := "()V" } : Jvm.MethodName)) ∈ lw_all := lw_g (lw_at lw_m9 66 rfl) rfl
theorem q2064 : (Jvm.Cond.fieldLink "java/util/TreeMap$Values" (1 : Nat) "java/util/TreeMap$Values" "this$0" "Ljava/util/TreeMap;") ∈ lw_all := lw_g (lw_at lw_m9 67 rfl) rfl
theorem q2065 : (Jvm.Cond.laysFinal "java/util/TreeMap$Values" "java/util/TreeMap$Values" "this$0" "Ljava/util/TreeMap;") ∈ lw_all := lw_g (lw_at lw_m9 68 rfl) rfl
theorem q2066 : (Jvm.Cond.soleField "java/util/TreeMap$Values" "this$0") ∈ lw_all := lw_g (lw_at lw_m9 69 rfl) rfl
theorem q2067 : (Jvm.Cond.superclass "java/util/TreeMap$Values" "java/util/AbstractCollection") ∈ lw_all := lw_g (lw_at lw_m9 70 rfl) rfl
theorem q2086 : (Jvm.Cond.castable "java/util/TreeMap$Values" "java/util/Collection") ∈ lw_tbl := lw_at lw_m9 89 rfl
theorem q2087 : (Jvm.Cond.selects "java/util/TreeMap$Values" ({ cls := "java/util/Collection", name := "iterator", desc := "()Ljava/util/Iterator;" } : Jvm.MethodName) ({ cls := "java/util/TreeMap$Values", name := "iterator", desc := "()Ljava/util/Iterator;" } : Jvm.MethodName)) ∈ lw_all := lw_g (lw_at lw_m9 90 rfl) rfl
theorem q2088 : (Jvm.Cond.unhidden "java/util/TreeMap$Values" "iterator" "()Ljava/util/Iterator;") ∈ lw_tbl := lw_at lw_m9 91 rfl
theorem q2089 : (Jvm.Cond.publicMethod ({ cls := "java/util/TreeMap$Values", name := "iterator", desc := "()Ljava/util/Iterator;" } : Jvm.MethodName)) ∈ lw_tbl := lw_at lw_m9 92 rfl
theorem q2551 : (Jvm.Cond.selects "java/util/TreeMap$Values" ({ cls := "java/util/AbstractCollection", name := "size", desc := "()I" } : Jvm.MethodName) ({ cls := "java/util/TreeMap$Values", name := "size", desc := "()I" } : Jvm.MethodName)) ∈ lw_all := lw_g (lw_at lw_m11 74 rfl) rfl
theorem q2552 : (Jvm.Cond.instanceMethod ({ cls := "java/util/TreeMap$Values", name := "size", desc := "()I" } : Jvm.MethodName)) ∈ lw_all := lw_g (lw_at lw_m11 75 rfl) rfl
theorem q2553 : (Jvm.Cond.code ({ cls := "java/util/TreeMap$Values", name := "size", desc := "()I" } : Jvm.MethodName) prog_90_method_3_code (1 : Nat) (Option.some Jvm.ClassFile.FieldType.int)) ∈ lw_all := lw_g (lw_at lw_m11 76 rfl) rfl
theorem q2554 : (Jvm.Cond.methodLink "java/util/TreeMap$Values" (24 : Nat) ({ cls := "java/util/TreeMap", name := "size", desc := "()I" } : Jvm.MethodName)) ∈ lw_all := lw_g (lw_at lw_m11 77 rfl) rfl
theorem q3557 : (Jvm.Cond.castable "java/util/TreeMap$Values" "java/lang/Object") ∈ lw_tbl := lw_at lw_m15 120 rfl
def RJ45 : String := "java/util/TreeMap$NavigableSubMap"
theorem q136 : (Jvm.Cond.initialized "java/util/TreeMap$NavigableSubMap") ∈ lw_all := lw_g (lw_at lw_m1 59 rfl) rfl
theorem q661 : (Jvm.Cond.declares ({ cls := "java/util/TreeMap$NavigableSubMap", name := "absLowest", desc := "()Ljava/util/TreeMap$Entry;" } : Jvm.MethodName)) ∈ lw_tbl := lw_at lw_m3 104 rfl
theorem q663 : (Jvm.Cond.instanceMethod ({ cls := "java/util/TreeMap$NavigableSubMap", name := "absLowest", desc := "()Ljava/util/TreeMap$Entry;" } : Jvm.MethodName)) ∈ lw_all := lw_g (lw_at lw_m3 106 rfl) rfl
theorem q664 : (Jvm.Cond.code ({ cls := "java/util/TreeMap$NavigableSubMap", name := "absLowest", desc := "()Ljava/util/TreeMap$Entry;" } : Jvm.MethodName) prog_83_method_7_code (2 : Nat) (Option.some (Jvm.ClassFile.FieldType.object "java/util/TreeMap$Entry"))) ∈ lw_all := lw_g (lw_at lw_m3 107 rfl) rfl
theorem q665 : (Jvm.Cond.methodLink "java/util/TreeMap$NavigableSubMap" (59 : Nat) ({ cls := "java/util/TreeMap", name := "getFirstEntry", desc := "()Ljava/util/TreeMap$Entry;" } : Jvm.MethodName)) ∈ lw_all := lw_g (lw_at lw_m3 108 rfl) rfl
theorem q669 : (Jvm.Cond.methodLink "java/util/TreeMap$NavigableSubMap" (63 : Nat) ({ cls := "java/util/TreeMap", name := "getCeilingEntry", desc := "(Ljava/lang/Object;)Ljava/util/TreeMap$Entry;" } : Jvm.MethodName)) ∈ lw_all := lw_g (lw_at lw_m3 112 rfl) rfl
theorem q936 : (Jvm.Cond.methodLink "java/util/TreeMap$NavigableSubMap" (67 : Nat) ({ cls := "java/util/TreeMap", name := "getHigherEntry", desc := "(Ljava/lang/Object;)Ljava/util/TreeMap$Entry;" } : Jvm.MethodName)) ∈ lw_all := lw_g (lw_at lw_m4 139 rfl) rfl
theorem q940 : (Jvm.Cond.methodLink "java/util/TreeMap$NavigableSubMap" (50 : Nat) ({ cls := "java/util/TreeMap$NavigableSubMap", name := "tooHigh", desc := "(Ljava/lang/Object;)Z" } : Jvm.MethodName)) ∈ lw_all := lw_g (lw_at lw_m4 143 rfl) rfl
theorem q941 : (Jvm.Cond.instanceMethod ({ cls := "java/util/TreeMap$NavigableSubMap", name := "tooHigh", desc := "(Ljava/lang/Object;)Z" } : Jvm.MethodName)) ∈ lw_all := lw_g (lw_at lw_m4 144 rfl) rfl
theorem q942 : (Jvm.Cond.sameMethod "java/util/TreeMap$NavigableSubMap" "java/util/TreeMap$NavigableSubMap" "tooHigh" "(Ljava/lang/Object;)Z") ∈ lw_all := lw_g (lw_at lw_m4 145 rfl) rfl
theorem q944 : (Jvm.Cond.code ({ cls := "java/util/TreeMap$NavigableSubMap", name := "tooHigh", desc := "(Ljava/lang/Object;)Z" } : Jvm.MethodName) prog_83_method_3_code (3 : Nat) (Option.some Jvm.ClassFile.FieldType.boolean)) ∈ lw_all := lw_g (lw_at lw_m4 147 rfl) rfl
theorem q945 : (Jvm.Cond.methodLink "java/util/TreeMap$NavigableSubMap" (7 : Nat) ({ cls := "java/util/TreeMap", name := "compare", desc := "(Ljava/lang/Object;Ljava/lang/Object;)I" } : Jvm.MethodName)) ∈ lw_all := lw_g (lw_at lw_m4 148 rfl) rfl
theorem q948 : (Jvm.Cond.declares ({ cls := "java/util/TreeMap$NavigableSubMap", name := "absHighFence", desc := "()Ljava/util/TreeMap$Entry;" } : Jvm.MethodName)) ∈ lw_tbl := lw_at lw_m4 151 rfl
theorem q950 : (Jvm.Cond.instanceMethod ({ cls := "java/util/TreeMap$NavigableSubMap", name := "absHighFence", desc := "()Ljava/util/TreeMap$Entry;" } : Jvm.MethodName)) ∈ lw_all := lw_g (lw_at lw_m4 153 rfl) rfl
theorem q951 : (Jvm.Cond.code ({ cls := "java/util/TreeMap$NavigableSubMap", name := "absHighFence", desc := "()Ljava/util/TreeMap$Entry;" } : Jvm.MethodName) prog_83_method_13_code (1 : Nat) (Option.some (Jvm.ClassFile.FieldType.object "java/util/TreeMap$Entry"))) ∈ lw_all := lw_g (lw_at lw_m4 154 rfl) rfl
theorem q1031 : (Jvm.Cond.declares ({ cls := "java/util/TreeMap$NavigableSubMap", name := "keyIterator", desc := "()Ljava/util/Iterator;" } : Jvm.MethodName)) ∈ lw_tbl := lw_at lw_m4 234 rfl
theorem q1032 : (Jvm.Cond.sameMethod "java/util/TreeMap$NavigableSubMap" "java/util/TreeMap$NavigableSubMap" "keyIterator" "()Ljava/util/Iterator;") ∈ lw_all := lw_g (lw_at lw_m4 235 rfl) rfl
theorem q1082 : (Jvm.Cond.instanceMethod ({ cls := "java/util/TreeMap$NavigableSubMap", name := "navigableKeySet", desc := "()Ljava/util/NavigableSet;" } : Jvm.MethodName)) ∈ lw_all := lw_g (lw_at lw_m5 45 rfl) rfl
theorem q1083 : (Jvm.Cond.publicMethod ({ cls := "java/util/TreeMap$NavigableSubMap", name := "navigableKeySet", desc := "()Ljava/util/NavigableSet;" } : Jvm.MethodName)) ∈ lw_tbl := lw_at lw_m5 46 rfl
theorem q1084 : (Jvm.Cond.code ({ cls := "java/util/TreeMap$NavigableSubMap", name := "navigableKeySet", desc := "()Ljava/util/NavigableSet;" } : Jvm.MethodName) prog_83_method_49_code (2 : Nat) (Option.some (Jvm.ClassFile.FieldType.object "java/util/NavigableSet"))) ∈ lw_all := lw_g (lw_at lw_m5 47 rfl) rfl
theorem q1085 : (Jvm.Cond.classLink "java/util/TreeMap$NavigableSubMap" (185 : Nat) "java/util/TreeMap$KeySet") ∈ lw_all := lw_g (lw_at lw_m5 48 rfl) rfl
theorem q1086 : (Jvm.Cond.methodLink "java/util/TreeMap$NavigableSubMap" (187 : Nat) ({ cls := "java/util/TreeMap$KeySet", name := "<init>", desc := "(Ljava/util/NavigableMap;)V" } : Jvm.MethodName)) ∈ lw_all := lw_g (lw_at lw_m5 49 rfl) rfl
theorem q1337 : (Jvm.Cond.fieldLink "java/util/TreeMap$NavigableSubMap" (70 : Nat) "java/util/TreeMap$Entry" "key" "Ljava/lang/Object;") ∈ lw_all := lw_g (lw_at lw_m6 60 rfl) rfl
theorem q1683 : (Jvm.Cond.instanceMethod ({ cls := "java/util/TreeMap$NavigableSubMap", name := "put", desc := "(Ljava/lang/Object;Ljava/lang/Object;)Ljava/lang/Object;" } : Jvm.MethodName)) ∈ lw_all := lw_g (lw_at lw_m7 166 rfl) rfl
theorem q1684 : (Jvm.Cond.publicMethod ({ cls := "java/util/TreeMap$NavigableSubMap", name := "put", desc := "(Ljava/lang/Object;Ljava/lang/Object;)Ljava/lang/Object;" } : Jvm.MethodName)) ∈ lw_tbl := lw_at lw_m7 167 rfl
theorem q1685 : (Jvm.Cond.code ({ cls := "java/util/TreeMap$NavigableSubMap", name := "put", desc := "(Ljava/lang/Object;Ljava/lang/Object;)Ljava/lang/Object;" } : Jvm.MethodName) prog_83_method_27_code (3 : Nat) (Option.some (Jvm.ClassFile.FieldType.object "java/lang/Object"))) ∈ lw_all := lw_g (lw_at lw_m7 168 rfl) rfl
theorem q1686 : (Jvm.Cond.methodLink "java/util/TreeMap$NavigableSubMap" (53 : Nat) ({ cls := "java/util/TreeMap$NavigableSubMap", name := "inRange", desc := "(Ljava/lang/Object;)Z" } : Jvm.MethodName)) ∈ lw_all := lw_g (lw_at lw_m7 169 rfl) rfl
theorem q1687 : (Jvm.Cond.instanceMethod ({ cls := "java/util/TreeMap$NavigableSubMap", name := "inRange", desc := "(Ljava/lang/Object;)Z" } : Jvm.MethodName)) ∈ lw_all := lw_g (lw_at lw_m7 170 rfl) rfl
theorem q1688 : (Jvm.Cond.sameMethod "java/util/TreeMap$NavigableSubMap" "java/util/TreeMap$NavigableSubMap" "inRange" "(Ljava/lang/Object;)Z") ∈ lw_all := lw_g (lw_at lw_m7 171 rfl) rfl
theorem q1690 : (Jvm.Cond.code ({ cls := "java/util/TreeMap$NavigableSubMap", name := "inRange", desc := "(Ljava/lang/Object;)Z" } : Jvm.MethodName) prog_83_method_4_code (2 : Nat) (Option.some Jvm.ClassFile.FieldType.boolean)) ∈ lw_all := lw_g (lw_at lw_m7 173 rfl) rfl
theorem q1691 : (Jvm.Cond.methodLink "java/util/TreeMap$NavigableSubMap" (46 : Nat) ({ cls := "java/util/TreeMap$NavigableSubMap", name := "tooLow", desc := "(Ljava/lang/Object;)Z" } : Jvm.MethodName)) ∈ lw_all := lw_g (lw_at lw_m7 174 rfl) rfl
theorem q1692 : (Jvm.Cond.instanceMethod ({ cls := "java/util/TreeMap$NavigableSubMap", name := "tooLow", desc := "(Ljava/lang/Object;)Z" } : Jvm.MethodName)) ∈ lw_all := lw_g (lw_at lw_m7 175 rfl) rfl
theorem q1693 : (Jvm.Cond.sameMethod "java/util/TreeMap$NavigableSubMap" "java/util/TreeMap$NavigableSubMap" "tooLow" "(Ljava/lang/Object;)Z") ∈ lw_all := lw_g (lw_at lw_m7 176 rfl) rfl
theorem q1695 : (Jvm.Cond.code ({ cls := "java/util/TreeMap$NavigableSubMap", name := "tooLow", desc := "(Ljava/lang/Object;)Z" } : Jvm.MethodName) prog_83_method_2_code (3 : Nat) (Option.some Jvm.ClassFile.FieldType.boolean)) ∈ lw_all := lw_g (lw_at lw_m7 178 rfl) rfl
theorem q1696 : (Jvm.Cond.classLink "java/util/TreeMap$NavigableSubMap" (13 : Nat) "java/lang/IllegalArgumentException") ∈ lw_all := lw_g (lw_at lw_m7 179 rfl) rfl
theorem q1705 : (Jvm.Cond.stringRef "java/util/TreeMap$NavigableSubMap" (109 : Nat) "key out of range") ∈ lw_tbl := lw_at lw_m7 188 rfl
theorem q1706 : (Jvm.Cond.methodLink "java/util/TreeMap$NavigableSubMap" (17 : Nat) ({ cls := "java/lang/IllegalArgumentException", name := "<init>", desc := "(Ljava/lang/String;)V" } : Jvm.MethodName)) ∈ lw_all := lw_g (lw_at lw_m7 189 rfl) rfl
theorem q1712 : (Jvm.Cond.methodLink "java/util/TreeMap$NavigableSubMap" (111 : Nat) ({ cls := "java/util/TreeMap", name := "put", desc := "(Ljava/lang/Object;Ljava/lang/Object;)Ljava/lang/Object;" } : Jvm.MethodName)) ∈ lw_all := lw_g (lw_at lw_m7 195 rfl) rfl
theorem q1969 : (Jvm.Cond.instanceMethod ({ cls := "java/util/TreeMap$NavigableSubMap", name := "size", desc := "()I" } : Jvm.MethodName)) ∈ lw_all := lw_g (lw_at lw_m8 212 rfl) rfl
theorem q1970 : (Jvm.Cond.code ({ cls := "java/util/TreeMap$NavigableSubMap", name := "size", desc := "()I" } : Jvm.MethodName) prog_83_method_25_code (1 : Nat) (Option.some Jvm.ClassFile.FieldType.int)) ∈ lw_all := lw_g (lw_at lw_m8 213 rfl) rfl
theorem q1971 : (Jvm.Cond.methodLink "java/util/TreeMap$NavigableSubMap" (101 : Nat) ({ cls := "java/util/TreeMap", name := "size", desc := "()I" } : Jvm.MethodName)) ∈ lw_all := lw_g (lw_at lw_m8 214 rfl) rfl
theorem q1972 : (Jvm.Cond.methodLink "java/util/TreeMap$NavigableSubMap" (94 : Nat) ({ cls := "java/util/TreeMap$NavigableSubMap", name := "entrySet", desc := "()Ljava/util/Set;" } : Jvm.MethodName)) ∈ lw_all := lw_g (lw_at lw_m8 215 rfl) rfl
theorem q1973 : (Jvm.Cond.sameMethod "java/util/TreeMap$NavigableSubMap" "java/util/AbstractMap" "entrySet" "()Ljava/util/Set;") ∈ lw_all := lw_g (lw_at lw_m8 216 rfl) rfl
theorem q1975 : (Jvm.Cond.interfaceEntry "java/util/TreeMap$NavigableSubMap" (105 : Nat)) ∈ lw_tbl := lw_at lw_m8 218 rfl
theorem q1976 : (Jvm.Cond.methodLink "java/util/TreeMap$NavigableSubMap" (105 : Nat) ({ cls := "java/util/Set", name := "size", desc := "()I" } : Jvm.MethodName)) ∈ lw_all := lw_g (lw_at lw_m8 219 rfl) rfl
theorem q2011 : (Jvm.Cond.publicMethod ({ cls := "java/util/TreeMap$NavigableSubMap", name := "size", desc := "()I" } : Jvm.MethodName)) ∈ lw_tbl := lw_at lw_m9 14 rfl
theorem q2237 : (Jvm.Cond.instanceMethod ({ cls := "java/util/TreeMap$NavigableSubMap", name := "<init>", desc := "(Ljava/util/TreeMap;ZLjava/lang/Object;ZZLjava/lang/Object;Z)V" } : Jvm.MethodName)) ∈ lw_all := lw_g (lw_at lw_m10 0 rfl) rfl
theorem q2238 : (Jvm.Cond.code ({ cls := "java/util/TreeMap$NavigableSubMap", name := "<init>", desc := "(Ljava/util/TreeMap;ZLjava/lang/Object;ZZLjava/lang/Object;Z)V" } : Jvm.MethodName) prog_83_method_1_code (8 : Nat) (Option.none : Option Jvm.ClassFile.FieldType)) ∈ lw_all := lw_g (lw_at lw_m10 1 rfl) rfl
theorem q2239 : (Jvm.Cond.methodLink "java/util/TreeMap$NavigableSubMap" (1 : Nat) ({ cls := "java/util/AbstractMap", name := "<init>", desc := "()V" } : Jvm.MethodName)) ∈ lw_all := lw_g (lw_at lw_m10 2 rfl) rfl
theorem q2240 : (Jvm.Cond.stringRef "java/util/TreeMap$NavigableSubMap" (15 : Nat) "fromKey > toKey") ∈ lw_tbl := lw_at lw_m10 3 rfl
theorem q2242 : (Jvm.Cond.fieldLink "java/util/TreeMap$NavigableSubMap" (20 : Nat) "java/util/TreeMap$NavigableSubMap" "m" "Ljava/util/TreeMap;") ∈ lw_all := lw_g (lw_at lw_m10 5 rfl) rfl
theorem q2246 : (Jvm.Cond.fieldLink "java/util/TreeMap$NavigableSubMap" (30 : Nat) "java/util/TreeMap$NavigableSubMap" "lo" "Ljava/lang/Object;") ∈ lw_all := lw_g (lw_at lw_m10 9 rfl) rfl
theorem q2249 : (Jvm.Cond.fieldLink "java/util/TreeMap$NavigableSubMap" (40 : Nat) "java/util/TreeMap$NavigableSubMap" "hi" "Ljava/lang/Object;") ∈ lw_all := lw_g (lw_at lw_m10 12 rfl) rfl
theorem q2250 : (Jvm.Cond.fieldLink "java/util/TreeMap$NavigableSubMap" (26 : Nat) "java/util/TreeMap$NavigableSubMap" "fromStart" "Z") ∈ lw_all := lw_g (lw_at lw_m10 13 rfl) rfl
theorem q2254 : (Jvm.Cond.fieldLink "java/util/TreeMap$NavigableSubMap" (37 : Nat) "java/util/TreeMap$NavigableSubMap" "toEnd" "Z") ∈ lw_all := lw_g (lw_at lw_m10 17 rfl) rfl
theorem q2256 : (Jvm.Cond.fieldLink "java/util/TreeMap$NavigableSubMap" (34 : Nat) "java/util/TreeMap$NavigableSubMap" "loInclusive" "Z") ∈ lw_all := lw_g (lw_at lw_m10 19 rfl) rfl
theorem q2259 : (Jvm.Cond.fieldLink "java/util/TreeMap$NavigableSubMap" (43 : Nat) "java/util/TreeMap$NavigableSubMap" "hiInclusive" "Z") ∈ lw_all := lw_g (lw_at lw_m10 22 rfl) rfl
theorem q2262 : (Jvm.Cond.fieldLink "java/util/TreeMap$NavigableSubMap" (181 : Nat) "java/util/TreeMap$NavigableSubMap" "navigableKeySetView" "Ljava/util/TreeMap$KeySet;") ∈ lw_all := lw_g (lw_at lw_m10 25 rfl) rfl
theorem q2264 : (Jvm.Cond.soleField "java/util/TreeMap$NavigableSubMap" "m") ∈ lw_all := lw_g (lw_at lw_m10 27 rfl) rfl
theorem q2266 : (Jvm.Cond.soleField "java/util/TreeMap$NavigableSubMap" "lo") ∈ lw_all := lw_g (lw_at lw_m10 29 rfl) rfl
theorem q2268 : (Jvm.Cond.soleField "java/util/TreeMap$NavigableSubMap" "hi") ∈ lw_all := lw_g (lw_at lw_m10 31 rfl) rfl
theorem q2270 : (Jvm.Cond.soleField "java/util/TreeMap$NavigableSubMap" "fromStart") ∈ lw_all := lw_g (lw_at lw_m10 33 rfl) rfl
theorem q2272 : (Jvm.Cond.soleField "java/util/TreeMap$NavigableSubMap" "toEnd") ∈ lw_all := lw_g (lw_at lw_m10 35 rfl) rfl
theorem q2274 : (Jvm.Cond.soleField "java/util/TreeMap$NavigableSubMap" "loInclusive") ∈ lw_all := lw_g (lw_at lw_m10 37 rfl) rfl
theorem q2276 : (Jvm.Cond.soleField "java/util/TreeMap$NavigableSubMap" "hiInclusive") ∈ lw_all := lw_g (lw_at lw_m10 39 rfl) rfl
theorem q2278 : (Jvm.Cond.soleField "java/util/TreeMap$NavigableSubMap" "descendingMapView") ∈ lw_all := lw_g (lw_at lw_m10 41 rfl) rfl
theorem q2280 : (Jvm.Cond.soleField "java/util/TreeMap$NavigableSubMap" "entrySetView") ∈ lw_all := lw_g (lw_at lw_m10 43 rfl) rfl
theorem q2282 : (Jvm.Cond.soleField "java/util/TreeMap$NavigableSubMap" "navigableKeySetView") ∈ lw_all := lw_g (lw_at lw_m10 45 rfl) rfl
theorem q2293 : (Jvm.Cond.declares ({ cls := "java/util/TreeMap$NavigableSubMap", name := "inRange", desc := "(Ljava/lang/Object;Z)Z" } : Jvm.MethodName)) ∈ lw_tbl := lw_at lw_m10 56 rfl
theorem q2295 : (Jvm.Cond.instanceMethod ({ cls := "java/util/TreeMap$NavigableSubMap", name := "inRange", desc := "(Ljava/lang/Object;Z)Z" } : Jvm.MethodName)) ∈ lw_all := lw_g (lw_at lw_m10 58 rfl) rfl
theorem q2296 : (Jvm.Cond.code ({ cls := "java/util/TreeMap$NavigableSubMap", name := "inRange", desc := "(Ljava/lang/Object;Z)Z" } : Jvm.MethodName) prog_83_method_6_code (3 : Nat) (Option.some Jvm.ClassFile.FieldType.boolean)) ∈ lw_all := lw_g (lw_at lw_m10 59 rfl) rfl
theorem q2297 : (Jvm.Cond.methodLink "java/util/TreeMap$NavigableSubMap" (56 : Nat) ({ cls := "java/util/TreeMap$NavigableSubMap", name := "inClosedRange", desc := "(Ljava/lang/Object;)Z" } : Jvm.MethodName)) ∈ lw_all := lw_g (lw_at lw_m10 60 rfl) rfl
theorem q2298 : (Jvm.Cond.instanceMethod ({ cls := "java/util/TreeMap$NavigableSubMap", name := "inClosedRange", desc := "(Ljava/lang/Object;)Z" } : Jvm.MethodName)) ∈ lw_all := lw_g (lw_at lw_m10 61 rfl) rfl
theorem q2299 : (Jvm.Cond.sameMethod "java/util/TreeMap$NavigableSubMap" "java/util/TreeMap$NavigableSubMap" "inClosedRange" "(Ljava/lang/Object;)Z") ∈ lw_all := lw_g (lw_at lw_m10 62 rfl) rfl
theorem q2301 : (Jvm.Cond.code ({ cls := "java/util/TreeMap$NavigableSubMap", name := "inClosedRange", desc := "(Ljava/lang/Object;)Z" } : Jvm.MethodName) prog_83_method_5_code (2 : Nat) (Option.some Jvm.ClassFile.FieldType.boolean)) ∈ lw_all := lw_g (lw_at lw_m10 64 rfl) rfl
theorem q2341 : (Jvm.Cond.instanceMethod ({ cls := "java/util/TreeMap$NavigableSubMap", name := "remove", desc := "(Ljava/lang/Object;)Ljava/lang/Object;" } : Jvm.MethodName)) ∈ lw_all := lw_g (lw_at lw_m10 104 rfl) rfl
theorem q2342 : (Jvm.Cond.publicMethod ({ cls := "java/util/TreeMap$NavigableSubMap", name := "remove", desc := "(Ljava/lang/Object;)Ljava/lang/Object;" } : Jvm.MethodName)) ∈ lw_tbl := lw_at lw_m10 105 rfl
theorem q2343 : (Jvm.Cond.code ({ cls := "java/util/TreeMap$NavigableSubMap", name := "remove", desc := "(Ljava/lang/Object;)Ljava/lang/Object;" } : Jvm.MethodName) prog_83_method_34_code (2 : Nat) (Option.some (Jvm.ClassFile.FieldType.object "java/lang/Object"))) ∈ lw_all := lw_g (lw_at lw_m10 106 rfl) rfl
theorem q2344 : (Jvm.Cond.methodLink "java/util/TreeMap$NavigableSubMap" (146 : Nat) ({ cls := "java/util/TreeMap", name := "remove", desc := "(Ljava/lang/Object;)Ljava/lang/Object;" } : Jvm.MethodName)) ∈ lw_all := lw_g (lw_at lw_m10 107 rfl) rfl
theorem q2521 : (Jvm.Cond.instanceMethod ({ cls := "java/util/TreeMap$NavigableSubMap", name := "isEmpty", desc := "()Z" } : Jvm.MethodName)) ∈ lw_all := lw_g (lw_at lw_m11 44 rfl) rfl
theorem q2522 : (Jvm.Cond.publicMethod ({ cls := "java/util/TreeMap$NavigableSubMap", name := "isEmpty", desc := "()Z" } : Jvm.MethodName)) ∈ lw_tbl := lw_at lw_m11 45 rfl
theorem q2523 : (Jvm.Cond.code ({ cls := "java/util/TreeMap$NavigableSubMap", name := "isEmpty", desc := "()Z" } : Jvm.MethodName) prog_83_method_24_code (1 : Nat) (Option.some Jvm.ClassFile.FieldType.boolean)) ∈ lw_all := lw_g (lw_at lw_m11 46 rfl) rfl
theorem q2524 : (Jvm.Cond.methodLink "java/util/TreeMap$NavigableSubMap" (90 : Nat) ({ cls := "java/util/TreeMap", name := "isEmpty", desc := "()Z" } : Jvm.MethodName)) ∈ lw_all := lw_g (lw_at lw_m11 47 rfl) rfl
theorem q2525 : (Jvm.Cond.interfaceEntry "java/util/TreeMap$NavigableSubMap" (98 : Nat)) ∈ lw_tbl := lw_at lw_m11 48 rfl
theorem q2526 : (Jvm.Cond.methodLink "java/util/TreeMap$NavigableSubMap" (98 : Nat) ({ cls := "java/util/Set", name := "isEmpty", desc := "()Z" } : Jvm.MethodName)) ∈ lw_all := lw_g (lw_at lw_m11 49 rfl) rfl
theorem q2584 : (Jvm.Cond.instanceMethod ({ cls := "java/util/TreeMap$NavigableSubMap", name := "firstKey", desc := "()Ljava/lang/Object;" } : Jvm.MethodName)) ∈ lw_all := lw_g (lw_at lw_m11 107 rfl) rfl
theorem q2585 : (Jvm.Cond.publicMethod ({ cls := "java/util/TreeMap$NavigableSubMap", name := "firstKey", desc := "()Ljava/lang/Object;" } : Jvm.MethodName)) ∈ lw_tbl := lw_at lw_m11 108 rfl
theorem q2586 : (Jvm.Cond.code ({ cls := "java/util/TreeMap$NavigableSubMap", name := "firstKey", desc := "()Ljava/lang/Object;" } : Jvm.MethodName) prog_83_method_43_code (1 : Nat) (Option.some (Jvm.ClassFile.FieldType.object "java/lang/Object"))) ∈ lw_all := lw_g (lw_at lw_m11 109 rfl) rfl
theorem q2587 : (Jvm.Cond.methodLink "java/util/TreeMap$NavigableSubMap" (169 : Nat) ({ cls := "java/util/TreeMap$NavigableSubMap", name := "subLowest", desc := "()Ljava/util/TreeMap$Entry;" } : Jvm.MethodName)) ∈ lw_all := lw_g (lw_at lw_m11 110 rfl) rfl
theorem q2588 : (Jvm.Cond.declares ({ cls := "java/util/TreeMap$NavigableSubMap", name := "subLowest", desc := "()Ljava/util/TreeMap$Entry;" } : Jvm.MethodName)) ∈ lw_tbl := lw_at lw_m11 111 rfl
theorem q2589 : (Jvm.Cond.sameMethod "java/util/TreeMap$NavigableSubMap" "java/util/TreeMap$NavigableSubMap" "subLowest" "()Ljava/util/TreeMap$Entry;") ∈ lw_all := lw_g (lw_at lw_m11 112 rfl) rfl
theorem q2593 : (Jvm.Cond.methodLink "java/util/TreeMap$NavigableSubMap" (172 : Nat) ({ cls := "java/util/TreeMap", name := "key", desc := "(Ljava/util/TreeMap$Entry;)Ljava/lang/Object;" } : Jvm.MethodName)) ∈ lw_all := lw_g (lw_at lw_m11 116 rfl) rfl
theorem q2629 : (Jvm.Cond.instanceMethod ({ cls := "java/util/TreeMap$NavigableSubMap", name := "pollFirstEntry", desc := "()Ljava/util/Map$Entry;" } : Jvm.MethodName)) ∈ lw_all := lw_g (lw_at lw_m11 152 rfl) rfl
theorem q2630 : (Jvm.Cond.publicMethod ({ cls := "java/util/TreeMap$NavigableSubMap", name := "pollFirstEntry", desc := "()Ljava/util/Map$Entry;" } : Jvm.MethodName)) ∈ lw_tbl := lw_at lw_m11 153 rfl
theorem q2631 : (Jvm.Cond.code ({ cls := "java/util/TreeMap$NavigableSubMap", name := "pollFirstEntry", desc := "()Ljava/util/Map$Entry;" } : Jvm.MethodName) prog_83_method_47_code (3 : Nat) (Option.some (Jvm.ClassFile.FieldType.object "java/util/Map$Entry"))) ∈ lw_all := lw_g (lw_at lw_m11 154 rfl) rfl
theorem q2632 : (Jvm.Cond.methodLink "java/util/TreeMap$NavigableSubMap" (152 : Nat) ({ cls := "java/util/TreeMap", name := "exportEntry", desc := "(Ljava/util/TreeMap$Entry;)Ljava/util/Map$Entry;" } : Jvm.MethodName)) ∈ lw_all := lw_g (lw_at lw_m11 155 rfl) rfl
theorem q2633 : (Jvm.Cond.methodLinkNest "java/util/TreeMap$NavigableSubMap" (177 : Nat) ({ cls := "java/util/TreeMap", name := "deleteEntry", desc := "(Ljava/util/TreeMap$Entry;)V" } : Jvm.MethodName) "java/util/TreeMap") ∈ lw_tbl := lw_at lw_m11 156 rfl
theorem q3513 : (Jvm.Cond.sameMethod "java/util/TreeMap$NavigableSubMap" "java/util/TreeMap$NavigableSubMap" "absLowest" "()Ljava/util/TreeMap$Entry;") ∈ lw_all := lw_g (lw_at lw_m15 76 rfl) rfl
def RJ46 : String := "java/util/TreeMap$AscendingSubMap"
def TJ46 : u_T := fun k => match k with
  | 0 => ("java/util/TreeMap$NavigableSubMap", "m", "Ljava/util/TreeMap;", true)
  | 1 => ("java/util/TreeMap$NavigableSubMap", "lo", "Ljava/lang/Object;", true)
  | 2 => ("java/util/TreeMap$NavigableSubMap", "hi", "Ljava/lang/Object;", true)
  | 3 => ("java/util/TreeMap$NavigableSubMap", "fromStart", "Z", true)
  | 4 => ("java/util/TreeMap$NavigableSubMap", "toEnd", "Z", true)
  | 5 => ("java/util/TreeMap$NavigableSubMap", "loInclusive", "Z", true)
  | 6 => ("java/util/TreeMap$NavigableSubMap", "hiInclusive", "Z", true)
  | 7 => ("java/util/TreeMap$NavigableSubMap", "descendingMapView", "Ljava/util/NavigableMap;", false)
  | 8 => ("java/util/TreeMap$NavigableSubMap", "entrySetView", "Ljava/util/TreeMap$NavigableSubMap$EntrySetView;", false)
  | 9 => ("java/util/TreeMap$NavigableSubMap", "navigableKeySetView", "Ljava/util/TreeMap$KeySet;", false)
  | 10 => ("java/util/AbstractMap", "keySet", "Ljava/util/Set;", false)
  | _ => ("java/util/AbstractMap", "values", "Ljava/util/Collection;", false)
def tyJ46 : Nat → FieldType := fun k => match k with
  | 0 => .object "java/util/TreeMap"
  | 1 => .object "java/lang/Object"
  | 2 => .object "java/lang/Object"
  | 3 => .boolean
  | 4 => .boolean
  | 5 => .boolean
  | 6 => .boolean
  | 7 => .object "java/util/NavigableMap"
  | 8 => .object "java/util/TreeMap$NavigableSubMap$EntrySetView"
  | 9 => .object "java/util/TreeMap$KeySet"
  | 10 => .object "java/util/Set"
  | _ => .object "java/util/Collection"
abbrev wsJ460 : List Cond := u_ws RJ46 TJ46 12
theorem nmJ46 : ∀ a, a < 12 → ∀ b, b < 12 → a ≠ b → (TJ46 a).2.1 ≠ (TJ46 b).2.1 := by decide +kernel
theorem tyJ46_ok : ∀ k, k < 12 → parseFieldDescriptor (TJ46 k).2.2.1 = some (tyJ46 k) := by decide +kernel
theorem q137 : (Jvm.Cond.initialized "java/util/TreeMap$AscendingSubMap") ∈ lw_all := lw_g (lw_at lw_m1 60 rfl) rfl
theorem q544 : (Jvm.Cond.selects "java/util/TreeMap$AscendingSubMap" ({ cls := "java/lang/Object", name := "getClass", desc := "()Ljava/lang/Class;" } : Jvm.MethodName) ({ cls := "java/lang/Object", name := "getClass", desc := "()Ljava/lang/Class;" } : Jvm.MethodName)) ∈ lw_all := lw_g (lw_at lw_m2 227 rfl) rfl
theorem q660 : (Jvm.Cond.sameMethod "java/util/TreeMap$AscendingSubMap" "java/util/TreeMap$NavigableSubMap" "absLowest" "()Ljava/util/TreeMap$Entry;") ∈ lw_all := lw_g (lw_at lw_m3 103 rfl) rfl
theorem q662 : (Jvm.Cond.selects "java/util/TreeMap$AscendingSubMap" ({ cls := "java/util/TreeMap$AscendingSubMap", name := "absLowest", desc := "()Ljava/util/TreeMap$Entry;" } : Jvm.MethodName) ({ cls := "java/util/TreeMap$NavigableSubMap", name := "absLowest", desc := "()Ljava/util/TreeMap$Entry;" } : Jvm.MethodName)) ∈ lw_all := lw_g (lw_at lw_m3 105 rfl) rfl
theorem q943 : (Jvm.Cond.selects "java/util/TreeMap$AscendingSubMap" ({ cls := "java/util/TreeMap$NavigableSubMap", name := "tooHigh", desc := "(Ljava/lang/Object;)Z" } : Jvm.MethodName) ({ cls := "java/util/TreeMap$NavigableSubMap", name := "tooHigh", desc := "(Ljava/lang/Object;)Z" } : Jvm.MethodName)) ∈ lw_all := lw_g (lw_at lw_m4 146 rfl) rfl
theorem q947 : (Jvm.Cond.sameMethod "java/util/TreeMap$AscendingSubMap" "java/util/TreeMap$NavigableSubMap" "absHighFence" "()Ljava/util/TreeMap$Entry;") ∈ lw_all := lw_g (lw_at lw_m4 150 rfl) rfl
theorem q949 : (Jvm.Cond.selects "java/util/TreeMap$AscendingSubMap" ({ cls := "java/util/TreeMap$AscendingSubMap", name := "absHighFence", desc := "()Ljava/util/TreeMap$Entry;" } : Jvm.MethodName) ({ cls := "java/util/TreeMap$NavigableSubMap", name := "absHighFence", desc := "()Ljava/util/TreeMap$Entry;" } : Jvm.MethodName)) ∈ lw_all := lw_g (lw_at lw_m4 152 rfl) rfl
theorem q1033 : (Jvm.Cond.selects "java/util/TreeMap$AscendingSubMap" ({ cls := "java/util/TreeMap$NavigableSubMap", name := "keyIterator", desc := "()Ljava/util/Iterator;" } : Jvm.MethodName) ({ cls := "java/util/TreeMap$AscendingSubMap", name := "keyIterator", desc := "()Ljava/util/Iterator;" } : Jvm.MethodName)) ∈ lw_all := lw_g (lw_at lw_m4 236 rfl) rfl
theorem q1034 : (Jvm.Cond.instanceMethod ({ cls := "java/util/TreeMap$AscendingSubMap", name := "keyIterator", desc := "()Ljava/util/Iterator;" } : Jvm.MethodName)) ∈ lw_all := lw_g (lw_at lw_m4 237 rfl) rfl
theorem q1035 : (Jvm.Cond.code ({ cls := "java/util/TreeMap$AscendingSubMap", name := "keyIterator", desc := "()Ljava/util/Iterator;" } : Jvm.MethodName) prog_76_method_7_code (1 : Nat) (Option.some (Jvm.ClassFile.FieldType.object "java/util/Iterator"))) ∈ lw_all := lw_g (lw_at lw_m4 238 rfl) rfl
theorem q1036 : (Jvm.Cond.classLink "java/util/TreeMap$AscendingSubMap" (60 : Nat) "java/util/TreeMap$NavigableSubMap$SubMapKeyIterator") ∈ lw_all := lw_g (lw_at lw_m4 239 rfl) rfl
theorem q1038 : (Jvm.Cond.methodLink "java/util/TreeMap$AscendingSubMap" (62 : Nat) ({ cls := "java/util/TreeMap$AscendingSubMap", name := "absLowest", desc := "()Ljava/util/TreeMap$Entry;" } : Jvm.MethodName)) ∈ lw_all := lw_g (lw_at lw_m5 1 rfl) rfl
theorem q1039 : (Jvm.Cond.methodLink "java/util/TreeMap$AscendingSubMap" (66 : Nat) ({ cls := "java/util/TreeMap$AscendingSubMap", name := "absHighFence", desc := "()Ljava/util/TreeMap$Entry;" } : Jvm.MethodName)) ∈ lw_all := lw_g (lw_at lw_m5 2 rfl) rfl
theorem q1040 : (Jvm.Cond.methodLink "java/util/TreeMap$AscendingSubMap" (69 : Nat) ({ cls := "java/util/TreeMap$NavigableSubMap$SubMapKeyIterator", name := "<init>", desc := "(Ljava/util/TreeMap$NavigableSubMap;Ljava/util/TreeMap$Entry;Ljava/util/TreeMap$Entry;)V" } : Jvm.MethodName)) ∈ lw_all := lw_g (lw_at lw_m5 3 rfl) rfl
theorem q1079 : (Jvm.Cond.castable "java/util/TreeMap$AscendingSubMap" "java/util/NavigableMap") ∈ lw_tbl := lw_at lw_m5 42 rfl
theorem q1080 : (Jvm.Cond.selects "java/util/TreeMap$AscendingSubMap" ({ cls := "java/util/NavigableMap", name := "navigableKeySet", desc := "()Ljava/util/NavigableSet;" } : Jvm.MethodName) ({ cls := "java/util/TreeMap$NavigableSubMap", name := "navigableKeySet", desc := "()Ljava/util/NavigableSet;" } : Jvm.MethodName)) ∈ lw_all := lw_g (lw_at lw_m5 43 rfl) rfl
theorem q1081 : (Jvm.Cond.unhidden "java/util/TreeMap$AscendingSubMap" "navigableKeySet" "()Ljava/util/NavigableSet;") ∈ lw_tbl := lw_at lw_m5 44 rfl
theorem q1409 : (Jvm.Cond.selects "java/util/TreeMap$AscendingSubMap" ({ cls := "java/util/Map", name := "clear", desc := "()V" } : Jvm.MethodName) ({ cls := "java/util/AbstractMap", name := "clear", desc := "()V" } : Jvm.MethodName)) ∈ lw_all := lw_g (lw_at lw_m6 132 rfl) rfl
theorem q1410 : (Jvm.Cond.unhidden "java/util/TreeMap$AscendingSubMap" "clear" "()V") ∈ lw_tbl := lw_at lw_m6 133 rfl
theorem q1418 : (Jvm.Cond.selects "java/util/TreeMap$AscendingSubMap" ({ cls := "java/util/AbstractMap", name := "entrySet", desc := "()Ljava/util/Set;" } : Jvm.MethodName) ({ cls := "java/util/TreeMap$AscendingSubMap", name := "entrySet", desc := "()Ljava/util/Set;" } : Jvm.MethodName)) ∈ lw_all := lw_g (lw_at lw_m6 141 rfl) rfl
theorem q1419 : (Jvm.Cond.instanceMethod ({ cls := "java/util/TreeMap$AscendingSubMap", name := "entrySet", desc := "()Ljava/util/Set;" } : Jvm.MethodName)) ∈ lw_all := lw_g (lw_at lw_m6 142 rfl) rfl
theorem q1420 : (Jvm.Cond.code ({ cls := "java/util/TreeMap$AscendingSubMap", name := "entrySet", desc := "()Ljava/util/Set;" } : Jvm.MethodName) prog_76_method_10_code (2 : Nat) (Option.some (Jvm.ClassFile.FieldType.object "java/util/Set"))) ∈ lw_all := lw_g (lw_at lw_m6 143 rfl) rfl
theorem q1421 : (Jvm.Cond.classLink "java/util/TreeMap$AscendingSubMap" (85 : Nat) "java/util/TreeMap$AscendingSubMap$AscendingEntrySetView") ∈ lw_all := lw_g (lw_at lw_m6 144 rfl) rfl
theorem q1423 : (Jvm.Cond.methodLink "java/util/TreeMap$AscendingSubMap" (87 : Nat) ({ cls := "java/util/TreeMap$AscendingSubMap$AscendingEntrySetView", name := "<init>", desc := "(Ljava/util/TreeMap$AscendingSubMap;)V" } : Jvm.MethodName)) ∈ lw_all := lw_g (lw_at lw_m6 146 rfl) rfl
theorem q1681 : (Jvm.Cond.selects "java/util/TreeMap$AscendingSubMap" ({ cls := "java/util/Map", name := "put", desc := "(Ljava/lang/Object;Ljava/lang/Object;)Ljava/lang/Object;" } : Jvm.MethodName) ({ cls := "java/util/TreeMap$NavigableSubMap", name := "put", desc := "(Ljava/lang/Object;Ljava/lang/Object;)Ljava/lang/Object;" } : Jvm.MethodName)) ∈ lw_all := lw_g (lw_at lw_m7 164 rfl) rfl
theorem q1682 : (Jvm.Cond.unhidden "java/util/TreeMap$AscendingSubMap" "put" "(Ljava/lang/Object;Ljava/lang/Object;)Ljava/lang/Object;") ∈ lw_tbl := lw_at lw_m7 165 rfl
theorem q1689 : (Jvm.Cond.selects "java/util/TreeMap$AscendingSubMap" ({ cls := "java/util/TreeMap$NavigableSubMap", name := "inRange", desc := "(Ljava/lang/Object;)Z" } : Jvm.MethodName) ({ cls := "java/util/TreeMap$NavigableSubMap", name := "inRange", desc := "(Ljava/lang/Object;)Z" } : Jvm.MethodName)) ∈ lw_all := lw_g (lw_at lw_m7 172 rfl) rfl
theorem q1694 : (Jvm.Cond.selects "java/util/TreeMap$AscendingSubMap" ({ cls := "java/util/TreeMap$NavigableSubMap", name := "tooLow", desc := "(Ljava/lang/Object;)Z" } : Jvm.MethodName) ({ cls := "java/util/TreeMap$NavigableSubMap", name := "tooLow", desc := "(Ljava/lang/Object;)Z" } : Jvm.MethodName)) ∈ lw_all := lw_g (lw_at lw_m7 177 rfl) rfl
theorem q1968 : (Jvm.Cond.selects "java/util/TreeMap$AscendingSubMap" ({ cls := "java/util/AbstractMap", name := "size", desc := "()I" } : Jvm.MethodName) ({ cls := "java/util/TreeMap$NavigableSubMap", name := "size", desc := "()I" } : Jvm.MethodName)) ∈ lw_all := lw_g (lw_at lw_m8 211 rfl) rfl
theorem q1974 : (Jvm.Cond.selects "java/util/TreeMap$AscendingSubMap" ({ cls := "java/util/TreeMap$NavigableSubMap", name := "entrySet", desc := "()Ljava/util/Set;" } : Jvm.MethodName) ({ cls := "java/util/TreeMap$AscendingSubMap", name := "entrySet", desc := "()Ljava/util/Set;" } : Jvm.MethodName)) ∈ lw_all := lw_g (lw_at lw_m8 217 rfl) rfl
theorem q2009 : (Jvm.Cond.selects "java/util/TreeMap$AscendingSubMap" ({ cls := "java/util/Map", name := "size", desc := "()I" } : Jvm.MethodName) ({ cls := "java/util/TreeMap$NavigableSubMap", name := "size", desc := "()I" } : Jvm.MethodName)) ∈ lw_all := lw_g (lw_at lw_m9 12 rfl) rfl
theorem q2010 : (Jvm.Cond.unhidden "java/util/TreeMap$AscendingSubMap" "size" "()I") ∈ lw_tbl := lw_at lw_m9 13 rfl
theorem q2232 : (Jvm.Cond.instantiable "java/util/TreeMap$AscendingSubMap" (12 : Nat)) ∈ lw_all := lw_g (lw_at lw_m9 235 rfl) rfl
theorem q2234 : (Jvm.Cond.instanceMethod ({ cls := "java/util/TreeMap$AscendingSubMap", name := "<init>", desc := "(Ljava/util/TreeMap;ZLjava/lang/Object;ZZLjava/lang/Object;Z)V" } : Jvm.MethodName)) ∈ lw_all := lw_g (lw_at lw_m9 237 rfl) rfl
theorem q2235 : (Jvm.Cond.code ({ cls := "java/util/TreeMap$AscendingSubMap", name := "<init>", desc := "(Ljava/util/TreeMap;ZLjava/lang/Object;ZZLjava/lang/Object;Z)V" } : Jvm.MethodName) prog_76_method_1_code (8 : Nat) (Option.none : Option Jvm.ClassFile.FieldType)) ∈ lw_all := lw_g (lw_at lw_m9 238 rfl) rfl
theorem q2236 : (Jvm.Cond.methodLink "java/util/TreeMap$AscendingSubMap" (1 : Nat) ({ cls := "java/util/TreeMap$NavigableSubMap", name := "<init>", desc := "(Ljava/util/TreeMap;ZLjava/lang/Object;ZZLjava/lang/Object;Z)V" } : Jvm.MethodName)) ∈ lw_all := lw_g (lw_at lw_m9 239 rfl) rfl
theorem q2244 : (Jvm.Cond.fieldLink "java/util/TreeMap$AscendingSubMap" (7 : Nat) "java/util/TreeMap$AscendingSubMap" "m" "Ljava/util/TreeMap;") ∈ lw_all := lw_g (lw_at lw_m10 7 rfl) rfl
theorem q2245 : (Jvm.Cond.sameField "java/util/TreeMap$AscendingSubMap" "java/util/TreeMap$NavigableSubMap" "m" "Ljava/util/TreeMap;") ∈ lw_all := lw_g (lw_at lw_m10 8 rfl) rfl
theorem q2247 : (Jvm.Cond.fieldLink "java/util/TreeMap$AscendingSubMap" (37 : Nat) "java/util/TreeMap$AscendingSubMap" "lo" "Ljava/lang/Object;") ∈ lw_all := lw_g (lw_at lw_m10 10 rfl) rfl
theorem q2248 : (Jvm.Cond.sameField "java/util/TreeMap$AscendingSubMap" "java/util/TreeMap$NavigableSubMap" "lo" "Ljava/lang/Object;") ∈ lw_all := lw_g (lw_at lw_m10 11 rfl) rfl
theorem q2252 : (Jvm.Cond.fieldLink "java/util/TreeMap$AscendingSubMap" (33 : Nat) "java/util/TreeMap$AscendingSubMap" "fromStart" "Z") ∈ lw_all := lw_g (lw_at lw_m10 15 rfl) rfl
theorem q2253 : (Jvm.Cond.sameField "java/util/TreeMap$AscendingSubMap" "java/util/TreeMap$NavigableSubMap" "fromStart" "Z") ∈ lw_all := lw_g (lw_at lw_m10 16 rfl) rfl
theorem q2257 : (Jvm.Cond.fieldLink "java/util/TreeMap$AscendingSubMap" (41 : Nat) "java/util/TreeMap$AscendingSubMap" "loInclusive" "Z") ∈ lw_all := lw_g (lw_at lw_m10 20 rfl) rfl
theorem q2258 : (Jvm.Cond.sameField "java/util/TreeMap$AscendingSubMap" "java/util/TreeMap$NavigableSubMap" "loInclusive" "Z") ∈ lw_all := lw_g (lw_at lw_m10 21 rfl) rfl
theorem q2260 : (Jvm.Cond.fieldLink "java/util/TreeMap$AscendingSubMap" (81 : Nat) "java/util/TreeMap$AscendingSubMap" "entrySetView" "Ljava/util/TreeMap$NavigableSubMap$EntrySetView;") ∈ lw_all := lw_g (lw_at lw_m10 23 rfl) rfl
theorem q2261 : (Jvm.Cond.sameField "java/util/TreeMap$AscendingSubMap" "java/util/TreeMap$NavigableSubMap" "entrySetView" "Ljava/util/TreeMap$NavigableSubMap$EntrySetView;") ∈ lw_all := lw_g (lw_at lw_m10 24 rfl) rfl
theorem q2263 : (Jvm.Cond.laysFinal "java/util/TreeMap$AscendingSubMap" "java/util/TreeMap$NavigableSubMap" "m" "Ljava/util/TreeMap;") ∈ lw_all := lw_g (lw_at lw_m10 26 rfl) rfl
theorem q2265 : (Jvm.Cond.laysFinal "java/util/TreeMap$AscendingSubMap" "java/util/TreeMap$NavigableSubMap" "lo" "Ljava/lang/Object;") ∈ lw_all := lw_g (lw_at lw_m10 28 rfl) rfl
theorem q2267 : (Jvm.Cond.laysFinal "java/util/TreeMap$AscendingSubMap" "java/util/TreeMap$NavigableSubMap" "hi" "Ljava/lang/Object;") ∈ lw_all := lw_g (lw_at lw_m10 30 rfl) rfl
theorem q2269 : (Jvm.Cond.laysFinal "java/util/TreeMap$AscendingSubMap" "java/util/TreeMap$NavigableSubMap" "fromStart" "Z") ∈ lw_all := lw_g (lw_at lw_m10 32 rfl) rfl
theorem q2271 : (Jvm.Cond.laysFinal "java/util/TreeMap$AscendingSubMap" "java/util/TreeMap$NavigableSubMap" "toEnd" "Z") ∈ lw_all := lw_g (lw_at lw_m10 34 rfl) rfl
theorem q2273 : (Jvm.Cond.laysFinal "java/util/TreeMap$AscendingSubMap" "java/util/TreeMap$NavigableSubMap" "loInclusive" "Z") ∈ lw_all := lw_g (lw_at lw_m10 36 rfl) rfl
theorem q2275 : (Jvm.Cond.laysFinal "java/util/TreeMap$AscendingSubMap" "java/util/TreeMap$NavigableSubMap" "hiInclusive" "Z") ∈ lw_all := lw_g (lw_at lw_m10 38 rfl) rfl
theorem q2277 : (Jvm.Cond.lays "java/util/TreeMap$AscendingSubMap" "java/util/TreeMap$NavigableSubMap" "descendingMapView" "Ljava/util/NavigableMap;") ∈ lw_all := lw_g (lw_at lw_m10 40 rfl) rfl
theorem q2279 : (Jvm.Cond.lays "java/util/TreeMap$AscendingSubMap" "java/util/TreeMap$NavigableSubMap" "entrySetView" "Ljava/util/TreeMap$NavigableSubMap$EntrySetView;") ∈ lw_all := lw_g (lw_at lw_m10 42 rfl) rfl
theorem q2281 : (Jvm.Cond.lays "java/util/TreeMap$AscendingSubMap" "java/util/TreeMap$NavigableSubMap" "navigableKeySetView" "Ljava/util/TreeMap$KeySet;") ∈ lw_all := lw_g (lw_at lw_m10 44 rfl) rfl
theorem q2283 : (Jvm.Cond.lays "java/util/TreeMap$AscendingSubMap" "java/util/AbstractMap" "keySet" "Ljava/util/Set;") ∈ lw_all := lw_g (lw_at lw_m10 46 rfl) rfl
theorem q2284 : (Jvm.Cond.lays "java/util/TreeMap$AscendingSubMap" "java/util/AbstractMap" "values" "Ljava/util/Collection;") ∈ lw_all := lw_g (lw_at lw_m10 47 rfl) rfl
theorem q2285 : (Jvm.Cond.superclass "java/util/TreeMap$AscendingSubMap" "java/util/TreeMap$NavigableSubMap") ∈ lw_all := lw_g (lw_at lw_m10 48 rfl) rfl
theorem q2286 : (Jvm.Cond.selects "java/util/TreeMap$AscendingSubMap" ({ cls := "java/util/NavigableMap", name := "headMap", desc := "(Ljava/lang/Object;Z)Ljava/util/NavigableMap;" } : Jvm.MethodName) ({ cls := "java/util/TreeMap$AscendingSubMap", name := "headMap", desc := "(Ljava/lang/Object;Z)Ljava/util/NavigableMap;" } : Jvm.MethodName)) ∈ lw_all := lw_g (lw_at lw_m10 49 rfl) rfl
theorem q2287 : (Jvm.Cond.unhidden "java/util/TreeMap$AscendingSubMap" "headMap" "(Ljava/lang/Object;Z)Ljava/util/NavigableMap;") ∈ lw_tbl := lw_at lw_m10 50 rfl
theorem q2288 : (Jvm.Cond.instanceMethod ({ cls := "java/util/TreeMap$AscendingSubMap", name := "headMap", desc := "(Ljava/lang/Object;Z)Ljava/util/NavigableMap;" } : Jvm.MethodName)) ∈ lw_all := lw_g (lw_at lw_m10 51 rfl) rfl
theorem q2289 : (Jvm.Cond.publicMethod ({ cls := "java/util/TreeMap$AscendingSubMap", name := "headMap", desc := "(Ljava/lang/Object;Z)Ljava/util/NavigableMap;" } : Jvm.MethodName)) ∈ lw_tbl := lw_at lw_m10 52 rfl
theorem q2290 : (Jvm.Cond.code ({ cls := "java/util/TreeMap$AscendingSubMap", name := "headMap", desc := "(Ljava/lang/Object;Z)Ljava/util/NavigableMap;" } : Jvm.MethodName) prog_76_method_4_code (3 : Nat) (Option.some (Jvm.ClassFile.FieldType.object "java/util/NavigableMap"))) ∈ lw_all := lw_g (lw_at lw_m10 53 rfl) rfl
theorem q2291 : (Jvm.Cond.methodLink "java/util/TreeMap$AscendingSubMap" (19 : Nat) ({ cls := "java/util/TreeMap$AscendingSubMap", name := "inRange", desc := "(Ljava/lang/Object;Z)Z" } : Jvm.MethodName)) ∈ lw_all := lw_g (lw_at lw_m10 54 rfl) rfl
theorem q2292 : (Jvm.Cond.sameMethod "java/util/TreeMap$AscendingSubMap" "java/util/TreeMap$NavigableSubMap" "inRange" "(Ljava/lang/Object;Z)Z") ∈ lw_all := lw_g (lw_at lw_m10 55 rfl) rfl
theorem q2294 : (Jvm.Cond.selects "java/util/TreeMap$AscendingSubMap" ({ cls := "java/util/TreeMap$AscendingSubMap", name := "inRange", desc := "(Ljava/lang/Object;Z)Z" } : Jvm.MethodName) ({ cls := "java/util/TreeMap$NavigableSubMap", name := "inRange", desc := "(Ljava/lang/Object;Z)Z" } : Jvm.MethodName)) ∈ lw_all := lw_g (lw_at lw_m10 57 rfl) rfl
theorem q2300 : (Jvm.Cond.selects "java/util/TreeMap$AscendingSubMap" ({ cls := "java/util/TreeMap$NavigableSubMap", name := "inClosedRange", desc := "(Ljava/lang/Object;)Z" } : Jvm.MethodName) ({ cls := "java/util/TreeMap$NavigableSubMap", name := "inClosedRange", desc := "(Ljava/lang/Object;)Z" } : Jvm.MethodName)) ∈ lw_all := lw_g (lw_at lw_m10 63 rfl) rfl
theorem q2302 : (Jvm.Cond.classLink "java/util/TreeMap$AscendingSubMap" (23 : Nat) "java/lang/IllegalArgumentException") ∈ lw_all := lw_g (lw_at lw_m10 65 rfl) rfl
theorem q2303 : (Jvm.Cond.stringRef "java/util/TreeMap$AscendingSubMap" (30 : Nat) "toKey out of range") ∈ lw_tbl := lw_at lw_m10 66 rfl
theorem q2304 : (Jvm.Cond.methodLink "java/util/TreeMap$AscendingSubMap" (27 : Nat) ({ cls := "java/lang/IllegalArgumentException", name := "<init>", desc := "(Ljava/lang/String;)V" } : Jvm.MethodName)) ∈ lw_all := lw_g (lw_at lw_m10 67 rfl) rfl
theorem q2305 : (Jvm.Cond.classLink "java/util/TreeMap$AscendingSubMap" (8 : Nat) "java/util/TreeMap$AscendingSubMap") ∈ lw_all := lw_g (lw_at lw_m10 68 rfl) rfl
theorem q2306 : (Jvm.Cond.methodLink "java/util/TreeMap$AscendingSubMap" (32 : Nat) ({ cls := "java/util/TreeMap$AscendingSubMap", name := "<init>", desc := "(Ljava/util/TreeMap;ZLjava/lang/Object;ZZLjava/lang/Object;Z)V" } : Jvm.MethodName)) ∈ lw_all := lw_g (lw_at lw_m10 69 rfl) rfl
theorem q2339 : (Jvm.Cond.selects "java/util/TreeMap$AscendingSubMap" ({ cls := "java/util/Map", name := "remove", desc := "(Ljava/lang/Object;)Ljava/lang/Object;" } : Jvm.MethodName) ({ cls := "java/util/TreeMap$NavigableSubMap", name := "remove", desc := "(Ljava/lang/Object;)Ljava/lang/Object;" } : Jvm.MethodName)) ∈ lw_all := lw_g (lw_at lw_m10 102 rfl) rfl
theorem q2340 : (Jvm.Cond.unhidden "java/util/TreeMap$AscendingSubMap" "remove" "(Ljava/lang/Object;)Ljava/lang/Object;") ∈ lw_tbl := lw_at lw_m10 103 rfl
theorem q2519 : (Jvm.Cond.selects "java/util/TreeMap$AscendingSubMap" ({ cls := "java/util/Map", name := "isEmpty", desc := "()Z" } : Jvm.MethodName) ({ cls := "java/util/TreeMap$NavigableSubMap", name := "isEmpty", desc := "()Z" } : Jvm.MethodName)) ∈ lw_all := lw_g (lw_at lw_m11 42 rfl) rfl
theorem q2520 : (Jvm.Cond.unhidden "java/util/TreeMap$AscendingSubMap" "isEmpty" "()Z") ∈ lw_tbl := lw_at lw_m11 43 rfl
theorem q2582 : (Jvm.Cond.selects "java/util/TreeMap$AscendingSubMap" ({ cls := "java/util/SortedMap", name := "firstKey", desc := "()Ljava/lang/Object;" } : Jvm.MethodName) ({ cls := "java/util/TreeMap$NavigableSubMap", name := "firstKey", desc := "()Ljava/lang/Object;" } : Jvm.MethodName)) ∈ lw_all := lw_g (lw_at lw_m11 105 rfl) rfl
theorem q2583 : (Jvm.Cond.unhidden "java/util/TreeMap$AscendingSubMap" "firstKey" "()Ljava/lang/Object;") ∈ lw_tbl := lw_at lw_m11 106 rfl
theorem q2590 : (Jvm.Cond.selects "java/util/TreeMap$AscendingSubMap" ({ cls := "java/util/TreeMap$NavigableSubMap", name := "subLowest", desc := "()Ljava/util/TreeMap$Entry;" } : Jvm.MethodName) ({ cls := "java/util/TreeMap$AscendingSubMap", name := "subLowest", desc := "()Ljava/util/TreeMap$Entry;" } : Jvm.MethodName)) ∈ lw_all := lw_g (lw_at lw_m11 113 rfl) rfl
theorem q2591 : (Jvm.Cond.instanceMethod ({ cls := "java/util/TreeMap$AscendingSubMap", name := "subLowest", desc := "()Ljava/util/TreeMap$Entry;" } : Jvm.MethodName)) ∈ lw_all := lw_g (lw_at lw_m11 114 rfl) rfl
theorem q2592 : (Jvm.Cond.code ({ cls := "java/util/TreeMap$AscendingSubMap", name := "subLowest", desc := "()Ljava/util/TreeMap$Entry;" } : Jvm.MethodName) prog_76_method_11_code (1 : Nat) (Option.some (Jvm.ClassFile.FieldType.object "java/util/TreeMap$Entry"))) ∈ lw_all := lw_g (lw_at lw_m11 115 rfl) rfl
theorem q2627 : (Jvm.Cond.selects "java/util/TreeMap$AscendingSubMap" ({ cls := "java/util/NavigableMap", name := "pollFirstEntry", desc := "()Ljava/util/Map$Entry;" } : Jvm.MethodName) ({ cls := "java/util/TreeMap$NavigableSubMap", name := "pollFirstEntry", desc := "()Ljava/util/Map$Entry;" } : Jvm.MethodName)) ∈ lw_all := lw_g (lw_at lw_m11 150 rfl) rfl
theorem q2628 : (Jvm.Cond.unhidden "java/util/TreeMap$AscendingSubMap" "pollFirstEntry" "()Ljava/util/Map$Entry;") ∈ lw_tbl := lw_at lw_m11 151 rfl
theorem q3514 : (Jvm.Cond.selects "java/util/TreeMap$AscendingSubMap" ({ cls := "java/util/TreeMap$NavigableSubMap", name := "absLowest", desc := "()Ljava/util/TreeMap$Entry;" } : Jvm.MethodName) ({ cls := "java/util/TreeMap$NavigableSubMap", name := "absLowest", desc := "()Ljava/util/TreeMap$Entry;" } : Jvm.MethodName)) ∈ lw_all := lw_g (lw_at lw_m15 77 rfl) rfl
theorem q3531 : (Jvm.Cond.castable "java/util/TreeMap$AscendingSubMap" "java/util/TreeMap$NavigableSubMap") ∈ lw_tbl := lw_at lw_m15 94 rfl
theorem q3561 : (Jvm.Cond.castable "java/util/TreeMap$AscendingSubMap" "java/lang/Object") ∈ lw_tbl := lw_at lw_m15 124 rfl
def RJ47 : String := "java/util/AbstractMap$SimpleImmutableEntry"
def TJ47 : u_T := fun k => match k with
  | 0 => ("java/util/AbstractMap$SimpleImmutableEntry", "key", "Ljava/lang/Object;", true)
  | _ => ("java/util/AbstractMap$SimpleImmutableEntry", "value", "Ljava/lang/Object;", true)
def tyJ47 : Nat → FieldType := fun k => match k with
  | 0 => .object "java/lang/Object"
  | _ => .object "java/lang/Object"
abbrev wsJ470 : List Cond := u_ws RJ47 TJ47 2
theorem nmJ47 : ∀ a, a < 2 → ∀ b, b < 2 → a ≠ b → (TJ47 a).2.1 ≠ (TJ47 b).2.1 := by decide +kernel
theorem tyJ47_ok : ∀ k, k < 2 → parseFieldDescriptor (TJ47 k).2.2.1 = some (tyJ47 k) := by decide +kernel
theorem q140 : (Jvm.Cond.initialized "java/util/AbstractMap$SimpleImmutableEntry") ∈ lw_all := lw_g (lw_at lw_m1 63 rfl) rfl
theorem q537 : (Jvm.Cond.selects "java/util/AbstractMap$SimpleImmutableEntry" ({ cls := "java/lang/Object", name := "getClass", desc := "()Ljava/lang/Class;" } : Jvm.MethodName) ({ cls := "java/lang/Object", name := "getClass", desc := "()Ljava/lang/Class;" } : Jvm.MethodName)) ∈ lw_all := lw_g (lw_at lw_m2 220 rfl) rfl
theorem q1255 : (Jvm.Cond.castable "java/util/AbstractMap$SimpleImmutableEntry" "java/util/Map$Entry") ∈ lw_tbl := lw_at lw_m5 218 rfl
theorem q1256 : (Jvm.Cond.selects "java/util/AbstractMap$SimpleImmutableEntry" ({ cls := "java/util/Map$Entry", name := "getKey", desc := "()Ljava/lang/Object;" } : Jvm.MethodName) ({ cls := "java/util/AbstractMap$SimpleImmutableEntry", name := "getKey", desc := "()Ljava/lang/Object;" } : Jvm.MethodName)) ∈ lw_all := lw_g (lw_at lw_m5 219 rfl) rfl
theorem q1257 : (Jvm.Cond.unhidden "java/util/AbstractMap$SimpleImmutableEntry" "getKey" "()Ljava/lang/Object;") ∈ lw_tbl := lw_at lw_m5 220 rfl
theorem q1258 : (Jvm.Cond.instanceMethod ({ cls := "java/util/AbstractMap$SimpleImmutableEntry", name := "getKey", desc := "()Ljava/lang/Object;" } : Jvm.MethodName)) ∈ lw_all := lw_g (lw_at lw_m5 221 rfl) rfl
theorem q1259 : (Jvm.Cond.publicMethod ({ cls := "java/util/AbstractMap$SimpleImmutableEntry", name := "getKey", desc := "()Ljava/lang/Object;" } : Jvm.MethodName)) ∈ lw_tbl := lw_at lw_m5 222 rfl
theorem q1260 : (Jvm.Cond.code ({ cls := "java/util/AbstractMap$SimpleImmutableEntry", name := "getKey", desc := "()Ljava/lang/Object;" } : Jvm.MethodName) prog_46_method_3_code (1 : Nat) (Option.some (Jvm.ClassFile.FieldType.object "java/lang/Object"))) ∈ lw_all := lw_g (lw_at lw_m5 223 rfl) rfl
theorem q1272 : (Jvm.Cond.selects "java/util/AbstractMap$SimpleImmutableEntry" ({ cls := "java/util/Map$Entry", name := "getValue", desc := "()Ljava/lang/Object;" } : Jvm.MethodName) ({ cls := "java/util/AbstractMap$SimpleImmutableEntry", name := "getValue", desc := "()Ljava/lang/Object;" } : Jvm.MethodName)) ∈ lw_all := lw_g (lw_at lw_m5 235 rfl) rfl
theorem q1273 : (Jvm.Cond.unhidden "java/util/AbstractMap$SimpleImmutableEntry" "getValue" "()Ljava/lang/Object;") ∈ lw_tbl := lw_at lw_m5 236 rfl
theorem q1274 : (Jvm.Cond.instanceMethod ({ cls := "java/util/AbstractMap$SimpleImmutableEntry", name := "getValue", desc := "()Ljava/lang/Object;" } : Jvm.MethodName)) ∈ lw_all := lw_g (lw_at lw_m5 237 rfl) rfl
theorem q1275 : (Jvm.Cond.publicMethod ({ cls := "java/util/AbstractMap$SimpleImmutableEntry", name := "getValue", desc := "()Ljava/lang/Object;" } : Jvm.MethodName)) ∈ lw_tbl := lw_at lw_m5 238 rfl
theorem q1276 : (Jvm.Cond.code ({ cls := "java/util/AbstractMap$SimpleImmutableEntry", name := "getValue", desc := "()Ljava/lang/Object;" } : Jvm.MethodName) prog_46_method_4_code (1 : Nat) (Option.some (Jvm.ClassFile.FieldType.object "java/lang/Object"))) ∈ lw_all := lw_g (lw_at lw_m5 239 rfl) rfl
theorem q2611 : (Jvm.Cond.instantiable "java/util/AbstractMap$SimpleImmutableEntry" (2 : Nat)) ∈ lw_all := lw_g (lw_at lw_m11 134 rfl) rfl
theorem q2613 : (Jvm.Cond.instanceMethod ({ cls := "java/util/AbstractMap$SimpleImmutableEntry", name := "<init>", desc := "(Ljava/util/Map$Entry;)V" } : Jvm.MethodName)) ∈ lw_all := lw_g (lw_at lw_m11 136 rfl) rfl
theorem q2614 : (Jvm.Cond.code ({ cls := "java/util/AbstractMap$SimpleImmutableEntry", name := "<init>", desc := "(Ljava/util/Map$Entry;)V" } : Jvm.MethodName) prog_46_method_2_code (2 : Nat) (Option.none : Option Jvm.ClassFile.FieldType)) ∈ lw_all := lw_g (lw_at lw_m11 137 rfl) rfl
theorem q2615 : (Jvm.Cond.methodLink "java/util/AbstractMap$SimpleImmutableEntry" (1 : Nat) ({ cls := "java/lang/Object", name := "<init>", desc := "()V" } : Jvm.MethodName)) ∈ lw_all := lw_g (lw_at lw_m11 138 rfl) rfl
theorem q2616 : (Jvm.Cond.interfaceEntry "java/util/AbstractMap$SimpleImmutableEntry" (16 : Nat)) ∈ lw_tbl := lw_at lw_m11 139 rfl
theorem q2617 : (Jvm.Cond.methodLink "java/util/AbstractMap$SimpleImmutableEntry" (16 : Nat) ({ cls := "java/util/Map$Entry", name := "getKey", desc := "()Ljava/lang/Object;" } : Jvm.MethodName)) ∈ lw_all := lw_g (lw_at lw_m11 140 rfl) rfl
theorem q2618 : (Jvm.Cond.interfaceEntry "java/util/AbstractMap$SimpleImmutableEntry" (22 : Nat)) ∈ lw_tbl := lw_at lw_m11 141 rfl
theorem q2619 : (Jvm.Cond.methodLink "java/util/AbstractMap$SimpleImmutableEntry" (22 : Nat) ({ cls := "java/util/Map$Entry", name := "getValue", desc := "()Ljava/lang/Object;" } : Jvm.MethodName)) ∈ lw_all := lw_g (lw_at lw_m11 142 rfl) rfl
theorem q2620 : (Jvm.Cond.fieldLink "java/util/AbstractMap$SimpleImmutableEntry" (7 : Nat) "java/util/AbstractMap$SimpleImmutableEntry" "key" "Ljava/lang/Object;") ∈ lw_all := lw_g (lw_at lw_m11 143 rfl) rfl
theorem q2621 : (Jvm.Cond.fieldLink "java/util/AbstractMap$SimpleImmutableEntry" (13 : Nat) "java/util/AbstractMap$SimpleImmutableEntry" "value" "Ljava/lang/Object;") ∈ lw_all := lw_g (lw_at lw_m11 144 rfl) rfl
theorem q2622 : (Jvm.Cond.laysFinal "java/util/AbstractMap$SimpleImmutableEntry" "java/util/AbstractMap$SimpleImmutableEntry" "key" "Ljava/lang/Object;") ∈ lw_all := lw_g (lw_at lw_m11 145 rfl) rfl
theorem q2623 : (Jvm.Cond.soleField "java/util/AbstractMap$SimpleImmutableEntry" "key") ∈ lw_all := lw_g (lw_at lw_m11 146 rfl) rfl
theorem q2624 : (Jvm.Cond.laysFinal "java/util/AbstractMap$SimpleImmutableEntry" "java/util/AbstractMap$SimpleImmutableEntry" "value" "Ljava/lang/Object;") ∈ lw_all := lw_g (lw_at lw_m11 147 rfl) rfl
theorem q2625 : (Jvm.Cond.soleField "java/util/AbstractMap$SimpleImmutableEntry" "value") ∈ lw_all := lw_g (lw_at lw_m11 148 rfl) rfl
theorem q2626 : (Jvm.Cond.superclass "java/util/AbstractMap$SimpleImmutableEntry" "java/lang/Object") ∈ lw_all := lw_g (lw_at lw_m11 149 rfl) rfl
theorem q3567 : (Jvm.Cond.castable "java/util/AbstractMap$SimpleImmutableEntry" "java/lang/Object") ∈ lw_tbl := lw_at lw_m15 130 rfl
def RJ48 : String := "java/lang/StringIndexOutOfBoundsException"
def TJ48 : u_T := fun k => match k with
  | 0 => ("java/lang/Throwable", "backtrace", "Ljava/lang/Object;", false)
  | 1 => ("java/lang/Throwable", "detailMessage", "Ljava/lang/String;", false)
  | 2 => ("java/lang/Throwable", "cause", "Ljava/lang/Throwable;", false)
  | 3 => ("java/lang/Throwable", "stackTrace", "[Ljava/lang/StackTraceElement;", false)
  | 4 => ("java/lang/Throwable", "depth", "I", false)
  | _ => ("java/lang/Throwable", "suppressedExceptions", "Ljava/util/List;", false)
def tyJ48 : Nat → FieldType := fun k => match k with
  | 0 => .object "java/lang/Object"
  | 1 => .object "java/lang/String"
  | 2 => .object "java/lang/Throwable"
  | 3 => .array (.object "java/lang/StackTraceElement")
  | 4 => .int
  | _ => .object "java/util/List"
abbrev wsJ480 : List Cond := u_ws RJ48 TJ48 6
theorem nmJ48 : ∀ a, a < 6 → ∀ b, b < 6 → a ≠ b → (TJ48 a).2.1 ≠ (TJ48 b).2.1 := by decide +kernel
theorem tyJ48_ok : ∀ k, k < 6 → parseFieldDescriptor (TJ48 k).2.2.1 = some (tyJ48 k) := by decide +kernel
theorem q142 : (Jvm.Cond.initialized "java/lang/StringIndexOutOfBoundsException") ∈ lw_all := lw_g (lw_at lw_m1 65 rfl) rfl
theorem q473 : (Jvm.Cond.selects "java/lang/StringIndexOutOfBoundsException" ({ cls := "java/lang/Throwable", name := "fillInStackTrace", desc := "()Ljava/lang/Throwable;" } : Jvm.MethodName) ({ cls := "java/lang/Throwable", name := "fillInStackTrace", desc := "()Ljava/lang/Throwable;" } : Jvm.MethodName)) ∈ lw_all := lw_g (lw_at lw_m2 156 rfl) rfl
theorem q535 : (Jvm.Cond.selects "java/lang/StringIndexOutOfBoundsException" ({ cls := "java/lang/Object", name := "getClass", desc := "()Ljava/lang/Class;" } : Jvm.MethodName) ({ cls := "java/lang/Object", name := "getClass", desc := "()Ljava/lang/Class;" } : Jvm.MethodName)) ∈ lw_all := lw_g (lw_at lw_m2 218 rfl) rfl
theorem q2832 : (Jvm.Cond.instantiable "java/lang/StringIndexOutOfBoundsException" (6 : Nat)) ∈ lw_all := lw_g (lw_at lw_m12 115 rfl) rfl
theorem q2834 : (Jvm.Cond.instanceMethod ({ cls := "java/lang/StringIndexOutOfBoundsException", name := "<init>", desc := "(I)V" } : Jvm.MethodName)) ∈ lw_all := lw_g (lw_at lw_m12 117 rfl) rfl
theorem q2835 : (Jvm.Cond.code ({ cls := "java/lang/StringIndexOutOfBoundsException", name := "<init>", desc := "(I)V" } : Jvm.MethodName) prog_35_method_3_code (2 : Nat) (Option.none : Option Jvm.ClassFile.FieldType)) ∈ lw_all := lw_g (lw_at lw_m12 118 rfl) rfl
theorem q2836 : (Jvm.Cond.classLink "java/lang/StringIndexOutOfBoundsException" (10 : Nat) "java/lang/StringBuilder") ∈ lw_all := lw_g (lw_at lw_m12 119 rfl) rfl
theorem q2837 : (Jvm.Cond.methodLink "java/lang/StringIndexOutOfBoundsException" (12 : Nat) ({ cls := "java/lang/StringBuilder", name := "<init>", desc := "()V" } : Jvm.MethodName)) ∈ lw_all := lw_g (lw_at lw_m12 120 rfl) rfl
theorem q2838 : (Jvm.Cond.stringRef "java/lang/StringIndexOutOfBoundsException" (13 : Nat) "String index out of range: ") ∈ lw_tbl := lw_at lw_m12 121 rfl
theorem q2839 : (Jvm.Cond.methodLink "java/lang/StringIndexOutOfBoundsException" (15 : Nat) ({ cls := "java/lang/StringBuilder", name := "append", desc := "(Ljava/lang/String;)Ljava/lang/StringBuilder;" } : Jvm.MethodName)) ∈ lw_all := lw_g (lw_at lw_m12 122 rfl) rfl
theorem q2878 : (Jvm.Cond.methodLink "java/lang/StringIndexOutOfBoundsException" (19 : Nat) ({ cls := "java/lang/StringBuilder", name := "append", desc := "(I)Ljava/lang/StringBuilder;" } : Jvm.MethodName)) ∈ lw_all := lw_g (lw_at lw_m12 161 rfl) rfl
theorem q2903 : (Jvm.Cond.methodLink "java/lang/StringIndexOutOfBoundsException" (22 : Nat) ({ cls := "java/lang/StringBuilder", name := "toString", desc := "()Ljava/lang/String;" } : Jvm.MethodName)) ∈ lw_all := lw_g (lw_at lw_m12 186 rfl) rfl
theorem q2956 : (Jvm.Cond.methodLink "java/lang/StringIndexOutOfBoundsException" (7 : Nat) ({ cls := "java/lang/IndexOutOfBoundsException", name := "<init>", desc := "(Ljava/lang/String;)V" } : Jvm.MethodName)) ∈ lw_all := lw_g (lw_at lw_m12 239 rfl) rfl
theorem q2957 : (Jvm.Cond.lays "java/lang/StringIndexOutOfBoundsException" "java/lang/Throwable" "backtrace" "Ljava/lang/Object;") ∈ lw_all := lw_g (lw_at lw_m13 0 rfl) rfl
theorem q2958 : (Jvm.Cond.lays "java/lang/StringIndexOutOfBoundsException" "java/lang/Throwable" "detailMessage" "Ljava/lang/String;") ∈ lw_all := lw_g (lw_at lw_m13 1 rfl) rfl
theorem q2959 : (Jvm.Cond.lays "java/lang/StringIndexOutOfBoundsException" "java/lang/Throwable" "cause" "Ljava/lang/Throwable;") ∈ lw_all := lw_g (lw_at lw_m13 2 rfl) rfl
theorem q2960 : (Jvm.Cond.lays "java/lang/StringIndexOutOfBoundsException" "java/lang/Throwable" "stackTrace" "[Ljava/lang/StackTraceElement;") ∈ lw_all := lw_g (lw_at lw_m13 3 rfl) rfl
theorem q2961 : (Jvm.Cond.lays "java/lang/StringIndexOutOfBoundsException" "java/lang/Throwable" "depth" "I") ∈ lw_all := lw_g (lw_at lw_m13 4 rfl) rfl
theorem q2962 : (Jvm.Cond.lays "java/lang/StringIndexOutOfBoundsException" "java/lang/Throwable" "suppressedExceptions" "Ljava/util/List;") ∈ lw_all := lw_g (lw_at lw_m13 5 rfl) rfl
theorem q2963 : (Jvm.Cond.superclass "java/lang/StringIndexOutOfBoundsException" "java/lang/IndexOutOfBoundsException") ∈ lw_all := lw_g (lw_at lw_m13 6 rfl) rfl
theorem q3530 : (Jvm.Cond.castable "java/lang/StringIndexOutOfBoundsException" "java/lang/IndexOutOfBoundsException") ∈ lw_tbl := lw_at lw_m15 93 rfl
theorem q3570 : (Jvm.Cond.castable "java/lang/StringIndexOutOfBoundsException" "java/lang/Object") ∈ lw_tbl := lw_at lw_m15 133 rfl
def RJ49 : String := "java/lang/ArithmeticException"
def TJ49 : u_T := fun k => match k with
  | 0 => ("java/lang/Throwable", "backtrace", "Ljava/lang/Object;", false)
  | 1 => ("java/lang/Throwable", "detailMessage", "Ljava/lang/String;", false)
  | 2 => ("java/lang/Throwable", "cause", "Ljava/lang/Throwable;", false)
  | 3 => ("java/lang/Throwable", "stackTrace", "[Ljava/lang/StackTraceElement;", false)
  | 4 => ("java/lang/Throwable", "depth", "I", false)
  | _ => ("java/lang/Throwable", "suppressedExceptions", "Ljava/util/List;", false)
def tyJ49 : Nat → FieldType := fun k => match k with
  | 0 => .object "java/lang/Object"
  | 1 => .object "java/lang/String"
  | 2 => .object "java/lang/Throwable"
  | 3 => .array (.object "java/lang/StackTraceElement")
  | 4 => .int
  | _ => .object "java/util/List"
abbrev wsJ490 : List Cond := u_ws RJ49 TJ49 6
theorem nmJ49 : ∀ a, a < 6 → ∀ b, b < 6 → a ≠ b → (TJ49 a).2.1 ≠ (TJ49 b).2.1 := by decide +kernel
theorem tyJ49_ok : ∀ k, k < 6 → parseFieldDescriptor (TJ49 k).2.2.1 = some (tyJ49 k) := by decide +kernel
theorem q143 : (Jvm.Cond.initialized "java/lang/ArithmeticException") ∈ lw_all := lw_g (lw_at lw_m1 66 rfl) rfl
theorem q469 : (Jvm.Cond.selects "java/lang/ArithmeticException" ({ cls := "java/lang/Throwable", name := "fillInStackTrace", desc := "()Ljava/lang/Throwable;" } : Jvm.MethodName) ({ cls := "java/lang/Throwable", name := "fillInStackTrace", desc := "()Ljava/lang/Throwable;" } : Jvm.MethodName)) ∈ lw_all := lw_g (lw_at lw_m2 152 rfl) rfl
theorem q528 : (Jvm.Cond.selects "java/lang/ArithmeticException" ({ cls := "java/lang/Object", name := "getClass", desc := "()Ljava/lang/Class;" } : Jvm.MethodName) ({ cls := "java/lang/Object", name := "getClass", desc := "()Ljava/lang/Class;" } : Jvm.MethodName)) ∈ lw_all := lw_g (lw_at lw_m2 211 rfl) rfl
theorem q3037 : (Jvm.Cond.instantiable "java/lang/ArithmeticException" (6 : Nat)) ∈ lw_all := lw_g (lw_at lw_m13 80 rfl) rfl
theorem q3038 : (Jvm.Cond.instanceMethod ({ cls := "java/lang/ArithmeticException", name := "<init>", desc := "(Ljava/lang/String;)V" } : Jvm.MethodName)) ∈ lw_all := lw_g (lw_at lw_m13 81 rfl) rfl
theorem q3039 : (Jvm.Cond.code ({ cls := "java/lang/ArithmeticException", name := "<init>", desc := "(Ljava/lang/String;)V" } : Jvm.MethodName) prog_18_method_2_code (2 : Nat) (Option.none : Option Jvm.ClassFile.FieldType)) ∈ lw_all := lw_g (lw_at lw_m13 82 rfl) rfl
theorem q3040 : (Jvm.Cond.methodLink "java/lang/ArithmeticException" (7 : Nat) ({ cls := "java/lang/RuntimeException", name := "<init>", desc := "(Ljava/lang/String;)V" } : Jvm.MethodName)) ∈ lw_all := lw_g (lw_at lw_m13 83 rfl) rfl
theorem q3041 : (Jvm.Cond.lays "java/lang/ArithmeticException" "java/lang/Throwable" "backtrace" "Ljava/lang/Object;") ∈ lw_all := lw_g (lw_at lw_m13 84 rfl) rfl
theorem q3042 : (Jvm.Cond.lays "java/lang/ArithmeticException" "java/lang/Throwable" "detailMessage" "Ljava/lang/String;") ∈ lw_all := lw_g (lw_at lw_m13 85 rfl) rfl
theorem q3043 : (Jvm.Cond.lays "java/lang/ArithmeticException" "java/lang/Throwable" "cause" "Ljava/lang/Throwable;") ∈ lw_all := lw_g (lw_at lw_m13 86 rfl) rfl
theorem q3044 : (Jvm.Cond.lays "java/lang/ArithmeticException" "java/lang/Throwable" "stackTrace" "[Ljava/lang/StackTraceElement;") ∈ lw_all := lw_g (lw_at lw_m13 87 rfl) rfl
theorem q3045 : (Jvm.Cond.lays "java/lang/ArithmeticException" "java/lang/Throwable" "depth" "I") ∈ lw_all := lw_g (lw_at lw_m13 88 rfl) rfl
theorem q3046 : (Jvm.Cond.lays "java/lang/ArithmeticException" "java/lang/Throwable" "suppressedExceptions" "Ljava/util/List;") ∈ lw_all := lw_g (lw_at lw_m13 89 rfl) rfl
theorem q3047 : (Jvm.Cond.superclass "java/lang/ArithmeticException" "java/lang/RuntimeException") ∈ lw_all := lw_g (lw_at lw_m13 90 rfl) rfl
theorem q3048 : (Jvm.Cond.castable "java/lang/ArithmeticException" "java/lang/ArithmeticException") ∈ lw_tbl := lw_at lw_m13 91 rfl
theorem q3049 : (Jvm.Cond.selects "java/lang/ArithmeticException" ({ cls := "java/lang/Throwable", name := "fillInStackTrace", desc := "(I)Ljava/lang/Throwable;" } : Jvm.MethodName) ({ cls := "java/lang/Throwable", name := "fillInStackTrace", desc := "(I)Ljava/lang/Throwable;" } : Jvm.MethodName)) ∈ lw_all := lw_g (lw_at lw_m13 92 rfl) rfl
theorem q3059 : (Jvm.Cond.instanceMethod ({ cls := "java/lang/ArithmeticException", name := "<init>", desc := "()V" } : Jvm.MethodName)) ∈ lw_all := lw_g (lw_at lw_m13 102 rfl) rfl
theorem q3060 : (Jvm.Cond.code ({ cls := "java/lang/ArithmeticException", name := "<init>", desc := "()V" } : Jvm.MethodName) prog_18_method_1_code (1 : Nat) (Option.none : Option Jvm.ClassFile.FieldType)) ∈ lw_all := lw_g (lw_at lw_m13 103 rfl) rfl
theorem q3061 : (Jvm.Cond.methodLink "java/lang/ArithmeticException" (1 : Nat) ({ cls := "java/lang/RuntimeException", name := "<init>", desc := "()V" } : Jvm.MethodName)) ∈ lw_all := lw_g (lw_at lw_m13 104 rfl) rfl
theorem q3572 : (Jvm.Cond.castable "java/lang/ArithmeticException" "java/lang/Object") ∈ lw_tbl := lw_at lw_m15 135 rfl
def RJ5 : String := "java/util/ArrayDeque"
def TJ5 : u_T := fun k => match k with
  | 0 => ("java/util/ArrayDeque", "elements", "[Ljava/lang/Object;", false)
  | 1 => ("java/util/ArrayDeque", "head", "I", false)
  | _ => ("java/util/ArrayDeque", "tail", "I", false)
def tyJ5 : Nat → FieldType := fun k => match k with
  | 0 => .array (.object "java/lang/Object")
  | 1 => .int
  | _ => .int
abbrev wsJ50 : List Cond := u_ws RJ5 TJ5 3
theorem nmJ5 : ∀ a, a < 3 → ∀ b, b < 3 → a ≠ b → (TJ5 a).2.1 ≠ (TJ5 b).2.1 := by decide +kernel
theorem tyJ5_ok : ∀ k, k < 3 → parseFieldDescriptor (TJ5 k).2.2.1 = some (tyJ5 k) := by decide +kernel
theorem q87 : (Jvm.Cond.initialized "java/util/ArrayDeque") ∈ lw_all := lw_g (lw_at lw_m1 10 rfl) rfl
theorem q339 : (Jvm.Cond.instantiable "java/util/ArrayDeque" (3 : Nat)) ∈ lw_all := lw_g (lw_at lw_m2 22 rfl) rfl
theorem q341 : (Jvm.Cond.instanceMethod ({ cls := "java/util/ArrayDeque", name := "<init>", desc := "()V" } : Jvm.MethodName)) ∈ lw_all := lw_g (lw_at lw_m2 24 rfl) rfl
theorem q342 : (Jvm.Cond.code ({ cls := "java/util/ArrayDeque", name := "<init>", desc := "()V" } : Jvm.MethodName) prog_49_method_3_code (1 : Nat) (Option.none : Option Jvm.ClassFile.FieldType)) ∈ lw_all := lw_g (lw_at lw_m2 25 rfl) rfl
theorem q343 : (Jvm.Cond.methodLink "java/util/ArrayDeque" (42 : Nat) ({ cls := "java/util/AbstractCollection", name := "<init>", desc := "()V" } : Jvm.MethodName)) ∈ lw_all := lw_g (lw_at lw_m2 26 rfl) rfl
theorem q344 : (Jvm.Cond.classLink "java/util/ArrayDeque" (47 : Nat) "java/lang/Object") ∈ lw_all := lw_g (lw_at lw_m2 27 rfl) rfl
theorem q346 : (Jvm.Cond.fieldLink "java/util/ArrayDeque" (3 : Nat) "java/util/ArrayDeque" "elements" "[Ljava/lang/Object;") ∈ lw_all := lw_g (lw_at lw_m2 29 rfl) rfl
theorem q349 : (Jvm.Cond.fieldLink "java/util/ArrayDeque" (24 : Nat) "java/util/ArrayDeque" "head" "I") ∈ lw_all := lw_g (lw_at lw_m2 32 rfl) rfl
theorem q350 : (Jvm.Cond.fieldLink "java/util/ArrayDeque" (20 : Nat) "java/util/ArrayDeque" "tail" "I") ∈ lw_all := lw_g (lw_at lw_m2 33 rfl) rfl
theorem q351 : (Jvm.Cond.lays "java/util/ArrayDeque" "java/util/ArrayDeque" "elements" "[Ljava/lang/Object;") ∈ lw_all := lw_g (lw_at lw_m2 34 rfl) rfl
theorem q352 : (Jvm.Cond.soleField "java/util/ArrayDeque" "elements") ∈ lw_all := lw_g (lw_at lw_m2 35 rfl) rfl
theorem q353 : (Jvm.Cond.lays "java/util/ArrayDeque" "java/util/ArrayDeque" "head" "I") ∈ lw_all := lw_g (lw_at lw_m2 36 rfl) rfl
theorem q354 : (Jvm.Cond.soleField "java/util/ArrayDeque" "head") ∈ lw_all := lw_g (lw_at lw_m2 37 rfl) rfl
theorem q355 : (Jvm.Cond.lays "java/util/ArrayDeque" "java/util/ArrayDeque" "tail" "I") ∈ lw_all := lw_g (lw_at lw_m2 38 rfl) rfl
theorem q356 : (Jvm.Cond.soleField "java/util/ArrayDeque" "tail") ∈ lw_all := lw_g (lw_at lw_m2 39 rfl) rfl
theorem q357 : (Jvm.Cond.superclass "java/util/ArrayDeque" "java/util/AbstractCollection") ∈ lw_all := lw_g (lw_at lw_m2 40 rfl) rfl
theorem q419 : (Jvm.Cond.instanceMethod ({ cls := "java/util/ArrayDeque", name := "addLast", desc := "(Ljava/lang/Object;)V" } : Jvm.MethodName)) ∈ lw_all := lw_g (lw_at lw_m2 102 rfl) rfl
theorem q420 : (Jvm.Cond.selects "java/util/ArrayDeque" ({ cls := "java/util/ArrayDeque", name := "addLast", desc := "(Ljava/lang/Object;)V" } : Jvm.MethodName) ({ cls := "java/util/ArrayDeque", name := "addLast", desc := "(Ljava/lang/Object;)V" } : Jvm.MethodName)) ∈ lw_all := lw_g (lw_at lw_m2 103 rfl) rfl
theorem q421 : (Jvm.Cond.code ({ cls := "java/util/ArrayDeque", name := "addLast", desc := "(Ljava/lang/Object;)V" } : Jvm.MethodName) prog_49_method_13_code (3 : Nat) (Option.none : Option Jvm.ClassFile.FieldType)) ∈ lw_all := lw_g (lw_at lw_m2 104 rfl) rfl
theorem q422 : (Jvm.Cond.methodLink "java/util/ArrayDeque" (74 : Nat) ({ cls := "java/util/ArrayDeque", name := "inc", desc := "(II)I" } : Jvm.MethodName)) ∈ lw_all := lw_g (lw_at lw_m2 105 rfl) rfl
theorem q423 : (Jvm.Cond.static ({ cls := "java/util/ArrayDeque", name := "inc", desc := "(II)I" } : Jvm.MethodName)) ∈ lw_all := lw_g (lw_at lw_m2 106 rfl) rfl
theorem q424 : (Jvm.Cond.code ({ cls := "java/util/ArrayDeque", name := "inc", desc := "(II)I" } : Jvm.MethodName) prog_49_method_6_code (2 : Nat) (Option.some Jvm.ClassFile.FieldType.int)) ∈ lw_all := lw_g (lw_at lw_m2 107 rfl) rfl
theorem q425 : (Jvm.Cond.methodLink "java/util/ArrayDeque" (71 : Nat) ({ cls := "java/util/ArrayDeque", name := "grow", desc := "(I)V" } : Jvm.MethodName)) ∈ lw_all := lw_g (lw_at lw_m2 108 rfl) rfl
theorem q426 : (Jvm.Cond.privateMethod ({ cls := "java/util/ArrayDeque", name := "grow", desc := "(I)V" } : Jvm.MethodName)) ∈ lw_tbl := lw_at lw_m2 109 rfl
theorem q427 : (Jvm.Cond.instanceMethod ({ cls := "java/util/ArrayDeque", name := "grow", desc := "(I)V" } : Jvm.MethodName)) ∈ lw_all := lw_g (lw_at lw_m2 110 rfl) rfl
theorem q428 : (Jvm.Cond.code ({ cls := "java/util/ArrayDeque", name := "grow", desc := "(I)V" } : Jvm.MethodName) prog_49_method_1_code (9 : Nat) (Option.none : Option Jvm.ClassFile.FieldType)) ∈ lw_all := lw_g (lw_at lw_m2 111 rfl) rfl
theorem q429 : (Jvm.Cond.constant "java/util/ArrayDeque" (9 : Nat) (2147483639 : Int32)) ∈ lw_all := lw_g (lw_at lw_m2 112 rfl) rfl
theorem q430 : (Jvm.Cond.methodLink "java/util/ArrayDeque" (10 : Nat) ({ cls := "java/util/ArrayDeque", name := "newCapacity", desc := "(II)I" } : Jvm.MethodName)) ∈ lw_all := lw_g (lw_at lw_m2 113 rfl) rfl
theorem q431 : (Jvm.Cond.privateMethod ({ cls := "java/util/ArrayDeque", name := "newCapacity", desc := "(II)I" } : Jvm.MethodName)) ∈ lw_tbl := lw_at lw_m2 114 rfl
theorem q432 : (Jvm.Cond.instanceMethod ({ cls := "java/util/ArrayDeque", name := "newCapacity", desc := "(II)I" } : Jvm.MethodName)) ∈ lw_all := lw_g (lw_at lw_m2 115 rfl) rfl
theorem q433 : (Jvm.Cond.code ({ cls := "java/util/ArrayDeque", name := "newCapacity", desc := "(II)I" } : Jvm.MethodName) prog_49_method_2_code (5 : Nat) (Option.some Jvm.ClassFile.FieldType.int)) ∈ lw_all := lw_g (lw_at lw_m2 116 rfl) rfl
theorem q434 : (Jvm.Cond.classLink "java/util/ArrayDeque" (33 : Nat) "java/lang/IllegalStateException") ∈ lw_all := lw_g (lw_at lw_m2 117 rfl) rfl
theorem q482 : (Jvm.Cond.stringRef "java/util/ArrayDeque" (35 : Nat) "Sorry, deque too big") ∈ lw_tbl := lw_at lw_m2 165 rfl
theorem q483 : (Jvm.Cond.methodLink "java/util/ArrayDeque" (37 : Nat) ({ cls := "java/lang/IllegalStateException", name := "<init>", desc := "(Ljava/lang/String;)V" } : Jvm.MethodName)) ∈ lw_all := lw_g (lw_at lw_m2 166 rfl) rfl
theorem q508 : (Jvm.Cond.constant "java/util/ArrayDeque" (41 : Nat) (2147483647 : Int32)) ∈ lw_all := lw_g (lw_at lw_m2 191 rfl) rfl
theorem q509 : (Jvm.Cond.methodLink "java/util/ArrayDeque" (14 : Nat) ({ cls := "java/util/Arrays", name := "copyOf", desc := "([Ljava/lang/Object;I)[Ljava/lang/Object;" } : Jvm.MethodName)) ∈ lw_all := lw_g (lw_at lw_m2 192 rfl) rfl
theorem q538 : (Jvm.Cond.selects "java/util/ArrayDeque" ({ cls := "java/lang/Object", name := "getClass", desc := "()Ljava/lang/Class;" } : Jvm.MethodName) ({ cls := "java/lang/Object", name := "getClass", desc := "()Ljava/lang/Class;" } : Jvm.MethodName)) ∈ lw_all := lw_g (lw_at lw_m2 221 rfl) rfl
theorem q569 : (Jvm.Cond.methodLink "java/util/ArrayDeque" (27 : Nat) ({ cls := "java/lang/System", name := "arraycopy", desc := "(Ljava/lang/Object;ILjava/lang/Object;II)V" } : Jvm.MethodName)) ∈ lw_all := lw_g (lw_at lw_m3 12 rfl) rfl
theorem q1112 : (Jvm.Cond.instanceMethod ({ cls := "java/util/ArrayDeque", name := "isEmpty", desc := "()Z" } : Jvm.MethodName)) ∈ lw_all := lw_g (lw_at lw_m5 75 rfl) rfl
theorem q1113 : (Jvm.Cond.selects "java/util/ArrayDeque" ({ cls := "java/util/ArrayDeque", name := "isEmpty", desc := "()Z" } : Jvm.MethodName) ({ cls := "java/util/ArrayDeque", name := "isEmpty", desc := "()Z" } : Jvm.MethodName)) ∈ lw_all := lw_g (lw_at lw_m5 76 rfl) rfl
theorem q1114 : (Jvm.Cond.code ({ cls := "java/util/ArrayDeque", name := "isEmpty", desc := "()Z" } : Jvm.MethodName) prog_49_method_38_code (1 : Nat) (Option.some Jvm.ClassFile.FieldType.boolean)) ∈ lw_all := lw_g (lw_at lw_m5 77 rfl) rfl
theorem q1167 : (Jvm.Cond.static ({ cls := "java/util/ArrayDeque", name := "nonNullElementAt", desc := "([Ljava/lang/Object;I)Ljava/lang/Object;" } : Jvm.MethodName)) ∈ lw_all := lw_g (lw_at lw_m5 130 rfl) rfl
theorem q1168 : (Jvm.Cond.code ({ cls := "java/util/ArrayDeque", name := "nonNullElementAt", desc := "([Ljava/lang/Object;I)Ljava/lang/Object;" } : Jvm.MethodName) prog_49_method_11_code (3 : Nat) (Option.some (Jvm.ClassFile.FieldType.object "java/lang/Object"))) ∈ lw_all := lw_g (lw_at lw_m5 131 rfl) rfl
theorem q1176 : (Jvm.Cond.instanceMethod ({ cls := "java/util/ArrayDeque", name := "poll", desc := "()Ljava/lang/Object;" } : Jvm.MethodName)) ∈ lw_all := lw_g (lw_at lw_m5 139 rfl) rfl
theorem q1177 : (Jvm.Cond.selects "java/util/ArrayDeque" ({ cls := "java/util/ArrayDeque", name := "poll", desc := "()Ljava/lang/Object;" } : Jvm.MethodName) ({ cls := "java/util/ArrayDeque", name := "poll", desc := "()Ljava/lang/Object;" } : Jvm.MethodName)) ∈ lw_all := lw_g (lw_at lw_m5 140 rfl) rfl
theorem q1178 : (Jvm.Cond.code ({ cls := "java/util/ArrayDeque", name := "poll", desc := "()Ljava/lang/Object;" } : Jvm.MethodName) prog_49_method_31_code (1 : Nat) (Option.some (Jvm.ClassFile.FieldType.object "java/lang/Object"))) ∈ lw_all := lw_g (lw_at lw_m5 141 rfl) rfl
theorem q1179 : (Jvm.Cond.methodLink "java/util/ArrayDeque" (93 : Nat) ({ cls := "java/util/ArrayDeque", name := "pollFirst", desc := "()Ljava/lang/Object;" } : Jvm.MethodName)) ∈ lw_all := lw_g (lw_at lw_m5 142 rfl) rfl
theorem q1180 : (Jvm.Cond.instanceMethod ({ cls := "java/util/ArrayDeque", name := "pollFirst", desc := "()Ljava/lang/Object;" } : Jvm.MethodName)) ∈ lw_all := lw_g (lw_at lw_m5 143 rfl) rfl
theorem q1181 : (Jvm.Cond.selects "java/util/ArrayDeque" ({ cls := "java/util/ArrayDeque", name := "pollFirst", desc := "()Ljava/lang/Object;" } : Jvm.MethodName) ({ cls := "java/util/ArrayDeque", name := "pollFirst", desc := "()Ljava/lang/Object;" } : Jvm.MethodName)) ∈ lw_all := lw_g (lw_at lw_m5 144 rfl) rfl
theorem q1182 : (Jvm.Cond.code ({ cls := "java/util/ArrayDeque", name := "pollFirst", desc := "()Ljava/lang/Object;" } : Jvm.MethodName) prog_49_method_20_code (4 : Nat) (Option.some (Jvm.ClassFile.FieldType.object "java/lang/Object"))) ∈ lw_all := lw_g (lw_at lw_m5 145 rfl) rfl
theorem q1183 : (Jvm.Cond.methodLink "java/util/ArrayDeque" (103 : Nat) ({ cls := "java/util/ArrayDeque", name := "elementAt", desc := "([Ljava/lang/Object;I)Ljava/lang/Object;" } : Jvm.MethodName)) ∈ lw_all := lw_g (lw_at lw_m5 146 rfl) rfl
theorem q1184 : (Jvm.Cond.static ({ cls := "java/util/ArrayDeque", name := "elementAt", desc := "([Ljava/lang/Object;I)Ljava/lang/Object;" } : Jvm.MethodName)) ∈ lw_all := lw_g (lw_at lw_m5 147 rfl) rfl
theorem q1185 : (Jvm.Cond.code ({ cls := "java/util/ArrayDeque", name := "elementAt", desc := "([Ljava/lang/Object;I)Ljava/lang/Object;" } : Jvm.MethodName) prog_49_method_10_code (2 : Nat) (Option.some (Jvm.ClassFile.FieldType.object "java/lang/Object"))) ∈ lw_all := lw_g (lw_at lw_m5 148 rfl) rfl
theorem q1455 : (Jvm.Cond.selects "java/util/ArrayDeque" ({ cls := "java/util/AbstractCollection", name := "iterator", desc := "()Ljava/util/Iterator;" } : Jvm.MethodName) ({ cls := "java/util/ArrayDeque", name := "iterator", desc := "()Ljava/util/Iterator;" } : Jvm.MethodName)) ∈ lw_all := lw_g (lw_at lw_m6 178 rfl) rfl
theorem q1456 : (Jvm.Cond.instanceMethod ({ cls := "java/util/ArrayDeque", name := "iterator", desc := "()Ljava/util/Iterator;" } : Jvm.MethodName)) ∈ lw_all := lw_g (lw_at lw_m6 179 rfl) rfl
theorem q1457 : (Jvm.Cond.code ({ cls := "java/util/ArrayDeque", name := "iterator", desc := "()Ljava/util/Iterator;" } : Jvm.MethodName) prog_49_method_39_code (1 : Nat) (Option.some (Jvm.ClassFile.FieldType.object "java/util/Iterator"))) ∈ lw_all := lw_g (lw_at lw_m6 180 rfl) rfl
theorem q1458 : (Jvm.Cond.classLink "java/util/ArrayDeque" (131 : Nat) "java/util/ArrayDeque$DeqIterator") ∈ lw_all := lw_g (lw_at lw_m6 181 rfl) rfl
theorem q1460 : (Jvm.Cond.methodLink "java/util/ArrayDeque" (133 : Nat) ({ cls := "java/util/ArrayDeque$DeqIterator", name := "<init>", desc := "(Ljava/util/ArrayDeque;)V" } : Jvm.MethodName)) ∈ lw_all := lw_g (lw_at lw_m6 183 rfl) rfl
theorem q1465 : (Jvm.Cond.instanceMethod ({ cls := "java/util/ArrayDeque", name := "size", desc := "()I" } : Jvm.MethodName)) ∈ lw_all := lw_g (lw_at lw_m6 188 rfl) rfl
theorem q1466 : (Jvm.Cond.selects "java/util/ArrayDeque" ({ cls := "java/util/ArrayDeque", name := "size", desc := "()I" } : Jvm.MethodName) ({ cls := "java/util/ArrayDeque", name := "size", desc := "()I" } : Jvm.MethodName)) ∈ lw_all := lw_g (lw_at lw_m6 189 rfl) rfl
theorem q1467 : (Jvm.Cond.code ({ cls := "java/util/ArrayDeque", name := "size", desc := "()I" } : Jvm.MethodName) prog_49_method_37_code (1 : Nat) (Option.some Jvm.ClassFile.FieldType.int)) ∈ lw_all := lw_g (lw_at lw_m6 190 rfl) rfl
theorem q1468 : (Jvm.Cond.methodLink "java/util/ArrayDeque" (127 : Nat) ({ cls := "java/util/ArrayDeque", name := "sub", desc := "(III)I" } : Jvm.MethodName)) ∈ lw_all := lw_g (lw_at lw_m6 191 rfl) rfl
theorem q1469 : (Jvm.Cond.static ({ cls := "java/util/ArrayDeque", name := "sub", desc := "(III)I" } : Jvm.MethodName)) ∈ lw_all := lw_g (lw_at lw_m6 192 rfl) rfl
theorem q1470 : (Jvm.Cond.code ({ cls := "java/util/ArrayDeque", name := "sub", desc := "(III)I" } : Jvm.MethodName) prog_49_method_9_code (3 : Nat) (Option.some Jvm.ClassFile.FieldType.int)) ∈ lw_all := lw_g (lw_at lw_m6 193 rfl) rfl
theorem q1550 : (Jvm.Cond.instanceMethod ({ cls := "java/util/ArrayDeque", name := "delete", desc := "(I)Z" } : Jvm.MethodName)) ∈ lw_all := lw_g (lw_at lw_m7 33 rfl) rfl
theorem q1551 : (Jvm.Cond.selects "java/util/ArrayDeque" ({ cls := "java/util/ArrayDeque", name := "delete", desc := "(I)Z" } : Jvm.MethodName) ({ cls := "java/util/ArrayDeque", name := "delete", desc := "(I)Z" } : Jvm.MethodName)) ∈ lw_all := lw_g (lw_at lw_m7 34 rfl) rfl
theorem q1552 : (Jvm.Cond.code ({ cls := "java/util/ArrayDeque", name := "delete", desc := "(I)Z" } : Jvm.MethodName) prog_49_method_36_code (8 : Nat) (Option.some Jvm.ClassFile.FieldType.boolean)) ∈ lw_all := lw_g (lw_at lw_m7 35 rfl) rfl
theorem q1553 : (Jvm.Cond.methodLink "java/util/ArrayDeque" (68 : Nat) ({ cls := "java/util/ArrayDeque", name := "dec", desc := "(II)I" } : Jvm.MethodName)) ∈ lw_all := lw_g (lw_at lw_m7 36 rfl) rfl
theorem q1554 : (Jvm.Cond.static ({ cls := "java/util/ArrayDeque", name := "dec", desc := "(II)I" } : Jvm.MethodName)) ∈ lw_all := lw_g (lw_at lw_m7 37 rfl) rfl
theorem q1555 : (Jvm.Cond.code ({ cls := "java/util/ArrayDeque", name := "dec", desc := "(II)I" } : Jvm.MethodName) prog_49_method_7_code (2 : Nat) (Option.some Jvm.ClassFile.FieldType.int)) ∈ lw_all := lw_g (lw_at lw_m7 38 rfl) rfl
theorem q1599 : (Jvm.Cond.instanceMethod ({ cls := "java/util/ArrayDeque", name := "add", desc := "(Ljava/lang/Object;)Z" } : Jvm.MethodName)) ∈ lw_all := lw_g (lw_at lw_m7 82 rfl) rfl
theorem q1600 : (Jvm.Cond.selects "java/util/ArrayDeque" ({ cls := "java/util/ArrayDeque", name := "add", desc := "(Ljava/lang/Object;)Z" } : Jvm.MethodName) ({ cls := "java/util/ArrayDeque", name := "add", desc := "(Ljava/lang/Object;)Z" } : Jvm.MethodName)) ∈ lw_all := lw_g (lw_at lw_m7 83 rfl) rfl
theorem q1601 : (Jvm.Cond.code ({ cls := "java/util/ArrayDeque", name := "add", desc := "(Ljava/lang/Object;)Z" } : Jvm.MethodName) prog_49_method_28_code (2 : Nat) (Option.some Jvm.ClassFile.FieldType.boolean)) ∈ lw_all := lw_g (lw_at lw_m7 84 rfl) rfl
theorem q1602 : (Jvm.Cond.methodLink "java/util/ArrayDeque" (90 : Nat) ({ cls := "java/util/ArrayDeque", name := "addLast", desc := "(Ljava/lang/Object;)V" } : Jvm.MethodName)) ∈ lw_all := lw_g (lw_at lw_m7 85 rfl) rfl
theorem q2072 : (Jvm.Cond.castable "java/util/ArrayDeque" "java/util/Collection") ∈ lw_tbl := lw_at lw_m9 75 rfl
theorem q2073 : (Jvm.Cond.selects "java/util/ArrayDeque" ({ cls := "java/util/Collection", name := "iterator", desc := "()Ljava/util/Iterator;" } : Jvm.MethodName) ({ cls := "java/util/ArrayDeque", name := "iterator", desc := "()Ljava/util/Iterator;" } : Jvm.MethodName)) ∈ lw_all := lw_g (lw_at lw_m9 76 rfl) rfl
theorem q2074 : (Jvm.Cond.unhidden "java/util/ArrayDeque" "iterator" "()Ljava/util/Iterator;") ∈ lw_tbl := lw_at lw_m9 77 rfl
theorem q2075 : (Jvm.Cond.publicMethod ({ cls := "java/util/ArrayDeque", name := "iterator", desc := "()Ljava/util/Iterator;" } : Jvm.MethodName)) ∈ lw_tbl := lw_at lw_m9 78 rfl
theorem q2544 : (Jvm.Cond.selects "java/util/ArrayDeque" ({ cls := "java/util/AbstractCollection", name := "size", desc := "()I" } : Jvm.MethodName) ({ cls := "java/util/ArrayDeque", name := "size", desc := "()I" } : Jvm.MethodName)) ∈ lw_all := lw_g (lw_at lw_m11 67 rfl) rfl
theorem q3077 : (Jvm.Cond.instanceMethod ({ cls := "java/util/ArrayDeque", name := "pollLast", desc := "()Ljava/lang/Object;" } : Jvm.MethodName)) ∈ lw_all := lw_g (lw_at lw_m13 120 rfl) rfl
theorem q3078 : (Jvm.Cond.selects "java/util/ArrayDeque" ({ cls := "java/util/ArrayDeque", name := "pollLast", desc := "()Ljava/lang/Object;" } : Jvm.MethodName) ({ cls := "java/util/ArrayDeque", name := "pollLast", desc := "()Ljava/lang/Object;" } : Jvm.MethodName)) ∈ lw_all := lw_g (lw_at lw_m13 121 rfl) rfl
theorem q3079 : (Jvm.Cond.code ({ cls := "java/util/ArrayDeque", name := "pollLast", desc := "()Ljava/lang/Object;" } : Jvm.MethodName) prog_49_method_21_code (4 : Nat) (Option.some (Jvm.ClassFile.FieldType.object "java/lang/Object"))) ∈ lw_all := lw_g (lw_at lw_m13 122 rfl) rfl
theorem q3538 : (Jvm.Cond.castable "java/util/ArrayDeque" "java/lang/Object") ∈ lw_tbl := lw_at lw_m15 101 rfl
def RJ50 : String := "java/lang/Object"
theorem q150 : (Jvm.Cond.instanceMethod ({ cls := "java/lang/Object", name := "<init>", desc := "()V" } : Jvm.MethodName)) ∈ lw_all := lw_g (lw_at lw_m1 73 rfl) rfl
theorem q151 : (Jvm.Cond.code ({ cls := "java/lang/Object", name := "<init>", desc := "()V" } : Jvm.MethodName) object_method_1_code (1 : Nat) (Option.none : Option Jvm.ClassFile.FieldType)) ∈ lw_all := lw_g (lw_at lw_m1 74 rfl) rfl
theorem q513 : (Jvm.Cond.instanceMethod ({ cls := "java/lang/Object", name := "getClass", desc := "()Ljava/lang/Class;" } : Jvm.MethodName)) ∈ lw_all := lw_g (lw_at lw_m2 196 rfl) rfl
theorem q514 : (Jvm.Cond.sameMethod "java/lang/Object" "java/lang/Object" "getClass" "()Ljava/lang/Class;") ∈ lw_all := lw_g (lw_at lw_m2 197 rfl) rfl
theorem q557 : (Jvm.Cond.native ({ cls := "java/lang/Object", name := "getClass", desc := "()Ljava/lang/Class;" } : Jvm.MethodName)) ∈ lw_all := lw_g (lw_at lw_m3 0 rfl) rfl
theorem q2711 : (Jvm.Cond.native ({ cls := "java/lang/Object", name := "clone", desc := "()Ljava/lang/Object;" } : Jvm.MethodName)) ∈ lw_all := lw_g (lw_at lw_m11 234 rfl) rfl
theorem q2712 : (Jvm.Cond.instanceMethod ({ cls := "java/lang/Object", name := "clone", desc := "()Ljava/lang/Object;" } : Jvm.MethodName)) ∈ lw_all := lw_g (lw_at lw_m11 235 rfl) rfl
theorem q3528 : (Jvm.Cond.initialized "java/lang/Object") ∈ lw_all := lw_g (lw_at lw_m15 91 rfl) rfl
theorem q3577 : (Jvm.Cond.declares ({ cls := "java/lang/Object", name := "getClass", desc := "()Ljava/lang/Class;" } : Jvm.MethodName)) ∈ lw_tbl := lw_at lw_m15 140 rfl
def RJ6 : String := "java/lang/AbstractStringBuilder"
theorem q88 : (Jvm.Cond.initialized "java/lang/AbstractStringBuilder") ∈ lw_all := lw_g (lw_at lw_m1 11 rfl) rfl
theorem q364 : (Jvm.Cond.instanceMethod ({ cls := "java/lang/AbstractStringBuilder", name := "<init>", desc := "(I)V" } : Jvm.MethodName)) ∈ lw_all := lw_g (lw_at lw_m2 47 rfl) rfl
theorem q365 : (Jvm.Cond.code ({ cls := "java/lang/AbstractStringBuilder", name := "<init>", desc := "(I)V" } : Jvm.MethodName) prog_16_method_2_code (2 : Nat) (Option.none : Option Jvm.ClassFile.FieldType)) ∈ lw_all := lw_g (lw_at lw_m2 48 rfl) rfl
theorem q366 : (Jvm.Cond.methodLink "java/lang/AbstractStringBuilder" (3 : Nat) ({ cls := "java/lang/Object", name := "<init>", desc := "()V" } : Jvm.MethodName)) ∈ lw_all := lw_g (lw_at lw_m2 49 rfl) rfl
theorem q367 : (Jvm.Cond.fieldLink "java/lang/AbstractStringBuilder" (18 : Nat) "java/lang/String" "COMPACT_STRINGS" "Z") ∈ lw_all := lw_g (lw_at lw_m2 50 rfl) rfl
theorem q369 : (Jvm.Cond.methodLink "java/lang/AbstractStringBuilder" (26 : Nat) ({ cls := "java/lang/StringUTF16", name := "newBytesFor", desc := "(I)[B" } : Jvm.MethodName)) ∈ lw_all := lw_g (lw_at lw_m2 52 rfl) rfl
theorem q376 : (Jvm.Cond.fieldLink "java/lang/AbstractStringBuilder" (15 : Nat) "java/lang/AbstractStringBuilder" "value" "[B") ∈ lw_all := lw_g (lw_at lw_m2 59 rfl) rfl
theorem q377 : (Jvm.Cond.fieldLink "java/lang/AbstractStringBuilder" (22 : Nat) "java/lang/AbstractStringBuilder" "coder" "B") ∈ lw_all := lw_g (lw_at lw_m2 60 rfl) rfl
theorem q378 : (Jvm.Cond.fieldLink "java/lang/AbstractStringBuilder" (73 : Nat) "java/lang/AbstractStringBuilder" "maybeLatin1" "Z") ∈ lw_all := lw_g (lw_at lw_m2 61 rfl) rfl
theorem q380 : (Jvm.Cond.fieldLink "java/lang/AbstractStringBuilder" (79 : Nat) "java/lang/AbstractStringBuilder" "count" "I") ∈ lw_all := lw_g (lw_at lw_m2 63 rfl) rfl
theorem q382 : (Jvm.Cond.soleField "java/lang/AbstractStringBuilder" "value") ∈ lw_all := lw_g (lw_at lw_m2 65 rfl) rfl
theorem q384 : (Jvm.Cond.soleField "java/lang/AbstractStringBuilder" "coder") ∈ lw_all := lw_g (lw_at lw_m2 67 rfl) rfl
theorem q386 : (Jvm.Cond.soleField "java/lang/AbstractStringBuilder" "maybeLatin1") ∈ lw_all := lw_g (lw_at lw_m2 69 rfl) rfl
theorem q388 : (Jvm.Cond.soleField "java/lang/AbstractStringBuilder" "count") ∈ lw_all := lw_g (lw_at lw_m2 71 rfl) rfl
theorem q880 : (Jvm.Cond.instanceMethod ({ cls := "java/lang/AbstractStringBuilder", name := "compareTo", desc := "(Ljava/lang/AbstractStringBuilder;)I" } : Jvm.MethodName)) ∈ lw_all := lw_g (lw_at lw_m4 83 rfl) rfl
theorem q881 : (Jvm.Cond.code ({ cls := "java/lang/AbstractStringBuilder", name := "compareTo", desc := "(Ljava/lang/AbstractStringBuilder;)I" } : Jvm.MethodName) prog_16_method_5_code (6 : Nat) (Option.some Jvm.ClassFile.FieldType.int)) ∈ lw_all := lw_g (lw_at lw_m4 84 rfl) rfl
theorem q882 : (Jvm.Cond.methodLink "java/lang/AbstractStringBuilder" (83 : Nat) ({ cls := "java/lang/AbstractStringBuilder", name := "isLatin1", desc := "()Z" } : Jvm.MethodName)) ∈ lw_all := lw_g (lw_at lw_m4 85 rfl) rfl
theorem q883 : (Jvm.Cond.instanceMethod ({ cls := "java/lang/AbstractStringBuilder", name := "isLatin1", desc := "()Z" } : Jvm.MethodName)) ∈ lw_all := lw_g (lw_at lw_m4 86 rfl) rfl
theorem q884 : (Jvm.Cond.sameMethod "java/lang/AbstractStringBuilder" "java/lang/AbstractStringBuilder" "isLatin1" "()Z") ∈ lw_all := lw_g (lw_at lw_m4 87 rfl) rfl
theorem q886 : (Jvm.Cond.code ({ cls := "java/lang/AbstractStringBuilder", name := "isLatin1", desc := "()Z" } : Jvm.MethodName) prog_16_method_68_code (1 : Nat) (Option.some Jvm.ClassFile.FieldType.boolean)) ∈ lw_all := lw_g (lw_at lw_m4 89 rfl) rfl
theorem q887 : (Jvm.Cond.methodLink "java/lang/AbstractStringBuilder" (87 : Nat) ({ cls := "java/lang/StringLatin1", name := "compareTo", desc := "([B[BII)I" } : Jvm.MethodName)) ∈ lw_all := lw_g (lw_at lw_m4 90 rfl) rfl
theorem q888 : (Jvm.Cond.methodLink "java/lang/AbstractStringBuilder" (93 : Nat) ({ cls := "java/lang/StringUTF16", name := "compareTo", desc := "([B[BII)I" } : Jvm.MethodName)) ∈ lw_all := lw_g (lw_at lw_m4 91 rfl) rfl
theorem q902 : (Jvm.Cond.methodLink "java/lang/AbstractStringBuilder" (94 : Nat) ({ cls := "java/lang/StringLatin1", name := "compareToUTF16", desc := "([B[BII)I" } : Jvm.MethodName)) ∈ lw_all := lw_g (lw_at lw_m4 105 rfl) rfl
theorem q906 : (Jvm.Cond.methodLink "java/lang/AbstractStringBuilder" (97 : Nat) ({ cls := "java/lang/StringUTF16", name := "compareToLatin1", desc := "([B[BII)I" } : Jvm.MethodName)) ∈ lw_all := lw_g (lw_at lw_m4 109 rfl) rfl
theorem q2682 : (Jvm.Cond.instanceMethod ({ cls := "java/lang/AbstractStringBuilder", name := "length", desc := "()I" } : Jvm.MethodName)) ∈ lw_all := lw_g (lw_at lw_m11 205 rfl) rfl
theorem q2683 : (Jvm.Cond.code ({ cls := "java/lang/AbstractStringBuilder", name := "length", desc := "()I" } : Jvm.MethodName) prog_16_method_6_code (1 : Nat) (Option.some Jvm.ClassFile.FieldType.int)) ∈ lw_all := lw_g (lw_at lw_m11 206 rfl) rfl
theorem q2694 : (Jvm.Cond.instanceMethod ({ cls := "java/lang/AbstractStringBuilder", name := "append", desc := "(C)Ljava/lang/AbstractStringBuilder;" } : Jvm.MethodName)) ∈ lw_all := lw_g (lw_at lw_m11 217 rfl) rfl
theorem q2695 : (Jvm.Cond.code ({ cls := "java/lang/AbstractStringBuilder", name := "append", desc := "(C)Ljava/lang/AbstractStringBuilder;" } : Jvm.MethodName) prog_16_method_31_code (2 : Nat) (Option.some (Jvm.ClassFile.FieldType.object "java/lang/AbstractStringBuilder"))) ∈ lw_all := lw_g (lw_at lw_m11 218 rfl) rfl
theorem q2696 : (Jvm.Cond.methodLink "java/lang/AbstractStringBuilder" (100 : Nat) ({ cls := "java/lang/AbstractStringBuilder", name := "ensureCapacityInternal", desc := "(I)V" } : Jvm.MethodName)) ∈ lw_all := lw_g (lw_at lw_m11 219 rfl) rfl
theorem q2697 : (Jvm.Cond.privateMethod ({ cls := "java/lang/AbstractStringBuilder", name := "ensureCapacityInternal", desc := "(I)V" } : Jvm.MethodName)) ∈ lw_tbl := lw_at lw_m11 220 rfl
theorem q2698 : (Jvm.Cond.instanceMethod ({ cls := "java/lang/AbstractStringBuilder", name := "ensureCapacityInternal", desc := "(I)V" } : Jvm.MethodName)) ∈ lw_all := lw_g (lw_at lw_m11 221 rfl) rfl
theorem q2699 : (Jvm.Cond.code ({ cls := "java/lang/AbstractStringBuilder", name := "ensureCapacityInternal", desc := "(I)V" } : Jvm.MethodName) prog_16_method_9_code (3 : Nat) (Option.none : Option Jvm.ClassFile.FieldType)) ∈ lw_all := lw_g (lw_at lw_m11 222 rfl) rfl
theorem q2700 : (Jvm.Cond.methodLink "java/lang/AbstractStringBuilder" (104 : Nat) ({ cls := "java/lang/AbstractStringBuilder", name := "newCapacity", desc := "(I)I" } : Jvm.MethodName)) ∈ lw_all := lw_g (lw_at lw_m11 223 rfl) rfl
theorem q2701 : (Jvm.Cond.privateMethod ({ cls := "java/lang/AbstractStringBuilder", name := "newCapacity", desc := "(I)I" } : Jvm.MethodName)) ∈ lw_tbl := lw_at lw_m11 224 rfl
theorem q2702 : (Jvm.Cond.instanceMethod ({ cls := "java/lang/AbstractStringBuilder", name := "newCapacity", desc := "(I)I" } : Jvm.MethodName)) ∈ lw_all := lw_g (lw_at lw_m11 225 rfl) rfl
theorem q2703 : (Jvm.Cond.code ({ cls := "java/lang/AbstractStringBuilder", name := "newCapacity", desc := "(I)I" } : Jvm.MethodName) prog_16_method_10_code (6 : Nat) (Option.some Jvm.ClassFile.FieldType.int)) ∈ lw_all := lw_g (lw_at lw_m11 226 rfl) rfl
theorem q2704 : (Jvm.Cond.methodLink "java/lang/AbstractStringBuilder" (114 : Nat) ({ cls := "jdk/internal/util/ArraysSupport", name := "newLength", desc := "(III)I" } : Jvm.MethodName)) ∈ lw_all := lw_g (lw_at lw_m11 227 rfl) rfl
theorem q2705 : (Jvm.Cond.constant "java/lang/AbstractStringBuilder" (39 : Nat) (2147483647 : Int32)) ∈ lw_all := lw_g (lw_at lw_m11 228 rfl) rfl
theorem q2706 : (Jvm.Cond.methodLink "java/lang/AbstractStringBuilder" (108 : Nat) ({ cls := "java/util/Arrays", name := "copyOf", desc := "([BI)[B" } : Jvm.MethodName)) ∈ lw_all := lw_g (lw_at lw_m11 229 rfl) rfl
theorem q2716 : (Jvm.Cond.methodLink "java/lang/AbstractStringBuilder" (191 : Nat) ({ cls := "java/lang/StringLatin1", name := "canEncode", desc := "(C)Z" } : Jvm.MethodName)) ∈ lw_all := lw_g (lw_at lw_m11 239 rfl) rfl
theorem q2719 : (Jvm.Cond.methodLink "java/lang/AbstractStringBuilder" (195 : Nat) ({ cls := "java/lang/AbstractStringBuilder", name := "inflate", desc := "()V" } : Jvm.MethodName)) ∈ lw_all := lw_g (lw_at lw_m12 2 rfl) rfl
theorem q2720 : (Jvm.Cond.privateMethod ({ cls := "java/lang/AbstractStringBuilder", name := "inflate", desc := "()V" } : Jvm.MethodName)) ∈ lw_tbl := lw_at lw_m12 3 rfl
theorem q2721 : (Jvm.Cond.instanceMethod ({ cls := "java/lang/AbstractStringBuilder", name := "inflate", desc := "()V" } : Jvm.MethodName)) ∈ lw_all := lw_g (lw_at lw_m12 4 rfl) rfl
theorem q2722 : (Jvm.Cond.code ({ cls := "java/lang/AbstractStringBuilder", name := "inflate", desc := "()V" } : Jvm.MethodName) prog_16_method_11_code (2 : Nat) (Option.none : Option Jvm.ClassFile.FieldType)) ∈ lw_all := lw_g (lw_at lw_m12 5 rfl) rfl
theorem q2723 : (Jvm.Cond.methodLink "java/lang/AbstractStringBuilder" (125 : Nat) ({ cls := "java/lang/StringLatin1", name := "inflate", desc := "([BI[BII)V" } : Jvm.MethodName)) ∈ lw_all := lw_g (lw_at lw_m12 6 rfl) rfl
theorem q2741 : (Jvm.Cond.methodLink "java/lang/AbstractStringBuilder" (197 : Nat) ({ cls := "java/lang/StringUTF16", name := "putCharSB", desc := "([BII)V" } : Jvm.MethodName)) ∈ lw_all := lw_g (lw_at lw_m12 24 rfl) rfl
theorem q2783 : (Jvm.Cond.instanceMethod ({ cls := "java/lang/AbstractStringBuilder", name := "charAt", desc := "(I)C" } : Jvm.MethodName)) ∈ lw_all := lw_g (lw_at lw_m12 66 rfl) rfl
theorem q2784 : (Jvm.Cond.code ({ cls := "java/lang/AbstractStringBuilder", name := "charAt", desc := "(I)C" } : Jvm.MethodName) prog_16_method_14_code (5 : Nat) (Option.some Jvm.ClassFile.FieldType.char)) ∈ lw_all := lw_g (lw_at lw_m12 67 rfl) rfl
theorem q2785 : (Jvm.Cond.methodLink "java/lang/AbstractStringBuilder" (138 : Nat) ({ cls := "java/lang/Math", name := "min", desc := "(II)I" } : Jvm.MethodName)) ∈ lw_all := lw_g (lw_at lw_m12 68 rfl) rfl
theorem q2786 : (Jvm.Cond.methodLink "java/lang/AbstractStringBuilder" (144 : Nat) ({ cls := "java/lang/String", name := "checkIndex", desc := "(II)V" } : Jvm.MethodName)) ∈ lw_all := lw_g (lw_at lw_m12 69 rfl) rfl
theorem q2787 : (Jvm.Cond.methodLink "java/lang/AbstractStringBuilder" (148 : Nat) ({ cls := "java/lang/StringUTF16", name := "getChar", desc := "([BI)C" } : Jvm.MethodName)) ∈ lw_all := lw_g (lw_at lw_m12 70 rfl) rfl
theorem q2829 : (Jvm.Cond.instanceMethod ({ cls := "java/lang/AbstractStringBuilder", name := "setLength", desc := "(I)V" } : Jvm.MethodName)) ∈ lw_all := lw_g (lw_at lw_m12 112 rfl) rfl
theorem q2830 : (Jvm.Cond.code ({ cls := "java/lang/AbstractStringBuilder", name := "setLength", desc := "(I)V" } : Jvm.MethodName) prog_16_method_13_code (2 : Nat) (Option.none : Option Jvm.ClassFile.FieldType)) ∈ lw_all := lw_g (lw_at lw_m12 113 rfl) rfl
theorem q2831 : (Jvm.Cond.classLink "java/lang/AbstractStringBuilder" (129 : Nat) "java/lang/StringIndexOutOfBoundsException") ∈ lw_all := lw_g (lw_at lw_m12 114 rfl) rfl
theorem q2833 : (Jvm.Cond.methodLink "java/lang/AbstractStringBuilder" (131 : Nat) ({ cls := "java/lang/StringIndexOutOfBoundsException", name := "<init>", desc := "(I)V" } : Jvm.MethodName)) ∈ lw_all := lw_g (lw_at lw_m12 116 rfl) rfl
theorem q2844 : (Jvm.Cond.instanceMethod ({ cls := "java/lang/AbstractStringBuilder", name := "append", desc := "(Ljava/lang/String;)Ljava/lang/AbstractStringBuilder;" } : Jvm.MethodName)) ∈ lw_all := lw_g (lw_at lw_m12 127 rfl) rfl
theorem q2845 : (Jvm.Cond.code ({ cls := "java/lang/AbstractStringBuilder", name := "append", desc := "(Ljava/lang/String;)Ljava/lang/AbstractStringBuilder;" } : Jvm.MethodName) prog_16_method_22_code (3 : Nat) (Option.some (Jvm.ClassFile.FieldType.object "java/lang/AbstractStringBuilder"))) ∈ lw_all := lw_g (lw_at lw_m12 128 rfl) rfl
theorem q2846 : (Jvm.Cond.methodLink "java/lang/AbstractStringBuilder" (204 : Nat) ({ cls := "java/lang/AbstractStringBuilder", name := "appendNull", desc := "()Ljava/lang/AbstractStringBuilder;" } : Jvm.MethodName)) ∈ lw_all := lw_g (lw_at lw_m12 129 rfl) rfl
theorem q2847 : (Jvm.Cond.privateMethod ({ cls := "java/lang/AbstractStringBuilder", name := "appendNull", desc := "()Ljava/lang/AbstractStringBuilder;" } : Jvm.MethodName)) ∈ lw_tbl := lw_at lw_m12 130 rfl
theorem q2848 : (Jvm.Cond.instanceMethod ({ cls := "java/lang/AbstractStringBuilder", name := "appendNull", desc := "()Ljava/lang/AbstractStringBuilder;" } : Jvm.MethodName)) ∈ lw_all := lw_g (lw_at lw_m12 131 rfl) rfl
theorem q2849 : (Jvm.Cond.code ({ cls := "java/lang/AbstractStringBuilder", name := "appendNull", desc := "()Ljava/lang/AbstractStringBuilder;" } : Jvm.MethodName) prog_16_method_26_code (3 : Nat) (Option.some (Jvm.ClassFile.FieldType.object "java/lang/AbstractStringBuilder"))) ∈ lw_all := lw_g (lw_at lw_m12 132 rfl) rfl
theorem q2850 : (Jvm.Cond.methodLink "java/lang/AbstractStringBuilder" (226 : Nat) ({ cls := "java/lang/StringUTF16", name := "putCharsAt", desc := "([BICCCC)I" } : Jvm.MethodName)) ∈ lw_all := lw_g (lw_at lw_m12 133 rfl) rfl
theorem q2859 : (Jvm.Cond.methodLink "java/lang/AbstractStringBuilder" (32 : Nat) ({ cls := "java/lang/String", name := "length", desc := "()I" } : Jvm.MethodName)) ∈ lw_all := lw_g (lw_at lw_m12 142 rfl) rfl
theorem q2863 : (Jvm.Cond.methodLink "java/lang/AbstractStringBuilder" (208 : Nat) ({ cls := "java/lang/AbstractStringBuilder", name := "putStringAt", desc := "(ILjava/lang/String;)V" } : Jvm.MethodName)) ∈ lw_all := lw_g (lw_at lw_m12 146 rfl) rfl
theorem q2864 : (Jvm.Cond.privateMethod ({ cls := "java/lang/AbstractStringBuilder", name := "putStringAt", desc := "(ILjava/lang/String;)V" } : Jvm.MethodName)) ∈ lw_tbl := lw_at lw_m12 147 rfl
theorem q2865 : (Jvm.Cond.instanceMethod ({ cls := "java/lang/AbstractStringBuilder", name := "putStringAt", desc := "(ILjava/lang/String;)V" } : Jvm.MethodName)) ∈ lw_all := lw_g (lw_at lw_m12 148 rfl) rfl
theorem q2866 : (Jvm.Cond.code ({ cls := "java/lang/AbstractStringBuilder", name := "putStringAt", desc := "(ILjava/lang/String;)V" } : Jvm.MethodName) prog_16_method_73_code (3 : Nat) (Option.none : Option Jvm.ClassFile.FieldType)) ∈ lw_all := lw_g (lw_at lw_m12 149 rfl) rfl
theorem q2867 : (Jvm.Cond.methodLink "java/lang/AbstractStringBuilder" (397 : Nat) ({ cls := "java/lang/AbstractStringBuilder", name := "inflateIfNeededFor", desc := "(Ljava/lang/String;)V" } : Jvm.MethodName)) ∈ lw_all := lw_g (lw_at lw_m12 150 rfl) rfl
theorem q2868 : (Jvm.Cond.privateMethod ({ cls := "java/lang/AbstractStringBuilder", name := "inflateIfNeededFor", desc := "(Ljava/lang/String;)V" } : Jvm.MethodName)) ∈ lw_tbl := lw_at lw_m12 151 rfl
theorem q2869 : (Jvm.Cond.instanceMethod ({ cls := "java/lang/AbstractStringBuilder", name := "inflateIfNeededFor", desc := "(Ljava/lang/String;)V" } : Jvm.MethodName)) ∈ lw_all := lw_g (lw_at lw_m12 152 rfl) rfl
theorem q2870 : (Jvm.Cond.code ({ cls := "java/lang/AbstractStringBuilder", name := "inflateIfNeededFor", desc := "(Ljava/lang/String;)V" } : Jvm.MethodName) prog_16_method_71_code (2 : Nat) (Option.none : Option Jvm.ClassFile.FieldType)) ∈ lw_all := lw_g (lw_at lw_m12 153 rfl) rfl
theorem q2871 : (Jvm.Cond.methodLink "java/lang/AbstractStringBuilder" (40 : Nat) ({ cls := "java/lang/String", name := "coder", desc := "()B" } : Jvm.MethodName)) ∈ lw_all := lw_g (lw_at lw_m12 154 rfl) rfl
theorem q2872 : (Jvm.Cond.methodLink "java/lang/AbstractStringBuilder" (399 : Nat) ({ cls := "java/lang/String", name := "getBytes", desc := "([BIB)V" } : Jvm.MethodName)) ∈ lw_all := lw_g (lw_at lw_m12 155 rfl) rfl
theorem q2883 : (Jvm.Cond.instanceMethod ({ cls := "java/lang/AbstractStringBuilder", name := "append", desc := "(I)Ljava/lang/AbstractStringBuilder;" } : Jvm.MethodName)) ∈ lw_all := lw_g (lw_at lw_m12 166 rfl) rfl
theorem q2884 : (Jvm.Cond.code ({ cls := "java/lang/AbstractStringBuilder", name := "append", desc := "(I)Ljava/lang/AbstractStringBuilder;" } : Jvm.MethodName) prog_16_method_32_code (4 : Nat) (Option.some (Jvm.ClassFile.FieldType.object "java/lang/AbstractStringBuilder"))) ∈ lw_all := lw_g (lw_at lw_m12 167 rfl) rfl
theorem q2885 : (Jvm.Cond.methodLink "java/lang/AbstractStringBuilder" (245 : Nat) ({ cls := "java/lang/Integer", name := "stringSize", desc := "(I)I" } : Jvm.MethodName)) ∈ lw_all := lw_g (lw_at lw_m12 168 rfl) rfl
theorem q2888 : (Jvm.Cond.methodLink "java/lang/AbstractStringBuilder" (248 : Nat) ({ cls := "java/lang/Integer", name := "getChars", desc := "(II[B)I" } : Jvm.MethodName)) ∈ lw_all := lw_g (lw_at lw_m12 171 rfl) rfl
theorem q2895 : (Jvm.Cond.methodLink "java/lang/AbstractStringBuilder" (251 : Nat) ({ cls := "java/lang/StringUTF16", name := "getChars", desc := "(III[B)I" } : Jvm.MethodName)) ∈ lw_all := lw_g (lw_at lw_m12 178 rfl) rfl
theorem q2916 : (Jvm.Cond.instanceMethod ({ cls := "java/lang/AbstractStringBuilder", name := "getValue", desc := "()[B" } : Jvm.MethodName)) ∈ lw_all := lw_g (lw_at lw_m12 199 rfl) rfl
theorem q2917 : (Jvm.Cond.sameMethod "java/lang/AbstractStringBuilder" "java/lang/AbstractStringBuilder" "getValue" "()[B") ∈ lw_all := lw_g (lw_at lw_m12 200 rfl) rfl
theorem q2919 : (Jvm.Cond.code ({ cls := "java/lang/AbstractStringBuilder", name := "getValue", desc := "()[B" } : Jvm.MethodName) prog_16_method_64_code (1 : Nat) (Option.some (Jvm.ClassFile.FieldType.array Jvm.ClassFile.FieldType.byte))) ∈ lw_all := lw_g (lw_at lw_m12 202 rfl) rfl
theorem q2964 : (Jvm.Cond.methodLink "java/lang/AbstractStringBuilder" (133 : Nat) ({ cls := "java/lang/StringLatin1", name := "fillNull", desc := "([BII)V" } : Jvm.MethodName)) ∈ lw_all := lw_g (lw_at lw_m13 7 rfl) rfl
theorem q2986 : (Jvm.Cond.methodLink "java/lang/AbstractStringBuilder" (137 : Nat) ({ cls := "java/lang/StringUTF16", name := "fillNull", desc := "([BII)V" } : Jvm.MethodName)) ∈ lw_all := lw_g (lw_at lw_m13 29 rfl) rfl
theorem q3508 : (Jvm.Cond.sameMethod "java/lang/AbstractStringBuilder" "java/lang/AbstractStringBuilder" "compareTo" "(Ljava/lang/AbstractStringBuilder;)I") ∈ lw_all := lw_g (lw_at lw_m15 71 rfl) rfl
theorem q3515 : (Jvm.Cond.sameMethod "java/lang/AbstractStringBuilder" "java/lang/AbstractStringBuilder" "length" "()I") ∈ lw_all := lw_g (lw_at lw_m15 78 rfl) rfl
theorem q3516 : (Jvm.Cond.sameMethod "java/lang/AbstractStringBuilder" "java/lang/AbstractStringBuilder" "append" "(C)Ljava/lang/AbstractStringBuilder;") ∈ lw_all := lw_g (lw_at lw_m15 79 rfl) rfl
theorem q3517 : (Jvm.Cond.sameMethod "java/lang/AbstractStringBuilder" "java/lang/AbstractStringBuilder" "ensureCapacityInternal" "(I)V") ∈ lw_all := lw_g (lw_at lw_m15 80 rfl) rfl
theorem q3518 : (Jvm.Cond.sameMethod "java/lang/AbstractStringBuilder" "java/lang/AbstractStringBuilder" "newCapacity" "(I)I") ∈ lw_all := lw_g (lw_at lw_m15 81 rfl) rfl
theorem q3519 : (Jvm.Cond.sameMethod "java/lang/AbstractStringBuilder" "java/lang/AbstractStringBuilder" "inflate" "()V") ∈ lw_all := lw_g (lw_at lw_m15 82 rfl) rfl
theorem q3520 : (Jvm.Cond.sameMethod "java/lang/AbstractStringBuilder" "java/lang/AbstractStringBuilder" "charAt" "(I)C") ∈ lw_all := lw_g (lw_at lw_m15 83 rfl) rfl
theorem q3521 : (Jvm.Cond.sameMethod "java/lang/AbstractStringBuilder" "java/lang/AbstractStringBuilder" "setLength" "(I)V") ∈ lw_all := lw_g (lw_at lw_m15 84 rfl) rfl
theorem q3522 : (Jvm.Cond.sameMethod "java/lang/AbstractStringBuilder" "java/lang/AbstractStringBuilder" "append" "(Ljava/lang/String;)Ljava/lang/AbstractStringBuilder;") ∈ lw_all := lw_g (lw_at lw_m15 85 rfl) rfl
theorem q3523 : (Jvm.Cond.sameMethod "java/lang/AbstractStringBuilder" "java/lang/AbstractStringBuilder" "appendNull" "()Ljava/lang/AbstractStringBuilder;") ∈ lw_all := lw_g (lw_at lw_m15 86 rfl) rfl
theorem q3524 : (Jvm.Cond.sameMethod "java/lang/AbstractStringBuilder" "java/lang/AbstractStringBuilder" "putStringAt" "(ILjava/lang/String;)V") ∈ lw_all := lw_g (lw_at lw_m15 87 rfl) rfl
theorem q3525 : (Jvm.Cond.sameMethod "java/lang/AbstractStringBuilder" "java/lang/AbstractStringBuilder" "inflateIfNeededFor" "(Ljava/lang/String;)V") ∈ lw_all := lw_g (lw_at lw_m15 88 rfl) rfl
theorem q3526 : (Jvm.Cond.sameMethod "java/lang/AbstractStringBuilder" "java/lang/AbstractStringBuilder" "append" "(I)Ljava/lang/AbstractStringBuilder;") ∈ lw_all := lw_g (lw_at lw_m15 89 rfl) rfl
def RJ7 : String := "java/lang/StringBuilder"
def TJ7 : u_T := fun k => match k with
  | 0 => ("java/lang/AbstractStringBuilder", "value", "[B", false)
  | 1 => ("java/lang/AbstractStringBuilder", "coder", "B", false)
  | 2 => ("java/lang/AbstractStringBuilder", "maybeLatin1", "Z", false)
  | _ => ("java/lang/AbstractStringBuilder", "count", "I", false)
def tyJ7 : Nat → FieldType := fun k => match k with
  | 0 => .array .byte
  | 1 => .byte
  | 2 => .boolean
  | _ => .int
abbrev wsJ70 : List Cond := u_ws RJ7 TJ7 4
theorem nmJ7 : ∀ a, a < 4 → ∀ b, b < 4 → a ≠ b → (TJ7 a).2.1 ≠ (TJ7 b).2.1 := by decide +kernel
theorem tyJ7_ok : ∀ k, k < 4 → parseFieldDescriptor (TJ7 k).2.2.1 = some (tyJ7 k) := by decide +kernel
theorem q89 : (Jvm.Cond.initialized "java/lang/StringBuilder") ∈ lw_all := lw_g (lw_at lw_m1 12 rfl) rfl
theorem q359 : (Jvm.Cond.instantiable "java/lang/StringBuilder" (4 : Nat)) ∈ lw_all := lw_g (lw_at lw_m2 42 rfl) rfl
theorem q361 : (Jvm.Cond.instanceMethod ({ cls := "java/lang/StringBuilder", name := "<init>", desc := "()V" } : Jvm.MethodName)) ∈ lw_all := lw_g (lw_at lw_m2 44 rfl) rfl
theorem q362 : (Jvm.Cond.code ({ cls := "java/lang/StringBuilder", name := "<init>", desc := "()V" } : Jvm.MethodName) prog_34_method_1_code (1 : Nat) (Option.none : Option Jvm.ClassFile.FieldType)) ∈ lw_all := lw_g (lw_at lw_m2 45 rfl) rfl
theorem q363 : (Jvm.Cond.methodLink "java/lang/StringBuilder" (1 : Nat) ({ cls := "java/lang/AbstractStringBuilder", name := "<init>", desc := "(I)V" } : Jvm.MethodName)) ∈ lw_all := lw_g (lw_at lw_m2 46 rfl) rfl
theorem q381 : (Jvm.Cond.lays "java/lang/StringBuilder" "java/lang/AbstractStringBuilder" "value" "[B") ∈ lw_all := lw_g (lw_at lw_m2 64 rfl) rfl
theorem q383 : (Jvm.Cond.lays "java/lang/StringBuilder" "java/lang/AbstractStringBuilder" "coder" "B") ∈ lw_all := lw_g (lw_at lw_m2 66 rfl) rfl
theorem q385 : (Jvm.Cond.lays "java/lang/StringBuilder" "java/lang/AbstractStringBuilder" "maybeLatin1" "Z") ∈ lw_all := lw_g (lw_at lw_m2 68 rfl) rfl
theorem q387 : (Jvm.Cond.lays "java/lang/StringBuilder" "java/lang/AbstractStringBuilder" "count" "I") ∈ lw_all := lw_g (lw_at lw_m2 70 rfl) rfl
theorem q389 : (Jvm.Cond.superclass "java/lang/StringBuilder" "java/lang/AbstractStringBuilder") ∈ lw_all := lw_g (lw_at lw_m2 72 rfl) rfl
theorem q534 : (Jvm.Cond.selects "java/lang/StringBuilder" ({ cls := "java/lang/Object", name := "getClass", desc := "()Ljava/lang/Class;" } : Jvm.MethodName) ({ cls := "java/lang/Object", name := "getClass", desc := "()Ljava/lang/Class;" } : Jvm.MethodName)) ∈ lw_all := lw_g (lw_at lw_m2 217 rfl) rfl
theorem q868 : (Jvm.Cond.castable "java/lang/StringBuilder" "java/lang/Comparable") ∈ lw_tbl := lw_at lw_m4 71 rfl
theorem q869 : (Jvm.Cond.selects "java/lang/StringBuilder" ({ cls := "java/lang/Comparable", name := "compareTo", desc := "(Ljava/lang/Object;)I" } : Jvm.MethodName) ({ cls := "java/lang/StringBuilder", name := "compareTo", desc := "(Ljava/lang/Object;)I" } : Jvm.MethodName)) ∈ lw_all := lw_g (lw_at lw_m4 72 rfl) rfl
theorem q870 : (Jvm.Cond.unhidden "java/lang/StringBuilder" "compareTo" "(Ljava/lang/Object;)I") ∈ lw_tbl := lw_at lw_m4 73 rfl
theorem q871 : (Jvm.Cond.instanceMethod ({ cls := "java/lang/StringBuilder", name := "compareTo", desc := "(Ljava/lang/Object;)I" } : Jvm.MethodName)) ∈ lw_all := lw_g (lw_at lw_m4 74 rfl) rfl
theorem q872 : (Jvm.Cond.publicMethod ({ cls := "java/lang/StringBuilder", name := "compareTo", desc := "(Ljava/lang/Object;)I" } : Jvm.MethodName)) ∈ lw_tbl := lw_at lw_m4 75 rfl
theorem q873 : (Jvm.Cond.code ({ cls := "java/lang/StringBuilder", name := "compareTo", desc := "(Ljava/lang/Object;)I" } : Jvm.MethodName) prog_34_method_97_code (2 : Nat) (Option.some Jvm.ClassFile.FieldType.int)) ∈ lw_all := lw_g (lw_at lw_m4 76 rfl) rfl
theorem q874 : (Jvm.Cond.classLink "java/lang/StringBuilder" (24 : Nat) "java/lang/StringBuilder") ∈ lw_all := lw_g (lw_at lw_m4 77 rfl) rfl
theorem q875 : (Jvm.Cond.methodLink "java/lang/StringBuilder" (346 : Nat) ({ cls := "java/lang/StringBuilder", name := "compareTo", desc := "(Ljava/lang/StringBuilder;)I" } : Jvm.MethodName)) ∈ lw_all := lw_g (lw_at lw_m4 78 rfl) rfl
theorem q876 : (Jvm.Cond.instanceMethod ({ cls := "java/lang/StringBuilder", name := "compareTo", desc := "(Ljava/lang/StringBuilder;)I" } : Jvm.MethodName)) ∈ lw_all := lw_g (lw_at lw_m4 79 rfl) rfl
theorem q877 : (Jvm.Cond.selects "java/lang/StringBuilder" ({ cls := "java/lang/StringBuilder", name := "compareTo", desc := "(Ljava/lang/StringBuilder;)I" } : Jvm.MethodName) ({ cls := "java/lang/StringBuilder", name := "compareTo", desc := "(Ljava/lang/StringBuilder;)I" } : Jvm.MethodName)) ∈ lw_all := lw_g (lw_at lw_m4 80 rfl) rfl
theorem q878 : (Jvm.Cond.code ({ cls := "java/lang/StringBuilder", name := "compareTo", desc := "(Ljava/lang/StringBuilder;)I" } : Jvm.MethodName) prog_34_method_5_code (2 : Nat) (Option.some Jvm.ClassFile.FieldType.int)) ∈ lw_all := lw_g (lw_at lw_m4 81 rfl) rfl
theorem q879 : (Jvm.Cond.methodLink "java/lang/StringBuilder" (13 : Nat) ({ cls := "java/lang/AbstractStringBuilder", name := "compareTo", desc := "(Ljava/lang/AbstractStringBuilder;)I" } : Jvm.MethodName)) ∈ lw_all := lw_g (lw_at lw_m4 82 rfl) rfl
theorem q885 : (Jvm.Cond.selects "java/lang/StringBuilder" ({ cls := "java/lang/AbstractStringBuilder", name := "isLatin1", desc := "()Z" } : Jvm.MethodName) ({ cls := "java/lang/AbstractStringBuilder", name := "isLatin1", desc := "()Z" } : Jvm.MethodName)) ∈ lw_all := lw_g (lw_at lw_m4 88 rfl) rfl
theorem q2678 : (Jvm.Cond.instanceMethod ({ cls := "java/lang/StringBuilder", name := "length", desc := "()I" } : Jvm.MethodName)) ∈ lw_all := lw_g (lw_at lw_m11 201 rfl) rfl
theorem q2679 : (Jvm.Cond.selects "java/lang/StringBuilder" ({ cls := "java/lang/StringBuilder", name := "length", desc := "()I" } : Jvm.MethodName) ({ cls := "java/lang/StringBuilder", name := "length", desc := "()I" } : Jvm.MethodName)) ∈ lw_all := lw_g (lw_at lw_m11 202 rfl) rfl
theorem q2680 : (Jvm.Cond.code ({ cls := "java/lang/StringBuilder", name := "length", desc := "()I" } : Jvm.MethodName) prog_34_method_93_code (1 : Nat) (Option.some Jvm.ClassFile.FieldType.int)) ∈ lw_all := lw_g (lw_at lw_m11 203 rfl) rfl
theorem q2681 : (Jvm.Cond.methodLink "java/lang/StringBuilder" (343 : Nat) ({ cls := "java/lang/AbstractStringBuilder", name := "length", desc := "()I" } : Jvm.MethodName)) ∈ lw_all := lw_g (lw_at lw_m11 204 rfl) rfl
theorem q2690 : (Jvm.Cond.instanceMethod ({ cls := "java/lang/StringBuilder", name := "append", desc := "(C)Ljava/lang/StringBuilder;" } : Jvm.MethodName)) ∈ lw_all := lw_g (lw_at lw_m11 213 rfl) rfl
theorem q2691 : (Jvm.Cond.selects "java/lang/StringBuilder" ({ cls := "java/lang/StringBuilder", name := "append", desc := "(C)Ljava/lang/StringBuilder;" } : Jvm.MethodName) ({ cls := "java/lang/StringBuilder", name := "append", desc := "(C)Ljava/lang/StringBuilder;" } : Jvm.MethodName)) ∈ lw_all := lw_g (lw_at lw_m11 214 rfl) rfl
theorem q2692 : (Jvm.Cond.code ({ cls := "java/lang/StringBuilder", name := "append", desc := "(C)Ljava/lang/StringBuilder;" } : Jvm.MethodName) prog_34_method_14_code (2 : Nat) (Option.some (Jvm.ClassFile.FieldType.object "java/lang/StringBuilder"))) ∈ lw_all := lw_g (lw_at lw_m11 215 rfl) rfl
theorem q2693 : (Jvm.Cond.methodLink "java/lang/StringBuilder" (50 : Nat) ({ cls := "java/lang/AbstractStringBuilder", name := "append", desc := "(C)Ljava/lang/AbstractStringBuilder;" } : Jvm.MethodName)) ∈ lw_all := lw_g (lw_at lw_m11 216 rfl) rfl
theorem q2779 : (Jvm.Cond.instanceMethod ({ cls := "java/lang/StringBuilder", name := "charAt", desc := "(I)C" } : Jvm.MethodName)) ∈ lw_all := lw_g (lw_at lw_m12 62 rfl) rfl
theorem q2780 : (Jvm.Cond.selects "java/lang/StringBuilder" ({ cls := "java/lang/StringBuilder", name := "charAt", desc := "(I)C" } : Jvm.MethodName) ({ cls := "java/lang/StringBuilder", name := "charAt", desc := "(I)C" } : Jvm.MethodName)) ∈ lw_all := lw_g (lw_at lw_m12 63 rfl) rfl
theorem q2781 : (Jvm.Cond.code ({ cls := "java/lang/StringBuilder", name := "charAt", desc := "(I)C" } : Jvm.MethodName) prog_34_method_88_code (2 : Nat) (Option.some Jvm.ClassFile.FieldType.char)) ∈ lw_all := lw_g (lw_at lw_m12 64 rfl) rfl
theorem q2782 : (Jvm.Cond.methodLink "java/lang/StringBuilder" (329 : Nat) ({ cls := "java/lang/AbstractStringBuilder", name := "charAt", desc := "(I)C" } : Jvm.MethodName)) ∈ lw_all := lw_g (lw_at lw_m12 65 rfl) rfl
theorem q2825 : (Jvm.Cond.instanceMethod ({ cls := "java/lang/StringBuilder", name := "setLength", desc := "(I)V" } : Jvm.MethodName)) ∈ lw_all := lw_g (lw_at lw_m12 108 rfl) rfl
theorem q2826 : (Jvm.Cond.selects "java/lang/StringBuilder" ({ cls := "java/lang/StringBuilder", name := "setLength", desc := "(I)V" } : Jvm.MethodName) ({ cls := "java/lang/StringBuilder", name := "setLength", desc := "(I)V" } : Jvm.MethodName)) ∈ lw_all := lw_g (lw_at lw_m12 109 rfl) rfl
theorem q2827 : (Jvm.Cond.code ({ cls := "java/lang/StringBuilder", name := "setLength", desc := "(I)V" } : Jvm.MethodName) prog_34_method_89_code (2 : Nat) (Option.none : Option Jvm.ClassFile.FieldType)) ∈ lw_all := lw_g (lw_at lw_m12 110 rfl) rfl
theorem q2828 : (Jvm.Cond.methodLink "java/lang/StringBuilder" (333 : Nat) ({ cls := "java/lang/AbstractStringBuilder", name := "setLength", desc := "(I)V" } : Jvm.MethodName)) ∈ lw_all := lw_g (lw_at lw_m12 111 rfl) rfl
theorem q2840 : (Jvm.Cond.instanceMethod ({ cls := "java/lang/StringBuilder", name := "append", desc := "(Ljava/lang/String;)Ljava/lang/StringBuilder;" } : Jvm.MethodName)) ∈ lw_all := lw_g (lw_at lw_m12 123 rfl) rfl
theorem q2841 : (Jvm.Cond.selects "java/lang/StringBuilder" ({ cls := "java/lang/StringBuilder", name := "append", desc := "(Ljava/lang/String;)Ljava/lang/StringBuilder;" } : Jvm.MethodName) ({ cls := "java/lang/StringBuilder", name := "append", desc := "(Ljava/lang/String;)Ljava/lang/StringBuilder;" } : Jvm.MethodName)) ∈ lw_all := lw_g (lw_at lw_m12 124 rfl) rfl
theorem q2842 : (Jvm.Cond.code ({ cls := "java/lang/StringBuilder", name := "append", desc := "(Ljava/lang/String;)Ljava/lang/StringBuilder;" } : Jvm.MethodName) prog_34_method_7_code (2 : Nat) (Option.some (Jvm.ClassFile.FieldType.object "java/lang/StringBuilder"))) ∈ lw_all := lw_g (lw_at lw_m12 125 rfl) rfl
theorem q2843 : (Jvm.Cond.methodLink "java/lang/StringBuilder" (29 : Nat) ({ cls := "java/lang/AbstractStringBuilder", name := "append", desc := "(Ljava/lang/String;)Ljava/lang/AbstractStringBuilder;" } : Jvm.MethodName)) ∈ lw_all := lw_g (lw_at lw_m12 126 rfl) rfl
theorem q2879 : (Jvm.Cond.instanceMethod ({ cls := "java/lang/StringBuilder", name := "append", desc := "(I)Ljava/lang/StringBuilder;" } : Jvm.MethodName)) ∈ lw_all := lw_g (lw_at lw_m12 162 rfl) rfl
theorem q2880 : (Jvm.Cond.selects "java/lang/StringBuilder" ({ cls := "java/lang/StringBuilder", name := "append", desc := "(I)Ljava/lang/StringBuilder;" } : Jvm.MethodName) ({ cls := "java/lang/StringBuilder", name := "append", desc := "(I)Ljava/lang/StringBuilder;" } : Jvm.MethodName)) ∈ lw_all := lw_g (lw_at lw_m12 163 rfl) rfl
theorem q2881 : (Jvm.Cond.code ({ cls := "java/lang/StringBuilder", name := "append", desc := "(I)Ljava/lang/StringBuilder;" } : Jvm.MethodName) prog_34_method_15_code (2 : Nat) (Option.some (Jvm.ClassFile.FieldType.object "java/lang/StringBuilder"))) ∈ lw_all := lw_g (lw_at lw_m12 164 rfl) rfl
theorem q2882 : (Jvm.Cond.methodLink "java/lang/StringBuilder" (53 : Nat) ({ cls := "java/lang/AbstractStringBuilder", name := "append", desc := "(I)Ljava/lang/AbstractStringBuilder;" } : Jvm.MethodName)) ∈ lw_all := lw_g (lw_at lw_m12 165 rfl) rfl
theorem q2904 : (Jvm.Cond.instanceMethod ({ cls := "java/lang/StringBuilder", name := "toString", desc := "()Ljava/lang/String;" } : Jvm.MethodName)) ∈ lw_all := lw_g (lw_at lw_m12 187 rfl) rfl
theorem q2905 : (Jvm.Cond.selects "java/lang/StringBuilder" ({ cls := "java/lang/StringBuilder", name := "toString", desc := "()Ljava/lang/String;" } : Jvm.MethodName) ({ cls := "java/lang/StringBuilder", name := "toString", desc := "()Ljava/lang/String;" } : Jvm.MethodName)) ∈ lw_all := lw_g (lw_at lw_m12 188 rfl) rfl
theorem q2906 : (Jvm.Cond.code ({ cls := "java/lang/StringBuilder", name := "toString", desc := "()Ljava/lang/String;" } : Jvm.MethodName) prog_34_method_42_code (1 : Nat) (Option.some (Jvm.ClassFile.FieldType.object "java/lang/String"))) ∈ lw_all := lw_g (lw_at lw_m12 189 rfl) rfl
theorem q2907 : (Jvm.Cond.classLink "java/lang/StringBuilder" (18 : Nat) "java/lang/String") ∈ lw_all := lw_g (lw_at lw_m12 190 rfl) rfl
theorem q2908 : (Jvm.Cond.methodLink "java/lang/StringBuilder" (137 : Nat) ({ cls := "java/lang/String", name := "<init>", desc := "(Ljava/lang/StringBuilder;)V" } : Jvm.MethodName)) ∈ lw_all := lw_g (lw_at lw_m12 191 rfl) rfl
theorem q2918 : (Jvm.Cond.selects "java/lang/StringBuilder" ({ cls := "java/lang/AbstractStringBuilder", name := "getValue", desc := "()[B" } : Jvm.MethodName) ({ cls := "java/lang/AbstractStringBuilder", name := "getValue", desc := "()[B" } : Jvm.MethodName)) ∈ lw_all := lw_g (lw_at lw_m12 201 rfl) rfl
theorem q3527 : (Jvm.Cond.selects "java/lang/StringBuilder" ({ cls := "java/lang/AbstractStringBuilder", name := "length", desc := "()I" } : Jvm.MethodName) ({ cls := "java/lang/StringBuilder", name := "length", desc := "()I" } : Jvm.MethodName)) ∈ lw_all := lw_g (lw_at lw_m15 90 rfl) rfl
theorem q3539 : (Jvm.Cond.castable "java/lang/StringBuilder" "java/lang/Object") ∈ lw_tbl := lw_at lw_m15 102 rfl
def RJ8 : String := "java/lang/String"
def TJ8 : u_T := fun k => match k with
  | 0 => ("java/lang/String", "value", "[B", true)
  | 1 => ("java/lang/String", "coder", "B", true)
  | 2 => ("java/lang/String", "hash", "I", false)
  | _ => ("java/lang/String", "hashIsZero", "Z", false)
def tyJ8 : Nat → FieldType := fun k => match k with
  | 0 => .array .byte
  | 1 => .byte
  | 2 => .int
  | _ => .boolean
abbrev wsJ80 : List Cond := u_ws RJ8 TJ8 4
theorem nmJ8 : ∀ a, a < 4 → ∀ b, b < 4 → a ≠ b → (TJ8 a).2.1 ≠ (TJ8 b).2.1 := by decide +kernel
theorem tyJ8_ok : ∀ k, k < 4 → parseFieldDescriptor (TJ8 k).2.2.1 = some (tyJ8 k) := by decide +kernel
theorem q90 : (Jvm.Cond.initialized "java/lang/String") ∈ lw_all := lw_g (lw_at lw_m1 13 rfl) rfl
theorem q368 : (Jvm.Cond.laysStatic "java/lang/String" "COMPACT_STRINGS" "Z") ∈ lw_tbl := lw_at lw_m2 51 rfl
theorem q379 : (Jvm.Cond.fieldLink "java/lang/String" (1048 : Nat) "java/lang/AbstractStringBuilder" "maybeLatin1" "Z") ∈ lw_all := lw_g (lw_at lw_m2 62 rfl) rfl
theorem q533 : (Jvm.Cond.selects "java/lang/String" ({ cls := "java/lang/Object", name := "getClass", desc := "()Ljava/lang/Class;" } : Jvm.MethodName) ({ cls := "java/lang/Object", name := "getClass", desc := "()Ljava/lang/Class;" } : Jvm.MethodName)) ∈ lw_all := lw_g (lw_at lw_m2 216 rfl) rfl
theorem q704 : (Jvm.Cond.castable "java/lang/String" "java/lang/Comparable") ∈ lw_tbl := lw_at lw_m3 147 rfl
theorem q705 : (Jvm.Cond.selects "java/lang/String" ({ cls := "java/lang/Comparable", name := "compareTo", desc := "(Ljava/lang/Object;)I" } : Jvm.MethodName) ({ cls := "java/lang/String", name := "compareTo", desc := "(Ljava/lang/Object;)I" } : Jvm.MethodName)) ∈ lw_all := lw_g (lw_at lw_m3 148 rfl) rfl
theorem q706 : (Jvm.Cond.unhidden "java/lang/String" "compareTo" "(Ljava/lang/Object;)I") ∈ lw_tbl := lw_at lw_m3 149 rfl
theorem q707 : (Jvm.Cond.instanceMethod ({ cls := "java/lang/String", name := "compareTo", desc := "(Ljava/lang/Object;)I" } : Jvm.MethodName)) ∈ lw_all := lw_g (lw_at lw_m3 150 rfl) rfl
theorem q708 : (Jvm.Cond.publicMethod ({ cls := "java/lang/String", name := "compareTo", desc := "(Ljava/lang/Object;)I" } : Jvm.MethodName)) ∈ lw_tbl := lw_at lw_m3 151 rfl
theorem q709 : (Jvm.Cond.code ({ cls := "java/lang/String", name := "compareTo", desc := "(Ljava/lang/Object;)I" } : Jvm.MethodName) prog_33_method_162_code (2 : Nat) (Option.some Jvm.ClassFile.FieldType.int)) ∈ lw_all := lw_g (lw_at lw_m3 152 rfl) rfl
theorem q710 : (Jvm.Cond.classLink "java/lang/String" (10 : Nat) "java/lang/String") ∈ lw_all := lw_g (lw_at lw_m3 153 rfl) rfl
theorem q711 : (Jvm.Cond.methodLink "java/lang/String" (1084 : Nat) ({ cls := "java/lang/String", name := "compareTo", desc := "(Ljava/lang/String;)I" } : Jvm.MethodName)) ∈ lw_all := lw_g (lw_at lw_m3 154 rfl) rfl
theorem q712 : (Jvm.Cond.instanceMethod ({ cls := "java/lang/String", name := "compareTo", desc := "(Ljava/lang/String;)I" } : Jvm.MethodName)) ∈ lw_all := lw_g (lw_at lw_m3 155 rfl) rfl
theorem q713 : (Jvm.Cond.selects "java/lang/String" ({ cls := "java/lang/String", name := "compareTo", desc := "(Ljava/lang/String;)I" } : Jvm.MethodName) ({ cls := "java/lang/String", name := "compareTo", desc := "(Ljava/lang/String;)I" } : Jvm.MethodName)) ∈ lw_all := lw_g (lw_at lw_m3 156 rfl) rfl
theorem q714 : (Jvm.Cond.code ({ cls := "java/lang/String", name := "compareTo", desc := "(Ljava/lang/String;)I" } : Jvm.MethodName) prog_33_method_71_code (5 : Nat) (Option.some Jvm.ClassFile.FieldType.int)) ∈ lw_all := lw_g (lw_at lw_m3 157 rfl) rfl
theorem q715 : (Jvm.Cond.methodLink "java/lang/String" (335 : Nat) ({ cls := "java/lang/String", name := "coder", desc := "()B" } : Jvm.MethodName)) ∈ lw_all := lw_g (lw_at lw_m3 158 rfl) rfl
theorem q716 : (Jvm.Cond.instanceMethod ({ cls := "java/lang/String", name := "coder", desc := "()B" } : Jvm.MethodName)) ∈ lw_all := lw_g (lw_at lw_m3 159 rfl) rfl
theorem q717 : (Jvm.Cond.selects "java/lang/String" ({ cls := "java/lang/String", name := "coder", desc := "()B" } : Jvm.MethodName) ({ cls := "java/lang/String", name := "coder", desc := "()B" } : Jvm.MethodName)) ∈ lw_all := lw_g (lw_at lw_m3 160 rfl) rfl
theorem q718 : (Jvm.Cond.code ({ cls := "java/lang/String", name := "coder", desc := "()B" } : Jvm.MethodName) prog_33_method_152_code (1 : Nat) (Option.some Jvm.ClassFile.FieldType.byte)) ∈ lw_all := lw_g (lw_at lw_m3 161 rfl) rfl
theorem q719 : (Jvm.Cond.fieldLink "java/lang/String" (38 : Nat) "java/lang/String" "COMPACT_STRINGS" "Z") ∈ lw_all := lw_g (lw_at lw_m3 162 rfl) rfl
theorem q720 : (Jvm.Cond.methodLink "java/lang/String" (586 : Nat) ({ cls := "java/lang/StringLatin1", name := "compareTo", desc := "([B[B)I" } : Jvm.MethodName)) ∈ lw_all := lw_g (lw_at lw_m3 163 rfl) rfl
theorem q834 : (Jvm.Cond.methodLink "java/lang/String" (590 : Nat) ({ cls := "java/lang/StringUTF16", name := "compareTo", desc := "([B[B)I" } : Jvm.MethodName)) ∈ lw_all := lw_g (lw_at lw_m4 37 rfl) rfl
theorem q853 : (Jvm.Cond.methodLink "java/lang/String" (591 : Nat) ({ cls := "java/lang/StringLatin1", name := "compareToUTF16", desc := "([B[B)I" } : Jvm.MethodName)) ∈ lw_all := lw_g (lw_at lw_m4 56 rfl) rfl
theorem q864 : (Jvm.Cond.methodLink "java/lang/String" (594 : Nat) ({ cls := "java/lang/StringUTF16", name := "compareToLatin1", desc := "([B[B)I" } : Jvm.MethodName)) ∈ lw_all := lw_g (lw_at lw_m4 67 rfl) rfl
theorem q895 : (Jvm.Cond.static ({ cls := "java/lang/String", name := "checkOffset", desc := "(II)V" } : Jvm.MethodName)) ∈ lw_all := lw_g (lw_at lw_m4 98 rfl) rfl
theorem q896 : (Jvm.Cond.code ({ cls := "java/lang/String", name := "checkOffset", desc := "(II)V" } : Jvm.MethodName) prog_33_method_156_code (2 : Nat) (Option.none : Option Jvm.ClassFile.FieldType)) ∈ lw_all := lw_g (lw_at lw_m4 99 rfl) rfl
theorem q897 : (Jvm.Cond.fieldLink "java/lang/String" (1053 : Nat) "jdk/internal/util/Preconditions" "SIOOBE_FORMATTER" "Ljava/util/function/BiFunction;") ∈ lw_all := lw_g (lw_at lw_m4 100 rfl) rfl
theorem q899 : (Jvm.Cond.methodLink "java/lang/String" (1062 : Nat) ({ cls := "jdk/internal/util/Preconditions", name := "checkFromToIndex", desc := "(IIILjava/util/function/BiFunction;)I" } : Jvm.MethodName)) ∈ lw_all := lw_g (lw_at lw_m4 102 rfl) rfl
theorem q1751 : (Jvm.Cond.instantiable "java/lang/String" (4 : Nat)) ∈ lw_all := lw_g (lw_at lw_m7 234 rfl) rfl
theorem q1752 : (Jvm.Cond.laysFinal "java/lang/String" "java/lang/String" "value" "[B") ∈ lw_all := lw_g (lw_at lw_m7 235 rfl) rfl
theorem q1753 : (Jvm.Cond.soleField "java/lang/String" "value") ∈ lw_all := lw_g (lw_at lw_m7 236 rfl) rfl
theorem q1754 : (Jvm.Cond.laysFinal "java/lang/String" "java/lang/String" "coder" "B") ∈ lw_all := lw_g (lw_at lw_m7 237 rfl) rfl
theorem q1755 : (Jvm.Cond.soleField "java/lang/String" "coder") ∈ lw_all := lw_g (lw_at lw_m7 238 rfl) rfl
theorem q2733 : (Jvm.Cond.static ({ cls := "java/lang/String", name := "checkBoundsOffCount", desc := "(III)I" } : Jvm.MethodName)) ∈ lw_all := lw_g (lw_at lw_m12 16 rfl) rfl
theorem q2734 : (Jvm.Cond.code ({ cls := "java/lang/String", name := "checkBoundsOffCount", desc := "(III)I" } : Jvm.MethodName) prog_33_method_157_code (3 : Nat) (Option.some Jvm.ClassFile.FieldType.int)) ∈ lw_all := lw_g (lw_at lw_m12 17 rfl) rfl
theorem q2735 : (Jvm.Cond.methodLink "java/lang/String" (1065 : Nat) ({ cls := "jdk/internal/util/Preconditions", name := "checkFromIndexSize", desc := "(IIILjava/util/function/BiFunction;)I" } : Jvm.MethodName)) ∈ lw_all := lw_g (lw_at lw_m12 18 rfl) rfl
theorem q2748 : (Jvm.Cond.static ({ cls := "java/lang/String", name := "checkIndex", desc := "(II)V" } : Jvm.MethodName)) ∈ lw_all := lw_g (lw_at lw_m12 31 rfl) rfl
theorem q2749 : (Jvm.Cond.code ({ cls := "java/lang/String", name := "checkIndex", desc := "(II)V" } : Jvm.MethodName) prog_33_method_155_code (2 : Nat) (Option.none : Option Jvm.ClassFile.FieldType)) ∈ lw_all := lw_g (lw_at lw_m12 32 rfl) rfl
theorem q2750 : (Jvm.Cond.methodLink "java/lang/String" (1059 : Nat) ({ cls := "jdk/internal/util/Preconditions", name := "checkIndex", desc := "(IILjava/util/function/BiFunction;)I" } : Jvm.MethodName)) ∈ lw_all := lw_g (lw_at lw_m12 33 rfl) rfl
theorem q2857 : (Jvm.Cond.static ({ cls := "java/lang/String", name := "checkBoundsBeginEnd", desc := "(III)V" } : Jvm.MethodName)) ∈ lw_all := lw_g (lw_at lw_m12 140 rfl) rfl
theorem q2858 : (Jvm.Cond.code ({ cls := "java/lang/String", name := "checkBoundsBeginEnd", desc := "(III)V" } : Jvm.MethodName) prog_33_method_158_code (3 : Nat) (Option.none : Option Jvm.ClassFile.FieldType)) ∈ lw_all := lw_g (lw_at lw_m12 141 rfl) rfl
theorem q2860 : (Jvm.Cond.instanceMethod ({ cls := "java/lang/String", name := "length", desc := "()I" } : Jvm.MethodName)) ∈ lw_all := lw_g (lw_at lw_m12 143 rfl) rfl
theorem q2861 : (Jvm.Cond.selects "java/lang/String" ({ cls := "java/lang/String", name := "length", desc := "()I" } : Jvm.MethodName) ({ cls := "java/lang/String", name := "length", desc := "()I" } : Jvm.MethodName)) ∈ lw_all := lw_g (lw_at lw_m12 144 rfl) rfl
theorem q2862 : (Jvm.Cond.code ({ cls := "java/lang/String", name := "length", desc := "()I" } : Jvm.MethodName) prog_33_method_54_code (1 : Nat) (Option.some Jvm.ClassFile.FieldType.int)) ∈ lw_all := lw_g (lw_at lw_m12 145 rfl) rfl
theorem q2873 : (Jvm.Cond.instanceMethod ({ cls := "java/lang/String", name := "getBytes", desc := "([BIB)V" } : Jvm.MethodName)) ∈ lw_all := lw_g (lw_at lw_m12 156 rfl) rfl
theorem q2874 : (Jvm.Cond.selects "java/lang/String" ({ cls := "java/lang/String", name := "getBytes", desc := "([BIB)V" } : Jvm.MethodName) ({ cls := "java/lang/String", name := "getBytes", desc := "([BIB)V" } : Jvm.MethodName)) ∈ lw_all := lw_g (lw_at lw_m12 157 rfl) rfl
theorem q2875 : (Jvm.Cond.code ({ cls := "java/lang/String", name := "getBytes", desc := "([BIB)V" } : Jvm.MethodName) prog_33_method_147_code (4 : Nat) (Option.none : Option Jvm.ClassFile.FieldType)) ∈ lw_all := lw_g (lw_at lw_m12 158 rfl) rfl
theorem q2876 : (Jvm.Cond.methodLink "java/lang/String" (212 : Nat) ({ cls := "java/lang/System", name := "arraycopy", desc := "(Ljava/lang/Object;ILjava/lang/Object;II)V" } : Jvm.MethodName)) ∈ lw_all := lw_g (lw_at lw_m12 159 rfl) rfl
theorem q2877 : (Jvm.Cond.methodLink "java/lang/String" (106 : Nat) ({ cls := "java/lang/StringLatin1", name := "inflate", desc := "([BI[BII)V" } : Jvm.MethodName)) ∈ lw_all := lw_g (lw_at lw_m12 160 rfl) rfl
theorem q2909 : (Jvm.Cond.instanceMethod ({ cls := "java/lang/String", name := "<init>", desc := "(Ljava/lang/StringBuilder;)V" } : Jvm.MethodName)) ∈ lw_all := lw_g (lw_at lw_m12 192 rfl) rfl
theorem q2910 : (Jvm.Cond.code ({ cls := "java/lang/String", name := "<init>", desc := "(Ljava/lang/StringBuilder;)V" } : Jvm.MethodName) prog_33_method_53_code (2 : Nat) (Option.none : Option Jvm.ClassFile.FieldType)) ∈ lw_all := lw_g (lw_at lw_m12 193 rfl) rfl
theorem q2911 : (Jvm.Cond.methodLink "java/lang/String" (489 : Nat) ({ cls := "java/lang/String", name := "<init>", desc := "(Ljava/lang/AbstractStringBuilder;Ljava/lang/Void;)V" } : Jvm.MethodName)) ∈ lw_all := lw_g (lw_at lw_m12 194 rfl) rfl
theorem q2912 : (Jvm.Cond.instanceMethod ({ cls := "java/lang/String", name := "<init>", desc := "(Ljava/lang/AbstractStringBuilder;Ljava/lang/Void;)V" } : Jvm.MethodName)) ∈ lw_all := lw_g (lw_at lw_m12 195 rfl) rfl
theorem q2913 : (Jvm.Cond.code ({ cls := "java/lang/String", name := "<init>", desc := "(Ljava/lang/AbstractStringBuilder;Ljava/lang/Void;)V" } : Jvm.MethodName) prog_33_method_150_code (5 : Nat) (Option.none : Option Jvm.ClassFile.FieldType)) ∈ lw_all := lw_g (lw_at lw_m12 196 rfl) rfl
theorem q2914 : (Jvm.Cond.methodLink "java/lang/String" (1 : Nat) ({ cls := "java/lang/Object", name := "<init>", desc := "()V" } : Jvm.MethodName)) ∈ lw_all := lw_g (lw_at lw_m12 197 rfl) rfl
theorem q2915 : (Jvm.Cond.methodLink "java/lang/String" (552 : Nat) ({ cls := "java/lang/AbstractStringBuilder", name := "getValue", desc := "()[B" } : Jvm.MethodName)) ∈ lw_all := lw_g (lw_at lw_m12 198 rfl) rfl
theorem q2920 : (Jvm.Cond.methodLink "java/lang/String" (549 : Nat) ({ cls := "java/lang/AbstractStringBuilder", name := "length", desc := "()I" } : Jvm.MethodName)) ∈ lw_all := lw_g (lw_at lw_m12 203 rfl) rfl
theorem q2921 : (Jvm.Cond.methodLink "java/lang/String" (1047 : Nat) ({ cls := "java/lang/AbstractStringBuilder", name := "isLatin1", desc := "()Z" } : Jvm.MethodName)) ∈ lw_all := lw_g (lw_at lw_m12 204 rfl) rfl
theorem q2922 : (Jvm.Cond.methodLink "java/lang/String" (54 : Nat) ({ cls := "java/util/Arrays", name := "copyOfRange", desc := "([BII)[B" } : Jvm.MethodName)) ∈ lw_all := lw_g (lw_at lw_m12 205 rfl) rfl
theorem q2939 : (Jvm.Cond.methodLink "java/lang/String" (1051 : Nat) ({ cls := "java/lang/StringUTF16", name := "compress", desc := "([BII)[B" } : Jvm.MethodName)) ∈ lw_all := lw_g (lw_at lw_m12 222 rfl) rfl
theorem q2946 : (Jvm.Cond.methodLink "java/lang/String" (47 : Nat) ({ cls := "java/lang/StringUTF16", name := "coderFromArrayLen", desc := "([BI)B" } : Jvm.MethodName)) ∈ lw_all := lw_g (lw_at lw_m12 229 rfl) rfl
theorem q2949 : (Jvm.Cond.fieldLink "java/lang/String" (9 : Nat) "java/lang/String" "value" "[B") ∈ lw_all := lw_g (lw_at lw_m12 232 rfl) rfl
theorem q2950 : (Jvm.Cond.fieldLink "java/lang/String" (15 : Nat) "java/lang/String" "coder" "B") ∈ lw_all := lw_g (lw_at lw_m12 233 rfl) rfl
theorem q2951 : (Jvm.Cond.lays "java/lang/String" "java/lang/String" "hash" "I") ∈ lw_all := lw_g (lw_at lw_m12 234 rfl) rfl
theorem q2952 : (Jvm.Cond.soleField "java/lang/String" "hash") ∈ lw_all := lw_g (lw_at lw_m12 235 rfl) rfl
theorem q2953 : (Jvm.Cond.lays "java/lang/String" "java/lang/String" "hashIsZero" "Z") ∈ lw_all := lw_g (lw_at lw_m12 236 rfl) rfl
theorem q2954 : (Jvm.Cond.soleField "java/lang/String" "hashIsZero") ∈ lw_all := lw_g (lw_at lw_m12 237 rfl) rfl
theorem q2955 : (Jvm.Cond.superclass "java/lang/String" "java/lang/Object") ∈ lw_all := lw_g (lw_at lw_m12 238 rfl) rfl
theorem q3571 : (Jvm.Cond.castable "java/lang/String" "java/lang/Object") ∈ lw_tbl := lw_at lw_m15 134 rfl
def RJ9 : String := "java/lang/StringUTF16"
theorem q91 : (Jvm.Cond.initialized "java/lang/StringUTF16") ∈ lw_all := lw_g (lw_at lw_m1 14 rfl) rfl
theorem q370 : (Jvm.Cond.static ({ cls := "java/lang/StringUTF16", name := "newBytesFor", desc := "(I)[B" } : Jvm.MethodName)) ∈ lw_all := lw_g (lw_at lw_m2 53 rfl) rfl
theorem q371 : (Jvm.Cond.code ({ cls := "java/lang/StringUTF16", name := "newBytesFor", desc := "(I)[B" } : Jvm.MethodName) prog_37_method_2_code (1 : Nat) (Option.some (Jvm.ClassFile.FieldType.array Jvm.ClassFile.FieldType.byte))) ∈ lw_all := lw_g (lw_at lw_m2 54 rfl) rfl
theorem q372 : (Jvm.Cond.methodLink "java/lang/StringUTF16" (11 : Nat) ({ cls := "java/lang/StringUTF16", name := "newBytesLength", desc := "(I)I" } : Jvm.MethodName)) ∈ lw_all := lw_g (lw_at lw_m2 55 rfl) rfl
theorem q373 : (Jvm.Cond.static ({ cls := "java/lang/StringUTF16", name := "newBytesLength", desc := "(I)I" } : Jvm.MethodName)) ∈ lw_all := lw_g (lw_at lw_m2 56 rfl) rfl
theorem q374 : (Jvm.Cond.code ({ cls := "java/lang/StringUTF16", name := "newBytesLength", desc := "(I)I" } : Jvm.MethodName) prog_37_method_3_code (1 : Nat) (Option.some Jvm.ClassFile.FieldType.int)) ∈ lw_all := lw_g (lw_at lw_m2 57 rfl) rfl
theorem q375 : (Jvm.Cond.constant "java/lang/StringUTF16" (20 : Nat) (1073741823 : Int32)) ∈ lw_all := lw_g (lw_at lw_m2 58 rfl) rfl
theorem q835 : (Jvm.Cond.static ({ cls := "java/lang/StringUTF16", name := "compareTo", desc := "([B[B)I" } : Jvm.MethodName)) ∈ lw_all := lw_g (lw_at lw_m4 38 rfl) rfl
theorem q836 : (Jvm.Cond.code ({ cls := "java/lang/StringUTF16", name := "compareTo", desc := "([B[B)I" } : Jvm.MethodName) prog_37_method_29_code (4 : Nat) (Option.some Jvm.ClassFile.FieldType.int)) ∈ lw_all := lw_g (lw_at lw_m4 39 rfl) rfl
theorem q837 : (Jvm.Cond.methodLink "java/lang/StringUTF16" (48 : Nat) ({ cls := "java/lang/StringUTF16", name := "length", desc := "([B)I" } : Jvm.MethodName)) ∈ lw_all := lw_g (lw_at lw_m4 40 rfl) rfl
theorem q838 : (Jvm.Cond.static ({ cls := "java/lang/StringUTF16", name := "length", desc := "([B)I" } : Jvm.MethodName)) ∈ lw_all := lw_g (lw_at lw_m4 41 rfl) rfl
theorem q839 : (Jvm.Cond.code ({ cls := "java/lang/StringUTF16", name := "length", desc := "([B)I" } : Jvm.MethodName) prog_37_method_6_code (1 : Nat) (Option.some Jvm.ClassFile.FieldType.int)) ∈ lw_all := lw_g (lw_at lw_m4 42 rfl) rfl
theorem q840 : (Jvm.Cond.methodLink "java/lang/StringUTF16" (176 : Nat) ({ cls := "java/lang/StringUTF16", name := "compareValues", desc := "([B[BII)I" } : Jvm.MethodName)) ∈ lw_all := lw_g (lw_at lw_m4 43 rfl) rfl
theorem q841 : (Jvm.Cond.static ({ cls := "java/lang/StringUTF16", name := "compareValues", desc := "([B[BII)I" } : Jvm.MethodName)) ∈ lw_all := lw_g (lw_at lw_m4 44 rfl) rfl
theorem q842 : (Jvm.Cond.code ({ cls := "java/lang/StringUTF16", name := "compareValues", desc := "([B[BII)I" } : Jvm.MethodName) prog_37_method_31_code (8 : Nat) (Option.some Jvm.ClassFile.FieldType.int)) ∈ lw_all := lw_g (lw_at lw_m4 45 rfl) rfl
theorem q843 : (Jvm.Cond.methodLink "java/lang/StringUTF16" (183 : Nat) ({ cls := "java/lang/Math", name := "min", desc := "(II)I" } : Jvm.MethodName)) ∈ lw_all := lw_g (lw_at lw_m4 46 rfl) rfl
theorem q844 : (Jvm.Cond.methodLink "java/lang/StringUTF16" (71 : Nat) ({ cls := "java/lang/StringUTF16", name := "getChar", desc := "([BI)C" } : Jvm.MethodName)) ∈ lw_all := lw_g (lw_at lw_m4 47 rfl) rfl
theorem q845 : (Jvm.Cond.static ({ cls := "java/lang/StringUTF16", name := "getChar", desc := "([BI)C" } : Jvm.MethodName)) ∈ lw_all := lw_g (lw_at lw_m4 48 rfl) rfl
theorem q846 : (Jvm.Cond.code ({ cls := "java/lang/StringUTF16", name := "getChar", desc := "([BI)C" } : Jvm.MethodName) prog_37_method_5_code (2 : Nat) (Option.some Jvm.ClassFile.FieldType.char)) ∈ lw_all := lw_g (lw_at lw_m4 49 rfl) rfl
theorem q847 : (Jvm.Cond.fieldLink "java/lang/StringUTF16" (44 : Nat) "java/lang/StringUTF16" "$assertionsDisabled" "Z") ∈ lw_all := lw_g (lw_at lw_m4 50 rfl) rfl
theorem q848 : (Jvm.Cond.laysStatic "java/lang/StringUTF16" "$assertionsDisabled" "Z") ∈ lw_tbl := lw_at lw_m4 51 rfl
theorem q849 : (Jvm.Cond.fieldLink "java/lang/StringUTF16" (59 : Nat) "java/lang/StringUTF16" "HI_BYTE_SHIFT" "I") ∈ lw_all := lw_g (lw_at lw_m4 52 rfl) rfl
theorem q850 : (Jvm.Cond.laysStatic "java/lang/StringUTF16" "HI_BYTE_SHIFT" "I") ∈ lw_tbl := lw_at lw_m4 53 rfl
theorem q851 : (Jvm.Cond.fieldLink "java/lang/StringUTF16" (63 : Nat) "java/lang/StringUTF16" "LO_BYTE_SHIFT" "I") ∈ lw_all := lw_g (lw_at lw_m4 54 rfl) rfl
theorem q852 : (Jvm.Cond.laysStatic "java/lang/StringUTF16" "LO_BYTE_SHIFT" "I") ∈ lw_tbl := lw_at lw_m4 55 rfl
theorem q865 : (Jvm.Cond.static ({ cls := "java/lang/StringUTF16", name := "compareToLatin1", desc := "([B[B)I" } : Jvm.MethodName)) ∈ lw_all := lw_g (lw_at lw_m4 68 rfl) rfl
theorem q866 : (Jvm.Cond.code ({ cls := "java/lang/StringUTF16", name := "compareToLatin1", desc := "([B[B)I" } : Jvm.MethodName) prog_37_method_32_code (2 : Nat) (Option.some Jvm.ClassFile.FieldType.int)) ∈ lw_all := lw_g (lw_at lw_m4 69 rfl) rfl
theorem q867 : (Jvm.Cond.methodLink "java/lang/StringUTF16" (189 : Nat) ({ cls := "java/lang/StringLatin1", name := "compareToUTF16", desc := "([B[B)I" } : Jvm.MethodName)) ∈ lw_all := lw_g (lw_at lw_m4 70 rfl) rfl
theorem q889 : (Jvm.Cond.static ({ cls := "java/lang/StringUTF16", name := "compareTo", desc := "([B[BII)I" } : Jvm.MethodName)) ∈ lw_all := lw_g (lw_at lw_m4 92 rfl) rfl
theorem q890 : (Jvm.Cond.code ({ cls := "java/lang/StringUTF16", name := "compareTo", desc := "([B[BII)I" } : Jvm.MethodName) prog_37_method_30_code (4 : Nat) (Option.some Jvm.ClassFile.FieldType.int)) ∈ lw_all := lw_g (lw_at lw_m4 93 rfl) rfl
theorem q891 : (Jvm.Cond.methodLink "java/lang/StringUTF16" (180 : Nat) ({ cls := "java/lang/StringUTF16", name := "checkOffset", desc := "(I[B)V" } : Jvm.MethodName)) ∈ lw_all := lw_g (lw_at lw_m4 94 rfl) rfl
theorem q892 : (Jvm.Cond.static ({ cls := "java/lang/StringUTF16", name := "checkOffset", desc := "(I[B)V" } : Jvm.MethodName)) ∈ lw_all := lw_g (lw_at lw_m4 95 rfl) rfl
theorem q893 : (Jvm.Cond.code ({ cls := "java/lang/StringUTF16", name := "checkOffset", desc := "(I[B)V" } : Jvm.MethodName) prog_37_method_92_code (2 : Nat) (Option.none : Option Jvm.ClassFile.FieldType)) ∈ lw_all := lw_g (lw_at lw_m4 96 rfl) rfl
theorem q894 : (Jvm.Cond.methodLink "java/lang/StringUTF16" (417 : Nat) ({ cls := "java/lang/String", name := "checkOffset", desc := "(II)V" } : Jvm.MethodName)) ∈ lw_all := lw_g (lw_at lw_m4 97 rfl) rfl
theorem q907 : (Jvm.Cond.static ({ cls := "java/lang/StringUTF16", name := "compareToLatin1", desc := "([B[BII)I" } : Jvm.MethodName)) ∈ lw_all := lw_g (lw_at lw_m4 110 rfl) rfl
theorem q908 : (Jvm.Cond.code ({ cls := "java/lang/StringUTF16", name := "compareToLatin1", desc := "([B[BII)I" } : Jvm.MethodName) prog_37_method_33_code (4 : Nat) (Option.some Jvm.ClassFile.FieldType.int)) ∈ lw_all := lw_g (lw_at lw_m4 111 rfl) rfl
theorem q909 : (Jvm.Cond.methodLink "java/lang/StringUTF16" (193 : Nat) ({ cls := "java/lang/StringLatin1", name := "compareToUTF16", desc := "([B[BII)I" } : Jvm.MethodName)) ∈ lw_all := lw_g (lw_at lw_m4 112 rfl) rfl
theorem q2727 : (Jvm.Cond.static ({ cls := "java/lang/StringUTF16", name := "inflate", desc := "([BI[BII)V" } : Jvm.MethodName)) ∈ lw_all := lw_g (lw_at lw_m12 10 rfl) rfl
theorem q2728 : (Jvm.Cond.code ({ cls := "java/lang/StringUTF16", name := "inflate", desc := "([BI[BII)V" } : Jvm.MethodName) prog_37_method_86_code (6 : Nat) (Option.none : Option Jvm.ClassFile.FieldType)) ∈ lw_all := lw_g (lw_at lw_m12 11 rfl) rfl
theorem q2729 : (Jvm.Cond.methodLink "java/lang/StringUTF16" (173 : Nat) ({ cls := "java/lang/StringUTF16", name := "checkBoundsOffCount", desc := "(II[B)V" } : Jvm.MethodName)) ∈ lw_all := lw_g (lw_at lw_m12 12 rfl) rfl
theorem q2730 : (Jvm.Cond.static ({ cls := "java/lang/StringUTF16", name := "checkBoundsOffCount", desc := "(II[B)V" } : Jvm.MethodName)) ∈ lw_all := lw_g (lw_at lw_m12 13 rfl) rfl
theorem q2731 : (Jvm.Cond.code ({ cls := "java/lang/StringUTF16", name := "checkBoundsOffCount", desc := "(II[B)V" } : Jvm.MethodName) prog_37_method_94_code (3 : Nat) (Option.none : Option Jvm.ClassFile.FieldType)) ∈ lw_all := lw_g (lw_at lw_m12 14 rfl) rfl
theorem q2732 : (Jvm.Cond.methodLink "java/lang/StringUTF16" (419 : Nat) ({ cls := "java/lang/String", name := "checkBoundsOffCount", desc := "(III)I" } : Jvm.MethodName)) ∈ lw_all := lw_g (lw_at lw_m12 15 rfl) rfl
theorem q2738 : (Jvm.Cond.methodLink "java/lang/StringUTF16" (111 : Nat) ({ cls := "java/lang/StringUTF16", name := "putChar", desc := "([BII)V" } : Jvm.MethodName)) ∈ lw_all := lw_g (lw_at lw_m12 21 rfl) rfl
theorem q2739 : (Jvm.Cond.static ({ cls := "java/lang/StringUTF16", name := "putChar", desc := "([BII)V" } : Jvm.MethodName)) ∈ lw_all := lw_g (lw_at lw_m12 22 rfl) rfl
theorem q2740 : (Jvm.Cond.code ({ cls := "java/lang/StringUTF16", name := "putChar", desc := "([BII)V" } : Jvm.MethodName) prog_37_method_4_code (3 : Nat) (Option.none : Option Jvm.ClassFile.FieldType)) ∈ lw_all := lw_g (lw_at lw_m12 23 rfl) rfl
theorem q2742 : (Jvm.Cond.static ({ cls := "java/lang/StringUTF16", name := "putCharSB", desc := "([BII)V" } : Jvm.MethodName)) ∈ lw_all := lw_g (lw_at lw_m12 25 rfl) rfl
theorem q2743 : (Jvm.Cond.code ({ cls := "java/lang/StringUTF16", name := "putCharSB", desc := "([BII)V" } : Jvm.MethodName) prog_37_method_71_code (3 : Nat) (Option.none : Option Jvm.ClassFile.FieldType)) ∈ lw_all := lw_g (lw_at lw_m12 26 rfl) rfl
theorem q2744 : (Jvm.Cond.methodLink "java/lang/StringUTF16" (67 : Nat) ({ cls := "java/lang/StringUTF16", name := "checkIndex", desc := "(I[B)V" } : Jvm.MethodName)) ∈ lw_all := lw_g (lw_at lw_m12 27 rfl) rfl
theorem q2745 : (Jvm.Cond.static ({ cls := "java/lang/StringUTF16", name := "checkIndex", desc := "(I[B)V" } : Jvm.MethodName)) ∈ lw_all := lw_g (lw_at lw_m12 28 rfl) rfl
theorem q2746 : (Jvm.Cond.code ({ cls := "java/lang/StringUTF16", name := "checkIndex", desc := "(I[B)V" } : Jvm.MethodName) prog_37_method_91_code (2 : Nat) (Option.none : Option Jvm.ClassFile.FieldType)) ∈ lw_all := lw_g (lw_at lw_m12 29 rfl) rfl
theorem q2747 : (Jvm.Cond.methodLink "java/lang/StringUTF16" (414 : Nat) ({ cls := "java/lang/String", name := "checkIndex", desc := "(II)V" } : Jvm.MethodName)) ∈ lw_all := lw_g (lw_at lw_m12 30 rfl) rfl
theorem q2851 : (Jvm.Cond.static ({ cls := "java/lang/StringUTF16", name := "putCharsAt", desc := "([BICCCC)I" } : Jvm.MethodName)) ∈ lw_all := lw_g (lw_at lw_m12 134 rfl) rfl
theorem q2852 : (Jvm.Cond.code ({ cls := "java/lang/StringUTF16", name := "putCharsAt", desc := "([BICCCC)I" } : Jvm.MethodName) prog_37_method_81_code (7 : Nat) (Option.some Jvm.ClassFile.FieldType.int)) ∈ lw_all := lw_g (lw_at lw_m12 135 rfl) rfl
theorem q2853 : (Jvm.Cond.methodLink "java/lang/StringUTF16" (96 : Nat) ({ cls := "java/lang/StringUTF16", name := "checkBoundsBeginEnd", desc := "(II[B)V" } : Jvm.MethodName)) ∈ lw_all := lw_g (lw_at lw_m12 136 rfl) rfl
theorem q2854 : (Jvm.Cond.static ({ cls := "java/lang/StringUTF16", name := "checkBoundsBeginEnd", desc := "(II[B)V" } : Jvm.MethodName)) ∈ lw_all := lw_g (lw_at lw_m12 137 rfl) rfl
theorem q2855 : (Jvm.Cond.code ({ cls := "java/lang/StringUTF16", name := "checkBoundsBeginEnd", desc := "(II[B)V" } : Jvm.MethodName) prog_37_method_93_code (3 : Nat) (Option.none : Option Jvm.ClassFile.FieldType)) ∈ lw_all := lw_g (lw_at lw_m12 138 rfl) rfl
theorem q2856 : (Jvm.Cond.methodLink "java/lang/StringUTF16" (241 : Nat) ({ cls := "java/lang/String", name := "checkBoundsBeginEnd", desc := "(III)V" } : Jvm.MethodName)) ∈ lw_all := lw_g (lw_at lw_m12 139 rfl) rfl
theorem q2896 : (Jvm.Cond.static ({ cls := "java/lang/StringUTF16", name := "getChars", desc := "(III[B)I" } : Jvm.MethodName)) ∈ lw_all := lw_g (lw_at lw_m12 179 rfl) rfl
theorem q2897 : (Jvm.Cond.code ({ cls := "java/lang/StringUTF16", name := "getChars", desc := "(III[B)I" } : Jvm.MethodName) prog_37_method_77_code (5 : Nat) (Option.some Jvm.ClassFile.FieldType.int)) ∈ lw_all := lw_g (lw_at lw_m12 180 rfl) rfl
theorem q2898 : (Jvm.Cond.methodLink "java/lang/StringUTF16" (393 : Nat) ({ cls := "java/lang/StringUTF16", name := "getChars", desc := "(II[B)I" } : Jvm.MethodName)) ∈ lw_all := lw_g (lw_at lw_m12 181 rfl) rfl
theorem q2899 : (Jvm.Cond.static ({ cls := "java/lang/StringUTF16", name := "getChars", desc := "(II[B)I" } : Jvm.MethodName)) ∈ lw_all := lw_g (lw_at lw_m12 182 rfl) rfl
theorem q2900 : (Jvm.Cond.code ({ cls := "java/lang/StringUTF16", name := "getChars", desc := "(II[B)I" } : Jvm.MethodName) prog_37_method_89_code (7 : Nat) (Option.some Jvm.ClassFile.FieldType.int)) ∈ lw_all := lw_g (lw_at lw_m12 183 rfl) rfl
theorem q2901 : (Jvm.Cond.fieldLink "java/lang/StringUTF16" (403 : Nat) "java/lang/Integer" "DigitOnes" "[B") ∈ lw_all := lw_g (lw_at lw_m12 184 rfl) rfl
theorem q2902 : (Jvm.Cond.fieldLink "java/lang/StringUTF16" (407 : Nat) "java/lang/Integer" "DigitTens" "[B") ∈ lw_all := lw_g (lw_at lw_m12 185 rfl) rfl
theorem q2940 : (Jvm.Cond.static ({ cls := "java/lang/StringUTF16", name := "compress", desc := "([BII)[B" } : Jvm.MethodName)) ∈ lw_all := lw_g (lw_at lw_m12 223 rfl) rfl
theorem q2941 : (Jvm.Cond.code ({ cls := "java/lang/StringUTF16", name := "compress", desc := "([BII)[B" } : Jvm.MethodName) prog_37_method_17_code (6 : Nat) (Option.some (Jvm.ClassFile.FieldType.array Jvm.ClassFile.FieldType.byte))) ∈ lw_all := lw_g (lw_at lw_m12 224 rfl) rfl
theorem q2942 : (Jvm.Cond.methodLink "java/lang/StringUTF16" (123 : Nat) ({ cls := "java/lang/StringUTF16", name := "compress", desc := "([BI[BII)I" } : Jvm.MethodName)) ∈ lw_all := lw_g (lw_at lw_m12 225 rfl) rfl
theorem q2943 : (Jvm.Cond.static ({ cls := "java/lang/StringUTF16", name := "compress", desc := "([BI[BII)I" } : Jvm.MethodName)) ∈ lw_all := lw_g (lw_at lw_m12 226 rfl) rfl
theorem q2944 : (Jvm.Cond.code ({ cls := "java/lang/StringUTF16", name := "compress", desc := "([BI[BII)I" } : Jvm.MethodName) prog_37_method_22_code (7 : Nat) (Option.some Jvm.ClassFile.FieldType.int)) ∈ lw_all := lw_g (lw_at lw_m12 227 rfl) rfl
theorem q2945 : (Jvm.Cond.methodLink "java/lang/StringUTF16" (126 : Nat) ({ cls := "java/util/Arrays", name := "copyOfRange", desc := "([BII)[B" } : Jvm.MethodName)) ∈ lw_all := lw_g (lw_at lw_m12 228 rfl) rfl
theorem q2947 : (Jvm.Cond.static ({ cls := "java/lang/StringUTF16", name := "coderFromArrayLen", desc := "([BI)B" } : Jvm.MethodName)) ∈ lw_all := lw_g (lw_at lw_m12 230 rfl) rfl
theorem q2948 : (Jvm.Cond.code ({ cls := "java/lang/StringUTF16", name := "coderFromArrayLen", desc := "([BI)B" } : Jvm.MethodName) prog_37_method_15_code (2 : Nat) (Option.some Jvm.ClassFile.FieldType.byte)) ∈ lw_all := lw_g (lw_at lw_m12 231 rfl) rfl
theorem q2987 : (Jvm.Cond.static ({ cls := "java/lang/StringUTF16", name := "fillNull", desc := "([BII)V" } : Jvm.MethodName)) ∈ lw_all := lw_g (lw_at lw_m13 30 rfl) rfl
theorem q2988 : (Jvm.Cond.code ({ cls := "java/lang/StringUTF16", name := "fillNull", desc := "([BII)V" } : Jvm.MethodName) prog_37_method_70_code (3 : Nat) (Option.none : Option Jvm.ClassFile.FieldType)) ∈ lw_all := lw_g (lw_at lw_m13 31 rfl) rfl
theorem q2989 : (Jvm.Cond.methodLink "java/lang/StringUTF16" (380 : Nat) ({ cls := "java/util/Arrays", name := "fill", desc := "([BIIB)V" } : Jvm.MethodName)) ∈ lw_all := lw_g (lw_at lw_m13 32 rfl) rfl
def RX0 : String := "TissueBalloonsLaw"
theorem q77 : (Jvm.Cond.initialized "TissueBalloonsLaw") ∈ lw_all := lw_g (lw_at lw_m1 0 rfl) rfl
theorem q144 : (Jvm.Cond.classLink "TissueBalloonsLaw" (8 : Nat) "TissueBalloons") ∈ lw_all := lw_g (lw_at lw_m1 67 rfl) rfl
theorem q146 : (Jvm.Cond.methodLink "TissueBalloonsLaw" (124 : Nat) ({ cls := "TissueBalloons", name := "<init>", desc := "()V" } : Jvm.MethodName)) ∈ lw_all := lw_g (lw_at lw_m1 69 rfl) rfl
theorem q604 : (Jvm.Cond.methodLink "TissueBalloonsLaw" (214 : Nat) ({ cls := "TissueBalloons", name := "errorPosition", desc := "()I" } : Jvm.MethodName)) ∈ lw_all := lw_g (lw_at lw_m3 47 rfl) rfl
theorem q608 : (Jvm.Cond.methodLink "TissueBalloonsLaw" (225 : Nat) ({ cls := "TissueBalloons", name := "isWell", desc := "()Z" } : Jvm.MethodName)) ∈ lw_all := lw_g (lw_at lw_m3 51 rfl) rfl
theorem q620 : (Jvm.Cond.methodLink "TissueBalloonsLaw" (240 : Nat) ({ cls := "TissueBalloons", name := "save", desc := "()I" } : Jvm.MethodName)) ∈ lw_all := lw_g (lw_at lw_m3 63 rfl) rfl
theorem q1729 : (Jvm.Cond.methodLink "TissueBalloonsLaw" (128 : Nat) ({ cls := "TissueBalloonsLaw", name := "wind", desc := "(LTissueBalloons;II[J)I" } : Jvm.MethodName)) ∈ lw_all := lw_g (lw_at lw_m7 212 rfl) rfl
theorem q1730 : (Jvm.Cond.static ({ cls := "TissueBalloonsLaw", name := "wind", desc := "(LTissueBalloons;II[J)I" } : Jvm.MethodName)) ∈ lw_all := lw_g (lw_at lw_m7 213 rfl) rfl
theorem q1731 : (Jvm.Cond.codeWith ({ cls := "TissueBalloonsLaw", name := "wind", desc := "(LTissueBalloons;II[J)I" } : Jvm.MethodName) method_3_code (5 : Nat) (Option.some Jvm.ClassFile.FieldType.int) [((0 : Nat), (10 : Nat), (13 : Nat), (13 : Nat)), ((0 : Nat), (10 : Nat), (17 : Nat), (15 : Nat))]) ∈ lw_all := lw_g (lw_at lw_m7 214 rfl) rfl
theorem q1732 : (Jvm.Cond.classLink "TissueBalloonsLaw" (13 : Nat) "java/lang/IndexOutOfBoundsException") ∈ lw_all := lw_g (lw_at lw_m7 215 rfl) rfl
theorem q1756 : (Jvm.Cond.classLink "TissueBalloonsLaw" (15 : Nat) "java/lang/IllegalArgumentException") ∈ lw_all := lw_g (lw_at lw_m7 239 rfl) rfl
theorem q1757 : (Jvm.Cond.methodLink "TissueBalloonsLaw" (7 : Nat) ({ cls := "TissueBalloons", name := "wind", desc := "(II)I" } : Jvm.MethodName)) ∈ lw_all := lw_g (lw_at lw_m8 0 rfl) rfl
theorem q1806 : (Jvm.Cond.methodLink "TissueBalloonsLaw" (137 : Nat) ({ cls := "TissueBalloonsLaw", name := "windOf", desc := "(LTissueBalloons;I[J)I" } : Jvm.MethodName)) ∈ lw_all := lw_g (lw_at lw_m8 49 rfl) rfl
theorem q1807 : (Jvm.Cond.static ({ cls := "TissueBalloonsLaw", name := "windOf", desc := "(LTissueBalloons;I[J)I" } : Jvm.MethodName)) ∈ lw_all := lw_g (lw_at lw_m8 50 rfl) rfl
theorem q1808 : (Jvm.Cond.codeWith ({ cls := "TissueBalloonsLaw", name := "windOf", desc := "(LTissueBalloons;I[J)I" } : Jvm.MethodName) method_4_code (4 : Nat) (Option.some Jvm.ClassFile.FieldType.int) [((0 : Nat), (9 : Nat), (12 : Nat), (13 : Nat))]) ∈ lw_all := lw_g (lw_at lw_m8 51 rfl) rfl
theorem q1809 : (Jvm.Cond.methodLink "TissueBalloonsLaw" (17 : Nat) ({ cls := "TissueBalloons", name := "windOf", desc := "(I)I" } : Jvm.MethodName)) ∈ lw_all := lw_g (lw_at lw_m8 52 rfl) rfl
theorem q1813 : (Jvm.Cond.methodLink "TissueBalloonsLaw" (141 : Nat) ({ cls := "TissueBalloonsLaw", name := "roof", desc := "(LTissueBalloons;II[J)I" } : Jvm.MethodName)) ∈ lw_all := lw_g (lw_at lw_m8 56 rfl) rfl
theorem q1814 : (Jvm.Cond.static ({ cls := "TissueBalloonsLaw", name := "roof", desc := "(LTissueBalloons;II[J)I" } : Jvm.MethodName)) ∈ lw_all := lw_g (lw_at lw_m8 57 rfl) rfl
theorem q1815 : (Jvm.Cond.codeWith ({ cls := "TissueBalloonsLaw", name := "roof", desc := "(LTissueBalloons;II[J)I" } : Jvm.MethodName) method_5_code (5 : Nat) (Option.some Jvm.ClassFile.FieldType.int) [((0 : Nat), (10 : Nat), (13 : Nat), (15 : Nat)), ((0 : Nat), (10 : Nat), (17 : Nat), (24 : Nat))]) ∈ lw_all := lw_g (lw_at lw_m8 58 rfl) rfl
theorem q1816 : (Jvm.Cond.classLink "TissueBalloonsLaw" (24 : Nat) "java/lang/UnsupportedOperationException") ∈ lw_all := lw_g (lw_at lw_m8 59 rfl) rfl
theorem q1817 : (Jvm.Cond.methodLink "TissueBalloonsLaw" (21 : Nat) ({ cls := "TissueBalloons", name := "roof", desc := "(II)I" } : Jvm.MethodName)) ∈ lw_all := lw_g (lw_at lw_m8 60 rfl) rfl
theorem q1913 : (Jvm.Cond.methodLink "TissueBalloonsLaw" (144 : Nat) ({ cls := "TissueBalloonsLaw", name := "roofOf", desc := "(LTissueBalloons;II[J)I" } : Jvm.MethodName)) ∈ lw_all := lw_g (lw_at lw_m8 156 rfl) rfl
theorem q1914 : (Jvm.Cond.static ({ cls := "TissueBalloonsLaw", name := "roofOf", desc := "(LTissueBalloons;II[J)I" } : Jvm.MethodName)) ∈ lw_all := lw_g (lw_at lw_m8 157 rfl) rfl
theorem q1915 : (Jvm.Cond.codeWith ({ cls := "TissueBalloonsLaw", name := "roofOf", desc := "(LTissueBalloons;II[J)I" } : Jvm.MethodName) method_6_code (5 : Nat) (Option.some Jvm.ClassFile.FieldType.int) [((0 : Nat), (10 : Nat), (13 : Nat), (29 : Nat)), ((0 : Nat), (10 : Nat), (17 : Nat), (15 : Nat))]) ∈ lw_all := lw_g (lw_at lw_m8 158 rfl) rfl
theorem q1916 : (Jvm.Cond.classLink "TissueBalloonsLaw" (29 : Nat) "java/util/NoSuchElementException") ∈ lw_all := lw_g (lw_at lw_m8 159 rfl) rfl
theorem q1917 : (Jvm.Cond.methodLink "TissueBalloonsLaw" (26 : Nat) ({ cls := "TissueBalloons", name := "roofOf", desc := "(II)I" } : Jvm.MethodName)) ∈ lw_all := lw_g (lw_at lw_m8 160 rfl) rfl
theorem q1931 : (Jvm.Cond.methodLink "TissueBalloonsLaw" (147 : Nat) ({ cls := "TissueBalloonsLaw", name := "roofAt", desc := "(LTissueBalloons;I[J)I" } : Jvm.MethodName)) ∈ lw_all := lw_g (lw_at lw_m8 174 rfl) rfl
theorem q1932 : (Jvm.Cond.static ({ cls := "TissueBalloonsLaw", name := "roofAt", desc := "(LTissueBalloons;I[J)I" } : Jvm.MethodName)) ∈ lw_all := lw_g (lw_at lw_m8 175 rfl) rfl
theorem q1933 : (Jvm.Cond.codeWith ({ cls := "TissueBalloonsLaw", name := "roofAt", desc := "(LTissueBalloons;I[J)I" } : Jvm.MethodName) method_7_code (4 : Nat) (Option.some Jvm.ClassFile.FieldType.int) [((0 : Nat), (9 : Nat), (12 : Nat), (13 : Nat))]) ∈ lw_all := lw_g (lw_at lw_m8 176 rfl) rfl
theorem q1934 : (Jvm.Cond.methodLink "TissueBalloonsLaw" (31 : Nat) ({ cls := "TissueBalloons", name := "roofAt", desc := "(I)I" } : Jvm.MethodName)) ∈ lw_all := lw_g (lw_at lw_m8 177 rfl) rfl
theorem q1951 : (Jvm.Cond.methodLink "TissueBalloonsLaw" (150 : Nat) ({ cls := "TissueBalloonsLaw", name := "nearest", desc := "(LTissueBalloons;I[J)I" } : Jvm.MethodName)) ∈ lw_all := lw_g (lw_at lw_m8 194 rfl) rfl
theorem q1952 : (Jvm.Cond.static ({ cls := "TissueBalloonsLaw", name := "nearest", desc := "(LTissueBalloons;I[J)I" } : Jvm.MethodName)) ∈ lw_all := lw_g (lw_at lw_m8 195 rfl) rfl
theorem q1953 : (Jvm.Cond.codeWith ({ cls := "TissueBalloonsLaw", name := "nearest", desc := "(LTissueBalloons;I[J)I" } : Jvm.MethodName) method_8_code (4 : Nat) (Option.some Jvm.ClassFile.FieldType.int) [((0 : Nat), (9 : Nat), (12 : Nat), (15 : Nat)), ((0 : Nat), (9 : Nat), (15 : Nat), (29 : Nat))]) ∈ lw_all := lw_g (lw_at lw_m8 196 rfl) rfl
theorem q1954 : (Jvm.Cond.methodLink "TissueBalloonsLaw" (34 : Nat) ({ cls := "TissueBalloons", name := "nearest", desc := "(I)I" } : Jvm.MethodName)) ∈ lw_all := lw_g (lw_at lw_m8 197 rfl) rfl
theorem q2039 : (Jvm.Cond.methodLink "TissueBalloonsLaw" (153 : Nat) ({ cls := "TissueBalloonsLaw", name := "watch", desc := "(LTissueBalloons;IZ[J)I" } : Jvm.MethodName)) ∈ lw_all := lw_g (lw_at lw_m9 42 rfl) rfl
theorem q2040 : (Jvm.Cond.static ({ cls := "TissueBalloonsLaw", name := "watch", desc := "(LTissueBalloons;IZ[J)I" } : Jvm.MethodName)) ∈ lw_all := lw_g (lw_at lw_m9 43 rfl) rfl
theorem q2041 : (Jvm.Cond.codeWith ({ cls := "TissueBalloonsLaw", name := "watch", desc := "(LTissueBalloons;IZ[J)I" } : Jvm.MethodName) method_9_code (5 : Nat) (Option.some Jvm.ClassFile.FieldType.int) [((0 : Nat), (10 : Nat), (13 : Nat), (29 : Nat))]) ∈ lw_all := lw_g (lw_at lw_m9 44 rfl) rfl
theorem q2042 : (Jvm.Cond.methodLink "TissueBalloonsLaw" (37 : Nat) ({ cls := "TissueBalloons", name := "watch", desc := "(IZ)I" } : Jvm.MethodName)) ∈ lw_all := lw_g (lw_at lw_m9 45 rfl) rfl
theorem q2092 : (Jvm.Cond.methodLink "TissueBalloonsLaw" (157 : Nat) ({ cls := "TissueBalloonsLaw", name := "wet", desc := "(LTissueBalloons;II[J)I" } : Jvm.MethodName)) ∈ lw_all := lw_g (lw_at lw_m9 95 rfl) rfl
theorem q2093 : (Jvm.Cond.static ({ cls := "TissueBalloonsLaw", name := "wet", desc := "(LTissueBalloons;II[J)I" } : Jvm.MethodName)) ∈ lw_all := lw_g (lw_at lw_m9 96 rfl) rfl
theorem q2094 : (Jvm.Cond.codeWith ({ cls := "TissueBalloonsLaw", name := "wet", desc := "(LTissueBalloons;II[J)I" } : Jvm.MethodName) method_10_code (5 : Nat) (Option.some Jvm.ClassFile.FieldType.int) [((0 : Nat), (10 : Nat), (13 : Nat), (29 : Nat)), ((0 : Nat), (10 : Nat), (17 : Nat), (15 : Nat)), ((0 : Nat), (10 : Nat), (21 : Nat), (24 : Nat))]) ∈ lw_all := lw_g (lw_at lw_m9 97 rfl) rfl
theorem q2095 : (Jvm.Cond.methodLink "TissueBalloonsLaw" (41 : Nat) ({ cls := "TissueBalloons", name := "wet", desc := "(II)I" } : Jvm.MethodName)) ∈ lw_all := lw_g (lw_at lw_m9 98 rfl) rfl
theorem q2104 : (Jvm.Cond.methodLink "TissueBalloonsLaw" (160 : Nat) ({ cls := "TissueBalloonsLaw", name := "sign", desc := "(LTissueBalloons;I[J)I" } : Jvm.MethodName)) ∈ lw_all := lw_g (lw_at lw_m9 107 rfl) rfl
theorem q2105 : (Jvm.Cond.static ({ cls := "TissueBalloonsLaw", name := "sign", desc := "(LTissueBalloons;I[J)I" } : Jvm.MethodName)) ∈ lw_all := lw_g (lw_at lw_m9 108 rfl) rfl
theorem q2106 : (Jvm.Cond.codeWith ({ cls := "TissueBalloonsLaw", name := "sign", desc := "(LTissueBalloons;I[J)I" } : Jvm.MethodName) method_11_code (4 : Nat) (Option.some Jvm.ClassFile.FieldType.int) [((0 : Nat), (9 : Nat), (12 : Nat), (15 : Nat))]) ∈ lw_all := lw_g (lw_at lw_m9 109 rfl) rfl
theorem q2107 : (Jvm.Cond.methodLink "TissueBalloonsLaw" (44 : Nat) ({ cls := "TissueBalloons", name := "sign", desc := "(I)C" } : Jvm.MethodName)) ∈ lw_all := lw_g (lw_at lw_m9 110 rfl) rfl
theorem q2119 : (Jvm.Cond.methodLink "TissueBalloonsLaw" (163 : Nat) ({ cls := "TissueBalloonsLaw", name := "balloon", desc := "(LTissueBalloons;III[J)I" } : Jvm.MethodName)) ∈ lw_all := lw_g (lw_at lw_m9 122 rfl) rfl
theorem q2120 : (Jvm.Cond.static ({ cls := "TissueBalloonsLaw", name := "balloon", desc := "(LTissueBalloons;III[J)I" } : Jvm.MethodName)) ∈ lw_all := lw_g (lw_at lw_m9 123 rfl) rfl
theorem q2121 : (Jvm.Cond.codeWith ({ cls := "TissueBalloonsLaw", name := "balloon", desc := "(LTissueBalloons;III[J)I" } : Jvm.MethodName) method_12_code (6 : Nat) (Option.some Jvm.ClassFile.FieldType.int) [((0 : Nat), (12 : Nat), (15 : Nat), (15 : Nat)), ((0 : Nat), (12 : Nat), (19 : Nat), (24 : Nat))]) ∈ lw_all := lw_g (lw_at lw_m9 124 rfl) rfl
theorem q2122 : (Jvm.Cond.methodLink "TissueBalloonsLaw" (48 : Nat) ({ cls := "TissueBalloons", name := "balloon", desc := "(III)I" } : Jvm.MethodName)) ∈ lw_all := lw_g (lw_at lw_m9 125 rfl) rfl
theorem q2131 : (Jvm.Cond.methodLink "TissueBalloonsLaw" (167 : Nat) ({ cls := "TissueBalloonsLaw", name := "crew", desc := "(LTissueBalloons;I[J)I" } : Jvm.MethodName)) ∈ lw_all := lw_g (lw_at lw_m9 134 rfl) rfl
theorem q2132 : (Jvm.Cond.static ({ cls := "TissueBalloonsLaw", name := "crew", desc := "(LTissueBalloons;I[J)I" } : Jvm.MethodName)) ∈ lw_all := lw_g (lw_at lw_m9 135 rfl) rfl
theorem q2133 : (Jvm.Cond.codeWith ({ cls := "TissueBalloonsLaw", name := "crew", desc := "(LTissueBalloons;I[J)I" } : Jvm.MethodName) method_13_code (4 : Nat) (Option.some Jvm.ClassFile.FieldType.int) [((0 : Nat), (9 : Nat), (12 : Nat), (15 : Nat)), ((0 : Nat), (9 : Nat), (15 : Nat), (24 : Nat))]) ∈ lw_all := lw_g (lw_at lw_m9 136 rfl) rfl
theorem q2134 : (Jvm.Cond.methodLink "TissueBalloonsLaw" (52 : Nat) ({ cls := "TissueBalloons", name := "crew", desc := "(I)I" } : Jvm.MethodName)) ∈ lw_all := lw_g (lw_at lw_m9 137 rfl) rfl
theorem q2143 : (Jvm.Cond.methodLink "TissueBalloonsLaw" (170 : Nat) ({ cls := "TissueBalloonsLaw", name := "crewOf", desc := "(LTissueBalloons;II[J)I" } : Jvm.MethodName)) ∈ lw_all := lw_g (lw_at lw_m9 146 rfl) rfl
theorem q2144 : (Jvm.Cond.static ({ cls := "TissueBalloonsLaw", name := "crewOf", desc := "(LTissueBalloons;II[J)I" } : Jvm.MethodName)) ∈ lw_all := lw_g (lw_at lw_m9 147 rfl) rfl
theorem q2145 : (Jvm.Cond.codeWith ({ cls := "TissueBalloonsLaw", name := "crewOf", desc := "(LTissueBalloons;II[J)I" } : Jvm.MethodName) method_14_code (5 : Nat) (Option.some Jvm.ClassFile.FieldType.int) [((0 : Nat), (10 : Nat), (13 : Nat), (13 : Nat)), ((0 : Nat), (10 : Nat), (17 : Nat), (15 : Nat))]) ∈ lw_all := lw_g (lw_at lw_m9 148 rfl) rfl
theorem q2146 : (Jvm.Cond.methodLink "TissueBalloonsLaw" (55 : Nat) ({ cls := "TissueBalloons", name := "crewOf", desc := "(II)I" } : Jvm.MethodName)) ∈ lw_all := lw_g (lw_at lw_m9 149 rfl) rfl
theorem q2155 : (Jvm.Cond.methodLink "TissueBalloonsLaw" (173 : Nat) ({ cls := "TissueBalloonsLaw", name := "launch", desc := "(LTissueBalloons;II[J)I" } : Jvm.MethodName)) ∈ lw_all := lw_g (lw_at lw_m9 158 rfl) rfl
theorem q2156 : (Jvm.Cond.static ({ cls := "TissueBalloonsLaw", name := "launch", desc := "(LTissueBalloons;II[J)I" } : Jvm.MethodName)) ∈ lw_all := lw_g (lw_at lw_m9 159 rfl) rfl
theorem q2157 : (Jvm.Cond.codeWith ({ cls := "TissueBalloonsLaw", name := "launch", desc := "(LTissueBalloons;II[J)I" } : Jvm.MethodName) method_15_code (5 : Nat) (Option.some Jvm.ClassFile.FieldType.int) [((0 : Nat), (10 : Nat), (13 : Nat), (13 : Nat)), ((0 : Nat), (10 : Nat), (17 : Nat), (24 : Nat))]) ∈ lw_all := lw_g (lw_at lw_m9 160 rfl) rfl
theorem q2158 : (Jvm.Cond.methodLink "TissueBalloonsLaw" (58 : Nat) ({ cls := "TissueBalloons", name := "launch", desc := "(II)I" } : Jvm.MethodName)) ∈ lw_all := lw_g (lw_at lw_m9 161 rfl) rfl
theorem q2176 : (Jvm.Cond.methodLink "TissueBalloonsLaw" (176 : Nat) ({ cls := "TissueBalloonsLaw", name := "plan", desc := "(LTissueBalloons;III[J)I" } : Jvm.MethodName)) ∈ lw_all := lw_g (lw_at lw_m9 179 rfl) rfl
theorem q2177 : (Jvm.Cond.static ({ cls := "TissueBalloonsLaw", name := "plan", desc := "(LTissueBalloons;III[J)I" } : Jvm.MethodName)) ∈ lw_all := lw_g (lw_at lw_m9 180 rfl) rfl
theorem q2178 : (Jvm.Cond.codeWith ({ cls := "TissueBalloonsLaw", name := "plan", desc := "(LTissueBalloons;III[J)I" } : Jvm.MethodName) method_16_code (6 : Nat) (Option.some Jvm.ClassFile.FieldType.int) [((0 : Nat), (12 : Nat), (15 : Nat), (13 : Nat)), ((0 : Nat), (12 : Nat), (19 : Nat), (15 : Nat)), ((0 : Nat), (12 : Nat), (23 : Nat), (24 : Nat))]) ∈ lw_all := lw_g (lw_at lw_m9 181 rfl) rfl
theorem q2179 : (Jvm.Cond.methodLink "TissueBalloonsLaw" (61 : Nat) ({ cls := "TissueBalloons", name := "plan", desc := "(III)I" } : Jvm.MethodName)) ∈ lw_all := lw_g (lw_at lw_m9 182 rfl) rfl
theorem q2314 : (Jvm.Cond.methodLink "TissueBalloonsLaw" (179 : Nat) ({ cls := "TissueBalloonsLaw", name := "drop", desc := "(LTissueBalloons;I[J)I" } : Jvm.MethodName)) ∈ lw_all := lw_g (lw_at lw_m10 77 rfl) rfl
theorem q2315 : (Jvm.Cond.static ({ cls := "TissueBalloonsLaw", name := "drop", desc := "(LTissueBalloons;I[J)I" } : Jvm.MethodName)) ∈ lw_all := lw_g (lw_at lw_m10 78 rfl) rfl
theorem q2316 : (Jvm.Cond.codeWith ({ cls := "TissueBalloonsLaw", name := "drop", desc := "(LTissueBalloons;I[J)I" } : Jvm.MethodName) method_17_code (4 : Nat) (Option.some Jvm.ClassFile.FieldType.int) [((0 : Nat), (9 : Nat), (12 : Nat), (13 : Nat)), ((0 : Nat), (9 : Nat), (15 : Nat), (29 : Nat))]) ∈ lw_all := lw_g (lw_at lw_m10 79 rfl) rfl
theorem q2317 : (Jvm.Cond.methodLink "TissueBalloonsLaw" (64 : Nat) ({ cls := "TissueBalloons", name := "drop", desc := "(I)I" } : Jvm.MethodName)) ∈ lw_all := lw_g (lw_at lw_m10 80 rfl) rfl
theorem q2345 : (Jvm.Cond.methodLink "TissueBalloonsLaw" (182 : Nat) ({ cls := "TissueBalloonsLaw", name := "planAt", desc := "(LTissueBalloons;II[J)I" } : Jvm.MethodName)) ∈ lw_all := lw_g (lw_at lw_m10 108 rfl) rfl
theorem q2346 : (Jvm.Cond.static ({ cls := "TissueBalloonsLaw", name := "planAt", desc := "(LTissueBalloons;II[J)I" } : Jvm.MethodName)) ∈ lw_all := lw_g (lw_at lw_m10 109 rfl) rfl
theorem q2347 : (Jvm.Cond.codeWith ({ cls := "TissueBalloonsLaw", name := "planAt", desc := "(LTissueBalloons;II[J)I" } : Jvm.MethodName) method_18_code (5 : Nat) (Option.some Jvm.ClassFile.FieldType.int) [((0 : Nat), (10 : Nat), (13 : Nat), (13 : Nat)), ((0 : Nat), (10 : Nat), (17 : Nat), (15 : Nat))]) ∈ lw_all := lw_g (lw_at lw_m10 110 rfl) rfl
theorem q2348 : (Jvm.Cond.methodLink "TissueBalloonsLaw" (67 : Nat) ({ cls := "TissueBalloons", name := "planAt", desc := "(II)I" } : Jvm.MethodName)) ∈ lw_all := lw_g (lw_at lw_m10 111 rfl) rfl
theorem q2357 : (Jvm.Cond.methodLink "TissueBalloonsLaw" (185 : Nat) ({ cls := "TissueBalloonsLaw", name := "balloonOf", desc := "(LTissueBalloons;II[J)I" } : Jvm.MethodName)) ∈ lw_all := lw_g (lw_at lw_m10 120 rfl) rfl
theorem q2358 : (Jvm.Cond.static ({ cls := "TissueBalloonsLaw", name := "balloonOf", desc := "(LTissueBalloons;II[J)I" } : Jvm.MethodName)) ∈ lw_all := lw_g (lw_at lw_m10 121 rfl) rfl
theorem q2359 : (Jvm.Cond.codeWith ({ cls := "TissueBalloonsLaw", name := "balloonOf", desc := "(LTissueBalloons;II[J)I" } : Jvm.MethodName) method_19_code (5 : Nat) (Option.some Jvm.ClassFile.FieldType.int) [((0 : Nat), (10 : Nat), (13 : Nat), (13 : Nat)), ((0 : Nat), (10 : Nat), (17 : Nat), (15 : Nat))]) ∈ lw_all := lw_g (lw_at lw_m10 122 rfl) rfl
theorem q2360 : (Jvm.Cond.methodLink "TissueBalloonsLaw" (70 : Nat) ({ cls := "TissueBalloons", name := "balloonOf", desc := "(II)I" } : Jvm.MethodName)) ∈ lw_all := lw_g (lw_at lw_m10 123 rfl) rfl
theorem q2368 : (Jvm.Cond.methodLink "TissueBalloonsLaw" (188 : Nat) ({ cls := "TissueBalloonsLaw", name := "highest", desc := "(LTissueBalloons;I[J)I" } : Jvm.MethodName)) ∈ lw_all := lw_g (lw_at lw_m10 131 rfl) rfl
theorem q2369 : (Jvm.Cond.static ({ cls := "TissueBalloonsLaw", name := "highest", desc := "(LTissueBalloons;I[J)I" } : Jvm.MethodName)) ∈ lw_all := lw_g (lw_at lw_m10 132 rfl) rfl
theorem q2370 : (Jvm.Cond.codeWith ({ cls := "TissueBalloonsLaw", name := "highest", desc := "(LTissueBalloons;I[J)I" } : Jvm.MethodName) method_20_code (4 : Nat) (Option.some Jvm.ClassFile.FieldType.int) [((0 : Nat), (9 : Nat), (12 : Nat), (29 : Nat))]) ∈ lw_all := lw_g (lw_at lw_m10 133 rfl) rfl
theorem q2371 : (Jvm.Cond.methodLink "TissueBalloonsLaw" (73 : Nat) ({ cls := "TissueBalloons", name := "highest", desc := "(I)I" } : Jvm.MethodName)) ∈ lw_all := lw_g (lw_at lw_m10 134 rfl) rfl
theorem q2394 : (Jvm.Cond.methodLink "TissueBalloonsLaw" (191 : Nat) ({ cls := "TissueBalloonsLaw", name := "ranked", desc := "(LTissueBalloons;I[J)I" } : Jvm.MethodName)) ∈ lw_all := lw_g (lw_at lw_m10 157 rfl) rfl
theorem q2395 : (Jvm.Cond.static ({ cls := "TissueBalloonsLaw", name := "ranked", desc := "(LTissueBalloons;I[J)I" } : Jvm.MethodName)) ∈ lw_all := lw_g (lw_at lw_m10 158 rfl) rfl
theorem q2396 : (Jvm.Cond.codeWith ({ cls := "TissueBalloonsLaw", name := "ranked", desc := "(LTissueBalloons;I[J)I" } : Jvm.MethodName) method_21_code (4 : Nat) (Option.some Jvm.ClassFile.FieldType.int) [((0 : Nat), (9 : Nat), (12 : Nat), (29 : Nat))]) ∈ lw_all := lw_g (lw_at lw_m10 159 rfl) rfl
theorem q2397 : (Jvm.Cond.methodLink "TissueBalloonsLaw" (76 : Nat) ({ cls := "TissueBalloons", name := "ranked", desc := "(I)I" } : Jvm.MethodName)) ∈ lw_all := lw_g (lw_at lw_m10 160 rfl) rfl
theorem q2465 : (Jvm.Cond.methodLink "TissueBalloonsLaw" (194 : Nat) ({ cls := "TissueBalloonsLaw", name := "layerIn", desc := "(LTissueBalloons;II[J)I" } : Jvm.MethodName)) ∈ lw_all := lw_g (lw_at lw_m10 228 rfl) rfl
theorem q2466 : (Jvm.Cond.static ({ cls := "TissueBalloonsLaw", name := "layerIn", desc := "(LTissueBalloons;II[J)I" } : Jvm.MethodName)) ∈ lw_all := lw_g (lw_at lw_m10 229 rfl) rfl
theorem q2467 : (Jvm.Cond.codeWith ({ cls := "TissueBalloonsLaw", name := "layerIn", desc := "(LTissueBalloons;II[J)I" } : Jvm.MethodName) method_22_code (5 : Nat) (Option.some Jvm.ClassFile.FieldType.int) [((0 : Nat), (10 : Nat), (13 : Nat), (13 : Nat)), ((0 : Nat), (10 : Nat), (17 : Nat), (15 : Nat)), ((0 : Nat), (10 : Nat), (21 : Nat), (29 : Nat))]) ∈ lw_all := lw_g (lw_at lw_m10 230 rfl) rfl
theorem q2468 : (Jvm.Cond.methodLink "TissueBalloonsLaw" (79 : Nat) ({ cls := "TissueBalloons", name := "layerIn", desc := "(II)I" } : Jvm.MethodName)) ∈ lw_all := lw_g (lw_at lw_m10 231 rfl) rfl
theorem q2478 : (Jvm.Cond.methodLink "TissueBalloonsLaw" (197 : Nat) ({ cls := "TissueBalloonsLaw", name := "layerAgain", desc := "(LTissueBalloons;II[J)I" } : Jvm.MethodName)) ∈ lw_all := lw_g (lw_at lw_m11 1 rfl) rfl
theorem q2479 : (Jvm.Cond.static ({ cls := "TissueBalloonsLaw", name := "layerAgain", desc := "(LTissueBalloons;II[J)I" } : Jvm.MethodName)) ∈ lw_all := lw_g (lw_at lw_m11 2 rfl) rfl
theorem q2480 : (Jvm.Cond.codeWith ({ cls := "TissueBalloonsLaw", name := "layerAgain", desc := "(LTissueBalloons;II[J)I" } : Jvm.MethodName) method_23_code (5 : Nat) (Option.some Jvm.ClassFile.FieldType.int) [((0 : Nat), (10 : Nat), (13 : Nat), (13 : Nat)), ((0 : Nat), (10 : Nat), (17 : Nat), (15 : Nat)), ((0 : Nat), (10 : Nat), (21 : Nat), (29 : Nat))]) ∈ lw_all := lw_g (lw_at lw_m11 3 rfl) rfl
theorem q2481 : (Jvm.Cond.methodLink "TissueBalloonsLaw" (82 : Nat) ({ cls := "TissueBalloons", name := "layerAgain", desc := "(II)I" } : Jvm.MethodName)) ∈ lw_all := lw_g (lw_at lw_m11 4 rfl) rfl
theorem q2489 : (Jvm.Cond.methodLink "TissueBalloonsLaw" (200 : Nat) ({ cls := "TissueBalloonsLaw", name := "would", desc := "(LTissueBalloons;II[J)I" } : Jvm.MethodName)) ∈ lw_all := lw_g (lw_at lw_m11 12 rfl) rfl
theorem q2490 : (Jvm.Cond.static ({ cls := "TissueBalloonsLaw", name := "would", desc := "(LTissueBalloons;II[J)I" } : Jvm.MethodName)) ∈ lw_all := lw_g (lw_at lw_m11 13 rfl) rfl
theorem q2491 : (Jvm.Cond.codeWith ({ cls := "TissueBalloonsLaw", name := "would", desc := "(LTissueBalloons;II[J)I" } : Jvm.MethodName) method_24_code (5 : Nat) (Option.some Jvm.ClassFile.FieldType.int) [((0 : Nat), (10 : Nat), (13 : Nat), (13 : Nat)), ((0 : Nat), (10 : Nat), (17 : Nat), (15 : Nat)), ((0 : Nat), (10 : Nat), (21 : Nat), (29 : Nat))]) ∈ lw_all := lw_g (lw_at lw_m11 14 rfl) rfl
theorem q2492 : (Jvm.Cond.methodLink "TissueBalloonsLaw" (85 : Nat) ({ cls := "TissueBalloons", name := "would", desc := "(II)I" } : Jvm.MethodName)) ∈ lw_all := lw_g (lw_at lw_m11 15 rfl) rfl
theorem q2658 : (Jvm.Cond.methodLink "TissueBalloonsLaw" (203 : Nat) ({ cls := "TissueBalloonsLaw", name := "pass", desc := "(LTissueBalloons;I[J)I" } : Jvm.MethodName)) ∈ lw_all := lw_g (lw_at lw_m11 181 rfl) rfl
theorem q2659 : (Jvm.Cond.static ({ cls := "TissueBalloonsLaw", name := "pass", desc := "(LTissueBalloons;I[J)I" } : Jvm.MethodName)) ∈ lw_all := lw_g (lw_at lw_m11 182 rfl) rfl
theorem q2660 : (Jvm.Cond.codeWith ({ cls := "TissueBalloonsLaw", name := "pass", desc := "(LTissueBalloons;I[J)I" } : Jvm.MethodName) method_25_code (4 : Nat) (Option.some Jvm.ClassFile.FieldType.int) [((0 : Nat), (9 : Nat), (12 : Nat), (15 : Nat))]) ∈ lw_all := lw_g (lw_at lw_m11 183 rfl) rfl
theorem q2661 : (Jvm.Cond.methodLink "TissueBalloonsLaw" (88 : Nat) ({ cls := "TissueBalloons", name := "pass", desc := "(I)I" } : Jvm.MethodName)) ∈ lw_all := lw_g (lw_at lw_m11 184 rfl) rfl
theorem q2669 : (Jvm.Cond.methodLink "TissueBalloonsLaw" (206 : Nat) ({ cls := "TissueBalloonsLaw", name := "append", desc := "(LTissueBalloons;C[J)I" } : Jvm.MethodName)) ∈ lw_all := lw_g (lw_at lw_m11 192 rfl) rfl
theorem q2670 : (Jvm.Cond.static ({ cls := "TissueBalloonsLaw", name := "append", desc := "(LTissueBalloons;C[J)I" } : Jvm.MethodName)) ∈ lw_all := lw_g (lw_at lw_m11 193 rfl) rfl
theorem q2671 : (Jvm.Cond.codeWith ({ cls := "TissueBalloonsLaw", name := "append", desc := "(LTissueBalloons;C[J)I" } : Jvm.MethodName) method_26_code (4 : Nat) (Option.some Jvm.ClassFile.FieldType.int) [((0 : Nat), (9 : Nat), (12 : Nat), (95 : Nat))]) ∈ lw_all := lw_g (lw_at lw_m11 194 rfl) rfl
theorem q2672 : (Jvm.Cond.classLink "TissueBalloonsLaw" (95 : Nat) "java/lang/IllegalStateException") ∈ lw_all := lw_g (lw_at lw_m11 195 rfl) rfl
theorem q2673 : (Jvm.Cond.methodLink "TissueBalloonsLaw" (91 : Nat) ({ cls := "TissueBalloons", name := "append", desc := "(C)I" } : Jvm.MethodName)) ∈ lw_all := lw_g (lw_at lw_m11 196 rfl) rfl
theorem q2753 : (Jvm.Cond.methodLink "TissueBalloonsLaw" (210 : Nat) ({ cls := "TissueBalloonsLaw", name := "read", desc := "(LTissueBalloons;[J)I" } : Jvm.MethodName)) ∈ lw_all := lw_g (lw_at lw_m12 36 rfl) rfl
theorem q2754 : (Jvm.Cond.static ({ cls := "TissueBalloonsLaw", name := "read", desc := "(LTissueBalloons;[J)I" } : Jvm.MethodName)) ∈ lw_all := lw_g (lw_at lw_m12 37 rfl) rfl
theorem q2755 : (Jvm.Cond.codeWith ({ cls := "TissueBalloonsLaw", name := "read", desc := "(LTissueBalloons;[J)I" } : Jvm.MethodName) method_27_code (3 : Nat) (Option.some Jvm.ClassFile.FieldType.int) [((0 : Nat), (8 : Nat), (11 : Nat), (15 : Nat)), ((0 : Nat), (8 : Nat), (14 : Nat), (24 : Nat))]) ∈ lw_all := lw_g (lw_at lw_m12 38 rfl) rfl
theorem q2756 : (Jvm.Cond.methodLink "TissueBalloonsLaw" (97 : Nat) ({ cls := "TissueBalloons", name := "read", desc := "()I" } : Jvm.MethodName)) ∈ lw_all := lw_g (lw_at lw_m12 39 rfl) rfl
theorem q3008 : (Jvm.Cond.methodLink "TissueBalloonsLaw" (218 : Nat) ({ cls := "TissueBalloonsLaw", name := "refusal", desc := "(LTissueBalloons;Z[J)I" } : Jvm.MethodName)) ∈ lw_all := lw_g (lw_at lw_m13 51 rfl) rfl
theorem q3009 : (Jvm.Cond.static ({ cls := "TissueBalloonsLaw", name := "refusal", desc := "(LTissueBalloons;Z[J)I" } : Jvm.MethodName)) ∈ lw_all := lw_g (lw_at lw_m13 52 rfl) rfl
theorem q3010 : (Jvm.Cond.codeWith ({ cls := "TissueBalloonsLaw", name := "refusal", desc := "(LTissueBalloons;Z[J)I" } : Jvm.MethodName) method_28_code (4 : Nat) (Option.some Jvm.ClassFile.FieldType.int) [((0 : Nat), (9 : Nat), (12 : Nat), (29 : Nat))]) ∈ lw_all := lw_g (lw_at lw_m13 53 rfl) rfl
theorem q3011 : (Jvm.Cond.methodLink "TissueBalloonsLaw" (101 : Nat) ({ cls := "TissueBalloons", name := "refusal", desc := "(Z)I" } : Jvm.MethodName)) ∈ lw_all := lw_g (lw_at lw_m13 54 rfl) rfl
theorem q3015 : (Jvm.Cond.methodLink "TissueBalloonsLaw" (222 : Nat) ({ cls := "TissueBalloonsLaw", name := "account", desc := "(LTissueBalloons;I[J)I" } : Jvm.MethodName)) ∈ lw_all := lw_g (lw_at lw_m13 58 rfl) rfl
theorem q3016 : (Jvm.Cond.static ({ cls := "TissueBalloonsLaw", name := "account", desc := "(LTissueBalloons;I[J)I" } : Jvm.MethodName)) ∈ lw_all := lw_g (lw_at lw_m13 59 rfl) rfl
theorem q3017 : (Jvm.Cond.codeWith ({ cls := "TissueBalloonsLaw", name := "account", desc := "(LTissueBalloons;I[J)I" } : Jvm.MethodName) method_29_code (4 : Nat) (Option.some Jvm.ClassFile.FieldType.int) [((0 : Nat), (9 : Nat), (12 : Nat), (15 : Nat))]) ∈ lw_all := lw_g (lw_at lw_m13 60 rfl) rfl
theorem q3018 : (Jvm.Cond.methodLink "TissueBalloonsLaw" (105 : Nat) ({ cls := "TissueBalloons", name := "account", desc := "(I)I" } : Jvm.MethodName)) ∈ lw_all := lw_g (lw_at lw_m13 61 rfl) rfl
theorem q3033 : (Jvm.Cond.methodLink "TissueBalloonsLaw" (230 : Nat) ({ cls := "TissueBalloonsLaw", name := "meanFlight", desc := "(LTissueBalloons;[D)I" } : Jvm.MethodName)) ∈ lw_all := lw_g (lw_at lw_m13 76 rfl) rfl
theorem q3034 : (Jvm.Cond.static ({ cls := "TissueBalloonsLaw", name := "meanFlight", desc := "(LTissueBalloons;[D)I" } : Jvm.MethodName)) ∈ lw_all := lw_g (lw_at lw_m13 77 rfl) rfl
theorem q3035 : (Jvm.Cond.codeWith ({ cls := "TissueBalloonsLaw", name := "meanFlight", desc := "(LTissueBalloons;[D)I" } : Jvm.MethodName) method_30_code (3 : Nat) (Option.some Jvm.ClassFile.FieldType.int) [((0 : Nat), (7 : Nat), (10 : Nat), (112 : Nat))]) ∈ lw_all := lw_g (lw_at lw_m13 78 rfl) rfl
theorem q3036 : (Jvm.Cond.classLink "TissueBalloonsLaw" (112 : Nat) "java/lang/ArithmeticException") ∈ lw_all := lw_g (lw_at lw_m13 79 rfl) rfl
theorem q3050 : (Jvm.Cond.methodLink "TissueBalloonsLaw" (108 : Nat) ({ cls := "TissueBalloons", name := "meanFlight", desc := "()D" } : Jvm.MethodName)) ∈ lw_all := lw_g (lw_at lw_m13 93 rfl) rfl
theorem q3062 : (Jvm.Cond.methodLink "TissueBalloonsLaw" (234 : Nat) ({ cls := "TissueBalloonsLaw", name := "burnt", desc := "(LTissueBalloons;[D)I" } : Jvm.MethodName)) ∈ lw_all := lw_g (lw_at lw_m13 105 rfl) rfl
theorem q3063 : (Jvm.Cond.static ({ cls := "TissueBalloonsLaw", name := "burnt", desc := "(LTissueBalloons;[D)I" } : Jvm.MethodName)) ∈ lw_all := lw_g (lw_at lw_m13 106 rfl) rfl
theorem q3064 : (Jvm.Cond.codeWith ({ cls := "TissueBalloonsLaw", name := "burnt", desc := "(LTissueBalloons;[D)I" } : Jvm.MethodName) method_31_code (3 : Nat) (Option.some Jvm.ClassFile.FieldType.int) [((0 : Nat), (8 : Nat), (11 : Nat), (112 : Nat))]) ∈ lw_all := lw_g (lw_at lw_m13 107 rfl) rfl
theorem q3065 : (Jvm.Cond.methodLink "TissueBalloonsLaw" (114 : Nat) ({ cls := "TissueBalloons", name := "burnt", desc := "()F" } : Jvm.MethodName)) ∈ lw_all := lw_g (lw_at lw_m13 108 rfl) rfl
theorem q3069 : (Jvm.Cond.methodLink "TissueBalloonsLaw" (237 : Nat) ({ cls := "TissueBalloonsLaw", name := "undo", desc := "(LTissueBalloons;[J)I" } : Jvm.MethodName)) ∈ lw_all := lw_g (lw_at lw_m13 112 rfl) rfl
theorem q3070 : (Jvm.Cond.static ({ cls := "TissueBalloonsLaw", name := "undo", desc := "(LTissueBalloons;[J)I" } : Jvm.MethodName)) ∈ lw_all := lw_g (lw_at lw_m13 113 rfl) rfl
theorem q3071 : (Jvm.Cond.codeWith ({ cls := "TissueBalloonsLaw", name := "undo", desc := "(LTissueBalloons;[J)I" } : Jvm.MethodName) method_32_code (3 : Nat) (Option.some Jvm.ClassFile.FieldType.int) [((0 : Nat), (8 : Nat), (11 : Nat), (95 : Nat))]) ∈ lw_all := lw_g (lw_at lw_m13 114 rfl) rfl
theorem q3072 : (Jvm.Cond.methodLink "TissueBalloonsLaw" (118 : Nat) ({ cls := "TissueBalloons", name := "undo", desc := "()I" } : Jvm.MethodName)) ∈ lw_all := lw_g (lw_at lw_m13 115 rfl) rfl
theorem q3080 : (Jvm.Cond.methodLink "TissueBalloonsLaw" (244 : Nat) ({ cls := "TissueBalloonsLaw", name := "restore", desc := "(LTissueBalloons;[J)I" } : Jvm.MethodName)) ∈ lw_all := lw_g (lw_at lw_m13 123 rfl) rfl
theorem q3081 : (Jvm.Cond.static ({ cls := "TissueBalloonsLaw", name := "restore", desc := "(LTissueBalloons;[J)I" } : Jvm.MethodName)) ∈ lw_all := lw_g (lw_at lw_m13 124 rfl) rfl
theorem q3082 : (Jvm.Cond.codeWith ({ cls := "TissueBalloonsLaw", name := "restore", desc := "(LTissueBalloons;[J)I" } : Jvm.MethodName) method_33_code (3 : Nat) (Option.some Jvm.ClassFile.FieldType.int) [((0 : Nat), (8 : Nat), (11 : Nat), (95 : Nat))]) ∈ lw_all := lw_g (lw_at lw_m13 125 rfl) rfl
theorem q3083 : (Jvm.Cond.methodLink "TissueBalloonsLaw" (121 : Nat) ({ cls := "TissueBalloons", name := "restore", desc := "()I" } : Jvm.MethodName)) ∈ lw_all := lw_g (lw_at lw_m13 126 rfl) rfl
theorem q3087 : (Jvm.Cond.classLink "TissueBalloonsLaw" (125 : Nat) "TissueBalloonsModel") ∈ lw_all := lw_g (lw_at lw_m13 130 rfl) rfl
theorem q3089 : (Jvm.Cond.methodLink "TissueBalloonsLaw" (127 : Nat) ({ cls := "TissueBalloonsModel", name := "<init>", desc := "()V" } : Jvm.MethodName)) ∈ lw_all := lw_g (lw_at lw_m13 132 rfl) rfl
theorem q3157 : (Jvm.Cond.methodLink "TissueBalloonsLaw" (134 : Nat) ({ cls := "TissueBalloonsModel", name := "thrown", desc := "()I" } : Jvm.MethodName)) ∈ lw_all := lw_g (lw_at lw_m13 200 rfl) rfl
theorem q3161 : (Jvm.Cond.methodLink "TissueBalloonsLaw" (133 : Nat) ({ cls := "TissueBalloonsModel", name := "wind", desc := "(II)I" } : Jvm.MethodName)) ∈ lw_all := lw_g (lw_at lw_m13 204 rfl) rfl
theorem q3193 : (Jvm.Cond.methodLink "TissueBalloonsLaw" (140 : Nat) ({ cls := "TissueBalloonsModel", name := "windOf", desc := "(I)I" } : Jvm.MethodName)) ∈ lw_all := lw_g (lw_at lw_m13 236 rfl) rfl
theorem q3197 : (Jvm.Cond.methodLink "TissueBalloonsLaw" (143 : Nat) ({ cls := "TissueBalloonsModel", name := "roof", desc := "(II)I" } : Jvm.MethodName)) ∈ lw_all := lw_g (lw_at lw_m14 0 rfl) rfl
theorem q3224 : (Jvm.Cond.methodLink "TissueBalloonsLaw" (146 : Nat) ({ cls := "TissueBalloonsModel", name := "roofOf", desc := "(II)I" } : Jvm.MethodName)) ∈ lw_all := lw_g (lw_at lw_m14 27 rfl) rfl
theorem q3228 : (Jvm.Cond.methodLink "TissueBalloonsLaw" (149 : Nat) ({ cls := "TissueBalloonsModel", name := "roofAt", desc := "(I)I" } : Jvm.MethodName)) ∈ lw_all := lw_g (lw_at lw_m14 31 rfl) rfl
theorem q3232 : (Jvm.Cond.methodLink "TissueBalloonsLaw" (152 : Nat) ({ cls := "TissueBalloonsModel", name := "nearest", desc := "(I)I" } : Jvm.MethodName)) ∈ lw_all := lw_g (lw_at lw_m14 35 rfl) rfl
theorem q3236 : (Jvm.Cond.methodLink "TissueBalloonsLaw" (156 : Nat) ({ cls := "TissueBalloonsModel", name := "watch", desc := "(IZ)I" } : Jvm.MethodName)) ∈ lw_all := lw_g (lw_at lw_m14 39 rfl) rfl
theorem q3248 : (Jvm.Cond.methodLink "TissueBalloonsLaw" (159 : Nat) ({ cls := "TissueBalloonsModel", name := "wet", desc := "(II)I" } : Jvm.MethodName)) ∈ lw_all := lw_g (lw_at lw_m14 51 rfl) rfl
theorem q3263 : (Jvm.Cond.methodLink "TissueBalloonsLaw" (162 : Nat) ({ cls := "TissueBalloonsModel", name := "sign", desc := "(I)C" } : Jvm.MethodName)) ∈ lw_all := lw_g (lw_at lw_m14 66 rfl) rfl
theorem q3275 : (Jvm.Cond.methodLink "TissueBalloonsLaw" (166 : Nat) ({ cls := "TissueBalloonsModel", name := "balloon", desc := "(III)I" } : Jvm.MethodName)) ∈ lw_all := lw_g (lw_at lw_m14 78 rfl) rfl
theorem q3283 : (Jvm.Cond.methodLink "TissueBalloonsLaw" (169 : Nat) ({ cls := "TissueBalloonsModel", name := "crew", desc := "(I)I" } : Jvm.MethodName)) ∈ lw_all := lw_g (lw_at lw_m14 86 rfl) rfl
theorem q3291 : (Jvm.Cond.methodLink "TissueBalloonsLaw" (172 : Nat) ({ cls := "TissueBalloonsModel", name := "crewOf", desc := "(II)I" } : Jvm.MethodName)) ∈ lw_all := lw_g (lw_at lw_m14 94 rfl) rfl
theorem q3303 : (Jvm.Cond.methodLink "TissueBalloonsLaw" (175 : Nat) ({ cls := "TissueBalloonsModel", name := "launch", desc := "(II)I" } : Jvm.MethodName)) ∈ lw_all := lw_g (lw_at lw_m14 106 rfl) rfl
theorem q3319 : (Jvm.Cond.methodLink "TissueBalloonsLaw" (178 : Nat) ({ cls := "TissueBalloonsModel", name := "plan", desc := "(III)I" } : Jvm.MethodName)) ∈ lw_all := lw_g (lw_at lw_m14 122 rfl) rfl
theorem q3347 : (Jvm.Cond.methodLink "TissueBalloonsLaw" (181 : Nat) ({ cls := "TissueBalloonsModel", name := "drop", desc := "(I)I" } : Jvm.MethodName)) ∈ lw_all := lw_g (lw_at lw_m14 150 rfl) rfl
theorem q3355 : (Jvm.Cond.methodLink "TissueBalloonsLaw" (184 : Nat) ({ cls := "TissueBalloonsModel", name := "planAt", desc := "(II)I" } : Jvm.MethodName)) ∈ lw_all := lw_g (lw_at lw_m14 158 rfl) rfl
theorem q3359 : (Jvm.Cond.methodLink "TissueBalloonsLaw" (187 : Nat) ({ cls := "TissueBalloonsModel", name := "balloonOf", desc := "(II)I" } : Jvm.MethodName)) ∈ lw_all := lw_g (lw_at lw_m14 162 rfl) rfl
theorem q3363 : (Jvm.Cond.methodLink "TissueBalloonsLaw" (190 : Nat) ({ cls := "TissueBalloonsModel", name := "highest", desc := "(I)I" } : Jvm.MethodName)) ∈ lw_all := lw_g (lw_at lw_m14 166 rfl) rfl
theorem q3367 : (Jvm.Cond.methodLink "TissueBalloonsLaw" (193 : Nat) ({ cls := "TissueBalloonsModel", name := "ranked", desc := "(I)I" } : Jvm.MethodName)) ∈ lw_all := lw_g (lw_at lw_m14 170 rfl) rfl
theorem q3371 : (Jvm.Cond.methodLink "TissueBalloonsLaw" (205 : Nat) ({ cls := "TissueBalloonsModel", name := "pass", desc := "(I)I" } : Jvm.MethodName)) ∈ lw_all := lw_g (lw_at lw_m14 174 rfl) rfl
theorem q3409 : (Jvm.Cond.methodLink "TissueBalloonsLaw" (196 : Nat) ({ cls := "TissueBalloonsModel", name := "layerIn", desc := "(II)I" } : Jvm.MethodName)) ∈ lw_all := lw_g (lw_at lw_m14 212 rfl) rfl
theorem q3413 : (Jvm.Cond.methodLink "TissueBalloonsLaw" (199 : Nat) ({ cls := "TissueBalloonsModel", name := "layerAgain", desc := "(II)I" } : Jvm.MethodName)) ∈ lw_all := lw_g (lw_at lw_m14 216 rfl) rfl
theorem q3417 : (Jvm.Cond.methodLink "TissueBalloonsLaw" (202 : Nat) ({ cls := "TissueBalloonsModel", name := "would", desc := "(II)I" } : Jvm.MethodName)) ∈ lw_all := lw_g (lw_at lw_m14 220 rfl) rfl
theorem q3421 : (Jvm.Cond.methodLink "TissueBalloonsLaw" (209 : Nat) ({ cls := "TissueBalloonsModel", name := "append", desc := "(C)I" } : Jvm.MethodName)) ∈ lw_all := lw_g (lw_at lw_m14 224 rfl) rfl
theorem q3425 : (Jvm.Cond.methodLink "TissueBalloonsLaw" (213 : Nat) ({ cls := "TissueBalloonsModel", name := "read", desc := "()I" } : Jvm.MethodName)) ∈ lw_all := lw_g (lw_at lw_m14 228 rfl) rfl
theorem q3461 : (Jvm.Cond.methodLink "TissueBalloonsLaw" (217 : Nat) ({ cls := "TissueBalloonsModel", name := "errorPosition", desc := "()I" } : Jvm.MethodName)) ∈ lw_all := lw_g (lw_at lw_m15 24 rfl) rfl
theorem q3465 : (Jvm.Cond.methodLink "TissueBalloonsLaw" (221 : Nat) ({ cls := "TissueBalloonsModel", name := "refusal", desc := "(Z)I" } : Jvm.MethodName)) ∈ lw_all := lw_g (lw_at lw_m15 28 rfl) rfl
theorem q3469 : (Jvm.Cond.methodLink "TissueBalloonsLaw" (224 : Nat) ({ cls := "TissueBalloonsModel", name := "account", desc := "(I)I" } : Jvm.MethodName)) ∈ lw_all := lw_g (lw_at lw_m15 32 rfl) rfl
theorem q3481 : (Jvm.Cond.methodLink "TissueBalloonsLaw" (229 : Nat) ({ cls := "TissueBalloonsModel", name := "isWell", desc := "()Z" } : Jvm.MethodName)) ∈ lw_all := lw_g (lw_at lw_m15 44 rfl) rfl
theorem q3485 : (Jvm.Cond.methodLink "TissueBalloonsLaw" (233 : Nat) ({ cls := "TissueBalloonsModel", name := "meanFlight", desc := "()D" } : Jvm.MethodName)) ∈ lw_all := lw_g (lw_at lw_m15 48 rfl) rfl
theorem q3489 : (Jvm.Cond.methodLink "TissueBalloonsLaw" (236 : Nat) ({ cls := "TissueBalloonsModel", name := "burnt", desc := "()F" } : Jvm.MethodName)) ∈ lw_all := lw_g (lw_at lw_m15 52 rfl) rfl
theorem q3493 : (Jvm.Cond.methodLink "TissueBalloonsLaw" (239 : Nat) ({ cls := "TissueBalloonsModel", name := "undo", desc := "()I" } : Jvm.MethodName)) ∈ lw_all := lw_g (lw_at lw_m15 56 rfl) rfl
theorem q3497 : (Jvm.Cond.methodLink "TissueBalloonsLaw" (243 : Nat) ({ cls := "TissueBalloonsModel", name := "save", desc := "()I" } : Jvm.MethodName)) ∈ lw_all := lw_g (lw_at lw_m15 60 rfl) rfl
theorem q3501 : (Jvm.Cond.methodLink "TissueBalloonsLaw" (246 : Nat) ({ cls := "TissueBalloonsModel", name := "restore", desc := "()I" } : Jvm.MethodName)) ∈ lw_all := lw_g (lw_at lw_m15 64 rfl) rfl
def RX1 : String := "TissueBalloons"
def TX1 : u_T := fun k => match k with
  | 0 => ("TissueBalloons", "festival", "LTissueBalloons$Festival;", true)
  | 1 => ("TissueBalloons", "tried", "LTissueBalloons$Festival;", true)
  | 2 => ("TissueBalloons", "saved", "LTissueBalloons$Festival;", true)
  | 3 => ("TissueBalloons", "hasSaved", "Z", false)
  | 4 => ("TissueBalloons", "kept", "Ljava/util/ArrayDeque;", true)
  | 5 => ("TissueBalloons", "spare", "Ljava/util/ArrayDeque;", true)
  | 6 => ("TissueBalloons", "buffer", "Ljava/lang/StringBuilder;", true)
  | 7 => ("TissueBalloons", "reader", "LTissueBalloons$Reader;", true)
  | 8 => ("TissueBalloons", "fault", "I", false)
  | 9 => ("TissueBalloons", "refused", "I", false)
  | _ => ("TissueBalloons", "detail", "I", false)
def tyX1 : Nat → FieldType := fun k => match k with
  | 0 => .object "TissueBalloons$Festival"
  | 1 => .object "TissueBalloons$Festival"
  | 2 => .object "TissueBalloons$Festival"
  | 3 => .boolean
  | 4 => .object "java/util/ArrayDeque"
  | 5 => .object "java/util/ArrayDeque"
  | 6 => .object "java/lang/StringBuilder"
  | 7 => .object "TissueBalloons$Reader"
  | 8 => .int
  | 9 => .int
  | _ => .int
abbrev wsX10 : List Cond := u_ws RX1 TX1 11
theorem nmX1 : ∀ a, a < 11 → ∀ b, b < 11 → a ≠ b → (TX1 a).2.1 ≠ (TX1 b).2.1 := by decide +kernel
theorem tyX1_ok : ∀ k, k < 11 → parseFieldDescriptor (TX1 k).2.2.1 = some (tyX1 k) := by decide +kernel
theorem q78 : (Jvm.Cond.initialized "TissueBalloons") ∈ lw_all := lw_g (lw_at lw_m1 1 rfl) rfl
theorem q145 : (Jvm.Cond.instantiable "TissueBalloons" (11 : Nat)) ∈ lw_all := lw_g (lw_at lw_m1 68 rfl) rfl
theorem q147 : (Jvm.Cond.instanceMethod ({ cls := "TissueBalloons", name := "<init>", desc := "()V" } : Jvm.MethodName)) ∈ lw_all := lw_g (lw_at lw_m1 70 rfl) rfl
theorem q148 : (Jvm.Cond.code ({ cls := "TissueBalloons", name := "<init>", desc := "()V" } : Jvm.MethodName) prog_1_method_7_code (2 : Nat) (Option.none : Option Jvm.ClassFile.FieldType)) ∈ lw_all := lw_g (lw_at lw_m1 71 rfl) rfl
theorem q149 : (Jvm.Cond.methodLink "TissueBalloons" (19 : Nat) ({ cls := "java/lang/Object", name := "<init>", desc := "()V" } : Jvm.MethodName)) ∈ lw_all := lw_g (lw_at lw_m1 72 rfl) rfl
theorem q152 : (Jvm.Cond.classLink "TissueBalloons" (24 : Nat) "TissueBalloons$Festival") ∈ lw_all := lw_g (lw_at lw_m1 75 rfl) rfl
theorem q154 : (Jvm.Cond.methodLink "TissueBalloons" (26 : Nat) ({ cls := "TissueBalloons$Festival", name := "<init>", desc := "()V" } : Jvm.MethodName)) ∈ lw_all := lw_g (lw_at lw_m1 77 rfl) rfl
theorem q231 : (Jvm.Cond.fieldLinkNest "TissueBalloons" (317 : Nat) "TissueBalloons$Balloon" "number" "I" "TissueBalloons") ∈ lw_tbl := lw_at lw_m1 154 rfl
theorem q234 : (Jvm.Cond.fieldLinkNest "TissueBalloons" (291 : Nat) "TissueBalloons$Balloon" "state" "I" "TissueBalloons") ∈ lw_tbl := lw_at lw_m1 157 rfl
theorem q237 : (Jvm.Cond.fieldLinkNest "TissueBalloons" (296 : Nat) "TissueBalloons$Balloon" "tissue" "I" "TissueBalloons") ∈ lw_tbl := lw_at lw_m1 160 rfl
theorem q240 : (Jvm.Cond.fieldLinkNest "TissueBalloons" (299 : Nat) "TissueBalloons$Balloon" "wick" "I" "TissueBalloons") ∈ lw_tbl := lw_at lw_m1 163 rfl
theorem q243 : (Jvm.Cond.fieldLinkNest "TissueBalloons" (302 : Nat) "TissueBalloons$Balloon" "glow" "I" "TissueBalloons") ∈ lw_tbl := lw_at lw_m1 166 rfl
theorem q247 : (Jvm.Cond.fieldLinkNest "TissueBalloons" (305 : Nat) "TissueBalloons$Balloon" "layer" "I" "TissueBalloons") ∈ lw_tbl := lw_at lw_m1 170 rfl
theorem q250 : (Jvm.Cond.fieldLinkNest "TissueBalloons" (308 : Nat) "TissueBalloons$Balloon" "place" "I" "TissueBalloons") ∈ lw_tbl := lw_at lw_m1 173 rfl
theorem q254 : (Jvm.Cond.fieldLinkNest "TissueBalloons" (309 : Nat) "TissueBalloons$Balloon" "flown" "I" "TissueBalloons") ∈ lw_tbl := lw_at lw_m1 177 rfl
theorem q279 : (Jvm.Cond.fieldLinkNest "TissueBalloons" (245 : Nat) "TissueBalloons$Crew" "place" "I" "TissueBalloons") ∈ lw_tbl := lw_at lw_m1 202 rfl
theorem q282 : (Jvm.Cond.fieldLinkNest "TissueBalloons" (248 : Nat) "TissueBalloons$Crew" "busy" "I" "TissueBalloons") ∈ lw_tbl := lw_at lw_m1 205 rfl
theorem q285 : (Jvm.Cond.fieldLinkNest "TissueBalloons" (251 : Nat) "TissueBalloons$Crew" "launched" "I" "TissueBalloons") ∈ lw_tbl := lw_at lw_m1 208 rfl
theorem q294 : (Jvm.Cond.fieldLinkNest "TissueBalloons" (146 : Nat) "TissueBalloons$Festival" "drifts" "[I" "TissueBalloons") ∈ lw_tbl := lw_at lw_m1 217 rfl
theorem q296 : (Jvm.Cond.fieldLinkNest "TissueBalloons" (185 : Nat) "TissueBalloons$Festival" "roofs" "Ljava/util/TreeMap;" "TissueBalloons") ∈ lw_tbl := lw_at lw_m1 219 rfl
theorem q298 : (Jvm.Cond.fieldLinkNest "TissueBalloons" (268 : Nat) "TissueBalloons$Festival" "plans" "Ljava/util/TreeSet;" "TissueBalloons") ∈ lw_tbl := lw_at lw_m1 221 rfl
theorem q300 : (Jvm.Cond.fieldLinkNest "TissueBalloons" (129 : Nat) "TissueBalloons$Festival" "balloons" "[LTissueBalloons$Balloon;" "TissueBalloons") ∈ lw_tbl := lw_at lw_m1 223 rfl
theorem q302 : (Jvm.Cond.fieldLinkNest "TissueBalloons" (241 : Nat) "TissueBalloons$Festival" "crews" "[LTissueBalloons$Crew;" "TissueBalloons") ∈ lw_tbl := lw_at lw_m1 225 rfl
theorem q304 : (Jvm.Cond.fieldLinkNest "TissueBalloons" (320 : Nat) "TissueBalloons$Festival" "balloonMany" "I" "TissueBalloons") ∈ lw_tbl := lw_at lw_m1 227 rfl
theorem q306 : (Jvm.Cond.fieldLinkNest "TissueBalloons" (387 : Nat) "TissueBalloons$Festival" "crewMany" "I" "TissueBalloons") ∈ lw_tbl := lw_at lw_m1 229 rfl
theorem q308 : (Jvm.Cond.fieldLinkNest "TissueBalloons" (380 : Nat) "TissueBalloons$Festival" "minute" "I" "TissueBalloons") ∈ lw_tbl := lw_at lw_m1 231 rfl
theorem q310 : (Jvm.Cond.fieldLinkNest "TissueBalloons" (395 : Nat) "TissueBalloons$Festival" "launched" "I" "TissueBalloons") ∈ lw_tbl := lw_at lw_m1 233 rfl
theorem q312 : (Jvm.Cond.fieldLinkNest "TissueBalloons" (392 : Nat) "TissueBalloons$Festival" "missed" "I" "TissueBalloons") ∈ lw_tbl := lw_at lw_m1 235 rfl
theorem q314 : (Jvm.Cond.fieldLinkNest "TissueBalloons" (396 : Nat) "TissueBalloons$Festival" "flown" "I" "TissueBalloons") ∈ lw_tbl := lw_at lw_m1 237 rfl
theorem q338 : (Jvm.Cond.classLink "TissueBalloons" (37 : Nat) "java/util/ArrayDeque") ∈ lw_all := lw_g (lw_at lw_m2 21 rfl) rfl
theorem q340 : (Jvm.Cond.methodLink "TissueBalloons" (39 : Nat) ({ cls := "java/util/ArrayDeque", name := "<init>", desc := "()V" } : Jvm.MethodName)) ∈ lw_all := lw_g (lw_at lw_m2 23 rfl) rfl
theorem q358 : (Jvm.Cond.classLink "TissueBalloons" (47 : Nat) "java/lang/StringBuilder") ∈ lw_all := lw_g (lw_at lw_m2 41 rfl) rfl
theorem q360 : (Jvm.Cond.methodLink "TissueBalloons" (49 : Nat) ({ cls := "java/lang/StringBuilder", name := "<init>", desc := "()V" } : Jvm.MethodName)) ∈ lw_all := lw_g (lw_at lw_m2 43 rfl) rfl
theorem q391 : (Jvm.Cond.classLink "TissueBalloons" (54 : Nat) "TissueBalloons$Reader") ∈ lw_all := lw_g (lw_at lw_m2 74 rfl) rfl
theorem q393 : (Jvm.Cond.methodLink "TissueBalloons" (56 : Nat) ({ cls := "TissueBalloons$Reader", name := "<init>", desc := "(Ljava/lang/StringBuilder;)V" } : Jvm.MethodName)) ∈ lw_all := lw_g (lw_at lw_m2 76 rfl) rfl
theorem q400 : (Jvm.Cond.fieldLinkNest "TissueBalloons" (369 : Nat) "TissueBalloons$Reader" "many" "I" "TissueBalloons") ∈ lw_tbl := lw_at lw_m2 83 rfl
theorem q418 : (Jvm.Cond.methodLink "TissueBalloons" (67 : Nat) ({ cls := "java/util/ArrayDeque", name := "addLast", desc := "(Ljava/lang/Object;)V" } : Jvm.MethodName)) ∈ lw_all := lw_g (lw_at lw_m2 101 rfl) rfl
theorem q515 : (Jvm.Cond.selects "TissueBalloons" ({ cls := "java/lang/Object", name := "getClass", desc := "()Ljava/lang/Class;" } : Jvm.MethodName) ({ cls := "java/lang/Object", name := "getClass", desc := "()Ljava/lang/Class;" } : Jvm.MethodName)) ∈ lw_all := lw_g (lw_at lw_m2 198 rfl) rfl
theorem q570 : (Jvm.Cond.fieldLink "TissueBalloons" (27 : Nat) "TissueBalloons" "festival" "LTissueBalloons$Festival;") ∈ lw_all := lw_g (lw_at lw_m3 13 rfl) rfl
theorem q571 : (Jvm.Cond.fieldLink "TissueBalloons" (31 : Nat) "TissueBalloons" "tried" "LTissueBalloons$Festival;") ∈ lw_all := lw_g (lw_at lw_m3 14 rfl) rfl
theorem q572 : (Jvm.Cond.fieldLink "TissueBalloons" (34 : Nat) "TissueBalloons" "saved" "LTissueBalloons$Festival;") ∈ lw_all := lw_g (lw_at lw_m3 15 rfl) rfl
theorem q573 : (Jvm.Cond.fieldLink "TissueBalloons" (410 : Nat) "TissueBalloons" "hasSaved" "Z") ∈ lw_all := lw_g (lw_at lw_m3 16 rfl) rfl
theorem q574 : (Jvm.Cond.fieldLink "TissueBalloons" (40 : Nat) "TissueBalloons" "kept" "Ljava/util/ArrayDeque;") ∈ lw_all := lw_g (lw_at lw_m3 17 rfl) rfl
theorem q575 : (Jvm.Cond.fieldLink "TissueBalloons" (44 : Nat) "TissueBalloons" "spare" "Ljava/util/ArrayDeque;") ∈ lw_all := lw_g (lw_at lw_m3 18 rfl) rfl
theorem q576 : (Jvm.Cond.fieldLink "TissueBalloons" (50 : Nat) "TissueBalloons" "buffer" "Ljava/lang/StringBuilder;") ∈ lw_all := lw_g (lw_at lw_m3 19 rfl) rfl
theorem q577 : (Jvm.Cond.fieldLink "TissueBalloons" (59 : Nat) "TissueBalloons" "reader" "LTissueBalloons$Reader;") ∈ lw_all := lw_g (lw_at lw_m3 20 rfl) rfl
theorem q578 : (Jvm.Cond.fieldLink "TissueBalloons" (63 : Nat) "TissueBalloons" "fault" "I") ∈ lw_all := lw_g (lw_at lw_m3 21 rfl) rfl
theorem q579 : (Jvm.Cond.fieldLink "TissueBalloons" (89 : Nat) "TissueBalloons" "refused" "I") ∈ lw_all := lw_g (lw_at lw_m3 22 rfl) rfl
theorem q580 : (Jvm.Cond.fieldLink "TissueBalloons" (95 : Nat) "TissueBalloons" "detail" "I") ∈ lw_all := lw_g (lw_at lw_m3 23 rfl) rfl
theorem q581 : (Jvm.Cond.laysFinal "TissueBalloons" "TissueBalloons" "festival" "LTissueBalloons$Festival;") ∈ lw_all := lw_g (lw_at lw_m3 24 rfl) rfl
theorem q582 : (Jvm.Cond.soleField "TissueBalloons" "festival") ∈ lw_all := lw_g (lw_at lw_m3 25 rfl) rfl
theorem q583 : (Jvm.Cond.laysFinal "TissueBalloons" "TissueBalloons" "tried" "LTissueBalloons$Festival;") ∈ lw_all := lw_g (lw_at lw_m3 26 rfl) rfl
theorem q584 : (Jvm.Cond.soleField "TissueBalloons" "tried") ∈ lw_all := lw_g (lw_at lw_m3 27 rfl) rfl
theorem q585 : (Jvm.Cond.laysFinal "TissueBalloons" "TissueBalloons" "saved" "LTissueBalloons$Festival;") ∈ lw_all := lw_g (lw_at lw_m3 28 rfl) rfl
theorem q586 : (Jvm.Cond.soleField "TissueBalloons" "saved") ∈ lw_all := lw_g (lw_at lw_m3 29 rfl) rfl
theorem q587 : (Jvm.Cond.lays "TissueBalloons" "TissueBalloons" "hasSaved" "Z") ∈ lw_all := lw_g (lw_at lw_m3 30 rfl) rfl
theorem q588 : (Jvm.Cond.soleField "TissueBalloons" "hasSaved") ∈ lw_all := lw_g (lw_at lw_m3 31 rfl) rfl
theorem q589 : (Jvm.Cond.laysFinal "TissueBalloons" "TissueBalloons" "kept" "Ljava/util/ArrayDeque;") ∈ lw_all := lw_g (lw_at lw_m3 32 rfl) rfl
theorem q590 : (Jvm.Cond.soleField "TissueBalloons" "kept") ∈ lw_all := lw_g (lw_at lw_m3 33 rfl) rfl
theorem q591 : (Jvm.Cond.laysFinal "TissueBalloons" "TissueBalloons" "spare" "Ljava/util/ArrayDeque;") ∈ lw_all := lw_g (lw_at lw_m3 34 rfl) rfl
theorem q592 : (Jvm.Cond.soleField "TissueBalloons" "spare") ∈ lw_all := lw_g (lw_at lw_m3 35 rfl) rfl
theorem q593 : (Jvm.Cond.laysFinal "TissueBalloons" "TissueBalloons" "buffer" "Ljava/lang/StringBuilder;") ∈ lw_all := lw_g (lw_at lw_m3 36 rfl) rfl
theorem q594 : (Jvm.Cond.soleField "TissueBalloons" "buffer") ∈ lw_all := lw_g (lw_at lw_m3 37 rfl) rfl
theorem q595 : (Jvm.Cond.laysFinal "TissueBalloons" "TissueBalloons" "reader" "LTissueBalloons$Reader;") ∈ lw_all := lw_g (lw_at lw_m3 38 rfl) rfl
theorem q596 : (Jvm.Cond.soleField "TissueBalloons" "reader") ∈ lw_all := lw_g (lw_at lw_m3 39 rfl) rfl
theorem q597 : (Jvm.Cond.lays "TissueBalloons" "TissueBalloons" "fault" "I") ∈ lw_all := lw_g (lw_at lw_m3 40 rfl) rfl
theorem q598 : (Jvm.Cond.soleField "TissueBalloons" "fault") ∈ lw_all := lw_g (lw_at lw_m3 41 rfl) rfl
theorem q599 : (Jvm.Cond.lays "TissueBalloons" "TissueBalloons" "refused" "I") ∈ lw_all := lw_g (lw_at lw_m3 42 rfl) rfl
theorem q600 : (Jvm.Cond.soleField "TissueBalloons" "refused") ∈ lw_all := lw_g (lw_at lw_m3 43 rfl) rfl
theorem q601 : (Jvm.Cond.lays "TissueBalloons" "TissueBalloons" "detail" "I") ∈ lw_all := lw_g (lw_at lw_m3 44 rfl) rfl
theorem q602 : (Jvm.Cond.soleField "TissueBalloons" "detail") ∈ lw_all := lw_g (lw_at lw_m3 45 rfl) rfl
theorem q603 : (Jvm.Cond.superclass "TissueBalloons" "java/lang/Object") ∈ lw_all := lw_g (lw_at lw_m3 46 rfl) rfl
theorem q605 : (Jvm.Cond.instanceMethod ({ cls := "TissueBalloons", name := "errorPosition", desc := "()I" } : Jvm.MethodName)) ∈ lw_all := lw_g (lw_at lw_m3 48 rfl) rfl
theorem q606 : (Jvm.Cond.selects "TissueBalloons" ({ cls := "TissueBalloons", name := "errorPosition", desc := "()I" } : Jvm.MethodName) ({ cls := "TissueBalloons", name := "errorPosition", desc := "()I" } : Jvm.MethodName)) ∈ lw_all := lw_g (lw_at lw_m3 49 rfl) rfl
theorem q607 : (Jvm.Cond.code ({ cls := "TissueBalloons", name := "errorPosition", desc := "()I" } : Jvm.MethodName) prog_1_method_44_code (1 : Nat) (Option.some Jvm.ClassFile.FieldType.int)) ∈ lw_all := lw_g (lw_at lw_m3 50 rfl) rfl
theorem q609 : (Jvm.Cond.instanceMethod ({ cls := "TissueBalloons", name := "isWell", desc := "()Z" } : Jvm.MethodName)) ∈ lw_all := lw_g (lw_at lw_m3 52 rfl) rfl
theorem q610 : (Jvm.Cond.selects "TissueBalloons" ({ cls := "TissueBalloons", name := "isWell", desc := "()Z" } : Jvm.MethodName) ({ cls := "TissueBalloons", name := "isWell", desc := "()Z" } : Jvm.MethodName)) ∈ lw_all := lw_g (lw_at lw_m3 53 rfl) rfl
theorem q611 : (Jvm.Cond.code ({ cls := "TissueBalloons", name := "isWell", desc := "()Z" } : Jvm.MethodName) prog_1_method_47_code (1 : Nat) (Option.some Jvm.ClassFile.FieldType.boolean)) ∈ lw_all := lw_g (lw_at lw_m3 54 rfl) rfl
theorem q612 : (Jvm.Cond.methodLink "TissueBalloons" (401 : Nat) ({ cls := "TissueBalloons$Festival", name := "isWell", desc := "()Z" } : Jvm.MethodName)) ∈ lw_all := lw_g (lw_at lw_m3 55 rfl) rfl
theorem q621 : (Jvm.Cond.instanceMethod ({ cls := "TissueBalloons", name := "save", desc := "()I" } : Jvm.MethodName)) ∈ lw_all := lw_g (lw_at lw_m3 64 rfl) rfl
theorem q622 : (Jvm.Cond.selects "TissueBalloons" ({ cls := "TissueBalloons", name := "save", desc := "()I" } : Jvm.MethodName) ({ cls := "TissueBalloons", name := "save", desc := "()I" } : Jvm.MethodName)) ∈ lw_all := lw_g (lw_at lw_m3 65 rfl) rfl
theorem q623 : (Jvm.Cond.code ({ cls := "TissueBalloons", name := "save", desc := "()I" } : Jvm.MethodName) prog_1_method_51_code (1 : Nat) (Option.some Jvm.ClassFile.FieldType.int)) ∈ lw_all := lw_g (lw_at lw_m3 66 rfl) rfl
theorem q624 : (Jvm.Cond.methodLink "TissueBalloons" (107 : Nat) ({ cls := "TissueBalloons$Festival", name := "take", desc := "(LTissueBalloons$Festival;)V" } : Jvm.MethodName)) ∈ lw_all := lw_g (lw_at lw_m3 67 rfl) rfl
theorem q1295 : (Jvm.Cond.fieldLinkNest "TissueBalloons" (170 : Nat) "TissueBalloons$Roof" "wet" "I" "TissueBalloons") ∈ lw_tbl := lw_at lw_m6 18 rfl
theorem q1298 : (Jvm.Cond.fieldLinkNest "TissueBalloons" (175 : Nat) "TissueBalloons$Roof" "isWatched" "Z" "TissueBalloons") ∈ lw_tbl := lw_at lw_m6 21 rfl
theorem q1301 : (Jvm.Cond.fieldLinkNest "TissueBalloons" (179 : Nat) "TissueBalloons$Roof" "isBurnt" "Z" "TissueBalloons") ∈ lw_tbl := lw_at lw_m6 24 rfl
theorem q1304 : (Jvm.Cond.fieldLinkNest "TissueBalloons" (182 : Nat) "TissueBalloons$Roof" "landed" "I" "TissueBalloons") ∈ lw_tbl := lw_at lw_m6 27 rfl
theorem q1758 : (Jvm.Cond.instanceMethod ({ cls := "TissueBalloons", name := "wind", desc := "(II)I" } : Jvm.MethodName)) ∈ lw_all := lw_g (lw_at lw_m8 1 rfl) rfl
theorem q1759 : (Jvm.Cond.selects "TissueBalloons" ({ cls := "TissueBalloons", name := "wind", desc := "(II)I" } : Jvm.MethodName) ({ cls := "TissueBalloons", name := "wind", desc := "(II)I" } : Jvm.MethodName)) ∈ lw_all := lw_g (lw_at lw_m8 2 rfl) rfl
theorem q1760 : (Jvm.Cond.code ({ cls := "TissueBalloons", name := "wind", desc := "(II)I" } : Jvm.MethodName) prog_1_method_19_code (3 : Nat) (Option.some Jvm.ClassFile.FieldType.int)) ∈ lw_all := lw_g (lw_at lw_m8 3 rfl) rfl
theorem q1761 : (Jvm.Cond.methodLink "TissueBalloons" (133 : Nat) ({ cls := "TissueBalloons", name := "isLayer", desc := "(I)Z" } : Jvm.MethodName)) ∈ lw_all := lw_g (lw_at lw_m8 4 rfl) rfl
theorem q1762 : (Jvm.Cond.static ({ cls := "TissueBalloons", name := "isLayer", desc := "(I)Z" } : Jvm.MethodName)) ∈ lw_all := lw_g (lw_at lw_m8 5 rfl) rfl
theorem q1763 : (Jvm.Cond.code ({ cls := "TissueBalloons", name := "isLayer", desc := "(I)Z" } : Jvm.MethodName) prog_1_method_2_code (1 : Nat) (Option.some Jvm.ClassFile.FieldType.boolean)) ∈ lw_all := lw_g (lw_at lw_m8 6 rfl) rfl
theorem q1764 : (Jvm.Cond.methodLink "TissueBalloons" (3 : Nat) ({ cls := "TissueBalloons", name := "in", desc := "(III)Z" } : Jvm.MethodName)) ∈ lw_all := lw_g (lw_at lw_m8 7 rfl) rfl
theorem q1765 : (Jvm.Cond.static ({ cls := "TissueBalloons", name := "in", desc := "(III)Z" } : Jvm.MethodName)) ∈ lw_all := lw_g (lw_at lw_m8 8 rfl) rfl
theorem q1766 : (Jvm.Cond.code ({ cls := "TissueBalloons", name := "in", desc := "(III)Z" } : Jvm.MethodName) prog_1_method_1_code (3 : Nat) (Option.some Jvm.ClassFile.FieldType.boolean)) ∈ lw_all := lw_g (lw_at lw_m8 9 rfl) rfl
theorem q1767 : (Jvm.Cond.methodLink "TissueBalloons" (126 : Nat) ({ cls := "TissueBalloons", name := "checkIndex", desc := "(Z)V" } : Jvm.MethodName)) ∈ lw_all := lw_g (lw_at lw_m8 10 rfl) rfl
theorem q1768 : (Jvm.Cond.static ({ cls := "TissueBalloons", name := "checkIndex", desc := "(Z)V" } : Jvm.MethodName)) ∈ lw_all := lw_g (lw_at lw_m8 11 rfl) rfl
theorem q1769 : (Jvm.Cond.code ({ cls := "TissueBalloons", name := "checkIndex", desc := "(Z)V" } : Jvm.MethodName) prog_1_method_11_code (1 : Nat) (Option.none : Option Jvm.ClassFile.FieldType)) ∈ lw_all := lw_g (lw_at lw_m8 12 rfl) rfl
theorem q1770 : (Jvm.Cond.classLink "TissueBalloons" (80 : Nat) "java/lang/IndexOutOfBoundsException") ∈ lw_all := lw_g (lw_at lw_m8 13 rfl) rfl
theorem q1779 : (Jvm.Cond.methodLink "TissueBalloons" (82 : Nat) ({ cls := "java/lang/IndexOutOfBoundsException", name := "<init>", desc := "()V" } : Jvm.MethodName)) ∈ lw_all := lw_g (lw_at lw_m8 22 rfl) rfl
theorem q1785 : (Jvm.Cond.methodLink "TissueBalloons" (136 : Nat) ({ cls := "TissueBalloons", name := "isDrift", desc := "(I)Z" } : Jvm.MethodName)) ∈ lw_all := lw_g (lw_at lw_m8 28 rfl) rfl
theorem q1786 : (Jvm.Cond.static ({ cls := "TissueBalloons", name := "isDrift", desc := "(I)Z" } : Jvm.MethodName)) ∈ lw_all := lw_g (lw_at lw_m8 29 rfl) rfl
theorem q1787 : (Jvm.Cond.code ({ cls := "TissueBalloons", name := "isDrift", desc := "(I)Z" } : Jvm.MethodName) prog_1_method_3_code (1 : Nat) (Option.some Jvm.ClassFile.FieldType.boolean)) ∈ lw_all := lw_g (lw_at lw_m8 30 rfl) rfl
theorem q1788 : (Jvm.Cond.methodLink "TissueBalloons" (139 : Nat) ({ cls := "TissueBalloons", name := "check", desc := "(Z)V" } : Jvm.MethodName)) ∈ lw_all := lw_g (lw_at lw_m8 31 rfl) rfl
theorem q1789 : (Jvm.Cond.static ({ cls := "TissueBalloons", name := "check", desc := "(Z)V" } : Jvm.MethodName)) ∈ lw_all := lw_g (lw_at lw_m8 32 rfl) rfl
theorem q1790 : (Jvm.Cond.code ({ cls := "TissueBalloons", name := "check", desc := "(Z)V" } : Jvm.MethodName) prog_1_method_8_code (1 : Nat) (Option.none : Option Jvm.ClassFile.FieldType)) ∈ lw_all := lw_g (lw_at lw_m8 33 rfl) rfl
theorem q1791 : (Jvm.Cond.classLink "TissueBalloons" (71 : Nat) "java/lang/IllegalArgumentException") ∈ lw_all := lw_g (lw_at lw_m8 34 rfl) rfl
theorem q1792 : (Jvm.Cond.methodLink "TissueBalloons" (73 : Nat) ({ cls := "java/lang/IllegalArgumentException", name := "<init>", desc := "()V" } : Jvm.MethodName)) ∈ lw_all := lw_g (lw_at lw_m8 35 rfl) rfl
theorem q1796 : (Jvm.Cond.methodLink "TissueBalloons" (111 : Nat) ({ cls := "TissueBalloons", name := "keep", desc := "()V" } : Jvm.MethodName)) ∈ lw_all := lw_g (lw_at lw_m8 39 rfl) rfl
theorem q1797 : (Jvm.Cond.privateMethod ({ cls := "TissueBalloons", name := "keep", desc := "()V" } : Jvm.MethodName)) ∈ lw_tbl := lw_at lw_m8 40 rfl
theorem q1798 : (Jvm.Cond.instanceMethod ({ cls := "TissueBalloons", name := "keep", desc := "()V" } : Jvm.MethodName)) ∈ lw_all := lw_g (lw_at lw_m8 41 rfl) rfl
theorem q1799 : (Jvm.Cond.code ({ cls := "TissueBalloons", name := "keep", desc := "()V" } : Jvm.MethodName) prog_1_method_14_code (2 : Nat) (Option.none : Option Jvm.ClassFile.FieldType)) ∈ lw_all := lw_g (lw_at lw_m8 42 rfl) rfl
theorem q1800 : (Jvm.Cond.methodLink "TissueBalloons" (99 : Nat) ({ cls := "java/util/ArrayDeque", name := "isEmpty", desc := "()Z" } : Jvm.MethodName)) ∈ lw_all := lw_g (lw_at lw_m8 43 rfl) rfl
theorem q1801 : (Jvm.Cond.methodLink "TissueBalloons" (103 : Nat) ({ cls := "java/util/ArrayDeque", name := "pollFirst", desc := "()Ljava/lang/Object;" } : Jvm.MethodName)) ∈ lw_all := lw_g (lw_at lw_m8 44 rfl) rfl
theorem q1802 : (Jvm.Cond.methodLink "TissueBalloons" (142 : Nat) ({ cls := "TissueBalloons$Festival", name := "wind", desc := "(II)I" } : Jvm.MethodName)) ∈ lw_all := lw_g (lw_at lw_m8 45 rfl) rfl
theorem q1810 : (Jvm.Cond.instanceMethod ({ cls := "TissueBalloons", name := "windOf", desc := "(I)I" } : Jvm.MethodName)) ∈ lw_all := lw_g (lw_at lw_m8 53 rfl) rfl
theorem q1811 : (Jvm.Cond.selects "TissueBalloons" ({ cls := "TissueBalloons", name := "windOf", desc := "(I)I" } : Jvm.MethodName) ({ cls := "TissueBalloons", name := "windOf", desc := "(I)I" } : Jvm.MethodName)) ∈ lw_all := lw_g (lw_at lw_m8 54 rfl) rfl
theorem q1812 : (Jvm.Cond.code ({ cls := "TissueBalloons", name := "windOf", desc := "(I)I" } : Jvm.MethodName) prog_1_method_20_code (2 : Nat) (Option.some Jvm.ClassFile.FieldType.int)) ∈ lw_all := lw_g (lw_at lw_m8 55 rfl) rfl
theorem q1818 : (Jvm.Cond.instanceMethod ({ cls := "TissueBalloons", name := "roof", desc := "(II)I" } : Jvm.MethodName)) ∈ lw_all := lw_g (lw_at lw_m8 61 rfl) rfl
theorem q1819 : (Jvm.Cond.selects "TissueBalloons" ({ cls := "TissueBalloons", name := "roof", desc := "(II)I" } : Jvm.MethodName) ({ cls := "TissueBalloons", name := "roof", desc := "(II)I" } : Jvm.MethodName)) ∈ lw_all := lw_g (lw_at lw_m8 62 rfl) rfl
theorem q1820 : (Jvm.Cond.codeWith ({ cls := "TissueBalloons", name := "roof", desc := "(II)I" } : Jvm.MethodName) prog_1_method_21_code (4 : Nat) (Option.some Jvm.ClassFile.FieldType.int) [((25 : Nat), (38 : Nat), (39 : Nat), (13 : Nat))]) ∈ lw_all := lw_g (lw_at lw_m8 63 rfl) rfl
theorem q1821 : (Jvm.Cond.classLink "TissueBalloons" (13 : Nat) "TissueBalloons$Refused") ∈ lw_all := lw_g (lw_at lw_m8 64 rfl) rfl
theorem q1822 : (Jvm.Cond.methodLink "TissueBalloons" (150 : Nat) ({ cls := "TissueBalloons", name := "isPlace", desc := "(I)Z" } : Jvm.MethodName)) ∈ lw_all := lw_g (lw_at lw_m8 65 rfl) rfl
theorem q1823 : (Jvm.Cond.static ({ cls := "TissueBalloons", name := "isPlace", desc := "(I)Z" } : Jvm.MethodName)) ∈ lw_all := lw_g (lw_at lw_m8 66 rfl) rfl
theorem q1824 : (Jvm.Cond.code ({ cls := "TissueBalloons", name := "isPlace", desc := "(I)Z" } : Jvm.MethodName) prog_1_method_4_code (1 : Nat) (Option.some Jvm.ClassFile.FieldType.boolean)) ∈ lw_all := lw_g (lw_at lw_m8 67 rfl) rfl
theorem q1825 : (Jvm.Cond.methodLink "TissueBalloons" (153 : Nat) ({ cls := "TissueBalloons", name := "tryOn", desc := "()LTissueBalloons$Festival;" } : Jvm.MethodName)) ∈ lw_all := lw_g (lw_at lw_m8 68 rfl) rfl
theorem q1826 : (Jvm.Cond.privateMethod ({ cls := "TissueBalloons", name := "tryOn", desc := "()LTissueBalloons$Festival;" } : Jvm.MethodName)) ∈ lw_tbl := lw_at lw_m8 69 rfl
theorem q1827 : (Jvm.Cond.instanceMethod ({ cls := "TissueBalloons", name := "tryOn", desc := "()LTissueBalloons$Festival;" } : Jvm.MethodName)) ∈ lw_all := lw_g (lw_at lw_m8 70 rfl) rfl
theorem q1828 : (Jvm.Cond.code ({ cls := "TissueBalloons", name := "tryOn", desc := "()LTissueBalloons$Festival;" } : Jvm.MethodName) prog_1_method_15_code (1 : Nat) (Option.some (Jvm.ClassFile.FieldType.object "TissueBalloons$Festival"))) ∈ lw_all := lw_g (lw_at lw_m8 71 rfl) rfl
theorem q1829 : (Jvm.Cond.methodLink "TissueBalloons" (157 : Nat) ({ cls := "TissueBalloons$Festival", name := "roof", desc := "(II)I" } : Jvm.MethodName)) ∈ lw_all := lw_g (lw_at lw_m8 72 rfl) rfl
theorem q1844 : (Jvm.Cond.fieldLinkNest "TissueBalloons" (215 : Nat) "TissueBalloons$Spot" "place" "I" "TissueBalloons") ∈ lw_tbl := lw_at lw_m8 87 rfl
theorem q1861 : (Jvm.Cond.static ({ cls := "TissueBalloons", name := "refuse", desc := "(ZII)V" } : Jvm.MethodName)) ∈ lw_all := lw_g (lw_at lw_m8 104 rfl) rfl
theorem q1862 : (Jvm.Cond.code ({ cls := "TissueBalloons", name := "refuse", desc := "(ZII)V" } : Jvm.MethodName) prog_1_method_6_code (3 : Nat) (Option.none : Option Jvm.ClassFile.FieldType)) ∈ lw_all := lw_g (lw_at lw_m8 105 rfl) rfl
theorem q1871 : (Jvm.Cond.methodLink "TissueBalloons" (15 : Nat) ({ cls := "TissueBalloons$Refused", name := "<init>", desc := "(II)V" } : Jvm.MethodName)) ∈ lw_all := lw_g (lw_at lw_m8 114 rfl) rfl
theorem q1876 : (Jvm.Cond.fieldLinkNest "TissueBalloons" (86 : Nat) "TissueBalloons$Refused" "reason" "I" "TissueBalloons") ∈ lw_tbl := lw_at lw_m8 119 rfl
theorem q1878 : (Jvm.Cond.fieldLinkNest "TissueBalloons" (92 : Nat) "TissueBalloons$Refused" "detail" "I" "TissueBalloons") ∈ lw_tbl := lw_at lw_m8 121 rfl
theorem q1890 : (Jvm.Cond.methodLink "TissueBalloons" (160 : Nat) ({ cls := "TissueBalloons", name := "becomes", desc := "(I)I" } : Jvm.MethodName)) ∈ lw_all := lw_g (lw_at lw_m8 133 rfl) rfl
theorem q1891 : (Jvm.Cond.privateMethod ({ cls := "TissueBalloons", name := "becomes", desc := "(I)I" } : Jvm.MethodName)) ∈ lw_tbl := lw_at lw_m8 134 rfl
theorem q1892 : (Jvm.Cond.instanceMethod ({ cls := "TissueBalloons", name := "becomes", desc := "(I)I" } : Jvm.MethodName)) ∈ lw_all := lw_g (lw_at lw_m8 135 rfl) rfl
theorem q1893 : (Jvm.Cond.code ({ cls := "TissueBalloons", name := "becomes", desc := "(I)I" } : Jvm.MethodName) prog_1_method_16_code (2 : Nat) (Option.some Jvm.ClassFile.FieldType.int)) ∈ lw_all := lw_g (lw_at lw_m8 136 rfl) rfl
theorem q1894 : (Jvm.Cond.methodLink "TissueBalloons" (163 : Nat) ({ cls := "TissueBalloons", name := "because", desc := "(LTissueBalloons$Refused;)Ljava/lang/UnsupportedOperationException;" } : Jvm.MethodName)) ∈ lw_all := lw_g (lw_at lw_m8 137 rfl) rfl
theorem q1895 : (Jvm.Cond.privateMethod ({ cls := "TissueBalloons", name := "because", desc := "(LTissueBalloons$Refused;)Ljava/lang/UnsupportedOperationException;" } : Jvm.MethodName)) ∈ lw_tbl := lw_at lw_m8 138 rfl
theorem q1896 : (Jvm.Cond.instanceMethod ({ cls := "TissueBalloons", name := "because", desc := "(LTissueBalloons$Refused;)Ljava/lang/UnsupportedOperationException;" } : Jvm.MethodName)) ∈ lw_all := lw_g (lw_at lw_m8 139 rfl) rfl
theorem q1897 : (Jvm.Cond.code ({ cls := "TissueBalloons", name := "because", desc := "(LTissueBalloons$Refused;)Ljava/lang/UnsupportedOperationException;" } : Jvm.MethodName) prog_1_method_13_code (2 : Nat) (Option.some (Jvm.ClassFile.FieldType.object "java/lang/UnsupportedOperationException"))) ∈ lw_all := lw_g (lw_at lw_m8 140 rfl) rfl
theorem q1898 : (Jvm.Cond.classLink "TissueBalloons" (96 : Nat) "java/lang/UnsupportedOperationException") ∈ lw_all := lw_g (lw_at lw_m8 141 rfl) rfl
theorem q1907 : (Jvm.Cond.methodLink "TissueBalloons" (98 : Nat) ({ cls := "java/lang/UnsupportedOperationException", name := "<init>", desc := "()V" } : Jvm.MethodName)) ∈ lw_all := lw_g (lw_at lw_m8 150 rfl) rfl
theorem q1918 : (Jvm.Cond.instanceMethod ({ cls := "TissueBalloons", name := "roofOf", desc := "(II)I" } : Jvm.MethodName)) ∈ lw_all := lw_g (lw_at lw_m8 161 rfl) rfl
theorem q1919 : (Jvm.Cond.selects "TissueBalloons" ({ cls := "TissueBalloons", name := "roofOf", desc := "(II)I" } : Jvm.MethodName) ({ cls := "TissueBalloons", name := "roofOf", desc := "(II)I" } : Jvm.MethodName)) ∈ lw_all := lw_g (lw_at lw_m8 162 rfl) rfl
theorem q1920 : (Jvm.Cond.code ({ cls := "TissueBalloons", name := "roofOf", desc := "(II)I" } : Jvm.MethodName) prog_1_method_22_code (4 : Nat) (Option.some Jvm.ClassFile.FieldType.int)) ∈ lw_all := lw_g (lw_at lw_m8 163 rfl) rfl
theorem q1921 : (Jvm.Cond.methodLink "TissueBalloons" (167 : Nat) ({ cls := "TissueBalloons", name := "roofThere", desc := "(I)LTissueBalloons$Roof;" } : Jvm.MethodName)) ∈ lw_all := lw_g (lw_at lw_m8 164 rfl) rfl
theorem q1922 : (Jvm.Cond.privateMethod ({ cls := "TissueBalloons", name := "roofThere", desc := "(I)LTissueBalloons$Roof;" } : Jvm.MethodName)) ∈ lw_tbl := lw_at lw_m8 165 rfl
theorem q1923 : (Jvm.Cond.instanceMethod ({ cls := "TissueBalloons", name := "roofThere", desc := "(I)LTissueBalloons$Roof;" } : Jvm.MethodName)) ∈ lw_all := lw_g (lw_at lw_m8 166 rfl) rfl
theorem q1924 : (Jvm.Cond.code ({ cls := "TissueBalloons", name := "roofThere", desc := "(I)LTissueBalloons$Roof;" } : Jvm.MethodName) prog_1_method_17_code (3 : Nat) (Option.some (Jvm.ClassFile.FieldType.object "TissueBalloons$Roof"))) ∈ lw_all := lw_g (lw_at lw_m8 167 rfl) rfl
theorem q1925 : (Jvm.Cond.methodLink "TissueBalloons" (114 : Nat) ({ cls := "TissueBalloons$Festival", name := "roofAt", desc := "(I)LTissueBalloons$Roof;" } : Jvm.MethodName)) ∈ lw_all := lw_g (lw_at lw_m8 168 rfl) rfl
theorem q1926 : (Jvm.Cond.methodLink "TissueBalloons" (118 : Nat) ({ cls := "TissueBalloons", name := "checkElement", desc := "(Z)V" } : Jvm.MethodName)) ∈ lw_all := lw_g (lw_at lw_m8 169 rfl) rfl
theorem q1927 : (Jvm.Cond.static ({ cls := "TissueBalloons", name := "checkElement", desc := "(Z)V" } : Jvm.MethodName)) ∈ lw_all := lw_g (lw_at lw_m8 170 rfl) rfl
theorem q1928 : (Jvm.Cond.code ({ cls := "TissueBalloons", name := "checkElement", desc := "(Z)V" } : Jvm.MethodName) prog_1_method_9_code (1 : Nat) (Option.none : Option Jvm.ClassFile.FieldType)) ∈ lw_all := lw_g (lw_at lw_m8 171 rfl) rfl
theorem q1929 : (Jvm.Cond.classLink "TissueBalloons" (74 : Nat) "java/util/NoSuchElementException") ∈ lw_all := lw_g (lw_at lw_m8 172 rfl) rfl
theorem q1930 : (Jvm.Cond.methodLink "TissueBalloons" (76 : Nat) ({ cls := "java/util/NoSuchElementException", name := "<init>", desc := "()V" } : Jvm.MethodName)) ∈ lw_all := lw_g (lw_at lw_m8 173 rfl) rfl
theorem q1935 : (Jvm.Cond.instanceMethod ({ cls := "TissueBalloons", name := "roofAt", desc := "(I)I" } : Jvm.MethodName)) ∈ lw_all := lw_g (lw_at lw_m8 178 rfl) rfl
theorem q1936 : (Jvm.Cond.selects "TissueBalloons" ({ cls := "TissueBalloons", name := "roofAt", desc := "(I)I" } : Jvm.MethodName) ({ cls := "TissueBalloons", name := "roofAt", desc := "(I)I" } : Jvm.MethodName)) ∈ lw_all := lw_g (lw_at lw_m8 179 rfl) rfl
theorem q1937 : (Jvm.Cond.code ({ cls := "TissueBalloons", name := "roofAt", desc := "(I)I" } : Jvm.MethodName) prog_1_method_23_code (6 : Nat) (Option.some Jvm.ClassFile.FieldType.int)) ∈ lw_all := lw_g (lw_at lw_m8 180 rfl) rfl
theorem q1938 : (Jvm.Cond.methodLink "TissueBalloons" (189 : Nat) ({ cls := "java/util/TreeMap", name := "size", desc := "()I" } : Jvm.MethodName)) ∈ lw_all := lw_g (lw_at lw_m8 181 rfl) rfl
theorem q1939 : (Jvm.Cond.methodLink "TissueBalloons" (195 : Nat) ({ cls := "java/util/TreeMap", name := "keySet", desc := "()Ljava/util/Set;" } : Jvm.MethodName)) ∈ lw_all := lw_g (lw_at lw_m8 182 rfl) rfl
theorem q1944 : (Jvm.Cond.interfaceEntry "TissueBalloons" (199 : Nat)) ∈ lw_tbl := lw_at lw_m8 187 rfl
theorem q1945 : (Jvm.Cond.methodLink "TissueBalloons" (199 : Nat) ({ cls := "java/util/Set", name := "iterator", desc := "()Ljava/util/Iterator;" } : Jvm.MethodName)) ∈ lw_all := lw_g (lw_at lw_m8 188 rfl) rfl
theorem q1946 : (Jvm.Cond.interfaceEntry "TissueBalloons" (205 : Nat)) ∈ lw_tbl := lw_at lw_m8 189 rfl
theorem q1947 : (Jvm.Cond.methodLink "TissueBalloons" (205 : Nat) ({ cls := "java/util/Iterator", name := "hasNext", desc := "()Z" } : Jvm.MethodName)) ∈ lw_all := lw_g (lw_at lw_m8 190 rfl) rfl
theorem q1948 : (Jvm.Cond.interfaceEntry "TissueBalloons" (210 : Nat)) ∈ lw_tbl := lw_at lw_m8 191 rfl
theorem q1949 : (Jvm.Cond.methodLink "TissueBalloons" (210 : Nat) ({ cls := "java/util/Iterator", name := "next", desc := "()Ljava/lang/Object;" } : Jvm.MethodName)) ∈ lw_all := lw_g (lw_at lw_m8 192 rfl) rfl
theorem q1950 : (Jvm.Cond.classLink "TissueBalloons" (213 : Nat) "TissueBalloons$Spot") ∈ lw_all := lw_g (lw_at lw_m8 193 rfl) rfl
theorem q1955 : (Jvm.Cond.instanceMethod ({ cls := "TissueBalloons", name := "nearest", desc := "(I)I" } : Jvm.MethodName)) ∈ lw_all := lw_g (lw_at lw_m8 198 rfl) rfl
theorem q1956 : (Jvm.Cond.selects "TissueBalloons" ({ cls := "TissueBalloons", name := "nearest", desc := "(I)I" } : Jvm.MethodName) ({ cls := "TissueBalloons", name := "nearest", desc := "(I)I" } : Jvm.MethodName)) ∈ lw_all := lw_g (lw_at lw_m8 199 rfl) rfl
theorem q1957 : (Jvm.Cond.code ({ cls := "TissueBalloons", name := "nearest", desc := "(I)I" } : Jvm.MethodName) prog_1_method_24_code (2 : Nat) (Option.some Jvm.ClassFile.FieldType.int)) ∈ lw_all := lw_g (lw_at lw_m8 200 rfl) rfl
theorem q1958 : (Jvm.Cond.methodLink "TissueBalloons" (218 : Nat) ({ cls := "java/util/TreeMap", name := "isEmpty", desc := "()Z" } : Jvm.MethodName)) ∈ lw_all := lw_g (lw_at lw_m8 201 rfl) rfl
theorem q2019 : (Jvm.Cond.methodLink "TissueBalloons" (219 : Nat) ({ cls := "TissueBalloons$Festival", name := "nearest", desc := "(I)I" } : Jvm.MethodName)) ∈ lw_all := lw_g (lw_at lw_m9 22 rfl) rfl
theorem q2043 : (Jvm.Cond.instanceMethod ({ cls := "TissueBalloons", name := "watch", desc := "(IZ)I" } : Jvm.MethodName)) ∈ lw_all := lw_g (lw_at lw_m9 46 rfl) rfl
theorem q2044 : (Jvm.Cond.selects "TissueBalloons" ({ cls := "TissueBalloons", name := "watch", desc := "(IZ)I" } : Jvm.MethodName) ({ cls := "TissueBalloons", name := "watch", desc := "(IZ)I" } : Jvm.MethodName)) ∈ lw_all := lw_g (lw_at lw_m9 47 rfl) rfl
theorem q2045 : (Jvm.Cond.code ({ cls := "TissueBalloons", name := "watch", desc := "(IZ)I" } : Jvm.MethodName) prog_1_method_25_code (3 : Nat) (Option.some Jvm.ClassFile.FieldType.int)) ∈ lw_all := lw_g (lw_at lw_m9 48 rfl) rfl
theorem q2046 : (Jvm.Cond.methodLink "TissueBalloons" (222 : Nat) ({ cls := "TissueBalloons$Festival", name := "watch", desc := "(IZ)I" } : Jvm.MethodName)) ∈ lw_all := lw_g (lw_at lw_m9 49 rfl) rfl
theorem q2096 : (Jvm.Cond.instanceMethod ({ cls := "TissueBalloons", name := "wet", desc := "(II)I" } : Jvm.MethodName)) ∈ lw_all := lw_g (lw_at lw_m9 99 rfl) rfl
theorem q2097 : (Jvm.Cond.selects "TissueBalloons" ({ cls := "TissueBalloons", name := "wet", desc := "(II)I" } : Jvm.MethodName) ({ cls := "TissueBalloons", name := "wet", desc := "(II)I" } : Jvm.MethodName)) ∈ lw_all := lw_g (lw_at lw_m9 100 rfl) rfl
theorem q2098 : (Jvm.Cond.codeWith ({ cls := "TissueBalloons", name := "wet", desc := "(II)I" } : Jvm.MethodName) prog_1_method_26_code (4 : Nat) (Option.some Jvm.ClassFile.FieldType.int) [((29 : Nat), (42 : Nat), (43 : Nat), (13 : Nat))]) ∈ lw_all := lw_g (lw_at lw_m9 101 rfl) rfl
theorem q2099 : (Jvm.Cond.methodLink "TissueBalloons" (226 : Nat) ({ cls := "TissueBalloons$Festival", name := "wet", desc := "(II)I" } : Jvm.MethodName)) ∈ lw_all := lw_g (lw_at lw_m9 102 rfl) rfl
theorem q2108 : (Jvm.Cond.instanceMethod ({ cls := "TissueBalloons", name := "sign", desc := "(I)C" } : Jvm.MethodName)) ∈ lw_all := lw_g (lw_at lw_m9 111 rfl) rfl
theorem q2109 : (Jvm.Cond.selects "TissueBalloons" ({ cls := "TissueBalloons", name := "sign", desc := "(I)C" } : Jvm.MethodName) ({ cls := "TissueBalloons", name := "sign", desc := "(I)C" } : Jvm.MethodName)) ∈ lw_all := lw_g (lw_at lw_m9 112 rfl) rfl
theorem q2110 : (Jvm.Cond.code ({ cls := "TissueBalloons", name := "sign", desc := "(I)C" } : Jvm.MethodName) prog_1_method_27_code (3 : Nat) (Option.some Jvm.ClassFile.FieldType.char)) ∈ lw_all := lw_g (lw_at lw_m9 113 rfl) rfl
theorem q2111 : (Jvm.Cond.methodLink "TissueBalloons" (228 : Nat) ({ cls := "TissueBalloons$Festival", name := "isOver", desc := "(I)Z" } : Jvm.MethodName)) ∈ lw_all := lw_g (lw_at lw_m9 114 rfl) rfl
theorem q2123 : (Jvm.Cond.instanceMethod ({ cls := "TissueBalloons", name := "balloon", desc := "(III)I" } : Jvm.MethodName)) ∈ lw_all := lw_g (lw_at lw_m9 126 rfl) rfl
theorem q2124 : (Jvm.Cond.selects "TissueBalloons" ({ cls := "TissueBalloons", name := "balloon", desc := "(III)I" } : Jvm.MethodName) ({ cls := "TissueBalloons", name := "balloon", desc := "(III)I" } : Jvm.MethodName)) ∈ lw_all := lw_g (lw_at lw_m9 127 rfl) rfl
theorem q2125 : (Jvm.Cond.codeWith ({ cls := "TissueBalloons", name := "balloon", desc := "(III)I" } : Jvm.MethodName) prog_1_method_28_code (5 : Nat) (Option.some Jvm.ClassFile.FieldType.int) [((38 : Nat), (52 : Nat), (53 : Nat), (13 : Nat))]) ∈ lw_all := lw_g (lw_at lw_m9 128 rfl) rfl
theorem q2126 : (Jvm.Cond.methodLink "TissueBalloons" (231 : Nat) ({ cls := "TissueBalloons$Festival", name := "balloon", desc := "(III)I" } : Jvm.MethodName)) ∈ lw_all := lw_g (lw_at lw_m9 129 rfl) rfl
theorem q2135 : (Jvm.Cond.instanceMethod ({ cls := "TissueBalloons", name := "crew", desc := "(I)I" } : Jvm.MethodName)) ∈ lw_all := lw_g (lw_at lw_m9 138 rfl) rfl
theorem q2136 : (Jvm.Cond.selects "TissueBalloons" ({ cls := "TissueBalloons", name := "crew", desc := "(I)I" } : Jvm.MethodName) ({ cls := "TissueBalloons", name := "crew", desc := "(I)I" } : Jvm.MethodName)) ∈ lw_all := lw_g (lw_at lw_m9 139 rfl) rfl
theorem q2137 : (Jvm.Cond.codeWith ({ cls := "TissueBalloons", name := "crew", desc := "(I)I" } : Jvm.MethodName) prog_1_method_29_code (3 : Nat) (Option.some Jvm.ClassFile.FieldType.int) [((7 : Nat), (19 : Nat), (20 : Nat), (13 : Nat))]) ∈ lw_all := lw_g (lw_at lw_m9 140 rfl) rfl
theorem q2138 : (Jvm.Cond.methodLink "TissueBalloons" (235 : Nat) ({ cls := "TissueBalloons$Festival", name := "crew", desc := "(I)I" } : Jvm.MethodName)) ∈ lw_all := lw_g (lw_at lw_m9 141 rfl) rfl
theorem q2147 : (Jvm.Cond.instanceMethod ({ cls := "TissueBalloons", name := "crewOf", desc := "(II)I" } : Jvm.MethodName)) ∈ lw_all := lw_g (lw_at lw_m9 150 rfl) rfl
theorem q2148 : (Jvm.Cond.selects "TissueBalloons" ({ cls := "TissueBalloons", name := "crewOf", desc := "(II)I" } : Jvm.MethodName) ({ cls := "TissueBalloons", name := "crewOf", desc := "(II)I" } : Jvm.MethodName)) ∈ lw_all := lw_g (lw_at lw_m9 151 rfl) rfl
theorem q2149 : (Jvm.Cond.code ({ cls := "TissueBalloons", name := "crewOf", desc := "(II)I" } : Jvm.MethodName) prog_1_method_30_code (4 : Nat) (Option.some Jvm.ClassFile.FieldType.int)) ∈ lw_all := lw_g (lw_at lw_m9 152 rfl) rfl
theorem q2150 : (Jvm.Cond.methodLink "TissueBalloons" (238 : Nat) ({ cls := "TissueBalloons$Festival", name := "isCrew", desc := "(I)Z" } : Jvm.MethodName)) ∈ lw_all := lw_g (lw_at lw_m9 153 rfl) rfl
theorem q2159 : (Jvm.Cond.instanceMethod ({ cls := "TissueBalloons", name := "launch", desc := "(II)I" } : Jvm.MethodName)) ∈ lw_all := lw_g (lw_at lw_m9 162 rfl) rfl
theorem q2160 : (Jvm.Cond.selects "TissueBalloons" ({ cls := "TissueBalloons", name := "launch", desc := "(II)I" } : Jvm.MethodName) ({ cls := "TissueBalloons", name := "launch", desc := "(II)I" } : Jvm.MethodName)) ∈ lw_all := lw_g (lw_at lw_m9 163 rfl) rfl
theorem q2161 : (Jvm.Cond.codeWith ({ cls := "TissueBalloons", name := "launch", desc := "(II)I" } : Jvm.MethodName) prog_1_method_31_code (4 : Nat) (Option.some Jvm.ClassFile.FieldType.int) [((30 : Nat), (43 : Nat), (44 : Nat), (13 : Nat))]) ∈ lw_all := lw_g (lw_at lw_m9 164 rfl) rfl
theorem q2162 : (Jvm.Cond.methodLink "TissueBalloons" (122 : Nat) ({ cls := "TissueBalloons$Festival", name := "isBalloon", desc := "(I)Z" } : Jvm.MethodName)) ∈ lw_all := lw_g (lw_at lw_m9 165 rfl) rfl
theorem q2166 : (Jvm.Cond.methodLink "TissueBalloons" (254 : Nat) ({ cls := "TissueBalloons$Festival", name := "launch", desc := "(II)I" } : Jvm.MethodName)) ∈ lw_all := lw_g (lw_at lw_m9 169 rfl) rfl
theorem q2171 : (Jvm.Cond.static ({ cls := "TissueBalloons", name := "isStrong", desc := "(I)Z" } : Jvm.MethodName)) ∈ lw_all := lw_g (lw_at lw_m9 174 rfl) rfl
theorem q2172 : (Jvm.Cond.code ({ cls := "TissueBalloons", name := "isStrong", desc := "(I)Z" } : Jvm.MethodName) prog_1_method_5_code (1 : Nat) (Option.some Jvm.ClassFile.FieldType.boolean)) ∈ lw_all := lw_g (lw_at lw_m9 175 rfl) rfl
theorem q2173 : (Jvm.Cond.methodLink "TissueBalloons" (7 : Nat) ({ cls := "java/lang/Math", name := "abs", desc := "(I)I" } : Jvm.MethodName)) ∈ lw_all := lw_g (lw_at lw_m9 176 rfl) rfl
theorem q2180 : (Jvm.Cond.instanceMethod ({ cls := "TissueBalloons", name := "plan", desc := "(III)I" } : Jvm.MethodName)) ∈ lw_all := lw_g (lw_at lw_m9 183 rfl) rfl
theorem q2181 : (Jvm.Cond.selects "TissueBalloons" ({ cls := "TissueBalloons", name := "plan", desc := "(III)I" } : Jvm.MethodName) ({ cls := "TissueBalloons", name := "plan", desc := "(III)I" } : Jvm.MethodName)) ∈ lw_all := lw_g (lw_at lw_m9 184 rfl) rfl
theorem q2182 : (Jvm.Cond.codeWith ({ cls := "TissueBalloons", name := "plan", desc := "(III)I" } : Jvm.MethodName) prog_1_method_32_code (5 : Nat) (Option.some Jvm.ClassFile.FieldType.int) [((41 : Nat), (55 : Nat), (56 : Nat), (13 : Nat))]) ∈ lw_all := lw_g (lw_at lw_m9 185 rfl) rfl
theorem q2183 : (Jvm.Cond.methodLink "TissueBalloons" (257 : Nat) ({ cls := "TissueBalloons$Festival", name := "plan", desc := "(III)I" } : Jvm.MethodName)) ∈ lw_all := lw_g (lw_at lw_m9 186 rfl) rfl
theorem q2199 : (Jvm.Cond.fieldLinkNest "TissueBalloons" (278 : Nat) "TissueBalloons$Plan" "balloon" "I" "TissueBalloons") ∈ lw_tbl := lw_at lw_m9 202 rfl
theorem q2202 : (Jvm.Cond.fieldLinkNest "TissueBalloons" (282 : Nat) "TissueBalloons$Plan" "crew" "I" "TissueBalloons") ∈ lw_tbl := lw_at lw_m9 205 rfl
theorem q2205 : (Jvm.Cond.fieldLinkNest "TissueBalloons" (284 : Nat) "TissueBalloons$Plan" "minute" "I" "TissueBalloons") ∈ lw_tbl := lw_at lw_m9 208 rfl
theorem q2318 : (Jvm.Cond.instanceMethod ({ cls := "TissueBalloons", name := "drop", desc := "(I)I" } : Jvm.MethodName)) ∈ lw_all := lw_g (lw_at lw_m10 81 rfl) rfl
theorem q2319 : (Jvm.Cond.selects "TissueBalloons" ({ cls := "TissueBalloons", name := "drop", desc := "(I)I" } : Jvm.MethodName) ({ cls := "TissueBalloons", name := "drop", desc := "(I)I" } : Jvm.MethodName)) ∈ lw_all := lw_g (lw_at lw_m10 82 rfl) rfl
theorem q2320 : (Jvm.Cond.code ({ cls := "TissueBalloons", name := "drop", desc := "(I)I" } : Jvm.MethodName) prog_1_method_33_code (3 : Nat) (Option.some Jvm.ClassFile.FieldType.int)) ∈ lw_all := lw_g (lw_at lw_m10 83 rfl) rfl
theorem q2321 : (Jvm.Cond.methodLink "TissueBalloons" (260 : Nat) ({ cls := "TissueBalloons$Festival", name := "planOf", desc := "(I)LTissueBalloons$Plan;" } : Jvm.MethodName)) ∈ lw_all := lw_g (lw_at lw_m10 84 rfl) rfl
theorem q2322 : (Jvm.Cond.methodLink "TissueBalloons" (264 : Nat) ({ cls := "TissueBalloons$Festival", name := "drop", desc := "(LTissueBalloons$Plan;)I" } : Jvm.MethodName)) ∈ lw_all := lw_g (lw_at lw_m10 85 rfl) rfl
theorem q2349 : (Jvm.Cond.instanceMethod ({ cls := "TissueBalloons", name := "planAt", desc := "(II)I" } : Jvm.MethodName)) ∈ lw_all := lw_g (lw_at lw_m10 112 rfl) rfl
theorem q2350 : (Jvm.Cond.selects "TissueBalloons" ({ cls := "TissueBalloons", name := "planAt", desc := "(II)I" } : Jvm.MethodName) ({ cls := "TissueBalloons", name := "planAt", desc := "(II)I" } : Jvm.MethodName)) ∈ lw_all := lw_g (lw_at lw_m10 113 rfl) rfl
theorem q2351 : (Jvm.Cond.code ({ cls := "TissueBalloons", name := "planAt", desc := "(II)I" } : Jvm.MethodName) prog_1_method_34_code (4 : Nat) (Option.some Jvm.ClassFile.FieldType.int)) ∈ lw_all := lw_g (lw_at lw_m10 114 rfl) rfl
theorem q2352 : (Jvm.Cond.methodLink "TissueBalloons" (272 : Nat) ({ cls := "java/util/TreeSet", name := "size", desc := "()I" } : Jvm.MethodName)) ∈ lw_all := lw_g (lw_at lw_m10 115 rfl) rfl
theorem q2353 : (Jvm.Cond.methodLink "TissueBalloons" (275 : Nat) ({ cls := "TissueBalloons$Festival", name := "planAt", desc := "(I)LTissueBalloons$Plan;" } : Jvm.MethodName)) ∈ lw_all := lw_g (lw_at lw_m10 116 rfl) rfl
theorem q2361 : (Jvm.Cond.instanceMethod ({ cls := "TissueBalloons", name := "balloonOf", desc := "(II)I" } : Jvm.MethodName)) ∈ lw_all := lw_g (lw_at lw_m10 124 rfl) rfl
theorem q2362 : (Jvm.Cond.selects "TissueBalloons" ({ cls := "TissueBalloons", name := "balloonOf", desc := "(II)I" } : Jvm.MethodName) ({ cls := "TissueBalloons", name := "balloonOf", desc := "(II)I" } : Jvm.MethodName)) ∈ lw_all := lw_g (lw_at lw_m10 125 rfl) rfl
theorem q2363 : (Jvm.Cond.code ({ cls := "TissueBalloons", name := "balloonOf", desc := "(II)I" } : Jvm.MethodName) prog_1_method_35_code (4 : Nat) (Option.some Jvm.ClassFile.FieldType.int)) ∈ lw_all := lw_g (lw_at lw_m10 126 rfl) rfl
theorem q2364 : (Jvm.Cond.methodLink "TissueBalloons" (287 : Nat) ({ cls := "TissueBalloons", name := "balloonThat", desc := "(I)LTissueBalloons$Balloon;" } : Jvm.MethodName)) ∈ lw_all := lw_g (lw_at lw_m10 127 rfl) rfl
theorem q2365 : (Jvm.Cond.privateMethod ({ cls := "TissueBalloons", name := "balloonThat", desc := "(I)LTissueBalloons$Balloon;" } : Jvm.MethodName)) ∈ lw_tbl := lw_at lw_m10 128 rfl
theorem q2366 : (Jvm.Cond.instanceMethod ({ cls := "TissueBalloons", name := "balloonThat", desc := "(I)LTissueBalloons$Balloon;" } : Jvm.MethodName)) ∈ lw_all := lw_g (lw_at lw_m10 129 rfl) rfl
theorem q2367 : (Jvm.Cond.code ({ cls := "TissueBalloons", name := "balloonThat", desc := "(I)LTissueBalloons$Balloon;" } : Jvm.MethodName) prog_1_method_18_code (2 : Nat) (Option.some (Jvm.ClassFile.FieldType.object "TissueBalloons$Balloon"))) ∈ lw_all := lw_g (lw_at lw_m10 130 rfl) rfl
theorem q2372 : (Jvm.Cond.instanceMethod ({ cls := "TissueBalloons", name := "highest", desc := "(I)I" } : Jvm.MethodName)) ∈ lw_all := lw_g (lw_at lw_m10 135 rfl) rfl
theorem q2373 : (Jvm.Cond.selects "TissueBalloons" ({ cls := "TissueBalloons", name := "highest", desc := "(I)I" } : Jvm.MethodName) ({ cls := "TissueBalloons", name := "highest", desc := "(I)I" } : Jvm.MethodName)) ∈ lw_all := lw_g (lw_at lw_m10 136 rfl) rfl
theorem q2374 : (Jvm.Cond.code ({ cls := "TissueBalloons", name := "highest", desc := "(I)I" } : Jvm.MethodName) prog_1_method_36_code (7 : Nat) (Option.some Jvm.ClassFile.FieldType.int)) ∈ lw_all := lw_g (lw_at lw_m10 137 rfl) rfl
theorem q2375 : (Jvm.Cond.methodLink "TissueBalloons" (312 : Nat) ({ cls := "TissueBalloons$Festival", name := "flying", desc := "()Ljava/util/TreeSet;" } : Jvm.MethodName)) ∈ lw_all := lw_g (lw_at lw_m10 138 rfl) rfl
theorem q2392 : (Jvm.Cond.methodLink "TissueBalloons" (316 : Nat) ({ cls := "java/util/TreeSet", name := "iterator", desc := "()Ljava/util/Iterator;" } : Jvm.MethodName)) ∈ lw_all := lw_g (lw_at lw_m10 155 rfl) rfl
theorem q2393 : (Jvm.Cond.classLink "TissueBalloons" (292 : Nat) "TissueBalloons$Balloon") ∈ lw_all := lw_g (lw_at lw_m10 156 rfl) rfl
theorem q2398 : (Jvm.Cond.instanceMethod ({ cls := "TissueBalloons", name := "ranked", desc := "(I)I" } : Jvm.MethodName)) ∈ lw_all := lw_g (lw_at lw_m10 161 rfl) rfl
theorem q2399 : (Jvm.Cond.selects "TissueBalloons" ({ cls := "TissueBalloons", name := "ranked", desc := "(I)I" } : Jvm.MethodName) ({ cls := "TissueBalloons", name := "ranked", desc := "(I)I" } : Jvm.MethodName)) ∈ lw_all := lw_g (lw_at lw_m10 162 rfl) rfl
theorem q2400 : (Jvm.Cond.code ({ cls := "TissueBalloons", name := "ranked", desc := "(I)I" } : Jvm.MethodName) prog_1_method_37_code (5 : Nat) (Option.some Jvm.ClassFile.FieldType.int)) ∈ lw_all := lw_g (lw_at lw_m10 163 rfl) rfl
theorem q2401 : (Jvm.Cond.methodLink "TissueBalloons" (323 : Nat) ({ cls := "TissueBalloons$Festival", name := "byFlight", desc := "()Ljava/util/PriorityQueue;" } : Jvm.MethodName)) ∈ lw_all := lw_g (lw_at lw_m10 164 rfl) rfl
theorem q2461 : (Jvm.Cond.methodLink "TissueBalloons" (327 : Nat) ({ cls := "java/util/PriorityQueue", name := "poll", desc := "()Ljava/lang/Object;" } : Jvm.MethodName)) ∈ lw_all := lw_g (lw_at lw_m10 224 rfl) rfl
theorem q2469 : (Jvm.Cond.instanceMethod ({ cls := "TissueBalloons", name := "layerIn", desc := "(II)I" } : Jvm.MethodName)) ∈ lw_all := lw_g (lw_at lw_m10 232 rfl) rfl
theorem q2470 : (Jvm.Cond.selects "TissueBalloons" ({ cls := "TissueBalloons", name := "layerIn", desc := "(II)I" } : Jvm.MethodName) ({ cls := "TissueBalloons", name := "layerIn", desc := "(II)I" } : Jvm.MethodName)) ∈ lw_all := lw_g (lw_at lw_m10 233 rfl) rfl
theorem q2471 : (Jvm.Cond.code ({ cls := "TissueBalloons", name := "layerIn", desc := "(II)I" } : Jvm.MethodName) prog_1_method_38_code (4 : Nat) (Option.some Jvm.ClassFile.FieldType.int)) ∈ lw_all := lw_g (lw_at lw_m10 234 rfl) rfl
theorem q2472 : (Jvm.Cond.methodLink "TissueBalloons" (332 : Nat) ({ cls := "TissueBalloons$Balloon", name := "flies", desc := "()Z" } : Jvm.MethodName)) ∈ lw_all := lw_g (lw_at lw_m10 235 rfl) rfl
theorem q2473 : (Jvm.Cond.methodLink "TissueBalloons" (335 : Nat) ({ cls := "TissueBalloons$Festival", name := "layerIn", desc := "(II)I" } : Jvm.MethodName)) ∈ lw_all := lw_g (lw_at lw_m10 236 rfl) rfl
theorem q2482 : (Jvm.Cond.instanceMethod ({ cls := "TissueBalloons", name := "layerAgain", desc := "(II)I" } : Jvm.MethodName)) ∈ lw_all := lw_g (lw_at lw_m11 5 rfl) rfl
theorem q2483 : (Jvm.Cond.selects "TissueBalloons" ({ cls := "TissueBalloons", name := "layerAgain", desc := "(II)I" } : Jvm.MethodName) ({ cls := "TissueBalloons", name := "layerAgain", desc := "(II)I" } : Jvm.MethodName)) ∈ lw_all := lw_g (lw_at lw_m11 6 rfl) rfl
theorem q2484 : (Jvm.Cond.code ({ cls := "TissueBalloons", name := "layerAgain", desc := "(II)I" } : Jvm.MethodName) prog_1_method_39_code (4 : Nat) (Option.some Jvm.ClassFile.FieldType.int)) ∈ lw_all := lw_g (lw_at lw_m11 7 rfl) rfl
theorem q2485 : (Jvm.Cond.methodLink "TissueBalloons" (338 : Nat) ({ cls := "TissueBalloons$Festival", name := "layerAgain", desc := "(II)I" } : Jvm.MethodName)) ∈ lw_all := lw_g (lw_at lw_m11 8 rfl) rfl
theorem q2493 : (Jvm.Cond.instanceMethod ({ cls := "TissueBalloons", name := "would", desc := "(II)I" } : Jvm.MethodName)) ∈ lw_all := lw_g (lw_at lw_m11 16 rfl) rfl
theorem q2494 : (Jvm.Cond.selects "TissueBalloons" ({ cls := "TissueBalloons", name := "would", desc := "(II)I" } : Jvm.MethodName) ({ cls := "TissueBalloons", name := "would", desc := "(II)I" } : Jvm.MethodName)) ∈ lw_all := lw_g (lw_at lw_m11 17 rfl) rfl
theorem q2495 : (Jvm.Cond.code ({ cls := "TissueBalloons", name := "would", desc := "(II)I" } : Jvm.MethodName) prog_1_method_40_code (7 : Nat) (Option.some Jvm.ClassFile.FieldType.int)) ∈ lw_all := lw_g (lw_at lw_m11 18 rfl) rfl
theorem q2496 : (Jvm.Cond.methodLink "TissueBalloons" (341 : Nat) ({ cls := "TissueBalloons$Festival", name := "fliesOut", desc := "(I)I" } : Jvm.MethodName)) ∈ lw_all := lw_g (lw_at lw_m11 19 rfl) rfl
theorem q2662 : (Jvm.Cond.instanceMethod ({ cls := "TissueBalloons", name := "pass", desc := "(I)I" } : Jvm.MethodName)) ∈ lw_all := lw_g (lw_at lw_m11 185 rfl) rfl
theorem q2663 : (Jvm.Cond.selects "TissueBalloons" ({ cls := "TissueBalloons", name := "pass", desc := "(I)I" } : Jvm.MethodName) ({ cls := "TissueBalloons", name := "pass", desc := "(I)I" } : Jvm.MethodName)) ∈ lw_all := lw_g (lw_at lw_m11 186 rfl) rfl
theorem q2664 : (Jvm.Cond.code ({ cls := "TissueBalloons", name := "pass", desc := "(I)I" } : Jvm.MethodName) prog_1_method_41_code (2 : Nat) (Option.some Jvm.ClassFile.FieldType.int)) ∈ lw_all := lw_g (lw_at lw_m11 187 rfl) rfl
theorem q2665 : (Jvm.Cond.methodLink "TissueBalloons" (344 : Nat) ({ cls := "TissueBalloons$Festival", name := "pass", desc := "(I)I" } : Jvm.MethodName)) ∈ lw_all := lw_g (lw_at lw_m11 188 rfl) rfl
theorem q2674 : (Jvm.Cond.instanceMethod ({ cls := "TissueBalloons", name := "append", desc := "(C)I" } : Jvm.MethodName)) ∈ lw_all := lw_g (lw_at lw_m11 197 rfl) rfl
theorem q2675 : (Jvm.Cond.selects "TissueBalloons" ({ cls := "TissueBalloons", name := "append", desc := "(C)I" } : Jvm.MethodName) ({ cls := "TissueBalloons", name := "append", desc := "(C)I" } : Jvm.MethodName)) ∈ lw_all := lw_g (lw_at lw_m11 198 rfl) rfl
theorem q2676 : (Jvm.Cond.code ({ cls := "TissueBalloons", name := "append", desc := "(C)I" } : Jvm.MethodName) prog_1_method_42_code (2 : Nat) (Option.some Jvm.ClassFile.FieldType.int)) ∈ lw_all := lw_g (lw_at lw_m11 199 rfl) rfl
theorem q2677 : (Jvm.Cond.methodLink "TissueBalloons" (347 : Nat) ({ cls := "java/lang/StringBuilder", name := "length", desc := "()I" } : Jvm.MethodName)) ∈ lw_all := lw_g (lw_at lw_m11 200 rfl) rfl
theorem q2684 : (Jvm.Cond.methodLink "TissueBalloons" (350 : Nat) ({ cls := "TissueBalloons", name := "checkState", desc := "(Z)V" } : Jvm.MethodName)) ∈ lw_all := lw_g (lw_at lw_m11 207 rfl) rfl
theorem q2685 : (Jvm.Cond.static ({ cls := "TissueBalloons", name := "checkState", desc := "(Z)V" } : Jvm.MethodName)) ∈ lw_all := lw_g (lw_at lw_m11 208 rfl) rfl
theorem q2686 : (Jvm.Cond.code ({ cls := "TissueBalloons", name := "checkState", desc := "(Z)V" } : Jvm.MethodName) prog_1_method_10_code (1 : Nat) (Option.none : Option Jvm.ClassFile.FieldType)) ∈ lw_all := lw_g (lw_at lw_m11 209 rfl) rfl
theorem q2687 : (Jvm.Cond.classLink "TissueBalloons" (77 : Nat) "java/lang/IllegalStateException") ∈ lw_all := lw_g (lw_at lw_m11 210 rfl) rfl
theorem q2688 : (Jvm.Cond.methodLink "TissueBalloons" (79 : Nat) ({ cls := "java/lang/IllegalStateException", name := "<init>", desc := "()V" } : Jvm.MethodName)) ∈ lw_all := lw_g (lw_at lw_m11 211 rfl) rfl
theorem q2689 : (Jvm.Cond.methodLink "TissueBalloons" (353 : Nat) ({ cls := "java/lang/StringBuilder", name := "append", desc := "(C)Ljava/lang/StringBuilder;" } : Jvm.MethodName)) ∈ lw_all := lw_g (lw_at lw_m11 212 rfl) rfl
theorem q2757 : (Jvm.Cond.instanceMethod ({ cls := "TissueBalloons", name := "read", desc := "()I" } : Jvm.MethodName)) ∈ lw_all := lw_g (lw_at lw_m12 40 rfl) rfl
theorem q2758 : (Jvm.Cond.selects "TissueBalloons" ({ cls := "TissueBalloons", name := "read", desc := "()I" } : Jvm.MethodName) ({ cls := "TissueBalloons", name := "read", desc := "()I" } : Jvm.MethodName)) ∈ lw_all := lw_g (lw_at lw_m12 41 rfl) rfl
theorem q2759 : (Jvm.Cond.codeWith ({ cls := "TissueBalloons", name := "read", desc := "()I" } : Jvm.MethodName) prog_1_method_43_code (3 : Nat) (Option.some Jvm.ClassFile.FieldType.int) [((5 : Nat), (12 : Nat), (15 : Nat), (360 : Nat)), ((53 : Nat), (100 : Nat), (103 : Nat), (13 : Nat))]) ∈ lw_all := lw_g (lw_at lw_m12 42 rfl) rfl
theorem q2760 : (Jvm.Cond.classLink "TissueBalloons" (360 : Nat) "TissueBalloons$Fault") ∈ lw_all := lw_g (lw_at lw_m12 43 rfl) rfl
theorem q2761 : (Jvm.Cond.methodLink "TissueBalloons" (357 : Nat) ({ cls := "TissueBalloons$Reader", name := "read", desc := "()V" } : Jvm.MethodName)) ∈ lw_all := lw_g (lw_at lw_m12 44 rfl) rfl
theorem q2807 : (Jvm.Cond.fieldLinkNest "TissueBalloons" (362 : Nat) "TissueBalloons$Fault" "position" "I" "TissueBalloons") ∈ lw_tbl := lw_at lw_m12 90 rfl
theorem q2824 : (Jvm.Cond.methodLink "TissueBalloons" (365 : Nat) ({ cls := "java/lang/StringBuilder", name := "setLength", desc := "(I)V" } : Jvm.MethodName)) ∈ lw_all := lw_g (lw_at lw_m12 107 rfl) rfl
theorem q2990 : (Jvm.Cond.methodLink "TissueBalloons" (372 : Nat) ({ cls := "TissueBalloons$Reader", name := "isRight", desc := "(LTissueBalloons$Festival;I)Z" } : Jvm.MethodName)) ∈ lw_all := lw_g (lw_at lw_m13 33 rfl) rfl
theorem q2999 : (Jvm.Cond.methodLink "TissueBalloons" (376 : Nat) ({ cls := "TissueBalloons$Reader", name := "does", desc := "(LTissueBalloons$Festival;I)I" } : Jvm.MethodName)) ∈ lw_all := lw_g (lw_at lw_m13 42 rfl) rfl
theorem q3012 : (Jvm.Cond.instanceMethod ({ cls := "TissueBalloons", name := "refusal", desc := "(Z)I" } : Jvm.MethodName)) ∈ lw_all := lw_g (lw_at lw_m13 55 rfl) rfl
theorem q3013 : (Jvm.Cond.selects "TissueBalloons" ({ cls := "TissueBalloons", name := "refusal", desc := "(Z)I" } : Jvm.MethodName) ({ cls := "TissueBalloons", name := "refusal", desc := "(Z)I" } : Jvm.MethodName)) ∈ lw_all := lw_g (lw_at lw_m13 56 rfl) rfl
theorem q3014 : (Jvm.Cond.code ({ cls := "TissueBalloons", name := "refusal", desc := "(Z)I" } : Jvm.MethodName) prog_1_method_45_code (2 : Nat) (Option.some Jvm.ClassFile.FieldType.int)) ∈ lw_all := lw_g (lw_at lw_m13 57 rfl) rfl
theorem q3019 : (Jvm.Cond.instanceMethod ({ cls := "TissueBalloons", name := "account", desc := "(I)I" } : Jvm.MethodName)) ∈ lw_all := lw_g (lw_at lw_m13 62 rfl) rfl
theorem q3020 : (Jvm.Cond.selects "TissueBalloons" ({ cls := "TissueBalloons", name := "account", desc := "(I)I" } : Jvm.MethodName) ({ cls := "TissueBalloons", name := "account", desc := "(I)I" } : Jvm.MethodName)) ∈ lw_all := lw_g (lw_at lw_m13 63 rfl) rfl
theorem q3021 : (Jvm.Cond.code ({ cls := "TissueBalloons", name := "account", desc := "(I)I" } : Jvm.MethodName) prog_1_method_46_code (2 : Nat) (Option.some Jvm.ClassFile.FieldType.int)) ∈ lw_all := lw_g (lw_at lw_m13 64 rfl) rfl
theorem q3022 : (Jvm.Cond.methodLink "TissueBalloons" (381 : Nat) ({ cls := "TissueBalloons$Festival", name := "watched", desc := "()I" } : Jvm.MethodName)) ∈ lw_all := lw_g (lw_at lw_m13 65 rfl) rfl
theorem q3023 : (Jvm.Cond.methodLink "TissueBalloons" (384 : Nat) ({ cls := "TissueBalloons$Festival", name := "burnt", desc := "()I" } : Jvm.MethodName)) ∈ lw_all := lw_g (lw_at lw_m13 66 rfl) rfl
theorem q3027 : (Jvm.Cond.methodLink "TissueBalloons" (390 : Nat) ({ cls := "TissueBalloons$Festival", name := "busy", desc := "()I" } : Jvm.MethodName)) ∈ lw_all := lw_g (lw_at lw_m13 70 rfl) rfl
theorem q3031 : (Jvm.Cond.methodLink "TissueBalloons" (397 : Nat) ({ cls := "java/util/ArrayDeque", name := "size", desc := "()I" } : Jvm.MethodName)) ∈ lw_all := lw_g (lw_at lw_m13 74 rfl) rfl
theorem q3032 : (Jvm.Cond.methodLink "TissueBalloons" (398 : Nat) ({ cls := "TissueBalloons$Festival", name := "inState", desc := "(I)I" } : Jvm.MethodName)) ∈ lw_all := lw_g (lw_at lw_m13 75 rfl) rfl
theorem q3051 : (Jvm.Cond.instanceMethod ({ cls := "TissueBalloons", name := "meanFlight", desc := "()D" } : Jvm.MethodName)) ∈ lw_all := lw_g (lw_at lw_m13 94 rfl) rfl
theorem q3052 : (Jvm.Cond.selects "TissueBalloons" ({ cls := "TissueBalloons", name := "meanFlight", desc := "()D" } : Jvm.MethodName) ({ cls := "TissueBalloons", name := "meanFlight", desc := "()D" } : Jvm.MethodName)) ∈ lw_all := lw_g (lw_at lw_m13 95 rfl) rfl
theorem q3053 : (Jvm.Cond.code ({ cls := "TissueBalloons", name := "meanFlight", desc := "()D" } : Jvm.MethodName) prog_1_method_48_code (1 : Nat) (Option.some Jvm.ClassFile.FieldType.double)) ∈ lw_all := lw_g (lw_at lw_m13 96 rfl) rfl
theorem q3054 : (Jvm.Cond.methodLink "TissueBalloons" (404 : Nat) ({ cls := "TissueBalloons", name := "checkAny", desc := "(Z)V" } : Jvm.MethodName)) ∈ lw_all := lw_g (lw_at lw_m13 97 rfl) rfl
theorem q3055 : (Jvm.Cond.static ({ cls := "TissueBalloons", name := "checkAny", desc := "(Z)V" } : Jvm.MethodName)) ∈ lw_all := lw_g (lw_at lw_m13 98 rfl) rfl
theorem q3056 : (Jvm.Cond.code ({ cls := "TissueBalloons", name := "checkAny", desc := "(Z)V" } : Jvm.MethodName) prog_1_method_12_code (1 : Nat) (Option.none : Option Jvm.ClassFile.FieldType)) ∈ lw_all := lw_g (lw_at lw_m13 99 rfl) rfl
theorem q3057 : (Jvm.Cond.classLink "TissueBalloons" (83 : Nat) "java/lang/ArithmeticException") ∈ lw_all := lw_g (lw_at lw_m13 100 rfl) rfl
theorem q3058 : (Jvm.Cond.methodLink "TissueBalloons" (85 : Nat) ({ cls := "java/lang/ArithmeticException", name := "<init>", desc := "()V" } : Jvm.MethodName)) ∈ lw_all := lw_g (lw_at lw_m13 101 rfl) rfl
theorem q3066 : (Jvm.Cond.instanceMethod ({ cls := "TissueBalloons", name := "burnt", desc := "()F" } : Jvm.MethodName)) ∈ lw_all := lw_g (lw_at lw_m13 109 rfl) rfl
theorem q3067 : (Jvm.Cond.selects "TissueBalloons" ({ cls := "TissueBalloons", name := "burnt", desc := "()F" } : Jvm.MethodName) ({ cls := "TissueBalloons", name := "burnt", desc := "()F" } : Jvm.MethodName)) ∈ lw_all := lw_g (lw_at lw_m13 110 rfl) rfl
theorem q3068 : (Jvm.Cond.code ({ cls := "TissueBalloons", name := "burnt", desc := "()F" } : Jvm.MethodName) prog_1_method_49_code (1 : Nat) (Option.some Jvm.ClassFile.FieldType.float)) ∈ lw_all := lw_g (lw_at lw_m13 111 rfl) rfl
theorem q3073 : (Jvm.Cond.instanceMethod ({ cls := "TissueBalloons", name := "undo", desc := "()I" } : Jvm.MethodName)) ∈ lw_all := lw_g (lw_at lw_m13 116 rfl) rfl
theorem q3074 : (Jvm.Cond.selects "TissueBalloons" ({ cls := "TissueBalloons", name := "undo", desc := "()I" } : Jvm.MethodName) ({ cls := "TissueBalloons", name := "undo", desc := "()I" } : Jvm.MethodName)) ∈ lw_all := lw_g (lw_at lw_m13 117 rfl) rfl
theorem q3075 : (Jvm.Cond.code ({ cls := "TissueBalloons", name := "undo", desc := "()I" } : Jvm.MethodName) prog_1_method_50_code (2 : Nat) (Option.some Jvm.ClassFile.FieldType.int)) ∈ lw_all := lw_g (lw_at lw_m13 118 rfl) rfl
theorem q3076 : (Jvm.Cond.methodLink "TissueBalloons" (407 : Nat) ({ cls := "java/util/ArrayDeque", name := "pollLast", desc := "()Ljava/lang/Object;" } : Jvm.MethodName)) ∈ lw_all := lw_g (lw_at lw_m13 119 rfl) rfl
theorem q3084 : (Jvm.Cond.instanceMethod ({ cls := "TissueBalloons", name := "restore", desc := "()I" } : Jvm.MethodName)) ∈ lw_all := lw_g (lw_at lw_m13 127 rfl) rfl
theorem q3085 : (Jvm.Cond.selects "TissueBalloons" ({ cls := "TissueBalloons", name := "restore", desc := "()I" } : Jvm.MethodName) ({ cls := "TissueBalloons", name := "restore", desc := "()I" } : Jvm.MethodName)) ∈ lw_all := lw_g (lw_at lw_m13 128 rfl) rfl
theorem q3086 : (Jvm.Cond.code ({ cls := "TissueBalloons", name := "restore", desc := "()I" } : Jvm.MethodName) prog_1_method_52_code (1 : Nat) (Option.some Jvm.ClassFile.FieldType.int)) ∈ lw_all := lw_g (lw_at lw_m13 129 rfl) rfl
theorem q3534 : (Jvm.Cond.castable "TissueBalloons" "java/lang/Object") ∈ lw_tbl := lw_at lw_m15 97 rfl
def RX10 : String := "TissueBalloons$Plan"
def TX10 : u_T := fun k => match k with
  | 0 => ("TissueBalloons$Plan", "balloon", "I", true)
  | 1 => ("TissueBalloons$Plan", "crew", "I", true)
  | _ => ("TissueBalloons$Plan", "minute", "I", true)
def tyX10 : Nat → FieldType := fun k => match k with
  | 0 => .int
  | 1 => .int
  | _ => .int
abbrev wsX100 : List Cond := u_ws RX10 TX10 3
theorem nmX10 : ∀ a, a < 3 → ∀ b, b < 3 → a ≠ b → (TX10 a).2.1 ≠ (TX10 b).2.1 := by decide +kernel
theorem tyX10_ok : ∀ k, k < 3 → parseFieldDescriptor (TX10 k).2.2.1 = some (tyX10 k) := by decide +kernel
theorem q135 : (Jvm.Cond.initialized "TissueBalloons$Plan") ∈ lw_all := lw_g (lw_at lw_m1 58 rfl) rfl
theorem q522 : (Jvm.Cond.selects "TissueBalloons$Plan" ({ cls := "java/lang/Object", name := "getClass", desc := "()Ljava/lang/Class;" } : Jvm.MethodName) ({ cls := "java/lang/Object", name := "getClass", desc := "()Ljava/lang/Class;" } : Jvm.MethodName)) ∈ lw_all := lw_g (lw_at lw_m2 205 rfl) rfl
theorem q682 : (Jvm.Cond.castable "TissueBalloons$Plan" "java/lang/Comparable") ∈ lw_tbl := lw_at lw_m3 125 rfl
theorem q683 : (Jvm.Cond.selects "TissueBalloons$Plan" ({ cls := "java/lang/Comparable", name := "compareTo", desc := "(Ljava/lang/Object;)I" } : Jvm.MethodName) ({ cls := "TissueBalloons$Plan", name := "compareTo", desc := "(Ljava/lang/Object;)I" } : Jvm.MethodName)) ∈ lw_all := lw_g (lw_at lw_m3 126 rfl) rfl
theorem q684 : (Jvm.Cond.unhidden "TissueBalloons$Plan" "compareTo" "(Ljava/lang/Object;)I") ∈ lw_tbl := lw_at lw_m3 127 rfl
theorem q685 : (Jvm.Cond.instanceMethod ({ cls := "TissueBalloons$Plan", name := "compareTo", desc := "(Ljava/lang/Object;)I" } : Jvm.MethodName)) ∈ lw_all := lw_g (lw_at lw_m3 128 rfl) rfl
theorem q686 : (Jvm.Cond.publicMethod ({ cls := "TissueBalloons$Plan", name := "compareTo", desc := "(Ljava/lang/Object;)I" } : Jvm.MethodName)) ∈ lw_tbl := lw_at lw_m3 129 rfl
theorem q687 : (Jvm.Cond.code ({ cls := "TissueBalloons$Plan", name := "compareTo", desc := "(Ljava/lang/Object;)I" } : Jvm.MethodName) prog_8_method_3_code (2 : Nat) (Option.some Jvm.ClassFile.FieldType.int)) ∈ lw_all := lw_g (lw_at lw_m3 130 rfl) rfl
theorem q688 : (Jvm.Cond.classLink "TissueBalloons$Plan" (8 : Nat) "TissueBalloons$Plan") ∈ lw_all := lw_g (lw_at lw_m3 131 rfl) rfl
theorem q689 : (Jvm.Cond.methodLink "TissueBalloons$Plan" (19 : Nat) ({ cls := "TissueBalloons$Plan", name := "compareTo", desc := "(LTissueBalloons$Plan;)I" } : Jvm.MethodName)) ∈ lw_all := lw_g (lw_at lw_m3 132 rfl) rfl
theorem q690 : (Jvm.Cond.instanceMethod ({ cls := "TissueBalloons$Plan", name := "compareTo", desc := "(LTissueBalloons$Plan;)I" } : Jvm.MethodName)) ∈ lw_all := lw_g (lw_at lw_m3 133 rfl) rfl
theorem q691 : (Jvm.Cond.selects "TissueBalloons$Plan" ({ cls := "TissueBalloons$Plan", name := "compareTo", desc := "(LTissueBalloons$Plan;)I" } : Jvm.MethodName) ({ cls := "TissueBalloons$Plan", name := "compareTo", desc := "(LTissueBalloons$Plan;)I" } : Jvm.MethodName)) ∈ lw_all := lw_g (lw_at lw_m3 134 rfl) rfl
theorem q692 : (Jvm.Cond.code ({ cls := "TissueBalloons$Plan", name := "compareTo", desc := "(LTissueBalloons$Plan;)I" } : Jvm.MethodName) prog_8_method_2_code (2 : Nat) (Option.some Jvm.ClassFile.FieldType.int)) ∈ lw_all := lw_g (lw_at lw_m3 135 rfl) rfl
theorem q2192 : (Jvm.Cond.instantiable "TissueBalloons$Plan" (3 : Nat)) ∈ lw_all := lw_g (lw_at lw_m9 195 rfl) rfl
theorem q2194 : (Jvm.Cond.instanceMethod ({ cls := "TissueBalloons$Plan", name := "<init>", desc := "(III)V" } : Jvm.MethodName)) ∈ lw_all := lw_g (lw_at lw_m9 197 rfl) rfl
theorem q2195 : (Jvm.Cond.code ({ cls := "TissueBalloons$Plan", name := "<init>", desc := "(III)V" } : Jvm.MethodName) prog_8_method_1_code (4 : Nat) (Option.none : Option Jvm.ClassFile.FieldType)) ∈ lw_all := lw_g (lw_at lw_m9 198 rfl) rfl
theorem q2196 : (Jvm.Cond.methodLink "TissueBalloons$Plan" (1 : Nat) ({ cls := "java/lang/Object", name := "<init>", desc := "()V" } : Jvm.MethodName)) ∈ lw_all := lw_g (lw_at lw_m9 199 rfl) rfl
theorem q2197 : (Jvm.Cond.fieldLink "TissueBalloons$Plan" (7 : Nat) "TissueBalloons$Plan" "balloon" "I") ∈ lw_all := lw_g (lw_at lw_m9 200 rfl) rfl
theorem q2200 : (Jvm.Cond.fieldLink "TissueBalloons$Plan" (13 : Nat) "TissueBalloons$Plan" "crew" "I") ∈ lw_all := lw_g (lw_at lw_m9 203 rfl) rfl
theorem q2203 : (Jvm.Cond.fieldLink "TissueBalloons$Plan" (16 : Nat) "TissueBalloons$Plan" "minute" "I") ∈ lw_all := lw_g (lw_at lw_m9 206 rfl) rfl
theorem q2206 : (Jvm.Cond.laysFinal "TissueBalloons$Plan" "TissueBalloons$Plan" "balloon" "I") ∈ lw_all := lw_g (lw_at lw_m9 209 rfl) rfl
theorem q2207 : (Jvm.Cond.soleField "TissueBalloons$Plan" "balloon") ∈ lw_all := lw_g (lw_at lw_m9 210 rfl) rfl
theorem q2208 : (Jvm.Cond.laysFinal "TissueBalloons$Plan" "TissueBalloons$Plan" "crew" "I") ∈ lw_all := lw_g (lw_at lw_m9 211 rfl) rfl
theorem q2209 : (Jvm.Cond.soleField "TissueBalloons$Plan" "crew") ∈ lw_all := lw_g (lw_at lw_m9 212 rfl) rfl
theorem q2210 : (Jvm.Cond.laysFinal "TissueBalloons$Plan" "TissueBalloons$Plan" "minute" "I") ∈ lw_all := lw_g (lw_at lw_m9 213 rfl) rfl
theorem q2211 : (Jvm.Cond.soleField "TissueBalloons$Plan" "minute") ∈ lw_all := lw_g (lw_at lw_m9 214 rfl) rfl
theorem q2212 : (Jvm.Cond.superclass "TissueBalloons$Plan" "java/lang/Object") ∈ lw_all := lw_g (lw_at lw_m9 215 rfl) rfl
theorem q3560 : (Jvm.Cond.castable "TissueBalloons$Plan" "java/lang/Object") ∈ lw_tbl := lw_at lw_m15 123 rfl
def RX11 : String := "TissueBalloons$ByLayer"
theorem q138 : (Jvm.Cond.initialized "TissueBalloons$ByLayer") ∈ lw_all := lw_g (lw_at lw_m1 61 rfl) rfl
theorem q230 : (Jvm.Cond.fieldLinkNest "TissueBalloons$ByLayer" (13 : Nat) "TissueBalloons$Balloon" "number" "I" "TissueBalloons") ∈ lw_tbl := lw_at lw_m1 153 rfl
theorem q244 : (Jvm.Cond.fieldLinkNest "TissueBalloons$ByLayer" (7 : Nat) "TissueBalloons$Balloon" "layer" "I" "TissueBalloons") ∈ lw_tbl := lw_at lw_m1 167 rfl
theorem q518 : (Jvm.Cond.selects "TissueBalloons$ByLayer" ({ cls := "java/lang/Object", name := "getClass", desc := "()Ljava/lang/Class;" } : Jvm.MethodName) ({ cls := "java/lang/Object", name := "getClass", desc := "()Ljava/lang/Class;" } : Jvm.MethodName)) ∈ lw_all := lw_g (lw_at lw_m2 201 rfl) rfl
theorem q925 : (Jvm.Cond.castable "TissueBalloons$ByLayer" "java/util/Comparator") ∈ lw_tbl := lw_at lw_m4 128 rfl
theorem q926 : (Jvm.Cond.selects "TissueBalloons$ByLayer" ({ cls := "java/util/Comparator", name := "compare", desc := "(Ljava/lang/Object;Ljava/lang/Object;)I" } : Jvm.MethodName) ({ cls := "TissueBalloons$ByLayer", name := "compare", desc := "(Ljava/lang/Object;Ljava/lang/Object;)I" } : Jvm.MethodName)) ∈ lw_all := lw_g (lw_at lw_m4 129 rfl) rfl
theorem q927 : (Jvm.Cond.unhidden "TissueBalloons$ByLayer" "compare" "(Ljava/lang/Object;Ljava/lang/Object;)I") ∈ lw_tbl := lw_at lw_m4 130 rfl
theorem q928 : (Jvm.Cond.instanceMethod ({ cls := "TissueBalloons$ByLayer", name := "compare", desc := "(Ljava/lang/Object;Ljava/lang/Object;)I" } : Jvm.MethodName)) ∈ lw_all := lw_g (lw_at lw_m4 131 rfl) rfl
theorem q929 : (Jvm.Cond.publicMethod ({ cls := "TissueBalloons$ByLayer", name := "compare", desc := "(Ljava/lang/Object;Ljava/lang/Object;)I" } : Jvm.MethodName)) ∈ lw_tbl := lw_at lw_m4 132 rfl
theorem q930 : (Jvm.Cond.code ({ cls := "TissueBalloons$ByLayer", name := "compare", desc := "(Ljava/lang/Object;Ljava/lang/Object;)I" } : Jvm.MethodName) prog_4_method_3_code (3 : Nat) (Option.some Jvm.ClassFile.FieldType.int)) ∈ lw_all := lw_g (lw_at lw_m4 133 rfl) rfl
theorem q931 : (Jvm.Cond.classLink "TissueBalloons$ByLayer" (8 : Nat) "TissueBalloons$Balloon") ∈ lw_all := lw_g (lw_at lw_m4 134 rfl) rfl
theorem q932 : (Jvm.Cond.methodLink "TissueBalloons$ByLayer" (16 : Nat) ({ cls := "TissueBalloons$ByLayer", name := "compare", desc := "(LTissueBalloons$Balloon;LTissueBalloons$Balloon;)I" } : Jvm.MethodName)) ∈ lw_all := lw_g (lw_at lw_m4 135 rfl) rfl
theorem q933 : (Jvm.Cond.instanceMethod ({ cls := "TissueBalloons$ByLayer", name := "compare", desc := "(LTissueBalloons$Balloon;LTissueBalloons$Balloon;)I" } : Jvm.MethodName)) ∈ lw_all := lw_g (lw_at lw_m4 136 rfl) rfl
theorem q934 : (Jvm.Cond.selects "TissueBalloons$ByLayer" ({ cls := "TissueBalloons$ByLayer", name := "compare", desc := "(LTissueBalloons$Balloon;LTissueBalloons$Balloon;)I" } : Jvm.MethodName) ({ cls := "TissueBalloons$ByLayer", name := "compare", desc := "(LTissueBalloons$Balloon;LTissueBalloons$Balloon;)I" } : Jvm.MethodName)) ∈ lw_all := lw_g (lw_at lw_m4 137 rfl) rfl
theorem q935 : (Jvm.Cond.code ({ cls := "TissueBalloons$ByLayer", name := "compare", desc := "(LTissueBalloons$Balloon;LTissueBalloons$Balloon;)I" } : Jvm.MethodName) prog_4_method_2_code (3 : Nat) (Option.some Jvm.ClassFile.FieldType.int)) ∈ lw_all := lw_g (lw_at lw_m4 138 rfl) rfl
theorem q2380 : (Jvm.Cond.instantiable "TissueBalloons$ByLayer" (0 : Nat)) ∈ lw_all := lw_g (lw_at lw_m10 143 rfl) rfl
theorem q2382 : (Jvm.Cond.instanceMethod ({ cls := "TissueBalloons$ByLayer", name := "<init>", desc := "()V" } : Jvm.MethodName)) ∈ lw_all := lw_g (lw_at lw_m10 145 rfl) rfl
theorem q2383 : (Jvm.Cond.code ({ cls := "TissueBalloons$ByLayer", name := "<init>", desc := "()V" } : Jvm.MethodName) prog_4_method_1_code (1 : Nat) (Option.none : Option Jvm.ClassFile.FieldType)) ∈ lw_all := lw_g (lw_at lw_m10 146 rfl) rfl
theorem q2384 : (Jvm.Cond.methodLink "TissueBalloons$ByLayer" (1 : Nat) ({ cls := "java/lang/Object", name := "<init>", desc := "()V" } : Jvm.MethodName)) ∈ lw_all := lw_g (lw_at lw_m10 147 rfl) rfl
theorem q2385 : (Jvm.Cond.superclass "TissueBalloons$ByLayer" "java/lang/Object") ∈ lw_all := lw_g (lw_at lw_m10 148 rfl) rfl
theorem q3562 : (Jvm.Cond.castable "TissueBalloons$ByLayer" "java/lang/Object") ∈ lw_tbl := lw_at lw_m15 125 rfl
def RX12 : String := "TissueBalloons$ByFlight"
theorem q139 : (Jvm.Cond.initialized "TissueBalloons$ByFlight") ∈ lw_all := lw_g (lw_at lw_m1 62 rfl) rfl
theorem q229 : (Jvm.Cond.fieldLinkNest "TissueBalloons$ByFlight" (13 : Nat) "TissueBalloons$Balloon" "number" "I" "TissueBalloons") ∈ lw_tbl := lw_at lw_m1 152 rfl
theorem q251 : (Jvm.Cond.fieldLinkNest "TissueBalloons$ByFlight" (7 : Nat) "TissueBalloons$Balloon" "flown" "I" "TissueBalloons") ∈ lw_tbl := lw_at lw_m1 174 rfl
theorem q517 : (Jvm.Cond.selects "TissueBalloons$ByFlight" ({ cls := "java/lang/Object", name := "getClass", desc := "()Ljava/lang/Class;" } : Jvm.MethodName) ({ cls := "java/lang/Object", name := "getClass", desc := "()Ljava/lang/Class;" } : Jvm.MethodName)) ∈ lw_all := lw_g (lw_at lw_m2 200 rfl) rfl
theorem q914 : (Jvm.Cond.castable "TissueBalloons$ByFlight" "java/util/Comparator") ∈ lw_tbl := lw_at lw_m4 117 rfl
theorem q915 : (Jvm.Cond.selects "TissueBalloons$ByFlight" ({ cls := "java/util/Comparator", name := "compare", desc := "(Ljava/lang/Object;Ljava/lang/Object;)I" } : Jvm.MethodName) ({ cls := "TissueBalloons$ByFlight", name := "compare", desc := "(Ljava/lang/Object;Ljava/lang/Object;)I" } : Jvm.MethodName)) ∈ lw_all := lw_g (lw_at lw_m4 118 rfl) rfl
theorem q916 : (Jvm.Cond.unhidden "TissueBalloons$ByFlight" "compare" "(Ljava/lang/Object;Ljava/lang/Object;)I") ∈ lw_tbl := lw_at lw_m4 119 rfl
theorem q917 : (Jvm.Cond.instanceMethod ({ cls := "TissueBalloons$ByFlight", name := "compare", desc := "(Ljava/lang/Object;Ljava/lang/Object;)I" } : Jvm.MethodName)) ∈ lw_all := lw_g (lw_at lw_m4 120 rfl) rfl
theorem q918 : (Jvm.Cond.publicMethod ({ cls := "TissueBalloons$ByFlight", name := "compare", desc := "(Ljava/lang/Object;Ljava/lang/Object;)I" } : Jvm.MethodName)) ∈ lw_tbl := lw_at lw_m4 121 rfl
theorem q919 : (Jvm.Cond.code ({ cls := "TissueBalloons$ByFlight", name := "compare", desc := "(Ljava/lang/Object;Ljava/lang/Object;)I" } : Jvm.MethodName) prog_3_method_3_code (3 : Nat) (Option.some Jvm.ClassFile.FieldType.int)) ∈ lw_all := lw_g (lw_at lw_m4 122 rfl) rfl
theorem q920 : (Jvm.Cond.classLink "TissueBalloons$ByFlight" (8 : Nat) "TissueBalloons$Balloon") ∈ lw_all := lw_g (lw_at lw_m4 123 rfl) rfl
theorem q921 : (Jvm.Cond.methodLink "TissueBalloons$ByFlight" (16 : Nat) ({ cls := "TissueBalloons$ByFlight", name := "compare", desc := "(LTissueBalloons$Balloon;LTissueBalloons$Balloon;)I" } : Jvm.MethodName)) ∈ lw_all := lw_g (lw_at lw_m4 124 rfl) rfl
theorem q922 : (Jvm.Cond.instanceMethod ({ cls := "TissueBalloons$ByFlight", name := "compare", desc := "(LTissueBalloons$Balloon;LTissueBalloons$Balloon;)I" } : Jvm.MethodName)) ∈ lw_all := lw_g (lw_at lw_m4 125 rfl) rfl
theorem q923 : (Jvm.Cond.selects "TissueBalloons$ByFlight" ({ cls := "TissueBalloons$ByFlight", name := "compare", desc := "(LTissueBalloons$Balloon;LTissueBalloons$Balloon;)I" } : Jvm.MethodName) ({ cls := "TissueBalloons$ByFlight", name := "compare", desc := "(LTissueBalloons$Balloon;LTissueBalloons$Balloon;)I" } : Jvm.MethodName)) ∈ lw_all := lw_g (lw_at lw_m4 126 rfl) rfl
theorem q924 : (Jvm.Cond.code ({ cls := "TissueBalloons$ByFlight", name := "compare", desc := "(LTissueBalloons$Balloon;LTissueBalloons$Balloon;)I" } : Jvm.MethodName) prog_3_method_2_code (3 : Nat) (Option.some Jvm.ClassFile.FieldType.int)) ∈ lw_all := lw_g (lw_at lw_m4 127 rfl) rfl
theorem q2407 : (Jvm.Cond.instantiable "TissueBalloons$ByFlight" (0 : Nat)) ∈ lw_all := lw_g (lw_at lw_m10 170 rfl) rfl
theorem q2409 : (Jvm.Cond.instanceMethod ({ cls := "TissueBalloons$ByFlight", name := "<init>", desc := "()V" } : Jvm.MethodName)) ∈ lw_all := lw_g (lw_at lw_m10 172 rfl) rfl
theorem q2410 : (Jvm.Cond.code ({ cls := "TissueBalloons$ByFlight", name := "<init>", desc := "()V" } : Jvm.MethodName) prog_3_method_1_code (1 : Nat) (Option.none : Option Jvm.ClassFile.FieldType)) ∈ lw_all := lw_g (lw_at lw_m10 173 rfl) rfl
theorem q2411 : (Jvm.Cond.methodLink "TissueBalloons$ByFlight" (1 : Nat) ({ cls := "java/lang/Object", name := "<init>", desc := "()V" } : Jvm.MethodName)) ∈ lw_all := lw_g (lw_at lw_m10 174 rfl) rfl
theorem q2412 : (Jvm.Cond.superclass "TissueBalloons$ByFlight" "java/lang/Object") ∈ lw_all := lw_g (lw_at lw_m10 175 rfl) rfl
theorem q3564 : (Jvm.Cond.castable "TissueBalloons$ByFlight" "java/lang/Object") ∈ lw_tbl := lw_at lw_m15 127 rfl
def RX13 : String := "TissueBalloons$Fault"
def TX13 : u_T := fun k => match k with
  | 0 => ("java/lang/Throwable", "cause", "Ljava/lang/Throwable;", false)
  | 1 => ("java/lang/Throwable", "stackTrace", "[Ljava/lang/StackTraceElement;", false)
  | 2 => ("java/lang/Throwable", "suppressedExceptions", "Ljava/util/List;", false)
  | 3 => ("java/lang/Throwable", "detailMessage", "Ljava/lang/String;", false)
  | 4 => ("java/lang/Throwable", "backtrace", "Ljava/lang/Object;", false)
  | 5 => ("java/lang/Throwable", "depth", "I", false)
  | _ => ("TissueBalloons$Fault", "position", "I", true)
def tyX13 : Nat → FieldType := fun k => match k with
  | 0 => .object "java/lang/Throwable"
  | 1 => .array (.object "java/lang/StackTraceElement")
  | 2 => .object "java/util/List"
  | 3 => .object "java/lang/String"
  | 4 => .object "java/lang/Object"
  | 5 => .int
  | _ => .int
abbrev wsX130 : List Cond := u_ws RX13 TX13 7
theorem nmX13 : ∀ a, a < 7 → ∀ b, b < 7 → a ≠ b → (TX13 a).2.1 ≠ (TX13 b).2.1 := by decide +kernel
theorem tyX13_ok : ∀ k, k < 7 → parseFieldDescriptor (TX13 k).2.2.1 = some (tyX13 k) := by decide +kernel
theorem q141 : (Jvm.Cond.initialized "TissueBalloons$Fault") ∈ lw_all := lw_g (lw_at lw_m1 64 rfl) rfl
theorem q467 : (Jvm.Cond.selects "TissueBalloons$Fault" ({ cls := "java/lang/Throwable", name := "fillInStackTrace", desc := "()Ljava/lang/Throwable;" } : Jvm.MethodName) ({ cls := "java/lang/Throwable", name := "fillInStackTrace", desc := "()Ljava/lang/Throwable;" } : Jvm.MethodName)) ∈ lw_all := lw_g (lw_at lw_m2 150 rfl) rfl
theorem q520 : (Jvm.Cond.selects "TissueBalloons$Fault" ({ cls := "java/lang/Object", name := "getClass", desc := "()Ljava/lang/Class;" } : Jvm.MethodName) ({ cls := "java/lang/Object", name := "getClass", desc := "()Ljava/lang/Class;" } : Jvm.MethodName)) ∈ lw_all := lw_g (lw_at lw_m2 203 rfl) rfl
theorem q2794 : (Jvm.Cond.instantiable "TissueBalloons$Fault" (7 : Nat)) ∈ lw_all := lw_g (lw_at lw_m12 77 rfl) rfl
theorem q2795 : (Jvm.Cond.castable "TissueBalloons$Fault" "TissueBalloons$Fault") ∈ lw_tbl := lw_at lw_m12 78 rfl
theorem q2796 : (Jvm.Cond.selects "TissueBalloons$Fault" ({ cls := "java/lang/Throwable", name := "fillInStackTrace", desc := "(I)Ljava/lang/Throwable;" } : Jvm.MethodName) ({ cls := "java/lang/Throwable", name := "fillInStackTrace", desc := "(I)Ljava/lang/Throwable;" } : Jvm.MethodName)) ∈ lw_all := lw_g (lw_at lw_m12 79 rfl) rfl
theorem q2797 : (Jvm.Cond.lays "TissueBalloons$Fault" "java/lang/Throwable" "cause" "Ljava/lang/Throwable;") ∈ lw_all := lw_g (lw_at lw_m12 80 rfl) rfl
theorem q2798 : (Jvm.Cond.lays "TissueBalloons$Fault" "java/lang/Throwable" "stackTrace" "[Ljava/lang/StackTraceElement;") ∈ lw_all := lw_g (lw_at lw_m12 81 rfl) rfl
theorem q2799 : (Jvm.Cond.lays "TissueBalloons$Fault" "java/lang/Throwable" "suppressedExceptions" "Ljava/util/List;") ∈ lw_all := lw_g (lw_at lw_m12 82 rfl) rfl
theorem q2800 : (Jvm.Cond.lays "TissueBalloons$Fault" "java/lang/Throwable" "detailMessage" "Ljava/lang/String;") ∈ lw_all := lw_g (lw_at lw_m12 83 rfl) rfl
theorem q2801 : (Jvm.Cond.lays "TissueBalloons$Fault" "java/lang/Throwable" "backtrace" "Ljava/lang/Object;") ∈ lw_all := lw_g (lw_at lw_m12 84 rfl) rfl
theorem q2803 : (Jvm.Cond.instanceMethod ({ cls := "TissueBalloons$Fault", name := "<init>", desc := "(I)V" } : Jvm.MethodName)) ∈ lw_all := lw_g (lw_at lw_m12 86 rfl) rfl
theorem q2804 : (Jvm.Cond.code ({ cls := "TissueBalloons$Fault", name := "<init>", desc := "(I)V" } : Jvm.MethodName) prog_6_method_1_code (2 : Nat) (Option.none : Option Jvm.ClassFile.FieldType)) ∈ lw_all := lw_g (lw_at lw_m12 87 rfl) rfl
theorem q2805 : (Jvm.Cond.methodLink "TissueBalloons$Fault" (1 : Nat) ({ cls := "java/lang/RuntimeException", name := "<init>", desc := "()V" } : Jvm.MethodName)) ∈ lw_all := lw_g (lw_at lw_m12 88 rfl) rfl
theorem q2806 : (Jvm.Cond.fieldLink "TissueBalloons$Fault" (7 : Nat) "TissueBalloons$Fault" "position" "I") ∈ lw_all := lw_g (lw_at lw_m12 89 rfl) rfl
theorem q2808 : (Jvm.Cond.laysFinal "TissueBalloons$Fault" "TissueBalloons$Fault" "position" "I") ∈ lw_all := lw_g (lw_at lw_m12 91 rfl) rfl
theorem q2809 : (Jvm.Cond.soleField "TissueBalloons$Fault" "position") ∈ lw_all := lw_g (lw_at lw_m12 92 rfl) rfl
theorem q2810 : (Jvm.Cond.lays "TissueBalloons$Fault" "java/lang/Throwable" "depth" "I") ∈ lw_all := lw_g (lw_at lw_m12 93 rfl) rfl
theorem q2811 : (Jvm.Cond.superclass "TissueBalloons$Fault" "java/lang/RuntimeException") ∈ lw_all := lw_g (lw_at lw_m12 94 rfl) rfl
theorem q3569 : (Jvm.Cond.castable "TissueBalloons$Fault" "java/lang/Object") ∈ lw_tbl := lw_at lw_m15 132 rfl
def RX2 : String := "TissueBalloons$Festival"
def TX2 : u_T := fun k => match k with
  | 0 => ("TissueBalloons$Festival", "drifts", "[I", true)
  | 1 => ("TissueBalloons$Festival", "roofs", "Ljava/util/TreeMap;", true)
  | 2 => ("TissueBalloons$Festival", "plans", "Ljava/util/TreeSet;", true)
  | 3 => ("TissueBalloons$Festival", "balloons", "[LTissueBalloons$Balloon;", true)
  | 4 => ("TissueBalloons$Festival", "crews", "[LTissueBalloons$Crew;", true)
  | 5 => ("TissueBalloons$Festival", "balloonMany", "I", false)
  | 6 => ("TissueBalloons$Festival", "crewMany", "I", false)
  | 7 => ("TissueBalloons$Festival", "minute", "I", false)
  | 8 => ("TissueBalloons$Festival", "launched", "I", false)
  | 9 => ("TissueBalloons$Festival", "missed", "I", false)
  | _ => ("TissueBalloons$Festival", "flown", "I", false)
def tyX2 : Nat → FieldType := fun k => match k with
  | 0 => .array .int
  | 1 => .object "java/util/TreeMap"
  | 2 => .object "java/util/TreeSet"
  | 3 => .array (.object "TissueBalloons$Balloon")
  | 4 => .array (.object "TissueBalloons$Crew")
  | 5 => .int
  | 6 => .int
  | 7 => .int
  | 8 => .int
  | 9 => .int
  | _ => .int
abbrev wsX20 : List Cond := u_ws RX2 TX2 11
theorem nmX2 : ∀ a, a < 11 → ∀ b, b < 11 → a ≠ b → (TX2 a).2.1 ≠ (TX2 b).2.1 := by decide +kernel
theorem tyX2_ok : ∀ k, k < 11 → parseFieldDescriptor (TX2 k).2.2.1 = some (tyX2 k) := by decide +kernel
theorem q79 : (Jvm.Cond.initialized "TissueBalloons$Festival") ∈ lw_all := lw_g (lw_at lw_m1 2 rfl) rfl
theorem q153 : (Jvm.Cond.instantiable "TissueBalloons$Festival" (11 : Nat)) ∈ lw_all := lw_g (lw_at lw_m1 76 rfl) rfl
theorem q155 : (Jvm.Cond.instanceMethod ({ cls := "TissueBalloons$Festival", name := "<init>", desc := "()V" } : Jvm.MethodName)) ∈ lw_all := lw_g (lw_at lw_m1 78 rfl) rfl
theorem q156 : (Jvm.Cond.code ({ cls := "TissueBalloons$Festival", name := "<init>", desc := "()V" } : Jvm.MethodName) prog_7_method_1_code (2 : Nat) (Option.none : Option Jvm.ClassFile.FieldType)) ∈ lw_all := lw_g (lw_at lw_m1 79 rfl) rfl
theorem q157 : (Jvm.Cond.methodLink "TissueBalloons$Festival" (3 : Nat) ({ cls := "java/lang/Object", name := "<init>", desc := "()V" } : Jvm.MethodName)) ∈ lw_all := lw_g (lw_at lw_m1 80 rfl) rfl
theorem q158 : (Jvm.Cond.classLink "TissueBalloons$Festival" (15 : Nat) "java/util/TreeMap") ∈ lw_all := lw_g (lw_at lw_m1 81 rfl) rfl
theorem q160 : (Jvm.Cond.methodLink "TissueBalloons$Festival" (17 : Nat) ({ cls := "java/util/TreeMap", name := "<init>", desc := "()V" } : Jvm.MethodName)) ∈ lw_all := lw_g (lw_at lw_m1 83 rfl) rfl
theorem q198 : (Jvm.Cond.classLink "TissueBalloons$Festival" (22 : Nat) "java/util/TreeSet") ∈ lw_all := lw_g (lw_at lw_m1 121 rfl) rfl
theorem q200 : (Jvm.Cond.methodLink "TissueBalloons$Festival" (24 : Nat) ({ cls := "java/util/TreeSet", name := "<init>", desc := "()V" } : Jvm.MethodName)) ∈ lw_all := lw_g (lw_at lw_m1 123 rfl) rfl
theorem q219 : (Jvm.Cond.classLink "TissueBalloons$Festival" (29 : Nat) "TissueBalloons$Balloon") ∈ lw_all := lw_g (lw_at lw_m1 142 rfl) rfl
theorem q221 : (Jvm.Cond.classLink "TissueBalloons$Festival" (35 : Nat) "TissueBalloons$Crew") ∈ lw_all := lw_g (lw_at lw_m1 144 rfl) rfl
theorem q224 : (Jvm.Cond.methodLink "TissueBalloons$Festival" (41 : Nat) ({ cls := "TissueBalloons$Balloon", name := "<init>", desc := "(I)V" } : Jvm.MethodName)) ∈ lw_all := lw_g (lw_at lw_m1 147 rfl) rfl
theorem q233 : (Jvm.Cond.fieldLinkNest "TissueBalloons$Festival" (191 : Nat) "TissueBalloons$Balloon" "state" "I" "TissueBalloons") ∈ lw_tbl := lw_at lw_m1 156 rfl
theorem q236 : (Jvm.Cond.fieldLinkNest "TissueBalloons$Festival" (257 : Nat) "TissueBalloons$Balloon" "tissue" "I" "TissueBalloons") ∈ lw_tbl := lw_at lw_m1 159 rfl
theorem q239 : (Jvm.Cond.fieldLinkNest "TissueBalloons$Festival" (260 : Nat) "TissueBalloons$Balloon" "wick" "I" "TissueBalloons") ∈ lw_tbl := lw_at lw_m1 162 rfl
theorem q242 : (Jvm.Cond.fieldLinkNest "TissueBalloons$Festival" (251 : Nat) "TissueBalloons$Balloon" "glow" "I" "TissueBalloons") ∈ lw_tbl := lw_at lw_m1 165 rfl
theorem q246 : (Jvm.Cond.fieldLinkNest "TissueBalloons$Festival" (201 : Nat) "TissueBalloons$Balloon" "layer" "I" "TissueBalloons") ∈ lw_tbl := lw_at lw_m1 169 rfl
theorem q249 : (Jvm.Cond.fieldLinkNest "TissueBalloons$Festival" (205 : Nat) "TissueBalloons$Balloon" "place" "I" "TissueBalloons") ∈ lw_tbl := lw_at lw_m1 172 rfl
theorem q253 : (Jvm.Cond.fieldLinkNest "TissueBalloons$Festival" (266 : Nat) "TissueBalloons$Balloon" "flown" "I" "TissueBalloons") ∈ lw_tbl := lw_at lw_m1 176 rfl
theorem q273 : (Jvm.Cond.methodLinkNest "TissueBalloons$Festival" (44 : Nat) ({ cls := "TissueBalloons$Crew", name := "<init>", desc := "()V" } : Jvm.MethodName) "TissueBalloons") ∈ lw_tbl := lw_at lw_m1 196 rfl
theorem q278 : (Jvm.Cond.fieldLinkNest "TissueBalloons$Festival" (204 : Nat) "TissueBalloons$Crew" "place" "I" "TissueBalloons") ∈ lw_tbl := lw_at lw_m1 201 rfl
theorem q281 : (Jvm.Cond.fieldLinkNest "TissueBalloons$Festival" (194 : Nat) "TissueBalloons$Crew" "busy" "I" "TissueBalloons") ∈ lw_tbl := lw_at lw_m1 204 rfl
theorem q284 : (Jvm.Cond.fieldLinkNest "TissueBalloons$Festival" (206 : Nat) "TissueBalloons$Crew" "launched" "I" "TissueBalloons") ∈ lw_tbl := lw_at lw_m1 207 rfl
theorem q293 : (Jvm.Cond.fieldLink "TissueBalloons$Festival" (9 : Nat) "TissueBalloons$Festival" "drifts" "[I") ∈ lw_all := lw_g (lw_at lw_m1 216 rfl) rfl
theorem q295 : (Jvm.Cond.fieldLink "TissueBalloons$Festival" (18 : Nat) "TissueBalloons$Festival" "roofs" "Ljava/util/TreeMap;") ∈ lw_all := lw_g (lw_at lw_m1 218 rfl) rfl
theorem q297 : (Jvm.Cond.fieldLink "TissueBalloons$Festival" (25 : Nat) "TissueBalloons$Festival" "plans" "Ljava/util/TreeSet;") ∈ lw_all := lw_g (lw_at lw_m1 220 rfl) rfl
theorem q299 : (Jvm.Cond.fieldLink "TissueBalloons$Festival" (31 : Nat) "TissueBalloons$Festival" "balloons" "[LTissueBalloons$Balloon;") ∈ lw_all := lw_g (lw_at lw_m1 222 rfl) rfl
theorem q301 : (Jvm.Cond.fieldLink "TissueBalloons$Festival" (37 : Nat) "TissueBalloons$Festival" "crews" "[LTissueBalloons$Crew;") ∈ lw_all := lw_g (lw_at lw_m1 224 rfl) rfl
theorem q303 : (Jvm.Cond.fieldLink "TissueBalloons$Festival" (102 : Nat) "TissueBalloons$Festival" "balloonMany" "I") ∈ lw_all := lw_g (lw_at lw_m1 226 rfl) rfl
theorem q305 : (Jvm.Cond.fieldLink "TissueBalloons$Festival" (110 : Nat) "TissueBalloons$Festival" "crewMany" "I") ∈ lw_all := lw_g (lw_at lw_m1 228 rfl) rfl
theorem q307 : (Jvm.Cond.fieldLink "TissueBalloons$Festival" (116 : Nat) "TissueBalloons$Festival" "minute" "I") ∈ lw_all := lw_g (lw_at lw_m1 230 rfl) rfl
theorem q309 : (Jvm.Cond.fieldLink "TissueBalloons$Festival" (119 : Nat) "TissueBalloons$Festival" "launched" "I") ∈ lw_all := lw_g (lw_at lw_m1 232 rfl) rfl
theorem q311 : (Jvm.Cond.fieldLink "TissueBalloons$Festival" (122 : Nat) "TissueBalloons$Festival" "missed" "I") ∈ lw_all := lw_g (lw_at lw_m1 234 rfl) rfl
theorem q313 : (Jvm.Cond.fieldLink "TissueBalloons$Festival" (125 : Nat) "TissueBalloons$Festival" "flown" "I") ∈ lw_all := lw_g (lw_at lw_m1 236 rfl) rfl
theorem q315 : (Jvm.Cond.laysFinal "TissueBalloons$Festival" "TissueBalloons$Festival" "drifts" "[I") ∈ lw_all := lw_g (lw_at lw_m1 238 rfl) rfl
theorem q316 : (Jvm.Cond.soleField "TissueBalloons$Festival" "drifts") ∈ lw_all := lw_g (lw_at lw_m1 239 rfl) rfl
theorem q317 : (Jvm.Cond.laysFinal "TissueBalloons$Festival" "TissueBalloons$Festival" "roofs" "Ljava/util/TreeMap;") ∈ lw_all := lw_g (lw_at lw_m2 0 rfl) rfl
theorem q318 : (Jvm.Cond.soleField "TissueBalloons$Festival" "roofs") ∈ lw_all := lw_g (lw_at lw_m2 1 rfl) rfl
theorem q319 : (Jvm.Cond.laysFinal "TissueBalloons$Festival" "TissueBalloons$Festival" "plans" "Ljava/util/TreeSet;") ∈ lw_all := lw_g (lw_at lw_m2 2 rfl) rfl
theorem q320 : (Jvm.Cond.soleField "TissueBalloons$Festival" "plans") ∈ lw_all := lw_g (lw_at lw_m2 3 rfl) rfl
theorem q321 : (Jvm.Cond.laysFinal "TissueBalloons$Festival" "TissueBalloons$Festival" "balloons" "[LTissueBalloons$Balloon;") ∈ lw_all := lw_g (lw_at lw_m2 4 rfl) rfl
theorem q322 : (Jvm.Cond.soleField "TissueBalloons$Festival" "balloons") ∈ lw_all := lw_g (lw_at lw_m2 5 rfl) rfl
theorem q323 : (Jvm.Cond.laysFinal "TissueBalloons$Festival" "TissueBalloons$Festival" "crews" "[LTissueBalloons$Crew;") ∈ lw_all := lw_g (lw_at lw_m2 6 rfl) rfl
theorem q324 : (Jvm.Cond.soleField "TissueBalloons$Festival" "crews") ∈ lw_all := lw_g (lw_at lw_m2 7 rfl) rfl
theorem q325 : (Jvm.Cond.lays "TissueBalloons$Festival" "TissueBalloons$Festival" "balloonMany" "I") ∈ lw_all := lw_g (lw_at lw_m2 8 rfl) rfl
theorem q326 : (Jvm.Cond.soleField "TissueBalloons$Festival" "balloonMany") ∈ lw_all := lw_g (lw_at lw_m2 9 rfl) rfl
theorem q327 : (Jvm.Cond.lays "TissueBalloons$Festival" "TissueBalloons$Festival" "crewMany" "I") ∈ lw_all := lw_g (lw_at lw_m2 10 rfl) rfl
theorem q328 : (Jvm.Cond.soleField "TissueBalloons$Festival" "crewMany") ∈ lw_all := lw_g (lw_at lw_m2 11 rfl) rfl
theorem q329 : (Jvm.Cond.lays "TissueBalloons$Festival" "TissueBalloons$Festival" "minute" "I") ∈ lw_all := lw_g (lw_at lw_m2 12 rfl) rfl
theorem q330 : (Jvm.Cond.soleField "TissueBalloons$Festival" "minute") ∈ lw_all := lw_g (lw_at lw_m2 13 rfl) rfl
theorem q331 : (Jvm.Cond.lays "TissueBalloons$Festival" "TissueBalloons$Festival" "launched" "I") ∈ lw_all := lw_g (lw_at lw_m2 14 rfl) rfl
theorem q332 : (Jvm.Cond.soleField "TissueBalloons$Festival" "launched") ∈ lw_all := lw_g (lw_at lw_m2 15 rfl) rfl
theorem q333 : (Jvm.Cond.lays "TissueBalloons$Festival" "TissueBalloons$Festival" "missed" "I") ∈ lw_all := lw_g (lw_at lw_m2 16 rfl) rfl
theorem q334 : (Jvm.Cond.soleField "TissueBalloons$Festival" "missed") ∈ lw_all := lw_g (lw_at lw_m2 17 rfl) rfl
theorem q335 : (Jvm.Cond.lays "TissueBalloons$Festival" "TissueBalloons$Festival" "flown" "I") ∈ lw_all := lw_g (lw_at lw_m2 18 rfl) rfl
theorem q336 : (Jvm.Cond.soleField "TissueBalloons$Festival" "flown") ∈ lw_all := lw_g (lw_at lw_m2 19 rfl) rfl
theorem q337 : (Jvm.Cond.superclass "TissueBalloons$Festival" "java/lang/Object") ∈ lw_all := lw_g (lw_at lw_m2 20 rfl) rfl
theorem q521 : (Jvm.Cond.selects "TissueBalloons$Festival" ({ cls := "java/lang/Object", name := "getClass", desc := "()Ljava/lang/Class;" } : Jvm.MethodName) ({ cls := "java/lang/Object", name := "getClass", desc := "()Ljava/lang/Class;" } : Jvm.MethodName)) ∈ lw_all := lw_g (lw_at lw_m2 204 rfl) rfl
theorem q613 : (Jvm.Cond.instanceMethod ({ cls := "TissueBalloons$Festival", name := "isWell", desc := "()Z" } : Jvm.MethodName)) ∈ lw_all := lw_g (lw_at lw_m3 56 rfl) rfl
theorem q614 : (Jvm.Cond.selects "TissueBalloons$Festival" ({ cls := "TissueBalloons$Festival", name := "isWell", desc := "()Z" } : Jvm.MethodName) ({ cls := "TissueBalloons$Festival", name := "isWell", desc := "()Z" } : Jvm.MethodName)) ∈ lw_all := lw_g (lw_at lw_m3 57 rfl) rfl
theorem q615 : (Jvm.Cond.code ({ cls := "TissueBalloons$Festival", name := "isWell", desc := "()Z" } : Jvm.MethodName) prog_7_method_34_code (6 : Nat) (Option.some Jvm.ClassFile.FieldType.boolean)) ∈ lw_all := lw_g (lw_at lw_m3 58 rfl) rfl
theorem q616 : (Jvm.Cond.methodLink "TissueBalloons$Festival" (303 : Nat) ({ cls := "TissueBalloons$Festival", name := "inState", desc := "(I)I" } : Jvm.MethodName)) ∈ lw_all := lw_g (lw_at lw_m3 59 rfl) rfl
theorem q617 : (Jvm.Cond.instanceMethod ({ cls := "TissueBalloons$Festival", name := "inState", desc := "(I)I" } : Jvm.MethodName)) ∈ lw_all := lw_g (lw_at lw_m3 60 rfl) rfl
theorem q618 : (Jvm.Cond.selects "TissueBalloons$Festival" ({ cls := "TissueBalloons$Festival", name := "inState", desc := "(I)I" } : Jvm.MethodName) ({ cls := "TissueBalloons$Festival", name := "inState", desc := "(I)I" } : Jvm.MethodName)) ∈ lw_all := lw_g (lw_at lw_m3 61 rfl) rfl
theorem q619 : (Jvm.Cond.code ({ cls := "TissueBalloons$Festival", name := "inState", desc := "(I)I" } : Jvm.MethodName) prog_7_method_32_code (4 : Nat) (Option.some Jvm.ClassFile.FieldType.int)) ∈ lw_all := lw_g (lw_at lw_m3 62 rfl) rfl
theorem q625 : (Jvm.Cond.instanceMethod ({ cls := "TissueBalloons$Festival", name := "take", desc := "(LTissueBalloons$Festival;)V" } : Jvm.MethodName)) ∈ lw_all := lw_g (lw_at lw_m3 68 rfl) rfl
theorem q626 : (Jvm.Cond.selects "TissueBalloons$Festival" ({ cls := "TissueBalloons$Festival", name := "take", desc := "(LTissueBalloons$Festival;)V" } : Jvm.MethodName) ({ cls := "TissueBalloons$Festival", name := "take", desc := "(LTissueBalloons$Festival;)V" } : Jvm.MethodName)) ∈ lw_all := lw_g (lw_at lw_m3 69 rfl) rfl
theorem q627 : (Jvm.Cond.code ({ cls := "TissueBalloons$Festival", name := "take", desc := "(LTissueBalloons$Festival;)V" } : Jvm.MethodName) prog_7_method_2_code (5 : Nat) (Option.none : Option Jvm.ClassFile.FieldType)) ∈ lw_all := lw_g (lw_at lw_m3 70 rfl) rfl
theorem q628 : (Jvm.Cond.methodLink "TissueBalloons$Festival" (45 : Nat) ({ cls := "java/lang/System", name := "arraycopy", desc := "(Ljava/lang/Object;ILjava/lang/Object;II)V" } : Jvm.MethodName)) ∈ lw_all := lw_g (lw_at lw_m3 71 rfl) rfl
theorem q629 : (Jvm.Cond.methodLink "TissueBalloons$Festival" (51 : Nat) ({ cls := "java/util/TreeMap", name := "clear", desc := "()V" } : Jvm.MethodName)) ∈ lw_all := lw_g (lw_at lw_m3 72 rfl) rfl
theorem q633 : (Jvm.Cond.methodLink "TissueBalloons$Festival" (54 : Nat) ({ cls := "java/util/TreeMap", name := "entrySet", desc := "()Ljava/util/Set;" } : Jvm.MethodName)) ∈ lw_all := lw_g (lw_at lw_m3 76 rfl) rfl
theorem q647 : (Jvm.Cond.interfaceEntry "TissueBalloons$Festival" (58 : Nat)) ∈ lw_tbl := lw_at lw_m3 90 rfl
theorem q648 : (Jvm.Cond.methodLink "TissueBalloons$Festival" (58 : Nat) ({ cls := "java/util/Set", name := "iterator", desc := "()Ljava/util/Iterator;" } : Jvm.MethodName)) ∈ lw_all := lw_g (lw_at lw_m3 91 rfl) rfl
theorem q1095 : (Jvm.Cond.interfaceEntry "TissueBalloons$Festival" (64 : Nat)) ∈ lw_tbl := lw_at lw_m5 58 rfl
theorem q1096 : (Jvm.Cond.methodLink "TissueBalloons$Festival" (64 : Nat) ({ cls := "java/util/Iterator", name := "hasNext", desc := "()Z" } : Jvm.MethodName)) ∈ lw_all := lw_g (lw_at lw_m5 59 rfl) rfl
theorem q1136 : (Jvm.Cond.interfaceEntry "TissueBalloons$Festival" (70 : Nat)) ∈ lw_tbl := lw_at lw_m5 99 rfl
theorem q1137 : (Jvm.Cond.methodLink "TissueBalloons$Festival" (70 : Nat) ({ cls := "java/util/Iterator", name := "next", desc := "()Ljava/lang/Object;" } : Jvm.MethodName)) ∈ lw_all := lw_g (lw_at lw_m5 100 rfl) rfl
theorem q1250 : (Jvm.Cond.classLink "TissueBalloons$Festival" (74 : Nat) "java/util/Map$Entry") ∈ lw_all := lw_g (lw_at lw_m5 213 rfl) rfl
theorem q1251 : (Jvm.Cond.interfaceEntry "TissueBalloons$Festival" (76 : Nat)) ∈ lw_tbl := lw_at lw_m5 214 rfl
theorem q1252 : (Jvm.Cond.methodLink "TissueBalloons$Festival" (76 : Nat) ({ cls := "java/util/Map$Entry", name := "getKey", desc := "()Ljava/lang/Object;" } : Jvm.MethodName)) ∈ lw_all := lw_g (lw_at lw_m5 215 rfl) rfl
theorem q1267 : (Jvm.Cond.classLink "TissueBalloons$Festival" (79 : Nat) "TissueBalloons$Spot") ∈ lw_all := lw_g (lw_at lw_m5 230 rfl) rfl
theorem q1268 : (Jvm.Cond.interfaceEntry "TissueBalloons$Festival" (81 : Nat)) ∈ lw_tbl := lw_at lw_m5 231 rfl
theorem q1269 : (Jvm.Cond.methodLink "TissueBalloons$Festival" (81 : Nat) ({ cls := "java/util/Map$Entry", name := "getValue", desc := "()Ljava/lang/Object;" } : Jvm.MethodName)) ∈ lw_all := lw_g (lw_at lw_m5 232 rfl) rfl
theorem q1282 : (Jvm.Cond.classLink "TissueBalloons$Festival" (84 : Nat) "TissueBalloons$Roof") ∈ lw_all := lw_g (lw_at lw_m6 5 rfl) rfl
theorem q1283 : (Jvm.Cond.methodLink "TissueBalloons$Festival" (86 : Nat) ({ cls := "TissueBalloons$Roof", name := "like", desc := "()LTissueBalloons$Roof;" } : Jvm.MethodName)) ∈ lw_all := lw_g (lw_at lw_m6 6 rfl) rfl
theorem q1294 : (Jvm.Cond.fieldLinkNest "TissueBalloons$Festival" (141 : Nat) "TissueBalloons$Roof" "wet" "I" "TissueBalloons") ∈ lw_tbl := lw_at lw_m6 17 rfl
theorem q1297 : (Jvm.Cond.fieldLinkNest "TissueBalloons$Festival" (169 : Nat) "TissueBalloons$Roof" "isWatched" "Z" "TissueBalloons") ∈ lw_tbl := lw_at lw_m6 20 rfl
theorem q1300 : (Jvm.Cond.fieldLinkNest "TissueBalloons$Festival" (173 : Nat) "TissueBalloons$Roof" "isBurnt" "Z" "TissueBalloons") ∈ lw_tbl := lw_at lw_m6 23 rfl
theorem q1303 : (Jvm.Cond.fieldLinkNest "TissueBalloons$Festival" (248 : Nat) "TissueBalloons$Roof" "landed" "I" "TissueBalloons") ∈ lw_tbl := lw_at lw_m6 26 rfl
theorem q1314 : (Jvm.Cond.methodLink "TissueBalloons$Festival" (90 : Nat) ({ cls := "java/util/TreeMap", name := "put", desc := "(Ljava/lang/Object;Ljava/lang/Object;)Ljava/lang/Object;" } : Jvm.MethodName)) ∈ lw_all := lw_g (lw_at lw_m6 37 rfl) rfl
theorem q1399 : (Jvm.Cond.methodLink "TissueBalloons$Festival" (94 : Nat) ({ cls := "java/util/TreeSet", name := "clear", desc := "()V" } : Jvm.MethodName)) ∈ lw_all := lw_g (lw_at lw_m6 122 rfl) rfl
theorem q1667 : (Jvm.Cond.methodLink "TissueBalloons$Festival" (95 : Nat) ({ cls := "java/util/TreeSet", name := "iterator", desc := "()Ljava/util/Iterator;" } : Jvm.MethodName)) ∈ lw_all := lw_g (lw_at lw_m7 150 rfl) rfl
theorem q1668 : (Jvm.Cond.classLink "TissueBalloons$Festival" (96 : Nat) "TissueBalloons$Plan") ∈ lw_all := lw_g (lw_at lw_m7 151 rfl) rfl
theorem q1669 : (Jvm.Cond.methodLink "TissueBalloons$Festival" (98 : Nat) ({ cls := "java/util/TreeSet", name := "add", desc := "(Ljava/lang/Object;)Z" } : Jvm.MethodName)) ∈ lw_all := lw_g (lw_at lw_m7 152 rfl) rfl
theorem q1713 : (Jvm.Cond.methodLink "TissueBalloons$Festival" (106 : Nat) ({ cls := "TissueBalloons$Balloon", name := "take", desc := "(LTissueBalloons$Balloon;)V" } : Jvm.MethodName)) ∈ lw_all := lw_g (lw_at lw_m7 196 rfl) rfl
theorem q1721 : (Jvm.Cond.methodLink "TissueBalloons$Festival" (113 : Nat) ({ cls := "TissueBalloons$Crew", name := "take", desc := "(LTissueBalloons$Crew;)V" } : Jvm.MethodName)) ∈ lw_all := lw_g (lw_at lw_m7 204 rfl) rfl
theorem q1803 : (Jvm.Cond.instanceMethod ({ cls := "TissueBalloons$Festival", name := "wind", desc := "(II)I" } : Jvm.MethodName)) ∈ lw_all := lw_g (lw_at lw_m8 46 rfl) rfl
theorem q1804 : (Jvm.Cond.selects "TissueBalloons$Festival" ({ cls := "TissueBalloons$Festival", name := "wind", desc := "(II)I" } : Jvm.MethodName) ({ cls := "TissueBalloons$Festival", name := "wind", desc := "(II)I" } : Jvm.MethodName)) ∈ lw_all := lw_g (lw_at lw_m8 47 rfl) rfl
theorem q1805 : (Jvm.Cond.code ({ cls := "TissueBalloons$Festival", name := "wind", desc := "(II)I" } : Jvm.MethodName) prog_7_method_5_code (4 : Nat) (Option.some Jvm.ClassFile.FieldType.int)) ∈ lw_all := lw_g (lw_at lw_m8 48 rfl) rfl
theorem q1830 : (Jvm.Cond.instanceMethod ({ cls := "TissueBalloons$Festival", name := "roof", desc := "(II)I" } : Jvm.MethodName)) ∈ lw_all := lw_g (lw_at lw_m8 73 rfl) rfl
theorem q1831 : (Jvm.Cond.selects "TissueBalloons$Festival" ({ cls := "TissueBalloons$Festival", name := "roof", desc := "(II)I" } : Jvm.MethodName) ({ cls := "TissueBalloons$Festival", name := "roof", desc := "(II)I" } : Jvm.MethodName)) ∈ lw_all := lw_g (lw_at lw_m8 74 rfl) rfl
theorem q1832 : (Jvm.Cond.code ({ cls := "TissueBalloons$Festival", name := "roof", desc := "(II)I" } : Jvm.MethodName) prog_7_method_7_code (4 : Nat) (Option.some Jvm.ClassFile.FieldType.int)) ∈ lw_all := lw_g (lw_at lw_m8 75 rfl) rfl
theorem q1833 : (Jvm.Cond.methodLink "TissueBalloons$Festival" (137 : Nat) ({ cls := "TissueBalloons$Festival", name := "roofAt", desc := "(I)LTissueBalloons$Roof;" } : Jvm.MethodName)) ∈ lw_all := lw_g (lw_at lw_m8 76 rfl) rfl
theorem q1834 : (Jvm.Cond.instanceMethod ({ cls := "TissueBalloons$Festival", name := "roofAt", desc := "(I)LTissueBalloons$Roof;" } : Jvm.MethodName)) ∈ lw_all := lw_g (lw_at lw_m8 77 rfl) rfl
theorem q1835 : (Jvm.Cond.selects "TissueBalloons$Festival" ({ cls := "TissueBalloons$Festival", name := "roofAt", desc := "(I)LTissueBalloons$Roof;" } : Jvm.MethodName) ({ cls := "TissueBalloons$Festival", name := "roofAt", desc := "(I)LTissueBalloons$Roof;" } : Jvm.MethodName)) ∈ lw_all := lw_g (lw_at lw_m8 78 rfl) rfl
theorem q1836 : (Jvm.Cond.code ({ cls := "TissueBalloons$Festival", name := "roofAt", desc := "(I)LTissueBalloons$Roof;" } : Jvm.MethodName) prog_7_method_6_code (2 : Nat) (Option.some (Jvm.ClassFile.FieldType.object "TissueBalloons$Roof"))) ∈ lw_all := lw_g (lw_at lw_m8 79 rfl) rfl
theorem q1838 : (Jvm.Cond.methodLink "TissueBalloons$Festival" (132 : Nat) ({ cls := "TissueBalloons$Spot", name := "<init>", desc := "(I)V" } : Jvm.MethodName)) ∈ lw_all := lw_g (lw_at lw_m8 81 rfl) rfl
theorem q1843 : (Jvm.Cond.fieldLinkNest "TissueBalloons$Festival" (159 : Nat) "TissueBalloons$Spot" "place" "I" "TissueBalloons") ∈ lw_tbl := lw_at lw_m8 86 rfl
theorem q1848 : (Jvm.Cond.methodLink "TissueBalloons$Festival" (133 : Nat) ({ cls := "java/util/TreeMap", name := "get", desc := "(Ljava/lang/Object;)Ljava/lang/Object;" } : Jvm.MethodName)) ∈ lw_all := lw_g (lw_at lw_m8 91 rfl) rfl
theorem q1860 : (Jvm.Cond.methodLinkNest "TissueBalloons$Festival" (144 : Nat) ({ cls := "TissueBalloons", name := "refuse", desc := "(ZII)V" } : Jvm.MethodName) "TissueBalloons") ∈ lw_tbl := lw_at lw_m8 103 rfl
theorem q1885 : (Jvm.Cond.methodLink "TissueBalloons$Festival" (148 : Nat) ({ cls := "java/util/TreeMap", name := "size", desc := "()I" } : Jvm.MethodName)) ∈ lw_all := lw_g (lw_at lw_m8 128 rfl) rfl
theorem q1889 : (Jvm.Cond.methodLink "TissueBalloons$Festival" (152 : Nat) ({ cls := "TissueBalloons$Roof", name := "<init>", desc := "(I)V" } : Jvm.MethodName)) ∈ lw_all := lw_g (lw_at lw_m8 132 rfl) rfl
theorem q2020 : (Jvm.Cond.instanceMethod ({ cls := "TissueBalloons$Festival", name := "nearest", desc := "(I)I" } : Jvm.MethodName)) ∈ lw_all := lw_g (lw_at lw_m9 23 rfl) rfl
theorem q2021 : (Jvm.Cond.selects "TissueBalloons$Festival" ({ cls := "TissueBalloons$Festival", name := "nearest", desc := "(I)I" } : Jvm.MethodName) ({ cls := "TissueBalloons$Festival", name := "nearest", desc := "(I)I" } : Jvm.MethodName)) ∈ lw_all := lw_g (lw_at lw_m9 24 rfl) rfl
theorem q2022 : (Jvm.Cond.code ({ cls := "TissueBalloons$Festival", name := "nearest", desc := "(I)I" } : Jvm.MethodName) prog_7_method_8_code (4 : Nat) (Option.some Jvm.ClassFile.FieldType.int)) ∈ lw_all := lw_g (lw_at lw_m9 25 rfl) rfl
theorem q2023 : (Jvm.Cond.methodLink "TissueBalloons$Festival" (153 : Nat) ({ cls := "java/util/TreeMap", name := "floorKey", desc := "(Ljava/lang/Object;)Ljava/lang/Object;" } : Jvm.MethodName)) ∈ lw_all := lw_g (lw_at lw_m9 26 rfl) rfl
theorem q2034 : (Jvm.Cond.methodLink "TissueBalloons$Festival" (156 : Nat) ({ cls := "java/util/TreeMap", name := "ceilingKey", desc := "(Ljava/lang/Object;)Ljava/lang/Object;" } : Jvm.MethodName)) ∈ lw_all := lw_g (lw_at lw_m9 37 rfl) rfl
theorem q2047 : (Jvm.Cond.instanceMethod ({ cls := "TissueBalloons$Festival", name := "watch", desc := "(IZ)I" } : Jvm.MethodName)) ∈ lw_all := lw_g (lw_at lw_m9 50 rfl) rfl
theorem q2048 : (Jvm.Cond.selects "TissueBalloons$Festival" ({ cls := "TissueBalloons$Festival", name := "watch", desc := "(IZ)I" } : Jvm.MethodName) ({ cls := "TissueBalloons$Festival", name := "watch", desc := "(IZ)I" } : Jvm.MethodName)) ∈ lw_all := lw_g (lw_at lw_m9 51 rfl) rfl
theorem q2049 : (Jvm.Cond.code ({ cls := "TissueBalloons$Festival", name := "watch", desc := "(IZ)I" } : Jvm.MethodName) prog_7_method_11_code (3 : Nat) (Option.some Jvm.ClassFile.FieldType.int)) ∈ lw_all := lw_g (lw_at lw_m9 52 rfl) rfl
theorem q2050 : (Jvm.Cond.methodLink "TissueBalloons$Festival" (176 : Nat) ({ cls := "TissueBalloons$Festival", name := "watched", desc := "()I" } : Jvm.MethodName)) ∈ lw_all := lw_g (lw_at lw_m9 53 rfl) rfl
theorem q2051 : (Jvm.Cond.instanceMethod ({ cls := "TissueBalloons$Festival", name := "watched", desc := "()I" } : Jvm.MethodName)) ∈ lw_all := lw_g (lw_at lw_m9 54 rfl) rfl
theorem q2052 : (Jvm.Cond.selects "TissueBalloons$Festival" ({ cls := "TissueBalloons$Festival", name := "watched", desc := "()I" } : Jvm.MethodName) ({ cls := "TissueBalloons$Festival", name := "watched", desc := "()I" } : Jvm.MethodName)) ∈ lw_all := lw_g (lw_at lw_m9 55 rfl) rfl
theorem q2053 : (Jvm.Cond.code ({ cls := "TissueBalloons$Festival", name := "watched", desc := "()I" } : Jvm.MethodName) prog_7_method_9_code (4 : Nat) (Option.some Jvm.ClassFile.FieldType.int)) ∈ lw_all := lw_g (lw_at lw_m9 56 rfl) rfl
theorem q2054 : (Jvm.Cond.methodLink "TissueBalloons$Festival" (162 : Nat) ({ cls := "java/util/TreeMap", name := "values", desc := "()Ljava/util/Collection;" } : Jvm.MethodName)) ∈ lw_all := lw_g (lw_at lw_m9 57 rfl) rfl
theorem q2068 : (Jvm.Cond.interfaceEntry "TissueBalloons$Festival" (166 : Nat)) ∈ lw_tbl := lw_at lw_m9 71 rfl
theorem q2069 : (Jvm.Cond.methodLink "TissueBalloons$Festival" (166 : Nat) ({ cls := "java/util/Collection", name := "iterator", desc := "()Ljava/util/Iterator;" } : Jvm.MethodName)) ∈ lw_all := lw_g (lw_at lw_m9 72 rfl) rfl
theorem q2100 : (Jvm.Cond.instanceMethod ({ cls := "TissueBalloons$Festival", name := "wet", desc := "(II)I" } : Jvm.MethodName)) ∈ lw_all := lw_g (lw_at lw_m9 103 rfl) rfl
theorem q2101 : (Jvm.Cond.selects "TissueBalloons$Festival" ({ cls := "TissueBalloons$Festival", name := "wet", desc := "(II)I" } : Jvm.MethodName) ({ cls := "TissueBalloons$Festival", name := "wet", desc := "(II)I" } : Jvm.MethodName)) ∈ lw_all := lw_g (lw_at lw_m9 104 rfl) rfl
theorem q2102 : (Jvm.Cond.code ({ cls := "TissueBalloons$Festival", name := "wet", desc := "(II)I" } : Jvm.MethodName) prog_7_method_12_code (4 : Nat) (Option.some Jvm.ClassFile.FieldType.int)) ∈ lw_all := lw_g (lw_at lw_m9 105 rfl) rfl
theorem q2103 : (Jvm.Cond.methodLink "TissueBalloons$Festival" (179 : Nat) ({ cls := "java/lang/Math", name := "min", desc := "(II)I" } : Jvm.MethodName)) ∈ lw_all := lw_g (lw_at lw_m9 106 rfl) rfl
theorem q2112 : (Jvm.Cond.instanceMethod ({ cls := "TissueBalloons$Festival", name := "isOver", desc := "(I)Z" } : Jvm.MethodName)) ∈ lw_all := lw_g (lw_at lw_m9 115 rfl) rfl
theorem q2113 : (Jvm.Cond.selects "TissueBalloons$Festival" ({ cls := "TissueBalloons$Festival", name := "isOver", desc := "(I)Z" } : Jvm.MethodName) ({ cls := "TissueBalloons$Festival", name := "isOver", desc := "(I)Z" } : Jvm.MethodName)) ∈ lw_all := lw_g (lw_at lw_m9 116 rfl) rfl
theorem q2114 : (Jvm.Cond.code ({ cls := "TissueBalloons$Festival", name := "isOver", desc := "(I)Z" } : Jvm.MethodName) prog_7_method_31_code (4 : Nat) (Option.some Jvm.ClassFile.FieldType.boolean)) ∈ lw_all := lw_g (lw_at lw_m9 117 rfl) rfl
theorem q2115 : (Jvm.Cond.methodLink "TissueBalloons$Festival" (279 : Nat) ({ cls := "TissueBalloons$Balloon", name := "flies", desc := "()Z" } : Jvm.MethodName)) ∈ lw_all := lw_g (lw_at lw_m9 118 rfl) rfl
theorem q2127 : (Jvm.Cond.instanceMethod ({ cls := "TissueBalloons$Festival", name := "balloon", desc := "(III)I" } : Jvm.MethodName)) ∈ lw_all := lw_g (lw_at lw_m9 130 rfl) rfl
theorem q2128 : (Jvm.Cond.selects "TissueBalloons$Festival" ({ cls := "TissueBalloons$Festival", name := "balloon", desc := "(III)I" } : Jvm.MethodName) ({ cls := "TissueBalloons$Festival", name := "balloon", desc := "(III)I" } : Jvm.MethodName)) ∈ lw_all := lw_g (lw_at lw_m9 131 rfl) rfl
theorem q2129 : (Jvm.Cond.code ({ cls := "TissueBalloons$Festival", name := "balloon", desc := "(III)I" } : Jvm.MethodName) prog_7_method_13_code (4 : Nat) (Option.some Jvm.ClassFile.FieldType.int)) ∈ lw_all := lw_g (lw_at lw_m9 132 rfl) rfl
theorem q2130 : (Jvm.Cond.methodLink "TissueBalloons$Festival" (185 : Nat) ({ cls := "TissueBalloons$Balloon", name := "begins", desc := "(III)V" } : Jvm.MethodName)) ∈ lw_all := lw_g (lw_at lw_m9 133 rfl) rfl
theorem q2139 : (Jvm.Cond.instanceMethod ({ cls := "TissueBalloons$Festival", name := "crew", desc := "(I)I" } : Jvm.MethodName)) ∈ lw_all := lw_g (lw_at lw_m9 142 rfl) rfl
theorem q2140 : (Jvm.Cond.selects "TissueBalloons$Festival" ({ cls := "TissueBalloons$Festival", name := "crew", desc := "(I)I" } : Jvm.MethodName) ({ cls := "TissueBalloons$Festival", name := "crew", desc := "(I)I" } : Jvm.MethodName)) ∈ lw_all := lw_g (lw_at lw_m9 143 rfl) rfl
theorem q2141 : (Jvm.Cond.code ({ cls := "TissueBalloons$Festival", name := "crew", desc := "(I)I" } : Jvm.MethodName) prog_7_method_14_code (2 : Nat) (Option.some Jvm.ClassFile.FieldType.int)) ∈ lw_all := lw_g (lw_at lw_m9 144 rfl) rfl
theorem q2142 : (Jvm.Cond.methodLink "TissueBalloons$Festival" (189 : Nat) ({ cls := "TissueBalloons$Crew", name := "begins", desc := "(I)V" } : Jvm.MethodName)) ∈ lw_all := lw_g (lw_at lw_m9 145 rfl) rfl
theorem q2151 : (Jvm.Cond.instanceMethod ({ cls := "TissueBalloons$Festival", name := "isCrew", desc := "(I)Z" } : Jvm.MethodName)) ∈ lw_all := lw_g (lw_at lw_m9 154 rfl) rfl
theorem q2152 : (Jvm.Cond.selects "TissueBalloons$Festival" ({ cls := "TissueBalloons$Festival", name := "isCrew", desc := "(I)Z" } : Jvm.MethodName) ({ cls := "TissueBalloons$Festival", name := "isCrew", desc := "(I)Z" } : Jvm.MethodName)) ∈ lw_all := lw_g (lw_at lw_m9 155 rfl) rfl
theorem q2153 : (Jvm.Cond.code ({ cls := "TissueBalloons$Festival", name := "isCrew", desc := "(I)Z" } : Jvm.MethodName) prog_7_method_4_code (2 : Nat) (Option.some Jvm.ClassFile.FieldType.boolean)) ∈ lw_all := lw_g (lw_at lw_m9 156 rfl) rfl
theorem q2154 : (Jvm.Cond.methodLinkNest "TissueBalloons$Festival" (128 : Nat) ({ cls := "TissueBalloons", name := "in", desc := "(III)Z" } : Jvm.MethodName) "TissueBalloons") ∈ lw_tbl := lw_at lw_m9 157 rfl
theorem q2163 : (Jvm.Cond.instanceMethod ({ cls := "TissueBalloons$Festival", name := "isBalloon", desc := "(I)Z" } : Jvm.MethodName)) ∈ lw_all := lw_g (lw_at lw_m9 166 rfl) rfl
theorem q2164 : (Jvm.Cond.selects "TissueBalloons$Festival" ({ cls := "TissueBalloons$Festival", name := "isBalloon", desc := "(I)Z" } : Jvm.MethodName) ({ cls := "TissueBalloons$Festival", name := "isBalloon", desc := "(I)Z" } : Jvm.MethodName)) ∈ lw_all := lw_g (lw_at lw_m9 167 rfl) rfl
theorem q2165 : (Jvm.Cond.code ({ cls := "TissueBalloons$Festival", name := "isBalloon", desc := "(I)Z" } : Jvm.MethodName) prog_7_method_3_code (2 : Nat) (Option.some Jvm.ClassFile.FieldType.boolean)) ∈ lw_all := lw_g (lw_at lw_m9 168 rfl) rfl
theorem q2167 : (Jvm.Cond.instanceMethod ({ cls := "TissueBalloons$Festival", name := "launch", desc := "(II)I" } : Jvm.MethodName)) ∈ lw_all := lw_g (lw_at lw_m9 170 rfl) rfl
theorem q2168 : (Jvm.Cond.selects "TissueBalloons$Festival" ({ cls := "TissueBalloons$Festival", name := "launch", desc := "(II)I" } : Jvm.MethodName) ({ cls := "TissueBalloons$Festival", name := "launch", desc := "(II)I" } : Jvm.MethodName)) ∈ lw_all := lw_g (lw_at lw_m9 171 rfl) rfl
theorem q2169 : (Jvm.Cond.code ({ cls := "TissueBalloons$Festival", name := "launch", desc := "(II)I" } : Jvm.MethodName) prog_7_method_15_code (5 : Nat) (Option.some Jvm.ClassFile.FieldType.int)) ∈ lw_all := lw_g (lw_at lw_m9 172 rfl) rfl
theorem q2170 : (Jvm.Cond.methodLinkNest "TissueBalloons$Festival" (197 : Nat) ({ cls := "TissueBalloons", name := "isStrong", desc := "(I)Z" } : Jvm.MethodName) "TissueBalloons") ∈ lw_tbl := lw_at lw_m9 173 rfl
theorem q2184 : (Jvm.Cond.instanceMethod ({ cls := "TissueBalloons$Festival", name := "plan", desc := "(III)I" } : Jvm.MethodName)) ∈ lw_all := lw_g (lw_at lw_m9 187 rfl) rfl
theorem q2185 : (Jvm.Cond.selects "TissueBalloons$Festival" ({ cls := "TissueBalloons$Festival", name := "plan", desc := "(III)I" } : Jvm.MethodName) ({ cls := "TissueBalloons$Festival", name := "plan", desc := "(III)I" } : Jvm.MethodName)) ∈ lw_all := lw_g (lw_at lw_m9 188 rfl) rfl
theorem q2186 : (Jvm.Cond.code ({ cls := "TissueBalloons$Festival", name := "plan", desc := "(III)I" } : Jvm.MethodName) prog_7_method_18_code (7 : Nat) (Option.some Jvm.ClassFile.FieldType.int)) ∈ lw_all := lw_g (lw_at lw_m9 189 rfl) rfl
theorem q2187 : (Jvm.Cond.methodLink "TissueBalloons$Festival" (210 : Nat) ({ cls := "java/util/TreeSet", name := "size", desc := "()I" } : Jvm.MethodName)) ∈ lw_all := lw_g (lw_at lw_m9 190 rfl) rfl
theorem q2188 : (Jvm.Cond.methodLink "TissueBalloons$Festival" (211 : Nat) ({ cls := "TissueBalloons$Festival", name := "planOf", desc := "(I)LTissueBalloons$Plan;" } : Jvm.MethodName)) ∈ lw_all := lw_g (lw_at lw_m9 191 rfl) rfl
theorem q2189 : (Jvm.Cond.instanceMethod ({ cls := "TissueBalloons$Festival", name := "planOf", desc := "(I)LTissueBalloons$Plan;" } : Jvm.MethodName)) ∈ lw_all := lw_g (lw_at lw_m9 192 rfl) rfl
theorem q2190 : (Jvm.Cond.selects "TissueBalloons$Festival" ({ cls := "TissueBalloons$Festival", name := "planOf", desc := "(I)LTissueBalloons$Plan;" } : Jvm.MethodName) ({ cls := "TissueBalloons$Festival", name := "planOf", desc := "(I)LTissueBalloons$Plan;" } : Jvm.MethodName)) ∈ lw_all := lw_g (lw_at lw_m9 193 rfl) rfl
theorem q2191 : (Jvm.Cond.code ({ cls := "TissueBalloons$Festival", name := "planOf", desc := "(I)LTissueBalloons$Plan;" } : Jvm.MethodName) prog_7_method_16_code (4 : Nat) (Option.some (Jvm.ClassFile.FieldType.object "TissueBalloons$Plan"))) ∈ lw_all := lw_g (lw_at lw_m9 194 rfl) rfl
theorem q2193 : (Jvm.Cond.methodLink "TissueBalloons$Festival" (216 : Nat) ({ cls := "TissueBalloons$Plan", name := "<init>", desc := "(III)V" } : Jvm.MethodName)) ∈ lw_all := lw_g (lw_at lw_m9 196 rfl) rfl
theorem q2198 : (Jvm.Cond.fieldLinkNest "TissueBalloons$Festival" (207 : Nat) "TissueBalloons$Plan" "balloon" "I" "TissueBalloons") ∈ lw_tbl := lw_at lw_m9 201 rfl
theorem q2201 : (Jvm.Cond.fieldLinkNest "TissueBalloons$Festival" (237 : Nat) "TissueBalloons$Plan" "crew" "I" "TissueBalloons") ∈ lw_tbl := lw_at lw_m9 204 rfl
theorem q2204 : (Jvm.Cond.fieldLinkNest "TissueBalloons$Festival" (215 : Nat) "TissueBalloons$Plan" "minute" "I" "TissueBalloons") ∈ lw_tbl := lw_at lw_m9 207 rfl
theorem q2213 : (Jvm.Cond.methodLink "TissueBalloons$Festival" (218 : Nat) ({ cls := "java/util/TreeSet", name := "headSet", desc := "(Ljava/lang/Object;)Ljava/util/SortedSet;" } : Jvm.MethodName)) ∈ lw_all := lw_g (lw_at lw_m9 216 rfl) rfl
theorem q2307 : (Jvm.Cond.interfaceEntry "TissueBalloons$Festival" (222 : Nat)) ∈ lw_tbl := lw_at lw_m10 70 rfl
theorem q2323 : (Jvm.Cond.instanceMethod ({ cls := "TissueBalloons$Festival", name := "drop", desc := "(LTissueBalloons$Plan;)I" } : Jvm.MethodName)) ∈ lw_all := lw_g (lw_at lw_m10 86 rfl) rfl
theorem q2324 : (Jvm.Cond.selects "TissueBalloons$Festival" ({ cls := "TissueBalloons$Festival", name := "drop", desc := "(LTissueBalloons$Plan;)I" } : Jvm.MethodName) ({ cls := "TissueBalloons$Festival", name := "drop", desc := "(LTissueBalloons$Plan;)I" } : Jvm.MethodName)) ∈ lw_all := lw_g (lw_at lw_m10 87 rfl) rfl
theorem q2325 : (Jvm.Cond.code ({ cls := "TissueBalloons$Festival", name := "drop", desc := "(LTissueBalloons$Plan;)I" } : Jvm.MethodName) prog_7_method_19_code (3 : Nat) (Option.some Jvm.ClassFile.FieldType.int)) ∈ lw_all := lw_g (lw_at lw_m10 88 rfl) rfl
theorem q2326 : (Jvm.Cond.methodLink "TissueBalloons$Festival" (225 : Nat) ({ cls := "java/util/TreeSet", name := "remove", desc := "(Ljava/lang/Object;)Z" } : Jvm.MethodName)) ∈ lw_all := lw_g (lw_at lw_m10 89 rfl) rfl
theorem q2354 : (Jvm.Cond.instanceMethod ({ cls := "TissueBalloons$Festival", name := "planAt", desc := "(I)LTissueBalloons$Plan;" } : Jvm.MethodName)) ∈ lw_all := lw_g (lw_at lw_m10 117 rfl) rfl
theorem q2355 : (Jvm.Cond.selects "TissueBalloons$Festival" ({ cls := "TissueBalloons$Festival", name := "planAt", desc := "(I)LTissueBalloons$Plan;" } : Jvm.MethodName) ({ cls := "TissueBalloons$Festival", name := "planAt", desc := "(I)LTissueBalloons$Plan;" } : Jvm.MethodName)) ∈ lw_all := lw_g (lw_at lw_m10 118 rfl) rfl
theorem q2356 : (Jvm.Cond.code ({ cls := "TissueBalloons$Festival", name := "planAt", desc := "(I)LTissueBalloons$Plan;" } : Jvm.MethodName) prog_7_method_17_code (5 : Nat) (Option.some (Jvm.ClassFile.FieldType.object "TissueBalloons$Plan"))) ∈ lw_all := lw_g (lw_at lw_m10 119 rfl) rfl
theorem q2376 : (Jvm.Cond.instanceMethod ({ cls := "TissueBalloons$Festival", name := "flying", desc := "()Ljava/util/TreeSet;" } : Jvm.MethodName)) ∈ lw_all := lw_g (lw_at lw_m10 139 rfl) rfl
theorem q2377 : (Jvm.Cond.selects "TissueBalloons$Festival" ({ cls := "TissueBalloons$Festival", name := "flying", desc := "()Ljava/util/TreeSet;" } : Jvm.MethodName) ({ cls := "TissueBalloons$Festival", name := "flying", desc := "()Ljava/util/TreeSet;" } : Jvm.MethodName)) ∈ lw_all := lw_g (lw_at lw_m10 140 rfl) rfl
theorem q2378 : (Jvm.Cond.code ({ cls := "TissueBalloons$Festival", name := "flying", desc := "()Ljava/util/TreeSet;" } : Jvm.MethodName) prog_7_method_29_code (4 : Nat) (Option.some (Jvm.ClassFile.FieldType.object "java/util/TreeSet"))) ∈ lw_all := lw_g (lw_at lw_m10 141 rfl) rfl
theorem q2379 : (Jvm.Cond.classLink "TissueBalloons$Festival" (288 : Nat) "TissueBalloons$ByLayer") ∈ lw_all := lw_g (lw_at lw_m10 142 rfl) rfl
theorem q2381 : (Jvm.Cond.methodLinkNest "TissueBalloons$Festival" (290 : Nat) ({ cls := "TissueBalloons$ByLayer", name := "<init>", desc := "()V" } : Jvm.MethodName) "TissueBalloons") ∈ lw_tbl := lw_at lw_m10 144 rfl
theorem q2386 : (Jvm.Cond.methodLink "TissueBalloons$Festival" (291 : Nat) ({ cls := "java/util/TreeSet", name := "<init>", desc := "(Ljava/util/Comparator;)V" } : Jvm.MethodName)) ∈ lw_all := lw_g (lw_at lw_m10 149 rfl) rfl
theorem q2402 : (Jvm.Cond.instanceMethod ({ cls := "TissueBalloons$Festival", name := "byFlight", desc := "()Ljava/util/PriorityQueue;" } : Jvm.MethodName)) ∈ lw_all := lw_g (lw_at lw_m10 165 rfl) rfl
theorem q2403 : (Jvm.Cond.selects "TissueBalloons$Festival" ({ cls := "TissueBalloons$Festival", name := "byFlight", desc := "()Ljava/util/PriorityQueue;" } : Jvm.MethodName) ({ cls := "TissueBalloons$Festival", name := "byFlight", desc := "()Ljava/util/PriorityQueue;" } : Jvm.MethodName)) ∈ lw_all := lw_g (lw_at lw_m10 166 rfl) rfl
theorem q2404 : (Jvm.Cond.code ({ cls := "TissueBalloons$Festival", name := "byFlight", desc := "()Ljava/util/PriorityQueue;" } : Jvm.MethodName) prog_7_method_30_code (4 : Nat) (Option.some (Jvm.ClassFile.FieldType.object "java/util/PriorityQueue"))) ∈ lw_all := lw_g (lw_at lw_m10 167 rfl) rfl
theorem q2405 : (Jvm.Cond.classLink "TissueBalloons$Festival" (294 : Nat) "java/util/PriorityQueue") ∈ lw_all := lw_g (lw_at lw_m10 168 rfl) rfl
theorem q2406 : (Jvm.Cond.classLink "TissueBalloons$Festival" (296 : Nat) "TissueBalloons$ByFlight") ∈ lw_all := lw_g (lw_at lw_m10 169 rfl) rfl
theorem q2408 : (Jvm.Cond.methodLinkNest "TissueBalloons$Festival" (298 : Nat) ({ cls := "TissueBalloons$ByFlight", name := "<init>", desc := "()V" } : Jvm.MethodName) "TissueBalloons") ∈ lw_tbl := lw_at lw_m10 171 rfl
theorem q2413 : (Jvm.Cond.methodLink "TissueBalloons$Festival" (299 : Nat) ({ cls := "java/util/PriorityQueue", name := "<init>", desc := "(Ljava/util/Comparator;)V" } : Jvm.MethodName)) ∈ lw_all := lw_g (lw_at lw_m10 176 rfl) rfl
theorem q2442 : (Jvm.Cond.methodLink "TissueBalloons$Festival" (300 : Nat) ({ cls := "java/util/PriorityQueue", name := "offer", desc := "(Ljava/lang/Object;)Z" } : Jvm.MethodName)) ∈ lw_all := lw_g (lw_at lw_m10 205 rfl) rfl
theorem q2474 : (Jvm.Cond.instanceMethod ({ cls := "TissueBalloons$Festival", name := "layerIn", desc := "(II)I" } : Jvm.MethodName)) ∈ lw_all := lw_g (lw_at lw_m10 237 rfl) rfl
theorem q2475 : (Jvm.Cond.selects "TissueBalloons$Festival" ({ cls := "TissueBalloons$Festival", name := "layerIn", desc := "(II)I" } : Jvm.MethodName) ({ cls := "TissueBalloons$Festival", name := "layerIn", desc := "(II)I" } : Jvm.MethodName)) ∈ lw_all := lw_g (lw_at lw_m10 238 rfl) rfl
theorem q2476 : (Jvm.Cond.code ({ cls := "TissueBalloons$Festival", name := "layerIn", desc := "(II)I" } : Jvm.MethodName) prog_7_method_26_code (4 : Nat) (Option.some Jvm.ClassFile.FieldType.int)) ∈ lw_all := lw_g (lw_at lw_m10 239 rfl) rfl
theorem q2477 : (Jvm.Cond.methodLink "TissueBalloons$Festival" (267 : Nat) ({ cls := "java/lang/Math", name := "max", desc := "(II)I" } : Jvm.MethodName)) ∈ lw_all := lw_g (lw_at lw_m11 0 rfl) rfl
theorem q2486 : (Jvm.Cond.instanceMethod ({ cls := "TissueBalloons$Festival", name := "layerAgain", desc := "(II)I" } : Jvm.MethodName)) ∈ lw_all := lw_g (lw_at lw_m11 9 rfl) rfl
theorem q2487 : (Jvm.Cond.selects "TissueBalloons$Festival" ({ cls := "TissueBalloons$Festival", name := "layerAgain", desc := "(II)I" } : Jvm.MethodName) ({ cls := "TissueBalloons$Festival", name := "layerAgain", desc := "(II)I" } : Jvm.MethodName)) ∈ lw_all := lw_g (lw_at lw_m11 10 rfl) rfl
theorem q2488 : (Jvm.Cond.code ({ cls := "TissueBalloons$Festival", name := "layerAgain", desc := "(II)I" } : Jvm.MethodName) prog_7_method_27_code (6 : Nat) (Option.some Jvm.ClassFile.FieldType.int)) ∈ lw_all := lw_g (lw_at lw_m11 11 rfl) rfl
theorem q2497 : (Jvm.Cond.instanceMethod ({ cls := "TissueBalloons$Festival", name := "fliesOut", desc := "(I)I" } : Jvm.MethodName)) ∈ lw_all := lw_g (lw_at lw_m11 20 rfl) rfl
theorem q2498 : (Jvm.Cond.selects "TissueBalloons$Festival" ({ cls := "TissueBalloons$Festival", name := "fliesOut", desc := "(I)I" } : Jvm.MethodName) ({ cls := "TissueBalloons$Festival", name := "fliesOut", desc := "(I)I" } : Jvm.MethodName)) ∈ lw_all := lw_g (lw_at lw_m11 21 rfl) rfl
theorem q2499 : (Jvm.Cond.code ({ cls := "TissueBalloons$Festival", name := "fliesOut", desc := "(I)I" } : Jvm.MethodName) prog_7_method_28_code (4 : Nat) (Option.some Jvm.ClassFile.FieldType.int)) ∈ lw_all := lw_g (lw_at lw_m11 22 rfl) rfl
theorem q2500 : (Jvm.Cond.methodLink "TissueBalloons$Festival" (285 : Nat) ({ cls := "TissueBalloons$Festival", name := "goesBy", desc := "()I" } : Jvm.MethodName)) ∈ lw_all := lw_g (lw_at lw_m11 23 rfl) rfl
theorem q2501 : (Jvm.Cond.instanceMethod ({ cls := "TissueBalloons$Festival", name := "goesBy", desc := "()I" } : Jvm.MethodName)) ∈ lw_all := lw_g (lw_at lw_m11 24 rfl) rfl
theorem q2502 : (Jvm.Cond.selects "TissueBalloons$Festival" ({ cls := "TissueBalloons$Festival", name := "goesBy", desc := "()I" } : Jvm.MethodName) ({ cls := "TissueBalloons$Festival", name := "goesBy", desc := "()I" } : Jvm.MethodName)) ∈ lw_all := lw_g (lw_at lw_m11 25 rfl) rfl
theorem q2503 : (Jvm.Cond.code ({ cls := "TissueBalloons$Festival", name := "goesBy", desc := "()I" } : Jvm.MethodName) prog_7_method_24_code (4 : Nat) (Option.some Jvm.ClassFile.FieldType.int)) ∈ lw_all := lw_g (lw_at lw_m11 26 rfl) rfl
theorem q2504 : (Jvm.Cond.methodLink "TissueBalloons$Festival" (276 : Nat) ({ cls := "TissueBalloons$Festival", name := "planned", desc := "()V" } : Jvm.MethodName)) ∈ lw_all := lw_g (lw_at lw_m11 27 rfl) rfl
theorem q2505 : (Jvm.Cond.privateMethod ({ cls := "TissueBalloons$Festival", name := "planned", desc := "()V" } : Jvm.MethodName)) ∈ lw_tbl := lw_at lw_m11 28 rfl
theorem q2506 : (Jvm.Cond.instanceMethod ({ cls := "TissueBalloons$Festival", name := "planned", desc := "()V" } : Jvm.MethodName)) ∈ lw_all := lw_g (lw_at lw_m11 29 rfl) rfl
theorem q2507 : (Jvm.Cond.codeWith ({ cls := "TissueBalloons$Festival", name := "planned", desc := "()V" } : Jvm.MethodName) prog_7_method_20_code (3 : Nat) (Option.none : Option Jvm.ClassFile.FieldType) [((41 : Nat), (54 : Nat), (57 : Nat), (243 : Nat))]) ∈ lw_all := lw_g (lw_at lw_m11 30 rfl) rfl
theorem q2508 : (Jvm.Cond.classLink "TissueBalloons$Festival" (243 : Nat) "TissueBalloons$Refused") ∈ lw_all := lw_g (lw_at lw_m11 31 rfl) rfl
theorem q2509 : (Jvm.Cond.methodLink "TissueBalloons$Festival" (228 : Nat) ({ cls := "java/util/TreeSet", name := "isEmpty", desc := "()Z" } : Jvm.MethodName)) ∈ lw_all := lw_g (lw_at lw_m11 32 rfl) rfl
theorem q2565 : (Jvm.Cond.methodLink "TissueBalloons$Festival" (231 : Nat) ({ cls := "java/util/TreeSet", name := "first", desc := "()Ljava/lang/Object;" } : Jvm.MethodName)) ∈ lw_all := lw_g (lw_at lw_m11 88 rfl) rfl
theorem q2594 : (Jvm.Cond.methodLink "TissueBalloons$Festival" (234 : Nat) ({ cls := "java/util/TreeSet", name := "pollFirst", desc := "()Ljava/lang/Object;" } : Jvm.MethodName)) ∈ lw_all := lw_g (lw_at lw_m11 117 rfl) rfl
theorem q2636 : (Jvm.Cond.methodLink "TissueBalloons$Festival" (240 : Nat) ({ cls := "TissueBalloons$Festival", name := "launch", desc := "(II)I" } : Jvm.MethodName)) ∈ lw_all := lw_g (lw_at lw_m11 159 rfl) rfl
theorem q2637 : (Jvm.Cond.methodLink "TissueBalloons$Festival" (282 : Nat) ({ cls := "TissueBalloons$Festival", name := "fliesOn", desc := "(LTissueBalloons$Balloon;)V" } : Jvm.MethodName)) ∈ lw_all := lw_g (lw_at lw_m11 160 rfl) rfl
theorem q2638 : (Jvm.Cond.privateMethod ({ cls := "TissueBalloons$Festival", name := "fliesOn", desc := "(LTissueBalloons$Balloon;)V" } : Jvm.MethodName)) ∈ lw_tbl := lw_at lw_m11 161 rfl
theorem q2639 : (Jvm.Cond.instanceMethod ({ cls := "TissueBalloons$Festival", name := "fliesOn", desc := "(LTissueBalloons$Balloon;)V" } : Jvm.MethodName)) ∈ lw_all := lw_g (lw_at lw_m11 162 rfl) rfl
theorem q2640 : (Jvm.Cond.code ({ cls := "TissueBalloons$Festival", name := "fliesOn", desc := "(LTissueBalloons$Balloon;)V" } : Jvm.MethodName) prog_7_method_23_code (3 : Nat) (Option.none : Option Jvm.ClassFile.FieldType)) ∈ lw_all := lw_g (lw_at lw_m11 163 rfl) rfl
theorem q2641 : (Jvm.Cond.methodLink "TissueBalloons$Festival" (263 : Nat) ({ cls := "TissueBalloons$Festival", name := "lands", desc := "(LTissueBalloons$Balloon;)V" } : Jvm.MethodName)) ∈ lw_all := lw_g (lw_at lw_m11 164 rfl) rfl
theorem q2642 : (Jvm.Cond.privateMethod ({ cls := "TissueBalloons$Festival", name := "lands", desc := "(LTissueBalloons$Balloon;)V" } : Jvm.MethodName)) ∈ lw_tbl := lw_at lw_m11 165 rfl
theorem q2643 : (Jvm.Cond.instanceMethod ({ cls := "TissueBalloons$Festival", name := "lands", desc := "(LTissueBalloons$Balloon;)V" } : Jvm.MethodName)) ∈ lw_all := lw_g (lw_at lw_m11 166 rfl) rfl
theorem q2644 : (Jvm.Cond.code ({ cls := "TissueBalloons$Festival", name := "lands", desc := "(LTissueBalloons$Balloon;)V" } : Jvm.MethodName) prog_7_method_21_code (3 : Nat) (Option.none : Option Jvm.ClassFile.FieldType)) ∈ lw_all := lw_g (lw_at lw_m11 167 rfl) rfl
theorem q2645 : (Jvm.Cond.methodLink "TissueBalloons$Festival" (245 : Nat) ({ cls := "TissueBalloons$Balloon", name := "ends", desc := "(I)V" } : Jvm.MethodName)) ∈ lw_all := lw_g (lw_at lw_m11 168 rfl) rfl
theorem q2649 : (Jvm.Cond.methodLink "TissueBalloons$Festival" (254 : Nat) ({ cls := "TissueBalloons$Roof", name := "catches", desc := "(I)Z" } : Jvm.MethodName)) ∈ lw_all := lw_g (lw_at lw_m11 172 rfl) rfl
theorem q2653 : (Jvm.Cond.methodLinkNest "TissueBalloons$Festival" (270 : Nat) ({ cls := "TissueBalloons", name := "isPlace", desc := "(I)Z" } : Jvm.MethodName) "TissueBalloons") ∈ lw_tbl := lw_at lw_m11 176 rfl
theorem q2654 : (Jvm.Cond.methodLink "TissueBalloons$Festival" (273 : Nat) ({ cls := "TissueBalloons$Festival", name := "tears", desc := "(LTissueBalloons$Balloon;)V" } : Jvm.MethodName)) ∈ lw_all := lw_g (lw_at lw_m11 177 rfl) rfl
theorem q2655 : (Jvm.Cond.privateMethod ({ cls := "TissueBalloons$Festival", name := "tears", desc := "(LTissueBalloons$Balloon;)V" } : Jvm.MethodName)) ∈ lw_tbl := lw_at lw_m11 178 rfl
theorem q2656 : (Jvm.Cond.instanceMethod ({ cls := "TissueBalloons$Festival", name := "tears", desc := "(LTissueBalloons$Balloon;)V" } : Jvm.MethodName)) ∈ lw_all := lw_g (lw_at lw_m11 179 rfl) rfl
theorem q2657 : (Jvm.Cond.code ({ cls := "TissueBalloons$Festival", name := "tears", desc := "(LTissueBalloons$Balloon;)V" } : Jvm.MethodName) prog_7_method_22_code (2 : Nat) (Option.none : Option Jvm.ClassFile.FieldType)) ∈ lw_all := lw_g (lw_at lw_m11 180 rfl) rfl
theorem q2666 : (Jvm.Cond.instanceMethod ({ cls := "TissueBalloons$Festival", name := "pass", desc := "(I)I" } : Jvm.MethodName)) ∈ lw_all := lw_g (lw_at lw_m11 189 rfl) rfl
theorem q2667 : (Jvm.Cond.selects "TissueBalloons$Festival" ({ cls := "TissueBalloons$Festival", name := "pass", desc := "(I)I" } : Jvm.MethodName) ({ cls := "TissueBalloons$Festival", name := "pass", desc := "(I)I" } : Jvm.MethodName)) ∈ lw_all := lw_g (lw_at lw_m11 190 rfl) rfl
theorem q2668 : (Jvm.Cond.code ({ cls := "TissueBalloons$Festival", name := "pass", desc := "(I)I" } : Jvm.MethodName) prog_7_method_25_code (4 : Nat) (Option.some Jvm.ClassFile.FieldType.int)) ∈ lw_all := lw_g (lw_at lw_m11 191 rfl) rfl
theorem q3024 : (Jvm.Cond.instanceMethod ({ cls := "TissueBalloons$Festival", name := "burnt", desc := "()I" } : Jvm.MethodName)) ∈ lw_all := lw_g (lw_at lw_m13 67 rfl) rfl
theorem q3025 : (Jvm.Cond.selects "TissueBalloons$Festival" ({ cls := "TissueBalloons$Festival", name := "burnt", desc := "()I" } : Jvm.MethodName) ({ cls := "TissueBalloons$Festival", name := "burnt", desc := "()I" } : Jvm.MethodName)) ∈ lw_all := lw_g (lw_at lw_m13 68 rfl) rfl
theorem q3026 : (Jvm.Cond.code ({ cls := "TissueBalloons$Festival", name := "burnt", desc := "()I" } : Jvm.MethodName) prog_7_method_10_code (4 : Nat) (Option.some Jvm.ClassFile.FieldType.int)) ∈ lw_all := lw_g (lw_at lw_m13 69 rfl) rfl
theorem q3028 : (Jvm.Cond.instanceMethod ({ cls := "TissueBalloons$Festival", name := "busy", desc := "()I" } : Jvm.MethodName)) ∈ lw_all := lw_g (lw_at lw_m13 71 rfl) rfl
theorem q3029 : (Jvm.Cond.selects "TissueBalloons$Festival" ({ cls := "TissueBalloons$Festival", name := "busy", desc := "()I" } : Jvm.MethodName) ({ cls := "TissueBalloons$Festival", name := "busy", desc := "()I" } : Jvm.MethodName)) ∈ lw_all := lw_g (lw_at lw_m13 72 rfl) rfl
theorem q3030 : (Jvm.Cond.code ({ cls := "TissueBalloons$Festival", name := "busy", desc := "()I" } : Jvm.MethodName) prog_7_method_33_code (3 : Nat) (Option.some Jvm.ClassFile.FieldType.int)) ∈ lw_all := lw_g (lw_at lw_m13 73 rfl) rfl
theorem q3535 : (Jvm.Cond.castable "TissueBalloons$Festival" "java/lang/Object") ∈ lw_tbl := lw_at lw_m15 98 rfl
def RX3 : String := "TissueBalloons$Balloon"
def TX3 : u_T := fun k => match k with
  | 0 => ("TissueBalloons$Balloon", "number", "I", true)
  | 1 => ("TissueBalloons$Balloon", "state", "I", false)
  | 2 => ("TissueBalloons$Balloon", "tissue", "I", false)
  | 3 => ("TissueBalloons$Balloon", "wick", "I", false)
  | 4 => ("TissueBalloons$Balloon", "glow", "I", false)
  | 5 => ("TissueBalloons$Balloon", "layer", "I", false)
  | 6 => ("TissueBalloons$Balloon", "place", "I", false)
  | _ => ("TissueBalloons$Balloon", "flown", "I", false)
def tyX3 : Nat → FieldType := fun k => match k with
  | 0 => .int
  | 1 => .int
  | 2 => .int
  | 3 => .int
  | 4 => .int
  | 5 => .int
  | 6 => .int
  | _ => .int
abbrev wsX30 : List Cond := u_ws RX3 TX3 8
theorem nmX3 : ∀ a, a < 8 → ∀ b, b < 8 → a ≠ b → (TX3 a).2.1 ≠ (TX3 b).2.1 := by decide +kernel
theorem tyX3_ok : ∀ k, k < 8 → parseFieldDescriptor (TX3 k).2.2.1 = some (tyX3 k) := by decide +kernel
theorem q85 : (Jvm.Cond.initialized "TissueBalloons$Balloon") ∈ lw_all := lw_g (lw_at lw_m1 8 rfl) rfl
theorem q223 : (Jvm.Cond.instantiable "TissueBalloons$Balloon" (8 : Nat)) ∈ lw_all := lw_g (lw_at lw_m1 146 rfl) rfl
theorem q225 : (Jvm.Cond.instanceMethod ({ cls := "TissueBalloons$Balloon", name := "<init>", desc := "(I)V" } : Jvm.MethodName)) ∈ lw_all := lw_g (lw_at lw_m1 148 rfl) rfl
theorem q226 : (Jvm.Cond.code ({ cls := "TissueBalloons$Balloon", name := "<init>", desc := "(I)V" } : Jvm.MethodName) prog_2_method_1_code (2 : Nat) (Option.none : Option Jvm.ClassFile.FieldType)) ∈ lw_all := lw_g (lw_at lw_m1 149 rfl) rfl
theorem q227 : (Jvm.Cond.methodLink "TissueBalloons$Balloon" (3 : Nat) ({ cls := "java/lang/Object", name := "<init>", desc := "()V" } : Jvm.MethodName)) ∈ lw_all := lw_g (lw_at lw_m1 150 rfl) rfl
theorem q228 : (Jvm.Cond.fieldLink "TissueBalloons$Balloon" (9 : Nat) "TissueBalloons$Balloon" "number" "I") ∈ lw_all := lw_g (lw_at lw_m1 151 rfl) rfl
theorem q232 : (Jvm.Cond.fieldLink "TissueBalloons$Balloon" (24 : Nat) "TissueBalloons$Balloon" "state" "I") ∈ lw_all := lw_g (lw_at lw_m1 155 rfl) rfl
theorem q235 : (Jvm.Cond.fieldLink "TissueBalloons$Balloon" (15 : Nat) "TissueBalloons$Balloon" "tissue" "I") ∈ lw_all := lw_g (lw_at lw_m1 158 rfl) rfl
theorem q238 : (Jvm.Cond.fieldLink "TissueBalloons$Balloon" (18 : Nat) "TissueBalloons$Balloon" "wick" "I") ∈ lw_all := lw_g (lw_at lw_m1 161 rfl) rfl
theorem q241 : (Jvm.Cond.fieldLink "TissueBalloons$Balloon" (21 : Nat) "TissueBalloons$Balloon" "glow" "I") ∈ lw_all := lw_g (lw_at lw_m1 164 rfl) rfl
theorem q245 : (Jvm.Cond.fieldLink "TissueBalloons$Balloon" (27 : Nat) "TissueBalloons$Balloon" "layer" "I") ∈ lw_all := lw_g (lw_at lw_m1 168 rfl) rfl
theorem q248 : (Jvm.Cond.fieldLink "TissueBalloons$Balloon" (30 : Nat) "TissueBalloons$Balloon" "place" "I") ∈ lw_all := lw_g (lw_at lw_m1 171 rfl) rfl
theorem q252 : (Jvm.Cond.fieldLink "TissueBalloons$Balloon" (33 : Nat) "TissueBalloons$Balloon" "flown" "I") ∈ lw_all := lw_g (lw_at lw_m1 175 rfl) rfl
theorem q255 : (Jvm.Cond.laysFinal "TissueBalloons$Balloon" "TissueBalloons$Balloon" "number" "I") ∈ lw_all := lw_g (lw_at lw_m1 178 rfl) rfl
theorem q256 : (Jvm.Cond.soleField "TissueBalloons$Balloon" "number") ∈ lw_all := lw_g (lw_at lw_m1 179 rfl) rfl
theorem q257 : (Jvm.Cond.lays "TissueBalloons$Balloon" "TissueBalloons$Balloon" "state" "I") ∈ lw_all := lw_g (lw_at lw_m1 180 rfl) rfl
theorem q258 : (Jvm.Cond.soleField "TissueBalloons$Balloon" "state") ∈ lw_all := lw_g (lw_at lw_m1 181 rfl) rfl
theorem q259 : (Jvm.Cond.lays "TissueBalloons$Balloon" "TissueBalloons$Balloon" "tissue" "I") ∈ lw_all := lw_g (lw_at lw_m1 182 rfl) rfl
theorem q260 : (Jvm.Cond.soleField "TissueBalloons$Balloon" "tissue") ∈ lw_all := lw_g (lw_at lw_m1 183 rfl) rfl
theorem q261 : (Jvm.Cond.lays "TissueBalloons$Balloon" "TissueBalloons$Balloon" "wick" "I") ∈ lw_all := lw_g (lw_at lw_m1 184 rfl) rfl
theorem q262 : (Jvm.Cond.soleField "TissueBalloons$Balloon" "wick") ∈ lw_all := lw_g (lw_at lw_m1 185 rfl) rfl
theorem q263 : (Jvm.Cond.lays "TissueBalloons$Balloon" "TissueBalloons$Balloon" "glow" "I") ∈ lw_all := lw_g (lw_at lw_m1 186 rfl) rfl
theorem q264 : (Jvm.Cond.soleField "TissueBalloons$Balloon" "glow") ∈ lw_all := lw_g (lw_at lw_m1 187 rfl) rfl
theorem q265 : (Jvm.Cond.lays "TissueBalloons$Balloon" "TissueBalloons$Balloon" "layer" "I") ∈ lw_all := lw_g (lw_at lw_m1 188 rfl) rfl
theorem q266 : (Jvm.Cond.soleField "TissueBalloons$Balloon" "layer") ∈ lw_all := lw_g (lw_at lw_m1 189 rfl) rfl
theorem q267 : (Jvm.Cond.lays "TissueBalloons$Balloon" "TissueBalloons$Balloon" "place" "I") ∈ lw_all := lw_g (lw_at lw_m1 190 rfl) rfl
theorem q268 : (Jvm.Cond.soleField "TissueBalloons$Balloon" "place") ∈ lw_all := lw_g (lw_at lw_m1 191 rfl) rfl
theorem q269 : (Jvm.Cond.lays "TissueBalloons$Balloon" "TissueBalloons$Balloon" "flown" "I") ∈ lw_all := lw_g (lw_at lw_m1 192 rfl) rfl
theorem q270 : (Jvm.Cond.soleField "TissueBalloons$Balloon" "flown") ∈ lw_all := lw_g (lw_at lw_m1 193 rfl) rfl
theorem q271 : (Jvm.Cond.superclass "TissueBalloons$Balloon" "java/lang/Object") ∈ lw_all := lw_g (lw_at lw_m1 194 rfl) rfl
theorem q516 : (Jvm.Cond.selects "TissueBalloons$Balloon" ({ cls := "java/lang/Object", name := "getClass", desc := "()Ljava/lang/Class;" } : Jvm.MethodName) ({ cls := "java/lang/Object", name := "getClass", desc := "()Ljava/lang/Class;" } : Jvm.MethodName)) ∈ lw_all := lw_g (lw_at lw_m2 199 rfl) rfl
theorem q1714 : (Jvm.Cond.instanceMethod ({ cls := "TissueBalloons$Balloon", name := "take", desc := "(LTissueBalloons$Balloon;)V" } : Jvm.MethodName)) ∈ lw_all := lw_g (lw_at lw_m7 197 rfl) rfl
theorem q1715 : (Jvm.Cond.selects "TissueBalloons$Balloon" ({ cls := "TissueBalloons$Balloon", name := "take", desc := "(LTissueBalloons$Balloon;)V" } : Jvm.MethodName) ({ cls := "TissueBalloons$Balloon", name := "take", desc := "(LTissueBalloons$Balloon;)V" } : Jvm.MethodName)) ∈ lw_all := lw_g (lw_at lw_m7 198 rfl) rfl
theorem q1716 : (Jvm.Cond.code ({ cls := "TissueBalloons$Balloon", name := "take", desc := "(LTissueBalloons$Balloon;)V" } : Jvm.MethodName) prog_2_method_3_code (2 : Nat) (Option.none : Option Jvm.ClassFile.FieldType)) ∈ lw_all := lw_g (lw_at lw_m7 199 rfl) rfl
theorem q1717 : (Jvm.Cond.methodLink "TissueBalloons$Balloon" (36 : Nat) ({ cls := "TissueBalloons$Balloon", name := "begins", desc := "(III)V" } : Jvm.MethodName)) ∈ lw_all := lw_g (lw_at lw_m7 200 rfl) rfl
theorem q1718 : (Jvm.Cond.instanceMethod ({ cls := "TissueBalloons$Balloon", name := "begins", desc := "(III)V" } : Jvm.MethodName)) ∈ lw_all := lw_g (lw_at lw_m7 201 rfl) rfl
theorem q1719 : (Jvm.Cond.selects "TissueBalloons$Balloon" ({ cls := "TissueBalloons$Balloon", name := "begins", desc := "(III)V" } : Jvm.MethodName) ({ cls := "TissueBalloons$Balloon", name := "begins", desc := "(III)V" } : Jvm.MethodName)) ∈ lw_all := lw_g (lw_at lw_m7 202 rfl) rfl
theorem q1720 : (Jvm.Cond.code ({ cls := "TissueBalloons$Balloon", name := "begins", desc := "(III)V" } : Jvm.MethodName) prog_2_method_2_code (4 : Nat) (Option.none : Option Jvm.ClassFile.FieldType)) ∈ lw_all := lw_g (lw_at lw_m7 203 rfl) rfl
theorem q2116 : (Jvm.Cond.instanceMethod ({ cls := "TissueBalloons$Balloon", name := "flies", desc := "()Z" } : Jvm.MethodName)) ∈ lw_all := lw_g (lw_at lw_m9 119 rfl) rfl
theorem q2117 : (Jvm.Cond.selects "TissueBalloons$Balloon" ({ cls := "TissueBalloons$Balloon", name := "flies", desc := "()Z" } : Jvm.MethodName) ({ cls := "TissueBalloons$Balloon", name := "flies", desc := "()Z" } : Jvm.MethodName)) ∈ lw_all := lw_g (lw_at lw_m9 120 rfl) rfl
theorem q2118 : (Jvm.Cond.code ({ cls := "TissueBalloons$Balloon", name := "flies", desc := "()Z" } : Jvm.MethodName) prog_2_method_4_code (1 : Nat) (Option.some Jvm.ClassFile.FieldType.boolean)) ∈ lw_all := lw_g (lw_at lw_m9 121 rfl) rfl
theorem q2646 : (Jvm.Cond.instanceMethod ({ cls := "TissueBalloons$Balloon", name := "ends", desc := "(I)V" } : Jvm.MethodName)) ∈ lw_all := lw_g (lw_at lw_m11 169 rfl) rfl
theorem q2647 : (Jvm.Cond.selects "TissueBalloons$Balloon" ({ cls := "TissueBalloons$Balloon", name := "ends", desc := "(I)V" } : Jvm.MethodName) ({ cls := "TissueBalloons$Balloon", name := "ends", desc := "(I)V" } : Jvm.MethodName)) ∈ lw_all := lw_g (lw_at lw_m11 170 rfl) rfl
theorem q2648 : (Jvm.Cond.code ({ cls := "TissueBalloons$Balloon", name := "ends", desc := "(I)V" } : Jvm.MethodName) prog_2_method_5_code (2 : Nat) (Option.none : Option Jvm.ClassFile.FieldType)) ∈ lw_all := lw_g (lw_at lw_m11 171 rfl) rfl
theorem q3532 : (Jvm.Cond.castable "TissueBalloons$Balloon" "java/lang/Object") ∈ lw_tbl := lw_at lw_m15 95 rfl
def RX4 : String := "TissueBalloons$Crew"
def TX4 : u_T := fun k => match k with
  | 0 => ("TissueBalloons$Crew", "place", "I", false)
  | 1 => ("TissueBalloons$Crew", "busy", "I", false)
  | _ => ("TissueBalloons$Crew", "launched", "I", false)
def tyX4 : Nat → FieldType := fun k => match k with
  | 0 => .int
  | 1 => .int
  | _ => .int
abbrev wsX40 : List Cond := u_ws RX4 TX4 3
theorem nmX4 : ∀ a, a < 3 → ∀ b, b < 3 → a ≠ b → (TX4 a).2.1 ≠ (TX4 b).2.1 := by decide +kernel
theorem tyX4_ok : ∀ k, k < 3 → parseFieldDescriptor (TX4 k).2.2.1 = some (tyX4 k) := by decide +kernel
theorem q86 : (Jvm.Cond.initialized "TissueBalloons$Crew") ∈ lw_all := lw_g (lw_at lw_m1 9 rfl) rfl
theorem q272 : (Jvm.Cond.instantiable "TissueBalloons$Crew" (3 : Nat)) ∈ lw_all := lw_g (lw_at lw_m1 195 rfl) rfl
theorem q274 : (Jvm.Cond.instanceMethod ({ cls := "TissueBalloons$Crew", name := "<init>", desc := "()V" } : Jvm.MethodName)) ∈ lw_all := lw_g (lw_at lw_m1 197 rfl) rfl
theorem q275 : (Jvm.Cond.code ({ cls := "TissueBalloons$Crew", name := "<init>", desc := "()V" } : Jvm.MethodName) prog_5_method_1_code (1 : Nat) (Option.none : Option Jvm.ClassFile.FieldType)) ∈ lw_all := lw_g (lw_at lw_m1 198 rfl) rfl
theorem q276 : (Jvm.Cond.methodLink "TissueBalloons$Crew" (1 : Nat) ({ cls := "java/lang/Object", name := "<init>", desc := "()V" } : Jvm.MethodName)) ∈ lw_all := lw_g (lw_at lw_m1 199 rfl) rfl
theorem q277 : (Jvm.Cond.fieldLink "TissueBalloons$Crew" (7 : Nat) "TissueBalloons$Crew" "place" "I") ∈ lw_all := lw_g (lw_at lw_m1 200 rfl) rfl
theorem q280 : (Jvm.Cond.fieldLink "TissueBalloons$Crew" (13 : Nat) "TissueBalloons$Crew" "busy" "I") ∈ lw_all := lw_g (lw_at lw_m1 203 rfl) rfl
theorem q283 : (Jvm.Cond.fieldLink "TissueBalloons$Crew" (16 : Nat) "TissueBalloons$Crew" "launched" "I") ∈ lw_all := lw_g (lw_at lw_m1 206 rfl) rfl
theorem q286 : (Jvm.Cond.lays "TissueBalloons$Crew" "TissueBalloons$Crew" "place" "I") ∈ lw_all := lw_g (lw_at lw_m1 209 rfl) rfl
theorem q287 : (Jvm.Cond.soleField "TissueBalloons$Crew" "place") ∈ lw_all := lw_g (lw_at lw_m1 210 rfl) rfl
theorem q288 : (Jvm.Cond.lays "TissueBalloons$Crew" "TissueBalloons$Crew" "busy" "I") ∈ lw_all := lw_g (lw_at lw_m1 211 rfl) rfl
theorem q289 : (Jvm.Cond.soleField "TissueBalloons$Crew" "busy") ∈ lw_all := lw_g (lw_at lw_m1 212 rfl) rfl
theorem q290 : (Jvm.Cond.lays "TissueBalloons$Crew" "TissueBalloons$Crew" "launched" "I") ∈ lw_all := lw_g (lw_at lw_m1 213 rfl) rfl
theorem q291 : (Jvm.Cond.soleField "TissueBalloons$Crew" "launched") ∈ lw_all := lw_g (lw_at lw_m1 214 rfl) rfl
theorem q292 : (Jvm.Cond.superclass "TissueBalloons$Crew" "java/lang/Object") ∈ lw_all := lw_g (lw_at lw_m1 215 rfl) rfl
theorem q519 : (Jvm.Cond.selects "TissueBalloons$Crew" ({ cls := "java/lang/Object", name := "getClass", desc := "()Ljava/lang/Class;" } : Jvm.MethodName) ({ cls := "java/lang/Object", name := "getClass", desc := "()Ljava/lang/Class;" } : Jvm.MethodName)) ∈ lw_all := lw_g (lw_at lw_m2 202 rfl) rfl
theorem q1722 : (Jvm.Cond.instanceMethod ({ cls := "TissueBalloons$Crew", name := "take", desc := "(LTissueBalloons$Crew;)V" } : Jvm.MethodName)) ∈ lw_all := lw_g (lw_at lw_m7 205 rfl) rfl
theorem q1723 : (Jvm.Cond.selects "TissueBalloons$Crew" ({ cls := "TissueBalloons$Crew", name := "take", desc := "(LTissueBalloons$Crew;)V" } : Jvm.MethodName) ({ cls := "TissueBalloons$Crew", name := "take", desc := "(LTissueBalloons$Crew;)V" } : Jvm.MethodName)) ∈ lw_all := lw_g (lw_at lw_m7 206 rfl) rfl
theorem q1724 : (Jvm.Cond.code ({ cls := "TissueBalloons$Crew", name := "take", desc := "(LTissueBalloons$Crew;)V" } : Jvm.MethodName) prog_5_method_3_code (2 : Nat) (Option.none : Option Jvm.ClassFile.FieldType)) ∈ lw_all := lw_g (lw_at lw_m7 207 rfl) rfl
theorem q1725 : (Jvm.Cond.methodLink "TissueBalloons$Crew" (19 : Nat) ({ cls := "TissueBalloons$Crew", name := "begins", desc := "(I)V" } : Jvm.MethodName)) ∈ lw_all := lw_g (lw_at lw_m7 208 rfl) rfl
theorem q1726 : (Jvm.Cond.instanceMethod ({ cls := "TissueBalloons$Crew", name := "begins", desc := "(I)V" } : Jvm.MethodName)) ∈ lw_all := lw_g (lw_at lw_m7 209 rfl) rfl
theorem q1727 : (Jvm.Cond.selects "TissueBalloons$Crew" ({ cls := "TissueBalloons$Crew", name := "begins", desc := "(I)V" } : Jvm.MethodName) ({ cls := "TissueBalloons$Crew", name := "begins", desc := "(I)V" } : Jvm.MethodName)) ∈ lw_all := lw_g (lw_at lw_m7 210 rfl) rfl
theorem q1728 : (Jvm.Cond.code ({ cls := "TissueBalloons$Crew", name := "begins", desc := "(I)V" } : Jvm.MethodName) prog_5_method_2_code (2 : Nat) (Option.none : Option Jvm.ClassFile.FieldType)) ∈ lw_all := lw_g (lw_at lw_m7 211 rfl) rfl
theorem q3533 : (Jvm.Cond.castable "TissueBalloons$Crew" "java/lang/Object") ∈ lw_tbl := lw_at lw_m15 96 rfl
def RX5 : String := "TissueBalloons$Reader"
def TX5 : u_T := fun k => match k with
  | 0 => ("TissueBalloons$Reader", "text", "Ljava/lang/StringBuilder;", true)
  | 1 => ("TissueBalloons$Reader", "at", "I", false)
  | 2 => ("TissueBalloons$Reader", "many", "I", false)
  | 3 => ("TissueBalloons$Reader", "letters", "[C", true)
  | 4 => ("TissueBalloons$Reader", "first", "[I", true)
  | _ => ("TissueBalloons$Reader", "second", "[I", true)
def tyX5 : Nat → FieldType := fun k => match k with
  | 0 => .object "java/lang/StringBuilder"
  | 1 => .int
  | 2 => .int
  | 3 => .array .char
  | 4 => .array .int
  | _ => .array .int
abbrev wsX50 : List Cond := u_ws RX5 TX5 6
theorem nmX5 : ∀ a, a < 6 → ∀ b, b < 6 → a ≠ b → (TX5 a).2.1 ≠ (TX5 b).2.1 := by decide +kernel
theorem tyX5_ok : ∀ k, k < 6 → parseFieldDescriptor (TX5 k).2.2.1 = some (tyX5 k) := by decide +kernel
theorem q92 : (Jvm.Cond.initialized "TissueBalloons$Reader") ∈ lw_all := lw_g (lw_at lw_m1 15 rfl) rfl
theorem q392 : (Jvm.Cond.instantiable "TissueBalloons$Reader" (6 : Nat)) ∈ lw_all := lw_g (lw_at lw_m2 75 rfl) rfl
theorem q394 : (Jvm.Cond.instanceMethod ({ cls := "TissueBalloons$Reader", name := "<init>", desc := "(Ljava/lang/StringBuilder;)V" } : Jvm.MethodName)) ∈ lw_all := lw_g (lw_at lw_m2 77 rfl) rfl
theorem q395 : (Jvm.Cond.code ({ cls := "TissueBalloons$Reader", name := "<init>", desc := "(Ljava/lang/StringBuilder;)V" } : Jvm.MethodName) prog_9_method_1_code (2 : Nat) (Option.none : Option Jvm.ClassFile.FieldType)) ∈ lw_all := lw_g (lw_at lw_m2 78 rfl) rfl
theorem q396 : (Jvm.Cond.methodLink "TissueBalloons$Reader" (3 : Nat) ({ cls := "java/lang/Object", name := "<init>", desc := "()V" } : Jvm.MethodName)) ∈ lw_all := lw_g (lw_at lw_m2 79 rfl) rfl
theorem q397 : (Jvm.Cond.fieldLink "TissueBalloons$Reader" (22 : Nat) "TissueBalloons$Reader" "text" "Ljava/lang/StringBuilder;") ∈ lw_all := lw_g (lw_at lw_m2 80 rfl) rfl
theorem q398 : (Jvm.Cond.fieldLink "TissueBalloons$Reader" (26 : Nat) "TissueBalloons$Reader" "at" "I") ∈ lw_all := lw_g (lw_at lw_m2 81 rfl) rfl
theorem q399 : (Jvm.Cond.fieldLink "TissueBalloons$Reader" (59 : Nat) "TissueBalloons$Reader" "many" "I") ∈ lw_all := lw_g (lw_at lw_m2 82 rfl) rfl
theorem q401 : (Jvm.Cond.fieldLink "TissueBalloons$Reader" (9 : Nat) "TissueBalloons$Reader" "letters" "[C") ∈ lw_all := lw_g (lw_at lw_m2 84 rfl) rfl
theorem q402 : (Jvm.Cond.fieldLink "TissueBalloons$Reader" (15 : Nat) "TissueBalloons$Reader" "first" "[I") ∈ lw_all := lw_g (lw_at lw_m2 85 rfl) rfl
theorem q403 : (Jvm.Cond.fieldLink "TissueBalloons$Reader" (19 : Nat) "TissueBalloons$Reader" "second" "[I") ∈ lw_all := lw_g (lw_at lw_m2 86 rfl) rfl
theorem q404 : (Jvm.Cond.laysFinal "TissueBalloons$Reader" "TissueBalloons$Reader" "text" "Ljava/lang/StringBuilder;") ∈ lw_all := lw_g (lw_at lw_m2 87 rfl) rfl
theorem q405 : (Jvm.Cond.soleField "TissueBalloons$Reader" "text") ∈ lw_all := lw_g (lw_at lw_m2 88 rfl) rfl
theorem q406 : (Jvm.Cond.lays "TissueBalloons$Reader" "TissueBalloons$Reader" "at" "I") ∈ lw_all := lw_g (lw_at lw_m2 89 rfl) rfl
theorem q407 : (Jvm.Cond.soleField "TissueBalloons$Reader" "at") ∈ lw_all := lw_g (lw_at lw_m2 90 rfl) rfl
theorem q408 : (Jvm.Cond.lays "TissueBalloons$Reader" "TissueBalloons$Reader" "many" "I") ∈ lw_all := lw_g (lw_at lw_m2 91 rfl) rfl
theorem q409 : (Jvm.Cond.soleField "TissueBalloons$Reader" "many") ∈ lw_all := lw_g (lw_at lw_m2 92 rfl) rfl
theorem q410 : (Jvm.Cond.laysFinal "TissueBalloons$Reader" "TissueBalloons$Reader" "letters" "[C") ∈ lw_all := lw_g (lw_at lw_m2 93 rfl) rfl
theorem q411 : (Jvm.Cond.soleField "TissueBalloons$Reader" "letters") ∈ lw_all := lw_g (lw_at lw_m2 94 rfl) rfl
theorem q412 : (Jvm.Cond.laysFinal "TissueBalloons$Reader" "TissueBalloons$Reader" "first" "[I") ∈ lw_all := lw_g (lw_at lw_m2 95 rfl) rfl
theorem q413 : (Jvm.Cond.soleField "TissueBalloons$Reader" "first") ∈ lw_all := lw_g (lw_at lw_m2 96 rfl) rfl
theorem q414 : (Jvm.Cond.laysFinal "TissueBalloons$Reader" "TissueBalloons$Reader" "second" "[I") ∈ lw_all := lw_g (lw_at lw_m2 97 rfl) rfl
theorem q415 : (Jvm.Cond.soleField "TissueBalloons$Reader" "second") ∈ lw_all := lw_g (lw_at lw_m2 98 rfl) rfl
theorem q416 : (Jvm.Cond.superclass "TissueBalloons$Reader" "java/lang/Object") ∈ lw_all := lw_g (lw_at lw_m2 99 rfl) rfl
theorem q523 : (Jvm.Cond.selects "TissueBalloons$Reader" ({ cls := "java/lang/Object", name := "getClass", desc := "()Ljava/lang/Class;" } : Jvm.MethodName) ({ cls := "java/lang/Object", name := "getClass", desc := "()Ljava/lang/Class;" } : Jvm.MethodName)) ∈ lw_all := lw_g (lw_at lw_m2 206 rfl) rfl
theorem q2762 : (Jvm.Cond.instanceMethod ({ cls := "TissueBalloons$Reader", name := "read", desc := "()V" } : Jvm.MethodName)) ∈ lw_all := lw_g (lw_at lw_m12 45 rfl) rfl
theorem q2763 : (Jvm.Cond.selects "TissueBalloons$Reader" ({ cls := "TissueBalloons$Reader", name := "read", desc := "()V" } : Jvm.MethodName) ({ cls := "TissueBalloons$Reader", name := "read", desc := "()V" } : Jvm.MethodName)) ∈ lw_all := lw_g (lw_at lw_m12 46 rfl) rfl
theorem q2764 : (Jvm.Cond.code ({ cls := "TissueBalloons$Reader", name := "read", desc := "()V" } : Jvm.MethodName) prog_9_method_9_code (1 : Nat) (Option.none : Option Jvm.ClassFile.FieldType)) ∈ lw_all := lw_g (lw_at lw_m12 47 rfl) rfl
theorem q2765 : (Jvm.Cond.methodLink "TissueBalloons$Reader" (71 : Nat) ({ cls := "TissueBalloons$Reader", name := "order", desc := "()V" } : Jvm.MethodName)) ∈ lw_all := lw_g (lw_at lw_m12 48 rfl) rfl
theorem q2766 : (Jvm.Cond.privateMethod ({ cls := "TissueBalloons$Reader", name := "order", desc := "()V" } : Jvm.MethodName)) ∈ lw_tbl := lw_at lw_m12 49 rfl
theorem q2767 : (Jvm.Cond.instanceMethod ({ cls := "TissueBalloons$Reader", name := "order", desc := "()V" } : Jvm.MethodName)) ∈ lw_all := lw_g (lw_at lw_m12 50 rfl) rfl
theorem q2768 : (Jvm.Cond.code ({ cls := "TissueBalloons$Reader", name := "order", desc := "()V" } : Jvm.MethodName) prog_9_method_8_code (1 : Nat) (Option.none : Option Jvm.ClassFile.FieldType)) ∈ lw_all := lw_g (lw_at lw_m12 51 rfl) rfl
theorem q2769 : (Jvm.Cond.methodLink "TissueBalloons$Reader" (43 : Nat) ({ cls := "TissueBalloons$Reader", name := "skip", desc := "(I)Z" } : Jvm.MethodName)) ∈ lw_all := lw_g (lw_at lw_m12 52 rfl) rfl
theorem q2770 : (Jvm.Cond.privateMethod ({ cls := "TissueBalloons$Reader", name := "skip", desc := "(I)Z" } : Jvm.MethodName)) ∈ lw_tbl := lw_at lw_m12 53 rfl
theorem q2771 : (Jvm.Cond.instanceMethod ({ cls := "TissueBalloons$Reader", name := "skip", desc := "(I)Z" } : Jvm.MethodName)) ∈ lw_all := lw_g (lw_at lw_m12 54 rfl) rfl
theorem q2772 : (Jvm.Cond.code ({ cls := "TissueBalloons$Reader", name := "skip", desc := "(I)Z" } : Jvm.MethodName) prog_9_method_3_code (2 : Nat) (Option.some Jvm.ClassFile.FieldType.boolean)) ∈ lw_all := lw_g (lw_at lw_m12 55 rfl) rfl
theorem q2773 : (Jvm.Cond.methodLink "TissueBalloons$Reader" (40 : Nat) ({ cls := "TissueBalloons$Reader", name := "here", desc := "()I" } : Jvm.MethodName)) ∈ lw_all := lw_g (lw_at lw_m12 56 rfl) rfl
theorem q2774 : (Jvm.Cond.privateMethod ({ cls := "TissueBalloons$Reader", name := "here", desc := "()I" } : Jvm.MethodName)) ∈ lw_tbl := lw_at lw_m12 57 rfl
theorem q2775 : (Jvm.Cond.instanceMethod ({ cls := "TissueBalloons$Reader", name := "here", desc := "()I" } : Jvm.MethodName)) ∈ lw_all := lw_g (lw_at lw_m12 58 rfl) rfl
theorem q2776 : (Jvm.Cond.code ({ cls := "TissueBalloons$Reader", name := "here", desc := "()I" } : Jvm.MethodName) prog_9_method_2_code (1 : Nat) (Option.some Jvm.ClassFile.FieldType.int)) ∈ lw_all := lw_g (lw_at lw_m12 59 rfl) rfl
theorem q2777 : (Jvm.Cond.methodLink "TissueBalloons$Reader" (30 : Nat) ({ cls := "java/lang/StringBuilder", name := "length", desc := "()I" } : Jvm.MethodName)) ∈ lw_all := lw_g (lw_at lw_m12 60 rfl) rfl
theorem q2778 : (Jvm.Cond.methodLink "TissueBalloons$Reader" (36 : Nat) ({ cls := "java/lang/StringBuilder", name := "charAt", desc := "(I)C" } : Jvm.MethodName)) ∈ lw_all := lw_g (lw_at lw_m12 61 rfl) rfl
theorem q2788 : (Jvm.Cond.methodLink "TissueBalloons$Reader" (56 : Nat) ({ cls := "TissueBalloons$Reader", name := "digit", desc := "()I" } : Jvm.MethodName)) ∈ lw_all := lw_g (lw_at lw_m12 71 rfl) rfl
theorem q2789 : (Jvm.Cond.privateMethod ({ cls := "TissueBalloons$Reader", name := "digit", desc := "()I" } : Jvm.MethodName)) ∈ lw_tbl := lw_at lw_m12 72 rfl
theorem q2790 : (Jvm.Cond.instanceMethod ({ cls := "TissueBalloons$Reader", name := "digit", desc := "()I" } : Jvm.MethodName)) ∈ lw_all := lw_g (lw_at lw_m12 73 rfl) rfl
theorem q2791 : (Jvm.Cond.code ({ cls := "TissueBalloons$Reader", name := "digit", desc := "()I" } : Jvm.MethodName) prog_9_method_5_code (1 : Nat) (Option.some Jvm.ClassFile.FieldType.int)) ∈ lw_all := lw_g (lw_at lw_m12 74 rfl) rfl
theorem q2792 : (Jvm.Cond.methodLinkNest "TissueBalloons$Reader" (52 : Nat) ({ cls := "TissueBalloons", name := "in", desc := "(III)Z" } : Jvm.MethodName) "TissueBalloons") ∈ lw_tbl := lw_at lw_m12 75 rfl
theorem q2793 : (Jvm.Cond.classLink "TissueBalloons$Reader" (47 : Nat) "TissueBalloons$Fault") ∈ lw_all := lw_g (lw_at lw_m12 76 rfl) rfl
theorem q2802 : (Jvm.Cond.methodLink "TissueBalloons$Reader" (49 : Nat) ({ cls := "TissueBalloons$Fault", name := "<init>", desc := "(I)V" } : Jvm.MethodName)) ∈ lw_all := lw_g (lw_at lw_m12 85 rfl) rfl
theorem q2812 : (Jvm.Cond.methodLink "TissueBalloons$Reader" (62 : Nat) ({ cls := "TissueBalloons$Reader", name := "must", desc := "(I)V" } : Jvm.MethodName)) ∈ lw_all := lw_g (lw_at lw_m12 95 rfl) rfl
theorem q2813 : (Jvm.Cond.privateMethod ({ cls := "TissueBalloons$Reader", name := "must", desc := "(I)V" } : Jvm.MethodName)) ∈ lw_tbl := lw_at lw_m12 96 rfl
theorem q2814 : (Jvm.Cond.instanceMethod ({ cls := "TissueBalloons$Reader", name := "must", desc := "(I)V" } : Jvm.MethodName)) ∈ lw_all := lw_g (lw_at lw_m12 97 rfl) rfl
theorem q2815 : (Jvm.Cond.code ({ cls := "TissueBalloons$Reader", name := "must", desc := "(I)V" } : Jvm.MethodName) prog_9_method_4_code (2 : Nat) (Option.none : Option Jvm.ClassFile.FieldType)) ∈ lw_all := lw_g (lw_at lw_m12 98 rfl) rfl
theorem q2816 : (Jvm.Cond.methodLink "TissueBalloons$Reader" (65 : Nat) ({ cls := "TissueBalloons$Reader", name := "signed", desc := "()I" } : Jvm.MethodName)) ∈ lw_all := lw_g (lw_at lw_m12 99 rfl) rfl
theorem q2817 : (Jvm.Cond.privateMethod ({ cls := "TissueBalloons$Reader", name := "signed", desc := "()I" } : Jvm.MethodName)) ∈ lw_tbl := lw_at lw_m12 100 rfl
theorem q2818 : (Jvm.Cond.instanceMethod ({ cls := "TissueBalloons$Reader", name := "signed", desc := "()I" } : Jvm.MethodName)) ∈ lw_all := lw_g (lw_at lw_m12 101 rfl) rfl
theorem q2819 : (Jvm.Cond.code ({ cls := "TissueBalloons$Reader", name := "signed", desc := "()I" } : Jvm.MethodName) prog_9_method_7_code (3 : Nat) (Option.some Jvm.ClassFile.FieldType.int)) ∈ lw_all := lw_g (lw_at lw_m12 102 rfl) rfl
theorem q2820 : (Jvm.Cond.methodLink "TissueBalloons$Reader" (68 : Nat) ({ cls := "TissueBalloons$Reader", name := "number", desc := "()I" } : Jvm.MethodName)) ∈ lw_all := lw_g (lw_at lw_m12 103 rfl) rfl
theorem q2821 : (Jvm.Cond.privateMethod ({ cls := "TissueBalloons$Reader", name := "number", desc := "()I" } : Jvm.MethodName)) ∈ lw_tbl := lw_at lw_m12 104 rfl
theorem q2822 : (Jvm.Cond.instanceMethod ({ cls := "TissueBalloons$Reader", name := "number", desc := "()I" } : Jvm.MethodName)) ∈ lw_all := lw_g (lw_at lw_m12 105 rfl) rfl
theorem q2823 : (Jvm.Cond.code ({ cls := "TissueBalloons$Reader", name := "number", desc := "()I" } : Jvm.MethodName) prog_9_method_6_code (2 : Nat) (Option.some Jvm.ClassFile.FieldType.int)) ∈ lw_all := lw_g (lw_at lw_m12 106 rfl) rfl
theorem q2991 : (Jvm.Cond.instanceMethod ({ cls := "TissueBalloons$Reader", name := "isRight", desc := "(LTissueBalloons$Festival;I)Z" } : Jvm.MethodName)) ∈ lw_all := lw_g (lw_at lw_m13 34 rfl) rfl
theorem q2992 : (Jvm.Cond.selects "TissueBalloons$Reader" ({ cls := "TissueBalloons$Reader", name := "isRight", desc := "(LTissueBalloons$Festival;I)Z" } : Jvm.MethodName) ({ cls := "TissueBalloons$Reader", name := "isRight", desc := "(LTissueBalloons$Festival;I)Z" } : Jvm.MethodName)) ∈ lw_all := lw_g (lw_at lw_m13 35 rfl) rfl
theorem q2993 : (Jvm.Cond.code ({ cls := "TissueBalloons$Reader", name := "isRight", desc := "(LTissueBalloons$Festival;I)Z" } : Jvm.MethodName) prog_9_method_10_code (3 : Nat) (Option.some Jvm.ClassFile.FieldType.boolean)) ∈ lw_all := lw_g (lw_at lw_m13 36 rfl) rfl
theorem q2994 : (Jvm.Cond.methodLinkNest "TissueBalloons$Reader" (74 : Nat) ({ cls := "TissueBalloons", name := "isLayer", desc := "(I)Z" } : Jvm.MethodName) "TissueBalloons") ∈ lw_tbl := lw_at lw_m13 37 rfl
theorem q2995 : (Jvm.Cond.methodLinkNest "TissueBalloons$Reader" (77 : Nat) ({ cls := "TissueBalloons", name := "isDrift", desc := "(I)Z" } : Jvm.MethodName) "TissueBalloons") ∈ lw_tbl := lw_at lw_m13 38 rfl
theorem q2996 : (Jvm.Cond.methodLink "TissueBalloons$Reader" (80 : Nat) ({ cls := "TissueBalloons$Festival", name := "isBalloon", desc := "(I)Z" } : Jvm.MethodName)) ∈ lw_all := lw_g (lw_at lw_m13 39 rfl) rfl
theorem q2997 : (Jvm.Cond.methodLink "TissueBalloons$Reader" (85 : Nat) ({ cls := "TissueBalloons$Festival", name := "isCrew", desc := "(I)Z" } : Jvm.MethodName)) ∈ lw_all := lw_g (lw_at lw_m13 40 rfl) rfl
theorem q2998 : (Jvm.Cond.methodLink "TissueBalloons$Reader" (88 : Nat) ({ cls := "TissueBalloons$Festival", name := "roofAt", desc := "(I)LTissueBalloons$Roof;" } : Jvm.MethodName)) ∈ lw_all := lw_g (lw_at lw_m13 41 rfl) rfl
theorem q3000 : (Jvm.Cond.instanceMethod ({ cls := "TissueBalloons$Reader", name := "does", desc := "(LTissueBalloons$Festival;I)I" } : Jvm.MethodName)) ∈ lw_all := lw_g (lw_at lw_m13 43 rfl) rfl
theorem q3001 : (Jvm.Cond.selects "TissueBalloons$Reader" ({ cls := "TissueBalloons$Reader", name := "does", desc := "(LTissueBalloons$Festival;I)I" } : Jvm.MethodName) ({ cls := "TissueBalloons$Reader", name := "does", desc := "(LTissueBalloons$Festival;I)I" } : Jvm.MethodName)) ∈ lw_all := lw_g (lw_at lw_m13 44 rfl) rfl
theorem q3002 : (Jvm.Cond.code ({ cls := "TissueBalloons$Reader", name := "does", desc := "(LTissueBalloons$Festival;I)I" } : Jvm.MethodName) prog_9_method_11_code (3 : Nat) (Option.some Jvm.ClassFile.FieldType.int)) ∈ lw_all := lw_g (lw_at lw_m13 45 rfl) rfl
theorem q3003 : (Jvm.Cond.methodLink "TissueBalloons$Reader" (92 : Nat) ({ cls := "TissueBalloons$Festival", name := "wind", desc := "(II)I" } : Jvm.MethodName)) ∈ lw_all := lw_g (lw_at lw_m13 46 rfl) rfl
theorem q3004 : (Jvm.Cond.methodLink "TissueBalloons$Reader" (96 : Nat) ({ cls := "TissueBalloons$Festival", name := "launch", desc := "(II)I" } : Jvm.MethodName)) ∈ lw_all := lw_g (lw_at lw_m13 47 rfl) rfl
theorem q3005 : (Jvm.Cond.methodLink "TissueBalloons$Reader" (99 : Nat) ({ cls := "TissueBalloons$Festival", name := "wet", desc := "(II)I" } : Jvm.MethodName)) ∈ lw_all := lw_g (lw_at lw_m13 48 rfl) rfl
theorem q3006 : (Jvm.Cond.methodLink "TissueBalloons$Reader" (102 : Nat) ({ cls := "TissueBalloons$Festival", name := "watch", desc := "(IZ)I" } : Jvm.MethodName)) ∈ lw_all := lw_g (lw_at lw_m13 49 rfl) rfl
theorem q3007 : (Jvm.Cond.methodLink "TissueBalloons$Reader" (106 : Nat) ({ cls := "TissueBalloons$Festival", name := "pass", desc := "(I)I" } : Jvm.MethodName)) ∈ lw_all := lw_g (lw_at lw_m13 50 rfl) rfl
theorem q3540 : (Jvm.Cond.castable "TissueBalloons$Reader" "java/lang/Object") ∈ lw_tbl := lw_at lw_m15 103 rfl
def RX6 : String := "TissueBalloonsModel"
def TX6 : u_T := fun k => match k with
  | 0 => ("TissueBalloonsModel", "now", "[I", true)
  | 1 => ("TissueBalloonsModel", "before", "[I", true)
  | 2 => ("TissueBalloonsModel", "aside", "[I", true)
  | 3 => ("TissueBalloonsModel", "saved", "[I", true)
  | 4 => ("TissueBalloonsModel", "changes", "[I", true)
  | 5 => ("TissueBalloonsModel", "thrown", "I", false)
  | 6 => ("TissueBalloonsModel", "changed", "I", false)
  | 7 => ("TissueBalloonsModel", "why", "I", false)
  | 8 => ("TissueBalloonsModel", "number", "I", false)
  | 9 => ("TissueBalloonsModel", "reason", "I", false)
  | 10 => ("TissueBalloonsModel", "detail", "I", false)
  | 11 => ("TissueBalloonsModel", "isSaved", "Z", false)
  | 12 => ("TissueBalloonsModel", "text", "[I", true)
  | 13 => ("TissueBalloonsModel", "letters", "[I", true)
  | 14 => ("TissueBalloonsModel", "a", "[I", true)
  | 15 => ("TissueBalloonsModel", "b2", "[I", true)
  | 16 => ("TissueBalloonsModel", "fed", "I", false)
  | 17 => ("TissueBalloonsModel", "at", "I", false)
  | 18 => ("TissueBalloonsModel", "orders", "I", false)
  | 19 => ("TissueBalloonsModel", "errorAt", "I", false)
  | _ => ("TissueBalloonsModel", "isWrong", "Z", false)
def tyX6 : Nat → FieldType := fun k => match k with
  | 0 => .array .int
  | 1 => .array .int
  | 2 => .array .int
  | 3 => .array .int
  | 4 => .array .int
  | 5 => .int
  | 6 => .int
  | 7 => .int
  | 8 => .int
  | 9 => .int
  | 10 => .int
  | 11 => .boolean
  | 12 => .array .int
  | 13 => .array .int
  | 14 => .array .int
  | 15 => .array .int
  | 16 => .int
  | 17 => .int
  | 18 => .int
  | 19 => .int
  | _ => .boolean
abbrev wsX60 : List Cond := u_ws RX6 TX6 21
theorem nmX6 : ∀ a, a < 21 → ∀ b, b < 21 → a ≠ b → (TX6 a).2.1 ≠ (TX6 b).2.1 := by decide +kernel
theorem tyX6_ok : ∀ k, k < 21 → parseFieldDescriptor (TX6 k).2.2.1 = some (tyX6 k) := by decide +kernel
theorem q100 : (Jvm.Cond.initialized "TissueBalloonsModel") ∈ lw_all := lw_g (lw_at lw_m1 23 rfl) rfl
theorem q527 : (Jvm.Cond.selects "TissueBalloonsModel" ({ cls := "java/lang/Object", name := "getClass", desc := "()Ljava/lang/Class;" } : Jvm.MethodName) ({ cls := "java/lang/Object", name := "getClass", desc := "()Ljava/lang/Class;" } : Jvm.MethodName)) ∈ lw_all := lw_g (lw_at lw_m2 210 rfl) rfl
theorem q3088 : (Jvm.Cond.instantiable "TissueBalloonsModel" (21 : Nat)) ∈ lw_all := lw_g (lw_at lw_m13 131 rfl) rfl
theorem q3090 : (Jvm.Cond.instanceMethod ({ cls := "TissueBalloonsModel", name := "<init>", desc := "()V" } : Jvm.MethodName)) ∈ lw_all := lw_g (lw_at lw_m13 133 rfl) rfl
theorem q3091 : (Jvm.Cond.code ({ cls := "TissueBalloonsModel", name := "<init>", desc := "()V" } : Jvm.MethodName) prog_14_method_1_code (1 : Nat) (Option.none : Option Jvm.ClassFile.FieldType)) ∈ lw_all := lw_g (lw_at lw_m13 134 rfl) rfl
theorem q3092 : (Jvm.Cond.methodLink "TissueBalloonsModel" (1 : Nat) ({ cls := "java/lang/Object", name := "<init>", desc := "()V" } : Jvm.MethodName)) ∈ lw_all := lw_g (lw_at lw_m13 135 rfl) rfl
theorem q3093 : (Jvm.Cond.fieldLink "TissueBalloonsModel" (7 : Nat) "TissueBalloonsModel" "now" "[I") ∈ lw_all := lw_g (lw_at lw_m13 136 rfl) rfl
theorem q3094 : (Jvm.Cond.fieldLink "TissueBalloonsModel" (13 : Nat) "TissueBalloonsModel" "before" "[I") ∈ lw_all := lw_g (lw_at lw_m13 137 rfl) rfl
theorem q3095 : (Jvm.Cond.fieldLink "TissueBalloonsModel" (16 : Nat) "TissueBalloonsModel" "aside" "[I") ∈ lw_all := lw_g (lw_at lw_m13 138 rfl) rfl
theorem q3096 : (Jvm.Cond.fieldLink "TissueBalloonsModel" (19 : Nat) "TissueBalloonsModel" "saved" "[I") ∈ lw_all := lw_g (lw_at lw_m13 139 rfl) rfl
theorem q3097 : (Jvm.Cond.fieldLink "TissueBalloonsModel" (22 : Nat) "TissueBalloonsModel" "changes" "[I") ∈ lw_all := lw_g (lw_at lw_m13 140 rfl) rfl
theorem q3098 : (Jvm.Cond.fieldLink "TissueBalloonsModel" (25 : Nat) "TissueBalloonsModel" "thrown" "I") ∈ lw_all := lw_g (lw_at lw_m13 141 rfl) rfl
theorem q3099 : (Jvm.Cond.fieldLink "TissueBalloonsModel" (29 : Nat) "TissueBalloonsModel" "changed" "I") ∈ lw_all := lw_g (lw_at lw_m13 142 rfl) rfl
theorem q3100 : (Jvm.Cond.fieldLink "TissueBalloonsModel" (32 : Nat) "TissueBalloonsModel" "why" "I") ∈ lw_all := lw_g (lw_at lw_m13 143 rfl) rfl
theorem q3101 : (Jvm.Cond.fieldLink "TissueBalloonsModel" (35 : Nat) "TissueBalloonsModel" "number" "I") ∈ lw_all := lw_g (lw_at lw_m13 144 rfl) rfl
theorem q3102 : (Jvm.Cond.fieldLink "TissueBalloonsModel" (38 : Nat) "TissueBalloonsModel" "reason" "I") ∈ lw_all := lw_g (lw_at lw_m13 145 rfl) rfl
theorem q3103 : (Jvm.Cond.fieldLink "TissueBalloonsModel" (41 : Nat) "TissueBalloonsModel" "detail" "I") ∈ lw_all := lw_g (lw_at lw_m13 146 rfl) rfl
theorem q3104 : (Jvm.Cond.fieldLink "TissueBalloonsModel" (44 : Nat) "TissueBalloonsModel" "isSaved" "Z") ∈ lw_all := lw_g (lw_at lw_m13 147 rfl) rfl
theorem q3105 : (Jvm.Cond.fieldLink "TissueBalloonsModel" (48 : Nat) "TissueBalloonsModel" "text" "[I") ∈ lw_all := lw_g (lw_at lw_m13 148 rfl) rfl
theorem q3106 : (Jvm.Cond.fieldLink "TissueBalloonsModel" (51 : Nat) "TissueBalloonsModel" "letters" "[I") ∈ lw_all := lw_g (lw_at lw_m13 149 rfl) rfl
theorem q3107 : (Jvm.Cond.fieldLink "TissueBalloonsModel" (54 : Nat) "TissueBalloonsModel" "a" "[I") ∈ lw_all := lw_g (lw_at lw_m13 150 rfl) rfl
theorem q3108 : (Jvm.Cond.fieldLink "TissueBalloonsModel" (57 : Nat) "TissueBalloonsModel" "b2" "[I") ∈ lw_all := lw_g (lw_at lw_m13 151 rfl) rfl
theorem q3109 : (Jvm.Cond.fieldLink "TissueBalloonsModel" (60 : Nat) "TissueBalloonsModel" "fed" "I") ∈ lw_all := lw_g (lw_at lw_m13 152 rfl) rfl
theorem q3110 : (Jvm.Cond.fieldLink "TissueBalloonsModel" (63 : Nat) "TissueBalloonsModel" "at" "I") ∈ lw_all := lw_g (lw_at lw_m13 153 rfl) rfl
theorem q3111 : (Jvm.Cond.fieldLink "TissueBalloonsModel" (66 : Nat) "TissueBalloonsModel" "orders" "I") ∈ lw_all := lw_g (lw_at lw_m13 154 rfl) rfl
theorem q3112 : (Jvm.Cond.fieldLink "TissueBalloonsModel" (69 : Nat) "TissueBalloonsModel" "errorAt" "I") ∈ lw_all := lw_g (lw_at lw_m13 155 rfl) rfl
theorem q3113 : (Jvm.Cond.fieldLink "TissueBalloonsModel" (72 : Nat) "TissueBalloonsModel" "isWrong" "Z") ∈ lw_all := lw_g (lw_at lw_m13 156 rfl) rfl
theorem q3114 : (Jvm.Cond.laysFinal "TissueBalloonsModel" "TissueBalloonsModel" "now" "[I") ∈ lw_all := lw_g (lw_at lw_m13 157 rfl) rfl
theorem q3115 : (Jvm.Cond.soleField "TissueBalloonsModel" "now") ∈ lw_all := lw_g (lw_at lw_m13 158 rfl) rfl
theorem q3116 : (Jvm.Cond.laysFinal "TissueBalloonsModel" "TissueBalloonsModel" "before" "[I") ∈ lw_all := lw_g (lw_at lw_m13 159 rfl) rfl
theorem q3117 : (Jvm.Cond.soleField "TissueBalloonsModel" "before") ∈ lw_all := lw_g (lw_at lw_m13 160 rfl) rfl
theorem q3118 : (Jvm.Cond.laysFinal "TissueBalloonsModel" "TissueBalloonsModel" "aside" "[I") ∈ lw_all := lw_g (lw_at lw_m13 161 rfl) rfl
theorem q3119 : (Jvm.Cond.soleField "TissueBalloonsModel" "aside") ∈ lw_all := lw_g (lw_at lw_m13 162 rfl) rfl
theorem q3120 : (Jvm.Cond.laysFinal "TissueBalloonsModel" "TissueBalloonsModel" "saved" "[I") ∈ lw_all := lw_g (lw_at lw_m13 163 rfl) rfl
theorem q3121 : (Jvm.Cond.soleField "TissueBalloonsModel" "saved") ∈ lw_all := lw_g (lw_at lw_m13 164 rfl) rfl
theorem q3122 : (Jvm.Cond.laysFinal "TissueBalloonsModel" "TissueBalloonsModel" "changes" "[I") ∈ lw_all := lw_g (lw_at lw_m13 165 rfl) rfl
theorem q3123 : (Jvm.Cond.soleField "TissueBalloonsModel" "changes") ∈ lw_all := lw_g (lw_at lw_m13 166 rfl) rfl
theorem q3124 : (Jvm.Cond.lays "TissueBalloonsModel" "TissueBalloonsModel" "thrown" "I") ∈ lw_all := lw_g (lw_at lw_m13 167 rfl) rfl
theorem q3125 : (Jvm.Cond.soleField "TissueBalloonsModel" "thrown") ∈ lw_all := lw_g (lw_at lw_m13 168 rfl) rfl
theorem q3126 : (Jvm.Cond.lays "TissueBalloonsModel" "TissueBalloonsModel" "changed" "I") ∈ lw_all := lw_g (lw_at lw_m13 169 rfl) rfl
theorem q3127 : (Jvm.Cond.soleField "TissueBalloonsModel" "changed") ∈ lw_all := lw_g (lw_at lw_m13 170 rfl) rfl
theorem q3128 : (Jvm.Cond.lays "TissueBalloonsModel" "TissueBalloonsModel" "why" "I") ∈ lw_all := lw_g (lw_at lw_m13 171 rfl) rfl
theorem q3129 : (Jvm.Cond.soleField "TissueBalloonsModel" "why") ∈ lw_all := lw_g (lw_at lw_m13 172 rfl) rfl
theorem q3130 : (Jvm.Cond.lays "TissueBalloonsModel" "TissueBalloonsModel" "number" "I") ∈ lw_all := lw_g (lw_at lw_m13 173 rfl) rfl
theorem q3131 : (Jvm.Cond.soleField "TissueBalloonsModel" "number") ∈ lw_all := lw_g (lw_at lw_m13 174 rfl) rfl
theorem q3132 : (Jvm.Cond.lays "TissueBalloonsModel" "TissueBalloonsModel" "reason" "I") ∈ lw_all := lw_g (lw_at lw_m13 175 rfl) rfl
theorem q3133 : (Jvm.Cond.soleField "TissueBalloonsModel" "reason") ∈ lw_all := lw_g (lw_at lw_m13 176 rfl) rfl
theorem q3134 : (Jvm.Cond.lays "TissueBalloonsModel" "TissueBalloonsModel" "detail" "I") ∈ lw_all := lw_g (lw_at lw_m13 177 rfl) rfl
theorem q3135 : (Jvm.Cond.soleField "TissueBalloonsModel" "detail") ∈ lw_all := lw_g (lw_at lw_m13 178 rfl) rfl
theorem q3136 : (Jvm.Cond.lays "TissueBalloonsModel" "TissueBalloonsModel" "isSaved" "Z") ∈ lw_all := lw_g (lw_at lw_m13 179 rfl) rfl
theorem q3137 : (Jvm.Cond.soleField "TissueBalloonsModel" "isSaved") ∈ lw_all := lw_g (lw_at lw_m13 180 rfl) rfl
theorem q3138 : (Jvm.Cond.laysFinal "TissueBalloonsModel" "TissueBalloonsModel" "text" "[I") ∈ lw_all := lw_g (lw_at lw_m13 181 rfl) rfl
theorem q3139 : (Jvm.Cond.soleField "TissueBalloonsModel" "text") ∈ lw_all := lw_g (lw_at lw_m13 182 rfl) rfl
theorem q3140 : (Jvm.Cond.laysFinal "TissueBalloonsModel" "TissueBalloonsModel" "letters" "[I") ∈ lw_all := lw_g (lw_at lw_m13 183 rfl) rfl
theorem q3141 : (Jvm.Cond.soleField "TissueBalloonsModel" "letters") ∈ lw_all := lw_g (lw_at lw_m13 184 rfl) rfl
theorem q3142 : (Jvm.Cond.laysFinal "TissueBalloonsModel" "TissueBalloonsModel" "a" "[I") ∈ lw_all := lw_g (lw_at lw_m13 185 rfl) rfl
theorem q3143 : (Jvm.Cond.soleField "TissueBalloonsModel" "a") ∈ lw_all := lw_g (lw_at lw_m13 186 rfl) rfl
theorem q3144 : (Jvm.Cond.laysFinal "TissueBalloonsModel" "TissueBalloonsModel" "b2" "[I") ∈ lw_all := lw_g (lw_at lw_m13 187 rfl) rfl
theorem q3145 : (Jvm.Cond.soleField "TissueBalloonsModel" "b2") ∈ lw_all := lw_g (lw_at lw_m13 188 rfl) rfl
theorem q3146 : (Jvm.Cond.lays "TissueBalloonsModel" "TissueBalloonsModel" "fed" "I") ∈ lw_all := lw_g (lw_at lw_m13 189 rfl) rfl
theorem q3147 : (Jvm.Cond.soleField "TissueBalloonsModel" "fed") ∈ lw_all := lw_g (lw_at lw_m13 190 rfl) rfl
theorem q3148 : (Jvm.Cond.lays "TissueBalloonsModel" "TissueBalloonsModel" "at" "I") ∈ lw_all := lw_g (lw_at lw_m13 191 rfl) rfl
theorem q3149 : (Jvm.Cond.soleField "TissueBalloonsModel" "at") ∈ lw_all := lw_g (lw_at lw_m13 192 rfl) rfl
theorem q3150 : (Jvm.Cond.lays "TissueBalloonsModel" "TissueBalloonsModel" "orders" "I") ∈ lw_all := lw_g (lw_at lw_m13 193 rfl) rfl
theorem q3151 : (Jvm.Cond.soleField "TissueBalloonsModel" "orders") ∈ lw_all := lw_g (lw_at lw_m13 194 rfl) rfl
theorem q3152 : (Jvm.Cond.lays "TissueBalloonsModel" "TissueBalloonsModel" "errorAt" "I") ∈ lw_all := lw_g (lw_at lw_m13 195 rfl) rfl
theorem q3153 : (Jvm.Cond.soleField "TissueBalloonsModel" "errorAt") ∈ lw_all := lw_g (lw_at lw_m13 196 rfl) rfl
theorem q3154 : (Jvm.Cond.lays "TissueBalloonsModel" "TissueBalloonsModel" "isWrong" "Z") ∈ lw_all := lw_g (lw_at lw_m13 197 rfl) rfl
theorem q3155 : (Jvm.Cond.soleField "TissueBalloonsModel" "isWrong") ∈ lw_all := lw_g (lw_at lw_m13 198 rfl) rfl
theorem q3156 : (Jvm.Cond.superclass "TissueBalloonsModel" "java/lang/Object") ∈ lw_all := lw_g (lw_at lw_m13 199 rfl) rfl
theorem q3158 : (Jvm.Cond.instanceMethod ({ cls := "TissueBalloonsModel", name := "thrown", desc := "()I" } : Jvm.MethodName)) ∈ lw_all := lw_g (lw_at lw_m13 201 rfl) rfl
theorem q3159 : (Jvm.Cond.selects "TissueBalloonsModel" ({ cls := "TissueBalloonsModel", name := "thrown", desc := "()I" } : Jvm.MethodName) ({ cls := "TissueBalloonsModel", name := "thrown", desc := "()I" } : Jvm.MethodName)) ∈ lw_all := lw_g (lw_at lw_m13 202 rfl) rfl
theorem q3160 : (Jvm.Cond.code ({ cls := "TissueBalloonsModel", name := "thrown", desc := "()I" } : Jvm.MethodName) prog_14_method_2_code (1 : Nat) (Option.some Jvm.ClassFile.FieldType.int)) ∈ lw_all := lw_g (lw_at lw_m13 203 rfl) rfl
theorem q3162 : (Jvm.Cond.instanceMethod ({ cls := "TissueBalloonsModel", name := "wind", desc := "(II)I" } : Jvm.MethodName)) ∈ lw_all := lw_g (lw_at lw_m13 205 rfl) rfl
theorem q3163 : (Jvm.Cond.selects "TissueBalloonsModel" ({ cls := "TissueBalloonsModel", name := "wind", desc := "(II)I" } : Jvm.MethodName) ({ cls := "TissueBalloonsModel", name := "wind", desc := "(II)I" } : Jvm.MethodName)) ∈ lw_all := lw_g (lw_at lw_m13 206 rfl) rfl
theorem q3164 : (Jvm.Cond.code ({ cls := "TissueBalloonsModel", name := "wind", desc := "(II)I" } : Jvm.MethodName) prog_14_method_26_code (3 : Nat) (Option.some Jvm.ClassFile.FieldType.int)) ∈ lw_all := lw_g (lw_at lw_m13 207 rfl) rfl
theorem q3165 : (Jvm.Cond.methodLink "TissueBalloonsModel" (87 : Nat) ({ cls := "TissueBalloonsModel", name := "begins", desc := "()V" } : Jvm.MethodName)) ∈ lw_all := lw_g (lw_at lw_m13 208 rfl) rfl
theorem q3166 : (Jvm.Cond.privateMethod ({ cls := "TissueBalloonsModel", name := "begins", desc := "()V" } : Jvm.MethodName)) ∈ lw_tbl := lw_at lw_m13 209 rfl
theorem q3167 : (Jvm.Cond.instanceMethod ({ cls := "TissueBalloonsModel", name := "begins", desc := "()V" } : Jvm.MethodName)) ∈ lw_all := lw_g (lw_at lw_m13 210 rfl) rfl
theorem q3168 : (Jvm.Cond.code ({ cls := "TissueBalloonsModel", name := "begins", desc := "()V" } : Jvm.MethodName) prog_14_method_10_code (1 : Nat) (Option.none : Option Jvm.ClassFile.FieldType)) ∈ lw_all := lw_g (lw_at lw_m13 211 rfl) rfl
theorem q3169 : (Jvm.Cond.methodLink "TissueBalloonsModel" (79 : Nat) ({ cls := "TissueBalloonsModel", name := "copies", desc := "([II[II)V" } : Jvm.MethodName)) ∈ lw_all := lw_g (lw_at lw_m13 212 rfl) rfl
theorem q3170 : (Jvm.Cond.static ({ cls := "TissueBalloonsModel", name := "copies", desc := "([II[II)V" } : Jvm.MethodName)) ∈ lw_all := lw_g (lw_at lw_m13 213 rfl) rfl
theorem q3171 : (Jvm.Cond.code ({ cls := "TissueBalloonsModel", name := "copies", desc := "([II[II)V" } : Jvm.MethodName) prog_14_method_6_code (5 : Nat) (Option.none : Option Jvm.ClassFile.FieldType)) ∈ lw_all := lw_g (lw_at lw_m13 214 rfl) rfl
theorem q3172 : (Jvm.Cond.methodLink "TissueBalloonsModel" (90 : Nat) ({ cls := "TissueBalloonsModel", name := "isLayer", desc := "(I)Z" } : Jvm.MethodName)) ∈ lw_all := lw_g (lw_at lw_m13 215 rfl) rfl
theorem q3173 : (Jvm.Cond.static ({ cls := "TissueBalloonsModel", name := "isLayer", desc := "(I)Z" } : Jvm.MethodName)) ∈ lw_all := lw_g (lw_at lw_m13 216 rfl) rfl
theorem q3174 : (Jvm.Cond.code ({ cls := "TissueBalloonsModel", name := "isLayer", desc := "(I)Z" } : Jvm.MethodName) prog_14_method_21_code (1 : Nat) (Option.some Jvm.ClassFile.FieldType.boolean)) ∈ lw_all := lw_g (lw_at lw_m13 217 rfl) rfl
theorem q3175 : (Jvm.Cond.methodLink "TissueBalloonsModel" (83 : Nat) ({ cls := "TissueBalloonsModel", name := "in", desc := "(III)Z" } : Jvm.MethodName)) ∈ lw_all := lw_g (lw_at lw_m13 218 rfl) rfl
theorem q3176 : (Jvm.Cond.static ({ cls := "TissueBalloonsModel", name := "in", desc := "(III)Z" } : Jvm.MethodName)) ∈ lw_all := lw_g (lw_at lw_m13 219 rfl) rfl
theorem q3177 : (Jvm.Cond.code ({ cls := "TissueBalloonsModel", name := "in", desc := "(III)Z" } : Jvm.MethodName) prog_14_method_3_code (3 : Nat) (Option.some Jvm.ClassFile.FieldType.boolean)) ∈ lw_all := lw_g (lw_at lw_m13 220 rfl) rfl
theorem q3178 : (Jvm.Cond.methodLink "TissueBalloonsModel" (75 : Nat) ({ cls := "TissueBalloonsModel", name := "no", desc := "(I)I" } : Jvm.MethodName)) ∈ lw_all := lw_g (lw_at lw_m13 221 rfl) rfl
theorem q3179 : (Jvm.Cond.privateMethod ({ cls := "TissueBalloonsModel", name := "no", desc := "(I)I" } : Jvm.MethodName)) ∈ lw_tbl := lw_at lw_m13 222 rfl
theorem q3180 : (Jvm.Cond.instanceMethod ({ cls := "TissueBalloonsModel", name := "no", desc := "(I)I" } : Jvm.MethodName)) ∈ lw_all := lw_g (lw_at lw_m13 223 rfl) rfl
theorem q3181 : (Jvm.Cond.code ({ cls := "TissueBalloonsModel", name := "no", desc := "(I)I" } : Jvm.MethodName) prog_14_method_7_code (2 : Nat) (Option.some Jvm.ClassFile.FieldType.int)) ∈ lw_all := lw_g (lw_at lw_m13 224 rfl) rfl
theorem q3182 : (Jvm.Cond.methodLink "TissueBalloonsModel" (94 : Nat) ({ cls := "TissueBalloonsModel", name := "isDrift", desc := "(I)Z" } : Jvm.MethodName)) ∈ lw_all := lw_g (lw_at lw_m13 225 rfl) rfl
theorem q3183 : (Jvm.Cond.static ({ cls := "TissueBalloonsModel", name := "isDrift", desc := "(I)Z" } : Jvm.MethodName)) ∈ lw_all := lw_g (lw_at lw_m13 226 rfl) rfl
theorem q3184 : (Jvm.Cond.code ({ cls := "TissueBalloonsModel", name := "isDrift", desc := "(I)Z" } : Jvm.MethodName) prog_14_method_22_code (1 : Nat) (Option.some Jvm.ClassFile.FieldType.boolean)) ∈ lw_all := lw_g (lw_at lw_m13 227 rfl) rfl
theorem q3185 : (Jvm.Cond.methodLink "TissueBalloonsModel" (97 : Nat) ({ cls := "TissueBalloonsModel", name := "sets", desc := "(II)I" } : Jvm.MethodName)) ∈ lw_all := lw_g (lw_at lw_m13 228 rfl) rfl
theorem q3186 : (Jvm.Cond.privateMethod ({ cls := "TissueBalloonsModel", name := "sets", desc := "(II)I" } : Jvm.MethodName)) ∈ lw_tbl := lw_at lw_m13 229 rfl
theorem q3187 : (Jvm.Cond.instanceMethod ({ cls := "TissueBalloonsModel", name := "sets", desc := "(II)I" } : Jvm.MethodName)) ∈ lw_all := lw_g (lw_at lw_m13 230 rfl) rfl
theorem q3188 : (Jvm.Cond.code ({ cls := "TissueBalloonsModel", name := "sets", desc := "(II)I" } : Jvm.MethodName) prog_14_method_25_code (4 : Nat) (Option.some Jvm.ClassFile.FieldType.int)) ∈ lw_all := lw_g (lw_at lw_m13 231 rfl) rfl
theorem q3189 : (Jvm.Cond.methodLink "TissueBalloonsModel" (101 : Nat) ({ cls := "TissueBalloonsModel", name := "keeps", desc := "(I)I" } : Jvm.MethodName)) ∈ lw_all := lw_g (lw_at lw_m13 232 rfl) rfl
theorem q3190 : (Jvm.Cond.privateMethod ({ cls := "TissueBalloonsModel", name := "keeps", desc := "(I)I" } : Jvm.MethodName)) ∈ lw_tbl := lw_at lw_m13 233 rfl
theorem q3191 : (Jvm.Cond.instanceMethod ({ cls := "TissueBalloonsModel", name := "keeps", desc := "(I)I" } : Jvm.MethodName)) ∈ lw_all := lw_g (lw_at lw_m13 234 rfl) rfl
theorem q3192 : (Jvm.Cond.code ({ cls := "TissueBalloonsModel", name := "keeps", desc := "(I)I" } : Jvm.MethodName) prog_14_method_11_code (3 : Nat) (Option.some Jvm.ClassFile.FieldType.int)) ∈ lw_all := lw_g (lw_at lw_m13 235 rfl) rfl
theorem q3194 : (Jvm.Cond.instanceMethod ({ cls := "TissueBalloonsModel", name := "windOf", desc := "(I)I" } : Jvm.MethodName)) ∈ lw_all := lw_g (lw_at lw_m13 237 rfl) rfl
theorem q3195 : (Jvm.Cond.selects "TissueBalloonsModel" ({ cls := "TissueBalloonsModel", name := "windOf", desc := "(I)I" } : Jvm.MethodName) ({ cls := "TissueBalloonsModel", name := "windOf", desc := "(I)I" } : Jvm.MethodName)) ∈ lw_all := lw_g (lw_at lw_m13 238 rfl) rfl
theorem q3196 : (Jvm.Cond.code ({ cls := "TissueBalloonsModel", name := "windOf", desc := "(I)I" } : Jvm.MethodName) prog_14_method_27_code (2 : Nat) (Option.some Jvm.ClassFile.FieldType.int)) ∈ lw_all := lw_g (lw_at lw_m13 239 rfl) rfl
theorem q3198 : (Jvm.Cond.instanceMethod ({ cls := "TissueBalloonsModel", name := "roof", desc := "(II)I" } : Jvm.MethodName)) ∈ lw_all := lw_g (lw_at lw_m14 1 rfl) rfl
theorem q3199 : (Jvm.Cond.selects "TissueBalloonsModel" ({ cls := "TissueBalloonsModel", name := "roof", desc := "(II)I" } : Jvm.MethodName) ({ cls := "TissueBalloonsModel", name := "roof", desc := "(II)I" } : Jvm.MethodName)) ∈ lw_all := lw_g (lw_at lw_m14 2 rfl) rfl
theorem q3200 : (Jvm.Cond.code ({ cls := "TissueBalloonsModel", name := "roof", desc := "(II)I" } : Jvm.MethodName) prog_14_method_29_code (6 : Nat) (Option.some Jvm.ClassFile.FieldType.int)) ∈ lw_all := lw_g (lw_at lw_m14 3 rfl) rfl
theorem q3201 : (Jvm.Cond.methodLink "TissueBalloonsModel" (107 : Nat) ({ cls := "TissueBalloonsModel", name := "isPlace", desc := "(I)Z" } : Jvm.MethodName)) ∈ lw_all := lw_g (lw_at lw_m14 4 rfl) rfl
theorem q3202 : (Jvm.Cond.static ({ cls := "TissueBalloonsModel", name := "isPlace", desc := "(I)Z" } : Jvm.MethodName)) ∈ lw_all := lw_g (lw_at lw_m14 5 rfl) rfl
theorem q3203 : (Jvm.Cond.code ({ cls := "TissueBalloonsModel", name := "isPlace", desc := "(I)Z" } : Jvm.MethodName) prog_14_method_20_code (1 : Nat) (Option.some Jvm.ClassFile.FieldType.boolean)) ∈ lw_all := lw_g (lw_at lw_m14 6 rfl) rfl
theorem q3204 : (Jvm.Cond.methodLink "TissueBalloonsModel" (110 : Nat) ({ cls := "TissueBalloonsModel", name := "roofAtPlace", desc := "(I)I" } : Jvm.MethodName)) ∈ lw_all := lw_g (lw_at lw_m14 7 rfl) rfl
theorem q3205 : (Jvm.Cond.privateMethod ({ cls := "TissueBalloonsModel", name := "roofAtPlace", desc := "(I)I" } : Jvm.MethodName)) ∈ lw_tbl := lw_at lw_m14 8 rfl
theorem q3206 : (Jvm.Cond.instanceMethod ({ cls := "TissueBalloonsModel", name := "roofAtPlace", desc := "(I)I" } : Jvm.MethodName)) ∈ lw_all := lw_g (lw_at lw_m14 9 rfl) rfl
theorem q3207 : (Jvm.Cond.code ({ cls := "TissueBalloonsModel", name := "roofAtPlace", desc := "(I)I" } : Jvm.MethodName) prog_14_method_28_code (3 : Nat) (Option.some Jvm.ClassFile.FieldType.int)) ∈ lw_all := lw_g (lw_at lw_m14 10 rfl) rfl
theorem q3208 : (Jvm.Cond.methodLink "TissueBalloonsModel" (104 : Nat) ({ cls := "TissueBalloonsModel", name := "rv", desc := "(II)I" } : Jvm.MethodName)) ∈ lw_all := lw_g (lw_at lw_m14 11 rfl) rfl
theorem q3209 : (Jvm.Cond.privateMethod ({ cls := "TissueBalloonsModel", name := "rv", desc := "(II)I" } : Jvm.MethodName)) ∈ lw_tbl := lw_at lw_m14 12 rfl
theorem q3210 : (Jvm.Cond.instanceMethod ({ cls := "TissueBalloonsModel", name := "rv", desc := "(II)I" } : Jvm.MethodName)) ∈ lw_all := lw_g (lw_at lw_m14 13 rfl) rfl
theorem q3211 : (Jvm.Cond.code ({ cls := "TissueBalloonsModel", name := "rv", desc := "(II)I" } : Jvm.MethodName) prog_14_method_12_code (3 : Nat) (Option.some Jvm.ClassFile.FieldType.int)) ∈ lw_all := lw_g (lw_at lw_m14 14 rfl) rfl
theorem q3212 : (Jvm.Cond.methodLink "TissueBalloonsModel" (113 : Nat) ({ cls := "TissueBalloonsModel", name := "isBad", desc := "(II)Z" } : Jvm.MethodName)) ∈ lw_all := lw_g (lw_at lw_m14 15 rfl) rfl
theorem q3213 : (Jvm.Cond.privateMethod ({ cls := "TissueBalloonsModel", name := "isBad", desc := "(II)Z" } : Jvm.MethodName)) ∈ lw_tbl := lw_at lw_m14 16 rfl
theorem q3214 : (Jvm.Cond.instanceMethod ({ cls := "TissueBalloonsModel", name := "isBad", desc := "(II)Z" } : Jvm.MethodName)) ∈ lw_all := lw_g (lw_at lw_m14 17 rfl) rfl
theorem q3215 : (Jvm.Cond.code ({ cls := "TissueBalloonsModel", name := "isBad", desc := "(II)Z" } : Jvm.MethodName) prog_14_method_8_code (3 : Nat) (Option.some Jvm.ClassFile.FieldType.boolean)) ∈ lw_all := lw_g (lw_at lw_m14 18 rfl) rfl
theorem q3216 : (Jvm.Cond.methodLink "TissueBalloonsModel" (117 : Nat) ({ cls := "TissueBalloonsModel", name := "refused", desc := "(I)I" } : Jvm.MethodName)) ∈ lw_all := lw_g (lw_at lw_m14 19 rfl) rfl
theorem q3217 : (Jvm.Cond.privateMethod ({ cls := "TissueBalloonsModel", name := "refused", desc := "(I)I" } : Jvm.MethodName)) ∈ lw_tbl := lw_at lw_m14 20 rfl
theorem q3218 : (Jvm.Cond.instanceMethod ({ cls := "TissueBalloonsModel", name := "refused", desc := "(I)I" } : Jvm.MethodName)) ∈ lw_all := lw_g (lw_at lw_m14 21 rfl) rfl
theorem q3219 : (Jvm.Cond.code ({ cls := "TissueBalloonsModel", name := "refused", desc := "(I)I" } : Jvm.MethodName) prog_14_method_9_code (2 : Nat) (Option.some Jvm.ClassFile.FieldType.int)) ∈ lw_all := lw_g (lw_at lw_m14 22 rfl) rfl
theorem q3220 : (Jvm.Cond.methodLink "TissueBalloonsModel" (120 : Nat) ({ cls := "TissueBalloonsModel", name := "lr", desc := "(III)V" } : Jvm.MethodName)) ∈ lw_all := lw_g (lw_at lw_m14 23 rfl) rfl
theorem q3221 : (Jvm.Cond.privateMethod ({ cls := "TissueBalloonsModel", name := "lr", desc := "(III)V" } : Jvm.MethodName)) ∈ lw_tbl := lw_at lw_m14 24 rfl
theorem q3222 : (Jvm.Cond.instanceMethod ({ cls := "TissueBalloonsModel", name := "lr", desc := "(III)V" } : Jvm.MethodName)) ∈ lw_all := lw_g (lw_at lw_m14 25 rfl) rfl
theorem q3223 : (Jvm.Cond.code ({ cls := "TissueBalloonsModel", name := "lr", desc := "(III)V" } : Jvm.MethodName) prog_14_method_13_code (4 : Nat) (Option.none : Option Jvm.ClassFile.FieldType)) ∈ lw_all := lw_g (lw_at lw_m14 26 rfl) rfl
theorem q3225 : (Jvm.Cond.instanceMethod ({ cls := "TissueBalloonsModel", name := "roofOf", desc := "(II)I" } : Jvm.MethodName)) ∈ lw_all := lw_g (lw_at lw_m14 28 rfl) rfl
theorem q3226 : (Jvm.Cond.selects "TissueBalloonsModel" ({ cls := "TissueBalloonsModel", name := "roofOf", desc := "(II)I" } : Jvm.MethodName) ({ cls := "TissueBalloonsModel", name := "roofOf", desc := "(II)I" } : Jvm.MethodName)) ∈ lw_all := lw_g (lw_at lw_m14 29 rfl) rfl
theorem q3227 : (Jvm.Cond.code ({ cls := "TissueBalloonsModel", name := "roofOf", desc := "(II)I" } : Jvm.MethodName) prog_14_method_30_code (4 : Nat) (Option.some Jvm.ClassFile.FieldType.int)) ∈ lw_all := lw_g (lw_at lw_m14 30 rfl) rfl
theorem q3229 : (Jvm.Cond.instanceMethod ({ cls := "TissueBalloonsModel", name := "roofAt", desc := "(I)I" } : Jvm.MethodName)) ∈ lw_all := lw_g (lw_at lw_m14 32 rfl) rfl
theorem q3230 : (Jvm.Cond.selects "TissueBalloonsModel" ({ cls := "TissueBalloonsModel", name := "roofAt", desc := "(I)I" } : Jvm.MethodName) ({ cls := "TissueBalloonsModel", name := "roofAt", desc := "(I)I" } : Jvm.MethodName)) ∈ lw_all := lw_g (lw_at lw_m14 33 rfl) rfl
theorem q3231 : (Jvm.Cond.code ({ cls := "TissueBalloonsModel", name := "roofAt", desc := "(I)I" } : Jvm.MethodName) prog_14_method_31_code (5 : Nat) (Option.some Jvm.ClassFile.FieldType.int)) ∈ lw_all := lw_g (lw_at lw_m14 34 rfl) rfl
theorem q3233 : (Jvm.Cond.instanceMethod ({ cls := "TissueBalloonsModel", name := "nearest", desc := "(I)I" } : Jvm.MethodName)) ∈ lw_all := lw_g (lw_at lw_m14 36 rfl) rfl
theorem q3234 : (Jvm.Cond.selects "TissueBalloonsModel" ({ cls := "TissueBalloonsModel", name := "nearest", desc := "(I)I" } : Jvm.MethodName) ({ cls := "TissueBalloonsModel", name := "nearest", desc := "(I)I" } : Jvm.MethodName)) ∈ lw_all := lw_g (lw_at lw_m14 37 rfl) rfl
theorem q3235 : (Jvm.Cond.code ({ cls := "TissueBalloonsModel", name := "nearest", desc := "(I)I" } : Jvm.MethodName) prog_14_method_32_code (3 : Nat) (Option.some Jvm.ClassFile.FieldType.int)) ∈ lw_all := lw_g (lw_at lw_m14 38 rfl) rfl
theorem q3237 : (Jvm.Cond.instanceMethod ({ cls := "TissueBalloonsModel", name := "watch", desc := "(IZ)I" } : Jvm.MethodName)) ∈ lw_all := lw_g (lw_at lw_m14 40 rfl) rfl
theorem q3238 : (Jvm.Cond.selects "TissueBalloonsModel" ({ cls := "TissueBalloonsModel", name := "watch", desc := "(IZ)I" } : Jvm.MethodName) ({ cls := "TissueBalloonsModel", name := "watch", desc := "(IZ)I" } : Jvm.MethodName)) ∈ lw_all := lw_g (lw_at lw_m14 41 rfl) rfl
theorem q3239 : (Jvm.Cond.code ({ cls := "TissueBalloonsModel", name := "watch", desc := "(IZ)I" } : Jvm.MethodName) prog_14_method_35_code (4 : Nat) (Option.some Jvm.ClassFile.FieldType.int)) ∈ lw_all := lw_g (lw_at lw_m14 42 rfl) rfl
theorem q3240 : (Jvm.Cond.methodLink "TissueBalloonsModel" (127 : Nat) ({ cls := "TissueBalloonsModel", name := "watches", desc := "(IZ)I" } : Jvm.MethodName)) ∈ lw_all := lw_g (lw_at lw_m14 43 rfl) rfl
theorem q3241 : (Jvm.Cond.privateMethod ({ cls := "TissueBalloonsModel", name := "watches", desc := "(IZ)I" } : Jvm.MethodName)) ∈ lw_tbl := lw_at lw_m14 44 rfl
theorem q3242 : (Jvm.Cond.instanceMethod ({ cls := "TissueBalloonsModel", name := "watches", desc := "(IZ)I" } : Jvm.MethodName)) ∈ lw_all := lw_g (lw_at lw_m14 45 rfl) rfl
theorem q3243 : (Jvm.Cond.code ({ cls := "TissueBalloonsModel", name := "watches", desc := "(IZ)I" } : Jvm.MethodName) prog_14_method_34_code (3 : Nat) (Option.some Jvm.ClassFile.FieldType.int)) ∈ lw_all := lw_g (lw_at lw_m14 46 rfl) rfl
theorem q3244 : (Jvm.Cond.methodLink "TissueBalloonsModel" (124 : Nat) ({ cls := "TissueBalloonsModel", name := "roofsWith", desc := "(I)I" } : Jvm.MethodName)) ∈ lw_all := lw_g (lw_at lw_m14 47 rfl) rfl
theorem q3245 : (Jvm.Cond.privateMethod ({ cls := "TissueBalloonsModel", name := "roofsWith", desc := "(I)I" } : Jvm.MethodName)) ∈ lw_tbl := lw_at lw_m14 48 rfl
theorem q3246 : (Jvm.Cond.instanceMethod ({ cls := "TissueBalloonsModel", name := "roofsWith", desc := "(I)I" } : Jvm.MethodName)) ∈ lw_all := lw_g (lw_at lw_m14 49 rfl) rfl
theorem q3247 : (Jvm.Cond.code ({ cls := "TissueBalloonsModel", name := "roofsWith", desc := "(I)I" } : Jvm.MethodName) prog_14_method_33_code (4 : Nat) (Option.some Jvm.ClassFile.FieldType.int)) ∈ lw_all := lw_g (lw_at lw_m14 50 rfl) rfl
theorem q3249 : (Jvm.Cond.instanceMethod ({ cls := "TissueBalloonsModel", name := "wet", desc := "(II)I" } : Jvm.MethodName)) ∈ lw_all := lw_g (lw_at lw_m14 52 rfl) rfl
theorem q3250 : (Jvm.Cond.selects "TissueBalloonsModel" ({ cls := "TissueBalloonsModel", name := "wet", desc := "(II)I" } : Jvm.MethodName) ({ cls := "TissueBalloonsModel", name := "wet", desc := "(II)I" } : Jvm.MethodName)) ∈ lw_all := lw_g (lw_at lw_m14 53 rfl) rfl
theorem q3251 : (Jvm.Cond.code ({ cls := "TissueBalloonsModel", name := "wet", desc := "(II)I" } : Jvm.MethodName) prog_14_method_38_code (4 : Nat) (Option.some Jvm.ClassFile.FieldType.int)) ∈ lw_all := lw_g (lw_at lw_m14 54 rfl) rfl
theorem q3252 : (Jvm.Cond.methodLink "TissueBalloonsModel" (134 : Nat) ({ cls := "TissueBalloonsModel", name := "isRefusedWet", desc := "(I)Z" } : Jvm.MethodName)) ∈ lw_all := lw_g (lw_at lw_m14 55 rfl) rfl
theorem q3253 : (Jvm.Cond.privateMethod ({ cls := "TissueBalloonsModel", name := "isRefusedWet", desc := "(I)Z" } : Jvm.MethodName)) ∈ lw_tbl := lw_at lw_m14 56 rfl
theorem q3254 : (Jvm.Cond.instanceMethod ({ cls := "TissueBalloonsModel", name := "isRefusedWet", desc := "(I)Z" } : Jvm.MethodName)) ∈ lw_all := lw_g (lw_at lw_m14 57 rfl) rfl
theorem q3255 : (Jvm.Cond.code ({ cls := "TissueBalloonsModel", name := "isRefusedWet", desc := "(I)Z" } : Jvm.MethodName) prog_14_method_36_code (2 : Nat) (Option.some Jvm.ClassFile.FieldType.boolean)) ∈ lw_all := lw_g (lw_at lw_m14 58 rfl) rfl
theorem q3256 : (Jvm.Cond.methodLink "TissueBalloonsModel" (137 : Nat) ({ cls := "TissueBalloonsModel", name := "wets", desc := "(II)I" } : Jvm.MethodName)) ∈ lw_all := lw_g (lw_at lw_m14 59 rfl) rfl
theorem q3257 : (Jvm.Cond.privateMethod ({ cls := "TissueBalloonsModel", name := "wets", desc := "(II)I" } : Jvm.MethodName)) ∈ lw_tbl := lw_at lw_m14 60 rfl
theorem q3258 : (Jvm.Cond.instanceMethod ({ cls := "TissueBalloonsModel", name := "wets", desc := "(II)I" } : Jvm.MethodName)) ∈ lw_all := lw_g (lw_at lw_m14 61 rfl) rfl
theorem q3259 : (Jvm.Cond.code ({ cls := "TissueBalloonsModel", name := "wets", desc := "(II)I" } : Jvm.MethodName) prog_14_method_37_code (3 : Nat) (Option.some Jvm.ClassFile.FieldType.int)) ∈ lw_all := lw_g (lw_at lw_m14 62 rfl) rfl
theorem q3260 : (Jvm.Cond.methodLink "TissueBalloonsModel" (131 : Nat) ({ cls := "TissueBalloonsModel", name := "least", desc := "(II)I" } : Jvm.MethodName)) ∈ lw_all := lw_g (lw_at lw_m14 63 rfl) rfl
theorem q3261 : (Jvm.Cond.static ({ cls := "TissueBalloonsModel", name := "least", desc := "(II)I" } : Jvm.MethodName)) ∈ lw_all := lw_g (lw_at lw_m14 64 rfl) rfl
theorem q3262 : (Jvm.Cond.code ({ cls := "TissueBalloonsModel", name := "least", desc := "(II)I" } : Jvm.MethodName) prog_14_method_4_code (2 : Nat) (Option.some Jvm.ClassFile.FieldType.int)) ∈ lw_all := lw_g (lw_at lw_m14 65 rfl) rfl
theorem q3264 : (Jvm.Cond.instanceMethod ({ cls := "TissueBalloonsModel", name := "sign", desc := "(I)C" } : Jvm.MethodName)) ∈ lw_all := lw_g (lw_at lw_m14 67 rfl) rfl
theorem q3265 : (Jvm.Cond.selects "TissueBalloonsModel" ({ cls := "TissueBalloonsModel", name := "sign", desc := "(I)C" } : Jvm.MethodName) ({ cls := "TissueBalloonsModel", name := "sign", desc := "(I)C" } : Jvm.MethodName)) ∈ lw_all := lw_g (lw_at lw_m14 68 rfl) rfl
theorem q3266 : (Jvm.Cond.code ({ cls := "TissueBalloonsModel", name := "sign", desc := "(I)C" } : Jvm.MethodName) prog_14_method_40_code (3 : Nat) (Option.some Jvm.ClassFile.FieldType.char)) ∈ lw_all := lw_g (lw_at lw_m14 69 rfl) rfl
theorem q3267 : (Jvm.Cond.methodLink "TissueBalloonsModel" (143 : Nat) ({ cls := "TissueBalloonsModel", name := "isFlying", desc := "(I)Z" } : Jvm.MethodName)) ∈ lw_all := lw_g (lw_at lw_m14 70 rfl) rfl
theorem q3268 : (Jvm.Cond.privateMethod ({ cls := "TissueBalloonsModel", name := "isFlying", desc := "(I)Z" } : Jvm.MethodName)) ∈ lw_tbl := lw_at lw_m14 71 rfl
theorem q3269 : (Jvm.Cond.instanceMethod ({ cls := "TissueBalloonsModel", name := "isFlying", desc := "(I)Z" } : Jvm.MethodName)) ∈ lw_all := lw_g (lw_at lw_m14 72 rfl) rfl
theorem q3270 : (Jvm.Cond.code ({ cls := "TissueBalloonsModel", name := "isFlying", desc := "(I)Z" } : Jvm.MethodName) prog_14_method_39_code (2 : Nat) (Option.some Jvm.ClassFile.FieldType.boolean)) ∈ lw_all := lw_g (lw_at lw_m14 73 rfl) rfl
theorem q3271 : (Jvm.Cond.methodLink "TissueBalloonsModel" (140 : Nat) ({ cls := "TissueBalloonsModel", name := "bv", desc := "(II)I" } : Jvm.MethodName)) ∈ lw_all := lw_g (lw_at lw_m14 74 rfl) rfl
theorem q3272 : (Jvm.Cond.privateMethod ({ cls := "TissueBalloonsModel", name := "bv", desc := "(II)I" } : Jvm.MethodName)) ∈ lw_tbl := lw_at lw_m14 75 rfl
theorem q3273 : (Jvm.Cond.instanceMethod ({ cls := "TissueBalloonsModel", name := "bv", desc := "(II)I" } : Jvm.MethodName)) ∈ lw_all := lw_g (lw_at lw_m14 76 rfl) rfl
theorem q3274 : (Jvm.Cond.code ({ cls := "TissueBalloonsModel", name := "bv", desc := "(II)I" } : Jvm.MethodName) prog_14_method_14_code (3 : Nat) (Option.some Jvm.ClassFile.FieldType.int)) ∈ lw_all := lw_g (lw_at lw_m14 77 rfl) rfl
theorem q3276 : (Jvm.Cond.instanceMethod ({ cls := "TissueBalloonsModel", name := "balloon", desc := "(III)I" } : Jvm.MethodName)) ∈ lw_all := lw_g (lw_at lw_m14 79 rfl) rfl
theorem q3277 : (Jvm.Cond.selects "TissueBalloonsModel" ({ cls := "TissueBalloonsModel", name := "balloon", desc := "(III)I" } : Jvm.MethodName) ({ cls := "TissueBalloonsModel", name := "balloon", desc := "(III)I" } : Jvm.MethodName)) ∈ lw_all := lw_g (lw_at lw_m14 80 rfl) rfl
theorem q3278 : (Jvm.Cond.code ({ cls := "TissueBalloonsModel", name := "balloon", desc := "(III)I" } : Jvm.MethodName) prog_14_method_41_code (5 : Nat) (Option.some Jvm.ClassFile.FieldType.int)) ∈ lw_all := lw_g (lw_at lw_m14 81 rfl) rfl
theorem q3279 : (Jvm.Cond.methodLink "TissueBalloonsModel" (146 : Nat) ({ cls := "TissueBalloonsModel", name := "lb", desc := "(III)V" } : Jvm.MethodName)) ∈ lw_all := lw_g (lw_at lw_m14 82 rfl) rfl
theorem q3280 : (Jvm.Cond.privateMethod ({ cls := "TissueBalloonsModel", name := "lb", desc := "(III)V" } : Jvm.MethodName)) ∈ lw_tbl := lw_at lw_m14 83 rfl
theorem q3281 : (Jvm.Cond.instanceMethod ({ cls := "TissueBalloonsModel", name := "lb", desc := "(III)V" } : Jvm.MethodName)) ∈ lw_all := lw_g (lw_at lw_m14 84 rfl) rfl
theorem q3282 : (Jvm.Cond.code ({ cls := "TissueBalloonsModel", name := "lb", desc := "(III)V" } : Jvm.MethodName) prog_14_method_15_code (4 : Nat) (Option.none : Option Jvm.ClassFile.FieldType)) ∈ lw_all := lw_g (lw_at lw_m14 85 rfl) rfl
theorem q3284 : (Jvm.Cond.instanceMethod ({ cls := "TissueBalloonsModel", name := "crew", desc := "(I)I" } : Jvm.MethodName)) ∈ lw_all := lw_g (lw_at lw_m14 87 rfl) rfl
theorem q3285 : (Jvm.Cond.selects "TissueBalloonsModel" ({ cls := "TissueBalloonsModel", name := "crew", desc := "(I)I" } : Jvm.MethodName) ({ cls := "TissueBalloonsModel", name := "crew", desc := "(I)I" } : Jvm.MethodName)) ∈ lw_all := lw_g (lw_at lw_m14 88 rfl) rfl
theorem q3286 : (Jvm.Cond.code ({ cls := "TissueBalloonsModel", name := "crew", desc := "(I)I" } : Jvm.MethodName) prog_14_method_42_code (3 : Nat) (Option.some Jvm.ClassFile.FieldType.int)) ∈ lw_all := lw_g (lw_at lw_m14 89 rfl) rfl
theorem q3287 : (Jvm.Cond.methodLink "TissueBalloonsModel" (149 : Nat) ({ cls := "TissueBalloonsModel", name := "lc", desc := "(III)V" } : Jvm.MethodName)) ∈ lw_all := lw_g (lw_at lw_m14 90 rfl) rfl
theorem q3288 : (Jvm.Cond.privateMethod ({ cls := "TissueBalloonsModel", name := "lc", desc := "(III)V" } : Jvm.MethodName)) ∈ lw_tbl := lw_at lw_m14 91 rfl
theorem q3289 : (Jvm.Cond.instanceMethod ({ cls := "TissueBalloonsModel", name := "lc", desc := "(III)V" } : Jvm.MethodName)) ∈ lw_all := lw_g (lw_at lw_m14 92 rfl) rfl
theorem q3290 : (Jvm.Cond.code ({ cls := "TissueBalloonsModel", name := "lc", desc := "(III)V" } : Jvm.MethodName) prog_14_method_17_code (4 : Nat) (Option.none : Option Jvm.ClassFile.FieldType)) ∈ lw_all := lw_g (lw_at lw_m14 93 rfl) rfl
theorem q3292 : (Jvm.Cond.instanceMethod ({ cls := "TissueBalloonsModel", name := "crewOf", desc := "(II)I" } : Jvm.MethodName)) ∈ lw_all := lw_g (lw_at lw_m14 95 rfl) rfl
theorem q3293 : (Jvm.Cond.selects "TissueBalloonsModel" ({ cls := "TissueBalloonsModel", name := "crewOf", desc := "(II)I" } : Jvm.MethodName) ({ cls := "TissueBalloonsModel", name := "crewOf", desc := "(II)I" } : Jvm.MethodName)) ∈ lw_all := lw_g (lw_at lw_m14 96 rfl) rfl
theorem q3294 : (Jvm.Cond.code ({ cls := "TissueBalloonsModel", name := "crewOf", desc := "(II)I" } : Jvm.MethodName) prog_14_method_43_code (3 : Nat) (Option.some Jvm.ClassFile.FieldType.int)) ∈ lw_all := lw_g (lw_at lw_m14 97 rfl) rfl
theorem q3295 : (Jvm.Cond.methodLink "TissueBalloonsModel" (152 : Nat) ({ cls := "TissueBalloonsModel", name := "isCrew", desc := "(I)Z" } : Jvm.MethodName)) ∈ lw_all := lw_g (lw_at lw_m14 98 rfl) rfl
theorem q3296 : (Jvm.Cond.privateMethod ({ cls := "TissueBalloonsModel", name := "isCrew", desc := "(I)Z" } : Jvm.MethodName)) ∈ lw_tbl := lw_at lw_m14 99 rfl
theorem q3297 : (Jvm.Cond.instanceMethod ({ cls := "TissueBalloonsModel", name := "isCrew", desc := "(I)Z" } : Jvm.MethodName)) ∈ lw_all := lw_g (lw_at lw_m14 100 rfl) rfl
theorem q3298 : (Jvm.Cond.code ({ cls := "TissueBalloonsModel", name := "isCrew", desc := "(I)Z" } : Jvm.MethodName) prog_14_method_24_code (2 : Nat) (Option.some Jvm.ClassFile.FieldType.boolean)) ∈ lw_all := lw_g (lw_at lw_m14 101 rfl) rfl
theorem q3299 : (Jvm.Cond.methodLink "TissueBalloonsModel" (155 : Nat) ({ cls := "TissueBalloonsModel", name := "cv", desc := "(II)I" } : Jvm.MethodName)) ∈ lw_all := lw_g (lw_at lw_m14 102 rfl) rfl
theorem q3300 : (Jvm.Cond.privateMethod ({ cls := "TissueBalloonsModel", name := "cv", desc := "(II)I" } : Jvm.MethodName)) ∈ lw_tbl := lw_at lw_m14 103 rfl
theorem q3301 : (Jvm.Cond.instanceMethod ({ cls := "TissueBalloonsModel", name := "cv", desc := "(II)I" } : Jvm.MethodName)) ∈ lw_all := lw_g (lw_at lw_m14 104 rfl) rfl
theorem q3302 : (Jvm.Cond.code ({ cls := "TissueBalloonsModel", name := "cv", desc := "(II)I" } : Jvm.MethodName) prog_14_method_16_code (3 : Nat) (Option.some Jvm.ClassFile.FieldType.int)) ∈ lw_all := lw_g (lw_at lw_m14 105 rfl) rfl
theorem q3304 : (Jvm.Cond.instanceMethod ({ cls := "TissueBalloonsModel", name := "launch", desc := "(II)I" } : Jvm.MethodName)) ∈ lw_all := lw_g (lw_at lw_m14 107 rfl) rfl
theorem q3305 : (Jvm.Cond.selects "TissueBalloonsModel" ({ cls := "TissueBalloonsModel", name := "launch", desc := "(II)I" } : Jvm.MethodName) ({ cls := "TissueBalloonsModel", name := "launch", desc := "(II)I" } : Jvm.MethodName)) ∈ lw_all := lw_g (lw_at lw_m14 108 rfl) rfl
theorem q3306 : (Jvm.Cond.code ({ cls := "TissueBalloonsModel", name := "launch", desc := "(II)I" } : Jvm.MethodName) prog_14_method_46_code (3 : Nat) (Option.some Jvm.ClassFile.FieldType.int)) ∈ lw_all := lw_g (lw_at lw_m14 109 rfl) rfl
theorem q3307 : (Jvm.Cond.methodLink "TissueBalloonsModel" (158 : Nat) ({ cls := "TissueBalloonsModel", name := "isBalloon", desc := "(I)Z" } : Jvm.MethodName)) ∈ lw_all := lw_g (lw_at lw_m14 110 rfl) rfl
theorem q3308 : (Jvm.Cond.privateMethod ({ cls := "TissueBalloonsModel", name := "isBalloon", desc := "(I)Z" } : Jvm.MethodName)) ∈ lw_tbl := lw_at lw_m14 111 rfl
theorem q3309 : (Jvm.Cond.instanceMethod ({ cls := "TissueBalloonsModel", name := "isBalloon", desc := "(I)Z" } : Jvm.MethodName)) ∈ lw_all := lw_g (lw_at lw_m14 112 rfl) rfl
theorem q3310 : (Jvm.Cond.code ({ cls := "TissueBalloonsModel", name := "isBalloon", desc := "(I)Z" } : Jvm.MethodName) prog_14_method_23_code (2 : Nat) (Option.some Jvm.ClassFile.FieldType.boolean)) ∈ lw_all := lw_g (lw_at lw_m14 113 rfl) rfl
theorem q3311 : (Jvm.Cond.methodLink "TissueBalloonsModel" (161 : Nat) ({ cls := "TissueBalloonsModel", name := "isRefusedLaunch", desc := "(II)Z" } : Jvm.MethodName)) ∈ lw_all := lw_g (lw_at lw_m14 114 rfl) rfl
theorem q3312 : (Jvm.Cond.privateMethod ({ cls := "TissueBalloonsModel", name := "isRefusedLaunch", desc := "(II)Z" } : Jvm.MethodName)) ∈ lw_tbl := lw_at lw_m14 115 rfl
theorem q3313 : (Jvm.Cond.instanceMethod ({ cls := "TissueBalloonsModel", name := "isRefusedLaunch", desc := "(II)Z" } : Jvm.MethodName)) ∈ lw_all := lw_g (lw_at lw_m14 116 rfl) rfl
theorem q3314 : (Jvm.Cond.code ({ cls := "TissueBalloonsModel", name := "isRefusedLaunch", desc := "(II)Z" } : Jvm.MethodName) prog_14_method_44_code (3 : Nat) (Option.some Jvm.ClassFile.FieldType.boolean)) ∈ lw_all := lw_g (lw_at lw_m14 117 rfl) rfl
theorem q3315 : (Jvm.Cond.methodLink "TissueBalloonsModel" (164 : Nat) ({ cls := "TissueBalloonsModel", name := "launches", desc := "(II)I" } : Jvm.MethodName)) ∈ lw_all := lw_g (lw_at lw_m14 118 rfl) rfl
theorem q3316 : (Jvm.Cond.privateMethod ({ cls := "TissueBalloonsModel", name := "launches", desc := "(II)I" } : Jvm.MethodName)) ∈ lw_tbl := lw_at lw_m14 119 rfl
theorem q3317 : (Jvm.Cond.instanceMethod ({ cls := "TissueBalloonsModel", name := "launches", desc := "(II)I" } : Jvm.MethodName)) ∈ lw_all := lw_g (lw_at lw_m14 120 rfl) rfl
theorem q3318 : (Jvm.Cond.code ({ cls := "TissueBalloonsModel", name := "launches", desc := "(II)I" } : Jvm.MethodName) prog_14_method_45_code (3 : Nat) (Option.some Jvm.ClassFile.FieldType.int)) ∈ lw_all := lw_g (lw_at lw_m14 121 rfl) rfl
theorem q3320 : (Jvm.Cond.instanceMethod ({ cls := "TissueBalloonsModel", name := "plan", desc := "(III)I" } : Jvm.MethodName)) ∈ lw_all := lw_g (lw_at lw_m14 123 rfl) rfl
theorem q3321 : (Jvm.Cond.selects "TissueBalloonsModel" ({ cls := "TissueBalloonsModel", name := "plan", desc := "(III)I" } : Jvm.MethodName) ({ cls := "TissueBalloonsModel", name := "plan", desc := "(III)I" } : Jvm.MethodName)) ∈ lw_all := lw_g (lw_at lw_m14 124 rfl) rfl
theorem q3322 : (Jvm.Cond.code ({ cls := "TissueBalloonsModel", name := "plan", desc := "(III)I" } : Jvm.MethodName) prog_14_method_52_code (4 : Nat) (Option.some Jvm.ClassFile.FieldType.int)) ∈ lw_all := lw_g (lw_at lw_m14 125 rfl) rfl
theorem q3323 : (Jvm.Cond.methodLink "TissueBalloonsModel" (180 : Nat) ({ cls := "TissueBalloonsModel", name := "isRefusedPlan", desc := "(II)Z" } : Jvm.MethodName)) ∈ lw_all := lw_g (lw_at lw_m14 126 rfl) rfl
theorem q3324 : (Jvm.Cond.privateMethod ({ cls := "TissueBalloonsModel", name := "isRefusedPlan", desc := "(II)Z" } : Jvm.MethodName)) ∈ lw_tbl := lw_at lw_m14 127 rfl
theorem q3325 : (Jvm.Cond.instanceMethod ({ cls := "TissueBalloonsModel", name := "isRefusedPlan", desc := "(II)Z" } : Jvm.MethodName)) ∈ lw_all := lw_g (lw_at lw_m14 128 rfl) rfl
theorem q3326 : (Jvm.Cond.code ({ cls := "TissueBalloonsModel", name := "isRefusedPlan", desc := "(II)Z" } : Jvm.MethodName) prog_14_method_50_code (3 : Nat) (Option.some Jvm.ClassFile.FieldType.boolean)) ∈ lw_all := lw_g (lw_at lw_m14 129 rfl) rfl
theorem q3327 : (Jvm.Cond.methodLink "TissueBalloonsModel" (177 : Nat) ({ cls := "TissueBalloonsModel", name := "planOf", desc := "(I)I" } : Jvm.MethodName)) ∈ lw_all := lw_g (lw_at lw_m14 130 rfl) rfl
theorem q3328 : (Jvm.Cond.privateMethod ({ cls := "TissueBalloonsModel", name := "planOf", desc := "(I)I" } : Jvm.MethodName)) ∈ lw_tbl := lw_at lw_m14 131 rfl
theorem q3329 : (Jvm.Cond.instanceMethod ({ cls := "TissueBalloonsModel", name := "planOf", desc := "(I)I" } : Jvm.MethodName)) ∈ lw_all := lw_g (lw_at lw_m14 132 rfl) rfl
theorem q3330 : (Jvm.Cond.code ({ cls := "TissueBalloonsModel", name := "planOf", desc := "(I)I" } : Jvm.MethodName) prog_14_method_47_code (3 : Nat) (Option.some Jvm.ClassFile.FieldType.int)) ∈ lw_all := lw_g (lw_at lw_m14 133 rfl) rfl
theorem q3331 : (Jvm.Cond.methodLink "TissueBalloonsModel" (167 : Nat) ({ cls := "TissueBalloonsModel", name := "pv", desc := "(II)I" } : Jvm.MethodName)) ∈ lw_all := lw_g (lw_at lw_m14 134 rfl) rfl
theorem q3332 : (Jvm.Cond.privateMethod ({ cls := "TissueBalloonsModel", name := "pv", desc := "(II)I" } : Jvm.MethodName)) ∈ lw_tbl := lw_at lw_m14 135 rfl
theorem q3333 : (Jvm.Cond.instanceMethod ({ cls := "TissueBalloonsModel", name := "pv", desc := "(II)I" } : Jvm.MethodName)) ∈ lw_all := lw_g (lw_at lw_m14 136 rfl) rfl
theorem q3334 : (Jvm.Cond.code ({ cls := "TissueBalloonsModel", name := "pv", desc := "(II)I" } : Jvm.MethodName) prog_14_method_18_code (3 : Nat) (Option.some Jvm.ClassFile.FieldType.int)) ∈ lw_all := lw_g (lw_at lw_m14 137 rfl) rfl
theorem q3335 : (Jvm.Cond.methodLink "TissueBalloonsModel" (183 : Nat) ({ cls := "TissueBalloonsModel", name := "plans", desc := "(III)I" } : Jvm.MethodName)) ∈ lw_all := lw_g (lw_at lw_m14 138 rfl) rfl
theorem q3336 : (Jvm.Cond.privateMethod ({ cls := "TissueBalloonsModel", name := "plans", desc := "(III)I" } : Jvm.MethodName)) ∈ lw_tbl := lw_at lw_m14 139 rfl
theorem q3337 : (Jvm.Cond.instanceMethod ({ cls := "TissueBalloonsModel", name := "plans", desc := "(III)I" } : Jvm.MethodName)) ∈ lw_all := lw_g (lw_at lw_m14 140 rfl) rfl
theorem q3338 : (Jvm.Cond.code ({ cls := "TissueBalloonsModel", name := "plans", desc := "(III)I" } : Jvm.MethodName) prog_14_method_51_code (5 : Nat) (Option.some Jvm.ClassFile.FieldType.int)) ∈ lw_all := lw_g (lw_at lw_m14 141 rfl) rfl
theorem q3339 : (Jvm.Cond.methodLink "TissueBalloonsModel" (173 : Nat) ({ cls := "TissueBalloonsModel", name := "movesPlan", desc := "(II)V" } : Jvm.MethodName)) ∈ lw_all := lw_g (lw_at lw_m14 142 rfl) rfl
theorem q3340 : (Jvm.Cond.privateMethod ({ cls := "TissueBalloonsModel", name := "movesPlan", desc := "(II)V" } : Jvm.MethodName)) ∈ lw_tbl := lw_at lw_m14 143 rfl
theorem q3341 : (Jvm.Cond.instanceMethod ({ cls := "TissueBalloonsModel", name := "movesPlan", desc := "(II)V" } : Jvm.MethodName)) ∈ lw_all := lw_g (lw_at lw_m14 144 rfl) rfl
theorem q3342 : (Jvm.Cond.code ({ cls := "TissueBalloonsModel", name := "movesPlan", desc := "(II)V" } : Jvm.MethodName) prog_14_method_48_code (4 : Nat) (Option.none : Option Jvm.ClassFile.FieldType)) ∈ lw_all := lw_g (lw_at lw_m14 145 rfl) rfl
theorem q3343 : (Jvm.Cond.methodLink "TissueBalloonsModel" (170 : Nat) ({ cls := "TissueBalloonsModel", name := "lp", desc := "(III)V" } : Jvm.MethodName)) ∈ lw_all := lw_g (lw_at lw_m14 146 rfl) rfl
theorem q3344 : (Jvm.Cond.privateMethod ({ cls := "TissueBalloonsModel", name := "lp", desc := "(III)V" } : Jvm.MethodName)) ∈ lw_tbl := lw_at lw_m14 147 rfl
theorem q3345 : (Jvm.Cond.instanceMethod ({ cls := "TissueBalloonsModel", name := "lp", desc := "(III)V" } : Jvm.MethodName)) ∈ lw_all := lw_g (lw_at lw_m14 148 rfl) rfl
theorem q3346 : (Jvm.Cond.code ({ cls := "TissueBalloonsModel", name := "lp", desc := "(III)V" } : Jvm.MethodName) prog_14_method_19_code (4 : Nat) (Option.none : Option Jvm.ClassFile.FieldType)) ∈ lw_all := lw_g (lw_at lw_m14 149 rfl) rfl
theorem q3348 : (Jvm.Cond.instanceMethod ({ cls := "TissueBalloonsModel", name := "drop", desc := "(I)I" } : Jvm.MethodName)) ∈ lw_all := lw_g (lw_at lw_m14 151 rfl) rfl
theorem q3349 : (Jvm.Cond.selects "TissueBalloonsModel" ({ cls := "TissueBalloonsModel", name := "drop", desc := "(I)I" } : Jvm.MethodName) ({ cls := "TissueBalloonsModel", name := "drop", desc := "(I)I" } : Jvm.MethodName)) ∈ lw_all := lw_g (lw_at lw_m14 152 rfl) rfl
theorem q3350 : (Jvm.Cond.code ({ cls := "TissueBalloonsModel", name := "drop", desc := "(I)I" } : Jvm.MethodName) prog_14_method_53_code (2 : Nat) (Option.some Jvm.ClassFile.FieldType.int)) ∈ lw_all := lw_g (lw_at lw_m14 153 rfl) rfl
theorem q3351 : (Jvm.Cond.methodLink "TissueBalloonsModel" (187 : Nat) ({ cls := "TissueBalloonsModel", name := "planGoes", desc := "(I)V" } : Jvm.MethodName)) ∈ lw_all := lw_g (lw_at lw_m14 154 rfl) rfl
theorem q3352 : (Jvm.Cond.privateMethod ({ cls := "TissueBalloonsModel", name := "planGoes", desc := "(I)V" } : Jvm.MethodName)) ∈ lw_tbl := lw_at lw_m14 155 rfl
theorem q3353 : (Jvm.Cond.instanceMethod ({ cls := "TissueBalloonsModel", name := "planGoes", desc := "(I)V" } : Jvm.MethodName)) ∈ lw_all := lw_g (lw_at lw_m14 156 rfl) rfl
theorem q3354 : (Jvm.Cond.code ({ cls := "TissueBalloonsModel", name := "planGoes", desc := "(I)V" } : Jvm.MethodName) prog_14_method_49_code (3 : Nat) (Option.none : Option Jvm.ClassFile.FieldType)) ∈ lw_all := lw_g (lw_at lw_m14 157 rfl) rfl
theorem q3356 : (Jvm.Cond.instanceMethod ({ cls := "TissueBalloonsModel", name := "planAt", desc := "(II)I" } : Jvm.MethodName)) ∈ lw_all := lw_g (lw_at lw_m14 159 rfl) rfl
theorem q3357 : (Jvm.Cond.selects "TissueBalloonsModel" ({ cls := "TissueBalloonsModel", name := "planAt", desc := "(II)I" } : Jvm.MethodName) ({ cls := "TissueBalloonsModel", name := "planAt", desc := "(II)I" } : Jvm.MethodName)) ∈ lw_all := lw_g (lw_at lw_m14 160 rfl) rfl
theorem q3358 : (Jvm.Cond.code ({ cls := "TissueBalloonsModel", name := "planAt", desc := "(II)I" } : Jvm.MethodName) prog_14_method_54_code (3 : Nat) (Option.some Jvm.ClassFile.FieldType.int)) ∈ lw_all := lw_g (lw_at lw_m14 161 rfl) rfl
theorem q3360 : (Jvm.Cond.instanceMethod ({ cls := "TissueBalloonsModel", name := "balloonOf", desc := "(II)I" } : Jvm.MethodName)) ∈ lw_all := lw_g (lw_at lw_m14 163 rfl) rfl
theorem q3361 : (Jvm.Cond.selects "TissueBalloonsModel" ({ cls := "TissueBalloonsModel", name := "balloonOf", desc := "(II)I" } : Jvm.MethodName) ({ cls := "TissueBalloonsModel", name := "balloonOf", desc := "(II)I" } : Jvm.MethodName)) ∈ lw_all := lw_g (lw_at lw_m14 164 rfl) rfl
theorem q3362 : (Jvm.Cond.code ({ cls := "TissueBalloonsModel", name := "balloonOf", desc := "(II)I" } : Jvm.MethodName) prog_14_method_55_code (3 : Nat) (Option.some Jvm.ClassFile.FieldType.int)) ∈ lw_all := lw_g (lw_at lw_m14 165 rfl) rfl
theorem q3364 : (Jvm.Cond.instanceMethod ({ cls := "TissueBalloonsModel", name := "highest", desc := "(I)I" } : Jvm.MethodName)) ∈ lw_all := lw_g (lw_at lw_m14 167 rfl) rfl
theorem q3365 : (Jvm.Cond.selects "TissueBalloonsModel" ({ cls := "TissueBalloonsModel", name := "highest", desc := "(I)I" } : Jvm.MethodName) ({ cls := "TissueBalloonsModel", name := "highest", desc := "(I)I" } : Jvm.MethodName)) ∈ lw_all := lw_g (lw_at lw_m14 168 rfl) rfl
theorem q3366 : (Jvm.Cond.code ({ cls := "TissueBalloonsModel", name := "highest", desc := "(I)I" } : Jvm.MethodName) prog_14_method_56_code (5 : Nat) (Option.some Jvm.ClassFile.FieldType.int)) ∈ lw_all := lw_g (lw_at lw_m14 169 rfl) rfl
theorem q3368 : (Jvm.Cond.instanceMethod ({ cls := "TissueBalloonsModel", name := "ranked", desc := "(I)I" } : Jvm.MethodName)) ∈ lw_all := lw_g (lw_at lw_m14 171 rfl) rfl
theorem q3369 : (Jvm.Cond.selects "TissueBalloonsModel" ({ cls := "TissueBalloonsModel", name := "ranked", desc := "(I)I" } : Jvm.MethodName) ({ cls := "TissueBalloonsModel", name := "ranked", desc := "(I)I" } : Jvm.MethodName)) ∈ lw_all := lw_g (lw_at lw_m14 172 rfl) rfl
theorem q3370 : (Jvm.Cond.code ({ cls := "TissueBalloonsModel", name := "ranked", desc := "(I)I" } : Jvm.MethodName) prog_14_method_57_code (5 : Nat) (Option.some Jvm.ClassFile.FieldType.int)) ∈ lw_all := lw_g (lw_at lw_m14 173 rfl) rfl
theorem q3372 : (Jvm.Cond.instanceMethod ({ cls := "TissueBalloonsModel", name := "pass", desc := "(I)I" } : Jvm.MethodName)) ∈ lw_all := lw_g (lw_at lw_m14 175 rfl) rfl
theorem q3373 : (Jvm.Cond.selects "TissueBalloonsModel" ({ cls := "TissueBalloonsModel", name := "pass", desc := "(I)I" } : Jvm.MethodName) ({ cls := "TissueBalloonsModel", name := "pass", desc := "(I)I" } : Jvm.MethodName)) ∈ lw_all := lw_g (lw_at lw_m14 176 rfl) rfl
theorem q3374 : (Jvm.Cond.code ({ cls := "TissueBalloonsModel", name := "pass", desc := "(I)I" } : Jvm.MethodName) prog_14_method_66_code (2 : Nat) (Option.some Jvm.ClassFile.FieldType.int)) ∈ lw_all := lw_g (lw_at lw_m14 177 rfl) rfl
theorem q3375 : (Jvm.Cond.methodLink "TissueBalloonsModel" (213 : Nat) ({ cls := "TissueBalloonsModel", name := "areMinutes", desc := "(I)Z" } : Jvm.MethodName)) ∈ lw_all := lw_g (lw_at lw_m14 178 rfl) rfl
theorem q3376 : (Jvm.Cond.static ({ cls := "TissueBalloonsModel", name := "areMinutes", desc := "(I)Z" } : Jvm.MethodName)) ∈ lw_all := lw_g (lw_at lw_m14 179 rfl) rfl
theorem q3377 : (Jvm.Cond.code ({ cls := "TissueBalloonsModel", name := "areMinutes", desc := "(I)Z" } : Jvm.MethodName) prog_14_method_64_code (1 : Nat) (Option.some Jvm.ClassFile.FieldType.boolean)) ∈ lw_all := lw_g (lw_at lw_m14 180 rfl) rfl
theorem q3378 : (Jvm.Cond.methodLink "TissueBalloonsModel" (216 : Nat) ({ cls := "TissueBalloonsModel", name := "goes", desc := "(I)I" } : Jvm.MethodName)) ∈ lw_all := lw_g (lw_at lw_m14 181 rfl) rfl
theorem q3379 : (Jvm.Cond.privateMethod ({ cls := "TissueBalloonsModel", name := "goes", desc := "(I)I" } : Jvm.MethodName)) ∈ lw_tbl := lw_at lw_m14 182 rfl
theorem q3380 : (Jvm.Cond.instanceMethod ({ cls := "TissueBalloonsModel", name := "goes", desc := "(I)I" } : Jvm.MethodName)) ∈ lw_all := lw_g (lw_at lw_m14 183 rfl) rfl
theorem q3381 : (Jvm.Cond.code ({ cls := "TissueBalloonsModel", name := "goes", desc := "(I)I" } : Jvm.MethodName) prog_14_method_65_code (4 : Nat) (Option.some Jvm.ClassFile.FieldType.int)) ∈ lw_all := lw_g (lw_at lw_m14 184 rfl) rfl
theorem q3382 : (Jvm.Cond.methodLink "TissueBalloonsModel" (209 : Nat) ({ cls := "TissueBalloonsModel", name := "goesMinute", desc := "()I" } : Jvm.MethodName)) ∈ lw_all := lw_g (lw_at lw_m14 185 rfl) rfl
theorem q3383 : (Jvm.Cond.privateMethod ({ cls := "TissueBalloonsModel", name := "goesMinute", desc := "()I" } : Jvm.MethodName)) ∈ lw_tbl := lw_at lw_m14 186 rfl
theorem q3384 : (Jvm.Cond.instanceMethod ({ cls := "TissueBalloonsModel", name := "goesMinute", desc := "()I" } : Jvm.MethodName)) ∈ lw_all := lw_g (lw_at lw_m14 187 rfl) rfl
theorem q3385 : (Jvm.Cond.code ({ cls := "TissueBalloonsModel", name := "goesMinute", desc := "()I" } : Jvm.MethodName) prog_14_method_63_code (3 : Nat) (Option.some Jvm.ClassFile.FieldType.int)) ∈ lw_all := lw_g (lw_at lw_m14 188 rfl) rfl
theorem q3386 : (Jvm.Cond.methodLink "TissueBalloonsModel" (203 : Nat) ({ cls := "TissueBalloonsModel", name := "plansOfNow", desc := "()V" } : Jvm.MethodName)) ∈ lw_all := lw_g (lw_at lw_m14 189 rfl) rfl
theorem q3387 : (Jvm.Cond.privateMethod ({ cls := "TissueBalloonsModel", name := "plansOfNow", desc := "()V" } : Jvm.MethodName)) ∈ lw_tbl := lw_at lw_m14 190 rfl
theorem q3388 : (Jvm.Cond.instanceMethod ({ cls := "TissueBalloonsModel", name := "plansOfNow", desc := "()V" } : Jvm.MethodName)) ∈ lw_all := lw_g (lw_at lw_m14 191 rfl) rfl
theorem q3389 : (Jvm.Cond.code ({ cls := "TissueBalloonsModel", name := "plansOfNow", desc := "()V" } : Jvm.MethodName) prog_14_method_58_code (2 : Nat) (Option.none : Option Jvm.ClassFile.FieldType)) ∈ lw_all := lw_g (lw_at lw_m14 192 rfl) rfl
theorem q3390 : (Jvm.Cond.methodLink "TissueBalloonsModel" (206 : Nat) ({ cls := "TissueBalloonsModel", name := "fliesOn", desc := "(I)V" } : Jvm.MethodName)) ∈ lw_all := lw_g (lw_at lw_m14 193 rfl) rfl
theorem q3391 : (Jvm.Cond.privateMethod ({ cls := "TissueBalloonsModel", name := "fliesOn", desc := "(I)V" } : Jvm.MethodName)) ∈ lw_tbl := lw_at lw_m14 194 rfl
theorem q3392 : (Jvm.Cond.instanceMethod ({ cls := "TissueBalloonsModel", name := "fliesOn", desc := "(I)V" } : Jvm.MethodName)) ∈ lw_all := lw_g (lw_at lw_m14 195 rfl) rfl
theorem q3393 : (Jvm.Cond.code ({ cls := "TissueBalloonsModel", name := "fliesOn", desc := "(I)V" } : Jvm.MethodName) prog_14_method_62_code (2 : Nat) (Option.none : Option Jvm.ClassFile.FieldType)) ∈ lw_all := lw_g (lw_at lw_m14 196 rfl) rfl
theorem q3394 : (Jvm.Cond.methodLink "TissueBalloonsModel" (197 : Nat) ({ cls := "TissueBalloonsModel", name := "most", desc := "(II)I" } : Jvm.MethodName)) ∈ lw_all := lw_g (lw_at lw_m14 197 rfl) rfl
theorem q3395 : (Jvm.Cond.static ({ cls := "TissueBalloonsModel", name := "most", desc := "(II)I" } : Jvm.MethodName)) ∈ lw_all := lw_g (lw_at lw_m14 198 rfl) rfl
theorem q3396 : (Jvm.Cond.code ({ cls := "TissueBalloonsModel", name := "most", desc := "(II)I" } : Jvm.MethodName) prog_14_method_5_code (2 : Nat) (Option.some Jvm.ClassFile.FieldType.int)) ∈ lw_all := lw_g (lw_at lw_m14 199 rfl) rfl
theorem q3397 : (Jvm.Cond.methodLink "TissueBalloonsModel" (194 : Nat) ({ cls := "TissueBalloonsModel", name := "lands", desc := "(I)V" } : Jvm.MethodName)) ∈ lw_all := lw_g (lw_at lw_m14 200 rfl) rfl
theorem q3398 : (Jvm.Cond.privateMethod ({ cls := "TissueBalloonsModel", name := "lands", desc := "(I)V" } : Jvm.MethodName)) ∈ lw_tbl := lw_at lw_m14 201 rfl
theorem q3399 : (Jvm.Cond.instanceMethod ({ cls := "TissueBalloonsModel", name := "lands", desc := "(I)V" } : Jvm.MethodName)) ∈ lw_all := lw_g (lw_at lw_m14 202 rfl) rfl
theorem q3400 : (Jvm.Cond.code ({ cls := "TissueBalloonsModel", name := "lands", desc := "(I)V" } : Jvm.MethodName) prog_14_method_60_code (4 : Nat) (Option.none : Option Jvm.ClassFile.FieldType)) ∈ lw_all := lw_g (lw_at lw_m14 203 rfl) rfl
theorem q3401 : (Jvm.Cond.methodLink "TissueBalloonsModel" (191 : Nat) ({ cls := "TissueBalloonsModel", name := "ends", desc := "(II)V" } : Jvm.MethodName)) ∈ lw_all := lw_g (lw_at lw_m14 204 rfl) rfl
theorem q3402 : (Jvm.Cond.privateMethod ({ cls := "TissueBalloonsModel", name := "ends", desc := "(II)V" } : Jvm.MethodName)) ∈ lw_tbl := lw_at lw_m14 205 rfl
theorem q3403 : (Jvm.Cond.instanceMethod ({ cls := "TissueBalloonsModel", name := "ends", desc := "(II)V" } : Jvm.MethodName)) ∈ lw_all := lw_g (lw_at lw_m14 206 rfl) rfl
theorem q3404 : (Jvm.Cond.code ({ cls := "TissueBalloonsModel", name := "ends", desc := "(II)V" } : Jvm.MethodName) prog_14_method_59_code (3 : Nat) (Option.none : Option Jvm.ClassFile.FieldType)) ∈ lw_all := lw_g (lw_at lw_m14 207 rfl) rfl
theorem q3405 : (Jvm.Cond.methodLink "TissueBalloonsModel" (200 : Nat) ({ cls := "TissueBalloonsModel", name := "drifts", desc := "(I)V" } : Jvm.MethodName)) ∈ lw_all := lw_g (lw_at lw_m14 208 rfl) rfl
theorem q3406 : (Jvm.Cond.privateMethod ({ cls := "TissueBalloonsModel", name := "drifts", desc := "(I)V" } : Jvm.MethodName)) ∈ lw_tbl := lw_at lw_m14 209 rfl
theorem q3407 : (Jvm.Cond.instanceMethod ({ cls := "TissueBalloonsModel", name := "drifts", desc := "(I)V" } : Jvm.MethodName)) ∈ lw_all := lw_g (lw_at lw_m14 210 rfl) rfl
theorem q3408 : (Jvm.Cond.code ({ cls := "TissueBalloonsModel", name := "drifts", desc := "(I)V" } : Jvm.MethodName) prog_14_method_61_code (3 : Nat) (Option.none : Option Jvm.ClassFile.FieldType)) ∈ lw_all := lw_g (lw_at lw_m14 211 rfl) rfl
theorem q3410 : (Jvm.Cond.instanceMethod ({ cls := "TissueBalloonsModel", name := "layerIn", desc := "(II)I" } : Jvm.MethodName)) ∈ lw_all := lw_g (lw_at lw_m14 213 rfl) rfl
theorem q3411 : (Jvm.Cond.selects "TissueBalloonsModel" ({ cls := "TissueBalloonsModel", name := "layerIn", desc := "(II)I" } : Jvm.MethodName) ({ cls := "TissueBalloonsModel", name := "layerIn", desc := "(II)I" } : Jvm.MethodName)) ∈ lw_all := lw_g (lw_at lw_m14 214 rfl) rfl
theorem q3412 : (Jvm.Cond.code ({ cls := "TissueBalloonsModel", name := "layerIn", desc := "(II)I" } : Jvm.MethodName) prog_14_method_67_code (4 : Nat) (Option.some Jvm.ClassFile.FieldType.int)) ∈ lw_all := lw_g (lw_at lw_m14 215 rfl) rfl
theorem q3414 : (Jvm.Cond.instanceMethod ({ cls := "TissueBalloonsModel", name := "layerAgain", desc := "(II)I" } : Jvm.MethodName)) ∈ lw_all := lw_g (lw_at lw_m14 217 rfl) rfl
theorem q3415 : (Jvm.Cond.selects "TissueBalloonsModel" ({ cls := "TissueBalloonsModel", name := "layerAgain", desc := "(II)I" } : Jvm.MethodName) ({ cls := "TissueBalloonsModel", name := "layerAgain", desc := "(II)I" } : Jvm.MethodName)) ∈ lw_all := lw_g (lw_at lw_m14 218 rfl) rfl
theorem q3416 : (Jvm.Cond.code ({ cls := "TissueBalloonsModel", name := "layerAgain", desc := "(II)I" } : Jvm.MethodName) prog_14_method_68_code (6 : Nat) (Option.some Jvm.ClassFile.FieldType.int)) ∈ lw_all := lw_g (lw_at lw_m14 219 rfl) rfl
theorem q3418 : (Jvm.Cond.instanceMethod ({ cls := "TissueBalloonsModel", name := "would", desc := "(II)I" } : Jvm.MethodName)) ∈ lw_all := lw_g (lw_at lw_m14 221 rfl) rfl
theorem q3419 : (Jvm.Cond.selects "TissueBalloonsModel" ({ cls := "TissueBalloonsModel", name := "would", desc := "(II)I" } : Jvm.MethodName) ({ cls := "TissueBalloonsModel", name := "would", desc := "(II)I" } : Jvm.MethodName)) ∈ lw_all := lw_g (lw_at lw_m14 222 rfl) rfl
theorem q3420 : (Jvm.Cond.code ({ cls := "TissueBalloonsModel", name := "would", desc := "(II)I" } : Jvm.MethodName) prog_14_method_69_code (6 : Nat) (Option.some Jvm.ClassFile.FieldType.int)) ∈ lw_all := lw_g (lw_at lw_m14 223 rfl) rfl
theorem q3422 : (Jvm.Cond.instanceMethod ({ cls := "TissueBalloonsModel", name := "append", desc := "(C)I" } : Jvm.MethodName)) ∈ lw_all := lw_g (lw_at lw_m14 225 rfl) rfl
theorem q3423 : (Jvm.Cond.selects "TissueBalloonsModel" ({ cls := "TissueBalloonsModel", name := "append", desc := "(C)I" } : Jvm.MethodName) ({ cls := "TissueBalloonsModel", name := "append", desc := "(C)I" } : Jvm.MethodName)) ∈ lw_all := lw_g (lw_at lw_m14 226 rfl) rfl
theorem q3424 : (Jvm.Cond.code ({ cls := "TissueBalloonsModel", name := "append", desc := "(C)I" } : Jvm.MethodName) prog_14_method_70_code (2 : Nat) (Option.some Jvm.ClassFile.FieldType.int)) ∈ lw_all := lw_g (lw_at lw_m14 227 rfl) rfl
theorem q3426 : (Jvm.Cond.instanceMethod ({ cls := "TissueBalloonsModel", name := "read", desc := "()I" } : Jvm.MethodName)) ∈ lw_all := lw_g (lw_at lw_m14 229 rfl) rfl
theorem q3427 : (Jvm.Cond.selects "TissueBalloonsModel" ({ cls := "TissueBalloonsModel", name := "read", desc := "()I" } : Jvm.MethodName) ({ cls := "TissueBalloonsModel", name := "read", desc := "()I" } : Jvm.MethodName)) ∈ lw_all := lw_g (lw_at lw_m14 230 rfl) rfl
theorem q3428 : (Jvm.Cond.code ({ cls := "TissueBalloonsModel", name := "read", desc := "()I" } : Jvm.MethodName) prog_14_method_79_code (3 : Nat) (Option.some Jvm.ClassFile.FieldType.int)) ∈ lw_all := lw_g (lw_at lw_m14 231 rfl) rfl
theorem q3429 : (Jvm.Cond.methodLink "TissueBalloonsModel" (236 : Nat) ({ cls := "TissueBalloonsModel", name := "reads", desc := "()V" } : Jvm.MethodName)) ∈ lw_all := lw_g (lw_at lw_m14 232 rfl) rfl
theorem q3430 : (Jvm.Cond.privateMethod ({ cls := "TissueBalloonsModel", name := "reads", desc := "()V" } : Jvm.MethodName)) ∈ lw_tbl := lw_at lw_m14 233 rfl
theorem q3431 : (Jvm.Cond.instanceMethod ({ cls := "TissueBalloonsModel", name := "reads", desc := "()V" } : Jvm.MethodName)) ∈ lw_all := lw_g (lw_at lw_m14 234 rfl) rfl
theorem q3432 : (Jvm.Cond.code ({ cls := "TissueBalloonsModel", name := "reads", desc := "()V" } : Jvm.MethodName) prog_14_method_77_code (1 : Nat) (Option.none : Option Jvm.ClassFile.FieldType)) ∈ lw_all := lw_g (lw_at lw_m14 235 rfl) rfl
theorem q3433 : (Jvm.Cond.methodLink "TissueBalloonsModel" (233 : Nat) ({ cls := "TissueBalloonsModel", name := "order", desc := "()V" } : Jvm.MethodName)) ∈ lw_all := lw_g (lw_at lw_m14 236 rfl) rfl
theorem q3434 : (Jvm.Cond.privateMethod ({ cls := "TissueBalloonsModel", name := "order", desc := "()V" } : Jvm.MethodName)) ∈ lw_tbl := lw_at lw_m14 237 rfl
theorem q3435 : (Jvm.Cond.instanceMethod ({ cls := "TissueBalloonsModel", name := "order", desc := "()V" } : Jvm.MethodName)) ∈ lw_all := lw_g (lw_at lw_m14 238 rfl) rfl
theorem q3436 : (Jvm.Cond.code ({ cls := "TissueBalloonsModel", name := "order", desc := "()V" } : Jvm.MethodName) prog_14_method_76_code (3 : Nat) (Option.none : Option Jvm.ClassFile.FieldType)) ∈ lw_all := lw_g (lw_at lw_m14 239 rfl) rfl
theorem q3437 : (Jvm.Cond.methodLink "TissueBalloonsModel" (219 : Nat) ({ cls := "TissueBalloonsModel", name := "next", desc := "()I" } : Jvm.MethodName)) ∈ lw_all := lw_g (lw_at lw_m15 0 rfl) rfl
theorem q3438 : (Jvm.Cond.privateMethod ({ cls := "TissueBalloonsModel", name := "next", desc := "()I" } : Jvm.MethodName)) ∈ lw_tbl := lw_at lw_m15 1 rfl
theorem q3439 : (Jvm.Cond.instanceMethod ({ cls := "TissueBalloonsModel", name := "next", desc := "()I" } : Jvm.MethodName)) ∈ lw_all := lw_g (lw_at lw_m15 2 rfl) rfl
theorem q3440 : (Jvm.Cond.code ({ cls := "TissueBalloonsModel", name := "next", desc := "()I" } : Jvm.MethodName) prog_14_method_71_code (1 : Nat) (Option.some Jvm.ClassFile.FieldType.int)) ∈ lw_all := lw_g (lw_at lw_m15 3 rfl) rfl
theorem q3441 : (Jvm.Cond.methodLink "TissueBalloonsModel" (222 : Nat) ({ cls := "TissueBalloonsModel", name := "digit", desc := "()I" } : Jvm.MethodName)) ∈ lw_all := lw_g (lw_at lw_m15 4 rfl) rfl
theorem q3442 : (Jvm.Cond.privateMethod ({ cls := "TissueBalloonsModel", name := "digit", desc := "()I" } : Jvm.MethodName)) ∈ lw_tbl := lw_at lw_m15 5 rfl
theorem q3443 : (Jvm.Cond.instanceMethod ({ cls := "TissueBalloonsModel", name := "digit", desc := "()I" } : Jvm.MethodName)) ∈ lw_all := lw_g (lw_at lw_m15 6 rfl) rfl
theorem q3444 : (Jvm.Cond.code ({ cls := "TissueBalloonsModel", name := "digit", desc := "()I" } : Jvm.MethodName) prog_14_method_72_code (2 : Nat) (Option.some Jvm.ClassFile.FieldType.int)) ∈ lw_all := lw_g (lw_at lw_m15 7 rfl) rfl
theorem q3445 : (Jvm.Cond.methodLink "TissueBalloonsModel" (225 : Nat) ({ cls := "TissueBalloonsModel", name := "number", desc := "()I" } : Jvm.MethodName)) ∈ lw_all := lw_g (lw_at lw_m15 8 rfl) rfl
theorem q3446 : (Jvm.Cond.privateMethod ({ cls := "TissueBalloonsModel", name := "number", desc := "()I" } : Jvm.MethodName)) ∈ lw_tbl := lw_at lw_m15 9 rfl
theorem q3447 : (Jvm.Cond.instanceMethod ({ cls := "TissueBalloonsModel", name := "number", desc := "()I" } : Jvm.MethodName)) ∈ lw_all := lw_g (lw_at lw_m15 10 rfl) rfl
theorem q3448 : (Jvm.Cond.code ({ cls := "TissueBalloonsModel", name := "number", desc := "()I" } : Jvm.MethodName) prog_14_method_73_code (2 : Nat) (Option.some Jvm.ClassFile.FieldType.int)) ∈ lw_all := lw_g (lw_at lw_m15 11 rfl) rfl
theorem q3449 : (Jvm.Cond.methodLink "TissueBalloonsModel" (227 : Nat) ({ cls := "TissueBalloonsModel", name := "takes", desc := "(I)V" } : Jvm.MethodName)) ∈ lw_all := lw_g (lw_at lw_m15 12 rfl) rfl
theorem q3450 : (Jvm.Cond.privateMethod ({ cls := "TissueBalloonsModel", name := "takes", desc := "(I)V" } : Jvm.MethodName)) ∈ lw_tbl := lw_at lw_m15 13 rfl
theorem q3451 : (Jvm.Cond.instanceMethod ({ cls := "TissueBalloonsModel", name := "takes", desc := "(I)V" } : Jvm.MethodName)) ∈ lw_all := lw_g (lw_at lw_m15 14 rfl) rfl
theorem q3452 : (Jvm.Cond.code ({ cls := "TissueBalloonsModel", name := "takes", desc := "(I)V" } : Jvm.MethodName) prog_14_method_74_code (2 : Nat) (Option.none : Option Jvm.ClassFile.FieldType)) ∈ lw_all := lw_g (lw_at lw_m15 15 rfl) rfl
theorem q3453 : (Jvm.Cond.methodLink "TissueBalloonsModel" (230 : Nat) ({ cls := "TissueBalloonsModel", name := "drift", desc := "()I" } : Jvm.MethodName)) ∈ lw_all := lw_g (lw_at lw_m15 16 rfl) rfl
theorem q3454 : (Jvm.Cond.privateMethod ({ cls := "TissueBalloonsModel", name := "drift", desc := "()I" } : Jvm.MethodName)) ∈ lw_tbl := lw_at lw_m15 17 rfl
theorem q3455 : (Jvm.Cond.instanceMethod ({ cls := "TissueBalloonsModel", name := "drift", desc := "()I" } : Jvm.MethodName)) ∈ lw_all := lw_g (lw_at lw_m15 18 rfl) rfl
theorem q3456 : (Jvm.Cond.code ({ cls := "TissueBalloonsModel", name := "drift", desc := "()I" } : Jvm.MethodName) prog_14_method_75_code (1 : Nat) (Option.some Jvm.ClassFile.FieldType.int)) ∈ lw_all := lw_g (lw_at lw_m15 19 rfl) rfl
theorem q3457 : (Jvm.Cond.methodLink "TissueBalloonsModel" (239 : Nat) ({ cls := "TissueBalloonsModel", name := "does", desc := "(I)I" } : Jvm.MethodName)) ∈ lw_all := lw_g (lw_at lw_m15 20 rfl) rfl
theorem q3458 : (Jvm.Cond.privateMethod ({ cls := "TissueBalloonsModel", name := "does", desc := "(I)I" } : Jvm.MethodName)) ∈ lw_tbl := lw_at lw_m15 21 rfl
theorem q3459 : (Jvm.Cond.instanceMethod ({ cls := "TissueBalloonsModel", name := "does", desc := "(I)I" } : Jvm.MethodName)) ∈ lw_all := lw_g (lw_at lw_m15 22 rfl) rfl
theorem q3460 : (Jvm.Cond.code ({ cls := "TissueBalloonsModel", name := "does", desc := "(I)I" } : Jvm.MethodName) prog_14_method_78_code (4 : Nat) (Option.some Jvm.ClassFile.FieldType.int)) ∈ lw_all := lw_g (lw_at lw_m15 23 rfl) rfl
theorem q3462 : (Jvm.Cond.instanceMethod ({ cls := "TissueBalloonsModel", name := "errorPosition", desc := "()I" } : Jvm.MethodName)) ∈ lw_all := lw_g (lw_at lw_m15 25 rfl) rfl
theorem q3463 : (Jvm.Cond.selects "TissueBalloonsModel" ({ cls := "TissueBalloonsModel", name := "errorPosition", desc := "()I" } : Jvm.MethodName) ({ cls := "TissueBalloonsModel", name := "errorPosition", desc := "()I" } : Jvm.MethodName)) ∈ lw_all := lw_g (lw_at lw_m15 26 rfl) rfl
theorem q3464 : (Jvm.Cond.code ({ cls := "TissueBalloonsModel", name := "errorPosition", desc := "()I" } : Jvm.MethodName) prog_14_method_80_code (1 : Nat) (Option.some Jvm.ClassFile.FieldType.int)) ∈ lw_all := lw_g (lw_at lw_m15 27 rfl) rfl
theorem q3466 : (Jvm.Cond.instanceMethod ({ cls := "TissueBalloonsModel", name := "refusal", desc := "(Z)I" } : Jvm.MethodName)) ∈ lw_all := lw_g (lw_at lw_m15 29 rfl) rfl
theorem q3467 : (Jvm.Cond.selects "TissueBalloonsModel" ({ cls := "TissueBalloonsModel", name := "refusal", desc := "(Z)I" } : Jvm.MethodName) ({ cls := "TissueBalloonsModel", name := "refusal", desc := "(Z)I" } : Jvm.MethodName)) ∈ lw_all := lw_g (lw_at lw_m15 30 rfl) rfl
theorem q3468 : (Jvm.Cond.code ({ cls := "TissueBalloonsModel", name := "refusal", desc := "(Z)I" } : Jvm.MethodName) prog_14_method_81_code (2 : Nat) (Option.some Jvm.ClassFile.FieldType.int)) ∈ lw_all := lw_g (lw_at lw_m15 31 rfl) rfl
theorem q3470 : (Jvm.Cond.instanceMethod ({ cls := "TissueBalloonsModel", name := "account", desc := "(I)I" } : Jvm.MethodName)) ∈ lw_all := lw_g (lw_at lw_m15 33 rfl) rfl
theorem q3471 : (Jvm.Cond.selects "TissueBalloonsModel" ({ cls := "TissueBalloonsModel", name := "account", desc := "(I)I" } : Jvm.MethodName) ({ cls := "TissueBalloonsModel", name := "account", desc := "(I)I" } : Jvm.MethodName)) ∈ lw_all := lw_g (lw_at lw_m15 34 rfl) rfl
theorem q3472 : (Jvm.Cond.code ({ cls := "TissueBalloonsModel", name := "account", desc := "(I)I" } : Jvm.MethodName) prog_14_method_84_code (2 : Nat) (Option.some Jvm.ClassFile.FieldType.int)) ∈ lw_all := lw_g (lw_at lw_m15 35 rfl) rfl
theorem q3473 : (Jvm.Cond.methodLink "TissueBalloonsModel" (242 : Nat) ({ cls := "TissueBalloonsModel", name := "inState", desc := "(I)I" } : Jvm.MethodName)) ∈ lw_all := lw_g (lw_at lw_m15 36 rfl) rfl
theorem q3474 : (Jvm.Cond.privateMethod ({ cls := "TissueBalloonsModel", name := "inState", desc := "(I)I" } : Jvm.MethodName)) ∈ lw_tbl := lw_at lw_m15 37 rfl
theorem q3475 : (Jvm.Cond.instanceMethod ({ cls := "TissueBalloonsModel", name := "inState", desc := "(I)I" } : Jvm.MethodName)) ∈ lw_all := lw_g (lw_at lw_m15 38 rfl) rfl
theorem q3476 : (Jvm.Cond.code ({ cls := "TissueBalloonsModel", name := "inState", desc := "(I)I" } : Jvm.MethodName) prog_14_method_82_code (4 : Nat) (Option.some Jvm.ClassFile.FieldType.int)) ∈ lw_all := lw_g (lw_at lw_m15 39 rfl) rfl
theorem q3477 : (Jvm.Cond.methodLink "TissueBalloonsModel" (245 : Nat) ({ cls := "TissueBalloonsModel", name := "busy", desc := "()I" } : Jvm.MethodName)) ∈ lw_all := lw_g (lw_at lw_m15 40 rfl) rfl
theorem q3478 : (Jvm.Cond.privateMethod ({ cls := "TissueBalloonsModel", name := "busy", desc := "()I" } : Jvm.MethodName)) ∈ lw_tbl := lw_at lw_m15 41 rfl
theorem q3479 : (Jvm.Cond.instanceMethod ({ cls := "TissueBalloonsModel", name := "busy", desc := "()I" } : Jvm.MethodName)) ∈ lw_all := lw_g (lw_at lw_m15 42 rfl) rfl
theorem q3480 : (Jvm.Cond.code ({ cls := "TissueBalloonsModel", name := "busy", desc := "()I" } : Jvm.MethodName) prog_14_method_83_code (3 : Nat) (Option.some Jvm.ClassFile.FieldType.int)) ∈ lw_all := lw_g (lw_at lw_m15 43 rfl) rfl
theorem q3482 : (Jvm.Cond.instanceMethod ({ cls := "TissueBalloonsModel", name := "isWell", desc := "()Z" } : Jvm.MethodName)) ∈ lw_all := lw_g (lw_at lw_m15 45 rfl) rfl
theorem q3483 : (Jvm.Cond.selects "TissueBalloonsModel" ({ cls := "TissueBalloonsModel", name := "isWell", desc := "()Z" } : Jvm.MethodName) ({ cls := "TissueBalloonsModel", name := "isWell", desc := "()Z" } : Jvm.MethodName)) ∈ lw_all := lw_g (lw_at lw_m15 46 rfl) rfl
theorem q3484 : (Jvm.Cond.code ({ cls := "TissueBalloonsModel", name := "isWell", desc := "()Z" } : Jvm.MethodName) prog_14_method_85_code (4 : Nat) (Option.some Jvm.ClassFile.FieldType.boolean)) ∈ lw_all := lw_g (lw_at lw_m15 47 rfl) rfl
theorem q3486 : (Jvm.Cond.instanceMethod ({ cls := "TissueBalloonsModel", name := "meanFlight", desc := "()D" } : Jvm.MethodName)) ∈ lw_all := lw_g (lw_at lw_m15 49 rfl) rfl
theorem q3487 : (Jvm.Cond.selects "TissueBalloonsModel" ({ cls := "TissueBalloonsModel", name := "meanFlight", desc := "()D" } : Jvm.MethodName) ({ cls := "TissueBalloonsModel", name := "meanFlight", desc := "()D" } : Jvm.MethodName)) ∈ lw_all := lw_g (lw_at lw_m15 50 rfl) rfl
theorem q3488 : (Jvm.Cond.code ({ cls := "TissueBalloonsModel", name := "meanFlight", desc := "()D" } : Jvm.MethodName) prog_14_method_86_code (1 : Nat) (Option.some Jvm.ClassFile.FieldType.double)) ∈ lw_all := lw_g (lw_at lw_m15 51 rfl) rfl
theorem q3490 : (Jvm.Cond.instanceMethod ({ cls := "TissueBalloonsModel", name := "burnt", desc := "()F" } : Jvm.MethodName)) ∈ lw_all := lw_g (lw_at lw_m15 53 rfl) rfl
theorem q3491 : (Jvm.Cond.selects "TissueBalloonsModel" ({ cls := "TissueBalloonsModel", name := "burnt", desc := "()F" } : Jvm.MethodName) ({ cls := "TissueBalloonsModel", name := "burnt", desc := "()F" } : Jvm.MethodName)) ∈ lw_all := lw_g (lw_at lw_m15 54 rfl) rfl
theorem q3492 : (Jvm.Cond.code ({ cls := "TissueBalloonsModel", name := "burnt", desc := "()F" } : Jvm.MethodName) prog_14_method_87_code (1 : Nat) (Option.some Jvm.ClassFile.FieldType.float)) ∈ lw_all := lw_g (lw_at lw_m15 55 rfl) rfl
theorem q3494 : (Jvm.Cond.instanceMethod ({ cls := "TissueBalloonsModel", name := "undo", desc := "()I" } : Jvm.MethodName)) ∈ lw_all := lw_g (lw_at lw_m15 57 rfl) rfl
theorem q3495 : (Jvm.Cond.selects "TissueBalloonsModel" ({ cls := "TissueBalloonsModel", name := "undo", desc := "()I" } : Jvm.MethodName) ({ cls := "TissueBalloonsModel", name := "undo", desc := "()I" } : Jvm.MethodName)) ∈ lw_all := lw_g (lw_at lw_m15 58 rfl) rfl
theorem q3496 : (Jvm.Cond.code ({ cls := "TissueBalloonsModel", name := "undo", desc := "()I" } : Jvm.MethodName) prog_14_method_88_code (1 : Nat) (Option.some Jvm.ClassFile.FieldType.int)) ∈ lw_all := lw_g (lw_at lw_m15 59 rfl) rfl
theorem q3498 : (Jvm.Cond.instanceMethod ({ cls := "TissueBalloonsModel", name := "save", desc := "()I" } : Jvm.MethodName)) ∈ lw_all := lw_g (lw_at lw_m15 61 rfl) rfl
theorem q3499 : (Jvm.Cond.selects "TissueBalloonsModel" ({ cls := "TissueBalloonsModel", name := "save", desc := "()I" } : Jvm.MethodName) ({ cls := "TissueBalloonsModel", name := "save", desc := "()I" } : Jvm.MethodName)) ∈ lw_all := lw_g (lw_at lw_m15 62 rfl) rfl
theorem q3500 : (Jvm.Cond.code ({ cls := "TissueBalloonsModel", name := "save", desc := "()I" } : Jvm.MethodName) prog_14_method_89_code (1 : Nat) (Option.some Jvm.ClassFile.FieldType.int)) ∈ lw_all := lw_g (lw_at lw_m15 63 rfl) rfl
theorem q3502 : (Jvm.Cond.instanceMethod ({ cls := "TissueBalloonsModel", name := "restore", desc := "()I" } : Jvm.MethodName)) ∈ lw_all := lw_g (lw_at lw_m15 65 rfl) rfl
theorem q3503 : (Jvm.Cond.selects "TissueBalloonsModel" ({ cls := "TissueBalloonsModel", name := "restore", desc := "()I" } : Jvm.MethodName) ({ cls := "TissueBalloonsModel", name := "restore", desc := "()I" } : Jvm.MethodName)) ∈ lw_all := lw_g (lw_at lw_m15 66 rfl) rfl
theorem q3504 : (Jvm.Cond.code ({ cls := "TissueBalloonsModel", name := "restore", desc := "()I" } : Jvm.MethodName) prog_14_method_90_code (1 : Nat) (Option.some Jvm.ClassFile.FieldType.int)) ∈ lw_all := lw_g (lw_at lw_m15 67 rfl) rfl
theorem q3542 : (Jvm.Cond.castable "TissueBalloonsModel" "java/lang/Object") ∈ lw_tbl := lw_at lw_m15 105 rfl
def RX7 : String := "TissueBalloons$Roof"
def TX7 : u_T := fun k => match k with
  | 0 => ("TissueBalloons$Roof", "wet", "I", false)
  | 1 => ("TissueBalloons$Roof", "isWatched", "Z", false)
  | 2 => ("TissueBalloons$Roof", "isBurnt", "Z", false)
  | _ => ("TissueBalloons$Roof", "landed", "I", false)
def tyX7 : Nat → FieldType := fun k => match k with
  | 0 => .int
  | 1 => .boolean
  | 2 => .boolean
  | _ => .int
abbrev wsX70 : List Cond := u_ws RX7 TX7 4
theorem nmX7 : ∀ a, a < 4 → ∀ b, b < 4 → a ≠ b → (TX7 a).2.1 ≠ (TX7 b).2.1 := by decide +kernel
theorem tyX7_ok : ∀ k, k < 4 → parseFieldDescriptor (TX7 k).2.2.1 = some (tyX7 k) := by decide +kernel
theorem q121 : (Jvm.Cond.initialized "TissueBalloons$Roof") ∈ lw_all := lw_g (lw_at lw_m1 44 rfl) rfl
theorem q525 : (Jvm.Cond.selects "TissueBalloons$Roof" ({ cls := "java/lang/Object", name := "getClass", desc := "()Ljava/lang/Class;" } : Jvm.MethodName) ({ cls := "java/lang/Object", name := "getClass", desc := "()Ljava/lang/Class;" } : Jvm.MethodName)) ∈ lw_all := lw_g (lw_at lw_m2 208 rfl) rfl
theorem q1284 : (Jvm.Cond.instanceMethod ({ cls := "TissueBalloons$Roof", name := "like", desc := "()LTissueBalloons$Roof;" } : Jvm.MethodName)) ∈ lw_all := lw_g (lw_at lw_m6 7 rfl) rfl
theorem q1285 : (Jvm.Cond.selects "TissueBalloons$Roof" ({ cls := "TissueBalloons$Roof", name := "like", desc := "()LTissueBalloons$Roof;" } : Jvm.MethodName) ({ cls := "TissueBalloons$Roof", name := "like", desc := "()LTissueBalloons$Roof;" } : Jvm.MethodName)) ∈ lw_all := lw_g (lw_at lw_m6 8 rfl) rfl
theorem q1286 : (Jvm.Cond.code ({ cls := "TissueBalloons$Roof", name := "like", desc := "()LTissueBalloons$Roof;" } : Jvm.MethodName) prog_11_method_2_code (2 : Nat) (Option.some (Jvm.ClassFile.FieldType.object "TissueBalloons$Roof"))) ∈ lw_all := lw_g (lw_at lw_m6 9 rfl) rfl
theorem q1287 : (Jvm.Cond.classLink "TissueBalloons$Roof" (10 : Nat) "TissueBalloons$Roof") ∈ lw_all := lw_g (lw_at lw_m6 10 rfl) rfl
theorem q1288 : (Jvm.Cond.instantiable "TissueBalloons$Roof" (4 : Nat)) ∈ lw_all := lw_g (lw_at lw_m6 11 rfl) rfl
theorem q1289 : (Jvm.Cond.methodLink "TissueBalloons$Roof" (15 : Nat) ({ cls := "TissueBalloons$Roof", name := "<init>", desc := "(I)V" } : Jvm.MethodName)) ∈ lw_all := lw_g (lw_at lw_m6 12 rfl) rfl
theorem q1290 : (Jvm.Cond.instanceMethod ({ cls := "TissueBalloons$Roof", name := "<init>", desc := "(I)V" } : Jvm.MethodName)) ∈ lw_all := lw_g (lw_at lw_m6 13 rfl) rfl
theorem q1291 : (Jvm.Cond.code ({ cls := "TissueBalloons$Roof", name := "<init>", desc := "(I)V" } : Jvm.MethodName) prog_11_method_1_code (2 : Nat) (Option.none : Option Jvm.ClassFile.FieldType)) ∈ lw_all := lw_g (lw_at lw_m6 14 rfl) rfl
theorem q1292 : (Jvm.Cond.methodLink "TissueBalloons$Roof" (3 : Nat) ({ cls := "java/lang/Object", name := "<init>", desc := "()V" } : Jvm.MethodName)) ∈ lw_all := lw_g (lw_at lw_m6 15 rfl) rfl
theorem q1293 : (Jvm.Cond.fieldLink "TissueBalloons$Roof" (9 : Nat) "TissueBalloons$Roof" "wet" "I") ∈ lw_all := lw_g (lw_at lw_m6 16 rfl) rfl
theorem q1296 : (Jvm.Cond.fieldLink "TissueBalloons$Roof" (18 : Nat) "TissueBalloons$Roof" "isWatched" "Z") ∈ lw_all := lw_g (lw_at lw_m6 19 rfl) rfl
theorem q1299 : (Jvm.Cond.fieldLink "TissueBalloons$Roof" (22 : Nat) "TissueBalloons$Roof" "isBurnt" "Z") ∈ lw_all := lw_g (lw_at lw_m6 22 rfl) rfl
theorem q1302 : (Jvm.Cond.fieldLink "TissueBalloons$Roof" (25 : Nat) "TissueBalloons$Roof" "landed" "I") ∈ lw_all := lw_g (lw_at lw_m6 25 rfl) rfl
theorem q1305 : (Jvm.Cond.lays "TissueBalloons$Roof" "TissueBalloons$Roof" "wet" "I") ∈ lw_all := lw_g (lw_at lw_m6 28 rfl) rfl
theorem q1306 : (Jvm.Cond.soleField "TissueBalloons$Roof" "wet") ∈ lw_all := lw_g (lw_at lw_m6 29 rfl) rfl
theorem q1307 : (Jvm.Cond.lays "TissueBalloons$Roof" "TissueBalloons$Roof" "isWatched" "Z") ∈ lw_all := lw_g (lw_at lw_m6 30 rfl) rfl
theorem q1308 : (Jvm.Cond.soleField "TissueBalloons$Roof" "isWatched") ∈ lw_all := lw_g (lw_at lw_m6 31 rfl) rfl
theorem q1309 : (Jvm.Cond.lays "TissueBalloons$Roof" "TissueBalloons$Roof" "isBurnt" "Z") ∈ lw_all := lw_g (lw_at lw_m6 32 rfl) rfl
theorem q1310 : (Jvm.Cond.soleField "TissueBalloons$Roof" "isBurnt") ∈ lw_all := lw_g (lw_at lw_m6 33 rfl) rfl
theorem q1311 : (Jvm.Cond.lays "TissueBalloons$Roof" "TissueBalloons$Roof" "landed" "I") ∈ lw_all := lw_g (lw_at lw_m6 34 rfl) rfl
theorem q1312 : (Jvm.Cond.soleField "TissueBalloons$Roof" "landed") ∈ lw_all := lw_g (lw_at lw_m6 35 rfl) rfl
theorem q1313 : (Jvm.Cond.superclass "TissueBalloons$Roof" "java/lang/Object") ∈ lw_all := lw_g (lw_at lw_m6 36 rfl) rfl
theorem q2650 : (Jvm.Cond.instanceMethod ({ cls := "TissueBalloons$Roof", name := "catches", desc := "(I)Z" } : Jvm.MethodName)) ∈ lw_all := lw_g (lw_at lw_m11 173 rfl) rfl
theorem q2651 : (Jvm.Cond.selects "TissueBalloons$Roof" ({ cls := "TissueBalloons$Roof", name := "catches", desc := "(I)Z" } : Jvm.MethodName) ({ cls := "TissueBalloons$Roof", name := "catches", desc := "(I)Z" } : Jvm.MethodName)) ∈ lw_all := lw_g (lw_at lw_m11 174 rfl) rfl
theorem q2652 : (Jvm.Cond.code ({ cls := "TissueBalloons$Roof", name := "catches", desc := "(I)Z" } : Jvm.MethodName) prog_11_method_3_code (2 : Nat) (Option.some Jvm.ClassFile.FieldType.boolean)) ∈ lw_all := lw_g (lw_at lw_m11 175 rfl) rfl
theorem q3551 : (Jvm.Cond.castable "TissueBalloons$Roof" "java/lang/Object") ∈ lw_tbl := lw_at lw_m15 114 rfl
def RX8 : String := "TissueBalloons$Spot"
def TX8 : u_T := fun k => match k with
  | _ => ("TissueBalloons$Spot", "place", "I", true)
def tyX8 : Nat → FieldType := fun k => match k with
  | _ => .int
abbrev wsX80 : List Cond := u_ws RX8 TX8 1
theorem nmX8 : ∀ a, a < 1 → ∀ b, b < 1 → a ≠ b → (TX8 a).2.1 ≠ (TX8 b).2.1 := by decide +kernel
theorem tyX8_ok : ∀ k, k < 1 → parseFieldDescriptor (TX8 k).2.2.1 = some (tyX8 k) := by decide +kernel
theorem q132 : (Jvm.Cond.initialized "TissueBalloons$Spot") ∈ lw_all := lw_g (lw_at lw_m1 55 rfl) rfl
theorem q526 : (Jvm.Cond.selects "TissueBalloons$Spot" ({ cls := "java/lang/Object", name := "getClass", desc := "()Ljava/lang/Class;" } : Jvm.MethodName) ({ cls := "java/lang/Object", name := "getClass", desc := "()Ljava/lang/Class;" } : Jvm.MethodName)) ∈ lw_all := lw_g (lw_at lw_m2 209 rfl) rfl
theorem q693 : (Jvm.Cond.castable "TissueBalloons$Spot" "java/lang/Comparable") ∈ lw_tbl := lw_at lw_m3 136 rfl
theorem q694 : (Jvm.Cond.selects "TissueBalloons$Spot" ({ cls := "java/lang/Comparable", name := "compareTo", desc := "(Ljava/lang/Object;)I" } : Jvm.MethodName) ({ cls := "TissueBalloons$Spot", name := "compareTo", desc := "(Ljava/lang/Object;)I" } : Jvm.MethodName)) ∈ lw_all := lw_g (lw_at lw_m3 137 rfl) rfl
theorem q695 : (Jvm.Cond.unhidden "TissueBalloons$Spot" "compareTo" "(Ljava/lang/Object;)I") ∈ lw_tbl := lw_at lw_m3 138 rfl
theorem q696 : (Jvm.Cond.instanceMethod ({ cls := "TissueBalloons$Spot", name := "compareTo", desc := "(Ljava/lang/Object;)I" } : Jvm.MethodName)) ∈ lw_all := lw_g (lw_at lw_m3 139 rfl) rfl
theorem q697 : (Jvm.Cond.publicMethod ({ cls := "TissueBalloons$Spot", name := "compareTo", desc := "(Ljava/lang/Object;)I" } : Jvm.MethodName)) ∈ lw_tbl := lw_at lw_m3 140 rfl
theorem q698 : (Jvm.Cond.code ({ cls := "TissueBalloons$Spot", name := "compareTo", desc := "(Ljava/lang/Object;)I" } : Jvm.MethodName) prog_12_method_3_code (2 : Nat) (Option.some Jvm.ClassFile.FieldType.int)) ∈ lw_all := lw_g (lw_at lw_m3 141 rfl) rfl
theorem q699 : (Jvm.Cond.classLink "TissueBalloons$Spot" (8 : Nat) "TissueBalloons$Spot") ∈ lw_all := lw_g (lw_at lw_m3 142 rfl) rfl
theorem q700 : (Jvm.Cond.methodLink "TissueBalloons$Spot" (13 : Nat) ({ cls := "TissueBalloons$Spot", name := "compareTo", desc := "(LTissueBalloons$Spot;)I" } : Jvm.MethodName)) ∈ lw_all := lw_g (lw_at lw_m3 143 rfl) rfl
theorem q701 : (Jvm.Cond.instanceMethod ({ cls := "TissueBalloons$Spot", name := "compareTo", desc := "(LTissueBalloons$Spot;)I" } : Jvm.MethodName)) ∈ lw_all := lw_g (lw_at lw_m3 144 rfl) rfl
theorem q702 : (Jvm.Cond.selects "TissueBalloons$Spot" ({ cls := "TissueBalloons$Spot", name := "compareTo", desc := "(LTissueBalloons$Spot;)I" } : Jvm.MethodName) ({ cls := "TissueBalloons$Spot", name := "compareTo", desc := "(LTissueBalloons$Spot;)I" } : Jvm.MethodName)) ∈ lw_all := lw_g (lw_at lw_m3 145 rfl) rfl
theorem q703 : (Jvm.Cond.code ({ cls := "TissueBalloons$Spot", name := "compareTo", desc := "(LTissueBalloons$Spot;)I" } : Jvm.MethodName) prog_12_method_2_code (2 : Nat) (Option.some Jvm.ClassFile.FieldType.int)) ∈ lw_all := lw_g (lw_at lw_m3 146 rfl) rfl
theorem q1837 : (Jvm.Cond.instantiable "TissueBalloons$Spot" (1 : Nat)) ∈ lw_all := lw_g (lw_at lw_m8 80 rfl) rfl
theorem q1839 : (Jvm.Cond.instanceMethod ({ cls := "TissueBalloons$Spot", name := "<init>", desc := "(I)V" } : Jvm.MethodName)) ∈ lw_all := lw_g (lw_at lw_m8 82 rfl) rfl
theorem q1840 : (Jvm.Cond.code ({ cls := "TissueBalloons$Spot", name := "<init>", desc := "(I)V" } : Jvm.MethodName) prog_12_method_1_code (2 : Nat) (Option.none : Option Jvm.ClassFile.FieldType)) ∈ lw_all := lw_g (lw_at lw_m8 83 rfl) rfl
theorem q1841 : (Jvm.Cond.methodLink "TissueBalloons$Spot" (1 : Nat) ({ cls := "java/lang/Object", name := "<init>", desc := "()V" } : Jvm.MethodName)) ∈ lw_all := lw_g (lw_at lw_m8 84 rfl) rfl
theorem q1842 : (Jvm.Cond.fieldLink "TissueBalloons$Spot" (7 : Nat) "TissueBalloons$Spot" "place" "I") ∈ lw_all := lw_g (lw_at lw_m8 85 rfl) rfl
theorem q1845 : (Jvm.Cond.laysFinal "TissueBalloons$Spot" "TissueBalloons$Spot" "place" "I") ∈ lw_all := lw_g (lw_at lw_m8 88 rfl) rfl
theorem q1846 : (Jvm.Cond.soleField "TissueBalloons$Spot" "place") ∈ lw_all := lw_g (lw_at lw_m8 89 rfl) rfl
theorem q1847 : (Jvm.Cond.superclass "TissueBalloons$Spot" "java/lang/Object") ∈ lw_all := lw_g (lw_at lw_m8 90 rfl) rfl
theorem q3554 : (Jvm.Cond.castable "TissueBalloons$Spot" "java/lang/Object") ∈ lw_tbl := lw_at lw_m15 117 rfl
def RX9 : String := "TissueBalloons$Refused"
def TX9 : u_T := fun k => match k with
  | 0 => ("java/lang/Throwable", "cause", "Ljava/lang/Throwable;", false)
  | 1 => ("java/lang/Throwable", "stackTrace", "[Ljava/lang/StackTraceElement;", false)
  | 2 => ("java/lang/Throwable", "suppressedExceptions", "Ljava/util/List;", false)
  | 3 => ("java/lang/Throwable", "detailMessage", "Ljava/lang/String;", false)
  | 4 => ("java/lang/Throwable", "backtrace", "Ljava/lang/Object;", false)
  | 5 => ("java/lang/Throwable", "depth", "I", false)
  | 6 => ("TissueBalloons$Refused", "reason", "I", true)
  | _ => ("TissueBalloons$Refused", "detail", "I", true)
def tyX9 : Nat → FieldType := fun k => match k with
  | 0 => .object "java/lang/Throwable"
  | 1 => .array (.object "java/lang/StackTraceElement")
  | 2 => .object "java/util/List"
  | 3 => .object "java/lang/String"
  | 4 => .object "java/lang/Object"
  | 5 => .int
  | 6 => .int
  | _ => .int
abbrev wsX90 : List Cond := u_ws RX9 TX9 8
theorem nmX9 : ∀ a, a < 8 → ∀ b, b < 8 → a ≠ b → (TX9 a).2.1 ≠ (TX9 b).2.1 := by decide +kernel
theorem tyX9_ok : ∀ k, k < 8 → parseFieldDescriptor (TX9 k).2.2.1 = some (tyX9 k) := by decide +kernel
theorem q133 : (Jvm.Cond.initialized "TissueBalloons$Refused") ∈ lw_all := lw_g (lw_at lw_m1 56 rfl) rfl
theorem q468 : (Jvm.Cond.selects "TissueBalloons$Refused" ({ cls := "java/lang/Throwable", name := "fillInStackTrace", desc := "()Ljava/lang/Throwable;" } : Jvm.MethodName) ({ cls := "java/lang/Throwable", name := "fillInStackTrace", desc := "()Ljava/lang/Throwable;" } : Jvm.MethodName)) ∈ lw_all := lw_g (lw_at lw_m2 151 rfl) rfl
theorem q524 : (Jvm.Cond.selects "TissueBalloons$Refused" ({ cls := "java/lang/Object", name := "getClass", desc := "()Ljava/lang/Class;" } : Jvm.MethodName) ({ cls := "java/lang/Object", name := "getClass", desc := "()Ljava/lang/Class;" } : Jvm.MethodName)) ∈ lw_all := lw_g (lw_at lw_m2 207 rfl) rfl
theorem q1863 : (Jvm.Cond.instantiable "TissueBalloons$Refused" (8 : Nat)) ∈ lw_all := lw_g (lw_at lw_m8 106 rfl) rfl
theorem q1864 : (Jvm.Cond.castable "TissueBalloons$Refused" "TissueBalloons$Refused") ∈ lw_tbl := lw_at lw_m8 107 rfl
theorem q1865 : (Jvm.Cond.selects "TissueBalloons$Refused" ({ cls := "java/lang/Throwable", name := "fillInStackTrace", desc := "(I)Ljava/lang/Throwable;" } : Jvm.MethodName) ({ cls := "java/lang/Throwable", name := "fillInStackTrace", desc := "(I)Ljava/lang/Throwable;" } : Jvm.MethodName)) ∈ lw_all := lw_g (lw_at lw_m8 108 rfl) rfl
theorem q1866 : (Jvm.Cond.lays "TissueBalloons$Refused" "java/lang/Throwable" "cause" "Ljava/lang/Throwable;") ∈ lw_all := lw_g (lw_at lw_m8 109 rfl) rfl
theorem q1867 : (Jvm.Cond.lays "TissueBalloons$Refused" "java/lang/Throwable" "stackTrace" "[Ljava/lang/StackTraceElement;") ∈ lw_all := lw_g (lw_at lw_m8 110 rfl) rfl
theorem q1868 : (Jvm.Cond.lays "TissueBalloons$Refused" "java/lang/Throwable" "suppressedExceptions" "Ljava/util/List;") ∈ lw_all := lw_g (lw_at lw_m8 111 rfl) rfl
theorem q1869 : (Jvm.Cond.lays "TissueBalloons$Refused" "java/lang/Throwable" "detailMessage" "Ljava/lang/String;") ∈ lw_all := lw_g (lw_at lw_m8 112 rfl) rfl
theorem q1870 : (Jvm.Cond.lays "TissueBalloons$Refused" "java/lang/Throwable" "backtrace" "Ljava/lang/Object;") ∈ lw_all := lw_g (lw_at lw_m8 113 rfl) rfl
theorem q1872 : (Jvm.Cond.instanceMethod ({ cls := "TissueBalloons$Refused", name := "<init>", desc := "(II)V" } : Jvm.MethodName)) ∈ lw_all := lw_g (lw_at lw_m8 115 rfl) rfl
theorem q1873 : (Jvm.Cond.code ({ cls := "TissueBalloons$Refused", name := "<init>", desc := "(II)V" } : Jvm.MethodName) prog_10_method_1_code (3 : Nat) (Option.none : Option Jvm.ClassFile.FieldType)) ∈ lw_all := lw_g (lw_at lw_m8 116 rfl) rfl
theorem q1874 : (Jvm.Cond.methodLink "TissueBalloons$Refused" (1 : Nat) ({ cls := "java/lang/Exception", name := "<init>", desc := "()V" } : Jvm.MethodName)) ∈ lw_all := lw_g (lw_at lw_m8 117 rfl) rfl
theorem q1875 : (Jvm.Cond.fieldLink "TissueBalloons$Refused" (7 : Nat) "TissueBalloons$Refused" "reason" "I") ∈ lw_all := lw_g (lw_at lw_m8 118 rfl) rfl
theorem q1877 : (Jvm.Cond.fieldLink "TissueBalloons$Refused" (13 : Nat) "TissueBalloons$Refused" "detail" "I") ∈ lw_all := lw_g (lw_at lw_m8 120 rfl) rfl
theorem q1879 : (Jvm.Cond.laysFinal "TissueBalloons$Refused" "TissueBalloons$Refused" "reason" "I") ∈ lw_all := lw_g (lw_at lw_m8 122 rfl) rfl
theorem q1880 : (Jvm.Cond.soleField "TissueBalloons$Refused" "reason") ∈ lw_all := lw_g (lw_at lw_m8 123 rfl) rfl
theorem q1881 : (Jvm.Cond.laysFinal "TissueBalloons$Refused" "TissueBalloons$Refused" "detail" "I") ∈ lw_all := lw_g (lw_at lw_m8 124 rfl) rfl
theorem q1882 : (Jvm.Cond.soleField "TissueBalloons$Refused" "detail") ∈ lw_all := lw_g (lw_at lw_m8 125 rfl) rfl
theorem q1883 : (Jvm.Cond.lays "TissueBalloons$Refused" "java/lang/Throwable" "depth" "I") ∈ lw_all := lw_g (lw_at lw_m8 126 rfl) rfl
theorem q1884 : (Jvm.Cond.superclass "TissueBalloons$Refused" "java/lang/Exception") ∈ lw_all := lw_g (lw_at lw_m8 127 rfl) rfl
theorem q3555 : (Jvm.Cond.castable "TissueBalloons$Refused" "java/lang/Object") ∈ lw_tbl := lw_at lw_m15 118 rfl
theorem q2710 : (Jvm.Cond.sameMethod "[B" "java/lang/Object" "clone" "()Ljava/lang/Object;") ∈ lw_all := lw_g (lw_at lw_m11 233 rfl) rfl
theorem q2713 : (Jvm.Cond.selects "[B" ({ cls := "[B", name := "clone", desc := "()Ljava/lang/Object;" } : Jvm.MethodName) ({ cls := "java/lang/Object", name := "clone", desc := "()Ljava/lang/Object;" } : Jvm.MethodName)) ∈ lw_all := lw_g (lw_at lw_m11 236 rfl) rfl
theorem q2714 : (Jvm.Cond.castable "[B" "java/lang/Cloneable") ∈ lw_tbl := lw_at lw_m11 237 rfl
theorem q3582 : (Jvm.Cond.castable "[B" "java/lang/Object") ∈ lw_tbl := lw_at lw_m15 145 rfl
theorem q3583 : (Jvm.Cond.castable "[C" "java/lang/Object") ∈ lw_tbl := lw_at lw_m15 146 rfl
theorem q3585 : (Jvm.Cond.castable "[D" "java/lang/Object") ∈ lw_tbl := lw_at lw_m15 148 rfl
theorem q3578 : (Jvm.Cond.castable "[I" "java/lang/Object") ∈ lw_tbl := lw_at lw_m15 141 rfl
theorem q3584 : (Jvm.Cond.castable "[J" "java/lang/Object") ∈ lw_tbl := lw_at lw_m15 147 rfl
theorem q3579 : (Jvm.Cond.castable "[LTissueBalloons$Balloon;" "java/lang/Object") ∈ lw_tbl := lw_at lw_m15 142 rfl
theorem q3580 : (Jvm.Cond.castable "[LTissueBalloons$Crew;" "java/lang/Object") ∈ lw_tbl := lw_at lw_m15 143 rfl
theorem q3575 : (Jvm.Cond.sameMethod "[Ljava/lang/Object;" "java/lang/Object" "getClass" "()Ljava/lang/Class;") ∈ lw_all := lw_g (lw_at lw_m15 138 rfl) rfl
theorem q3576 : (Jvm.Cond.selects "[Ljava/lang/Object;" ({ cls := "java/lang/Object", name := "getClass", desc := "()Ljava/lang/Class;" } : Jvm.MethodName) ({ cls := "java/lang/Object", name := "getClass", desc := "()Ljava/lang/Class;" } : Jvm.MethodName)) ∈ lw_all := lw_g (lw_at lw_m15 139 rfl) rfl
theorem q3581 : (Jvm.Cond.castable "[Ljava/lang/Object;" "java/lang/Object") ∈ lw_tbl := lw_at lw_m15 144 rfl
theorem q680 : (Jvm.Cond.interfaceMethod "java/lang/Comparable" "java/lang/Comparable" "compareTo" "(Ljava/lang/Object;)I") ∈ lw_tbl := lw_at lw_m3 123 rfl
theorem q681 : (Jvm.Cond.declares ({ cls := "java/lang/Comparable", name := "compareTo", desc := "(Ljava/lang/Object;)I" } : Jvm.MethodName)) ∈ lw_tbl := lw_at lw_m3 124 rfl
theorem q111 : (Jvm.Cond.initialized "java/lang/Number") ∈ lw_all := lw_g (lw_at lw_m1 34 rfl) rfl
theorem q99 : (Jvm.Cond.initialized "java/lang/System") ∈ lw_all := lw_g (lw_at lw_m1 22 rfl) rfl
theorem q567 : (Jvm.Cond.static ({ cls := "java/lang/System", name := "arraycopy", desc := "(Ljava/lang/Object;ILjava/lang/Object;II)V" } : Jvm.MethodName)) ∈ lw_all := lw_g (lw_at lw_m3 10 rfl) rfl
theorem q568 : (Jvm.Cond.native ({ cls := "java/lang/System", name := "arraycopy", desc := "(Ljava/lang/Object;ILjava/lang/Object;II)V" } : Jvm.MethodName)) ∈ lw_all := lw_g (lw_at lw_m3 11 rfl) rfl
theorem q2070 : (Jvm.Cond.interfaceMethod "java/util/Collection" "java/util/Collection" "iterator" "()Ljava/util/Iterator;") ∈ lw_tbl := lw_at lw_m9 73 rfl
theorem q2071 : (Jvm.Cond.declares ({ cls := "java/util/Collection", name := "iterator", desc := "()Ljava/util/Iterator;" } : Jvm.MethodName)) ∈ lw_tbl := lw_at lw_m9 74 rfl
theorem q2308 : (Jvm.Cond.publicMethod ({ cls := "java/util/Collection", name := "size", desc := "()I" } : Jvm.MethodName)) ∈ lw_tbl := lw_at lw_m10 71 rfl
theorem q2309 : (Jvm.Cond.declares ({ cls := "java/util/Collection", name := "size", desc := "()I" } : Jvm.MethodName)) ∈ lw_tbl := lw_at lw_m10 72 rfl
theorem q912 : (Jvm.Cond.interfaceMethod "java/util/Comparator" "java/util/Comparator" "compare" "(Ljava/lang/Object;Ljava/lang/Object;)I") ∈ lw_tbl := lw_at lw_m4 115 rfl
theorem q913 : (Jvm.Cond.declares ({ cls := "java/util/Comparator", name := "compare", desc := "(Ljava/lang/Object;Ljava/lang/Object;)I" } : Jvm.MethodName)) ∈ lw_tbl := lw_at lw_m4 116 rfl
theorem q1097 : (Jvm.Cond.interfaceMethod "java/util/Iterator" "java/util/Iterator" "hasNext" "()Z") ∈ lw_tbl := lw_at lw_m5 60 rfl
theorem q1098 : (Jvm.Cond.declares ({ cls := "java/util/Iterator", name := "hasNext", desc := "()Z" } : Jvm.MethodName)) ∈ lw_tbl := lw_at lw_m5 61 rfl
theorem q1138 : (Jvm.Cond.interfaceMethod "java/util/Iterator" "java/util/Iterator" "next" "()Ljava/lang/Object;") ∈ lw_tbl := lw_at lw_m5 101 rfl
theorem q1139 : (Jvm.Cond.declares ({ cls := "java/util/Iterator", name := "next", desc := "()Ljava/lang/Object;" } : Jvm.MethodName)) ∈ lw_tbl := lw_at lw_m5 102 rfl
theorem q1537 : (Jvm.Cond.interfaceMethod "java/util/Iterator" "java/util/Iterator" "remove" "()V") ∈ lw_tbl := lw_at lw_m7 20 rfl
theorem q1538 : (Jvm.Cond.declares ({ cls := "java/util/Iterator", name := "remove", desc := "()V" } : Jvm.MethodName)) ∈ lw_tbl := lw_at lw_m7 21 rfl
theorem q1404 : (Jvm.Cond.publicMethod ({ cls := "java/util/Map", name := "clear", desc := "()V" } : Jvm.MethodName)) ∈ lw_tbl := lw_at lw_m6 127 rfl
theorem q1405 : (Jvm.Cond.declares ({ cls := "java/util/Map", name := "clear", desc := "()V" } : Jvm.MethodName)) ∈ lw_tbl := lw_at lw_m6 128 rfl
theorem q1676 : (Jvm.Cond.publicMethod ({ cls := "java/util/Map", name := "put", desc := "(Ljava/lang/Object;Ljava/lang/Object;)Ljava/lang/Object;" } : Jvm.MethodName)) ∈ lw_tbl := lw_at lw_m7 159 rfl
theorem q1677 : (Jvm.Cond.declares ({ cls := "java/util/Map", name := "put", desc := "(Ljava/lang/Object;Ljava/lang/Object;)Ljava/lang/Object;" } : Jvm.MethodName)) ∈ lw_tbl := lw_at lw_m7 160 rfl
theorem q2004 : (Jvm.Cond.publicMethod ({ cls := "java/util/Map", name := "size", desc := "()I" } : Jvm.MethodName)) ∈ lw_tbl := lw_at lw_m9 7 rfl
theorem q2005 : (Jvm.Cond.declares ({ cls := "java/util/Map", name := "size", desc := "()I" } : Jvm.MethodName)) ∈ lw_tbl := lw_at lw_m9 8 rfl
theorem q2331 : (Jvm.Cond.publicMethod ({ cls := "java/util/Map", name := "remove", desc := "(Ljava/lang/Object;)Ljava/lang/Object;" } : Jvm.MethodName)) ∈ lw_tbl := lw_at lw_m10 94 rfl
theorem q2332 : (Jvm.Cond.declares ({ cls := "java/util/Map", name := "remove", desc := "(Ljava/lang/Object;)Ljava/lang/Object;" } : Jvm.MethodName)) ∈ lw_tbl := lw_at lw_m10 95 rfl
theorem q2514 : (Jvm.Cond.publicMethod ({ cls := "java/util/Map", name := "isEmpty", desc := "()Z" } : Jvm.MethodName)) ∈ lw_tbl := lw_at lw_m11 37 rfl
theorem q2515 : (Jvm.Cond.declares ({ cls := "java/util/Map", name := "isEmpty", desc := "()Z" } : Jvm.MethodName)) ∈ lw_tbl := lw_at lw_m11 38 rfl
theorem q1253 : (Jvm.Cond.interfaceMethod "java/util/Map$Entry" "java/util/Map$Entry" "getKey" "()Ljava/lang/Object;") ∈ lw_tbl := lw_at lw_m5 216 rfl
theorem q1254 : (Jvm.Cond.declares ({ cls := "java/util/Map$Entry", name := "getKey", desc := "()Ljava/lang/Object;" } : Jvm.MethodName)) ∈ lw_tbl := lw_at lw_m5 217 rfl
theorem q1270 : (Jvm.Cond.interfaceMethod "java/util/Map$Entry" "java/util/Map$Entry" "getValue" "()Ljava/lang/Object;") ∈ lw_tbl := lw_at lw_m5 233 rfl
theorem q1271 : (Jvm.Cond.declares ({ cls := "java/util/Map$Entry", name := "getValue", desc := "()Ljava/lang/Object;" } : Jvm.MethodName)) ∈ lw_tbl := lw_at lw_m5 234 rfl
theorem q1061 : (Jvm.Cond.interfaceMethod "java/util/NavigableMap" "java/util/NavigableMap" "navigableKeySet" "()Ljava/util/NavigableSet;") ∈ lw_tbl := lw_at lw_m5 24 rfl
theorem q1062 : (Jvm.Cond.declares ({ cls := "java/util/NavigableMap", name := "navigableKeySet", desc := "()Ljava/util/NavigableSet;" } : Jvm.MethodName)) ∈ lw_tbl := lw_at lw_m5 25 rfl
theorem q2224 : (Jvm.Cond.interfaceMethod "java/util/NavigableMap" "java/util/NavigableMap" "headMap" "(Ljava/lang/Object;Z)Ljava/util/NavigableMap;") ∈ lw_tbl := lw_at lw_m9 227 rfl
theorem q2225 : (Jvm.Cond.declares ({ cls := "java/util/NavigableMap", name := "headMap", desc := "(Ljava/lang/Object;Z)Ljava/util/NavigableMap;" } : Jvm.MethodName)) ∈ lw_tbl := lw_at lw_m9 228 rfl
theorem q2600 : (Jvm.Cond.interfaceMethod "java/util/NavigableMap" "java/util/NavigableMap" "pollFirstEntry" "()Ljava/util/Map$Entry;") ∈ lw_tbl := lw_at lw_m11 123 rfl
theorem q2601 : (Jvm.Cond.declares ({ cls := "java/util/NavigableMap", name := "pollFirstEntry", desc := "()Ljava/util/Map$Entry;" } : Jvm.MethodName)) ∈ lw_tbl := lw_at lw_m11 124 rfl
theorem q1089 : (Jvm.Cond.interfaceMethod "java/util/NavigableSet" "java/util/NavigableSet" "iterator" "()Ljava/util/Iterator;") ∈ lw_tbl := lw_at lw_m5 52 rfl
theorem q1090 : (Jvm.Cond.declares ({ cls := "java/util/NavigableSet", name := "iterator", desc := "()Ljava/util/Iterator;" } : Jvm.MethodName)) ∈ lw_tbl := lw_at lw_m5 53 rfl
theorem q649 : (Jvm.Cond.interfaceMethod "java/util/Set" "java/util/Set" "iterator" "()Ljava/util/Iterator;") ∈ lw_tbl := lw_at lw_m3 92 rfl
theorem q650 : (Jvm.Cond.declares ({ cls := "java/util/Set", name := "iterator", desc := "()Ljava/util/Iterator;" } : Jvm.MethodName)) ∈ lw_tbl := lw_at lw_m3 93 rfl
theorem q1445 : (Jvm.Cond.interfaceMethod "java/util/Set" "java/util/Set" "clear" "()V") ∈ lw_tbl := lw_at lw_m6 168 rfl
theorem q1446 : (Jvm.Cond.declares ({ cls := "java/util/Set", name := "clear", desc := "()V" } : Jvm.MethodName)) ∈ lw_tbl := lw_at lw_m6 169 rfl
theorem q1977 : (Jvm.Cond.interfaceMethod "java/util/Set" "java/util/Set" "size" "()I") ∈ lw_tbl := lw_at lw_m8 220 rfl
theorem q1978 : (Jvm.Cond.declares ({ cls := "java/util/Set", name := "size", desc := "()I" } : Jvm.MethodName)) ∈ lw_tbl := lw_at lw_m8 221 rfl
theorem q2527 : (Jvm.Cond.interfaceMethod "java/util/Set" "java/util/Set" "isEmpty" "()Z") ∈ lw_tbl := lw_at lw_m11 50 rfl
theorem q2528 : (Jvm.Cond.declares ({ cls := "java/util/Set", name := "isEmpty", desc := "()Z" } : Jvm.MethodName)) ∈ lw_tbl := lw_at lw_m11 51 rfl
theorem q2570 : (Jvm.Cond.publicMethod ({ cls := "java/util/SortedMap", name := "firstKey", desc := "()Ljava/lang/Object;" } : Jvm.MethodName)) ∈ lw_tbl := lw_at lw_m11 93 rfl
theorem q2571 : (Jvm.Cond.declares ({ cls := "java/util/SortedMap", name := "firstKey", desc := "()Ljava/lang/Object;" } : Jvm.MethodName)) ∈ lw_tbl := lw_at lw_m11 94 rfl
theorem q110 : (Jvm.Cond.initialized "jdk/internal/misc/UnsafeConstants") ∈ lw_all := lw_g (lw_at lw_m1 33 rfl) rfl
theorem q767 : (Jvm.Cond.laysStatic "jdk/internal/misc/UnsafeConstants" "BIG_ENDIAN" "Z") ∈ lw_tbl := lw_at lw_m3 210 rfl
theorem q197 : (Jvm.Cond.arrayClass Jvm.ClassFile.FieldType.int) ∈ lw_all := lw_g (lw_at lw_m1 120 rfl) rfl
theorem q220 : (Jvm.Cond.arrayOver (Jvm.ClassFile.FieldType.object "TissueBalloons$Balloon")) ∈ lw_tbl := lw_at lw_m1 143 rfl
theorem q222 : (Jvm.Cond.arrayOver (Jvm.ClassFile.FieldType.object "TissueBalloons$Crew")) ∈ lw_tbl := lw_at lw_m1 145 rfl
theorem q345 : (Jvm.Cond.arrayOver (Jvm.ClassFile.FieldType.object "java/lang/Object")) ∈ lw_tbl := lw_at lw_m2 28 rfl
theorem q390 : (Jvm.Cond.arrayClass Jvm.ClassFile.FieldType.byte) ∈ lw_all := lw_g (lw_at lw_m2 73 rfl) rfl
theorem q417 : (Jvm.Cond.arrayClass Jvm.ClassFile.FieldType.char) ∈ lw_all := lw_g (lw_at lw_m2 100 rfl) rfl
theorem q3505 : (Jvm.Cond.arrayClass Jvm.ClassFile.FieldType.long) ∈ lw_all := lw_g (lw_at lw_m15 68 rfl) rfl
theorem q3506 : (Jvm.Cond.arrayClass Jvm.ClassFile.FieldType.double) ∈ lw_all := lw_g (lw_at lw_m15 69 rfl) rfl
theorem in_J1 : ∀ w ∈ wsJ10, w ∈ lw_all := lw_in wsJ10 [192, 194, 178, 180, 182, 184, 186, 188, 190] (by decide +kernel) (by decide +kernel)
theorem in_J10 : ∀ w ∈ wsJ100, w ∈ lw_all := lw_in wsJ100 [446, 448, 450, 452, 454] (by decide +kernel) (by decide +kernel)
theorem in_J13 : ∀ w ∈ wsJ130, w ∈ lw_all := lw_in wsJ130 [445, 447, 449, 451, 453, 504] (by decide +kernel) (by decide +kernel)
theorem in_J16 : ∀ w ∈ wsJ160, w ∈ lw_all := lw_in wsJ160 [1774, 1775, 1776, 1777, 1778, 1783] (by decide +kernel) (by decide +kernel)
theorem in_J17 : ∀ w ∈ wsJ170, w ∈ lw_all := lw_in wsJ170 [1740, 1741, 1742, 1743, 1744, 1745] (by decide +kernel) (by decide +kernel)
theorem in_J18 : ∀ w ∈ wsJ180, w ∈ lw_all := lw_in wsJ180 [1700, 1701, 1702, 1703, 1704, 1710] (by decide +kernel) (by decide +kernel)
theorem in_J19 : ∀ w ∈ wsJ190, w ∈ lw_all := lw_in wsJ190 [644] (by decide +kernel) (by decide +kernel)
theorem in_J21 : ∀ w ∈ wsJ210, w ∈ lw_all := lw_in wsJ210 [966, 968, 970, 972, 974] (by decide +kernel) (by decide +kernel)
theorem in_J29 : ∀ w ∈ wsJ290, w ∈ lw_all := lw_in wsJ290 [997, 999, 1001, 1003] (by decide +kernel) (by decide +kernel)
theorem in_J30 : ∀ w ∈ wsJ300, w ∈ lw_all := lw_in wsJ300 [1024, 1025, 1026, 1027] (by decide +kernel) (by decide +kernel)
theorem in_J31 : ∀ w ∈ wsJ310, w ∈ lw_all := lw_in wsJ310 [1047, 1048, 1049, 1050, 1051, 1045] (by decide +kernel) (by decide +kernel)
theorem in_J32 : ∀ w ∈ wsJ320, w ∈ lw_all := lw_in wsJ320 [1076] (by decide +kernel) (by decide +kernel)
theorem in_J33 : ∀ w ∈ wsJ330, w ∈ lw_all := lw_in wsJ330 [1149, 1150, 1151, 1152, 1153, 1164] (by decide +kernel) (by decide +kernel)
theorem in_J34 : ∀ w ∈ wsJ340, w ∈ lw_all := lw_in wsJ340 [1352, 1354, 1356, 1358, 1360, 1362] (by decide +kernel) (by decide +kernel)
theorem in_J37 : ∀ w ∈ wsJ370, w ∈ lw_all := lw_in wsJ370 [1436, 1438, 1440, 1434] (by decide +kernel) (by decide +kernel)
theorem in_J38 : ∀ w ∈ wsJ380, w ∈ lw_all := lw_in wsJ380 [1475, 1477, 1479, 1481] (by decide +kernel) (by decide +kernel)
theorem in_J39 : ∀ w ∈ wsJ390, w ∈ lw_all := lw_in wsJ390 [1499, 1501, 1503, 1505, 1507, 1509] (by decide +kernel) (by decide +kernel)
theorem in_J4 : ∀ w ∈ wsJ40, w ∈ lw_all := lw_in wsJ40 [216] (by decide +kernel) (by decide +kernel)
theorem in_J40 : ∀ w ∈ wsJ400, w ∈ lw_all := lw_in wsJ400 [1525, 1526, 1527, 1528] (by decide +kernel) (by decide +kernel)
theorem in_J41 : ∀ w ∈ wsJ410, w ∈ lw_all := lw_in wsJ410 [1902, 1903, 1904, 1905, 1906, 1911] (by decide +kernel) (by decide +kernel)
theorem in_J43 : ∀ w ∈ wsJ430, w ∈ lw_all := lw_in wsJ430 [2433, 2435, 2437, 2439] (by decide +kernel) (by decide +kernel)
theorem in_J44 : ∀ w ∈ wsJ440, w ∈ lw_all := lw_in wsJ440 [2065] (by decide +kernel) (by decide +kernel)
theorem in_J46 : ∀ w ∈ wsJ460, w ∈ lw_all := lw_in wsJ460 [2263, 2265, 2267, 2269, 2271, 2273, 2275, 2277, 2279, 2281, 2283, 2284] (by decide +kernel) (by decide +kernel)
theorem in_J47 : ∀ w ∈ wsJ470, w ∈ lw_all := lw_in wsJ470 [2622, 2624] (by decide +kernel) (by decide +kernel)
theorem in_J48 : ∀ w ∈ wsJ480, w ∈ lw_all := lw_in wsJ480 [2957, 2958, 2959, 2960, 2961, 2962] (by decide +kernel) (by decide +kernel)
theorem in_J49 : ∀ w ∈ wsJ490, w ∈ lw_all := lw_in wsJ490 [3041, 3042, 3043, 3044, 3045, 3046] (by decide +kernel) (by decide +kernel)
theorem in_J5 : ∀ w ∈ wsJ50, w ∈ lw_all := lw_in wsJ50 [351, 353, 355] (by decide +kernel) (by decide +kernel)
theorem in_J7 : ∀ w ∈ wsJ70, w ∈ lw_all := lw_in wsJ70 [381, 383, 385, 387] (by decide +kernel) (by decide +kernel)
theorem in_J8 : ∀ w ∈ wsJ80, w ∈ lw_all := lw_in wsJ80 [1752, 1754, 2951, 2953] (by decide +kernel) (by decide +kernel)
theorem in_X1 : ∀ w ∈ wsX10, w ∈ lw_all := lw_in wsX10 [581, 583, 585, 587, 589, 591, 593, 595, 597, 599, 601] (by decide +kernel) (by decide +kernel)
theorem in_X10 : ∀ w ∈ wsX100, w ∈ lw_all := lw_in wsX100 [2206, 2208, 2210] (by decide +kernel) (by decide +kernel)
theorem in_X13 : ∀ w ∈ wsX130, w ∈ lw_all := lw_in wsX130 [2797, 2798, 2799, 2800, 2801, 2810, 2808] (by decide +kernel) (by decide +kernel)
theorem in_X2 : ∀ w ∈ wsX20, w ∈ lw_all := lw_in wsX20 [315, 317, 319, 321, 323, 325, 327, 329, 331, 333, 335] (by decide +kernel) (by decide +kernel)
theorem in_X3 : ∀ w ∈ wsX30, w ∈ lw_all := lw_in wsX30 [255, 257, 259, 261, 263, 265, 267, 269] (by decide +kernel) (by decide +kernel)
theorem in_X4 : ∀ w ∈ wsX40, w ∈ lw_all := lw_in wsX40 [286, 288, 290] (by decide +kernel) (by decide +kernel)
theorem in_X5 : ∀ w ∈ wsX50, w ∈ lw_all := lw_in wsX50 [404, 406, 408, 410, 412, 414] (by decide +kernel) (by decide +kernel)
theorem in_X6 : ∀ w ∈ wsX60, w ∈ lw_all := lw_in wsX60 [3114, 3116, 3118, 3120, 3122, 3124, 3126, 3128, 3130, 3132, 3134, 3136, 3138, 3140, 3142, 3144, 3146, 3148, 3150, 3152, 3154] (by decide +kernel) (by decide +kernel)
theorem in_X7 : ∀ w ∈ wsX70, w ∈ lw_all := lw_in wsX70 [1305, 1307, 1309, 1311] (by decide +kernel) (by decide +kernel)
theorem in_X8 : ∀ w ∈ wsX80, w ∈ lw_all := lw_in wsX80 [1845] (by decide +kernel) (by decide +kernel)
theorem in_X9 : ∀ w ∈ wsX90, w ∈ lw_all := lw_in wsX90 [1866, 1867, 1868, 1869, 1870, 1883, 1879, 1881] (by decide +kernel) (by decide +kernel)
def FWL : List (String × MethodName × MethodName) := [("java/util/TreeMap$AscendingSubMap$AscendingEntrySetView", (⟨"java/util/Set", "iterator", "()Ljava/util/Iterator;"⟩ : MethodName), (⟨"java/util/TreeMap$AscendingSubMap$AscendingEntrySetView", "iterator", "()Ljava/util/Iterator;"⟩ : MethodName)), ("java/util/TreeMap$AscendingSubMap$AscendingEntrySetView", (⟨"java/util/Collection", "iterator", "()Ljava/util/Iterator;"⟩ : MethodName), (⟨"java/util/TreeMap$AscendingSubMap$AscendingEntrySetView", "iterator", "()Ljava/util/Iterator;"⟩ : MethodName)), ("TissueBalloons$Plan", (⟨"java/lang/Comparable", "compareTo", "(Ljava/lang/Object;)I"⟩ : MethodName), (⟨"TissueBalloons$Plan", "compareTo", "(Ljava/lang/Object;)I"⟩ : MethodName)), ("TissueBalloons$Spot", (⟨"java/lang/Comparable", "compareTo", "(Ljava/lang/Object;)I"⟩ : MethodName), (⟨"TissueBalloons$Spot", "compareTo", "(Ljava/lang/Object;)I"⟩ : MethodName)), ("java/lang/String", (⟨"java/lang/Comparable", "compareTo", "(Ljava/lang/Object;)I"⟩ : MethodName), (⟨"java/lang/String", "compareTo", "(Ljava/lang/Object;)I"⟩ : MethodName)), ("java/lang/StringBuilder", (⟨"java/lang/Comparable", "compareTo", "(Ljava/lang/Object;)I"⟩ : MethodName), (⟨"java/lang/StringBuilder", "compareTo", "(Ljava/lang/Object;)I"⟩ : MethodName)), ("TissueBalloons$ByFlight", (⟨"java/util/Comparator", "compare", "(Ljava/lang/Object;Ljava/lang/Object;)I"⟩ : MethodName), (⟨"TissueBalloons$ByFlight", "compare", "(Ljava/lang/Object;Ljava/lang/Object;)I"⟩ : MethodName)), ("TissueBalloons$ByLayer", (⟨"java/util/Comparator", "compare", "(Ljava/lang/Object;Ljava/lang/Object;)I"⟩ : MethodName), (⟨"TissueBalloons$ByLayer", "compare", "(Ljava/lang/Object;Ljava/lang/Object;)I"⟩ : MethodName)), ("java/util/TreeMap$EntrySet", (⟨"java/util/Set", "iterator", "()Ljava/util/Iterator;"⟩ : MethodName), (⟨"java/util/TreeMap$EntrySet", "iterator", "()Ljava/util/Iterator;"⟩ : MethodName)), ("java/util/TreeMap$EntrySet", (⟨"java/util/Collection", "iterator", "()Ljava/util/Iterator;"⟩ : MethodName), (⟨"java/util/TreeMap$EntrySet", "iterator", "()Ljava/util/Iterator;"⟩ : MethodName)), ("java/util/TreeMap$KeySet", (⟨"java/util/Set", "iterator", "()Ljava/util/Iterator;"⟩ : MethodName), (⟨"java/util/TreeMap$KeySet", "iterator", "()Ljava/util/Iterator;"⟩ : MethodName)), ("java/util/TreeMap$KeySet", (⟨"java/util/NavigableSet", "iterator", "()Ljava/util/Iterator;"⟩ : MethodName), (⟨"java/util/TreeMap$KeySet", "iterator", "()Ljava/util/Iterator;"⟩ : MethodName)), ("java/util/TreeMap$KeySet", (⟨"java/util/Collection", "iterator", "()Ljava/util/Iterator;"⟩ : MethodName), (⟨"java/util/TreeMap$KeySet", "iterator", "()Ljava/util/Iterator;"⟩ : MethodName)), ("java/util/TreeSet", (⟨"java/util/Set", "iterator", "()Ljava/util/Iterator;"⟩ : MethodName), (⟨"java/util/TreeSet", "iterator", "()Ljava/util/Iterator;"⟩ : MethodName)), ("java/util/TreeSet", (⟨"java/util/NavigableSet", "iterator", "()Ljava/util/Iterator;"⟩ : MethodName), (⟨"java/util/TreeSet", "iterator", "()Ljava/util/Iterator;"⟩ : MethodName)), ("java/util/TreeSet", (⟨"java/util/Collection", "iterator", "()Ljava/util/Iterator;"⟩ : MethodName), (⟨"java/util/TreeSet", "iterator", "()Ljava/util/Iterator;"⟩ : MethodName)), ("java/util/TreeMap", (⟨"java/util/NavigableMap", "navigableKeySet", "()Ljava/util/NavigableSet;"⟩ : MethodName), (⟨"java/util/TreeMap", "navigableKeySet", "()Ljava/util/NavigableSet;"⟩ : MethodName)), ("java/util/TreeMap$AscendingSubMap", (⟨"java/util/NavigableMap", "navigableKeySet", "()Ljava/util/NavigableSet;"⟩ : MethodName), (⟨"java/util/TreeMap$NavigableSubMap", "navigableKeySet", "()Ljava/util/NavigableSet;"⟩ : MethodName)), ("java/util/ArrayDeque$DeqIterator", (⟨"java/util/Iterator", "hasNext", "()Z"⟩ : MethodName), (⟨"java/util/ArrayDeque$DeqIterator", "hasNext", "()Z"⟩ : MethodName)), ("java/util/PriorityQueue$Itr", (⟨"java/util/Iterator", "hasNext", "()Z"⟩ : MethodName), (⟨"java/util/PriorityQueue$Itr", "hasNext", "()Z"⟩ : MethodName)), ("java/util/TreeMap$EntryIterator", (⟨"java/util/Iterator", "hasNext", "()Z"⟩ : MethodName), (⟨"java/util/TreeMap$PrivateEntryIterator", "hasNext", "()Z"⟩ : MethodName)), ("java/util/TreeMap$KeyIterator", (⟨"java/util/Iterator", "hasNext", "()Z"⟩ : MethodName), (⟨"java/util/TreeMap$PrivateEntryIterator", "hasNext", "()Z"⟩ : MethodName)), ("java/util/TreeMap$NavigableSubMap$SubMapEntryIterator", (⟨"java/util/Iterator", "hasNext", "()Z"⟩ : MethodName), (⟨"java/util/TreeMap$NavigableSubMap$SubMapIterator", "hasNext", "()Z"⟩ : MethodName)), ("java/util/TreeMap$NavigableSubMap$SubMapKeyIterator", (⟨"java/util/Iterator", "hasNext", "()Z"⟩ : MethodName), (⟨"java/util/TreeMap$NavigableSubMap$SubMapIterator", "hasNext", "()Z"⟩ : MethodName)), ("java/util/TreeMap$ValueIterator", (⟨"java/util/Iterator", "hasNext", "()Z"⟩ : MethodName), (⟨"java/util/TreeMap$PrivateEntryIterator", "hasNext", "()Z"⟩ : MethodName)), ("java/util/ArrayDeque$DeqIterator", (⟨"java/util/Iterator", "next", "()Ljava/lang/Object;"⟩ : MethodName), (⟨"java/util/ArrayDeque$DeqIterator", "next", "()Ljava/lang/Object;"⟩ : MethodName)), ("java/util/PriorityQueue$Itr", (⟨"java/util/Iterator", "next", "()Ljava/lang/Object;"⟩ : MethodName), (⟨"java/util/PriorityQueue$Itr", "next", "()Ljava/lang/Object;"⟩ : MethodName)), ("java/util/TreeMap$EntryIterator", (⟨"java/util/Iterator", "next", "()Ljava/lang/Object;"⟩ : MethodName), (⟨"java/util/TreeMap$EntryIterator", "next", "()Ljava/lang/Object;"⟩ : MethodName)), ("java/util/TreeMap$KeyIterator", (⟨"java/util/Iterator", "next", "()Ljava/lang/Object;"⟩ : MethodName), (⟨"java/util/TreeMap$KeyIterator", "next", "()Ljava/lang/Object;"⟩ : MethodName)), ("java/util/TreeMap$NavigableSubMap$SubMapEntryIterator", (⟨"java/util/Iterator", "next", "()Ljava/lang/Object;"⟩ : MethodName), (⟨"java/util/TreeMap$NavigableSubMap$SubMapEntryIterator", "next", "()Ljava/lang/Object;"⟩ : MethodName)), ("java/util/TreeMap$NavigableSubMap$SubMapKeyIterator", (⟨"java/util/Iterator", "next", "()Ljava/lang/Object;"⟩ : MethodName), (⟨"java/util/TreeMap$NavigableSubMap$SubMapKeyIterator", "next", "()Ljava/lang/Object;"⟩ : MethodName)), ("java/util/TreeMap$ValueIterator", (⟨"java/util/Iterator", "next", "()Ljava/lang/Object;"⟩ : MethodName), (⟨"java/util/TreeMap$ValueIterator", "next", "()Ljava/lang/Object;"⟩ : MethodName)), ("java/util/AbstractMap$SimpleImmutableEntry", (⟨"java/util/Map$Entry", "getKey", "()Ljava/lang/Object;"⟩ : MethodName), (⟨"java/util/AbstractMap$SimpleImmutableEntry", "getKey", "()Ljava/lang/Object;"⟩ : MethodName)), ("java/util/TreeMap$Entry", (⟨"java/util/Map$Entry", "getKey", "()Ljava/lang/Object;"⟩ : MethodName), (⟨"java/util/TreeMap$Entry", "getKey", "()Ljava/lang/Object;"⟩ : MethodName)), ("java/util/AbstractMap$SimpleImmutableEntry", (⟨"java/util/Map$Entry", "getValue", "()Ljava/lang/Object;"⟩ : MethodName), (⟨"java/util/AbstractMap$SimpleImmutableEntry", "getValue", "()Ljava/lang/Object;"⟩ : MethodName)), ("java/util/TreeMap$Entry", (⟨"java/util/Map$Entry", "getValue", "()Ljava/lang/Object;"⟩ : MethodName), (⟨"java/util/TreeMap$Entry", "getValue", "()Ljava/lang/Object;"⟩ : MethodName)), ("java/util/TreeMap$AscendingSubMap$AscendingEntrySetView", (⟨"java/util/Set", "clear", "()V"⟩ : MethodName), (⟨"java/util/AbstractCollection", "clear", "()V"⟩ : MethodName)), ("java/util/ArrayDeque$DeqIterator", (⟨"java/util/Iterator", "remove", "()V"⟩ : MethodName), (⟨"java/util/ArrayDeque$DeqIterator", "remove", "()V"⟩ : MethodName)), ("java/util/PriorityQueue$Itr", (⟨"java/util/Iterator", "remove", "()V"⟩ : MethodName), (⟨"java/util/PriorityQueue$Itr", "remove", "()V"⟩ : MethodName)), ("java/util/TreeMap$EntryIterator", (⟨"java/util/Iterator", "remove", "()V"⟩ : MethodName), (⟨"java/util/TreeMap$PrivateEntryIterator", "remove", "()V"⟩ : MethodName)), ("java/util/TreeMap$KeyIterator", (⟨"java/util/Iterator", "remove", "()V"⟩ : MethodName), (⟨"java/util/TreeMap$PrivateEntryIterator", "remove", "()V"⟩ : MethodName)), ("java/util/TreeMap$NavigableSubMap$SubMapEntryIterator", (⟨"java/util/Iterator", "remove", "()V"⟩ : MethodName), (⟨"java/util/TreeMap$NavigableSubMap$SubMapEntryIterator", "remove", "()V"⟩ : MethodName)), ("java/util/TreeMap$NavigableSubMap$SubMapKeyIterator", (⟨"java/util/Iterator", "remove", "()V"⟩ : MethodName), (⟨"java/util/TreeMap$NavigableSubMap$SubMapKeyIterator", "remove", "()V"⟩ : MethodName)), ("java/util/TreeMap$ValueIterator", (⟨"java/util/Iterator", "remove", "()V"⟩ : MethodName), (⟨"java/util/TreeMap$PrivateEntryIterator", "remove", "()V"⟩ : MethodName)), ("java/util/TreeMap$EntrySet", (⟨"java/util/Set", "clear", "()V"⟩ : MethodName), (⟨"java/util/TreeMap$EntrySet", "clear", "()V"⟩ : MethodName)), ("java/util/TreeMap$KeySet", (⟨"java/util/Set", "clear", "()V"⟩ : MethodName), (⟨"java/util/TreeMap$KeySet", "clear", "()V"⟩ : MethodName)), ("java/util/TreeSet", (⟨"java/util/Set", "clear", "()V"⟩ : MethodName), (⟨"java/util/TreeSet", "clear", "()V"⟩ : MethodName)), ("java/util/TreeMap$AscendingSubMap$AscendingEntrySetView", (⟨"java/util/Set", "size", "()I"⟩ : MethodName), (⟨"java/util/TreeMap$NavigableSubMap$EntrySetView", "size", "()I"⟩ : MethodName)), ("java/util/TreeMap$EntrySet", (⟨"java/util/Set", "size", "()I"⟩ : MethodName), (⟨"java/util/TreeMap$EntrySet", "size", "()I"⟩ : MethodName)), ("java/util/TreeMap$KeySet", (⟨"java/util/Set", "size", "()I"⟩ : MethodName), (⟨"java/util/TreeMap$KeySet", "size", "()I"⟩ : MethodName)), ("java/util/TreeSet", (⟨"java/util/Set", "size", "()I"⟩ : MethodName), (⟨"java/util/TreeSet", "size", "()I"⟩ : MethodName)), ("java/util/ArrayDeque", (⟨"java/util/Collection", "iterator", "()Ljava/util/Iterator;"⟩ : MethodName), (⟨"java/util/ArrayDeque", "iterator", "()Ljava/util/Iterator;"⟩ : MethodName)), ("java/util/PriorityQueue", (⟨"java/util/Collection", "iterator", "()Ljava/util/Iterator;"⟩ : MethodName), (⟨"java/util/PriorityQueue", "iterator", "()Ljava/util/Iterator;"⟩ : MethodName)), ("java/util/TreeMap$Values", (⟨"java/util/Collection", "iterator", "()Ljava/util/Iterator;"⟩ : MethodName), (⟨"java/util/TreeMap$Values", "iterator", "()Ljava/util/Iterator;"⟩ : MethodName)), ("java/util/TreeMap", (⟨"java/util/NavigableMap", "headMap", "(Ljava/lang/Object;Z)Ljava/util/NavigableMap;"⟩ : MethodName), (⟨"java/util/TreeMap", "headMap", "(Ljava/lang/Object;Z)Ljava/util/NavigableMap;"⟩ : MethodName)), ("java/util/TreeMap$AscendingSubMap", (⟨"java/util/NavigableMap", "headMap", "(Ljava/lang/Object;Z)Ljava/util/NavigableMap;"⟩ : MethodName), (⟨"java/util/TreeMap$AscendingSubMap", "headMap", "(Ljava/lang/Object;Z)Ljava/util/NavigableMap;"⟩ : MethodName)), ("java/util/TreeMap$AscendingSubMap$AscendingEntrySetView", (⟨"java/util/Set", "isEmpty", "()Z"⟩ : MethodName), (⟨"java/util/TreeMap$NavigableSubMap$EntrySetView", "isEmpty", "()Z"⟩ : MethodName)), ("java/util/TreeMap$EntrySet", (⟨"java/util/Set", "isEmpty", "()Z"⟩ : MethodName), (⟨"java/util/AbstractCollection", "isEmpty", "()Z"⟩ : MethodName)), ("java/util/TreeMap$KeySet", (⟨"java/util/Set", "isEmpty", "()Z"⟩ : MethodName), (⟨"java/util/TreeMap$KeySet", "isEmpty", "()Z"⟩ : MethodName)), ("java/util/TreeSet", (⟨"java/util/Set", "isEmpty", "()Z"⟩ : MethodName), (⟨"java/util/TreeSet", "isEmpty", "()Z"⟩ : MethodName)), ("java/util/TreeMap", (⟨"java/util/NavigableMap", "pollFirstEntry", "()Ljava/util/Map$Entry;"⟩ : MethodName), (⟨"java/util/TreeMap", "pollFirstEntry", "()Ljava/util/Map$Entry;"⟩ : MethodName)), ("java/util/TreeMap$AscendingSubMap", (⟨"java/util/NavigableMap", "pollFirstEntry", "()Ljava/util/Map$Entry;"⟩ : MethodName), (⟨"java/util/TreeMap$NavigableSubMap", "pollFirstEntry", "()Ljava/util/Map$Entry;"⟩ : MethodName))]
theorem FWL_mh : ∀ q ∈ FWL, q.2.1.cls ≠ "java/lang/invoke/MethodHandle" ∧ q.2.1.cls ≠ "java/lang/invoke/VarHandle" := by decide +kernel
def FWok (q : String × MethodName × MethodName) : Prop := Cond.declares q.2.1 ∈ lw_tbl ∧ Cond.interfaceMethod q.2.1.cls q.2.1.cls q.2.1.name q.2.1.desc ∈ lw_tbl ∧ Cond.publicMethod q.2.2 ∈ lw_tbl ∧ Cond.unhidden q.1 q.2.1.name q.2.1.desc ∈ lw_tbl ∧ Cond.castable q.1 q.2.1.cls ∈ lw_tbl
theorem FWL_ok : ∀ q ∈ FWL, FWok q := (List.forall_mem_cons.mpr ⟨⟨q650, q649, q655, q653, q651⟩, (List.forall_mem_cons.mpr ⟨⟨q2071, q2070, q655, q653, q2080⟩, (List.forall_mem_cons.mpr ⟨⟨q681, q680, q686, q684, q682⟩, (List.forall_mem_cons.mpr ⟨⟨q681, q680, q697, q695, q693⟩, (List.forall_mem_cons.mpr ⟨⟨q681, q680, q708, q706, q704⟩, (List.forall_mem_cons.mpr ⟨⟨q681, q680, q872, q870, q868⟩, (List.forall_mem_cons.mpr ⟨⟨q913, q912, q918, q916, q914⟩, (List.forall_mem_cons.mpr ⟨⟨q913, q912, q929, q927, q925⟩, (List.forall_mem_cons.mpr ⟨⟨q650, q649, q981, q979, q977⟩, (List.forall_mem_cons.mpr ⟨⟨q2071, q2070, q981, q979, q2082⟩, (List.forall_mem_cons.mpr ⟨⟨q650, q649, q1010, q1008, q1006⟩, (List.forall_mem_cons.mpr ⟨⟨q1090, q1089, q1010, q1008, q1091⟩, (List.forall_mem_cons.mpr ⟨⟨q2071, q2070, q1010, q1008, q2084⟩, (List.forall_mem_cons.mpr ⟨⟨q650, q649, q1057, q1055, q1053⟩, (List.forall_mem_cons.mpr ⟨⟨q1090, q1089, q1057, q1055, q1093⟩, (List.forall_mem_cons.mpr ⟨⟨q2071, q2070, q1057, q1055, q2090⟩, (List.forall_mem_cons.mpr ⟨⟨q1062, q1061, q1067, q1065, q1063⟩, (List.forall_mem_cons.mpr ⟨⟨q1062, q1061, q1083, q1081, q1079⟩, (List.forall_mem_cons.mpr ⟨⟨q1098, q1097, q1103, q1101, q1099⟩, (List.forall_mem_cons.mpr ⟨⟨q1098, q1097, q1109, q1107, q1105⟩, (List.forall_mem_cons.mpr ⟨⟨q1098, q1097, q1119, q1117, q1115⟩, (List.forall_mem_cons.mpr ⟨⟨q1098, q1097, q1119, q1123, q1121⟩, (List.forall_mem_cons.mpr ⟨⟨q1098, q1097, q1128, q1126, q1124⟩, (List.forall_mem_cons.mpr ⟨⟨q1098, q1097, q1128, q1132, q1130⟩, (List.forall_mem_cons.mpr ⟨⟨q1098, q1097, q1119, q1135, q1133⟩, (List.forall_mem_cons.mpr ⟨⟨q1139, q1138, q1143, q1141, q1099⟩, (List.forall_mem_cons.mpr ⟨⟨q1139, q1138, q1173, q1171, q1105⟩, (List.forall_mem_cons.mpr ⟨⟨q1139, q1138, q1191, q1189, q1115⟩, (List.forall_mem_cons.mpr ⟨⟨q1139, q1138, q1211, q1209, q1121⟩, (List.forall_mem_cons.mpr ⟨⟨q1139, q1138, q1219, q1217, q1124⟩, (List.forall_mem_cons.mpr ⟨⟨q1139, q1138, q1237, q1235, q1130⟩, (List.forall_mem_cons.mpr ⟨⟨q1139, q1138, q1245, q1243, q1133⟩, (List.forall_mem_cons.mpr ⟨⟨q1254, q1253, q1259, q1257, q1255⟩, (List.forall_mem_cons.mpr ⟨⟨q1254, q1253, q1265, q1263, q1261⟩, (List.forall_mem_cons.mpr ⟨⟨q1271, q1270, q1275, q1273, q1255⟩, (List.forall_mem_cons.mpr ⟨⟨q1271, q1270, q1280, q1278, q1261⟩, (List.forall_mem_cons.mpr ⟨⟨q1446, q1445, q1450, q1448, q651⟩, (List.forall_mem_cons.mpr ⟨⟨q1538, q1537, q1542, q1540, q1099⟩, (List.forall_mem_cons.mpr ⟨⟨q1538, q1537, q1564, q1562, q1105⟩, (List.forall_mem_cons.mpr ⟨⟨q1538, q1537, q1613, q1611, q1115⟩, (List.forall_mem_cons.mpr ⟨⟨q1538, q1537, q1613, q1627, q1121⟩, (List.forall_mem_cons.mpr ⟨⟨q1538, q1537, q1631, q1629, q1124⟩, (List.forall_mem_cons.mpr ⟨⟨q1538, q1537, q1645, q1643, q1130⟩, (List.forall_mem_cons.mpr ⟨⟨q1538, q1537, q1613, q1651, q1133⟩, (List.forall_mem_cons.mpr ⟨⟨q1446, q1445, q1655, q1653, q977⟩, (List.forall_mem_cons.mpr ⟨⟨q1446, q1445, q1661, q1659, q1006⟩, (List.forall_mem_cons.mpr ⟨⟨q1446, q1445, q1666, q1665, q1053⟩, (List.forall_mem_cons.mpr ⟨⟨q1978, q1977, q1982, q1980, q651⟩, (List.forall_mem_cons.mpr ⟨⟨q1978, q1977, q1995, q1993, q977⟩, (List.forall_mem_cons.mpr ⟨⟨q1978, q1977, q2001, q1999, q1006⟩, (List.forall_mem_cons.mpr ⟨⟨q1978, q1977, q2015, q2013, q1053⟩, (List.forall_mem_cons.mpr ⟨⟨q2071, q2070, q2075, q2074, q2072⟩, (List.forall_mem_cons.mpr ⟨⟨q2071, q2070, q2079, q2078, q2076⟩, (List.forall_mem_cons.mpr ⟨⟨q2071, q2070, q2089, q2088, q2086⟩, (List.forall_mem_cons.mpr ⟨⟨q2225, q2224, q2229, q2227, q1063⟩, (List.forall_mem_cons.mpr ⟨⟨q2225, q2224, q2289, q2287, q1079⟩, (List.forall_mem_cons.mpr ⟨⟨q2528, q2527, q2532, q2530, q651⟩, (List.forall_mem_cons.mpr ⟨⟨q2528, q2527, q2539, q2537, q977⟩, (List.forall_mem_cons.mpr ⟨⟨q2528, q2527, q2559, q2557, q1006⟩, (List.forall_mem_cons.mpr ⟨⟨q2528, q2527, q2564, q2563, q1053⟩, (List.forall_mem_cons.mpr ⟨⟨q2601, q2600, q2605, q2603, q1063⟩, (List.forall_mem_cons.mpr ⟨⟨q2601, q2600, q2630, q2628, q1079⟩, (fun _ h => absurd h List.not_mem_nil)⟩)⟩)⟩)⟩)⟩)⟩)⟩)⟩)⟩)⟩)⟩)⟩)⟩)⟩)⟩)⟩)⟩)⟩)⟩)⟩)⟩)⟩)⟩)⟩)⟩)⟩)⟩)⟩)⟩)⟩)⟩)⟩)⟩)⟩)⟩)⟩)⟩)⟩)⟩)⟩)⟩)⟩)⟩)⟩)⟩)⟩)⟩)⟩)⟩)⟩)⟩)⟩)⟩)⟩)⟩)⟩)⟩)⟩)⟩)⟩)⟩)⟩)
theorem fw_0 : ("java/util/TreeMap$AscendingSubMap$AscendingEntrySetView", (⟨"java/util/Set", "iterator", "()Ljava/util/Iterator;"⟩ : MethodName), (⟨"java/util/TreeMap$AscendingSubMap$AscendingEntrySetView", "iterator", "()Ljava/util/Iterator;"⟩ : MethodName)) ∈ FWL := List.mem_of_getElem? (i := 0) rfl
theorem fw_1 : ("java/util/TreeMap$AscendingSubMap$AscendingEntrySetView", (⟨"java/util/Collection", "iterator", "()Ljava/util/Iterator;"⟩ : MethodName), (⟨"java/util/TreeMap$AscendingSubMap$AscendingEntrySetView", "iterator", "()Ljava/util/Iterator;"⟩ : MethodName)) ∈ FWL := List.mem_of_getElem? (i := 1) rfl
theorem fw_2 : ("TissueBalloons$Plan", (⟨"java/lang/Comparable", "compareTo", "(Ljava/lang/Object;)I"⟩ : MethodName), (⟨"TissueBalloons$Plan", "compareTo", "(Ljava/lang/Object;)I"⟩ : MethodName)) ∈ FWL := List.mem_of_getElem? (i := 2) rfl
theorem fw_3 : ("TissueBalloons$Spot", (⟨"java/lang/Comparable", "compareTo", "(Ljava/lang/Object;)I"⟩ : MethodName), (⟨"TissueBalloons$Spot", "compareTo", "(Ljava/lang/Object;)I"⟩ : MethodName)) ∈ FWL := List.mem_of_getElem? (i := 3) rfl
theorem fw_4 : ("java/lang/String", (⟨"java/lang/Comparable", "compareTo", "(Ljava/lang/Object;)I"⟩ : MethodName), (⟨"java/lang/String", "compareTo", "(Ljava/lang/Object;)I"⟩ : MethodName)) ∈ FWL := List.mem_of_getElem? (i := 4) rfl
theorem fw_5 : ("java/lang/StringBuilder", (⟨"java/lang/Comparable", "compareTo", "(Ljava/lang/Object;)I"⟩ : MethodName), (⟨"java/lang/StringBuilder", "compareTo", "(Ljava/lang/Object;)I"⟩ : MethodName)) ∈ FWL := List.mem_of_getElem? (i := 5) rfl
theorem fw_6 : ("TissueBalloons$ByFlight", (⟨"java/util/Comparator", "compare", "(Ljava/lang/Object;Ljava/lang/Object;)I"⟩ : MethodName), (⟨"TissueBalloons$ByFlight", "compare", "(Ljava/lang/Object;Ljava/lang/Object;)I"⟩ : MethodName)) ∈ FWL := List.mem_of_getElem? (i := 6) rfl
theorem fw_7 : ("TissueBalloons$ByLayer", (⟨"java/util/Comparator", "compare", "(Ljava/lang/Object;Ljava/lang/Object;)I"⟩ : MethodName), (⟨"TissueBalloons$ByLayer", "compare", "(Ljava/lang/Object;Ljava/lang/Object;)I"⟩ : MethodName)) ∈ FWL := List.mem_of_getElem? (i := 7) rfl
theorem fw_8 : ("java/util/TreeMap$EntrySet", (⟨"java/util/Set", "iterator", "()Ljava/util/Iterator;"⟩ : MethodName), (⟨"java/util/TreeMap$EntrySet", "iterator", "()Ljava/util/Iterator;"⟩ : MethodName)) ∈ FWL := List.mem_of_getElem? (i := 8) rfl
theorem fw_9 : ("java/util/TreeMap$EntrySet", (⟨"java/util/Collection", "iterator", "()Ljava/util/Iterator;"⟩ : MethodName), (⟨"java/util/TreeMap$EntrySet", "iterator", "()Ljava/util/Iterator;"⟩ : MethodName)) ∈ FWL := List.mem_of_getElem? (i := 9) rfl
theorem fw_10 : ("java/util/TreeMap$KeySet", (⟨"java/util/Set", "iterator", "()Ljava/util/Iterator;"⟩ : MethodName), (⟨"java/util/TreeMap$KeySet", "iterator", "()Ljava/util/Iterator;"⟩ : MethodName)) ∈ FWL := List.mem_of_getElem? (i := 10) rfl
theorem fw_11 : ("java/util/TreeMap$KeySet", (⟨"java/util/NavigableSet", "iterator", "()Ljava/util/Iterator;"⟩ : MethodName), (⟨"java/util/TreeMap$KeySet", "iterator", "()Ljava/util/Iterator;"⟩ : MethodName)) ∈ FWL := List.mem_of_getElem? (i := 11) rfl
theorem fw_12 : ("java/util/TreeMap$KeySet", (⟨"java/util/Collection", "iterator", "()Ljava/util/Iterator;"⟩ : MethodName), (⟨"java/util/TreeMap$KeySet", "iterator", "()Ljava/util/Iterator;"⟩ : MethodName)) ∈ FWL := List.mem_of_getElem? (i := 12) rfl
theorem fw_13 : ("java/util/TreeSet", (⟨"java/util/Set", "iterator", "()Ljava/util/Iterator;"⟩ : MethodName), (⟨"java/util/TreeSet", "iterator", "()Ljava/util/Iterator;"⟩ : MethodName)) ∈ FWL := List.mem_of_getElem? (i := 13) rfl
theorem fw_14 : ("java/util/TreeSet", (⟨"java/util/NavigableSet", "iterator", "()Ljava/util/Iterator;"⟩ : MethodName), (⟨"java/util/TreeSet", "iterator", "()Ljava/util/Iterator;"⟩ : MethodName)) ∈ FWL := List.mem_of_getElem? (i := 14) rfl
theorem fw_15 : ("java/util/TreeSet", (⟨"java/util/Collection", "iterator", "()Ljava/util/Iterator;"⟩ : MethodName), (⟨"java/util/TreeSet", "iterator", "()Ljava/util/Iterator;"⟩ : MethodName)) ∈ FWL := List.mem_of_getElem? (i := 15) rfl
theorem fw_16 : ("java/util/TreeMap", (⟨"java/util/NavigableMap", "navigableKeySet", "()Ljava/util/NavigableSet;"⟩ : MethodName), (⟨"java/util/TreeMap", "navigableKeySet", "()Ljava/util/NavigableSet;"⟩ : MethodName)) ∈ FWL := List.mem_of_getElem? (i := 16) rfl
theorem fw_17 : ("java/util/TreeMap$AscendingSubMap", (⟨"java/util/NavigableMap", "navigableKeySet", "()Ljava/util/NavigableSet;"⟩ : MethodName), (⟨"java/util/TreeMap$NavigableSubMap", "navigableKeySet", "()Ljava/util/NavigableSet;"⟩ : MethodName)) ∈ FWL := List.mem_of_getElem? (i := 17) rfl
theorem fw_18 : ("java/util/ArrayDeque$DeqIterator", (⟨"java/util/Iterator", "hasNext", "()Z"⟩ : MethodName), (⟨"java/util/ArrayDeque$DeqIterator", "hasNext", "()Z"⟩ : MethodName)) ∈ FWL := List.mem_of_getElem? (i := 18) rfl
theorem fw_19 : ("java/util/PriorityQueue$Itr", (⟨"java/util/Iterator", "hasNext", "()Z"⟩ : MethodName), (⟨"java/util/PriorityQueue$Itr", "hasNext", "()Z"⟩ : MethodName)) ∈ FWL := List.mem_of_getElem? (i := 19) rfl
theorem fw_20 : ("java/util/TreeMap$EntryIterator", (⟨"java/util/Iterator", "hasNext", "()Z"⟩ : MethodName), (⟨"java/util/TreeMap$PrivateEntryIterator", "hasNext", "()Z"⟩ : MethodName)) ∈ FWL := List.mem_of_getElem? (i := 20) rfl
theorem fw_21 : ("java/util/TreeMap$KeyIterator", (⟨"java/util/Iterator", "hasNext", "()Z"⟩ : MethodName), (⟨"java/util/TreeMap$PrivateEntryIterator", "hasNext", "()Z"⟩ : MethodName)) ∈ FWL := List.mem_of_getElem? (i := 21) rfl
theorem fw_22 : ("java/util/TreeMap$NavigableSubMap$SubMapEntryIterator", (⟨"java/util/Iterator", "hasNext", "()Z"⟩ : MethodName), (⟨"java/util/TreeMap$NavigableSubMap$SubMapIterator", "hasNext", "()Z"⟩ : MethodName)) ∈ FWL := List.mem_of_getElem? (i := 22) rfl
theorem fw_23 : ("java/util/TreeMap$NavigableSubMap$SubMapKeyIterator", (⟨"java/util/Iterator", "hasNext", "()Z"⟩ : MethodName), (⟨"java/util/TreeMap$NavigableSubMap$SubMapIterator", "hasNext", "()Z"⟩ : MethodName)) ∈ FWL := List.mem_of_getElem? (i := 23) rfl
theorem fw_24 : ("java/util/TreeMap$ValueIterator", (⟨"java/util/Iterator", "hasNext", "()Z"⟩ : MethodName), (⟨"java/util/TreeMap$PrivateEntryIterator", "hasNext", "()Z"⟩ : MethodName)) ∈ FWL := List.mem_of_getElem? (i := 24) rfl
theorem fw_25 : ("java/util/ArrayDeque$DeqIterator", (⟨"java/util/Iterator", "next", "()Ljava/lang/Object;"⟩ : MethodName), (⟨"java/util/ArrayDeque$DeqIterator", "next", "()Ljava/lang/Object;"⟩ : MethodName)) ∈ FWL := List.mem_of_getElem? (i := 25) rfl
theorem fw_26 : ("java/util/PriorityQueue$Itr", (⟨"java/util/Iterator", "next", "()Ljava/lang/Object;"⟩ : MethodName), (⟨"java/util/PriorityQueue$Itr", "next", "()Ljava/lang/Object;"⟩ : MethodName)) ∈ FWL := List.mem_of_getElem? (i := 26) rfl
theorem fw_27 : ("java/util/TreeMap$EntryIterator", (⟨"java/util/Iterator", "next", "()Ljava/lang/Object;"⟩ : MethodName), (⟨"java/util/TreeMap$EntryIterator", "next", "()Ljava/lang/Object;"⟩ : MethodName)) ∈ FWL := List.mem_of_getElem? (i := 27) rfl
theorem fw_28 : ("java/util/TreeMap$KeyIterator", (⟨"java/util/Iterator", "next", "()Ljava/lang/Object;"⟩ : MethodName), (⟨"java/util/TreeMap$KeyIterator", "next", "()Ljava/lang/Object;"⟩ : MethodName)) ∈ FWL := List.mem_of_getElem? (i := 28) rfl
theorem fw_29 : ("java/util/TreeMap$NavigableSubMap$SubMapEntryIterator", (⟨"java/util/Iterator", "next", "()Ljava/lang/Object;"⟩ : MethodName), (⟨"java/util/TreeMap$NavigableSubMap$SubMapEntryIterator", "next", "()Ljava/lang/Object;"⟩ : MethodName)) ∈ FWL := List.mem_of_getElem? (i := 29) rfl
theorem fw_30 : ("java/util/TreeMap$NavigableSubMap$SubMapKeyIterator", (⟨"java/util/Iterator", "next", "()Ljava/lang/Object;"⟩ : MethodName), (⟨"java/util/TreeMap$NavigableSubMap$SubMapKeyIterator", "next", "()Ljava/lang/Object;"⟩ : MethodName)) ∈ FWL := List.mem_of_getElem? (i := 30) rfl
theorem fw_31 : ("java/util/TreeMap$ValueIterator", (⟨"java/util/Iterator", "next", "()Ljava/lang/Object;"⟩ : MethodName), (⟨"java/util/TreeMap$ValueIterator", "next", "()Ljava/lang/Object;"⟩ : MethodName)) ∈ FWL := List.mem_of_getElem? (i := 31) rfl
theorem fw_32 : ("java/util/AbstractMap$SimpleImmutableEntry", (⟨"java/util/Map$Entry", "getKey", "()Ljava/lang/Object;"⟩ : MethodName), (⟨"java/util/AbstractMap$SimpleImmutableEntry", "getKey", "()Ljava/lang/Object;"⟩ : MethodName)) ∈ FWL := List.mem_of_getElem? (i := 32) rfl
theorem fw_33 : ("java/util/TreeMap$Entry", (⟨"java/util/Map$Entry", "getKey", "()Ljava/lang/Object;"⟩ : MethodName), (⟨"java/util/TreeMap$Entry", "getKey", "()Ljava/lang/Object;"⟩ : MethodName)) ∈ FWL := List.mem_of_getElem? (i := 33) rfl
theorem fw_34 : ("java/util/AbstractMap$SimpleImmutableEntry", (⟨"java/util/Map$Entry", "getValue", "()Ljava/lang/Object;"⟩ : MethodName), (⟨"java/util/AbstractMap$SimpleImmutableEntry", "getValue", "()Ljava/lang/Object;"⟩ : MethodName)) ∈ FWL := List.mem_of_getElem? (i := 34) rfl
theorem fw_35 : ("java/util/TreeMap$Entry", (⟨"java/util/Map$Entry", "getValue", "()Ljava/lang/Object;"⟩ : MethodName), (⟨"java/util/TreeMap$Entry", "getValue", "()Ljava/lang/Object;"⟩ : MethodName)) ∈ FWL := List.mem_of_getElem? (i := 35) rfl
theorem fw_36 : ("java/util/TreeMap$AscendingSubMap$AscendingEntrySetView", (⟨"java/util/Set", "clear", "()V"⟩ : MethodName), (⟨"java/util/AbstractCollection", "clear", "()V"⟩ : MethodName)) ∈ FWL := List.mem_of_getElem? (i := 36) rfl
theorem fw_37 : ("java/util/ArrayDeque$DeqIterator", (⟨"java/util/Iterator", "remove", "()V"⟩ : MethodName), (⟨"java/util/ArrayDeque$DeqIterator", "remove", "()V"⟩ : MethodName)) ∈ FWL := List.mem_of_getElem? (i := 37) rfl
theorem fw_38 : ("java/util/PriorityQueue$Itr", (⟨"java/util/Iterator", "remove", "()V"⟩ : MethodName), (⟨"java/util/PriorityQueue$Itr", "remove", "()V"⟩ : MethodName)) ∈ FWL := List.mem_of_getElem? (i := 38) rfl
theorem fw_39 : ("java/util/TreeMap$EntryIterator", (⟨"java/util/Iterator", "remove", "()V"⟩ : MethodName), (⟨"java/util/TreeMap$PrivateEntryIterator", "remove", "()V"⟩ : MethodName)) ∈ FWL := List.mem_of_getElem? (i := 39) rfl
theorem fw_40 : ("java/util/TreeMap$KeyIterator", (⟨"java/util/Iterator", "remove", "()V"⟩ : MethodName), (⟨"java/util/TreeMap$PrivateEntryIterator", "remove", "()V"⟩ : MethodName)) ∈ FWL := List.mem_of_getElem? (i := 40) rfl
theorem fw_41 : ("java/util/TreeMap$NavigableSubMap$SubMapEntryIterator", (⟨"java/util/Iterator", "remove", "()V"⟩ : MethodName), (⟨"java/util/TreeMap$NavigableSubMap$SubMapEntryIterator", "remove", "()V"⟩ : MethodName)) ∈ FWL := List.mem_of_getElem? (i := 41) rfl
theorem fw_42 : ("java/util/TreeMap$NavigableSubMap$SubMapKeyIterator", (⟨"java/util/Iterator", "remove", "()V"⟩ : MethodName), (⟨"java/util/TreeMap$NavigableSubMap$SubMapKeyIterator", "remove", "()V"⟩ : MethodName)) ∈ FWL := List.mem_of_getElem? (i := 42) rfl
theorem fw_43 : ("java/util/TreeMap$ValueIterator", (⟨"java/util/Iterator", "remove", "()V"⟩ : MethodName), (⟨"java/util/TreeMap$PrivateEntryIterator", "remove", "()V"⟩ : MethodName)) ∈ FWL := List.mem_of_getElem? (i := 43) rfl
theorem fw_44 : ("java/util/TreeMap$EntrySet", (⟨"java/util/Set", "clear", "()V"⟩ : MethodName), (⟨"java/util/TreeMap$EntrySet", "clear", "()V"⟩ : MethodName)) ∈ FWL := List.mem_of_getElem? (i := 44) rfl
theorem fw_45 : ("java/util/TreeMap$KeySet", (⟨"java/util/Set", "clear", "()V"⟩ : MethodName), (⟨"java/util/TreeMap$KeySet", "clear", "()V"⟩ : MethodName)) ∈ FWL := List.mem_of_getElem? (i := 45) rfl
theorem fw_46 : ("java/util/TreeSet", (⟨"java/util/Set", "clear", "()V"⟩ : MethodName), (⟨"java/util/TreeSet", "clear", "()V"⟩ : MethodName)) ∈ FWL := List.mem_of_getElem? (i := 46) rfl
theorem fw_47 : ("java/util/TreeMap$AscendingSubMap$AscendingEntrySetView", (⟨"java/util/Set", "size", "()I"⟩ : MethodName), (⟨"java/util/TreeMap$NavigableSubMap$EntrySetView", "size", "()I"⟩ : MethodName)) ∈ FWL := List.mem_of_getElem? (i := 47) rfl
theorem fw_48 : ("java/util/TreeMap$EntrySet", (⟨"java/util/Set", "size", "()I"⟩ : MethodName), (⟨"java/util/TreeMap$EntrySet", "size", "()I"⟩ : MethodName)) ∈ FWL := List.mem_of_getElem? (i := 48) rfl
theorem fw_49 : ("java/util/TreeMap$KeySet", (⟨"java/util/Set", "size", "()I"⟩ : MethodName), (⟨"java/util/TreeMap$KeySet", "size", "()I"⟩ : MethodName)) ∈ FWL := List.mem_of_getElem? (i := 49) rfl
theorem fw_50 : ("java/util/TreeSet", (⟨"java/util/Set", "size", "()I"⟩ : MethodName), (⟨"java/util/TreeSet", "size", "()I"⟩ : MethodName)) ∈ FWL := List.mem_of_getElem? (i := 50) rfl
theorem fw_51 : ("java/util/ArrayDeque", (⟨"java/util/Collection", "iterator", "()Ljava/util/Iterator;"⟩ : MethodName), (⟨"java/util/ArrayDeque", "iterator", "()Ljava/util/Iterator;"⟩ : MethodName)) ∈ FWL := List.mem_of_getElem? (i := 51) rfl
theorem fw_52 : ("java/util/PriorityQueue", (⟨"java/util/Collection", "iterator", "()Ljava/util/Iterator;"⟩ : MethodName), (⟨"java/util/PriorityQueue", "iterator", "()Ljava/util/Iterator;"⟩ : MethodName)) ∈ FWL := List.mem_of_getElem? (i := 52) rfl
theorem fw_53 : ("java/util/TreeMap$Values", (⟨"java/util/Collection", "iterator", "()Ljava/util/Iterator;"⟩ : MethodName), (⟨"java/util/TreeMap$Values", "iterator", "()Ljava/util/Iterator;"⟩ : MethodName)) ∈ FWL := List.mem_of_getElem? (i := 53) rfl
theorem fw_54 : ("java/util/TreeMap", (⟨"java/util/NavigableMap", "headMap", "(Ljava/lang/Object;Z)Ljava/util/NavigableMap;"⟩ : MethodName), (⟨"java/util/TreeMap", "headMap", "(Ljava/lang/Object;Z)Ljava/util/NavigableMap;"⟩ : MethodName)) ∈ FWL := List.mem_of_getElem? (i := 54) rfl
theorem fw_55 : ("java/util/TreeMap$AscendingSubMap", (⟨"java/util/NavigableMap", "headMap", "(Ljava/lang/Object;Z)Ljava/util/NavigableMap;"⟩ : MethodName), (⟨"java/util/TreeMap$AscendingSubMap", "headMap", "(Ljava/lang/Object;Z)Ljava/util/NavigableMap;"⟩ : MethodName)) ∈ FWL := List.mem_of_getElem? (i := 55) rfl
theorem fw_56 : ("java/util/TreeMap$AscendingSubMap$AscendingEntrySetView", (⟨"java/util/Set", "isEmpty", "()Z"⟩ : MethodName), (⟨"java/util/TreeMap$NavigableSubMap$EntrySetView", "isEmpty", "()Z"⟩ : MethodName)) ∈ FWL := List.mem_of_getElem? (i := 56) rfl
theorem fw_57 : ("java/util/TreeMap$EntrySet", (⟨"java/util/Set", "isEmpty", "()Z"⟩ : MethodName), (⟨"java/util/AbstractCollection", "isEmpty", "()Z"⟩ : MethodName)) ∈ FWL := List.mem_of_getElem? (i := 57) rfl
theorem fw_58 : ("java/util/TreeMap$KeySet", (⟨"java/util/Set", "isEmpty", "()Z"⟩ : MethodName), (⟨"java/util/TreeMap$KeySet", "isEmpty", "()Z"⟩ : MethodName)) ∈ FWL := List.mem_of_getElem? (i := 58) rfl
theorem fw_59 : ("java/util/TreeSet", (⟨"java/util/Set", "isEmpty", "()Z"⟩ : MethodName), (⟨"java/util/TreeSet", "isEmpty", "()Z"⟩ : MethodName)) ∈ FWL := List.mem_of_getElem? (i := 59) rfl
theorem fw_60 : ("java/util/TreeMap", (⟨"java/util/NavigableMap", "pollFirstEntry", "()Ljava/util/Map$Entry;"⟩ : MethodName), (⟨"java/util/TreeMap", "pollFirstEntry", "()Ljava/util/Map$Entry;"⟩ : MethodName)) ∈ FWL := List.mem_of_getElem? (i := 60) rfl
theorem fw_61 : ("java/util/TreeMap$AscendingSubMap", (⟨"java/util/NavigableMap", "pollFirstEntry", "()Ljava/util/Map$Entry;"⟩ : MethodName), (⟨"java/util/TreeMap$NavigableSubMap", "pollFirstEntry", "()Ljava/util/Map$Entry;"⟩ : MethodName)) ∈ FWL := List.mem_of_getElem? (i := 61) rfl
