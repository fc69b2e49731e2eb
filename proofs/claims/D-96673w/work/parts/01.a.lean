-- ===== PART A: goes FIRST, ahead of the names: the tables' words, and 'selects' of the private methods out of them =====
/-- a private method of a class that the tables say can be made, by its rows of tables_1 -/
def lw_okq (q : MethodName × Nat) : Prop := (q.1.cls ≠ "java/lang/invoke/MethodHandle" ∧ q.1.cls ≠ "java/lang/invoke/VarHandle") ∧ Cond.instantiable q.1.cls q.2 ∈ tables_1 ∧ Cond.privateMethod q.1 ∈ tables_1 ∧ Cond.instanceMethod q.1 ∈ tables_1
set_option maxRecDepth 100000
theorem lw_t1 {w : Cond} (h : w ∈ tables_1_1) : w ∈ tables_1 := List.mem_append_left _ h
theorem lw_t2 {w : Cond} (h : w ∈ tables_1_2) : w ∈ tables_1 := List.mem_append_right _ (List.mem_append_left _ h)
theorem lw_t3 {w : Cond} (h : w ∈ tables_1_3) : w ∈ tables_1 := List.mem_append_right _ (List.mem_append_right _ (List.mem_append_left _ h))
theorem lw_t4 {w : Cond} (h : w ∈ tables_1_4) : w ∈ tables_1 := List.mem_append_right _ (List.mem_append_right _ (List.mem_append_right _ (List.mem_append_left _ h)))
theorem lw_t5 {w : Cond} (h : w ∈ tables_1_5) : w ∈ tables_1 := List.mem_append_right _ (List.mem_append_right _ (List.mem_append_right _ (List.mem_append_right _ (List.mem_append_left _ h))))
theorem lw_t6 {w : Cond} (h : w ∈ tables_1_6) : w ∈ tables_1 := List.mem_append_right _ (List.mem_append_right _ (List.mem_append_right _ (List.mem_append_right _ (List.mem_append_right _ (List.mem_append_left _ h)))))
theorem lw_t7 {w : Cond} (h : w ∈ tables_1_7) : w ∈ tables_1 := List.mem_append_right _ (List.mem_append_right _ (List.mem_append_right _ (List.mem_append_right _ (List.mem_append_right _ (List.mem_append_right _ (List.mem_append_left _ h))))))
theorem lw_t8 {w : Cond} (h : w ∈ tables_1_8) : w ∈ tables_1 := List.mem_append_right _ (List.mem_append_right _ (List.mem_append_right _ (List.mem_append_right _ (List.mem_append_right _ (List.mem_append_right _ (List.mem_append_right _ (List.mem_append_left _ h)))))))
theorem lw_t9 {w : Cond} (h : w ∈ tables_1_9) : w ∈ tables_1 := List.mem_append_right _ (List.mem_append_right _ (List.mem_append_right _ (List.mem_append_right _ (List.mem_append_right _ (List.mem_append_right _ (List.mem_append_right _ (List.mem_append_right _ h)))))))
theorem lw_p0 : lw_okq (⟨"java/lang/NullPointerException", "getExtendedNPEMessage", "()Ljava/lang/String;"⟩, 8) := ⟨⟨by decide +kernel, by decide +kernel⟩, lw_t1 (List.mem_of_getElem? (i := 238) rfl), lw_t1 (List.mem_of_getElem? (i := 236) rfl), lw_t1 (List.mem_of_getElem? (i := 237) rfl)⟩
theorem lw_p1 : lw_okq (⟨"java/lang/Throwable", "fillInStackTrace", "(I)Ljava/lang/Throwable;"⟩, 6) := ⟨⟨by decide +kernel, by decide +kernel⟩, lw_t2 (List.mem_of_getElem? (i := 10) rfl), lw_t2 (List.mem_of_getElem? (i := 8) rfl), lw_t2 (List.mem_of_getElem? (i := 9) rfl)⟩
theorem lw_p2 : lw_okq (⟨"SeenInOrderOfAge", "no", "(I)I"⟩, 12) := ⟨⟨by decide +kernel, by decide +kernel⟩, lw_t1 (List.mem_of_getElem? (i := 38) rfl), lw_t2 (List.mem_of_getElem? (i := 60) rfl), lw_t2 (List.mem_of_getElem? (i := 61) rfl)⟩
theorem lw_p3 : lw_okq (⟨"SeenInOrderOfAge", "rowIn", "(I)Ljava/lang/Object;"⟩, 12) := ⟨⟨by decide +kernel, by decide +kernel⟩, lw_t1 (List.mem_of_getElem? (i := 38) rfl), lw_t2 (List.mem_of_getElem? (i := 94) rfl), lw_t2 (List.mem_of_getElem? (i := 95) rfl)⟩
theorem lw_p4 : lw_okq (⟨"SeenInOrderOfAge", "alone", "(LSeenInOrderOfAge$Looker;)I"⟩, 12) := ⟨⟨by decide +kernel, by decide +kernel⟩, lw_t1 (List.mem_of_getElem? (i := 38) rfl), lw_t2 (List.mem_of_getElem? (i := 222) rfl), lw_t2 (List.mem_of_getElem? (i := 223) rfl)⟩
theorem lw_p5 : lw_okq (⟨"SeenInOrderOfAge$Evening", "looks", "(ILSeenInOrderOfAge$Panes;)V"⟩, 5) := ⟨⟨by decide +kernel, by decide +kernel⟩, lw_t1 (List.mem_of_getElem? (i := 126) rfl), lw_t3 (List.mem_of_getElem? (i := 7) rfl), lw_t3 (List.mem_of_getElem? (i := 8) rfl)⟩
theorem lw_p6 : lw_okq (⟨"SeenInOrderOfAge$Reader", "next", "()V"⟩, 7) := ⟨⟨by decide +kernel, by decide +kernel⟩, lw_t4 (List.mem_of_getElem? (i := 191) rfl), lw_t4 (List.mem_of_getElem? (i := 236) rfl), lw_t4 (List.mem_of_getElem? (i := 237) rfl)⟩
theorem lw_p7 : lw_okq (⟨"SeenInOrderOfAge$Reader", "isIn", "(II)Z"⟩, 7) := ⟨⟨by decide +kernel, by decide +kernel⟩, lw_t4 (List.mem_of_getElem? (i := 191) rfl), lw_t5 (List.mem_of_getElem? (i := 0) rfl), lw_t5 (List.mem_of_getElem? (i := 1) rfl)⟩
theorem lw_p8 : lw_okq (⟨"SeenInOrderOfAge$Reader", "item", "()V"⟩, 7) := ⟨⟨by decide +kernel, by decide +kernel⟩, lw_t4 (List.mem_of_getElem? (i := 191) rfl), lw_t5 (List.mem_of_getElem? (i := 31) rfl), lw_t5 (List.mem_of_getElem? (i := 32) rfl)⟩
theorem lw_p9 : lw_okq (⟨"SeenInOrderOfAge$Reader", "wrong", "()LSeenInOrderOfAge$Fault;"⟩, 7) := ⟨⟨by decide +kernel, by decide +kernel⟩, lw_t4 (List.mem_of_getElem? (i := 191) rfl), lw_t5 (List.mem_of_getElem? (i := 35) rfl), lw_t5 (List.mem_of_getElem? (i := 36) rfl)⟩
theorem lw_p10 : lw_okq (⟨"SeenInOrderOfAge$Reader", "number", "(II)I"⟩, 7) := ⟨⟨by decide +kernel, by decide +kernel⟩, lw_t4 (List.mem_of_getElem? (i := 191) rfl), lw_t5 (List.mem_of_getElem? (i := 125) rfl), lw_t5 (List.mem_of_getElem? (i := 126) rfl)⟩
theorem lw_p11 : lw_okq (⟨"SeenInOrderOfAge$Reader", "sort", "()I"⟩, 7) := ⟨⟨by decide +kernel, by decide +kernel⟩, lw_t4 (List.mem_of_getElem? (i := 191) rfl), lw_t5 (List.mem_of_getElem? (i := 129) rfl), lw_t5 (List.mem_of_getElem? (i := 130) rfl)⟩
theorem lw_p12 : lw_okq (⟨"SeenInOrderOfAge$Reader", "looker", "()I"⟩, 7) := ⟨⟨by decide +kernel, by decide +kernel⟩, lw_t4 (List.mem_of_getElem? (i := 191) rfl), lw_t5 (List.mem_of_getElem? (i := 134) rfl), lw_t5 (List.mem_of_getElem? (i := 135) rfl)⟩
theorem lw_p13 : lw_okq (⟨"SeenInOrderOfAge$Reader", "takes", "(Ljava/lang/String;)Z"⟩, 7) := ⟨⟨by decide +kernel, by decide +kernel⟩, lw_t4 (List.mem_of_getElem? (i := 191) rfl), lw_t5 (List.mem_of_getElem? (i := 138) rfl), lw_t5 (List.mem_of_getElem? (i := 139) rfl)⟩
theorem lw_p14 : lw_okq (⟨"SeenInOrderOfAge", "becomes", "(LSeenInOrderOfAge$Window;)V"⟩, 12) := ⟨⟨by decide +kernel, by decide +kernel⟩, lw_t1 (List.mem_of_getElem? (i := 38) rfl), lw_t5 (List.mem_of_getElem? (i := 142) rfl), lw_t5 (List.mem_of_getElem? (i := 143) rfl)⟩
theorem lw_p15 : lw_okq (⟨"SeenInOrderOfAge", "isSet", "(I)Z"⟩, 12) := ⟨⟨by decide +kernel, by decide +kernel⟩, lw_t1 (List.mem_of_getElem? (i := 38) rfl), lw_t5 (List.mem_of_getElem? (i := 178) rfl), lw_t5 (List.mem_of_getElem? (i := 179) rfl)⟩
def lw_privs_1 : List (MethodName × Nat) := [(⟨"java/lang/NullPointerException", "getExtendedNPEMessage", "()Ljava/lang/String;"⟩, 8), (⟨"java/lang/Throwable", "fillInStackTrace", "(I)Ljava/lang/Throwable;"⟩, 6), (⟨"SeenInOrderOfAge", "no", "(I)I"⟩, 12), (⟨"SeenInOrderOfAge", "rowIn", "(I)Ljava/lang/Object;"⟩, 12), (⟨"SeenInOrderOfAge", "alone", "(LSeenInOrderOfAge$Looker;)I"⟩, 12), (⟨"SeenInOrderOfAge$Evening", "looks", "(ILSeenInOrderOfAge$Panes;)V"⟩, 5), (⟨"SeenInOrderOfAge$Reader", "next", "()V"⟩, 7), (⟨"SeenInOrderOfAge$Reader", "isIn", "(II)Z"⟩, 7), (⟨"SeenInOrderOfAge$Reader", "item", "()V"⟩, 7), (⟨"SeenInOrderOfAge$Reader", "wrong", "()LSeenInOrderOfAge$Fault;"⟩, 7), (⟨"SeenInOrderOfAge$Reader", "number", "(II)I"⟩, 7), (⟨"SeenInOrderOfAge$Reader", "sort", "()I"⟩, 7), (⟨"SeenInOrderOfAge$Reader", "looker", "()I"⟩, 7), (⟨"SeenInOrderOfAge$Reader", "takes", "(Ljava/lang/String;)Z"⟩, 7), (⟨"SeenInOrderOfAge", "becomes", "(LSeenInOrderOfAge$Window;)V"⟩, 12), (⟨"SeenInOrderOfAge", "isSet", "(I)Z"⟩, 12)]
theorem lw_r1 : ∀ q ∈ lw_privs_1, lw_okq q := List.forall_mem_cons.mpr ⟨lw_p0, List.forall_mem_cons.mpr ⟨lw_p1, List.forall_mem_cons.mpr ⟨lw_p2, List.forall_mem_cons.mpr ⟨lw_p3, List.forall_mem_cons.mpr ⟨lw_p4, List.forall_mem_cons.mpr ⟨lw_p5, List.forall_mem_cons.mpr ⟨lw_p6, List.forall_mem_cons.mpr ⟨lw_p7, List.forall_mem_cons.mpr ⟨lw_p8, List.forall_mem_cons.mpr ⟨lw_p9, List.forall_mem_cons.mpr ⟨lw_p10, List.forall_mem_cons.mpr ⟨lw_p11, List.forall_mem_cons.mpr ⟨lw_p12, List.forall_mem_cons.mpr ⟨lw_p13, List.forall_mem_cons.mpr ⟨lw_p14, List.forall_mem_cons.mpr ⟨lw_p15, fun _ h => absurd h List.not_mem_nil⟩⟩⟩⟩⟩⟩⟩⟩⟩⟩⟩⟩⟩⟩⟩⟩
theorem lw_p16 : lw_okq (⟨"SeenInOrderOfAge", "inOrder", "(II)I"⟩, 12) := ⟨⟨by decide +kernel, by decide +kernel⟩, lw_t1 (List.mem_of_getElem? (i := 38) rfl), lw_t5 (List.mem_of_getElem? (i := 234) rfl), lw_t5 (List.mem_of_getElem? (i := 235) rfl)⟩
theorem lw_p17 : lw_okq (⟨"SeenInOrderOfAge", "isGlad", "(II)Z"⟩, 12) := ⟨⟨by decide +kernel, by decide +kernel⟩, lw_t1 (List.mem_of_getElem? (i := 38) rfl), lw_t6 (List.mem_of_getElem? (i := 3) rfl), lw_t6 (List.mem_of_getElem? (i := 4) rfl)⟩
theorem lw_p18 : lw_okq (⟨"SeenInOrderOfAge", "gladWith", "(II)I"⟩, 12) := ⟨⟨by decide +kernel, by decide +kernel⟩, lw_t1 (List.mem_of_getElem? (i := 38) rfl), lw_t6 (List.mem_of_getElem? (i := 20) rfl), lw_t6 (List.mem_of_getElem? (i := 21) rfl)⟩
theorem lw_p19 : lw_okq (⟨"SeenInOrderOfAge", "tried", "()LSeenInOrderOfAge$Window;"⟩, 12) := ⟨⟨by decide +kernel, by decide +kernel⟩, lw_t1 (List.mem_of_getElem? (i := 38) rfl), lw_t6 (List.mem_of_getElem? (i := 24) rfl), lw_t6 (List.mem_of_getElem? (i := 25) rfl)⟩
theorem lw_p20 : lw_okq (⟨"SeenInOrderOfAge", "fewestOut", "(I)I"⟩, 12) := ⟨⟨by decide +kernel, by decide +kernel⟩, lw_t1 (List.mem_of_getElem? (i := 38) rfl), lw_t6 (List.mem_of_getElem? (i := 52) rfl), lw_t6 (List.mem_of_getElem? (i := 53) rfl)⟩
theorem lw_p21 : lw_okq (⟨"SeenInOrderOfAge", "makesGlad", "(III)Z"⟩, 12) := ⟨⟨by decide +kernel, by decide +kernel⟩, lw_t1 (List.mem_of_getElem? (i := 38) rfl), lw_t6 (List.mem_of_getElem? (i := 56) rfl), lw_t6 (List.mem_of_getElem? (i := 57) rfl)⟩
theorem lw_p22 : lw_okq (⟨"SeenInOrderOfAge", "firstEmpty", "(LSeenInOrderOfAge$Panes;)I"⟩, 12) := ⟨⟨by decide +kernel, by decide +kernel⟩, lw_t1 (List.mem_of_getElem? (i := 38) rfl), lw_t6 (List.mem_of_getElem? (i := 60) rfl), lw_t6 (List.mem_of_getElem? (i := 61) rfl)⟩
theorem lw_p23 : lw_okq (⟨"SeenInOrderOfAge", "wanted", "(I)I"⟩, 12) := ⟨⟨by decide +kernel, by decide +kernel⟩, lw_t1 (List.mem_of_getElem? (i := 38) rfl), lw_t6 (List.mem_of_getElem? (i := 64) rfl), lw_t6 (List.mem_of_getElem? (i := 65) rfl)⟩
theorem lw_p24 : lw_okq (⟨"SeenInOrderOfAge", "wouldTake", "(IIIII)Z"⟩, 12) := ⟨⟨by decide +kernel, by decide +kernel⟩, lw_t1 (List.mem_of_getElem? (i := 38) rfl), lw_t6 (List.mem_of_getElem? (i := 76) rfl), lw_t6 (List.mem_of_getElem? (i := 77) rfl)⟩
theorem lw_p25 : lw_okq (⟨"SeenInOrderOfAge", "ways", "(II)J"⟩, 12) := ⟨⟨by decide +kernel, by decide +kernel⟩, lw_t1 (List.mem_of_getElem? (i := 38) rfl), lw_t6 (List.mem_of_getElem? (i := 85) rfl), lw_t6 (List.mem_of_getElem? (i := 86) rfl)⟩
theorem lw_p26 : lw_okq (⟨"SeenInOrderOfAge", "ofMillion", "(JI)I"⟩, 12) := ⟨⟨by decide +kernel, by decide +kernel⟩, lw_t1 (List.mem_of_getElem? (i := 38) rfl), lw_t6 (List.mem_of_getElem? (i := 89) rfl), lw_t6 (List.mem_of_getElem? (i := 90) rfl)⟩
theorem lw_p27 : lw_okq (⟨"SeenInOrderOfAge", "of", "(II)I"⟩, 12) := ⟨⟨by decide +kernel, by decide +kernel⟩, lw_t1 (List.mem_of_getElem? (i := 38) rfl), lw_t6 (List.mem_of_getElem? (i := 124) rfl), lw_t6 (List.mem_of_getElem? (i := 125) rfl)⟩
theorem lw_p28 : lw_okq (⟨"SeenInOrderOfAge", "swaps", "()V"⟩, 12) := ⟨⟨by decide +kernel, by decide +kernel⟩, lw_t1 (List.mem_of_getElem? (i := 38) rfl), lw_t6 (List.mem_of_getElem? (i := 136) rfl), lw_t6 (List.mem_of_getElem? (i := 137) rfl)⟩
theorem lw_p29 : lw_okq (⟨"SeenInOrderOfAge", "wishOf", "(II)I"⟩, 12) := ⟨⟨by decide +kernel, by decide +kernel⟩, lw_t1 (List.mem_of_getElem? (i := 38) rfl), lw_t6 (List.mem_of_getElem? (i := 140) rfl), lw_t6 (List.mem_of_getElem? (i := 141) rfl)⟩
theorem lw_p30 : lw_okq (⟨"SeenInOrderOfAge", "bringer", "(II)I"⟩, 12) := ⟨⟨by decide +kernel, by decide +kernel⟩, lw_t1 (List.mem_of_getElem? (i := 38) rfl), lw_t6 (List.mem_of_getElem? (i := 144) rfl), lw_t6 (List.mem_of_getElem? (i := 145) rfl)⟩
theorem lw_p31 : lw_okq (⟨"SeenInOrderOfAge", "isRing", "(I)Z"⟩, 12) := ⟨⟨by decide +kernel, by decide +kernel⟩, lw_t1 (List.mem_of_getElem? (i := 38) rfl), lw_t6 (List.mem_of_getElem? (i := 148) rfl), lw_t6 (List.mem_of_getElem? (i := 149) rfl)⟩
def lw_privs_2 : List (MethodName × Nat) := [(⟨"SeenInOrderOfAge", "inOrder", "(II)I"⟩, 12), (⟨"SeenInOrderOfAge", "isGlad", "(II)Z"⟩, 12), (⟨"SeenInOrderOfAge", "gladWith", "(II)I"⟩, 12), (⟨"SeenInOrderOfAge", "tried", "()LSeenInOrderOfAge$Window;"⟩, 12), (⟨"SeenInOrderOfAge", "fewestOut", "(I)I"⟩, 12), (⟨"SeenInOrderOfAge", "makesGlad", "(III)Z"⟩, 12), (⟨"SeenInOrderOfAge", "firstEmpty", "(LSeenInOrderOfAge$Panes;)I"⟩, 12), (⟨"SeenInOrderOfAge", "wanted", "(I)I"⟩, 12), (⟨"SeenInOrderOfAge", "wouldTake", "(IIIII)Z"⟩, 12), (⟨"SeenInOrderOfAge", "ways", "(II)J"⟩, 12), (⟨"SeenInOrderOfAge", "ofMillion", "(JI)I"⟩, 12), (⟨"SeenInOrderOfAge", "of", "(II)I"⟩, 12), (⟨"SeenInOrderOfAge", "swaps", "()V"⟩, 12), (⟨"SeenInOrderOfAge", "wishOf", "(II)I"⟩, 12), (⟨"SeenInOrderOfAge", "bringer", "(II)I"⟩, 12), (⟨"SeenInOrderOfAge", "isRing", "(I)Z"⟩, 12)]
theorem lw_r2 : ∀ q ∈ lw_privs_2, lw_okq q := List.forall_mem_cons.mpr ⟨lw_p16, List.forall_mem_cons.mpr ⟨lw_p17, List.forall_mem_cons.mpr ⟨lw_p18, List.forall_mem_cons.mpr ⟨lw_p19, List.forall_mem_cons.mpr ⟨lw_p20, List.forall_mem_cons.mpr ⟨lw_p21, List.forall_mem_cons.mpr ⟨lw_p22, List.forall_mem_cons.mpr ⟨lw_p23, List.forall_mem_cons.mpr ⟨lw_p24, List.forall_mem_cons.mpr ⟨lw_p25, List.forall_mem_cons.mpr ⟨lw_p26, List.forall_mem_cons.mpr ⟨lw_p27, List.forall_mem_cons.mpr ⟨lw_p28, List.forall_mem_cons.mpr ⟨lw_p29, List.forall_mem_cons.mpr ⟨lw_p30, List.forall_mem_cons.mpr ⟨lw_p31, fun _ h => absurd h List.not_mem_nil⟩⟩⟩⟩⟩⟩⟩⟩⟩⟩⟩⟩⟩⟩⟩⟩
theorem lw_p32 : lw_okq (⟨"SeenInOrderOfAge", "manySwapped", "()I"⟩, 12) := ⟨⟨by decide +kernel, by decide +kernel⟩, lw_t1 (List.mem_of_getElem? (i := 38) rfl), lw_t6 (List.mem_of_getElem? (i := 156) rfl), lw_t6 (List.mem_of_getElem? (i := 157) rfl)⟩
theorem lw_p33 : lw_okq (⟨"SeenInOrderOfAge", "toldIn", "(II)[J"⟩, 12) := ⟨⟨by decide +kernel, by decide +kernel⟩, lw_t1 (List.mem_of_getElem? (i := 38) rfl), lw_t6 (List.mem_of_getElem? (i := 164) rfl), lw_t6 (List.mem_of_getElem? (i := 165) rfl)⟩
theorem lw_p34 : lw_okq (⟨"SeenInOrderOfAge", "wrongIn", "([J)I"⟩, 12) := ⟨⟨by decide +kernel, by decide +kernel⟩, lw_t1 (List.mem_of_getElem? (i := 38) rfl), lw_t6 (List.mem_of_getElem? (i := 168) rfl), lw_t6 (List.mem_of_getElem? (i := 169) rfl)⟩
theorem lw_p35 : lw_okq (⟨"SeenInOrderOfAge", "isTold", "(J)Z"⟩, 12) := ⟨⟨by decide +kernel, by decide +kernel⟩, lw_t1 (List.mem_of_getElem? (i := 38) rfl), lw_t6 (List.mem_of_getElem? (i := 172) rfl), lw_t6 (List.mem_of_getElem? (i := 173) rfl)⟩
theorem lw_p36 : lw_okq (⟨"SeenInOrderOfAge", "happens", "(I)I"⟩, 12) := ⟨⟨by decide +kernel, by decide +kernel⟩, lw_t1 (List.mem_of_getElem? (i := 38) rfl), lw_t6 (List.mem_of_getElem? (i := 181) rfl), lw_t6 (List.mem_of_getElem? (i := 182) rfl)⟩
theorem lw_p37 : lw_okq (⟨"SeenInOrderOfAge", "christmas", "()I"⟩, 12) := ⟨⟨by decide +kernel, by decide +kernel⟩, lw_t1 (List.mem_of_getElem? (i := 38) rfl), lw_t6 (List.mem_of_getElem? (i := 199) rfl), lw_t6 (List.mem_of_getElem? (i := 200) rfl)⟩
theorem lw_p38 : lw_okq (⟨"SeenInOrderOfAge", "allThings", "()I"⟩, 12) := ⟨⟨by decide +kernel, by decide +kernel⟩, lw_t1 (List.mem_of_getElem? (i := 38) rfl), lw_t6 (List.mem_of_getElem? (i := 224) rfl), lw_t6 (List.mem_of_getElem? (i := 225) rfl)⟩
theorem lw_p39 : lw_okq (⟨"SeenInOrderOfAge", "shining", "()I"⟩, 12) := ⟨⟨by decide +kernel, by decide +kernel⟩, lw_t1 (List.mem_of_getElem? (i := 38) rfl), lw_t6 (List.mem_of_getElem? (i := 228) rfl), lw_t6 (List.mem_of_getElem? (i := 229) rfl)⟩
theorem lw_p40 : lw_okq (⟨"SeenInOrderOfAge", "shelved", "()I"⟩, 12) := ⟨⟨by decide +kernel, by decide +kernel⟩, lw_t1 (List.mem_of_getElem? (i := 38) rfl), lw_t6 (List.mem_of_getElem? (i := 232) rfl), lw_t6 (List.mem_of_getElem? (i := 233) rfl)⟩
theorem lw_p41 : lw_okq (⟨"SeenInOrderOfAgeModel", "no", "(I)I"⟩, 33) := ⟨⟨by decide +kernel, by decide +kernel⟩, lw_t6 (List.mem_of_getElem? (i := 236) rfl), lw_t7 (List.mem_of_getElem? (i := 112) rfl), lw_t7 (List.mem_of_getElem? (i := 113) rfl)⟩
theorem lw_p42 : lw_okq (⟨"SeenInOrderOfAgeModel", "isRow", "(I)Z"⟩, 33) := ⟨⟨by decide +kernel, by decide +kernel⟩, lw_t6 (List.mem_of_getElem? (i := 236) rfl), lw_t7 (List.mem_of_getElem? (i := 120) rfl), lw_t7 (List.mem_of_getElem? (i := 121) rfl)⟩
theorem lw_p43 : lw_okq (⟨"SeenInOrderOfAgeModel", "noRow", "(I)I"⟩, 33) := ⟨⟨by decide +kernel, by decide +kernel⟩, lw_t6 (List.mem_of_getElem? (i := 236) rfl), lw_t7 (List.mem_of_getElem? (i := 124) rfl), lw_t7 (List.mem_of_getElem? (i := 125) rfl)⟩
theorem lw_p44 : lw_okq (⟨"SeenInOrderOfAgeModel", "isLooker", "(I)Z"⟩, 33) := ⟨⟨by decide +kernel, by decide +kernel⟩, lw_t6 (List.mem_of_getElem? (i := 236) rfl), lw_t7 (List.mem_of_getElem? (i := 147) rfl), lw_t7 (List.mem_of_getElem? (i := 148) rfl)⟩
theorem lw_p45 : lw_okq (⟨"SeenInOrderOfAgeModel", "runs", "(I)V"⟩, 33) := ⟨⟨by decide +kernel, by decide +kernel⟩, lw_t6 (List.mem_of_getElem? (i := 236) rfl), lw_t7 (List.mem_of_getElem? (i := 158) rfl), lw_t7 (List.mem_of_getElem? (i := 159) rfl)⟩
theorem lw_p46 : lw_okq (⟨"SeenInOrderOfAgeModel", "begins", "(I)V"⟩, 33) := ⟨⟨by decide +kernel, by decide +kernel⟩, lw_t6 (List.mem_of_getElem? (i := 236) rfl), lw_t7 (List.mem_of_getElem? (i := 162) rfl), lw_t7 (List.mem_of_getElem? (i := 163) rfl)⟩
theorem lw_p47 : lw_okq (⟨"SeenInOrderOfAgeModel", "orders", "(I)V"⟩, 33) := ⟨⟨by decide +kernel, by decide +kernel⟩, lw_t6 (List.mem_of_getElem? (i := 236) rfl), lw_t7 (List.mem_of_getElem? (i := 166) rfl), lw_t7 (List.mem_of_getElem? (i := 167) rfl)⟩
def lw_privs_3 : List (MethodName × Nat) := [(⟨"SeenInOrderOfAge", "manySwapped", "()I"⟩, 12), (⟨"SeenInOrderOfAge", "toldIn", "(II)[J"⟩, 12), (⟨"SeenInOrderOfAge", "wrongIn", "([J)I"⟩, 12), (⟨"SeenInOrderOfAge", "isTold", "(J)Z"⟩, 12), (⟨"SeenInOrderOfAge", "happens", "(I)I"⟩, 12), (⟨"SeenInOrderOfAge", "christmas", "()I"⟩, 12), (⟨"SeenInOrderOfAge", "allThings", "()I"⟩, 12), (⟨"SeenInOrderOfAge", "shining", "()I"⟩, 12), (⟨"SeenInOrderOfAge", "shelved", "()I"⟩, 12), (⟨"SeenInOrderOfAgeModel", "no", "(I)I"⟩, 33), (⟨"SeenInOrderOfAgeModel", "isRow", "(I)Z"⟩, 33), (⟨"SeenInOrderOfAgeModel", "noRow", "(I)I"⟩, 33), (⟨"SeenInOrderOfAgeModel", "isLooker", "(I)Z"⟩, 33), (⟨"SeenInOrderOfAgeModel", "runs", "(I)V"⟩, 33), (⟨"SeenInOrderOfAgeModel", "begins", "(I)V"⟩, 33), (⟨"SeenInOrderOfAgeModel", "orders", "(I)V"⟩, 33)]
theorem lw_r3 : ∀ q ∈ lw_privs_3, lw_okq q := List.forall_mem_cons.mpr ⟨lw_p32, List.forall_mem_cons.mpr ⟨lw_p33, List.forall_mem_cons.mpr ⟨lw_p34, List.forall_mem_cons.mpr ⟨lw_p35, List.forall_mem_cons.mpr ⟨lw_p36, List.forall_mem_cons.mpr ⟨lw_p37, List.forall_mem_cons.mpr ⟨lw_p38, List.forall_mem_cons.mpr ⟨lw_p39, List.forall_mem_cons.mpr ⟨lw_p40, List.forall_mem_cons.mpr ⟨lw_p41, List.forall_mem_cons.mpr ⟨lw_p42, List.forall_mem_cons.mpr ⟨lw_p43, List.forall_mem_cons.mpr ⟨lw_p44, List.forall_mem_cons.mpr ⟨lw_p45, List.forall_mem_cons.mpr ⟨lw_p46, List.forall_mem_cons.mpr ⟨lw_p47, fun _ h => absurd h List.not_mem_nil⟩⟩⟩⟩⟩⟩⟩⟩⟩⟩⟩⟩⟩⟩⟩⟩
theorem lw_p48 : lw_okq (⟨"SeenInOrderOfAgeModel", "lookerGoes", "(I)V"⟩, 33) := ⟨⟨by decide +kernel, by decide +kernel⟩, lw_t6 (List.mem_of_getElem? (i := 236) rfl), lw_t7 (List.mem_of_getElem? (i := 173) rfl), lw_t7 (List.mem_of_getElem? (i := 174) rfl)⟩
theorem lw_p49 : lw_okq (⟨"SeenInOrderOfAgeModel", "lastLiked", "(I)I"⟩, 33) := ⟨⟨by decide +kernel, by decide +kernel⟩, lw_t6 (List.mem_of_getElem? (i := 236) rfl), lw_t7 (List.mem_of_getElem? (i := 177) rfl), lw_t7 (List.mem_of_getElem? (i := 178) rfl)⟩
theorem lw_p50 : lw_okq (⟨"SeenInOrderOfAgeModel", "doesLike", "(II)Z"⟩, 33) := ⟨⟨by decide +kernel, by decide +kernel⟩, lw_t6 (List.mem_of_getElem? (i := 236) rfl), lw_t7 (List.mem_of_getElem? (i := 181) rfl), lw_t7 (List.mem_of_getElem? (i := 182) rfl)⟩
theorem lw_p51 : lw_okq (⟨"SeenInOrderOfAgeModel", "takes", "(II)V"⟩, 33) := ⟨⟨by decide +kernel, by decide +kernel⟩, lw_t6 (List.mem_of_getElem? (i := 236) rfl), lw_t7 (List.mem_of_getElem? (i := 185) rfl), lw_t7 (List.mem_of_getElem? (i := 186) rfl)⟩
theorem lw_p52 : lw_okq (⟨"SeenInOrderOfAgeModel", "firstWith", "(I)I"⟩, 33) := ⟨⟨by decide +kernel, by decide +kernel⟩, lw_t6 (List.mem_of_getElem? (i := 236) rfl), lw_t7 (List.mem_of_getElem? (i := 189) rfl), lw_t7 (List.mem_of_getElem? (i := 190) rfl)⟩
theorem lw_p53 : lw_okq (⟨"SeenInOrderOfAgeModel", "look", "(I)I"⟩, 33) := ⟨⟨by decide +kernel, by decide +kernel⟩, lw_t6 (List.mem_of_getElem? (i := 236) rfl), lw_t7 (List.mem_of_getElem? (i := 193) rfl), lw_t7 (List.mem_of_getElem? (i := 194) rfl)⟩
theorem lw_p54 : lw_okq (⟨"SeenInOrderOfAgeModel", "manyOf", "(I)I"⟩, 33) := ⟨⟨by decide +kernel, by decide +kernel⟩, lw_t6 (List.mem_of_getElem? (i := 236) rfl), lw_t7 (List.mem_of_getElem? (i := 197) rfl), lw_t7 (List.mem_of_getElem? (i := 198) rfl)⟩
theorem lw_p55 : lw_okq (⟨"SeenInOrderOfAgeModel", "shyest", "(I)I"⟩, 33) := ⟨⟨by decide +kernel, by decide +kernel⟩, lw_t6 (List.mem_of_getElem? (i := 236) rfl), lw_t7 (List.mem_of_getElem? (i := 201) rfl), lw_t7 (List.mem_of_getElem? (i := 202) rfl)⟩
theorem lw_p56 : lw_okq (⟨"SeenInOrderOfAgeModel", "newLooker", "(III)I"⟩, 33) := ⟨⟨by decide +kernel, by decide +kernel⟩, lw_t6 (List.mem_of_getElem? (i := 236) rfl), lw_t7 (List.mem_of_getElem? (i := 219) rfl), lw_t7 (List.mem_of_getElem? (i := 220) rfl)⟩
theorem lw_p57 : lw_okq (⟨"SeenInOrderOfAgeModel", "keep", "([I)V"⟩, 33) := ⟨⟨by decide +kernel, by decide +kernel⟩, lw_t6 (List.mem_of_getElem? (i := 236) rfl), lw_t8 (List.mem_of_getElem? (i := 3) rfl), lw_t8 (List.mem_of_getElem? (i := 4) rfl)⟩
theorem lw_p58 : lw_okq (⟨"SeenInOrderOfAgeModel", "next", "()V"⟩, 33) := ⟨⟨by decide +kernel, by decide +kernel⟩, lw_t6 (List.mem_of_getElem? (i := 236) rfl), lw_t8 (List.mem_of_getElem? (i := 7) rfl), lw_t8 (List.mem_of_getElem? (i := 8) rfl)⟩
theorem lw_p59 : lw_okq (⟨"SeenInOrderOfAgeModel", "statement", "()Z"⟩, 33) := ⟨⟨by decide +kernel, by decide +kernel⟩, lw_t6 (List.mem_of_getElem? (i := 236) rfl), lw_t8 (List.mem_of_getElem? (i := 17) rfl), lw_t8 (List.mem_of_getElem? (i := 18) rfl)⟩
theorem lw_p60 : lw_okq (⟨"SeenInOrderOfAgeModel", "isWord", "(Ljava/lang/String;)Z"⟩, 33) := ⟨⟨by decide +kernel, by decide +kernel⟩, lw_t6 (List.mem_of_getElem? (i := 236) rfl), lw_t8 (List.mem_of_getElem? (i := 22) rfl), lw_t8 (List.mem_of_getElem? (i := 23) rfl)⟩
theorem lw_p61 : lw_okq (⟨"SeenInOrderOfAgeModel", "number", "(II)I"⟩, 33) := ⟨⟨by decide +kernel, by decide +kernel⟩, lw_t6 (List.mem_of_getElem? (i := 236) rfl), lw_t8 (List.mem_of_getElem? (i := 38) rfl), lw_t8 (List.mem_of_getElem? (i := 39) rfl)⟩
theorem lw_p62 : lw_okq (⟨"SeenInOrderOfAgeModel", "again", "([I)V"⟩, 33) := ⟨⟨by decide +kernel, by decide +kernel⟩, lw_t6 (List.mem_of_getElem? (i := 236) rfl), lw_t8 (List.mem_of_getElem? (i := 47) rfl), lw_t8 (List.mem_of_getElem? (i := 48) rfl)⟩
theorem lw_p63 : lw_okq (⟨"SeenInOrderOfAgeModel", "isSet", "(I)Z"⟩, 33) := ⟨⟨by decide +kernel, by decide +kernel⟩, lw_t6 (List.mem_of_getElem? (i := 236) rfl), lw_t8 (List.mem_of_getElem? (i := 63) rfl), lw_t8 (List.mem_of_getElem? (i := 64) rfl)⟩
def lw_privs_4 : List (MethodName × Nat) := [(⟨"SeenInOrderOfAgeModel", "lookerGoes", "(I)V"⟩, 33), (⟨"SeenInOrderOfAgeModel", "lastLiked", "(I)I"⟩, 33), (⟨"SeenInOrderOfAgeModel", "doesLike", "(II)Z"⟩, 33), (⟨"SeenInOrderOfAgeModel", "takes", "(II)V"⟩, 33), (⟨"SeenInOrderOfAgeModel", "firstWith", "(I)I"⟩, 33), (⟨"SeenInOrderOfAgeModel", "look", "(I)I"⟩, 33), (⟨"SeenInOrderOfAgeModel", "manyOf", "(I)I"⟩, 33), (⟨"SeenInOrderOfAgeModel", "shyest", "(I)I"⟩, 33), (⟨"SeenInOrderOfAgeModel", "newLooker", "(III)I"⟩, 33), (⟨"SeenInOrderOfAgeModel", "keep", "([I)V"⟩, 33), (⟨"SeenInOrderOfAgeModel", "next", "()V"⟩, 33), (⟨"SeenInOrderOfAgeModel", "statement", "()Z"⟩, 33), (⟨"SeenInOrderOfAgeModel", "isWord", "(Ljava/lang/String;)Z"⟩, 33), (⟨"SeenInOrderOfAgeModel", "number", "(II)I"⟩, 33), (⟨"SeenInOrderOfAgeModel", "again", "([I)V"⟩, 33), (⟨"SeenInOrderOfAgeModel", "isSet", "(I)Z"⟩, 33)]
theorem lw_r4 : ∀ q ∈ lw_privs_4, lw_okq q := List.forall_mem_cons.mpr ⟨lw_p48, List.forall_mem_cons.mpr ⟨lw_p49, List.forall_mem_cons.mpr ⟨lw_p50, List.forall_mem_cons.mpr ⟨lw_p51, List.forall_mem_cons.mpr ⟨lw_p52, List.forall_mem_cons.mpr ⟨lw_p53, List.forall_mem_cons.mpr ⟨lw_p54, List.forall_mem_cons.mpr ⟨lw_p55, List.forall_mem_cons.mpr ⟨lw_p56, List.forall_mem_cons.mpr ⟨lw_p57, List.forall_mem_cons.mpr ⟨lw_p58, List.forall_mem_cons.mpr ⟨lw_p59, List.forall_mem_cons.mpr ⟨lw_p60, List.forall_mem_cons.mpr ⟨lw_p61, List.forall_mem_cons.mpr ⟨lw_p62, List.forall_mem_cons.mpr ⟨lw_p63, fun _ h => absurd h List.not_mem_nil⟩⟩⟩⟩⟩⟩⟩⟩⟩⟩⟩⟩⟩⟩⟩⟩
theorem lw_p64 : lw_okq (⟨"SeenInOrderOfAgeModel", "leftThen", "()I"⟩, 33) := ⟨⟨by decide +kernel, by decide +kernel⟩, lw_t6 (List.mem_of_getElem? (i := 236) rfl), lw_t8 (List.mem_of_getElem? (i := 67) rfl), lw_t8 (List.mem_of_getElem? (i := 68) rfl)⟩
theorem lw_p65 : lw_okq (⟨"SeenInOrderOfAgeModel", "gladOf", "(I)I"⟩, 33) := ⟨⟨by decide +kernel, by decide +kernel⟩, lw_t6 (List.mem_of_getElem? (i := 236) rfl), lw_t8 (List.mem_of_getElem? (i := 79) rfl), lw_t8 (List.mem_of_getElem? (i := 80) rfl)⟩
theorem lw_p66 : lw_okq (⟨"SeenInOrderOfAgeModel", "isGlad", "(I)Z"⟩, 33) := ⟨⟨by decide +kernel, by decide +kernel⟩, lw_t6 (List.mem_of_getElem? (i := 236) rfl), lw_t8 (List.mem_of_getElem? (i := 83) rfl), lw_t8 (List.mem_of_getElem? (i := 84) rfl)⟩
theorem lw_p67 : lw_okq (⟨"SeenInOrderOfAgeModel", "putsOut", "(IIII)Z"⟩, 33) := ⟨⟨by decide +kernel, by decide +kernel⟩, lw_t6 (List.mem_of_getElem? (i := 236) rfl), lw_t8 (List.mem_of_getElem? (i := 104) rfl), lw_t8 (List.mem_of_getElem? (i := 105) rfl)⟩
theorem lw_p68 : lw_okq (⟨"SeenInOrderOfAgeModel", "waysOf", "(II)J"⟩, 33) := ⟨⟨by decide +kernel, by decide +kernel⟩, lw_t6 (List.mem_of_getElem? (i := 236) rfl), lw_t8 (List.mem_of_getElem? (i := 123) rfl), lw_t8 (List.mem_of_getElem? (i := 124) rfl)⟩
theorem lw_p69 : lw_okq (⟨"SeenInOrderOfAgeModel", "allWays", "(I)J"⟩, 33) := ⟨⟨by decide +kernel, by decide +kernel⟩, lw_t6 (List.mem_of_getElem? (i := 236) rfl), lw_t8 (List.mem_of_getElem? (i := 128) rfl), lw_t8 (List.mem_of_getElem? (i := 129) rfl)⟩
theorem lw_p70 : lw_okq (⟨"SeenInOrderOfAgeModel", "exchanges", "(II)I"⟩, 33) := ⟨⟨by decide +kernel, by decide +kernel⟩, lw_t6 (List.mem_of_getElem? (i := 236) rfl), lw_t8 (List.mem_of_getElem? (i := 158) rfl), lw_t8 (List.mem_of_getElem? (i := 159) rfl)⟩
theorem lw_p71 : lw_okq (⟨"SeenInOrderOfAgeModel", "inWindow", "(I)I"⟩, 33) := ⟨⟨by decide +kernel, by decide +kernel⟩, lw_t6 (List.mem_of_getElem? (i := 236) rfl), lw_t8 (List.mem_of_getElem? (i := 190) rfl), lw_t8 (List.mem_of_getElem? (i := 191) rfl)⟩
theorem lw_p72 : lw_okq (⟨"SeenInOrderOfAgeModel", "rank", "(II)I"⟩, 33) := ⟨⟨by decide +kernel, by decide +kernel⟩, lw_t6 (List.mem_of_getElem? (i := 236) rfl), lw_t8 (List.mem_of_getElem? (i := 202) rfl), lw_t8 (List.mem_of_getElem? (i := 203) rfl)⟩
theorem lw_p73 : lw_okq (⟨"SeenInOrderOfAgeModel", "swaps", "()V"⟩, 33) := ⟨⟨by decide +kernel, by decide +kernel⟩, lw_t6 (List.mem_of_getElem? (i := 236) rfl), lw_t8 (List.mem_of_getElem? (i := 210) rfl), lw_t8 (List.mem_of_getElem? (i := 211) rfl)⟩
theorem lw_p74 : lw_okq (⟨"SeenInOrderOfAgeModel", "wishOf", "(I)I"⟩, 33) := ⟨⟨by decide +kernel, by decide +kernel⟩, lw_t6 (List.mem_of_getElem? (i := 236) rfl), lw_t8 (List.mem_of_getElem? (i := 214) rfl), lw_t8 (List.mem_of_getElem? (i := 215) rfl)⟩
theorem lw_p75 : lw_okq (⟨"SeenInOrderOfAgeModel", "bringer", "(I)I"⟩, 33) := ⟨⟨by decide +kernel, by decide +kernel⟩, lw_t6 (List.mem_of_getElem? (i := 236) rfl), lw_t8 (List.mem_of_getElem? (i := 218) rfl), lw_t8 (List.mem_of_getElem? (i := 219) rfl)⟩
theorem lw_p76 : lw_okq (⟨"SeenInOrderOfAgeModel", "isRing", "(I)Z"⟩, 33) := ⟨⟨by decide +kernel, by decide +kernel⟩, lw_t6 (List.mem_of_getElem? (i := 236) rfl), lw_t8 (List.mem_of_getElem? (i := 222) rfl), lw_t8 (List.mem_of_getElem? (i := 223) rfl)⟩
theorem lw_p77 : lw_okq (⟨"SeenInOrderOfAgeModel", "others", "()I"⟩, 33) := ⟨⟨by decide +kernel, by decide +kernel⟩, lw_t6 (List.mem_of_getElem? (i := 236) rfl), lw_t8 (List.mem_of_getElem? (i := 230) rfl), lw_t8 (List.mem_of_getElem? (i := 231) rfl)⟩
theorem lw_p78 : lw_okq (⟨"SeenInOrderOfAgeModel", "wrong", "(II)I"⟩, 33) := ⟨⟨by decide +kernel, by decide +kernel⟩, lw_t6 (List.mem_of_getElem? (i := 236) rfl), lw_t8 (List.mem_of_getElem? (i := 238) rfl), lw_t8 (List.mem_of_getElem? (i := 239) rfl)⟩
theorem lw_p79 : lw_okq (⟨"SeenInOrderOfAgeModel", "toldAt", "(II)J"⟩, 33) := ⟨⟨by decide +kernel, by decide +kernel⟩, lw_t6 (List.mem_of_getElem? (i := 236) rfl), lw_t9 (List.mem_of_getElem? (i := 2) rfl), lw_t9 (List.mem_of_getElem? (i := 3) rfl)⟩
def lw_privs_5 : List (MethodName × Nat) := [(⟨"SeenInOrderOfAgeModel", "leftThen", "()I"⟩, 33), (⟨"SeenInOrderOfAgeModel", "gladOf", "(I)I"⟩, 33), (⟨"SeenInOrderOfAgeModel", "isGlad", "(I)Z"⟩, 33), (⟨"SeenInOrderOfAgeModel", "putsOut", "(IIII)Z"⟩, 33), (⟨"SeenInOrderOfAgeModel", "waysOf", "(II)J"⟩, 33), (⟨"SeenInOrderOfAgeModel", "allWays", "(I)J"⟩, 33), (⟨"SeenInOrderOfAgeModel", "exchanges", "(II)I"⟩, 33), (⟨"SeenInOrderOfAgeModel", "inWindow", "(I)I"⟩, 33), (⟨"SeenInOrderOfAgeModel", "rank", "(II)I"⟩, 33), (⟨"SeenInOrderOfAgeModel", "swaps", "()V"⟩, 33), (⟨"SeenInOrderOfAgeModel", "wishOf", "(I)I"⟩, 33), (⟨"SeenInOrderOfAgeModel", "bringer", "(I)I"⟩, 33), (⟨"SeenInOrderOfAgeModel", "isRing", "(I)Z"⟩, 33), (⟨"SeenInOrderOfAgeModel", "others", "()I"⟩, 33), (⟨"SeenInOrderOfAgeModel", "wrong", "(II)I"⟩, 33), (⟨"SeenInOrderOfAgeModel", "toldAt", "(II)J"⟩, 33)]
theorem lw_r5 : ∀ q ∈ lw_privs_5, lw_okq q := List.forall_mem_cons.mpr ⟨lw_p64, List.forall_mem_cons.mpr ⟨lw_p65, List.forall_mem_cons.mpr ⟨lw_p66, List.forall_mem_cons.mpr ⟨lw_p67, List.forall_mem_cons.mpr ⟨lw_p68, List.forall_mem_cons.mpr ⟨lw_p69, List.forall_mem_cons.mpr ⟨lw_p70, List.forall_mem_cons.mpr ⟨lw_p71, List.forall_mem_cons.mpr ⟨lw_p72, List.forall_mem_cons.mpr ⟨lw_p73, List.forall_mem_cons.mpr ⟨lw_p74, List.forall_mem_cons.mpr ⟨lw_p75, List.forall_mem_cons.mpr ⟨lw_p76, List.forall_mem_cons.mpr ⟨lw_p77, List.forall_mem_cons.mpr ⟨lw_p78, List.forall_mem_cons.mpr ⟨lw_p79, fun _ h => absurd h List.not_mem_nil⟩⟩⟩⟩⟩⟩⟩⟩⟩⟩⟩⟩⟩⟩⟩⟩
theorem lw_p80 : lw_okq (⟨"SeenInOrderOfAgeModel", "goes", "(I)I"⟩, 33) := ⟨⟨by decide +kernel, by decide +kernel⟩, lw_t6 (List.mem_of_getElem? (i := 236) rfl), lw_t9 (List.mem_of_getElem? (i := 10) rfl), lw_t9 (List.mem_of_getElem? (i := 11) rfl)⟩
theorem lw_p81 : lw_okq (⟨"SeenInOrderOfAgeModel", "draw", "(I)I"⟩, 33) := ⟨⟨by decide +kernel, by decide +kernel⟩, lw_t6 (List.mem_of_getElem? (i := 236) rfl), lw_t9 (List.mem_of_getElem? (i := 24) rfl), lw_t9 (List.mem_of_getElem? (i := 25) rfl)⟩
def lw_privs_6 : List (MethodName × Nat) := [(⟨"SeenInOrderOfAgeModel", "goes", "(I)I"⟩, 33), (⟨"SeenInOrderOfAgeModel", "draw", "(I)I"⟩, 33)]
theorem lw_r6 : ∀ q ∈ lw_privs_6, lw_okq q := List.forall_mem_cons.mpr ⟨lw_p80, List.forall_mem_cons.mpr ⟨lw_p81, fun _ h => absurd h List.not_mem_nil⟩⟩
def lw_privs : List (MethodName × Nat) := lw_privs_1 ++ (lw_privs_2 ++ (lw_privs_3 ++ (lw_privs_4 ++ (lw_privs_5 ++ (lw_privs_6)))))
def lw_tbl : List Cond := k2_sels lw_privs ++ tables_1
theorem lw_privs_ok : ∀ q ∈ lw_privs, lw_okq q := by
  show ∀ q ∈ lw_privs_1 ++ (lw_privs_2 ++ (lw_privs_3 ++ (lw_privs_4 ++ (lw_privs_5 ++ (lw_privs_6))))), lw_okq q
  exact List.forall_mem_append.mpr ⟨lw_r1, List.forall_mem_append.mpr ⟨lw_r2, List.forall_mem_append.mpr ⟨lw_r3, List.forall_mem_append.mpr ⟨lw_r4, List.forall_mem_append.mpr ⟨lw_r5, lw_r6⟩⟩⟩⟩⟩
-- ===== ONE list of words for every method: the tables' words that hold all through a run =====
def lw_all : List Cond := lw_tbl.filter goodWord
/-- a word of the tables by its place: claim/WORDS.tsv -/
theorem lw_w {w : Cond} (i : Nat) (h : lw_tbl[i]? = some w) (g : goodWord w = true) : w ∈ lw_all := List.mem_filter.mpr ⟨List.mem_of_getElem? h, g⟩
theorem lw_all_tbl {w : Cond} (h : w ∈ lw_all) : w ∈ lw_tbl := (List.mem_filter.mp h).1
theorem lw_self : GoodIn lw_all lw_all := fun w h => ⟨h, good_of_word (List.mem_filter.mp h).2⟩
/-- a class's field words, by their places -/
theorem lw_in (ws : List Cond) (ps : List Nat) (hp : ws = ps.filterMap (fun i => lw_tbl[i]?)) (hg : ws.all goodWord = true) : ∀ w ∈ ws, w ∈ lw_all := by
  intro w h
  have h1 := List.all_eq_true.mp hg w h
  rw [hp] at h
  obtain ⟨i, -, hi⟩ := List.mem_filterMap.mp h
  exact lw_w i hi h1
/-- the words of a contract for the method y with code b, L locals, answer r -/
abbrev ws_ (y : MethodName) (b : ByteArray) (L : Nat) (r : Option FieldType) : List Cond := Cond.code y b L r :: lw_all
theorem lw_meth {y : MethodName} {b : ByteArray} {L : Nat} {r : Option FieldType} (h : Cond.code y b L r ∈ lw_all) : GoodIn lw_all (ws_ y b L r) := by
  intro w hw
  rcases List.mem_cons.mp hw with e | e
  · rw [e]
    exact lw_self _ h
  · exact lw_self _ e
theorem lw_app {a c : List Cond} (ha : ∀ w ∈ a, w ∈ lw_all) (hc : GoodIn lw_all c) : GoodIn lw_all (a ++ c) := by
  intro w hw
  rcases List.mem_append.mp hw with e | e
  · exact lw_self w (ha w e)
  · exact hc w e
/-- what a call through an object asks: cwV n hts (lw_V ..) -/
theorem lw_V {own : String} {idx : Nat} {C : String} {y : MethodName} {b : ByteArray} {L : Nat} {r : Option FieldType} (h1 : Cond.methodLink own idx y ∈ lw_all) (h2 : Cond.instanceMethod y ∈ lw_all) (h3 : Cond.selects C y y ∈ lw_all) (h4 : Cond.initialized C ∈ lw_all) (h5 : Cond.code y b L r ∈ lw_all) : GoodIn lw_all (wsV own idx C y (ws_ y b L r)) := by
  refine lw_app ?_ (lw_meth h5)
  intro w hw
  simp only [List.mem_cons, List.not_mem_nil, or_false] at hw
  rcases hw with e | e | e | e
  · rw [e]; exact h1
  · rw [e]; exact h2
  · rw [e]; exact h3
  · rw [e]; exact h4
/-- what a static call asks: va_cwS n hts (lw_S ..) -/
theorem lw_S {own : String} {idx : Nat} {y : MethodName} {b : ByteArray} {L : Nat} {r : Option FieldType} (h1 : Cond.methodLink own idx y ∈ lw_all) (h2 : Cond.static y ∈ lw_all) (h3 : Cond.initialized y.cls ∈ lw_all) (h4 : Cond.code y b L r ∈ lw_all) : GoodIn lw_all (va_wsS own idx y (ws_ y b L r)) := by
  refine lw_app ?_ (lw_meth h4)
  intro w hw
  simp only [List.mem_cons, List.not_mem_nil, or_false] at hw
  rcases hw with e | e | e
  · rw [e]; exact h1
  · rw [e]; exact h2
  · rw [e]; exact h3
/-- the words of a contract for a method WITH HANDLERS (hh: its table) -/
abbrev wsW_ (y : MethodName) (b : ByteArray) (L : Nat) (r : Option FieldType) (hh : List (Nat × Nat × Nat × Nat)) : List Cond := Cond.codeWith y b L r hh :: lw_all
theorem lw_methW {y : MethodName} {b : ByteArray} {L : Nat} {r : Option FieldType} {hh : List (Nat × Nat × Nat × Nat)} (h : Cond.codeWith y b L r hh ∈ lw_all) : GoodIn lw_all (wsW_ y b L r hh) := by
  intro w hw
  rcases List.mem_cons.mp hw with e | e
  · rw [e]
    exact lw_self _ h
  · exact lw_self _ e
/-- any list of words by their places (lw_in), good -/
theorem lw_good {ws : List Cond} (h : ∀ w ∈ ws, w ∈ lw_all) : GoodIn lw_all ws := fun w hw => lw_self w (h w hw)
/-- what a call of a method with handlers asks: vx_cwVW n hts (lw_VW ..), vx_cwSW n hts (lw_SW ..) -/
theorem lw_VW {own : String} {idx : Nat} {C : String} {y : MethodName} {b : ByteArray} {L : Nat} {r : Option FieldType} {hh : List (Nat × Nat × Nat × Nat)} (h1 : Cond.methodLink own idx y ∈ lw_all) (h2 : Cond.instanceMethod y ∈ lw_all) (h3 : Cond.selects C y y ∈ lw_all) (h4 : Cond.initialized C ∈ lw_all) (h5 : Cond.codeWith y b L r hh ∈ lw_all) : GoodIn lw_all (wsV own idx C y (wsW_ y b L r hh)) := by
  refine lw_app ?_ (lw_methW h5)
  intro w hw
  simp only [List.mem_cons, List.not_mem_nil, or_false] at hw
  rcases hw with e | e | e | e
  · rw [e]; exact h1
  · rw [e]; exact h2
  · rw [e]; exact h3
  · rw [e]; exact h4
theorem lw_SW {own : String} {idx : Nat} {y : MethodName} {b : ByteArray} {L : Nat} {r : Option FieldType} {hh : List (Nat × Nat × Nat × Nat)} (h1 : Cond.methodLink own idx y ∈ lw_all) (h2 : Cond.static y ∈ lw_all) (h3 : Cond.initialized y.cls ∈ lw_all) (h4 : Cond.codeWith y b L r hh ∈ lw_all) : GoodIn lw_all (va_wsS own idx y (wsW_ y b L r hh)) := by
  refine lw_app ?_ (lw_methW h4)
  intro w hw
  simp only [List.mem_cons, List.not_mem_nil, or_false] at hw
  rcases hw with e | e | e
  · rw [e]; exact h1
  · rw [e]; exact h2
  · rw [e]; exact h3
/-- a word by its place in its run of the tables -/
theorem lw_at {r : List Cond} (hr : ∀ w ∈ r, w ∈ lw_tbl) {w : Cond} (i : Nat) (h : r[i]? = some w) : w ∈ lw_tbl := hr w (List.mem_of_getElem? h)
theorem lw_g {w : Cond} (h : w ∈ lw_tbl) (g : goodWord w = true) : w ∈ lw_all := List.mem_filter.mpr ⟨h, g⟩
theorem lw_ms : ∀ w ∈ k2_sels lw_privs, w ∈ lw_tbl := fun w h => show w ∈ k2_sels lw_privs ++ tables_1 from List.mem_append_left _ h
theorem lw_m1 : ∀ w ∈ tables_1_1, w ∈ lw_tbl := fun w h => show w ∈ k2_sels lw_privs ++ tables_1 from List.mem_append_right (k2_sels lw_privs) (show w ∈ tables_1 from List.mem_append_left _ h)
theorem lw_m2 : ∀ w ∈ tables_1_2, w ∈ lw_tbl := fun w h => show w ∈ k2_sels lw_privs ++ tables_1 from List.mem_append_right (k2_sels lw_privs) (show w ∈ tables_1 from List.mem_append_right _ (List.mem_append_left _ h))
theorem lw_m3 : ∀ w ∈ tables_1_3, w ∈ lw_tbl := fun w h => show w ∈ k2_sels lw_privs ++ tables_1 from List.mem_append_right (k2_sels lw_privs) (show w ∈ tables_1 from List.mem_append_right _ (List.mem_append_right _ (List.mem_append_left _ h)))
theorem lw_m4 : ∀ w ∈ tables_1_4, w ∈ lw_tbl := fun w h => show w ∈ k2_sels lw_privs ++ tables_1 from List.mem_append_right (k2_sels lw_privs) (show w ∈ tables_1 from List.mem_append_right _ (List.mem_append_right _ (List.mem_append_right _ (List.mem_append_left _ h))))
theorem lw_m5 : ∀ w ∈ tables_1_5, w ∈ lw_tbl := fun w h => show w ∈ k2_sels lw_privs ++ tables_1 from List.mem_append_right (k2_sels lw_privs) (show w ∈ tables_1 from List.mem_append_right _ (List.mem_append_right _ (List.mem_append_right _ (List.mem_append_right _ (List.mem_append_left _ h)))))
theorem lw_m6 : ∀ w ∈ tables_1_6, w ∈ lw_tbl := fun w h => show w ∈ k2_sels lw_privs ++ tables_1 from List.mem_append_right (k2_sels lw_privs) (show w ∈ tables_1 from List.mem_append_right _ (List.mem_append_right _ (List.mem_append_right _ (List.mem_append_right _ (List.mem_append_right _ (List.mem_append_left _ h))))))
theorem lw_m7 : ∀ w ∈ tables_1_7, w ∈ lw_tbl := fun w h => show w ∈ k2_sels lw_privs ++ tables_1 from List.mem_append_right (k2_sels lw_privs) (show w ∈ tables_1 from List.mem_append_right _ (List.mem_append_right _ (List.mem_append_right _ (List.mem_append_right _ (List.mem_append_right _ (List.mem_append_right _ (List.mem_append_left _ h)))))))
theorem lw_m8 : ∀ w ∈ tables_1_8, w ∈ lw_tbl := fun w h => show w ∈ k2_sels lw_privs ++ tables_1 from List.mem_append_right (k2_sels lw_privs) (show w ∈ tables_1 from List.mem_append_right _ (List.mem_append_right _ (List.mem_append_right _ (List.mem_append_right _ (List.mem_append_right _ (List.mem_append_right _ (List.mem_append_right _ (List.mem_append_left _ h))))))))
theorem lw_m9 : ∀ w ∈ tables_1_9, w ∈ lw_tbl := fun w h => show w ∈ k2_sels lw_privs ++ tables_1 from List.mem_append_right (k2_sels lw_privs) (show w ∈ tables_1 from List.mem_append_right _ (List.mem_append_right _ (List.mem_append_right _ (List.mem_append_right _ (List.mem_append_right _ (List.mem_append_right _ (List.mem_append_right _ (List.mem_append_right _ h))))))))
theorem qs0 : (Cond.selects "java/lang/NullPointerException" ⟨"java/lang/NullPointerException", "getExtendedNPEMessage", "()Ljava/lang/String;"⟩ ⟨"java/lang/NullPointerException", "getExtendedNPEMessage", "()Ljava/lang/String;"⟩) ∈ lw_all := lw_g (lw_at lw_ms 0 rfl) rfl
theorem qs1 : (Cond.selects "java/lang/Throwable" ⟨"java/lang/Throwable", "fillInStackTrace", "(I)Ljava/lang/Throwable;"⟩ ⟨"java/lang/Throwable", "fillInStackTrace", "(I)Ljava/lang/Throwable;"⟩) ∈ lw_all := lw_g (lw_at lw_ms 1 rfl) rfl
theorem qs2 : (Cond.selects "SeenInOrderOfAge" ⟨"SeenInOrderOfAge", "no", "(I)I"⟩ ⟨"SeenInOrderOfAge", "no", "(I)I"⟩) ∈ lw_all := lw_g (lw_at lw_ms 2 rfl) rfl
theorem qs3 : (Cond.selects "SeenInOrderOfAge" ⟨"SeenInOrderOfAge", "rowIn", "(I)Ljava/lang/Object;"⟩ ⟨"SeenInOrderOfAge", "rowIn", "(I)Ljava/lang/Object;"⟩) ∈ lw_all := lw_g (lw_at lw_ms 3 rfl) rfl
theorem qs4 : (Cond.selects "SeenInOrderOfAge" ⟨"SeenInOrderOfAge", "alone", "(LSeenInOrderOfAge$Looker;)I"⟩ ⟨"SeenInOrderOfAge", "alone", "(LSeenInOrderOfAge$Looker;)I"⟩) ∈ lw_all := lw_g (lw_at lw_ms 4 rfl) rfl
theorem qs5 : (Cond.selects "SeenInOrderOfAge$Evening" ⟨"SeenInOrderOfAge$Evening", "looks", "(ILSeenInOrderOfAge$Panes;)V"⟩ ⟨"SeenInOrderOfAge$Evening", "looks", "(ILSeenInOrderOfAge$Panes;)V"⟩) ∈ lw_all := lw_g (lw_at lw_ms 5 rfl) rfl
theorem qs6 : (Cond.selects "SeenInOrderOfAge$Reader" ⟨"SeenInOrderOfAge$Reader", "next", "()V"⟩ ⟨"SeenInOrderOfAge$Reader", "next", "()V"⟩) ∈ lw_all := lw_g (lw_at lw_ms 6 rfl) rfl
theorem qs7 : (Cond.selects "SeenInOrderOfAge$Reader" ⟨"SeenInOrderOfAge$Reader", "isIn", "(II)Z"⟩ ⟨"SeenInOrderOfAge$Reader", "isIn", "(II)Z"⟩) ∈ lw_all := lw_g (lw_at lw_ms 7 rfl) rfl
theorem qs8 : (Cond.selects "SeenInOrderOfAge$Reader" ⟨"SeenInOrderOfAge$Reader", "item", "()V"⟩ ⟨"SeenInOrderOfAge$Reader", "item", "()V"⟩) ∈ lw_all := lw_g (lw_at lw_ms 8 rfl) rfl
theorem qs9 : (Cond.selects "SeenInOrderOfAge$Reader" ⟨"SeenInOrderOfAge$Reader", "wrong", "()LSeenInOrderOfAge$Fault;"⟩ ⟨"SeenInOrderOfAge$Reader", "wrong", "()LSeenInOrderOfAge$Fault;"⟩) ∈ lw_all := lw_g (lw_at lw_ms 9 rfl) rfl
theorem qs10 : (Cond.selects "SeenInOrderOfAge$Reader" ⟨"SeenInOrderOfAge$Reader", "number", "(II)I"⟩ ⟨"SeenInOrderOfAge$Reader", "number", "(II)I"⟩) ∈ lw_all := lw_g (lw_at lw_ms 10 rfl) rfl
theorem qs11 : (Cond.selects "SeenInOrderOfAge$Reader" ⟨"SeenInOrderOfAge$Reader", "sort", "()I"⟩ ⟨"SeenInOrderOfAge$Reader", "sort", "()I"⟩) ∈ lw_all := lw_g (lw_at lw_ms 11 rfl) rfl
theorem qs12 : (Cond.selects "SeenInOrderOfAge$Reader" ⟨"SeenInOrderOfAge$Reader", "looker", "()I"⟩ ⟨"SeenInOrderOfAge$Reader", "looker", "()I"⟩) ∈ lw_all := lw_g (lw_at lw_ms 12 rfl) rfl
theorem qs13 : (Cond.selects "SeenInOrderOfAge$Reader" ⟨"SeenInOrderOfAge$Reader", "takes", "(Ljava/lang/String;)Z"⟩ ⟨"SeenInOrderOfAge$Reader", "takes", "(Ljava/lang/String;)Z"⟩) ∈ lw_all := lw_g (lw_at lw_ms 13 rfl) rfl
theorem qs14 : (Cond.selects "SeenInOrderOfAge" ⟨"SeenInOrderOfAge", "becomes", "(LSeenInOrderOfAge$Window;)V"⟩ ⟨"SeenInOrderOfAge", "becomes", "(LSeenInOrderOfAge$Window;)V"⟩) ∈ lw_all := lw_g (lw_at lw_ms 14 rfl) rfl
theorem qs15 : (Cond.selects "SeenInOrderOfAge" ⟨"SeenInOrderOfAge", "isSet", "(I)Z"⟩ ⟨"SeenInOrderOfAge", "isSet", "(I)Z"⟩) ∈ lw_all := lw_g (lw_at lw_ms 15 rfl) rfl
theorem qs16 : (Cond.selects "SeenInOrderOfAge" ⟨"SeenInOrderOfAge", "inOrder", "(II)I"⟩ ⟨"SeenInOrderOfAge", "inOrder", "(II)I"⟩) ∈ lw_all := lw_g (lw_at lw_ms 16 rfl) rfl
theorem qs17 : (Cond.selects "SeenInOrderOfAge" ⟨"SeenInOrderOfAge", "isGlad", "(II)Z"⟩ ⟨"SeenInOrderOfAge", "isGlad", "(II)Z"⟩) ∈ lw_all := lw_g (lw_at lw_ms 17 rfl) rfl
theorem qs18 : (Cond.selects "SeenInOrderOfAge" ⟨"SeenInOrderOfAge", "gladWith", "(II)I"⟩ ⟨"SeenInOrderOfAge", "gladWith", "(II)I"⟩) ∈ lw_all := lw_g (lw_at lw_ms 18 rfl) rfl
theorem qs19 : (Cond.selects "SeenInOrderOfAge" ⟨"SeenInOrderOfAge", "tried", "()LSeenInOrderOfAge$Window;"⟩ ⟨"SeenInOrderOfAge", "tried", "()LSeenInOrderOfAge$Window;"⟩) ∈ lw_all := lw_g (lw_at lw_ms 19 rfl) rfl
theorem qs20 : (Cond.selects "SeenInOrderOfAge" ⟨"SeenInOrderOfAge", "fewestOut", "(I)I"⟩ ⟨"SeenInOrderOfAge", "fewestOut", "(I)I"⟩) ∈ lw_all := lw_g (lw_at lw_ms 20 rfl) rfl
theorem qs21 : (Cond.selects "SeenInOrderOfAge" ⟨"SeenInOrderOfAge", "makesGlad", "(III)Z"⟩ ⟨"SeenInOrderOfAge", "makesGlad", "(III)Z"⟩) ∈ lw_all := lw_g (lw_at lw_ms 21 rfl) rfl
theorem qs22 : (Cond.selects "SeenInOrderOfAge" ⟨"SeenInOrderOfAge", "firstEmpty", "(LSeenInOrderOfAge$Panes;)I"⟩ ⟨"SeenInOrderOfAge", "firstEmpty", "(LSeenInOrderOfAge$Panes;)I"⟩) ∈ lw_all := lw_g (lw_at lw_ms 22 rfl) rfl
theorem qs23 : (Cond.selects "SeenInOrderOfAge" ⟨"SeenInOrderOfAge", "wanted", "(I)I"⟩ ⟨"SeenInOrderOfAge", "wanted", "(I)I"⟩) ∈ lw_all := lw_g (lw_at lw_ms 23 rfl) rfl
theorem qs24 : (Cond.selects "SeenInOrderOfAge" ⟨"SeenInOrderOfAge", "wouldTake", "(IIIII)Z"⟩ ⟨"SeenInOrderOfAge", "wouldTake", "(IIIII)Z"⟩) ∈ lw_all := lw_g (lw_at lw_ms 24 rfl) rfl
theorem qs25 : (Cond.selects "SeenInOrderOfAge" ⟨"SeenInOrderOfAge", "ways", "(II)J"⟩ ⟨"SeenInOrderOfAge", "ways", "(II)J"⟩) ∈ lw_all := lw_g (lw_at lw_ms 25 rfl) rfl
theorem qs26 : (Cond.selects "SeenInOrderOfAge" ⟨"SeenInOrderOfAge", "ofMillion", "(JI)I"⟩ ⟨"SeenInOrderOfAge", "ofMillion", "(JI)I"⟩) ∈ lw_all := lw_g (lw_at lw_ms 26 rfl) rfl
theorem qs27 : (Cond.selects "SeenInOrderOfAge" ⟨"SeenInOrderOfAge", "of", "(II)I"⟩ ⟨"SeenInOrderOfAge", "of", "(II)I"⟩) ∈ lw_all := lw_g (lw_at lw_ms 27 rfl) rfl
theorem qs28 : (Cond.selects "SeenInOrderOfAge" ⟨"SeenInOrderOfAge", "swaps", "()V"⟩ ⟨"SeenInOrderOfAge", "swaps", "()V"⟩) ∈ lw_all := lw_g (lw_at lw_ms 28 rfl) rfl
theorem qs29 : (Cond.selects "SeenInOrderOfAge" ⟨"SeenInOrderOfAge", "wishOf", "(II)I"⟩ ⟨"SeenInOrderOfAge", "wishOf", "(II)I"⟩) ∈ lw_all := lw_g (lw_at lw_ms 29 rfl) rfl
theorem qs30 : (Cond.selects "SeenInOrderOfAge" ⟨"SeenInOrderOfAge", "bringer", "(II)I"⟩ ⟨"SeenInOrderOfAge", "bringer", "(II)I"⟩) ∈ lw_all := lw_g (lw_at lw_ms 30 rfl) rfl
theorem qs31 : (Cond.selects "SeenInOrderOfAge" ⟨"SeenInOrderOfAge", "isRing", "(I)Z"⟩ ⟨"SeenInOrderOfAge", "isRing", "(I)Z"⟩) ∈ lw_all := lw_g (lw_at lw_ms 31 rfl) rfl
theorem qs32 : (Cond.selects "SeenInOrderOfAge" ⟨"SeenInOrderOfAge", "manySwapped", "()I"⟩ ⟨"SeenInOrderOfAge", "manySwapped", "()I"⟩) ∈ lw_all := lw_g (lw_at lw_ms 32 rfl) rfl
theorem qs33 : (Cond.selects "SeenInOrderOfAge" ⟨"SeenInOrderOfAge", "toldIn", "(II)[J"⟩ ⟨"SeenInOrderOfAge", "toldIn", "(II)[J"⟩) ∈ lw_all := lw_g (lw_at lw_ms 33 rfl) rfl
theorem qs34 : (Cond.selects "SeenInOrderOfAge" ⟨"SeenInOrderOfAge", "wrongIn", "([J)I"⟩ ⟨"SeenInOrderOfAge", "wrongIn", "([J)I"⟩) ∈ lw_all := lw_g (lw_at lw_ms 34 rfl) rfl
theorem qs35 : (Cond.selects "SeenInOrderOfAge" ⟨"SeenInOrderOfAge", "isTold", "(J)Z"⟩ ⟨"SeenInOrderOfAge", "isTold", "(J)Z"⟩) ∈ lw_all := lw_g (lw_at lw_ms 35 rfl) rfl
theorem qs36 : (Cond.selects "SeenInOrderOfAge" ⟨"SeenInOrderOfAge", "happens", "(I)I"⟩ ⟨"SeenInOrderOfAge", "happens", "(I)I"⟩) ∈ lw_all := lw_g (lw_at lw_ms 36 rfl) rfl
theorem qs37 : (Cond.selects "SeenInOrderOfAge" ⟨"SeenInOrderOfAge", "christmas", "()I"⟩ ⟨"SeenInOrderOfAge", "christmas", "()I"⟩) ∈ lw_all := lw_g (lw_at lw_ms 37 rfl) rfl
theorem qs38 : (Cond.selects "SeenInOrderOfAge" ⟨"SeenInOrderOfAge", "allThings", "()I"⟩ ⟨"SeenInOrderOfAge", "allThings", "()I"⟩) ∈ lw_all := lw_g (lw_at lw_ms 38 rfl) rfl
theorem qs39 : (Cond.selects "SeenInOrderOfAge" ⟨"SeenInOrderOfAge", "shining", "()I"⟩ ⟨"SeenInOrderOfAge", "shining", "()I"⟩) ∈ lw_all := lw_g (lw_at lw_ms 39 rfl) rfl
theorem qs40 : (Cond.selects "SeenInOrderOfAge" ⟨"SeenInOrderOfAge", "shelved", "()I"⟩ ⟨"SeenInOrderOfAge", "shelved", "()I"⟩) ∈ lw_all := lw_g (lw_at lw_ms 40 rfl) rfl
theorem qs41 : (Cond.selects "SeenInOrderOfAgeModel" ⟨"SeenInOrderOfAgeModel", "no", "(I)I"⟩ ⟨"SeenInOrderOfAgeModel", "no", "(I)I"⟩) ∈ lw_all := lw_g (lw_at lw_ms 41 rfl) rfl
theorem qs42 : (Cond.selects "SeenInOrderOfAgeModel" ⟨"SeenInOrderOfAgeModel", "isRow", "(I)Z"⟩ ⟨"SeenInOrderOfAgeModel", "isRow", "(I)Z"⟩) ∈ lw_all := lw_g (lw_at lw_ms 42 rfl) rfl
theorem qs43 : (Cond.selects "SeenInOrderOfAgeModel" ⟨"SeenInOrderOfAgeModel", "noRow", "(I)I"⟩ ⟨"SeenInOrderOfAgeModel", "noRow", "(I)I"⟩) ∈ lw_all := lw_g (lw_at lw_ms 43 rfl) rfl
theorem qs44 : (Cond.selects "SeenInOrderOfAgeModel" ⟨"SeenInOrderOfAgeModel", "isLooker", "(I)Z"⟩ ⟨"SeenInOrderOfAgeModel", "isLooker", "(I)Z"⟩) ∈ lw_all := lw_g (lw_at lw_ms 44 rfl) rfl
theorem qs45 : (Cond.selects "SeenInOrderOfAgeModel" ⟨"SeenInOrderOfAgeModel", "runs", "(I)V"⟩ ⟨"SeenInOrderOfAgeModel", "runs", "(I)V"⟩) ∈ lw_all := lw_g (lw_at lw_ms 45 rfl) rfl
theorem qs46 : (Cond.selects "SeenInOrderOfAgeModel" ⟨"SeenInOrderOfAgeModel", "begins", "(I)V"⟩ ⟨"SeenInOrderOfAgeModel", "begins", "(I)V"⟩) ∈ lw_all := lw_g (lw_at lw_ms 46 rfl) rfl
theorem qs47 : (Cond.selects "SeenInOrderOfAgeModel" ⟨"SeenInOrderOfAgeModel", "orders", "(I)V"⟩ ⟨"SeenInOrderOfAgeModel", "orders", "(I)V"⟩) ∈ lw_all := lw_g (lw_at lw_ms 47 rfl) rfl
theorem qs48 : (Cond.selects "SeenInOrderOfAgeModel" ⟨"SeenInOrderOfAgeModel", "lookerGoes", "(I)V"⟩ ⟨"SeenInOrderOfAgeModel", "lookerGoes", "(I)V"⟩) ∈ lw_all := lw_g (lw_at lw_ms 48 rfl) rfl
theorem qs49 : (Cond.selects "SeenInOrderOfAgeModel" ⟨"SeenInOrderOfAgeModel", "lastLiked", "(I)I"⟩ ⟨"SeenInOrderOfAgeModel", "lastLiked", "(I)I"⟩) ∈ lw_all := lw_g (lw_at lw_ms 49 rfl) rfl
theorem qs50 : (Cond.selects "SeenInOrderOfAgeModel" ⟨"SeenInOrderOfAgeModel", "doesLike", "(II)Z"⟩ ⟨"SeenInOrderOfAgeModel", "doesLike", "(II)Z"⟩) ∈ lw_all := lw_g (lw_at lw_ms 50 rfl) rfl
theorem qs51 : (Cond.selects "SeenInOrderOfAgeModel" ⟨"SeenInOrderOfAgeModel", "takes", "(II)V"⟩ ⟨"SeenInOrderOfAgeModel", "takes", "(II)V"⟩) ∈ lw_all := lw_g (lw_at lw_ms 51 rfl) rfl
theorem qs52 : (Cond.selects "SeenInOrderOfAgeModel" ⟨"SeenInOrderOfAgeModel", "firstWith", "(I)I"⟩ ⟨"SeenInOrderOfAgeModel", "firstWith", "(I)I"⟩) ∈ lw_all := lw_g (lw_at lw_ms 52 rfl) rfl
theorem qs53 : (Cond.selects "SeenInOrderOfAgeModel" ⟨"SeenInOrderOfAgeModel", "look", "(I)I"⟩ ⟨"SeenInOrderOfAgeModel", "look", "(I)I"⟩) ∈ lw_all := lw_g (lw_at lw_ms 53 rfl) rfl
theorem qs54 : (Cond.selects "SeenInOrderOfAgeModel" ⟨"SeenInOrderOfAgeModel", "manyOf", "(I)I"⟩ ⟨"SeenInOrderOfAgeModel", "manyOf", "(I)I"⟩) ∈ lw_all := lw_g (lw_at lw_ms 54 rfl) rfl
theorem qs55 : (Cond.selects "SeenInOrderOfAgeModel" ⟨"SeenInOrderOfAgeModel", "shyest", "(I)I"⟩ ⟨"SeenInOrderOfAgeModel", "shyest", "(I)I"⟩) ∈ lw_all := lw_g (lw_at lw_ms 55 rfl) rfl
theorem qs56 : (Cond.selects "SeenInOrderOfAgeModel" ⟨"SeenInOrderOfAgeModel", "newLooker", "(III)I"⟩ ⟨"SeenInOrderOfAgeModel", "newLooker", "(III)I"⟩) ∈ lw_all := lw_g (lw_at lw_ms 56 rfl) rfl
theorem qs57 : (Cond.selects "SeenInOrderOfAgeModel" ⟨"SeenInOrderOfAgeModel", "keep", "([I)V"⟩ ⟨"SeenInOrderOfAgeModel", "keep", "([I)V"⟩) ∈ lw_all := lw_g (lw_at lw_ms 57 rfl) rfl
theorem qs58 : (Cond.selects "SeenInOrderOfAgeModel" ⟨"SeenInOrderOfAgeModel", "next", "()V"⟩ ⟨"SeenInOrderOfAgeModel", "next", "()V"⟩) ∈ lw_all := lw_g (lw_at lw_ms 58 rfl) rfl
theorem qs59 : (Cond.selects "SeenInOrderOfAgeModel" ⟨"SeenInOrderOfAgeModel", "statement", "()Z"⟩ ⟨"SeenInOrderOfAgeModel", "statement", "()Z"⟩) ∈ lw_all := lw_g (lw_at lw_ms 59 rfl) rfl
theorem qs60 : (Cond.selects "SeenInOrderOfAgeModel" ⟨"SeenInOrderOfAgeModel", "isWord", "(Ljava/lang/String;)Z"⟩ ⟨"SeenInOrderOfAgeModel", "isWord", "(Ljava/lang/String;)Z"⟩) ∈ lw_all := lw_g (lw_at lw_ms 60 rfl) rfl
theorem qs61 : (Cond.selects "SeenInOrderOfAgeModel" ⟨"SeenInOrderOfAgeModel", "number", "(II)I"⟩ ⟨"SeenInOrderOfAgeModel", "number", "(II)I"⟩) ∈ lw_all := lw_g (lw_at lw_ms 61 rfl) rfl
theorem qs62 : (Cond.selects "SeenInOrderOfAgeModel" ⟨"SeenInOrderOfAgeModel", "again", "([I)V"⟩ ⟨"SeenInOrderOfAgeModel", "again", "([I)V"⟩) ∈ lw_all := lw_g (lw_at lw_ms 62 rfl) rfl
theorem qs63 : (Cond.selects "SeenInOrderOfAgeModel" ⟨"SeenInOrderOfAgeModel", "isSet", "(I)Z"⟩ ⟨"SeenInOrderOfAgeModel", "isSet", "(I)Z"⟩) ∈ lw_all := lw_g (lw_at lw_ms 63 rfl) rfl
theorem qs64 : (Cond.selects "SeenInOrderOfAgeModel" ⟨"SeenInOrderOfAgeModel", "leftThen", "()I"⟩ ⟨"SeenInOrderOfAgeModel", "leftThen", "()I"⟩) ∈ lw_all := lw_g (lw_at lw_ms 64 rfl) rfl
theorem qs65 : (Cond.selects "SeenInOrderOfAgeModel" ⟨"SeenInOrderOfAgeModel", "gladOf", "(I)I"⟩ ⟨"SeenInOrderOfAgeModel", "gladOf", "(I)I"⟩) ∈ lw_all := lw_g (lw_at lw_ms 65 rfl) rfl
theorem qs66 : (Cond.selects "SeenInOrderOfAgeModel" ⟨"SeenInOrderOfAgeModel", "isGlad", "(I)Z"⟩ ⟨"SeenInOrderOfAgeModel", "isGlad", "(I)Z"⟩) ∈ lw_all := lw_g (lw_at lw_ms 66 rfl) rfl
theorem qs67 : (Cond.selects "SeenInOrderOfAgeModel" ⟨"SeenInOrderOfAgeModel", "putsOut", "(IIII)Z"⟩ ⟨"SeenInOrderOfAgeModel", "putsOut", "(IIII)Z"⟩) ∈ lw_all := lw_g (lw_at lw_ms 67 rfl) rfl
theorem qs68 : (Cond.selects "SeenInOrderOfAgeModel" ⟨"SeenInOrderOfAgeModel", "waysOf", "(II)J"⟩ ⟨"SeenInOrderOfAgeModel", "waysOf", "(II)J"⟩) ∈ lw_all := lw_g (lw_at lw_ms 68 rfl) rfl
theorem qs69 : (Cond.selects "SeenInOrderOfAgeModel" ⟨"SeenInOrderOfAgeModel", "allWays", "(I)J"⟩ ⟨"SeenInOrderOfAgeModel", "allWays", "(I)J"⟩) ∈ lw_all := lw_g (lw_at lw_ms 69 rfl) rfl
theorem qs70 : (Cond.selects "SeenInOrderOfAgeModel" ⟨"SeenInOrderOfAgeModel", "exchanges", "(II)I"⟩ ⟨"SeenInOrderOfAgeModel", "exchanges", "(II)I"⟩) ∈ lw_all := lw_g (lw_at lw_ms 70 rfl) rfl
theorem qs71 : (Cond.selects "SeenInOrderOfAgeModel" ⟨"SeenInOrderOfAgeModel", "inWindow", "(I)I"⟩ ⟨"SeenInOrderOfAgeModel", "inWindow", "(I)I"⟩) ∈ lw_all := lw_g (lw_at lw_ms 71 rfl) rfl
theorem qs72 : (Cond.selects "SeenInOrderOfAgeModel" ⟨"SeenInOrderOfAgeModel", "rank", "(II)I"⟩ ⟨"SeenInOrderOfAgeModel", "rank", "(II)I"⟩) ∈ lw_all := lw_g (lw_at lw_ms 72 rfl) rfl
theorem qs73 : (Cond.selects "SeenInOrderOfAgeModel" ⟨"SeenInOrderOfAgeModel", "swaps", "()V"⟩ ⟨"SeenInOrderOfAgeModel", "swaps", "()V"⟩) ∈ lw_all := lw_g (lw_at lw_ms 73 rfl) rfl
theorem qs74 : (Cond.selects "SeenInOrderOfAgeModel" ⟨"SeenInOrderOfAgeModel", "wishOf", "(I)I"⟩ ⟨"SeenInOrderOfAgeModel", "wishOf", "(I)I"⟩) ∈ lw_all := lw_g (lw_at lw_ms 74 rfl) rfl
theorem qs75 : (Cond.selects "SeenInOrderOfAgeModel" ⟨"SeenInOrderOfAgeModel", "bringer", "(I)I"⟩ ⟨"SeenInOrderOfAgeModel", "bringer", "(I)I"⟩) ∈ lw_all := lw_g (lw_at lw_ms 75 rfl) rfl
theorem qs76 : (Cond.selects "SeenInOrderOfAgeModel" ⟨"SeenInOrderOfAgeModel", "isRing", "(I)Z"⟩ ⟨"SeenInOrderOfAgeModel", "isRing", "(I)Z"⟩) ∈ lw_all := lw_g (lw_at lw_ms 76 rfl) rfl
theorem qs77 : (Cond.selects "SeenInOrderOfAgeModel" ⟨"SeenInOrderOfAgeModel", "others", "()I"⟩ ⟨"SeenInOrderOfAgeModel", "others", "()I"⟩) ∈ lw_all := lw_g (lw_at lw_ms 77 rfl) rfl
theorem qs78 : (Cond.selects "SeenInOrderOfAgeModel" ⟨"SeenInOrderOfAgeModel", "wrong", "(II)I"⟩ ⟨"SeenInOrderOfAgeModel", "wrong", "(II)I"⟩) ∈ lw_all := lw_g (lw_at lw_ms 78 rfl) rfl
theorem qs79 : (Cond.selects "SeenInOrderOfAgeModel" ⟨"SeenInOrderOfAgeModel", "toldAt", "(II)J"⟩ ⟨"SeenInOrderOfAgeModel", "toldAt", "(II)J"⟩) ∈ lw_all := lw_g (lw_at lw_ms 79 rfl) rfl
theorem qs80 : (Cond.selects "SeenInOrderOfAgeModel" ⟨"SeenInOrderOfAgeModel", "goes", "(I)I"⟩ ⟨"SeenInOrderOfAgeModel", "goes", "(I)I"⟩) ∈ lw_all := lw_g (lw_at lw_ms 80 rfl) rfl
theorem qs81 : (Cond.selects "SeenInOrderOfAgeModel" ⟨"SeenInOrderOfAgeModel", "draw", "(I)I"⟩ ⟨"SeenInOrderOfAgeModel", "draw", "(I)I"⟩) ∈ lw_all := lw_g (lw_at lw_ms 81 rfl) rfl
