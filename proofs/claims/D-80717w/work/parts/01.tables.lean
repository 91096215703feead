-- ===== PART A: goes FIRST, ahead of the names: the tables' words, and 'selects' of the private methods out of them =====
/-- a private method of a class that the tables say can be made, by its rows of tables_1 -/
def lw_okq (q : MethodName × Nat) : Prop := (q.1.cls ≠ "java/lang/invoke/MethodHandle" ∧ q.1.cls ≠ "java/lang/invoke/VarHandle") ∧ Cond.instantiable q.1.cls q.2 ∈ tables_1 ∧ Cond.privateMethod q.1 ∈ tables_1 ∧ Cond.instanceMethod q.1 ∈ tables_1
set_option maxRecDepth 100000
theorem lw_t1 {w : Cond} (h : w ∈ tables_1_1) : w ∈ tables_1 := List.mem_append_left _ h
theorem lw_t2 {w : Cond} (h : w ∈ tables_1_2) : w ∈ tables_1 := List.mem_append_right _ (List.mem_append_left _ h)
theorem lw_t3 {w : Cond} (h : w ∈ tables_1_3) : w ∈ tables_1 := List.mem_append_right _ (List.mem_append_right _ (List.mem_append_left _ h))
theorem lw_t4 {w : Cond} (h : w ∈ tables_1_4) : w ∈ tables_1 := List.mem_append_right _ (List.mem_append_right _ (List.mem_append_right _ (List.mem_append_left _ h)))
theorem lw_t5 {w : Cond} (h : w ∈ tables_1_5) : w ∈ tables_1 := List.mem_append_right _ (List.mem_append_right _ (List.mem_append_right _ (List.mem_append_right _ (List.mem_append_left _ h))))
theorem lw_t6 {w : Cond} (h : w ∈ tables_1_6) : w ∈ tables_1 := List.mem_append_right _ (List.mem_append_right _ (List.mem_append_right _ (List.mem_append_right _ (List.mem_append_right _ (List.mem_append_left _ h)))))
theorem lw_t7 {w : Cond} (h : w ∈ tables_1_7) : w ∈ tables_1 := List.mem_append_right _ (List.mem_append_right _ (List.mem_append_right _ (List.mem_append_right _ (List.mem_append_right _ (List.mem_append_right _ h)))))
theorem lw_p0 : lw_okq (⟨"SortedPost", "readRules", "()V"⟩, 22) := ⟨⟨by decide +kernel, by decide +kernel⟩, lw_t1 (List.mem_of_getElem? (i := 57) rfl), lw_t1 (List.mem_of_getElem? (i := 55) rfl), lw_t1 (List.mem_of_getElem? (i := 56) rfl)⟩
theorem lw_p1 : lw_okq (⟨"SortedPost", "rule", "()V"⟩, 22) := ⟨⟨by decide +kernel, by decide +kernel⟩, lw_t1 (List.mem_of_getElem? (i := 57) rfl), lw_t1 (List.mem_of_getElem? (i := 103) rfl), lw_t1 (List.mem_of_getElem? (i := 104) rfl)⟩
theorem lw_p2 : lw_okq (⟨"SortedPost", "either", "()LSortedPost$Test;"⟩, 22) := ⟨⟨by decide +kernel, by decide +kernel⟩, lw_t1 (List.mem_of_getElem? (i := 57) rfl), lw_t1 (List.mem_of_getElem? (i := 130) rfl), lw_t1 (List.mem_of_getElem? (i := 131) rfl)⟩
theorem lw_p3 : lw_okq (⟨"SortedPost", "both", "()LSortedPost$Test;"⟩, 22) := ⟨⟨by decide +kernel, by decide +kernel⟩, lw_t1 (List.mem_of_getElem? (i := 57) rfl), lw_t1 (List.mem_of_getElem? (i := 134) rfl), lw_t1 (List.mem_of_getElem? (i := 135) rfl)⟩
theorem lw_p4 : lw_okq (⟨"SortedPost", "part", "()LSortedPost$Test;"⟩, 22) := ⟨⟨by decide +kernel, by decide +kernel⟩, lw_t1 (List.mem_of_getElem? (i := 57) rfl), lw_t1 (List.mem_of_getElem? (i := 138) rfl), lw_t1 (List.mem_of_getElem? (i := 139) rfl)⟩
theorem lw_p5 : lw_okq (⟨"SortedPost", "next", "()I"⟩, 22) := ⟨⟨by decide +kernel, by decide +kernel⟩, lw_t1 (List.mem_of_getElem? (i := 57) rfl), lw_t1 (List.mem_of_getElem? (i := 142) rfl), lw_t1 (List.mem_of_getElem? (i := 143) rfl)⟩
theorem lw_p6 : lw_okq (⟨"SortedPost", "open", "()V"⟩, 22) := ⟨⟨by decide +kernel, by decide +kernel⟩, lw_t1 (List.mem_of_getElem? (i := 57) rfl), lw_t1 (List.mem_of_getElem? (i := 146) rfl), lw_t1 (List.mem_of_getElem? (i := 147) rfl)⟩
theorem lw_p7 : lw_okq (⟨"SortedPost", "wrong", "(I)LSortedPost$Fault;"⟩, 22) := ⟨⟨by decide +kernel, by decide +kernel⟩, lw_t1 (List.mem_of_getElem? (i := 57) rfl), lw_t1 (List.mem_of_getElem? (i := 150) rfl), lw_t1 (List.mem_of_getElem? (i := 151) rfl)⟩
theorem lw_p8 : lw_okq (⟨"SortedPost", "takes", "(I)Z"⟩, 22) := ⟨⟨by decide +kernel, by decide +kernel⟩, lw_t1 (List.mem_of_getElem? (i := 57) rfl), lw_t1 (List.mem_of_getElem? (i := 164) rfl), lw_t1 (List.mem_of_getElem? (i := 165) rfl)⟩
theorem lw_p9 : lw_okq (⟨"SortedPost", "atom", "(I)LSortedPost$Test;"⟩, 22) := ⟨⟨by decide +kernel, by decide +kernel⟩, lw_t1 (List.mem_of_getElem? (i := 57) rfl), lw_t1 (List.mem_of_getElem? (i := 168) rfl), lw_t1 (List.mem_of_getElem? (i := 169) rfl)⟩
theorem lw_p10 : lw_okq (⟨"SortedPost", "number", "(I)I"⟩, 22) := ⟨⟨by decide +kernel, by decide +kernel⟩, lw_t1 (List.mem_of_getElem? (i := 57) rfl), lw_t1 (List.mem_of_getElem? (i := 182) rfl), lw_t1 (List.mem_of_getElem? (i := 183) rfl)⟩
theorem lw_p11 : lw_okq (⟨"java/util/ArrayList", "add", "(Ljava/lang/Object;[Ljava/lang/Object;I)V"⟩, 3) := ⟨⟨by decide +kernel, by decide +kernel⟩, lw_t1 (List.mem_of_getElem? (i := 68) rfl), lw_t2 (List.mem_of_getElem? (i := 8) rfl), lw_t2 (List.mem_of_getElem? (i := 9) rfl)⟩
theorem lw_p12 : lw_okq (⟨"java/util/ArrayList", "grow", "()[Ljava/lang/Object;"⟩, 3) := ⟨⟨by decide +kernel, by decide +kernel⟩, lw_t1 (List.mem_of_getElem? (i := 68) rfl), lw_t2 (List.mem_of_getElem? (i := 12) rfl), lw_t2 (List.mem_of_getElem? (i := 13) rfl)⟩
theorem lw_p13 : lw_okq (⟨"java/util/ArrayList", "grow", "(I)[Ljava/lang/Object;"⟩, 3) := ⟨⟨by decide +kernel, by decide +kernel⟩, lw_t1 (List.mem_of_getElem? (i := 68) rfl), lw_t2 (List.mem_of_getElem? (i := 16) rfl), lw_t2 (List.mem_of_getElem? (i := 17) rfl)⟩
theorem lw_p14 : lw_okq (⟨"SortedPost", "act", "(LSortedPost$Rule;)V"⟩, 22) := ⟨⟨by decide +kernel, by decide +kernel⟩, lw_t1 (List.mem_of_getElem? (i := 57) rfl), lw_t2 (List.mem_of_getElem? (i := 106) rfl), lw_t2 (List.mem_of_getElem? (i := 107) rfl)⟩
theorem lw_p15 : lw_okq (⟨"java/lang/NullPointerException", "getExtendedNPEMessage", "()Ljava/lang/String;"⟩, 8) := ⟨⟨by decide +kernel, by decide +kernel⟩, lw_t2 (List.mem_of_getElem? (i := 155) rfl), lw_t2 (List.mem_of_getElem? (i := 153) rfl), lw_t2 (List.mem_of_getElem? (i := 154) rfl)⟩
def lw_privs_1 : List (MethodName × Nat) := [(⟨"SortedPost", "readRules", "()V"⟩, 22), (⟨"SortedPost", "rule", "()V"⟩, 22), (⟨"SortedPost", "either", "()LSortedPost$Test;"⟩, 22), (⟨"SortedPost", "both", "()LSortedPost$Test;"⟩, 22), (⟨"SortedPost", "part", "()LSortedPost$Test;"⟩, 22), (⟨"SortedPost", "next", "()I"⟩, 22), (⟨"SortedPost", "open", "()V"⟩, 22), (⟨"SortedPost", "wrong", "(I)LSortedPost$Fault;"⟩, 22), (⟨"SortedPost", "takes", "(I)Z"⟩, 22), (⟨"SortedPost", "atom", "(I)LSortedPost$Test;"⟩, 22), (⟨"SortedPost", "number", "(I)I"⟩, 22), (⟨"java/util/ArrayList", "add", "(Ljava/lang/Object;[Ljava/lang/Object;I)V"⟩, 3), (⟨"java/util/ArrayList", "grow", "()[Ljava/lang/Object;"⟩, 3), (⟨"java/util/ArrayList", "grow", "(I)[Ljava/lang/Object;"⟩, 3), (⟨"SortedPost", "act", "(LSortedPost$Rule;)V"⟩, 22), (⟨"java/lang/NullPointerException", "getExtendedNPEMessage", "()Ljava/lang/String;"⟩, 8)]
theorem lw_r1 : ∀ q ∈ lw_privs_1, lw_okq q := List.forall_mem_cons.mpr ⟨lw_p0, List.forall_mem_cons.mpr ⟨lw_p1, List.forall_mem_cons.mpr ⟨lw_p2, List.forall_mem_cons.mpr ⟨lw_p3, List.forall_mem_cons.mpr ⟨lw_p4, List.forall_mem_cons.mpr ⟨lw_p5, List.forall_mem_cons.mpr ⟨lw_p6, List.forall_mem_cons.mpr ⟨lw_p7, List.forall_mem_cons.mpr ⟨lw_p8, List.forall_mem_cons.mpr ⟨lw_p9, List.forall_mem_cons.mpr ⟨lw_p10, List.forall_mem_cons.mpr ⟨lw_p11, List.forall_mem_cons.mpr ⟨lw_p12, List.forall_mem_cons.mpr ⟨lw_p13, List.forall_mem_cons.mpr ⟨lw_p14, List.forall_mem_cons.mpr ⟨lw_p15, fun _ h => absurd h List.not_mem_nil⟩⟩⟩⟩⟩⟩⟩⟩⟩⟩⟩⟩⟩⟩⟩⟩
theorem lw_p16 : lw_okq (⟨"java/lang/Throwable", "fillInStackTrace", "(I)Ljava/lang/Throwable;"⟩, 6) := ⟨⟨by decide +kernel, by decide +kernel⟩, lw_t2 (List.mem_of_getElem? (i := 167) rfl), lw_t2 (List.mem_of_getElem? (i := 165) rfl), lw_t2 (List.mem_of_getElem? (i := 166) rfl)⟩
theorem lw_p17 : lw_okq (⟨"SortedPost", "latestDay", "()I"⟩, 22) := ⟨⟨by decide +kernel, by decide +kernel⟩, lw_t1 (List.mem_of_getElem? (i := 57) rfl), lw_t3 (List.mem_of_getElem? (i := 175) rfl), lw_t3 (List.mem_of_getElem? (i := 176) rfl)⟩
theorem lw_p18 : lw_okq (⟨"SortedPost", "isFull", "()Z"⟩, 22) := ⟨⟨by decide +kernel, by decide +kernel⟩, lw_t1 (List.mem_of_getElem? (i := 57) rfl), lw_t3 (List.mem_of_getElem? (i := 188) rfl), lw_t3 (List.mem_of_getElem? (i := 189) rfl)⟩
theorem lw_p19 : lw_okq (⟨"SortedPost", "send", "(LSortedPost$Letter;)I"⟩, 22) := ⟨⟨by decide +kernel, by decide +kernel⟩, lw_t1 (List.mem_of_getElem? (i := 57) rfl), lw_t4 (List.mem_of_getElem? (i := 0) rfl), lw_t4 (List.mem_of_getElem? (i := 1) rfl)⟩
theorem lw_p20 : lw_okq (⟨"SortedPost", "willCome", "(LSortedPost$Letter;II)V"⟩, 22) := ⟨⟨by decide +kernel, by decide +kernel⟩, lw_t1 (List.mem_of_getElem? (i := 57) rfl), lw_t4 (List.mem_of_getElem? (i := 8) rfl), lw_t4 (List.mem_of_getElem? (i := 9) rfl)⟩
theorem lw_p21 : lw_okq (⟨"SortedPost", "arrive", "(LSortedPost$Letter;LSortedPost$Box;I)I"⟩, 22) := ⟨⟨by decide +kernel, by decide +kernel⟩, lw_t1 (List.mem_of_getElem? (i := 57) rfl), lw_t4 (List.mem_of_getElem? (i := 12) rfl), lw_t4 (List.mem_of_getElem? (i := 13) rfl)⟩
theorem lw_p22 : lw_okq (⟨"SortedPost", "isJunk", "(LSortedPost$Letter;)Z"⟩, 22) := ⟨⟨by decide +kernel, by decide +kernel⟩, lw_t1 (List.mem_of_getElem? (i := 57) rfl), lw_t4 (List.mem_of_getElem? (i := 51) rfl), lw_t4 (List.mem_of_getElem? (i := 52) rfl)⟩
theorem lw_p23 : lw_okq (⟨"SortedPost$Arrival", "answer", "()V"⟩, 10) := ⟨⟨by decide +kernel, by decide +kernel⟩, lw_t3 (List.mem_of_getElem? (i := 14) rfl), lw_t4 (List.mem_of_getElem? (i := 92) rfl), lw_t4 (List.mem_of_getElem? (i := 93) rfl)⟩
theorem lw_p24 : lw_okq (⟨"SortedPost", "file", "(LSortedPost$Arrival;)I"⟩, 22) := ⟨⟨by decide +kernel, by decide +kernel⟩, lw_t1 (List.mem_of_getElem? (i := 57) rfl), lw_t4 (List.mem_of_getElem? (i := 96) rfl), lw_t4 (List.mem_of_getElem? (i := 97) rfl)⟩
theorem lw_p25 : lw_okq (⟨"SortedPost", "sendBack", "(LSortedPost$Letter;LSortedPost$Box;)V"⟩, 22) := ⟨⟨by decide +kernel, by decide +kernel⟩, lw_t1 (List.mem_of_getElem? (i := 57) rfl), lw_t4 (List.mem_of_getElem? (i := 118) rfl), lw_t4 (List.mem_of_getElem? (i := 119) rfl)⟩
theorem lw_p26 : lw_okq (⟨"SortedPost", "copyAt", "(III)LSortedPost$Copy;"⟩, 22) := ⟨⟨by decide +kernel, by decide +kernel⟩, lw_t1 (List.mem_of_getElem? (i := 57) rfl), lw_t4 (List.mem_of_getElem? (i := 159) rfl), lw_t4 (List.mem_of_getElem? (i := 160) rfl)⟩
theorem lw_p27 : lw_okq (⟨"java/util/ArrayList", "fastRemove", "([Ljava/lang/Object;I)V"⟩, 3) := ⟨⟨by decide +kernel, by decide +kernel⟩, lw_t1 (List.mem_of_getElem? (i := 68) rfl), lw_t4 (List.mem_of_getElem? (i := 176) rfl), lw_t4 (List.mem_of_getElem? (i := 177) rfl)⟩
theorem lw_p28 : lw_okq (⟨"SortedPost", "rootOf", "(I)I"⟩, 22) := ⟨⟨by decide +kernel, by decide +kernel⟩, lw_t1 (List.mem_of_getElem? (i := 57) rfl), lw_t4 (List.mem_of_getElem? (i := 202) rfl), lw_t4 (List.mem_of_getElem? (i := 203) rfl)⟩
theorem lw_p29 : lw_okq (⟨"SortedPost", "tally", "(LSortedPost$Letter;II)I"⟩, 22) := ⟨⟨by decide +kernel, by decide +kernel⟩, lw_t1 (List.mem_of_getElem? (i := 57) rfl), lw_t4 (List.mem_of_getElem? (i := 210) rfl), lw_t4 (List.mem_of_getElem? (i := 211) rfl)⟩
theorem lw_p30 : lw_okq (⟨"SortedPost", "isRule", "(II)Z"⟩, 22) := ⟨⟨by decide +kernel, by decide +kernel⟩, lw_t1 (List.mem_of_getElem? (i := 57) rfl), lw_t4 (List.mem_of_getElem? (i := 230) rfl), lw_t4 (List.mem_of_getElem? (i := 231) rfl)⟩
theorem lw_p31 : lw_okq (⟨"SortedPost", "leastFor", "(LSortedPost$Rules;I)I"⟩, 22) := ⟨⟨by decide +kernel, by decide +kernel⟩, lw_t1 (List.mem_of_getElem? (i := 57) rfl), lw_t4 (List.mem_of_getElem? (i := 234) rfl), lw_t4 (List.mem_of_getElem? (i := 235) rfl)⟩
def lw_privs_2 : List (MethodName × Nat) := [(⟨"java/lang/Throwable", "fillInStackTrace", "(I)Ljava/lang/Throwable;"⟩, 6), (⟨"SortedPost", "latestDay", "()I"⟩, 22), (⟨"SortedPost", "isFull", "()Z"⟩, 22), (⟨"SortedPost", "send", "(LSortedPost$Letter;)I"⟩, 22), (⟨"SortedPost", "willCome", "(LSortedPost$Letter;II)V"⟩, 22), (⟨"SortedPost", "arrive", "(LSortedPost$Letter;LSortedPost$Box;I)I"⟩, 22), (⟨"SortedPost", "isJunk", "(LSortedPost$Letter;)Z"⟩, 22), (⟨"SortedPost$Arrival", "answer", "()V"⟩, 10), (⟨"SortedPost", "file", "(LSortedPost$Arrival;)I"⟩, 22), (⟨"SortedPost", "sendBack", "(LSortedPost$Letter;LSortedPost$Box;)V"⟩, 22), (⟨"SortedPost", "copyAt", "(III)LSortedPost$Copy;"⟩, 22), (⟨"java/util/ArrayList", "fastRemove", "([Ljava/lang/Object;I)V"⟩, 3), (⟨"SortedPost", "rootOf", "(I)I"⟩, 22), (⟨"SortedPost", "tally", "(LSortedPost$Letter;II)I"⟩, 22), (⟨"SortedPost", "isRule", "(II)Z"⟩, 22), (⟨"SortedPost", "leastFor", "(LSortedPost$Rules;I)I"⟩, 22)]
theorem lw_r2 : ∀ q ∈ lw_privs_2, lw_okq q := List.forall_mem_cons.mpr ⟨lw_p16, List.forall_mem_cons.mpr ⟨lw_p17, List.forall_mem_cons.mpr ⟨lw_p18, List.forall_mem_cons.mpr ⟨lw_p19, List.forall_mem_cons.mpr ⟨lw_p20, List.forall_mem_cons.mpr ⟨lw_p21, List.forall_mem_cons.mpr ⟨lw_p22, List.forall_mem_cons.mpr ⟨lw_p23, List.forall_mem_cons.mpr ⟨lw_p24, List.forall_mem_cons.mpr ⟨lw_p25, List.forall_mem_cons.mpr ⟨lw_p26, List.forall_mem_cons.mpr ⟨lw_p27, List.forall_mem_cons.mpr ⟨lw_p28, List.forall_mem_cons.mpr ⟨lw_p29, List.forall_mem_cons.mpr ⟨lw_p30, List.forall_mem_cons.mpr ⟨lw_p31, fun _ h => absurd h List.not_mem_nil⟩⟩⟩⟩⟩⟩⟩⟩⟩⟩⟩⟩⟩⟩⟩⟩
theorem lw_p32 : lw_okq (⟨"SortedPost", "acting", "(LSortedPost$Rules;)I"⟩, 22) := ⟨⟨by decide +kernel, by decide +kernel⟩, lw_t1 (List.mem_of_getElem? (i := 57) rfl), lw_t5 (List.mem_of_getElem? (i := 8) rfl), lw_t5 (List.mem_of_getElem? (i := 9) rfl)⟩
theorem lw_p33 : lw_okq (⟨"SortedPostModel", "rule", "()V"⟩, 61) := ⟨⟨by decide +kernel, by decide +kernel⟩, lw_t5 (List.mem_of_getElem? (i := 130) rfl), lw_t6 (List.mem_of_getElem? (i := 95) rfl), lw_t6 (List.mem_of_getElem? (i := 96) rfl)⟩
theorem lw_p34 : lw_okq (⟨"SortedPostModel", "expression", "()V"⟩, 61) := ⟨⟨by decide +kernel, by decide +kernel⟩, lw_t5 (List.mem_of_getElem? (i := 130) rfl), lw_t6 (List.mem_of_getElem? (i := 99) rfl), lw_t6 (List.mem_of_getElem? (i := 100) rfl)⟩
theorem lw_p35 : lw_okq (⟨"SortedPostModel", "next", "()I"⟩, 61) := ⟨⟨by decide +kernel, by decide +kernel⟩, lw_t5 (List.mem_of_getElem? (i := 130) rfl), lw_t6 (List.mem_of_getElem? (i := 103) rfl), lw_t6 (List.mem_of_getElem? (i := 104) rfl)⟩
theorem lw_p36 : lw_okq (⟨"SortedPostModel", "opens", "(I)V"⟩, 61) := ⟨⟨by decide +kernel, by decide +kernel⟩, lw_t5 (List.mem_of_getElem? (i := 130) rfl), lw_t6 (List.mem_of_getElem? (i := 107) rfl), lw_t6 (List.mem_of_getElem? (i := 108) rfl)⟩
theorem lw_p37 : lw_okq (⟨"SortedPostModel", "fails", "(I)V"⟩, 61) := ⟨⟨by decide +kernel, by decide +kernel⟩, lw_t5 (List.mem_of_getElem? (i := 130) rfl), lw_t6 (List.mem_of_getElem? (i := 111) rfl), lw_t6 (List.mem_of_getElem? (i := 112) rfl)⟩
theorem lw_p38 : lw_okq (⟨"SortedPostModel", "atom", "(I)Z"⟩, 61) := ⟨⟨by decide +kernel, by decide +kernel⟩, lw_t5 (List.mem_of_getElem? (i := 130) rfl), lw_t6 (List.mem_of_getElem? (i := 115) rfl), lw_t6 (List.mem_of_getElem? (i := 116) rfl)⟩
theorem lw_p39 : lw_okq (⟨"SortedPostModel", "number", "(I)I"⟩, 61) := ⟨⟨by decide +kernel, by decide +kernel⟩, lw_t5 (List.mem_of_getElem? (i := 130) rfl), lw_t6 (List.mem_of_getElem? (i := 120) rfl), lw_t6 (List.mem_of_getElem? (i := 121) rfl)⟩
theorem lw_p40 : lw_okq (⟨"SortedPostModel", "put", "(I)V"⟩, 61) := ⟨⟨by decide +kernel, by decide +kernel⟩, lw_t5 (List.mem_of_getElem? (i := 130) rfl), lw_t6 (List.mem_of_getElem? (i := 125) rfl), lw_t6 (List.mem_of_getElem? (i := 126) rfl)⟩
theorem lw_p41 : lw_okq (⟨"SortedPostModel", "settle", "(I)V"⟩, 61) := ⟨⟨by decide +kernel, by decide +kernel⟩, lw_t5 (List.mem_of_getElem? (i := 130) rfl), lw_t6 (List.mem_of_getElem? (i := 129) rfl), lw_t6 (List.mem_of_getElem? (i := 130) rfl)⟩
theorem lw_p42 : lw_okq (⟨"SortedPostModel", "act", "(I)V"⟩, 61) := ⟨⟨by decide +kernel, by decide +kernel⟩, lw_t5 (List.mem_of_getElem? (i := 130) rfl), lw_t6 (List.mem_of_getElem? (i := 136) rfl), lw_t6 (List.mem_of_getElem? (i := 137) rfl)⟩
theorem lw_p43 : lw_okq (⟨"SortedPostModel", "latest", "()I"⟩, 61) := ⟨⟨by decide +kernel, by decide +kernel⟩, lw_t5 (List.mem_of_getElem? (i := 130) rfl), lw_t6 (List.mem_of_getElem? (i := 162) rfl), lw_t6 (List.mem_of_getElem? (i := 163) rfl)⟩
theorem lw_p44 : lw_okq (⟨"SortedPostModel", "isFull", "()Z"⟩, 61) := ⟨⟨by decide +kernel, by decide +kernel⟩, lw_t5 (List.mem_of_getElem? (i := 130) rfl), lw_t6 (List.mem_of_getElem? (i := 166) rfl), lw_t6 (List.mem_of_getElem? (i := 167) rfl)⟩
theorem lw_p45 : lw_okq (⟨"SortedPostModel", "copies", "()I"⟩, 61) := ⟨⟨by decide +kernel, by decide +kernel⟩, lw_t5 (List.mem_of_getElem? (i := 130) rfl), lw_t6 (List.mem_of_getElem? (i := 170) rfl), lw_t6 (List.mem_of_getElem? (i := 171) rfl)⟩
theorem lw_p46 : lw_okq (⟨"SortedPostModel", "posted", "(IIIIIIII)V"⟩, 61) := ⟨⟨by decide +kernel, by decide +kernel⟩, lw_t5 (List.mem_of_getElem? (i := 130) rfl), lw_t6 (List.mem_of_getElem? (i := 174) rfl), lw_t6 (List.mem_of_getElem? (i := 175) rfl)⟩
theorem lw_p47 : lw_okq (⟨"SortedPostModel", "add", "(IIIIIIII)V"⟩, 61) := ⟨⟨by decide +kernel, by decide +kernel⟩, lw_t5 (List.mem_of_getElem? (i := 130) rfl), lw_t6 (List.mem_of_getElem? (i := 178) rfl), lw_t6 (List.mem_of_getElem? (i := 179) rfl)⟩
def lw_privs_3 : List (MethodName × Nat) := [(⟨"SortedPost", "acting", "(LSortedPost$Rules;)I"⟩, 22), (⟨"SortedPostModel", "rule", "()V"⟩, 61), (⟨"SortedPostModel", "expression", "()V"⟩, 61), (⟨"SortedPostModel", "next", "()I"⟩, 61), (⟨"SortedPostModel", "opens", "(I)V"⟩, 61), (⟨"SortedPostModel", "fails", "(I)V"⟩, 61), (⟨"SortedPostModel", "atom", "(I)Z"⟩, 61), (⟨"SortedPostModel", "number", "(I)I"⟩, 61), (⟨"SortedPostModel", "put", "(I)V"⟩, 61), (⟨"SortedPostModel", "settle", "(I)V"⟩, 61), (⟨"SortedPostModel", "act", "(I)V"⟩, 61), (⟨"SortedPostModel", "latest", "()I"⟩, 61), (⟨"SortedPostModel", "isFull", "()Z"⟩, 61), (⟨"SortedPostModel", "copies", "()I"⟩, 61), (⟨"SortedPostModel", "posted", "(IIIIIIII)V"⟩, 61), (⟨"SortedPostModel", "add", "(IIIIIIII)V"⟩, 61)]
theorem lw_r3 : ∀ q ∈ lw_privs_3, lw_okq q := List.forall_mem_cons.mpr ⟨lw_p32, List.forall_mem_cons.mpr ⟨lw_p33, List.forall_mem_cons.mpr ⟨lw_p34, List.forall_mem_cons.mpr ⟨lw_p35, List.forall_mem_cons.mpr ⟨lw_p36, List.forall_mem_cons.mpr ⟨lw_p37, List.forall_mem_cons.mpr ⟨lw_p38, List.forall_mem_cons.mpr ⟨lw_p39, List.forall_mem_cons.mpr ⟨lw_p40, List.forall_mem_cons.mpr ⟨lw_p41, List.forall_mem_cons.mpr ⟨lw_p42, List.forall_mem_cons.mpr ⟨lw_p43, List.forall_mem_cons.mpr ⟨lw_p44, List.forall_mem_cons.mpr ⟨lw_p45, List.forall_mem_cons.mpr ⟨lw_p46, List.forall_mem_cons.mpr ⟨lw_p47, fun _ h => absurd h List.not_mem_nil⟩⟩⟩⟩⟩⟩⟩⟩⟩⟩⟩⟩⟩⟩⟩⟩
theorem lw_p48 : lw_okq (⟨"SortedPostModel", "toCome", "(III)V"⟩, 61) := ⟨⟨by decide +kernel, by decide +kernel⟩, lw_t5 (List.mem_of_getElem? (i := 130) rfl), lw_t6 (List.mem_of_getElem? (i := 182) rfl), lw_t6 (List.mem_of_getElem? (i := 183) rfl)⟩
theorem lw_p49 : lw_okq (⟨"SortedPostModel", "comes", "(III)V"⟩, 61) := ⟨⟨by decide +kernel, by decide +kernel⟩, lw_t5 (List.mem_of_getElem? (i := 130) rfl), lw_t6 (List.mem_of_getElem? (i := 186) rfl), lw_t6 (List.mem_of_getElem? (i := 187) rfl)⟩
theorem lw_p50 : lw_okq (⟨"SortedPostModel", "holds", "(II)Z"⟩, 61) := ⟨⟨by decide +kernel, by decide +kernel⟩, lw_t5 (List.mem_of_getElem? (i := 130) rfl), lw_t6 (List.mem_of_getElem? (i := 190) rfl), lw_t6 (List.mem_of_getElem? (i := 191) rfl)⟩
theorem lw_p51 : lw_okq (⟨"SortedPostModel", "numberOf", "(I)I"⟩, 61) := ⟨⟨by decide +kernel, by decide +kernel⟩, lw_t5 (List.mem_of_getElem? (i := 130) rfl), lw_t6 (List.mem_of_getElem? (i := 195) rfl), lw_t6 (List.mem_of_getElem? (i := 196) rfl)⟩
theorem lw_p52 : lw_okq (⟨"SortedPostModel", "isSo", "(I)Z"⟩, 61) := ⟨⟨by decide +kernel, by decide +kernel⟩, lw_t5 (List.mem_of_getElem? (i := 130) rfl), lw_t6 (List.mem_of_getElem? (i := 199) rfl), lw_t6 (List.mem_of_getElem? (i := 200) rfl)⟩
theorem lw_p53 : lw_okq (⟨"SortedPostModel", "isJunk", "(I)Z"⟩, 61) := ⟨⟨by decide +kernel, by decide +kernel⟩, lw_t5 (List.mem_of_getElem? (i := 130) rfl), lw_t6 (List.mem_of_getElem? (i := 203) rfl), lw_t6 (List.mem_of_getElem? (i := 204) rfl)⟩
theorem lw_p54 : lw_okq (⟨"SortedPostModel", "acts", "(IIII)V"⟩, 61) := ⟨⟨by decide +kernel, by decide +kernel⟩, lw_t5 (List.mem_of_getElem? (i := 130) rfl), lw_t6 (List.mem_of_getElem? (i := 208) rfl), lw_t6 (List.mem_of_getElem? (i := 209) rfl)⟩
theorem lw_p55 : lw_okq (⟨"SortedPostModel", "mayAnswer", "(II)Z"⟩, 61) := ⟨⟨by decide +kernel, by decide +kernel⟩, lw_t5 (List.mem_of_getElem? (i := 130) rfl), lw_t6 (List.mem_of_getElem? (i := 212) rfl), lw_t6 (List.mem_of_getElem? (i := 213) rfl)⟩
theorem lw_p56 : lw_okq (⟨"SortedPostModel", "answers", "(II)V"⟩, 61) := ⟨⟨by decide +kernel, by decide +kernel⟩, lw_t5 (List.mem_of_getElem? (i := 130) rfl), lw_t6 (List.mem_of_getElem? (i := 216) rfl), lw_t6 (List.mem_of_getElem? (i := 217) rfl)⟩
theorem lw_p57 : lw_okq (⟨"SortedPostModel", "files", "(II)V"⟩, 61) := ⟨⟨by decide +kernel, by decide +kernel⟩, lw_t5 (List.mem_of_getElem? (i := 130) rfl), lw_t6 (List.mem_of_getElem? (i := 220) rfl), lw_t6 (List.mem_of_getElem? (i := 221) rfl)⟩
theorem lw_p58 : lw_okq (⟨"SortedPostModel", "put", "(IIZI)V"⟩, 61) := ⟨⟨by decide +kernel, by decide +kernel⟩, lw_t5 (List.mem_of_getElem? (i := 130) rfl), lw_t6 (List.mem_of_getElem? (i := 224) rfl), lw_t6 (List.mem_of_getElem? (i := 225) rfl)⟩
theorem lw_p59 : lw_okq (⟨"SortedPostModel", "isCopy", "(III)Z"⟩, 61) := ⟨⟨by decide +kernel, by decide +kernel⟩, lw_t5 (List.mem_of_getElem? (i := 130) rfl), lw_t7 (List.mem_of_getElem? (i := 22) rfl), lw_t7 (List.mem_of_getElem? (i := 23) rfl)⟩
theorem lw_p60 : lw_okq (⟨"SortedPostModel", "rootOf", "(I)I"⟩, 61) := ⟨⟨by decide +kernel, by decide +kernel⟩, lw_t5 (List.mem_of_getElem? (i := 130) rfl), lw_t7 (List.mem_of_getElem? (i := 42) rfl), lw_t7 (List.mem_of_getElem? (i := 43) rfl)⟩
theorem lw_p61 : lw_okq (⟨"SortedPostModel", "learns", "(III)V"⟩, 61) := ⟨⟨by decide +kernel, by decide +kernel⟩, lw_t5 (List.mem_of_getElem? (i := 130) rfl), lw_t7 (List.mem_of_getElem? (i := 50) rfl), lw_t7 (List.mem_of_getElem? (i := 51) rfl)⟩
theorem lw_p62 : lw_okq (⟨"SortedPostModel", "gather", "(I)V"⟩, 61) := ⟨⟨by decide +kernel, by decide +kernel⟩, lw_t5 (List.mem_of_getElem? (i := 130) rfl), lw_t7 (List.mem_of_getElem? (i := 66) rfl), lw_t7 (List.mem_of_getElem? (i := 67) rfl)⟩
theorem lw_p63 : lw_okq (⟨"SortedPostModel", "least", "(II)I"⟩, 61) := ⟨⟨by decide +kernel, by decide +kernel⟩, lw_t5 (List.mem_of_getElem? (i := 130) rfl), lw_t7 (List.mem_of_getElem? (i := 74) rfl), lw_t7 (List.mem_of_getElem? (i := 75) rfl)⟩
def lw_privs_4 : List (MethodName × Nat) := [(⟨"SortedPostModel", "toCome", "(III)V"⟩, 61), (⟨"SortedPostModel", "comes", "(III)V"⟩, 61), (⟨"SortedPostModel", "holds", "(II)Z"⟩, 61), (⟨"SortedPostModel", "numberOf", "(I)I"⟩, 61), (⟨"SortedPostModel", "isSo", "(I)Z"⟩, 61), (⟨"SortedPostModel", "isJunk", "(I)Z"⟩, 61), (⟨"SortedPostModel", "acts", "(IIII)V"⟩, 61), (⟨"SortedPostModel", "mayAnswer", "(II)Z"⟩, 61), (⟨"SortedPostModel", "answers", "(II)V"⟩, 61), (⟨"SortedPostModel", "files", "(II)V"⟩, 61), (⟨"SortedPostModel", "put", "(IIZI)V"⟩, 61), (⟨"SortedPostModel", "isCopy", "(III)Z"⟩, 61), (⟨"SortedPostModel", "rootOf", "(I)I"⟩, 61), (⟨"SortedPostModel", "learns", "(III)V"⟩, 61), (⟨"SortedPostModel", "gather", "(I)V"⟩, 61), (⟨"SortedPostModel", "least", "(II)I"⟩, 61)]
theorem lw_r4 : ∀ q ∈ lw_privs_4, lw_okq q := List.forall_mem_cons.mpr ⟨lw_p48, List.forall_mem_cons.mpr ⟨lw_p49, List.forall_mem_cons.mpr ⟨lw_p50, List.forall_mem_cons.mpr ⟨lw_p51, List.forall_mem_cons.mpr ⟨lw_p52, List.forall_mem_cons.mpr ⟨lw_p53, List.forall_mem_cons.mpr ⟨lw_p54, List.forall_mem_cons.mpr ⟨lw_p55, List.forall_mem_cons.mpr ⟨lw_p56, List.forall_mem_cons.mpr ⟨lw_p57, List.forall_mem_cons.mpr ⟨lw_p58, List.forall_mem_cons.mpr ⟨lw_p59, List.forall_mem_cons.mpr ⟨lw_p60, List.forall_mem_cons.mpr ⟨lw_p61, List.forall_mem_cons.mpr ⟨lw_p62, List.forall_mem_cons.mpr ⟨lw_p63, fun _ h => absurd h List.not_mem_nil⟩⟩⟩⟩⟩⟩⟩⟩⟩⟩⟩⟩⟩⟩⟩⟩
theorem lw_p64 : lw_okq (⟨"SortedPostModel", "isCase", "(I)Z"⟩, 61) := ⟨⟨by decide +kernel, by decide +kernel⟩, lw_t5 (List.mem_of_getElem? (i := 130) rfl), lw_t7 (List.mem_of_getElem? (i := 78) rfl), lw_t7 (List.mem_of_getElem? (i := 79) rfl)⟩
theorem lw_p65 : lw_okq (⟨"SortedPostModel", "actIn", "(II)I"⟩, 61) := ⟨⟨by decide +kernel, by decide +kernel⟩, lw_t5 (List.mem_of_getElem? (i := 130) rfl), lw_t7 (List.mem_of_getElem? (i := 82) rfl), lw_t7 (List.mem_of_getElem? (i := 83) rfl)⟩
theorem lw_p66 : lw_okq (⟨"SortedPostModel", "hasStop", "(II)Z"⟩, 61) := ⟨⟨by decide +kernel, by decide +kernel⟩, lw_t5 (List.mem_of_getElem? (i := 130) rfl), lw_t7 (List.mem_of_getElem? (i := 86) rfl), lw_t7 (List.mem_of_getElem? (i := 87) rfl)⟩
theorem lw_p67 : lw_okq (⟨"SortedPostModel", "filesOf", "(II)I"⟩, 61) := ⟨⟨by decide +kernel, by decide +kernel⟩, lw_t5 (List.mem_of_getElem? (i := 130) rfl), lw_t7 (List.mem_of_getElem? (i := 98) rfl), lw_t7 (List.mem_of_getElem? (i := 99) rfl)⟩
def lw_privs_5 : List (MethodName × Nat) := [(⟨"SortedPostModel", "isCase", "(I)Z"⟩, 61), (⟨"SortedPostModel", "actIn", "(II)I"⟩, 61), (⟨"SortedPostModel", "hasStop", "(II)Z"⟩, 61), (⟨"SortedPostModel", "filesOf", "(II)I"⟩, 61)]
theorem lw_r5 : ∀ q ∈ lw_privs_5, lw_okq q := List.forall_mem_cons.mpr ⟨lw_p64, List.forall_mem_cons.mpr ⟨lw_p65, List.forall_mem_cons.mpr ⟨lw_p66, List.forall_mem_cons.mpr ⟨lw_p67, fun _ h => absurd h List.not_mem_nil⟩⟩⟩⟩
def lw_privs : List (MethodName × Nat) := lw_privs_1 ++ (lw_privs_2 ++ (lw_privs_3 ++ (lw_privs_4 ++ (lw_privs_5))))
def lw_tbl : List Cond := k2_sels lw_privs ++ tables_1
theorem lw_privs_ok : ∀ q ∈ lw_privs, lw_okq q := by
  show ∀ q ∈ lw_privs_1 ++ (lw_privs_2 ++ (lw_privs_3 ++ (lw_privs_4 ++ (lw_privs_5)))), lw_okq q
  exact List.forall_mem_append.mpr ⟨lw_r1, List.forall_mem_append.mpr ⟨lw_r2, List.forall_mem_append.mpr ⟨lw_r3, List.forall_mem_append.mpr ⟨lw_r4, lw_r5⟩⟩⟩⟩
-- ===== ONE list of words for every method: the tables' words that hold all through a run =====
def lw_all : List Cond := lw_tbl.filter goodWord
/-- a word of the tables by its place: claim/WORDS.tsv -/
theorem lw_w {w : Cond} (i : Nat) (h : lw_tbl[i]? = some w) (g : goodWord w = true) : w ∈ lw_all := List.mem_filter.mpr ⟨List.mem_of_getElem? h, g⟩
theorem lw_all_tbl {w : Cond} (h : w ∈ lw_all) : w ∈ lw_tbl := (List.mem_filter.mp h).1
theorem lw_self : GoodIn lw_all lw_all := fun w h => ⟨h, good_of_word (List.mem_filter.mp h).2⟩
/-- a class's field words, by their places -/
theorem lw_in (ws : List Cond) (ps : List Nat) (hp : ws = ps.filterMap (fun i => lw_tbl[i]?)) (hg : ws.all goodWord = true) : ∀ w ∈ ws, w ∈ lw_all := by
  intro w h
  have h1 := List.all_eq_true.mp hg w h
  rw [hp] at h
  obtain ⟨i, -, hi⟩ := List.mem_filterMap.mp h
  exact lw_w i hi h1
/-- the words of a contract for the method y with code b, L locals, answer r -/
abbrev ws_ (y : MethodName) (b : ByteArray) (L : Nat) (r : Option FieldType) : List Cond := Cond.code y b L r :: lw_all
theorem lw_meth {y : MethodName} {b : ByteArray} {L : Nat} {r : Option FieldType} (h : Cond.code y b L r ∈ lw_all) : GoodIn lw_all (ws_ y b L r) := by
  intro w hw
  rcases List.mem_cons.mp hw with e | e
  · rw [e]
    exact lw_self _ h
  · exact lw_self _ e
theorem lw_app {a c : List Cond} (ha : ∀ w ∈ a, w ∈ lw_all) (hc : GoodIn lw_all c) : GoodIn lw_all (a ++ c) := by
  intro w hw
  rcases List.mem_append.mp hw with e | e
  · exact lw_self w (ha w e)
  · exact hc w e
/-- what a call through an object asks: cwV n hts (lw_V ..) -/
theorem lw_V {own : String} {idx : Nat} {C : String} {y : MethodName} {b : ByteArray} {L : Nat} {r : Option FieldType} (h1 : Cond.methodLink own idx y ∈ lw_all) (h2 : Cond.instanceMethod y ∈ lw_all) (h3 : Cond.selects C y y ∈ lw_all) (h4 : Cond.initialized C ∈ lw_all) (h5 : Cond.code y b L r ∈ lw_all) : GoodIn lw_all (wsV own idx C y (ws_ y b L r)) := by
  refine lw_app ?_ (lw_meth h5)
  intro w hw
  simp only [List.mem_cons, List.not_mem_nil, or_false] at hw
  rcases hw with e | e | e | e
  · rw [e]; exact h1
  · rw [e]; exact h2
  · rw [e]; exact h3
  · rw [e]; exact h4
/-- what a static call asks: va_cwS n hts (lw_S ..) -/
theorem lw_S {own : String} {idx : Nat} {y : MethodName} {b : ByteArray} {L : Nat} {r : Option FieldType} (h1 : Cond.methodLink own idx y ∈ lw_all) (h2 : Cond.static y ∈ lw_all) (h3 : Cond.initialized y.cls ∈ lw_all) (h4 : Cond.code y b L r ∈ lw_all) : GoodIn lw_all (va_wsS own idx y (ws_ y b L r)) := by
  refine lw_app ?_ (lw_meth h4)
  intro w hw
  simp only [List.mem_cons, List.not_mem_nil, or_false] at hw
  rcases hw with e | e | e
  · rw [e]; exact h1
  · rw [e]; exact h2
  · rw [e]; exact h3
/-- the words of a contract for a method WITH HANDLERS (hh: its table) -/
abbrev wsW_ (y : MethodName) (b : ByteArray) (L : Nat) (r : Option FieldType) (hh : List (Nat × Nat × Nat × Nat)) : List Cond := Cond.codeWith y b L r hh :: lw_all
theorem lw_methW {y : MethodName} {b : ByteArray} {L : Nat} {r : Option FieldType} {hh : List (Nat × Nat × Nat × Nat)} (h : Cond.codeWith y b L r hh ∈ lw_all) : GoodIn lw_all (wsW_ y b L r hh) := by
  intro w hw
  rcases List.mem_cons.mp hw with e | e
  · rw [e]
    exact lw_self _ h
  · exact lw_self _ e
/-- any list of words by their places (lw_in), good -/
theorem lw_good {ws : List Cond} (h : ∀ w ∈ ws, w ∈ lw_all) : GoodIn lw_all ws := fun w hw => lw_self w (h w hw)
/-- what a call of a method with handlers asks: vx_cwVW n hts (lw_VW ..), vx_cwSW n hts (lw_SW ..) -/
theorem lw_VW {own : String} {idx : Nat} {C : String} {y : MethodName} {b : ByteArray} {L : Nat} {r : Option FieldType} {hh : List (Nat × Nat × Nat × Nat)} (h1 : Cond.methodLink own idx y ∈ lw_all) (h2 : Cond.instanceMethod y ∈ lw_all) (h3 : Cond.selects C y y ∈ lw_all) (h4 : Cond.initialized C ∈ lw_all) (h5 : Cond.codeWith y b L r hh ∈ lw_all) : GoodIn lw_all (wsV own idx C y (wsW_ y b L r hh)) := by
  refine lw_app ?_ (lw_methW h5)
  intro w hw
  simp only [List.mem_cons, List.not_mem_nil, or_false] at hw
  rcases hw with e | e | e | e
  · rw [e]; exact h1
  · rw [e]; exact h2
  · rw [e]; exact h3
  · rw [e]; exact h4
theorem lw_SW {own : String} {idx : Nat} {y : MethodName} {b : ByteArray} {L : Nat} {r : Option FieldType} {hh : List (Nat × Nat × Nat × Nat)} (h1 : Cond.methodLink own idx y ∈ lw_all) (h2 : Cond.static y ∈ lw_all) (h3 : Cond.initialized y.cls ∈ lw_all) (h4 : Cond.codeWith y b L r hh ∈ lw_all) : GoodIn lw_all (va_wsS own idx y (wsW_ y b L r hh)) := by
  refine lw_app ?_ (lw_methW h4)
  intro w hw
  simp only [List.mem_cons, List.not_mem_nil, or_false] at hw
  rcases hw with e | e | e
  · rw [e]; exact h1
  · rw [e]; exact h2
  · rw [e]; exact h3
/-- a word by its place in its run of the tables -/
theorem lw_at {r : List Cond} (hr : ∀ w ∈ r, w ∈ lw_tbl) {w : Cond} (i : Nat) (h : r[i]? = some w) : w ∈ lw_tbl := hr w (List.mem_of_getElem? h)
theorem lw_g {w : Cond} (h : w ∈ lw_tbl) (g : goodWord w = true) : w ∈ lw_all := List.mem_filter.mpr ⟨h, g⟩
theorem lw_ms : ∀ w ∈ k2_sels lw_privs, w ∈ lw_tbl := fun w h => show w ∈ k2_sels lw_privs ++ tables_1 from List.mem_append_left _ h
theorem lw_m1 : ∀ w ∈ tables_1_1, w ∈ lw_tbl := fun w h => show w ∈ k2_sels lw_privs ++ tables_1 from List.mem_append_right (k2_sels lw_privs) (show w ∈ tables_1 from List.mem_append_left _ h)
theorem lw_m2 : ∀ w ∈ tables_1_2, w ∈ lw_tbl := fun w h => show w ∈ k2_sels lw_privs ++ tables_1 from List.mem_append_right (k2_sels lw_privs) (show w ∈ tables_1 from List.mem_append_right _ (List.mem_append_left _ h))
theorem lw_m3 : ∀ w ∈ tables_1_3, w ∈ lw_tbl := fun w h => show w ∈ k2_sels lw_privs ++ tables_1 from List.mem_append_right (k2_sels lw_privs) (show w ∈ tables_1 from List.mem_append_right _ (List.mem_append_right _ (List.mem_append_left _ h)))
theorem lw_m4 : ∀ w ∈ tables_1_4, w ∈ lw_tbl := fun w h => show w ∈ k2_sels lw_privs ++ tables_1 from List.mem_append_right (k2_sels lw_privs) (show w ∈ tables_1 from List.mem_append_right _ (List.mem_append_right _ (List.mem_append_right _ (List.mem_append_left _ h))))
theorem lw_m5 : ∀ w ∈ tables_1_5, w ∈ lw_tbl := fun w h => show w ∈ k2_sels lw_privs ++ tables_1 from List.mem_append_right (k2_sels lw_privs) (show w ∈ tables_1 from List.mem_append_right _ (List.mem_append_right _ (List.mem_append_right _ (List.mem_append_right _ (List.mem_append_left _ h)))))
theorem lw_m6 : ∀ w ∈ tables_1_6, w ∈ lw_tbl := fun w h => show w ∈ k2_sels lw_privs ++ tables_1 from List.mem_append_right (k2_sels lw_privs) (show w ∈ tables_1 from List.mem_append_right _ (List.mem_append_right _ (List.mem_append_right _ (List.mem_append_right _ (List.mem_append_right _ (List.mem_append_left _ h))))))
theorem lw_m7 : ∀ w ∈ tables_1_7, w ∈ lw_tbl := fun w h => show w ∈ k2_sels lw_privs ++ tables_1 from List.mem_append_right (k2_sels lw_privs) (show w ∈ tables_1 from List.mem_append_right _ (List.mem_append_right _ (List.mem_append_right _ (List.mem_append_right _ (List.mem_append_right _ (List.mem_append_right _ h))))))
theorem qs0 : (Cond.selects "SortedPost" ⟨"SortedPost", "readRules", "()V"⟩ ⟨"SortedPost", "readRules", "()V"⟩) ∈ lw_all := lw_g (lw_at lw_ms 0 rfl) rfl
theorem qs1 : (Cond.selects "SortedPost" ⟨"SortedPost", "rule", "()V"⟩ ⟨"SortedPost", "rule", "()V"⟩) ∈ lw_all := lw_g (lw_at lw_ms 1 rfl) rfl
theorem qs2 : (Cond.selects "SortedPost" ⟨"SortedPost", "either", "()LSortedPost$Test;"⟩ ⟨"SortedPost", "either", "()LSortedPost$Test;"⟩) ∈ lw_all := lw_g (lw_at lw_ms 2 rfl) rfl
theorem qs3 : (Cond.selects "SortedPost" ⟨"SortedPost", "both", "()LSortedPost$Test;"⟩ ⟨"SortedPost", "both", "()LSortedPost$Test;"⟩) ∈ lw_all := lw_g (lw_at lw_ms 3 rfl) rfl
theorem qs4 : (Cond.selects "SortedPost" ⟨"SortedPost", "part", "()LSortedPost$Test;"⟩ ⟨"SortedPost", "part", "()LSortedPost$Test;"⟩) ∈ lw_all := lw_g (lw_at lw_ms 4 rfl) rfl
theorem qs5 : (Cond.selects "SortedPost" ⟨"SortedPost", "next", "()I"⟩ ⟨"SortedPost", "next", "()I"⟩) ∈ lw_all := lw_g (lw_at lw_ms 5 rfl) rfl
theorem qs6 : (Cond.selects "SortedPost" ⟨"SortedPost", "open", "()V"⟩ ⟨"SortedPost", "open", "()V"⟩) ∈ lw_all := lw_g (lw_at lw_ms 6 rfl) rfl
theorem qs7 : (Cond.selects "SortedPost" ⟨"SortedPost", "wrong", "(I)LSortedPost$Fault;"⟩ ⟨"SortedPost", "wrong", "(I)LSortedPost$Fault;"⟩) ∈ lw_all := lw_g (lw_at lw_ms 7 rfl) rfl
theorem qs8 : (Cond.selects "SortedPost" ⟨"SortedPost", "takes", "(I)Z"⟩ ⟨"SortedPost", "takes", "(I)Z"⟩) ∈ lw_all := lw_g (lw_at lw_ms 8 rfl) rfl
theorem qs9 : (Cond.selects "SortedPost" ⟨"SortedPost", "atom", "(I)LSortedPost$Test;"⟩ ⟨"SortedPost", "atom", "(I)LSortedPost$Test;"⟩) ∈ lw_all := lw_g (lw_at lw_ms 9 rfl) rfl
theorem qs10 : (Cond.selects "SortedPost" ⟨"SortedPost", "number", "(I)I"⟩ ⟨"SortedPost", "number", "(I)I"⟩) ∈ lw_all := lw_g (lw_at lw_ms 10 rfl) rfl
theorem qs11 : (Cond.selects "java/util/ArrayList" ⟨"java/util/ArrayList", "add", "(Ljava/lang/Object;[Ljava/lang/Object;I)V"⟩ ⟨"java/util/ArrayList", "add", "(Ljava/lang/Object;[Ljava/lang/Object;I)V"⟩) ∈ lw_all := lw_g (lw_at lw_ms 11 rfl) rfl
theorem qs12 : (Cond.selects "java/util/ArrayList" ⟨"java/util/ArrayList", "grow", "()[Ljava/lang/Object;"⟩ ⟨"java/util/ArrayList", "grow", "()[Ljava/lang/Object;"⟩) ∈ lw_all := lw_g (lw_at lw_ms 12 rfl) rfl
theorem qs13 : (Cond.selects "java/util/ArrayList" ⟨"java/util/ArrayList", "grow", "(I)[Ljava/lang/Object;"⟩ ⟨"java/util/ArrayList", "grow", "(I)[Ljava/lang/Object;"⟩) ∈ lw_all := lw_g (lw_at lw_ms 13 rfl) rfl
theorem qs14 : (Cond.selects "SortedPost" ⟨"SortedPost", "act", "(LSortedPost$Rule;)V"⟩ ⟨"SortedPost", "act", "(LSortedPost$Rule;)V"⟩) ∈ lw_all := lw_g (lw_at lw_ms 14 rfl) rfl
theorem qs15 : (Cond.selects "java/lang/NullPointerException" ⟨"java/lang/NullPointerException", "getExtendedNPEMessage", "()Ljava/lang/String;"⟩ ⟨"java/lang/NullPointerException", "getExtendedNPEMessage", "()Ljava/lang/String;"⟩) ∈ lw_all := lw_g (lw_at lw_ms 15 rfl) rfl
theorem qs16 : (Cond.selects "java/lang/Throwable" ⟨"java/lang/Throwable", "fillInStackTrace", "(I)Ljava/lang/Throwable;"⟩ ⟨"java/lang/Throwable", "fillInStackTrace", "(I)Ljava/lang/Throwable;"⟩) ∈ lw_all := lw_g (lw_at lw_ms 16 rfl) rfl
theorem qs17 : (Cond.selects "SortedPost" ⟨"SortedPost", "latestDay", "()I"⟩ ⟨"SortedPost", "latestDay", "()I"⟩) ∈ lw_all := lw_g (lw_at lw_ms 17 rfl) rfl
theorem qs18 : (Cond.selects "SortedPost" ⟨"SortedPost", "isFull", "()Z"⟩ ⟨"SortedPost", "isFull", "()Z"⟩) ∈ lw_all := lw_g (lw_at lw_ms 18 rfl) rfl
theorem qs19 : (Cond.selects "SortedPost" ⟨"SortedPost", "send", "(LSortedPost$Letter;)I"⟩ ⟨"SortedPost", "send", "(LSortedPost$Letter;)I"⟩) ∈ lw_all := lw_g (lw_at lw_ms 19 rfl) rfl
theorem qs20 : (Cond.selects "SortedPost" ⟨"SortedPost", "willCome", "(LSortedPost$Letter;II)V"⟩ ⟨"SortedPost", "willCome", "(LSortedPost$Letter;II)V"⟩) ∈ lw_all := lw_g (lw_at lw_ms 20 rfl) rfl
theorem qs21 : (Cond.selects "SortedPost" ⟨"SortedPost", "arrive", "(LSortedPost$Letter;LSortedPost$Box;I)I"⟩ ⟨"SortedPost", "arrive", "(LSortedPost$Letter;LSortedPost$Box;I)I"⟩) ∈ lw_all := lw_g (lw_at lw_ms 21 rfl) rfl
theorem qs22 : (Cond.selects "SortedPost" ⟨"SortedPost", "isJunk", "(LSortedPost$Letter;)Z"⟩ ⟨"SortedPost", "isJunk", "(LSortedPost$Letter;)Z"⟩) ∈ lw_all := lw_g (lw_at lw_ms 22 rfl) rfl
theorem qs23 : (Cond.selects "SortedPost$Arrival" ⟨"SortedPost$Arrival", "answer", "()V"⟩ ⟨"SortedPost$Arrival", "answer", "()V"⟩) ∈ lw_all := lw_g (lw_at lw_ms 23 rfl) rfl
theorem qs24 : (Cond.selects "SortedPost" ⟨"SortedPost", "file", "(LSortedPost$Arrival;)I"⟩ ⟨"SortedPost", "file", "(LSortedPost$Arrival;)I"⟩) ∈ lw_all := lw_g (lw_at lw_ms 24 rfl) rfl
theorem qs25 : (Cond.selects "SortedPost" ⟨"SortedPost", "sendBack", "(LSortedPost$Letter;LSortedPost$Box;)V"⟩ ⟨"SortedPost", "sendBack", "(LSortedPost$Letter;LSortedPost$Box;)V"⟩) ∈ lw_all := lw_g (lw_at lw_ms 25 rfl) rfl
theorem qs26 : (Cond.selects "SortedPost" ⟨"SortedPost", "copyAt", "(III)LSortedPost$Copy;"⟩ ⟨"SortedPost", "copyAt", "(III)LSortedPost$Copy;"⟩) ∈ lw_all := lw_g (lw_at lw_ms 26 rfl) rfl
theorem qs27 : (Cond.selects "java/util/ArrayList" ⟨"java/util/ArrayList", "fastRemove", "([Ljava/lang/Object;I)V"⟩ ⟨"java/util/ArrayList", "fastRemove", "([Ljava/lang/Object;I)V"⟩) ∈ lw_all := lw_g (lw_at lw_ms 27 rfl) rfl
theorem qs28 : (Cond.selects "SortedPost" ⟨"SortedPost", "rootOf", "(I)I"⟩ ⟨"SortedPost", "rootOf", "(I)I"⟩) ∈ lw_all := lw_g (lw_at lw_ms 28 rfl) rfl
theorem qs29 : (Cond.selects "SortedPost" ⟨"SortedPost", "tally", "(LSortedPost$Letter;II)I"⟩ ⟨"SortedPost", "tally", "(LSortedPost$Letter;II)I"⟩) ∈ lw_all := lw_g (lw_at lw_ms 29 rfl) rfl
theorem qs30 : (Cond.selects "SortedPost" ⟨"SortedPost", "isRule", "(II)Z"⟩ ⟨"SortedPost", "isRule", "(II)Z"⟩) ∈ lw_all := lw_g (lw_at lw_ms 30 rfl) rfl
theorem qs31 : (Cond.selects "SortedPost" ⟨"SortedPost", "leastFor", "(LSortedPost$Rules;I)I"⟩ ⟨"SortedPost", "leastFor", "(LSortedPost$Rules;I)I"⟩) ∈ lw_all := lw_g (lw_at lw_ms 31 rfl) rfl
theorem qs32 : (Cond.selects "SortedPost" ⟨"SortedPost", "acting", "(LSortedPost$Rules;)I"⟩ ⟨"SortedPost", "acting", "(LSortedPost$Rules;)I"⟩) ∈ lw_all := lw_g (lw_at lw_ms 32 rfl) rfl
theorem qs33 : (Cond.selects "SortedPostModel" ⟨"SortedPostModel", "rule", "()V"⟩ ⟨"SortedPostModel", "rule", "()V"⟩) ∈ lw_all := lw_g (lw_at lw_ms 33 rfl) rfl
theorem qs34 : (Cond.selects "SortedPostModel" ⟨"SortedPostModel", "expression", "()V"⟩ ⟨"SortedPostModel", "expression", "()V"⟩) ∈ lw_all := lw_g (lw_at lw_ms 34 rfl) rfl
theorem qs35 : (Cond.selects "SortedPostModel" ⟨"SortedPostModel", "next", "()I"⟩ ⟨"SortedPostModel", "next", "()I"⟩) ∈ lw_all := lw_g (lw_at lw_ms 35 rfl) rfl
theorem qs36 : (Cond.selects "SortedPostModel" ⟨"SortedPostModel", "opens", "(I)V"⟩ ⟨"SortedPostModel", "opens", "(I)V"⟩) ∈ lw_all := lw_g (lw_at lw_ms 36 rfl) rfl
theorem qs37 : (Cond.selects "SortedPostModel" ⟨"SortedPostModel", "fails", "(I)V"⟩ ⟨"SortedPostModel", "fails", "(I)V"⟩) ∈ lw_all := lw_g (lw_at lw_ms 37 rfl) rfl
theorem qs38 : (Cond.selects "SortedPostModel" ⟨"SortedPostModel", "atom", "(I)Z"⟩ ⟨"SortedPostModel", "atom", "(I)Z"⟩) ∈ lw_all := lw_g (lw_at lw_ms 38 rfl) rfl
theorem qs39 : (Cond.selects "SortedPostModel" ⟨"SortedPostModel", "number", "(I)I"⟩ ⟨"SortedPostModel", "number", "(I)I"⟩) ∈ lw_all := lw_g (lw_at lw_ms 39 rfl) rfl
theorem qs40 : (Cond.selects "SortedPostModel" ⟨"SortedPostModel", "put", "(I)V"⟩ ⟨"SortedPostModel", "put", "(I)V"⟩) ∈ lw_all := lw_g (lw_at lw_ms 40 rfl) rfl
theorem qs41 : (Cond.selects "SortedPostModel" ⟨"SortedPostModel", "settle", "(I)V"⟩ ⟨"SortedPostModel", "settle", "(I)V"⟩) ∈ lw_all := lw_g (lw_at lw_ms 41 rfl) rfl
theorem qs42 : (Cond.selects "SortedPostModel" ⟨"SortedPostModel", "act", "(I)V"⟩ ⟨"SortedPostModel", "act", "(I)V"⟩) ∈ lw_all := lw_g (lw_at lw_ms 42 rfl) rfl
theorem qs43 : (Cond.selects "SortedPostModel" ⟨"SortedPostModel", "latest", "()I"⟩ ⟨"SortedPostModel", "latest", "()I"⟩) ∈ lw_all := lw_g (lw_at lw_ms 43 rfl) rfl
theorem qs44 : (Cond.selects "SortedPostModel" ⟨"SortedPostModel", "isFull", "()Z"⟩ ⟨"SortedPostModel", "isFull", "()Z"⟩) ∈ lw_all := lw_g (lw_at lw_ms 44 rfl) rfl
theorem qs45 : (Cond.selects "SortedPostModel" ⟨"SortedPostModel", "copies", "()I"⟩ ⟨"SortedPostModel", "copies", "()I"⟩) ∈ lw_all := lw_g (lw_at lw_ms 45 rfl) rfl
theorem qs46 : (Cond.selects "SortedPostModel" ⟨"SortedPostModel", "posted", "(IIIIIIII)V"⟩ ⟨"SortedPostModel", "posted", "(IIIIIIII)V"⟩) ∈ lw_all := lw_g (lw_at lw_ms 46 rfl) rfl
theorem qs47 : (Cond.selects "SortedPostModel" ⟨"SortedPostModel", "add", "(IIIIIIII)V"⟩ ⟨"SortedPostModel", "add", "(IIIIIIII)V"⟩) ∈ lw_all := lw_g (lw_at lw_ms 47 rfl) rfl
theorem qs48 : (Cond.selects "SortedPostModel" ⟨"SortedPostModel", "toCome", "(III)V"⟩ ⟨"SortedPostModel", "toCome", "(III)V"⟩) ∈ lw_all := lw_g (lw_at lw_ms 48 rfl) rfl
theorem qs49 : (Cond.selects "SortedPostModel" ⟨"SortedPostModel", "comes", "(III)V"⟩ ⟨"SortedPostModel", "comes", "(III)V"⟩) ∈ lw_all := lw_g (lw_at lw_ms 49 rfl) rfl
theorem qs50 : (Cond.selects "SortedPostModel" ⟨"SortedPostModel", "holds", "(II)Z"⟩ ⟨"SortedPostModel", "holds", "(II)Z"⟩) ∈ lw_all := lw_g (lw_at lw_ms 50 rfl) rfl
theorem qs51 : (Cond.selects "SortedPostModel" ⟨"SortedPostModel", "numberOf", "(I)I"⟩ ⟨"SortedPostModel", "numberOf", "(I)I"⟩) ∈ lw_all := lw_g (lw_at lw_ms 51 rfl) rfl
theorem qs52 : (Cond.selects "SortedPostModel" ⟨"SortedPostModel", "isSo", "(I)Z"⟩ ⟨"SortedPostModel", "isSo", "(I)Z"⟩) ∈ lw_all := lw_g (lw_at lw_ms 52 rfl) rfl
theorem qs53 : (Cond.selects "SortedPostModel" ⟨"SortedPostModel", "isJunk", "(I)Z"⟩ ⟨"SortedPostModel", "isJunk", "(I)Z"⟩) ∈ lw_all := lw_g (lw_at lw_ms 53 rfl) rfl
theorem qs54 : (Cond.selects "SortedPostModel" ⟨"SortedPostModel", "acts", "(IIII)V"⟩ ⟨"SortedPostModel", "acts", "(IIII)V"⟩) ∈ lw_all := lw_g (lw_at lw_ms 54 rfl) rfl
theorem qs55 : (Cond.selects "SortedPostModel" ⟨"SortedPostModel", "mayAnswer", "(II)Z"⟩ ⟨"SortedPostModel", "mayAnswer", "(II)Z"⟩) ∈ lw_all := lw_g (lw_at lw_ms 55 rfl) rfl
theorem qs56 : (Cond.selects "SortedPostModel" ⟨"SortedPostModel", "answers", "(II)V"⟩ ⟨"SortedPostModel", "answers", "(II)V"⟩) ∈ lw_all := lw_g (lw_at lw_ms 56 rfl) rfl
theorem qs57 : (Cond.selects "SortedPostModel" ⟨"SortedPostModel", "files", "(II)V"⟩ ⟨"SortedPostModel", "files", "(II)V"⟩) ∈ lw_all := lw_g (lw_at lw_ms 57 rfl) rfl
theorem qs58 : (Cond.selects "SortedPostModel" ⟨"SortedPostModel", "put", "(IIZI)V"⟩ ⟨"SortedPostModel", "put", "(IIZI)V"⟩) ∈ lw_all := lw_g (lw_at lw_ms 58 rfl) rfl
theorem qs59 : (Cond.selects "SortedPostModel" ⟨"SortedPostModel", "isCopy", "(III)Z"⟩ ⟨"SortedPostModel", "isCopy", "(III)Z"⟩) ∈ lw_all := lw_g (lw_at lw_ms 59 rfl) rfl
theorem qs60 : (Cond.selects "SortedPostModel" ⟨"SortedPostModel", "rootOf", "(I)I"⟩ ⟨"SortedPostModel", "rootOf", "(I)I"⟩) ∈ lw_all := lw_g (lw_at lw_ms 60 rfl) rfl
theorem qs61 : (Cond.selects "SortedPostModel" ⟨"SortedPostModel", "learns", "(III)V"⟩ ⟨"SortedPostModel", "learns", "(III)V"⟩) ∈ lw_all := lw_g (lw_at lw_ms 61 rfl) rfl
theorem qs62 : (Cond.selects "SortedPostModel" ⟨"SortedPostModel", "gather", "(I)V"⟩ ⟨"SortedPostModel", "gather", "(I)V"⟩) ∈ lw_all := lw_g (lw_at lw_ms 62 rfl) rfl
theorem qs63 : (Cond.selects "SortedPostModel" ⟨"SortedPostModel", "least", "(II)I"⟩ ⟨"SortedPostModel", "least", "(II)I"⟩) ∈ lw_all := lw_g (lw_at lw_ms 63 rfl) rfl
theorem qs64 : (Cond.selects "SortedPostModel" ⟨"SortedPostModel", "isCase", "(I)Z"⟩ ⟨"SortedPostModel", "isCase", "(I)Z"⟩) ∈ lw_all := lw_g (lw_at lw_ms 64 rfl) rfl
theorem qs65 : (Cond.selects "SortedPostModel" ⟨"SortedPostModel", "actIn", "(II)I"⟩ ⟨"SortedPostModel", "actIn", "(II)I"⟩) ∈ lw_all := lw_g (lw_at lw_ms 65 rfl) rfl
theorem qs66 : (Cond.selects "SortedPostModel" ⟨"SortedPostModel", "hasStop", "(II)Z"⟩ ⟨"SortedPostModel", "hasStop", "(II)Z"⟩) ∈ lw_all := lw_g (lw_at lw_ms 66 rfl) rfl
theorem qs67 : (Cond.selects "SortedPostModel" ⟨"SortedPostModel", "filesOf", "(II)I"⟩ ⟨"SortedPostModel", "filesOf", "(II)I"⟩) ∈ lw_all := lw_g (lw_at lw_ms 67 rfl) rfl
