-- ===== PART A: goes FIRST, ahead of the names: the tables' words, and 'selects' of the private methods out of them =====
/-- a private method of a class that the tables say can be made, by its rows of tables_1 -/
def lw_okq (q : MethodName × Nat) : Prop := (q.1.cls ≠ "java/lang/invoke/MethodHandle" ∧ q.1.cls ≠ "java/lang/invoke/VarHandle") ∧ Cond.instantiable q.1.cls q.2 ∈ tables_1 ∧ Cond.privateMethod q.1 ∈ tables_1 ∧ Cond.instanceMethod q.1 ∈ tables_1
set_option maxRecDepth 100000
theorem lw_t1 {w : Cond} (h : w ∈ tables_1_1) : w ∈ tables_1 := List.mem_append_left _ h
theorem lw_t2 {w : Cond} (h : w ∈ tables_1_2) : w ∈ tables_1 := List.mem_append_right _ (List.mem_append_left _ h)
theorem lw_t3 {w : Cond} (h : w ∈ tables_1_3) : w ∈ tables_1 := List.mem_append_right _ (List.mem_append_right _ (List.mem_append_left _ h))
theorem lw_t4 {w : Cond} (h : w ∈ tables_1_4) : w ∈ tables_1 := List.mem_append_right _ (List.mem_append_right _ (List.mem_append_right _ (List.mem_append_left _ h)))
theorem lw_t5 {w : Cond} (h : w ∈ tables_1_5) : w ∈ tables_1 := List.mem_append_right _ (List.mem_append_right _ (List.mem_append_right _ (List.mem_append_right _ (List.mem_append_left _ h))))
theorem lw_t6 {w : Cond} (h : w ∈ tables_1_6) : w ∈ tables_1 := List.mem_append_right _ (List.mem_append_right _ (List.mem_append_right _ (List.mem_append_right _ (List.mem_append_right _ (List.mem_append_left _ h)))))
theorem lw_t7 {w : Cond} (h : w ∈ tables_1_7) : w ∈ tables_1 := List.mem_append_right _ (List.mem_append_right _ (List.mem_append_right _ (List.mem_append_right _ (List.mem_append_right _ (List.mem_append_right _ (List.mem_append_left _ h))))))
theorem lw_t8 {w : Cond} (h : w ∈ tables_1_8) : w ∈ tables_1 := List.mem_append_right _ (List.mem_append_right _ (List.mem_append_right _ (List.mem_append_right _ (List.mem_append_right _ (List.mem_append_right _ (List.mem_append_right _ (List.mem_append_left _ h)))))))
theorem lw_t9 {w : Cond} (h : w ∈ tables_1_9) : w ∈ tables_1 := List.mem_append_right _ (List.mem_append_right _ (List.mem_append_right _ (List.mem_append_right _ (List.mem_append_right _ (List.mem_append_right _ (List.mem_append_right _ (List.mem_append_right _ h)))))))
theorem lw_p0 : lw_okq (⟨"OverTheHeads$Reader", "next", "()V"⟩, 8) := ⟨⟨by decide +kernel, by decide +kernel⟩, lw_t1 (List.mem_of_getElem? (i := 149) rfl), lw_t1 (List.mem_of_getElem? (i := 188) rfl), lw_t1 (List.mem_of_getElem? (i := 189) rfl)⟩
theorem lw_p1 : lw_okq (⟨"OverTheHeads$Reader", "here", "()I"⟩, 8) := ⟨⟨by decide +kernel, by decide +kernel⟩, lw_t1 (List.mem_of_getElem? (i := 149) rfl), lw_t1 (List.mem_of_getElem? (i := 192) rfl), lw_t1 (List.mem_of_getElem? (i := 193) rfl)⟩
theorem lw_p2 : lw_okq (⟨"OverTheHeads$Reader", "fault", "()LOverTheHeads$Fault;"⟩, 8) := ⟨⟨by decide +kernel, by decide +kernel⟩, lw_t1 (List.mem_of_getElem? (i := 149) rfl), lw_t2 (List.mem_of_getElem? (i := 125) rfl), lw_t2 (List.mem_of_getElem? (i := 126) rfl)⟩
theorem lw_p3 : lw_okq (⟨"java/lang/Throwable", "fillInStackTrace", "(I)Ljava/lang/Throwable;"⟩, 6) := ⟨⟨by decide +kernel, by decide +kernel⟩, lw_t2 (List.mem_of_getElem? (i := 166) rfl), lw_t2 (List.mem_of_getElem? (i := 164) rfl), lw_t2 (List.mem_of_getElem? (i := 165) rfl)⟩
theorem lw_p4 : lw_okq (⟨"OverTheHeads$Reader", "is", "(Ljava/lang/String;)Z"⟩, 8) := ⟨⟨by decide +kernel, by decide +kernel⟩, lw_t1 (List.mem_of_getElem? (i := 149) rfl), lw_t3 (List.mem_of_getElem? (i := 14) rfl), lw_t3 (List.mem_of_getElem? (i := 15) rfl)⟩
theorem lw_p5 : lw_okq (⟨"OverTheHeads$Reader", "either", "()LOverTheHeads$Node;"⟩, 8) := ⟨⟨by decide +kernel, by decide +kernel⟩, lw_t1 (List.mem_of_getElem? (i := 149) rfl), lw_t3 (List.mem_of_getElem? (i := 26) rfl), lw_t3 (List.mem_of_getElem? (i := 27) rfl)⟩
theorem lw_p6 : lw_okq (⟨"OverTheHeads$Reader", "both", "()LOverTheHeads$Node;"⟩, 8) := ⟨⟨by decide +kernel, by decide +kernel⟩, lw_t1 (List.mem_of_getElem? (i := 149) rfl), lw_t3 (List.mem_of_getElem? (i := 30) rfl), lw_t3 (List.mem_of_getElem? (i := 31) rfl)⟩
theorem lw_p7 : lw_okq (⟨"OverTheHeads$Reader", "not", "()LOverTheHeads$Node;"⟩, 8) := ⟨⟨by decide +kernel, by decide +kernel⟩, lw_t1 (List.mem_of_getElem? (i := 149) rfl), lw_t3 (List.mem_of_getElem? (i := 34) rfl), lw_t3 (List.mem_of_getElem? (i := 35) rfl)⟩
theorem lw_p8 : lw_okq (⟨"OverTheHeads$Reader", "opens", "()V"⟩, 8) := ⟨⟨by decide +kernel, by decide +kernel⟩, lw_t1 (List.mem_of_getElem? (i := 149) rfl), lw_t3 (List.mem_of_getElem? (i := 39) rfl), lw_t3 (List.mem_of_getElem? (i := 40) rfl)⟩
theorem lw_p9 : lw_okq (⟨"OverTheHeads$Reader", "sum", "()LOverTheHeads$Node;"⟩, 8) := ⟨⟨by decide +kernel, by decide +kernel⟩, lw_t1 (List.mem_of_getElem? (i := 149) rfl), lw_t3 (List.mem_of_getElem? (i := 56) rfl), lw_t3 (List.mem_of_getElem? (i := 57) rfl)⟩
theorem lw_p10 : lw_okq (⟨"OverTheHeads$Reader", "term", "()LOverTheHeads$Node;"⟩, 8) := ⟨⟨by decide +kernel, by decide +kernel⟩, lw_t1 (List.mem_of_getElem? (i := 149) rfl), lw_t3 (List.mem_of_getElem? (i := 60) rfl), lw_t3 (List.mem_of_getElem? (i := 61) rfl)⟩
theorem lw_p11 : lw_okq (⟨"OverTheHeads$Reader", "one", "()LOverTheHeads$Node;"⟩, 8) := ⟨⟨by decide +kernel, by decide +kernel⟩, lw_t1 (List.mem_of_getElem? (i := 149) rfl), lw_t3 (List.mem_of_getElem? (i := 64) rfl), lw_t3 (List.mem_of_getElem? (i := 65) rfl)⟩
theorem lw_p12 : lw_okq (⟨"OverTheHeads$Reader", "takes", "(I)Z"⟩, 8) := ⟨⟨by decide +kernel, by decide +kernel⟩, lw_t1 (List.mem_of_getElem? (i := 149) rfl), lw_t3 (List.mem_of_getElem? (i := 83) rfl), lw_t3 (List.mem_of_getElem? (i := 84) rfl)⟩
theorem lw_p13 : lw_okq (⟨"OverTheHeads", "made", "(IIII)LOverTheHeads$Row;"⟩, 41) := ⟨⟨by decide +kernel, by decide +kernel⟩, lw_t1 (List.mem_of_getElem? (i := 39) rfl), lw_t4 (List.mem_of_getElem? (i := 13) rfl), lw_t4 (List.mem_of_getElem? (i := 14) rfl)⟩
theorem lw_p14 : lw_okq (⟨"java/util/ArrayList", "add", "(Ljava/lang/Object;[Ljava/lang/Object;I)V"⟩, 3) := ⟨⟨by decide +kernel, by decide +kernel⟩, lw_t1 (List.mem_of_getElem? (i := 47) rfl), lw_t4 (List.mem_of_getElem? (i := 131) rfl), lw_t4 (List.mem_of_getElem? (i := 132) rfl)⟩
theorem lw_p15 : lw_okq (⟨"java/util/ArrayList", "grow", "()[Ljava/lang/Object;"⟩, 3) := ⟨⟨by decide +kernel, by decide +kernel⟩, lw_t1 (List.mem_of_getElem? (i := 47) rfl), lw_t4 (List.mem_of_getElem? (i := 135) rfl), lw_t4 (List.mem_of_getElem? (i := 136) rfl)⟩
def lw_privs_1 : List (MethodName × Nat) := [(⟨"OverTheHeads$Reader", "next", "()V"⟩, 8), (⟨"OverTheHeads$Reader", "here", "()I"⟩, 8), (⟨"OverTheHeads$Reader", "fault", "()LOverTheHeads$Fault;"⟩, 8), (⟨"java/lang/Throwable", "fillInStackTrace", "(I)Ljava/lang/Throwable;"⟩, 6), (⟨"OverTheHeads$Reader", "is", "(Ljava/lang/String;)Z"⟩, 8), (⟨"OverTheHeads$Reader", "either", "()LOverTheHeads$Node;"⟩, 8), (⟨"OverTheHeads$Reader", "both", "()LOverTheHeads$Node;"⟩, 8), (⟨"OverTheHeads$Reader", "not", "()LOverTheHeads$Node;"⟩, 8), (⟨"OverTheHeads$Reader", "opens", "()V"⟩, 8), (⟨"OverTheHeads$Reader", "sum", "()LOverTheHeads$Node;"⟩, 8), (⟨"OverTheHeads$Reader", "term", "()LOverTheHeads$Node;"⟩, 8), (⟨"OverTheHeads$Reader", "one", "()LOverTheHeads$Node;"⟩, 8), (⟨"OverTheHeads$Reader", "takes", "(I)Z"⟩, 8), (⟨"OverTheHeads", "made", "(IIII)LOverTheHeads$Row;"⟩, 41), (⟨"java/util/ArrayList", "add", "(Ljava/lang/Object;[Ljava/lang/Object;I)V"⟩, 3), (⟨"java/util/ArrayList", "grow", "()[Ljava/lang/Object;"⟩, 3)]
theorem lw_r1 : ∀ q ∈ lw_privs_1, lw_okq q := List.forall_mem_cons.mpr ⟨lw_p0, List.forall_mem_cons.mpr ⟨lw_p1, List.forall_mem_cons.mpr ⟨lw_p2, List.forall_mem_cons.mpr ⟨lw_p3, List.forall_mem_cons.mpr ⟨lw_p4, List.forall_mem_cons.mpr ⟨lw_p5, List.forall_mem_cons.mpr ⟨lw_p6, List.forall_mem_cons.mpr ⟨lw_p7, List.forall_mem_cons.mpr ⟨lw_p8, List.forall_mem_cons.mpr ⟨lw_p9, List.forall_mem_cons.mpr ⟨lw_p10, List.forall_mem_cons.mpr ⟨lw_p11, List.forall_mem_cons.mpr ⟨lw_p12, List.forall_mem_cons.mpr ⟨lw_p13, List.forall_mem_cons.mpr ⟨lw_p14, List.forall_mem_cons.mpr ⟨lw_p15, fun _ h => absurd h List.not_mem_nil⟩⟩⟩⟩⟩⟩⟩⟩⟩⟩⟩⟩⟩⟩⟩⟩
theorem lw_p16 : lw_okq (⟨"java/util/ArrayList", "grow", "(I)[Ljava/lang/Object;"⟩, 3) := ⟨⟨by decide +kernel, by decide +kernel⟩, lw_t1 (List.mem_of_getElem? (i := 47) rfl), lw_t4 (List.mem_of_getElem? (i := 139) rfl), lw_t4 (List.mem_of_getElem? (i := 140) rfl)⟩
theorem lw_p17 : lw_okq (⟨"OverTheHeads", "isRow", "(I)Z"⟩, 41) := ⟨⟨by decide +kernel, by decide +kernel⟩, lw_t1 (List.mem_of_getElem? (i := 39) rfl), lw_t4 (List.mem_of_getElem? (i := 182) rfl), lw_t4 (List.mem_of_getElem? (i := 183) rfl)⟩
theorem lw_p18 : lw_okq (⟨"OverTheHeads", "isSeat", "(II)Z"⟩, 41) := ⟨⟨by decide +kernel, by decide +kernel⟩, lw_t1 (List.mem_of_getElem? (i := 39) rfl), lw_t4 (List.mem_of_getElem? (i := 191) rfl), lw_t4 (List.mem_of_getElem? (i := 192) rfl)⟩
theorem lw_p19 : lw_okq (⟨"OverTheHeads", "isPoint", "(I)Z"⟩, 41) := ⟨⟨by decide +kernel, by decide +kernel⟩, lw_t1 (List.mem_of_getElem? (i := 39) rfl), lw_t5 (List.mem_of_getElem? (i := 110) rfl), lw_t5 (List.mem_of_getElem? (i := 111) rfl)⟩
theorem lw_p20 : lw_okq (⟨"OverTheHeads", "hider", "(LOverTheHeads$Row;II)I"⟩, 41) := ⟨⟨by decide +kernel, by decide +kernel⟩, lw_t1 (List.mem_of_getElem? (i := 39) rfl), lw_t5 (List.mem_of_getElem? (i := 114) rfl), lw_t5 (List.mem_of_getElem? (i := 115) rfl)⟩
theorem lw_p21 : lw_okq (⟨"OverTheHeads", "isAhead", "(LOverTheHeads$Row;LOverTheHeads$Row;)Z"⟩, 41) := ⟨⟨by decide +kernel, by decide +kernel⟩, lw_t1 (List.mem_of_getElem? (i := 39) rfl), lw_t5 (List.mem_of_getElem? (i := 118) rfl), lw_t5 (List.mem_of_getElem? (i := 119) rfl)⟩
theorem lw_p22 : lw_okq (⟨"OverTheHeads", "isBy", "(LOverTheHeads$Row;IIII)Z"⟩, 41) := ⟨⟨by decide +kernel, by decide +kernel⟩, lw_t1 (List.mem_of_getElem? (i := 39) rfl), lw_t5 (List.mem_of_getElem? (i := 122) rfl), lw_t5 (List.mem_of_getElem? (i := 123) rfl)⟩
theorem lw_p23 : lw_okq (⟨"OverTheHeads", "hides", "(LOverTheHeads$Row;IILOverTheHeads$Row;I)Z"⟩, 41) := ⟨⟨by decide +kernel, by decide +kernel⟩, lw_t1 (List.mem_of_getElem? (i := 39) rfl), lw_t5 (List.mem_of_getElem? (i := 132) rfl), lw_t5 (List.mem_of_getElem? (i := 133) rfl)⟩
theorem lw_p24 : lw_okq (⟨"OverTheHeads", "isPosted", "(LOverTheHeads$Row;III)Z"⟩, 41) := ⟨⟨by decide +kernel, by decide +kernel⟩, lw_t1 (List.mem_of_getElem? (i := 39) rfl), lw_t5 (List.mem_of_getElem? (i := 136) rfl), lw_t5 (List.mem_of_getElem? (i := 137) rfl)⟩
theorem lw_p25 : lw_okq (⟨"OverTheHeads", "seenBy", "(LOverTheHeads$Row;I)I"⟩, 41) := ⟨⟨by decide +kernel, by decide +kernel⟩, lw_t1 (List.mem_of_getElem? (i := 39) rfl), lw_t5 (List.mem_of_getElem? (i := 144) rfl), lw_t5 (List.mem_of_getElem? (i := 145) rfl)⟩
theorem lw_p26 : lw_okq (⟨"OverTheHeads", "worthOf", "(LOverTheHeads$Row;I)I"⟩, 41) := ⟨⟨by decide +kernel, by decide +kernel⟩, lw_t1 (List.mem_of_getElem? (i := 39) rfl), lw_t5 (List.mem_of_getElem? (i := 152) rfl), lw_t5 (List.mem_of_getElem? (i := 153) rfl)⟩
theorem lw_p27 : lw_okq (⟨"OverTheHeads", "likes", "(LOverTheHeads$Row;II)I"⟩, 41) := ⟨⟨by decide +kernel, by decide +kernel⟩, lw_t1 (List.mem_of_getElem? (i := 39) rfl), lw_t5 (List.mem_of_getElem? (i := 156) rfl), lw_t5 (List.mem_of_getElem? (i := 157) rfl)⟩
theorem lw_p28 : lw_okq (⟨"OverTheHeads", "says", "(IIIIIII)I"⟩, 41) := ⟨⟨by decide +kernel, by decide +kernel⟩, lw_t1 (List.mem_of_getElem? (i := 39) rfl), lw_t5 (List.mem_of_getElem? (i := 160) rfl), lw_t5 (List.mem_of_getElem? (i := 161) rfl)⟩
theorem lw_p29 : lw_okq (⟨"OverTheHeads", "costs", "()I"⟩, 41) := ⟨⟨by decide +kernel, by decide +kernel⟩, lw_t1 (List.mem_of_getElem? (i := 39) rfl), lw_t5 (List.mem_of_getElem? (i := 205) rfl), lw_t5 (List.mem_of_getElem? (i := 206) rfl)⟩
theorem lw_p30 : lw_okq (⟨"OverTheHeads", "stepCost", "(I)I"⟩, 41) := ⟨⟨by decide +kernel, by decide +kernel⟩, lw_t1 (List.mem_of_getElem? (i := 39) rfl), lw_t5 (List.mem_of_getElem? (i := 209) rfl), lw_t5 (List.mem_of_getElem? (i := 210) rfl)⟩
theorem lw_p31 : lw_okq (⟨"OverTheHeads", "keepsRises", "()V"⟩, 41) := ⟨⟨by decide +kernel, by decide +kernel⟩, lw_t1 (List.mem_of_getElem? (i := 39) rfl), lw_t5 (List.mem_of_getElem? (i := 224) rfl), lw_t5 (List.mem_of_getElem? (i := 225) rfl)⟩
def lw_privs_2 : List (MethodName × Nat) := [(⟨"java/util/ArrayList", "grow", "(I)[Ljava/lang/Object;"⟩, 3), (⟨"OverTheHeads", "isRow", "(I)Z"⟩, 41), (⟨"OverTheHeads", "isSeat", "(II)Z"⟩, 41), (⟨"OverTheHeads", "isPoint", "(I)Z"⟩, 41), (⟨"OverTheHeads", "hider", "(LOverTheHeads$Row;II)I"⟩, 41), (⟨"OverTheHeads", "isAhead", "(LOverTheHeads$Row;LOverTheHeads$Row;)Z"⟩, 41), (⟨"OverTheHeads", "isBy", "(LOverTheHeads$Row;IIII)Z"⟩, 41), (⟨"OverTheHeads", "hides", "(LOverTheHeads$Row;IILOverTheHeads$Row;I)Z"⟩, 41), (⟨"OverTheHeads", "isPosted", "(LOverTheHeads$Row;III)Z"⟩, 41), (⟨"OverTheHeads", "seenBy", "(LOverTheHeads$Row;I)I"⟩, 41), (⟨"OverTheHeads", "worthOf", "(LOverTheHeads$Row;I)I"⟩, 41), (⟨"OverTheHeads", "likes", "(LOverTheHeads$Row;II)I"⟩, 41), (⟨"OverTheHeads", "says", "(IIIIIII)I"⟩, 41), (⟨"OverTheHeads", "costs", "()I"⟩, 41), (⟨"OverTheHeads", "stepCost", "(I)I"⟩, 41), (⟨"OverTheHeads", "keepsRises", "()V"⟩, 41)]
theorem lw_r2 : ∀ q ∈ lw_privs_2, lw_okq q := List.forall_mem_cons.mpr ⟨lw_p16, List.forall_mem_cons.mpr ⟨lw_p17, List.forall_mem_cons.mpr ⟨lw_p18, List.forall_mem_cons.mpr ⟨lw_p19, List.forall_mem_cons.mpr ⟨lw_p20, List.forall_mem_cons.mpr ⟨lw_p21, List.forall_mem_cons.mpr ⟨lw_p22, List.forall_mem_cons.mpr ⟨lw_p23, List.forall_mem_cons.mpr ⟨lw_p24, List.forall_mem_cons.mpr ⟨lw_p25, List.forall_mem_cons.mpr ⟨lw_p26, List.forall_mem_cons.mpr ⟨lw_p27, List.forall_mem_cons.mpr ⟨lw_p28, List.forall_mem_cons.mpr ⟨lw_p29, List.forall_mem_cons.mpr ⟨lw_p30, List.forall_mem_cons.mpr ⟨lw_p31, fun _ h => absurd h List.not_mem_nil⟩⟩⟩⟩⟩⟩⟩⟩⟩⟩⟩⟩⟩⟩⟩⟩
theorem lw_p32 : lw_okq (⟨"OverTheHeads", "seesAll", "(I)Z"⟩, 41) := ⟨⟨by decide +kernel, by decide +kernel⟩, lw_t1 (List.mem_of_getElem? (i := 39) rfl), lw_t5 (List.mem_of_getElem? (i := 229) rfl), lw_t5 (List.mem_of_getElem? (i := 230) rfl)⟩
theorem lw_p33 : lw_okq (⟨"OverTheHeads", "laysRises", "()V"⟩, 41) := ⟨⟨by decide +kernel, by decide +kernel⟩, lw_t1 (List.mem_of_getElem? (i := 39) rfl), lw_t5 (List.mem_of_getElem? (i := 233) rfl), lw_t5 (List.mem_of_getElem? (i := 234) rfl)⟩
theorem lw_p34 : lw_okq (⟨"OverTheHeads", "weights", "()J"⟩, 41) := ⟨⟨by decide +kernel, by decide +kernel⟩, lw_t1 (List.mem_of_getElem? (i := 39) rfl), lw_t6 (List.mem_of_getElem? (i := 1) rfl), lw_t6 (List.mem_of_getElem? (i := 2) rfl)⟩
theorem lw_p35 : lw_okq (⟨"OverTheHeads", "chances", "(LOverTheHeads$Row;II)V"⟩, 41) := ⟨⟨by decide +kernel, by decide +kernel⟩, lw_t1 (List.mem_of_getElem? (i := 39) rfl), lw_t6 (List.mem_of_getElem? (i := 6) rfl), lw_t6 (List.mem_of_getElem? (i := 7) rfl)⟩
theorem lw_p36 : lw_okq (⟨"OverTheHeads", "keepsSits", "()V"⟩, 41) := ⟨⟨by decide +kernel, by decide +kernel⟩, lw_t1 (List.mem_of_getElem? (i := 39) rfl), lw_t6 (List.mem_of_getElem? (i := 27) rfl), lw_t6 (List.mem_of_getElem? (i := 28) rfl)⟩
theorem lw_p37 : lw_okq (⟨"OverTheHeads", "allWorth", "()I"⟩, 41) := ⟨⟨by decide +kernel, by decide +kernel⟩, lw_t1 (List.mem_of_getElem? (i := 39) rfl), lw_t6 (List.mem_of_getElem? (i := 34) rfl), lw_t6 (List.mem_of_getElem? (i := 35) rfl)⟩
theorem lw_p38 : lw_okq (⟨"OverTheHeads", "rowWorth", "(LOverTheHeads$Row;)I"⟩, 41) := ⟨⟨by decide +kernel, by decide +kernel⟩, lw_t1 (List.mem_of_getElem? (i := 39) rfl), lw_t6 (List.mem_of_getElem? (i := 38) rfl), lw_t6 (List.mem_of_getElem? (i := 39) rfl)⟩
theorem lw_p39 : lw_okq (⟨"OverTheHeads", "laysSits", "()V"⟩, 41) := ⟨⟨by decide +kernel, by decide +kernel⟩, lw_t1 (List.mem_of_getElem? (i := 39) rfl), lw_t6 (List.mem_of_getElem? (i := 42) rfl), lw_t6 (List.mem_of_getElem? (i := 43) rfl)⟩
theorem lw_p40 : lw_okq (⟨"OverTheHeads", "leastFloor", "(II)I"⟩, 41) := ⟨⟨by decide +kernel, by decide +kernel⟩, lw_t1 (List.mem_of_getElem? (i := 39) rfl), lw_t6 (List.mem_of_getElem? (i := 50) rfl), lw_t6 (List.mem_of_getElem? (i := 51) rfl)⟩
theorem lw_p41 : lw_okq (⟨"OverTheHeads", "keeps", "(I)V"⟩, 41) := ⟨⟨by decide +kernel, by decide +kernel⟩, lw_t1 (List.mem_of_getElem? (i := 39) rfl), lw_t6 (List.mem_of_getElem? (i := 62) rfl), lw_t6 (List.mem_of_getElem? (i := 63) rfl)⟩
theorem lw_p42 : lw_okq (⟨"OverTheHeads", "changes", "(LOverTheHeads$Row;ILOverTheHeads$Row;I)V"⟩, 41) := ⟨⟨by decide +kernel, by decide +kernel⟩, lw_t1 (List.mem_of_getElem? (i := 39) rfl), lw_t6 (List.mem_of_getElem? (i := 83) rfl), lw_t6 (List.mem_of_getElem? (i := 84) rfl)⟩
theorem lw_p43 : lw_okq (⟨"OverTheHeads", "seeks", "(I)V"⟩, 41) := ⟨⟨by decide +kernel, by decide +kernel⟩, lw_t1 (List.mem_of_getElem? (i := 39) rfl), lw_t6 (List.mem_of_getElem? (i := 91) rfl), lw_t6 (List.mem_of_getElem? (i := 92) rfl)⟩
theorem lw_p44 : lw_okq (⟨"OverTheHeads", "buyers", "(I)I"⟩, 41) := ⟨⟨by decide +kernel, by decide +kernel⟩, lw_t1 (List.mem_of_getElem? (i := 39) rfl), lw_t6 (List.mem_of_getElem? (i := 111) rfl), lw_t6 (List.mem_of_getElem? (i := 112) rfl)⟩
theorem lw_p45 : lw_okq (⟨"OverTheHeads", "there", "(I)LOverTheHeads$Sheet;"⟩, 41) := ⟨⟨by decide +kernel, by decide +kernel⟩, lw_t1 (List.mem_of_getElem? (i := 39) rfl), lw_t6 (List.mem_of_getElem? (i := 157) rfl), lw_t6 (List.mem_of_getElem? (i := 158) rfl)⟩
theorem lw_p46 : lw_okq (⟨"OverTheHeadsModel", "first", "(IIIII)V"⟩, 59) := ⟨⟨by decide +kernel, by decide +kernel⟩, lw_t6 (List.mem_of_getElem? (i := 235) rfl), lw_t7 (List.mem_of_getElem? (i := 14) rfl), lw_t7 (List.mem_of_getElem? (i := 15) rfl)⟩
theorem lw_p47 : lw_okq (⟨"OverTheHeadsModel", "isRow", "(I)Z"⟩, 59) := ⟨⟨by decide +kernel, by decide +kernel⟩, lw_t6 (List.mem_of_getElem? (i := 235) rfl), lw_t7 (List.mem_of_getElem? (i := 213) rfl), lw_t7 (List.mem_of_getElem? (i := 214) rfl)⟩
def lw_privs_3 : List (MethodName × Nat) := [(⟨"OverTheHeads", "seesAll", "(I)Z"⟩, 41), (⟨"OverTheHeads", "laysRises", "()V"⟩, 41), (⟨"OverTheHeads", "weights", "()J"⟩, 41), (⟨"OverTheHeads", "chances", "(LOverTheHeads$Row;II)V"⟩, 41), (⟨"OverTheHeads", "keepsSits", "()V"⟩, 41), (⟨"OverTheHeads", "allWorth", "()I"⟩, 41), (⟨"OverTheHeads", "rowWorth", "(LOverTheHeads$Row;)I"⟩, 41), (⟨"OverTheHeads", "laysSits", "()V"⟩, 41), (⟨"OverTheHeads", "leastFloor", "(II)I"⟩, 41), (⟨"OverTheHeads", "keeps", "(I)V"⟩, 41), (⟨"OverTheHeads", "changes", "(LOverTheHeads$Row;ILOverTheHeads$Row;I)V"⟩, 41), (⟨"OverTheHeads", "seeks", "(I)V"⟩, 41), (⟨"OverTheHeads", "buyers", "(I)I"⟩, 41), (⟨"OverTheHeads", "there", "(I)LOverTheHeads$Sheet;"⟩, 41), (⟨"OverTheHeadsModel", "first", "(IIIII)V"⟩, 59), (⟨"OverTheHeadsModel", "isRow", "(I)Z"⟩, 59)]
theorem lw_r3 : ∀ q ∈ lw_privs_3, lw_okq q := List.forall_mem_cons.mpr ⟨lw_p32, List.forall_mem_cons.mpr ⟨lw_p33, List.forall_mem_cons.mpr ⟨lw_p34, List.forall_mem_cons.mpr ⟨lw_p35, List.forall_mem_cons.mpr ⟨lw_p36, List.forall_mem_cons.mpr ⟨lw_p37, List.forall_mem_cons.mpr ⟨lw_p38, List.forall_mem_cons.mpr ⟨lw_p39, List.forall_mem_cons.mpr ⟨lw_p40, List.forall_mem_cons.mpr ⟨lw_p41, List.forall_mem_cons.mpr ⟨lw_p42, List.forall_mem_cons.mpr ⟨lw_p43, List.forall_mem_cons.mpr ⟨lw_p44, List.forall_mem_cons.mpr ⟨lw_p45, List.forall_mem_cons.mpr ⟨lw_p46, List.forall_mem_cons.mpr ⟨lw_p47, fun _ h => absurd h List.not_mem_nil⟩⟩⟩⟩⟩⟩⟩⟩⟩⟩⟩⟩⟩⟩⟩⟩
theorem lw_p48 : lw_okq (⟨"OverTheHeadsModel", "isSeat", "(II)Z"⟩, 59) := ⟨⟨by decide +kernel, by decide +kernel⟩, lw_t6 (List.mem_of_getElem? (i := 235) rfl), lw_t7 (List.mem_of_getElem? (i := 221) rfl), lw_t7 (List.mem_of_getElem? (i := 222) rfl)⟩
theorem lw_p49 : lw_okq (⟨"OverTheHeadsModel", "placeOf", "(II)I"⟩, 59) := ⟨⟨by decide +kernel, by decide +kernel⟩, lw_t6 (List.mem_of_getElem? (i := 235) rfl), lw_t7 (List.mem_of_getElem? (i := 229) rfl), lw_t7 (List.mem_of_getElem? (i := 230) rfl)⟩
theorem lw_p50 : lw_okq (⟨"OverTheHeadsModel", "floorOf", "(I)I"⟩, 59) := ⟨⟨by decide +kernel, by decide +kernel⟩, lw_t6 (List.mem_of_getElem? (i := 235) rfl), lw_t7 (List.mem_of_getElem? (i := 233) rfl), lw_t7 (List.mem_of_getElem? (i := 234) rfl)⟩
theorem lw_p51 : lw_okq (⟨"OverTheHeadsModel", "farOf", "(I)I"⟩, 59) := ⟨⟨by decide +kernel, by decide +kernel⟩, lw_t6 (List.mem_of_getElem? (i := 235) rfl), lw_t7 (List.mem_of_getElem? (i := 237) rfl), lw_t7 (List.mem_of_getElem? (i := 238) rfl)⟩
theorem lw_p52 : lw_okq (⟨"OverTheHeadsModel", "eyesOf", "(II)I"⟩, 59) := ⟨⟨by decide +kernel, by decide +kernel⟩, lw_t6 (List.mem_of_getElem? (i := 235) rfl), lw_t8 (List.mem_of_getElem? (i := 1) rfl), lw_t8 (List.mem_of_getElem? (i := 2) rfl)⟩
theorem lw_p53 : lw_okq (⟨"OverTheHeadsModel", "above", "(II)I"⟩, 59) := ⟨⟨by decide +kernel, by decide +kernel⟩, lw_t6 (List.mem_of_getElem? (i := 235) rfl), lw_t8 (List.mem_of_getElem? (i := 5) rfl), lw_t8 (List.mem_of_getElem? (i := 6) rfl)⟩
theorem lw_p54 : lw_okq (⟨"OverTheHeadsModel", "topOf", "(II)I"⟩, 59) := ⟨⟨by decide +kernel, by decide +kernel⟩, lw_t6 (List.mem_of_getElem? (i := 235) rfl), lw_t8 (List.mem_of_getElem? (i := 9) rfl), lw_t8 (List.mem_of_getElem? (i := 10) rfl)⟩
theorem lw_p55 : lw_okq (⟨"OverTheHeadsModel", "isAmong", "(I)Z"⟩, 59) := ⟨⟨by decide +kernel, by decide +kernel⟩, lw_t6 (List.mem_of_getElem? (i := 235) rfl), lw_t8 (List.mem_of_getElem? (i := 13) rfl), lw_t8 (List.mem_of_getElem? (i := 14) rfl)⟩
theorem lw_p56 : lw_okq (⟨"OverTheHeadsModel", "next", "()V"⟩, 59) := ⟨⟨by decide +kernel, by decide +kernel⟩, lw_t6 (List.mem_of_getElem? (i := 235) rfl), lw_t8 (List.mem_of_getElem? (i := 42) rfl), lw_t8 (List.mem_of_getElem? (i := 43) rfl)⟩
theorem lw_p57 : lw_okq (⟨"OverTheHeadsModel", "letters", "()J"⟩, 59) := ⟨⟨by decide +kernel, by decide +kernel⟩, lw_t6 (List.mem_of_getElem? (i := 235) rfl), lw_t8 (List.mem_of_getElem? (i := 46) rfl), lw_t8 (List.mem_of_getElem? (i := 47) rfl)⟩
theorem lw_p58 : lw_okq (⟨"OverTheHeadsModel", "eRead", "()Z"⟩, 59) := ⟨⟨by decide +kernel, by decide +kernel⟩, lw_t6 (List.mem_of_getElem? (i := 235) rfl), lw_t8 (List.mem_of_getElem? (i := 50) rfl), lw_t8 (List.mem_of_getElem? (i := 51) rfl)⟩
theorem lw_p59 : lw_okq (⟨"OverTheHeadsModel", "puts", "(I)V"⟩, 59) := ⟨⟨by decide +kernel, by decide +kernel⟩, lw_t6 (List.mem_of_getElem? (i := 235) rfl), lw_t8 (List.mem_of_getElem? (i := 55) rfl), lw_t8 (List.mem_of_getElem? (i := 56) rfl)⟩
theorem lw_p60 : lw_okq (⟨"OverTheHeadsModel", "unwinds", "(I)V"⟩, 59) := ⟨⟨by decide +kernel, by decide +kernel⟩, lw_t6 (List.mem_of_getElem? (i := 235) rfl), lw_t8 (List.mem_of_getElem? (i := 59) rfl), lw_t8 (List.mem_of_getElem? (i := 60) rfl)⟩
theorem lw_p61 : lw_okq (⟨"OverTheHeadsModel", "opensOne", "(I)Z"⟩, 59) := ⟨⟨by decide +kernel, by decide +kernel⟩, lw_t6 (List.mem_of_getElem? (i := 235) rfl), lw_t8 (List.mem_of_getElem? (i := 66) rfl), lw_t8 (List.mem_of_getElem? (i := 67) rfl)⟩
theorem lw_p62 : lw_okq (⟨"OverTheHeadsModel", "holds", "(I)V"⟩, 59) := ⟨⟨by decide +kernel, by decide +kernel⟩, lw_t6 (List.mem_of_getElem? (i := 235) rfl), lw_t8 (List.mem_of_getElem? (i := 70) rfl), lw_t8 (List.mem_of_getElem? (i := 71) rfl)⟩
theorem lw_p63 : lw_okq (⟨"OverTheHeadsModel", "signOf", "()I"⟩, 59) := ⟨⟨by decide +kernel, by decide +kernel⟩, lw_t6 (List.mem_of_getElem? (i := 235) rfl), lw_t8 (List.mem_of_getElem? (i := 74) rfl), lw_t8 (List.mem_of_getElem? (i := 75) rfl)⟩
def lw_privs_4 : List (MethodName × Nat) := [(⟨"OverTheHeadsModel", "isSeat", "(II)Z"⟩, 59), (⟨"OverTheHeadsModel", "placeOf", "(II)I"⟩, 59), (⟨"OverTheHeadsModel", "floorOf", "(I)I"⟩, 59), (⟨"OverTheHeadsModel", "farOf", "(I)I"⟩, 59), (⟨"OverTheHeadsModel", "eyesOf", "(II)I"⟩, 59), (⟨"OverTheHeadsModel", "above", "(II)I"⟩, 59), (⟨"OverTheHeadsModel", "topOf", "(II)I"⟩, 59), (⟨"OverTheHeadsModel", "isAmong", "(I)Z"⟩, 59), (⟨"OverTheHeadsModel", "next", "()V"⟩, 59), (⟨"OverTheHeadsModel", "letters", "()J"⟩, 59), (⟨"OverTheHeadsModel", "eRead", "()Z"⟩, 59), (⟨"OverTheHeadsModel", "puts", "(I)V"⟩, 59), (⟨"OverTheHeadsModel", "unwinds", "(I)V"⟩, 59), (⟨"OverTheHeadsModel", "opensOne", "(I)Z"⟩, 59), (⟨"OverTheHeadsModel", "holds", "(I)V"⟩, 59), (⟨"OverTheHeadsModel", "signOf", "()I"⟩, 59)]
theorem lw_r4 : ∀ q ∈ lw_privs_4, lw_okq q := List.forall_mem_cons.mpr ⟨lw_p48, List.forall_mem_cons.mpr ⟨lw_p49, List.forall_mem_cons.mpr ⟨lw_p50, List.forall_mem_cons.mpr ⟨lw_p51, List.forall_mem_cons.mpr ⟨lw_p52, List.forall_mem_cons.mpr ⟨lw_p53, List.forall_mem_cons.mpr ⟨lw_p54, List.forall_mem_cons.mpr ⟨lw_p55, List.forall_mem_cons.mpr ⟨lw_p56, List.forall_mem_cons.mpr ⟨lw_p57, List.forall_mem_cons.mpr ⟨lw_p58, List.forall_mem_cons.mpr ⟨lw_p59, List.forall_mem_cons.mpr ⟨lw_p60, List.forall_mem_cons.mpr ⟨lw_p61, List.forall_mem_cons.mpr ⟨lw_p62, List.forall_mem_cons.mpr ⟨lw_p63, fun _ h => absurd h List.not_mem_nil⟩⟩⟩⟩⟩⟩⟩⟩⟩⟩⟩⟩⟩⟩⟩⟩
theorem lw_p64 : lw_okq (⟨"OverTheHeadsModel", "between", "(I)Z"⟩, 59) := ⟨⟨by decide +kernel, by decide +kernel⟩, lw_t6 (List.mem_of_getElem? (i := 235) rfl), lw_t8 (List.mem_of_getElem? (i := 78) rfl), lw_t8 (List.mem_of_getElem? (i := 79) rfl)⟩
theorem lw_p65 : lw_okq (⟨"OverTheHeadsModel", "hiderOf", "(III)I"⟩, 59) := ⟨⟨by decide +kernel, by decide +kernel⟩, lw_t6 (List.mem_of_getElem? (i := 235) rfl), lw_t8 (List.mem_of_getElem? (i := 90) rfl), lw_t8 (List.mem_of_getElem? (i := 91) rfl)⟩
theorem lw_p66 : lw_okq (⟨"OverTheHeadsModel", "isNear", "(IIIII)Z"⟩, 59) := ⟨⟨by decide +kernel, by decide +kernel⟩, lw_t6 (List.mem_of_getElem? (i := 235) rfl), lw_t8 (List.mem_of_getElem? (i := 94) rfl), lw_t8 (List.mem_of_getElem? (i := 95) rfl)⟩
theorem lw_p67 : lw_okq (⟨"OverTheHeadsModel", "beside", "(IIIII)I"⟩, 59) := ⟨⟨by decide +kernel, by decide +kernel⟩, lw_t6 (List.mem_of_getElem? (i := 235) rfl), lw_t8 (List.mem_of_getElem? (i := 98) rfl), lw_t8 (List.mem_of_getElem? (i := 99) rfl)⟩
theorem lw_p68 : lw_okq (⟨"OverTheHeadsModel", "isAsHigh", "(IIIII)Z"⟩, 59) := ⟨⟨by decide +kernel, by decide +kernel⟩, lw_t6 (List.mem_of_getElem? (i := 235) rfl), lw_t8 (List.mem_of_getElem? (i := 102) rfl), lw_t8 (List.mem_of_getElem? (i := 103) rfl)⟩
theorem lw_p69 : lw_okq (⟨"OverTheHeadsModel", "postBefore", "(III)I"⟩, 59) := ⟨⟨by decide +kernel, by decide +kernel⟩, lw_t6 (List.mem_of_getElem? (i := 235) rfl), lw_t8 (List.mem_of_getElem? (i := 106) rfl), lw_t8 (List.mem_of_getElem? (i := 107) rfl)⟩
theorem lw_p70 : lw_okq (⟨"OverTheHeadsModel", "seesOf", "(II)I"⟩, 59) := ⟨⟨by decide +kernel, by decide +kernel⟩, lw_t6 (List.mem_of_getElem? (i := 235) rfl), lw_t8 (List.mem_of_getElem? (i := 114) rfl), lw_t8 (List.mem_of_getElem? (i := 115) rfl)⟩
theorem lw_p71 : lw_okq (⟨"OverTheHeadsModel", "worthOf", "(II)I"⟩, 59) := ⟨⟨by decide +kernel, by decide +kernel⟩, lw_t6 (List.mem_of_getElem? (i := 235) rfl), lw_t8 (List.mem_of_getElem? (i := 122) rfl), lw_t8 (List.mem_of_getElem? (i := 123) rfl)⟩
theorem lw_p72 : lw_okq (⟨"OverTheHeadsModel", "likeOf", "(III)I"⟩, 59) := ⟨⟨by decide +kernel, by decide +kernel⟩, lw_t6 (List.mem_of_getElem? (i := 235) rfl), lw_t8 (List.mem_of_getElem? (i := 126) rfl), lw_t8 (List.mem_of_getElem? (i := 127) rfl)⟩
theorem lw_p73 : lw_okq (⟨"OverTheHeadsModel", "names", "(IIIIII)V"⟩, 59) := ⟨⟨by decide +kernel, by decide +kernel⟩, lw_t6 (List.mem_of_getElem? (i := 235) rfl), lw_t8 (List.mem_of_getElem? (i := 130) rfl), lw_t8 (List.mem_of_getElem? (i := 131) rfl)⟩
theorem lw_p74 : lw_okq (⟨"OverTheHeadsModel", "says", "(II)I"⟩, 59) := ⟨⟨by decide +kernel, by decide +kernel⟩, lw_t6 (List.mem_of_getElem? (i := 235) rfl), lw_t8 (List.mem_of_getElem? (i := 134) rfl), lw_t8 (List.mem_of_getElem? (i := 135) rfl)⟩
theorem lw_p75 : lw_okq (⟨"OverTheHeadsModel", "priceOf", "(II)I"⟩, 59) := ⟨⟨by decide +kernel, by decide +kernel⟩, lw_t6 (List.mem_of_getElem? (i := 235) rfl), lw_t8 (List.mem_of_getElem? (i := 145) rfl), lw_t8 (List.mem_of_getElem? (i := 146) rfl)⟩
theorem lw_p76 : lw_okq (⟨"OverTheHeadsModel", "stepOf", "(I)I"⟩, 59) := ⟨⟨by decide +kernel, by decide +kernel⟩, lw_t6 (List.mem_of_getElem? (i := 235) rfl), lw_t8 (List.mem_of_getElem? (i := 157) rfl), lw_t8 (List.mem_of_getElem? (i := 158) rfl)⟩
theorem lw_p77 : lw_okq (⟨"OverTheHeadsModel", "keepsRises", "()V"⟩, 59) := ⟨⟨by decide +kernel, by decide +kernel⟩, lw_t6 (List.mem_of_getElem? (i := 235) rfl), lw_t8 (List.mem_of_getElem? (i := 169) rfl), lw_t8 (List.mem_of_getElem? (i := 170) rfl)⟩
theorem lw_p78 : lw_okq (⟨"OverTheHeadsModel", "allSee", "(I)Z"⟩, 59) := ⟨⟨by decide +kernel, by decide +kernel⟩, lw_t6 (List.mem_of_getElem? (i := 235) rfl), lw_t8 (List.mem_of_getElem? (i := 173) rfl), lw_t8 (List.mem_of_getElem? (i := 174) rfl)⟩
theorem lw_p79 : lw_okq (⟨"OverTheHeadsModel", "laysRises", "()V"⟩, 59) := ⟨⟨by decide +kernel, by decide +kernel⟩, lw_t6 (List.mem_of_getElem? (i := 235) rfl), lw_t8 (List.mem_of_getElem? (i := 177) rfl), lw_t8 (List.mem_of_getElem? (i := 178) rfl)⟩
def lw_privs_5 : List (MethodName × Nat) := [(⟨"OverTheHeadsModel", "between", "(I)Z"⟩, 59), (⟨"OverTheHeadsModel", "hiderOf", "(III)I"⟩, 59), (⟨"OverTheHeadsModel", "isNear", "(IIIII)Z"⟩, 59), (⟨"OverTheHeadsModel", "beside", "(IIIII)I"⟩, 59), (⟨"OverTheHeadsModel", "isAsHigh", "(IIIII)Z"⟩, 59), (⟨"OverTheHeadsModel", "postBefore", "(III)I"⟩, 59), (⟨"OverTheHeadsModel", "seesOf", "(II)I"⟩, 59), (⟨"OverTheHeadsModel", "worthOf", "(II)I"⟩, 59), (⟨"OverTheHeadsModel", "likeOf", "(III)I"⟩, 59), (⟨"OverTheHeadsModel", "names", "(IIIIII)V"⟩, 59), (⟨"OverTheHeadsModel", "says", "(II)I"⟩, 59), (⟨"OverTheHeadsModel", "priceOf", "(II)I"⟩, 59), (⟨"OverTheHeadsModel", "stepOf", "(I)I"⟩, 59), (⟨"OverTheHeadsModel", "keepsRises", "()V"⟩, 59), (⟨"OverTheHeadsModel", "allSee", "(I)Z"⟩, 59), (⟨"OverTheHeadsModel", "laysRises", "()V"⟩, 59)]
theorem lw_r5 : ∀ q ∈ lw_privs_5, lw_okq q := List.forall_mem_cons.mpr ⟨lw_p64, List.forall_mem_cons.mpr ⟨lw_p65, List.forall_mem_cons.mpr ⟨lw_p66, List.forall_mem_cons.mpr ⟨lw_p67, List.forall_mem_cons.mpr ⟨lw_p68, List.forall_mem_cons.mpr ⟨lw_p69, List.forall_mem_cons.mpr ⟨lw_p70, List.forall_mem_cons.mpr ⟨lw_p71, List.forall_mem_cons.mpr ⟨lw_p72, List.forall_mem_cons.mpr ⟨lw_p73, List.forall_mem_cons.mpr ⟨lw_p74, List.forall_mem_cons.mpr ⟨lw_p75, List.forall_mem_cons.mpr ⟨lw_p76, List.forall_mem_cons.mpr ⟨lw_p77, List.forall_mem_cons.mpr ⟨lw_p78, List.forall_mem_cons.mpr ⟨lw_p79, fun _ h => absurd h List.not_mem_nil⟩⟩⟩⟩⟩⟩⟩⟩⟩⟩⟩⟩⟩⟩⟩⟩
theorem lw_p80 : lw_okq (⟨"OverTheHeadsModel", "allCounts", "()I"⟩, 59) := ⟨⟨by decide +kernel, by decide +kernel⟩, lw_t6 (List.mem_of_getElem? (i := 235) rfl), lw_t8 (List.mem_of_getElem? (i := 185) rfl), lw_t8 (List.mem_of_getElem? (i := 186) rfl)⟩
theorem lw_p81 : lw_okq (⟨"OverTheHeadsModel", "cases", "(III)V"⟩, 59) := ⟨⟨by decide +kernel, by decide +kernel⟩, lw_t6 (List.mem_of_getElem? (i := 235) rfl), lw_t8 (List.mem_of_getElem? (i := 190) rfl), lw_t8 (List.mem_of_getElem? (i := 191) rfl)⟩
theorem lw_p82 : lw_okq (⟨"OverTheHeadsModel", "keepsSorts", "()V"⟩, 59) := ⟨⟨by decide +kernel, by decide +kernel⟩, lw_t6 (List.mem_of_getElem? (i := 235) rfl), lw_t8 (List.mem_of_getElem? (i := 208) rfl), lw_t8 (List.mem_of_getElem? (i := 209) rfl)⟩
theorem lw_p83 : lw_okq (⟨"OverTheHeadsModel", "allWorth", "()I"⟩, 59) := ⟨⟨by decide +kernel, by decide +kernel⟩, lw_t6 (List.mem_of_getElem? (i := 235) rfl), lw_t8 (List.mem_of_getElem? (i := 212) rfl), lw_t8 (List.mem_of_getElem? (i := 213) rfl)⟩
theorem lw_p84 : lw_okq (⟨"OverTheHeadsModel", "laysSorts", "()V"⟩, 59) := ⟨⟨by decide +kernel, by decide +kernel⟩, lw_t6 (List.mem_of_getElem? (i := 235) rfl), lw_t8 (List.mem_of_getElem? (i := 216) rfl), lw_t8 (List.mem_of_getElem? (i := 217) rfl)⟩
theorem lw_p85 : lw_okq (⟨"OverTheHeadsModel", "raises", "(II)I"⟩, 59) := ⟨⟨by decide +kernel, by decide +kernel⟩, lw_t6 (List.mem_of_getElem? (i := 235) rfl), lw_t8 (List.mem_of_getElem? (i := 224) rfl), lw_t8 (List.mem_of_getElem? (i := 225) rfl)⟩
theorem lw_p86 : lw_okq (⟨"OverTheHeadsModel", "gainBy", "(II)I"⟩, 59) := ⟨⟨by decide +kernel, by decide +kernel⟩, lw_t6 (List.mem_of_getElem? (i := 235) rfl), lw_t9 (List.mem_of_getElem? (i := 10) rfl), lw_t9 (List.mem_of_getElem? (i := 11) rfl)⟩
theorem lw_p87 : lw_okq (⟨"OverTheHeadsModel", "changes", "(II)V"⟩, 59) := ⟨⟨by decide +kernel, by decide +kernel⟩, lw_t6 (List.mem_of_getElem? (i := 235) rfl), lw_t9 (List.mem_of_getElem? (i := 14) rfl), lw_t9 (List.mem_of_getElem? (i := 15) rfl)⟩
theorem lw_p88 : lw_okq (⟨"OverTheHeadsModel", "finds", "(I)V"⟩, 59) := ⟨⟨by decide +kernel, by decide +kernel⟩, lw_t6 (List.mem_of_getElem? (i := 235) rfl), lw_t9 (List.mem_of_getElem? (i := 23) rfl), lw_t9 (List.mem_of_getElem? (i := 24) rfl)⟩
def lw_privs_6 : List (MethodName × Nat) := [(⟨"OverTheHeadsModel", "allCounts", "()I"⟩, 59), (⟨"OverTheHeadsModel", "cases", "(III)V"⟩, 59), (⟨"OverTheHeadsModel", "keepsSorts", "()V"⟩, 59), (⟨"OverTheHeadsModel", "allWorth", "()I"⟩, 59), (⟨"OverTheHeadsModel", "laysSorts", "()V"⟩, 59), (⟨"OverTheHeadsModel", "raises", "(II)I"⟩, 59), (⟨"OverTheHeadsModel", "gainBy", "(II)I"⟩, 59), (⟨"OverTheHeadsModel", "changes", "(II)V"⟩, 59), (⟨"OverTheHeadsModel", "finds", "(I)V"⟩, 59)]
theorem lw_r6 : ∀ q ∈ lw_privs_6, lw_okq q := List.forall_mem_cons.mpr ⟨lw_p80, List.forall_mem_cons.mpr ⟨lw_p81, List.forall_mem_cons.mpr ⟨lw_p82, List.forall_mem_cons.mpr ⟨lw_p83, List.forall_mem_cons.mpr ⟨lw_p84, List.forall_mem_cons.mpr ⟨lw_p85, List.forall_mem_cons.mpr ⟨lw_p86, List.forall_mem_cons.mpr ⟨lw_p87, List.forall_mem_cons.mpr ⟨lw_p88, fun _ h => absurd h List.not_mem_nil⟩⟩⟩⟩⟩⟩⟩⟩⟩
def lw_privs : List (MethodName × Nat) := lw_privs_1 ++ (lw_privs_2 ++ (lw_privs_3 ++ (lw_privs_4 ++ (lw_privs_5 ++ (lw_privs_6)))))
def lw_tbl : List Cond := k2_sels lw_privs ++ tables_1
theorem lw_privs_ok : ∀ q ∈ lw_privs, lw_okq q := by
  show ∀ q ∈ lw_privs_1 ++ (lw_privs_2 ++ (lw_privs_3 ++ (lw_privs_4 ++ (lw_privs_5 ++ (lw_privs_6))))), lw_okq q
  exact List.forall_mem_append.mpr ⟨lw_r1, List.forall_mem_append.mpr ⟨lw_r2, List.forall_mem_append.mpr ⟨lw_r3, List.forall_mem_append.mpr ⟨lw_r4, List.forall_mem_append.mpr ⟨lw_r5, lw_r6⟩⟩⟩⟩⟩
-- ===== ONE list of words for every method: the tables' words that hold all through a run =====
def lw_all : List Cond := lw_tbl.filter goodWord
/-- a word of the tables by its place: claim/WORDS.tsv -/
theorem lw_w {w : Cond} (i : Nat) (h : lw_tbl[i]? = some w) (g : goodWord w = true) : w ∈ lw_all := List.mem_filter.mpr ⟨List.mem_of_getElem? h, g⟩
theorem lw_all_tbl {w : Cond} (h : w ∈ lw_all) : w ∈ lw_tbl := (List.mem_filter.mp h).1
theorem lw_self : GoodIn lw_all lw_all := fun w h => ⟨h, good_of_word (List.mem_filter.mp h).2⟩
/-- a class's field words, by their places -/
theorem lw_in (ws : List Cond) (ps : List Nat) (hp : ws = ps.filterMap (fun i => lw_tbl[i]?)) (hg : ws.all goodWord = true) : ∀ w ∈ ws, w ∈ lw_all := by
  intro w h
  have h1 := List.all_eq_true.mp hg w h
  rw [hp] at h
  obtain ⟨i, -, hi⟩ := List.mem_filterMap.mp h
  exact lw_w i hi h1
/-- the words of a contract for the method y with code b, L locals, answer r -/
abbrev ws_ (y : MethodName) (b : ByteArray) (L : Nat) (r : Option FieldType) : List Cond := Cond.code y b L r :: lw_all
theorem lw_meth {y : MethodName} {b : ByteArray} {L : Nat} {r : Option FieldType} (h : Cond.code y b L r ∈ lw_all) : GoodIn lw_all (ws_ y b L r) := by
  intro w hw
  rcases List.mem_cons.mp hw with e | e
  · rw [e]
    exact lw_self _ h
  · exact lw_self _ e
theorem lw_app {a c : List Cond} (ha : ∀ w ∈ a, w ∈ lw_all) (hc : GoodIn lw_all c) : GoodIn lw_all (a ++ c) := by
  intro w hw
  rcases List.mem_append.mp hw with e | e
  · exact lw_self w (ha w e)
  · exact hc w e
/-- what a call through an object asks: cwV n hts (lw_V ..) -/
theorem lw_V {own : String} {idx : Nat} {C : String} {y : MethodName} {b : ByteArray} {L : Nat} {r : Option FieldType} (h1 : Cond.methodLink own idx y ∈ lw_all) (h2 : Cond.instanceMethod y ∈ lw_all) (h3 : Cond.selects C y y ∈ lw_all) (h4 : Cond.initialized C ∈ lw_all) (h5 : Cond.code y b L r ∈ lw_all) : GoodIn lw_all (wsV own idx C y (ws_ y b L r)) := by
  refine lw_app ?_ (lw_meth h5)
  intro w hw
  simp only [List.mem_cons, List.not_mem_nil, or_false] at hw
  rcases hw with e | e | e | e
  · rw [e]; exact h1
  · rw [e]; exact h2
  · rw [e]; exact h3
  · rw [e]; exact h4
/-- what a static call asks: va_cwS n hts (lw_S ..) -/
theorem lw_S {own : String} {idx : Nat} {y : MethodName} {b : ByteArray} {L : Nat} {r : Option FieldType} (h1 : Cond.methodLink own idx y ∈ lw_all) (h2 : Cond.static y ∈ lw_all) (h3 : Cond.initialized y.cls ∈ lw_all) (h4 : Cond.code y b L r ∈ lw_all) : GoodIn lw_all (va_wsS own idx y (ws_ y b L r)) := by
  refine lw_app ?_ (lw_meth h4)
  intro w hw
  simp only [List.mem_cons, List.not_mem_nil, or_false] at hw
  rcases hw with e | e | e
  · rw [e]; exact h1
  · rw [e]; exact h2
  · rw [e]; exact h3
/-- the words of a contract for a method WITH HANDLERS (hh: its table) -/
abbrev wsW_ (y : MethodName) (b : ByteArray) (L : Nat) (r : Option FieldType) (hh : List (Nat × Nat × Nat × Nat)) : List Cond := Cond.codeWith y b L r hh :: lw_all
theorem lw_methW {y : MethodName} {b : ByteArray} {L : Nat} {r : Option FieldType} {hh : List (Nat × Nat × Nat × Nat)} (h : Cond.codeWith y b L r hh ∈ lw_all) : GoodIn lw_all (wsW_ y b L r hh) := by
  intro w hw
  rcases List.mem_cons.mp hw with e | e
  · rw [e]
    exact lw_self _ h
  · exact lw_self _ e
/-- any list of words by their places (lw_in), good -/
theorem lw_good {ws : List Cond} (h : ∀ w ∈ ws, w ∈ lw_all) : GoodIn lw_all ws := fun w hw => lw_self w (h w hw)
/-- what a call of a method with handlers asks: vx_cwVW n hts (lw_VW ..), vx_cwSW n hts (lw_SW ..) -/
theorem lw_VW {own : String} {idx : Nat} {C : String} {y : MethodName} {b : ByteArray} {L : Nat} {r : Option FieldType} {hh : List (Nat × Nat × Nat × Nat)} (h1 : Cond.methodLink own idx y ∈ lw_all) (h2 : Cond.instanceMethod y ∈ lw_all) (h3 : Cond.selects C y y ∈ lw_all) (h4 : Cond.initialized C ∈ lw_all) (h5 : Cond.codeWith y b L r hh ∈ lw_all) : GoodIn lw_all (wsV own idx C y (wsW_ y b L r hh)) := by
  refine lw_app ?_ (lw_methW h5)
  intro w hw
  simp only [List.mem_cons, List.not_mem_nil, or_false] at hw
  rcases hw with e | e | e | e
  · rw [e]; exact h1
  · rw [e]; exact h2
  · rw [e]; exact h3
  · rw [e]; exact h4
theorem lw_SW {own : String} {idx : Nat} {y : MethodName} {b : ByteArray} {L : Nat} {r : Option FieldType} {hh : List (Nat × Nat × Nat × Nat)} (h1 : Cond.methodLink own idx y ∈ lw_all) (h2 : Cond.static y ∈ lw_all) (h3 : Cond.initialized y.cls ∈ lw_all) (h4 : Cond.codeWith y b L r hh ∈ lw_all) : GoodIn lw_all (va_wsS own idx y (wsW_ y b L r hh)) := by
  refine lw_app ?_ (lw_methW h4)
  intro w hw
  simp only [List.mem_cons, List.not_mem_nil, or_false] at hw
  rcases hw with e | e | e
  · rw [e]; exact h1
  · rw [e]; exact h2
  · rw [e]; exact h3
/-- a word by its place in its run of the tables -/
theorem lw_at {r : List Cond} (hr : ∀ w ∈ r, w ∈ lw_tbl) {w : Cond} (i : Nat) (h : r[i]? = some w) : w ∈ lw_tbl := hr w (List.mem_of_getElem? h)
theorem lw_g {w : Cond} (h : w ∈ lw_tbl) (g : goodWord w = true) : w ∈ lw_all := List.mem_filter.mpr ⟨h, g⟩
theorem lw_ms : ∀ w ∈ k2_sels lw_privs, w ∈ lw_tbl := fun w h => show w ∈ k2_sels lw_privs ++ tables_1 from List.mem_append_left _ h
theorem lw_m1 : ∀ w ∈ tables_1_1, w ∈ lw_tbl := fun w h => show w ∈ k2_sels lw_privs ++ tables_1 from List.mem_append_right (k2_sels lw_privs) (show w ∈ tables_1 from List.mem_append_left _ h)
theorem lw_m2 : ∀ w ∈ tables_1_2, w ∈ lw_tbl := fun w h => show w ∈ k2_sels lw_privs ++ tables_1 from List.mem_append_right (k2_sels lw_privs) (show w ∈ tables_1 from List.mem_append_right _ (List.mem_append_left _ h))
theorem lw_m3 : ∀ w ∈ tables_1_3, w ∈ lw_tbl := fun w h => show w ∈ k2_sels lw_privs ++ tables_1 from List.mem_append_right (k2_sels lw_privs) (show w ∈ tables_1 from List.mem_append_right _ (List.mem_append_right _ (List.mem_append_left _ h)))
theorem lw_m4 : ∀ w ∈ tables_1_4, w ∈ lw_tbl := fun w h => show w ∈ k2_sels lw_privs ++ tables_1 from List.mem_append_right (k2_sels lw_privs) (show w ∈ tables_1 from List.mem_append_right _ (List.mem_append_right _ (List.mem_append_right _ (List.mem_append_left _ h))))
theorem lw_m5 : ∀ w ∈ tables_1_5, w ∈ lw_tbl := fun w h => show w ∈ k2_sels lw_privs ++ tables_1 from List.mem_append_right (k2_sels lw_privs) (show w ∈ tables_1 from List.mem_append_right _ (List.mem_append_right _ (List.mem_append_right _ (List.mem_append_right _ (List.mem_append_left _ h)))))
theorem lw_m6 : ∀ w ∈ tables_1_6, w ∈ lw_tbl := fun w h => show w ∈ k2_sels lw_privs ++ tables_1 from List.mem_append_right (k2_sels lw_privs) (show w ∈ tables_1 from List.mem_append_right _ (List.mem_append_right _ (List.mem_append_right _ (List.mem_append_right _ (List.mem_append_right _ (List.mem_append_left _ h))))))
theorem lw_m7 : ∀ w ∈ tables_1_7, w ∈ lw_tbl := fun w h => show w ∈ k2_sels lw_privs ++ tables_1 from List.mem_append_right (k2_sels lw_privs) (show w ∈ tables_1 from List.mem_append_right _ (List.mem_append_right _ (List.mem_append_right _ (List.mem_append_right _ (List.mem_append_right _ (List.mem_append_right _ (List.mem_append_left _ h)))))))
theorem lw_m8 : ∀ w ∈ tables_1_8, w ∈ lw_tbl := fun w h => show w ∈ k2_sels lw_privs ++ tables_1 from List.mem_append_right (k2_sels lw_privs) (show w ∈ tables_1 from List.mem_append_right _ (List.mem_append_right _ (List.mem_append_right _ (List.mem_append_right _ (List.mem_append_right _ (List.mem_append_right _ (List.mem_append_right _ (List.mem_append_left _ h))))))))
theorem lw_m9 : ∀ w ∈ tables_1_9, w ∈ lw_tbl := fun w h => show w ∈ k2_sels lw_privs ++ tables_1 from List.mem_append_right (k2_sels lw_privs) (show w ∈ tables_1 from List.mem_append_right _ (List.mem_append_right _ (List.mem_append_right _ (List.mem_append_right _ (List.mem_append_right _ (List.mem_append_right _ (List.mem_append_right _ (List.mem_append_right _ h))))))))
theorem qs0 : (Cond.selects "OverTheHeads$Reader" ⟨"OverTheHeads$Reader", "next", "()V"⟩ ⟨"OverTheHeads$Reader", "next", "()V"⟩) ∈ lw_all := lw_g (lw_at lw_ms 0 rfl) rfl
theorem qs1 : (Cond.selects "OverTheHeads$Reader" ⟨"OverTheHeads$Reader", "here", "()I"⟩ ⟨"OverTheHeads$Reader", "here", "()I"⟩) ∈ lw_all := lw_g (lw_at lw_ms 1 rfl) rfl
theorem qs2 : (Cond.selects "OverTheHeads$Reader" ⟨"OverTheHeads$Reader", "fault", "()LOverTheHeads$Fault;"⟩ ⟨"OverTheHeads$Reader", "fault", "()LOverTheHeads$Fault;"⟩) ∈ lw_all := lw_g (lw_at lw_ms 2 rfl) rfl
theorem qs3 : (Cond.selects "java/lang/Throwable" ⟨"java/lang/Throwable", "fillInStackTrace", "(I)Ljava/lang/Throwable;"⟩ ⟨"java/lang/Throwable", "fillInStackTrace", "(I)Ljava/lang/Throwable;"⟩) ∈ lw_all := lw_g (lw_at lw_ms 3 rfl) rfl
theorem qs4 : (Cond.selects "OverTheHeads$Reader" ⟨"OverTheHeads$Reader", "is", "(Ljava/lang/String;)Z"⟩ ⟨"OverTheHeads$Reader", "is", "(Ljava/lang/String;)Z"⟩) ∈ lw_all := lw_g (lw_at lw_ms 4 rfl) rfl
theorem qs5 : (Cond.selects "OverTheHeads$Reader" ⟨"OverTheHeads$Reader", "either", "()LOverTheHeads$Node;"⟩ ⟨"OverTheHeads$Reader", "either", "()LOverTheHeads$Node;"⟩) ∈ lw_all := lw_g (lw_at lw_ms 5 rfl) rfl
theorem qs6 : (Cond.selects "OverTheHeads$Reader" ⟨"OverTheHeads$Reader", "both", "()LOverTheHeads$Node;"⟩ ⟨"OverTheHeads$Reader", "both", "()LOverTheHeads$Node;"⟩) ∈ lw_all := lw_g (lw_at lw_ms 6 rfl) rfl
theorem qs7 : (Cond.selects "OverTheHeads$Reader" ⟨"OverTheHeads$Reader", "not", "()LOverTheHeads$Node;"⟩ ⟨"OverTheHeads$Reader", "not", "()LOverTheHeads$Node;"⟩) ∈ lw_all := lw_g (lw_at lw_ms 7 rfl) rfl
theorem qs8 : (Cond.selects "OverTheHeads$Reader" ⟨"OverTheHeads$Reader", "opens", "()V"⟩ ⟨"OverTheHeads$Reader", "opens", "()V"⟩) ∈ lw_all := lw_g (lw_at lw_ms 8 rfl) rfl
theorem qs9 : (Cond.selects "OverTheHeads$Reader" ⟨"OverTheHeads$Reader", "sum", "()LOverTheHeads$Node;"⟩ ⟨"OverTheHeads$Reader", "sum", "()LOverTheHeads$Node;"⟩) ∈ lw_all := lw_g (lw_at lw_ms 9 rfl) rfl
theorem qs10 : (Cond.selects "OverTheHeads$Reader" ⟨"OverTheHeads$Reader", "term", "()LOverTheHeads$Node;"⟩ ⟨"OverTheHeads$Reader", "term", "()LOverTheHeads$Node;"⟩) ∈ lw_all := lw_g (lw_at lw_ms 10 rfl) rfl
theorem qs11 : (Cond.selects "OverTheHeads$Reader" ⟨"OverTheHeads$Reader", "one", "()LOverTheHeads$Node;"⟩ ⟨"OverTheHeads$Reader", "one", "()LOverTheHeads$Node;"⟩) ∈ lw_all := lw_g (lw_at lw_ms 11 rfl) rfl
theorem qs12 : (Cond.selects "OverTheHeads$Reader" ⟨"OverTheHeads$Reader", "takes", "(I)Z"⟩ ⟨"OverTheHeads$Reader", "takes", "(I)Z"⟩) ∈ lw_all := lw_g (lw_at lw_ms 12 rfl) rfl
theorem qs13 : (Cond.selects "OverTheHeads" ⟨"OverTheHeads", "made", "(IIII)LOverTheHeads$Row;"⟩ ⟨"OverTheHeads", "made", "(IIII)LOverTheHeads$Row;"⟩) ∈ lw_all := lw_g (lw_at lw_ms 13 rfl) rfl
theorem qs14 : (Cond.selects "java/util/ArrayList" ⟨"java/util/ArrayList", "add", "(Ljava/lang/Object;[Ljava/lang/Object;I)V"⟩ ⟨"java/util/ArrayList", "add", "(Ljava/lang/Object;[Ljava/lang/Object;I)V"⟩) ∈ lw_all := lw_g (lw_at lw_ms 14 rfl) rfl
theorem qs15 : (Cond.selects "java/util/ArrayList" ⟨"java/util/ArrayList", "grow", "()[Ljava/lang/Object;"⟩ ⟨"java/util/ArrayList", "grow", "()[Ljava/lang/Object;"⟩) ∈ lw_all := lw_g (lw_at lw_ms 15 rfl) rfl
theorem qs16 : (Cond.selects "java/util/ArrayList" ⟨"java/util/ArrayList", "grow", "(I)[Ljava/lang/Object;"⟩ ⟨"java/util/ArrayList", "grow", "(I)[Ljava/lang/Object;"⟩) ∈ lw_all := lw_g (lw_at lw_ms 16 rfl) rfl
theorem qs17 : (Cond.selects "OverTheHeads" ⟨"OverTheHeads", "isRow", "(I)Z"⟩ ⟨"OverTheHeads", "isRow", "(I)Z"⟩) ∈ lw_all := lw_g (lw_at lw_ms 17 rfl) rfl
theorem qs18 : (Cond.selects "OverTheHeads" ⟨"OverTheHeads", "isSeat", "(II)Z"⟩ ⟨"OverTheHeads", "isSeat", "(II)Z"⟩) ∈ lw_all := lw_g (lw_at lw_ms 18 rfl) rfl
theorem qs19 : (Cond.selects "OverTheHeads" ⟨"OverTheHeads", "isPoint", "(I)Z"⟩ ⟨"OverTheHeads", "isPoint", "(I)Z"⟩) ∈ lw_all := lw_g (lw_at lw_ms 19 rfl) rfl
theorem qs20 : (Cond.selects "OverTheHeads" ⟨"OverTheHeads", "hider", "(LOverTheHeads$Row;II)I"⟩ ⟨"OverTheHeads", "hider", "(LOverTheHeads$Row;II)I"⟩) ∈ lw_all := lw_g (lw_at lw_ms 20 rfl) rfl
theorem qs21 : (Cond.selects "OverTheHeads" ⟨"OverTheHeads", "isAhead", "(LOverTheHeads$Row;LOverTheHeads$Row;)Z"⟩ ⟨"OverTheHeads", "isAhead", "(LOverTheHeads$Row;LOverTheHeads$Row;)Z"⟩) ∈ lw_all := lw_g (lw_at lw_ms 21 rfl) rfl
theorem qs22 : (Cond.selects "OverTheHeads" ⟨"OverTheHeads", "isBy", "(LOverTheHeads$Row;IIII)Z"⟩ ⟨"OverTheHeads", "isBy", "(LOverTheHeads$Row;IIII)Z"⟩) ∈ lw_all := lw_g (lw_at lw_ms 22 rfl) rfl
theorem qs23 : (Cond.selects "OverTheHeads" ⟨"OverTheHeads", "hides", "(LOverTheHeads$Row;IILOverTheHeads$Row;I)Z"⟩ ⟨"OverTheHeads", "hides", "(LOverTheHeads$Row;IILOverTheHeads$Row;I)Z"⟩) ∈ lw_all := lw_g (lw_at lw_ms 23 rfl) rfl
theorem qs24 : (Cond.selects "OverTheHeads" ⟨"OverTheHeads", "isPosted", "(LOverTheHeads$Row;III)Z"⟩ ⟨"OverTheHeads", "isPosted", "(LOverTheHeads$Row;III)Z"⟩) ∈ lw_all := lw_g (lw_at lw_ms 24 rfl) rfl
theorem qs25 : (Cond.selects "OverTheHeads" ⟨"OverTheHeads", "seenBy", "(LOverTheHeads$Row;I)I"⟩ ⟨"OverTheHeads", "seenBy", "(LOverTheHeads$Row;I)I"⟩) ∈ lw_all := lw_g (lw_at lw_ms 25 rfl) rfl
theorem qs26 : (Cond.selects "OverTheHeads" ⟨"OverTheHeads", "worthOf", "(LOverTheHeads$Row;I)I"⟩ ⟨"OverTheHeads", "worthOf", "(LOverTheHeads$Row;I)I"⟩) ∈ lw_all := lw_g (lw_at lw_ms 26 rfl) rfl
theorem qs27 : (Cond.selects "OverTheHeads" ⟨"OverTheHeads", "likes", "(LOverTheHeads$Row;II)I"⟩ ⟨"OverTheHeads", "likes", "(LOverTheHeads$Row;II)I"⟩) ∈ lw_all := lw_g (lw_at lw_ms 27 rfl) rfl
theorem qs28 : (Cond.selects "OverTheHeads" ⟨"OverTheHeads", "says", "(IIIIIII)I"⟩ ⟨"OverTheHeads", "says", "(IIIIIII)I"⟩) ∈ lw_all := lw_g (lw_at lw_ms 28 rfl) rfl
theorem qs29 : (Cond.selects "OverTheHeads" ⟨"OverTheHeads", "costs", "()I"⟩ ⟨"OverTheHeads", "costs", "()I"⟩) ∈ lw_all := lw_g (lw_at lw_ms 29 rfl) rfl
theorem qs30 : (Cond.selects "OverTheHeads" ⟨"OverTheHeads", "stepCost", "(I)I"⟩ ⟨"OverTheHeads", "stepCost", "(I)I"⟩) ∈ lw_all := lw_g (lw_at lw_ms 30 rfl) rfl
theorem qs31 : (Cond.selects "OverTheHeads" ⟨"OverTheHeads", "keepsRises", "()V"⟩ ⟨"OverTheHeads", "keepsRises", "()V"⟩) ∈ lw_all := lw_g (lw_at lw_ms 31 rfl) rfl
theorem qs32 : (Cond.selects "OverTheHeads" ⟨"OverTheHeads", "seesAll", "(I)Z"⟩ ⟨"OverTheHeads", "seesAll", "(I)Z"⟩) ∈ lw_all := lw_g (lw_at lw_ms 32 rfl) rfl
theorem qs33 : (Cond.selects "OverTheHeads" ⟨"OverTheHeads", "laysRises", "()V"⟩ ⟨"OverTheHeads", "laysRises", "()V"⟩) ∈ lw_all := lw_g (lw_at lw_ms 33 rfl) rfl
theorem qs34 : (Cond.selects "OverTheHeads" ⟨"OverTheHeads", "weights", "()J"⟩ ⟨"OverTheHeads", "weights", "()J"⟩) ∈ lw_all := lw_g (lw_at lw_ms 34 rfl) rfl
theorem qs35 : (Cond.selects "OverTheHeads" ⟨"OverTheHeads", "chances", "(LOverTheHeads$Row;II)V"⟩ ⟨"OverTheHeads", "chances", "(LOverTheHeads$Row;II)V"⟩) ∈ lw_all := lw_g (lw_at lw_ms 35 rfl) rfl
theorem qs36 : (Cond.selects "OverTheHeads" ⟨"OverTheHeads", "keepsSits", "()V"⟩ ⟨"OverTheHeads", "keepsSits", "()V"⟩) ∈ lw_all := lw_g (lw_at lw_ms 36 rfl) rfl
theorem qs37 : (Cond.selects "OverTheHeads" ⟨"OverTheHeads", "allWorth", "()I"⟩ ⟨"OverTheHeads", "allWorth", "()I"⟩) ∈ lw_all := lw_g (lw_at lw_ms 37 rfl) rfl
theorem qs38 : (Cond.selects "OverTheHeads" ⟨"OverTheHeads", "rowWorth", "(LOverTheHeads$Row;)I"⟩ ⟨"OverTheHeads", "rowWorth", "(LOverTheHeads$Row;)I"⟩) ∈ lw_all := lw_g (lw_at lw_ms 38 rfl) rfl
theorem qs39 : (Cond.selects "OverTheHeads" ⟨"OverTheHeads", "laysSits", "()V"⟩ ⟨"OverTheHeads", "laysSits", "()V"⟩) ∈ lw_all := lw_g (lw_at lw_ms 39 rfl) rfl
theorem qs40 : (Cond.selects "OverTheHeads" ⟨"OverTheHeads", "leastFloor", "(II)I"⟩ ⟨"OverTheHeads", "leastFloor", "(II)I"⟩) ∈ lw_all := lw_g (lw_at lw_ms 40 rfl) rfl
theorem qs41 : (Cond.selects "OverTheHeads" ⟨"OverTheHeads", "keeps", "(I)V"⟩ ⟨"OverTheHeads", "keeps", "(I)V"⟩) ∈ lw_all := lw_g (lw_at lw_ms 41 rfl) rfl
theorem qs42 : (Cond.selects "OverTheHeads" ⟨"OverTheHeads", "changes", "(LOverTheHeads$Row;ILOverTheHeads$Row;I)V"⟩ ⟨"OverTheHeads", "changes", "(LOverTheHeads$Row;ILOverTheHeads$Row;I)V"⟩) ∈ lw_all := lw_g (lw_at lw_ms 42 rfl) rfl
theorem qs43 : (Cond.selects "OverTheHeads" ⟨"OverTheHeads", "seeks", "(I)V"⟩ ⟨"OverTheHeads", "seeks", "(I)V"⟩) ∈ lw_all := lw_g (lw_at lw_ms 43 rfl) rfl
theorem qs44 : (Cond.selects "OverTheHeads" ⟨"OverTheHeads", "buyers", "(I)I"⟩ ⟨"OverTheHeads", "buyers", "(I)I"⟩) ∈ lw_all := lw_g (lw_at lw_ms 44 rfl) rfl
theorem qs45 : (Cond.selects "OverTheHeads" ⟨"OverTheHeads", "there", "(I)LOverTheHeads$Sheet;"⟩ ⟨"OverTheHeads", "there", "(I)LOverTheHeads$Sheet;"⟩) ∈ lw_all := lw_g (lw_at lw_ms 45 rfl) rfl
theorem qs46 : (Cond.selects "OverTheHeadsModel" ⟨"OverTheHeadsModel", "first", "(IIIII)V"⟩ ⟨"OverTheHeadsModel", "first", "(IIIII)V"⟩) ∈ lw_all := lw_g (lw_at lw_ms 46 rfl) rfl
theorem qs47 : (Cond.selects "OverTheHeadsModel" ⟨"OverTheHeadsModel", "isRow", "(I)Z"⟩ ⟨"OverTheHeadsModel", "isRow", "(I)Z"⟩) ∈ lw_all := lw_g (lw_at lw_ms 47 rfl) rfl
theorem qs48 : (Cond.selects "OverTheHeadsModel" ⟨"OverTheHeadsModel", "isSeat", "(II)Z"⟩ ⟨"OverTheHeadsModel", "isSeat", "(II)Z"⟩) ∈ lw_all := lw_g (lw_at lw_ms 48 rfl) rfl
theorem qs49 : (Cond.selects "OverTheHeadsModel" ⟨"OverTheHeadsModel", "placeOf", "(II)I"⟩ ⟨"OverTheHeadsModel", "placeOf", "(II)I"⟩) ∈ lw_all := lw_g (lw_at lw_ms 49 rfl) rfl
theorem qs50 : (Cond.selects "OverTheHeadsModel" ⟨"OverTheHeadsModel", "floorOf", "(I)I"⟩ ⟨"OverTheHeadsModel", "floorOf", "(I)I"⟩) ∈ lw_all := lw_g (lw_at lw_ms 50 rfl) rfl
theorem qs51 : (Cond.selects "OverTheHeadsModel" ⟨"OverTheHeadsModel", "farOf", "(I)I"⟩ ⟨"OverTheHeadsModel", "farOf", "(I)I"⟩) ∈ lw_all := lw_g (lw_at lw_ms 51 rfl) rfl
theorem qs52 : (Cond.selects "OverTheHeadsModel" ⟨"OverTheHeadsModel", "eyesOf", "(II)I"⟩ ⟨"OverTheHeadsModel", "eyesOf", "(II)I"⟩) ∈ lw_all := lw_g (lw_at lw_ms 52 rfl) rfl
theorem qs53 : (Cond.selects "OverTheHeadsModel" ⟨"OverTheHeadsModel", "above", "(II)I"⟩ ⟨"OverTheHeadsModel", "above", "(II)I"⟩) ∈ lw_all := lw_g (lw_at lw_ms 53 rfl) rfl
theorem qs54 : (Cond.selects "OverTheHeadsModel" ⟨"OverTheHeadsModel", "topOf", "(II)I"⟩ ⟨"OverTheHeadsModel", "topOf", "(II)I"⟩) ∈ lw_all := lw_g (lw_at lw_ms 54 rfl) rfl
theorem qs55 : (Cond.selects "OverTheHeadsModel" ⟨"OverTheHeadsModel", "isAmong", "(I)Z"⟩ ⟨"OverTheHeadsModel", "isAmong", "(I)Z"⟩) ∈ lw_all := lw_g (lw_at lw_ms 55 rfl) rfl
theorem qs56 : (Cond.selects "OverTheHeadsModel" ⟨"OverTheHeadsModel", "next", "()V"⟩ ⟨"OverTheHeadsModel", "next", "()V"⟩) ∈ lw_all := lw_g (lw_at lw_ms 56 rfl) rfl
theorem qs57 : (Cond.selects "OverTheHeadsModel" ⟨"OverTheHeadsModel", "letters", "()J"⟩ ⟨"OverTheHeadsModel", "letters", "()J"⟩) ∈ lw_all := lw_g (lw_at lw_ms 57 rfl) rfl
theorem qs58 : (Cond.selects "OverTheHeadsModel" ⟨"OverTheHeadsModel", "eRead", "()Z"⟩ ⟨"OverTheHeadsModel", "eRead", "()Z"⟩) ∈ lw_all := lw_g (lw_at lw_ms 58 rfl) rfl
theorem qs59 : (Cond.selects "OverTheHeadsModel" ⟨"OverTheHeadsModel", "puts", "(I)V"⟩ ⟨"OverTheHeadsModel", "puts", "(I)V"⟩) ∈ lw_all := lw_g (lw_at lw_ms 59 rfl) rfl
theorem qs60 : (Cond.selects "OverTheHeadsModel" ⟨"OverTheHeadsModel", "unwinds", "(I)V"⟩ ⟨"OverTheHeadsModel", "unwinds", "(I)V"⟩) ∈ lw_all := lw_g (lw_at lw_ms 60 rfl) rfl
theorem qs61 : (Cond.selects "OverTheHeadsModel" ⟨"OverTheHeadsModel", "opensOne", "(I)Z"⟩ ⟨"OverTheHeadsModel", "opensOne", "(I)Z"⟩) ∈ lw_all := lw_g (lw_at lw_ms 61 rfl) rfl
theorem qs62 : (Cond.selects "OverTheHeadsModel" ⟨"OverTheHeadsModel", "holds", "(I)V"⟩ ⟨"OverTheHeadsModel", "holds", "(I)V"⟩) ∈ lw_all := lw_g (lw_at lw_ms 62 rfl) rfl
theorem qs63 : (Cond.selects "OverTheHeadsModel" ⟨"OverTheHeadsModel", "signOf", "()I"⟩ ⟨"OverTheHeadsModel", "signOf", "()I"⟩) ∈ lw_all := lw_g (lw_at lw_ms 63 rfl) rfl
theorem qs64 : (Cond.selects "OverTheHeadsModel" ⟨"OverTheHeadsModel", "between", "(I)Z"⟩ ⟨"OverTheHeadsModel", "between", "(I)Z"⟩) ∈ lw_all := lw_g (lw_at lw_ms 64 rfl) rfl
theorem qs65 : (Cond.selects "OverTheHeadsModel" ⟨"OverTheHeadsModel", "hiderOf", "(III)I"⟩ ⟨"OverTheHeadsModel", "hiderOf", "(III)I"⟩) ∈ lw_all := lw_g (lw_at lw_ms 65 rfl) rfl
theorem qs66 : (Cond.selects "OverTheHeadsModel" ⟨"OverTheHeadsModel", "isNear", "(IIIII)Z"⟩ ⟨"OverTheHeadsModel", "isNear", "(IIIII)Z"⟩) ∈ lw_all := lw_g (lw_at lw_ms 66 rfl) rfl
theorem qs67 : (Cond.selects "OverTheHeadsModel" ⟨"OverTheHeadsModel", "beside", "(IIIII)I"⟩ ⟨"OverTheHeadsModel", "beside", "(IIIII)I"⟩) ∈ lw_all := lw_g (lw_at lw_ms 67 rfl) rfl
theorem qs68 : (Cond.selects "OverTheHeadsModel" ⟨"OverTheHeadsModel", "isAsHigh", "(IIIII)Z"⟩ ⟨"OverTheHeadsModel", "isAsHigh", "(IIIII)Z"⟩) ∈ lw_all := lw_g (lw_at lw_ms 68 rfl) rfl
theorem qs69 : (Cond.selects "OverTheHeadsModel" ⟨"OverTheHeadsModel", "postBefore", "(III)I"⟩ ⟨"OverTheHeadsModel", "postBefore", "(III)I"⟩) ∈ lw_all := lw_g (lw_at lw_ms 69 rfl) rfl
theorem qs70 : (Cond.selects "OverTheHeadsModel" ⟨"OverTheHeadsModel", "seesOf", "(II)I"⟩ ⟨"OverTheHeadsModel", "seesOf", "(II)I"⟩) ∈ lw_all := lw_g (lw_at lw_ms 70 rfl) rfl
theorem qs71 : (Cond.selects "OverTheHeadsModel" ⟨"OverTheHeadsModel", "worthOf", "(II)I"⟩ ⟨"OverTheHeadsModel", "worthOf", "(II)I"⟩) ∈ lw_all := lw_g (lw_at lw_ms 71 rfl) rfl
theorem qs72 : (Cond.selects "OverTheHeadsModel" ⟨"OverTheHeadsModel", "likeOf", "(III)I"⟩ ⟨"OverTheHeadsModel", "likeOf", "(III)I"⟩) ∈ lw_all := lw_g (lw_at lw_ms 72 rfl) rfl
theorem qs73 : (Cond.selects "OverTheHeadsModel" ⟨"OverTheHeadsModel", "names", "(IIIIII)V"⟩ ⟨"OverTheHeadsModel", "names", "(IIIIII)V"⟩) ∈ lw_all := lw_g (lw_at lw_ms 73 rfl) rfl
theorem qs74 : (Cond.selects "OverTheHeadsModel" ⟨"OverTheHeadsModel", "says", "(II)I"⟩ ⟨"OverTheHeadsModel", "says", "(II)I"⟩) ∈ lw_all := lw_g (lw_at lw_ms 74 rfl) rfl
theorem qs75 : (Cond.selects "OverTheHeadsModel" ⟨"OverTheHeadsModel", "priceOf", "(II)I"⟩ ⟨"OverTheHeadsModel", "priceOf", "(II)I"⟩) ∈ lw_all := lw_g (lw_at lw_ms 75 rfl) rfl
theorem qs76 : (Cond.selects "OverTheHeadsModel" ⟨"OverTheHeadsModel", "stepOf", "(I)I"⟩ ⟨"OverTheHeadsModel", "stepOf", "(I)I"⟩) ∈ lw_all := lw_g (lw_at lw_ms 76 rfl) rfl
theorem qs77 : (Cond.selects "OverTheHeadsModel" ⟨"OverTheHeadsModel", "keepsRises", "()V"⟩ ⟨"OverTheHeadsModel", "keepsRises", "()V"⟩) ∈ lw_all := lw_g (lw_at lw_ms 77 rfl) rfl
theorem qs78 : (Cond.selects "OverTheHeadsModel" ⟨"OverTheHeadsModel", "allSee", "(I)Z"⟩ ⟨"OverTheHeadsModel", "allSee", "(I)Z"⟩) ∈ lw_all := lw_g (lw_at lw_ms 78 rfl) rfl
theorem qs79 : (Cond.selects "OverTheHeadsModel" ⟨"OverTheHeadsModel", "laysRises", "()V"⟩ ⟨"OverTheHeadsModel", "laysRises", "()V"⟩) ∈ lw_all := lw_g (lw_at lw_ms 79 rfl) rfl
theorem qs80 : (Cond.selects "OverTheHeadsModel" ⟨"OverTheHeadsModel", "allCounts", "()I"⟩ ⟨"OverTheHeadsModel", "allCounts", "()I"⟩) ∈ lw_all := lw_g (lw_at lw_ms 80 rfl) rfl
theorem qs81 : (Cond.selects "OverTheHeadsModel" ⟨"OverTheHeadsModel", "cases", "(III)V"⟩ ⟨"OverTheHeadsModel", "cases", "(III)V"⟩) ∈ lw_all := lw_g (lw_at lw_ms 81 rfl) rfl
theorem qs82 : (Cond.selects "OverTheHeadsModel" ⟨"OverTheHeadsModel", "keepsSorts", "()V"⟩ ⟨"OverTheHeadsModel", "keepsSorts", "()V"⟩) ∈ lw_all := lw_g (lw_at lw_ms 82 rfl) rfl
theorem qs83 : (Cond.selects "OverTheHeadsModel" ⟨"OverTheHeadsModel", "allWorth", "()I"⟩ ⟨"OverTheHeadsModel", "allWorth", "()I"⟩) ∈ lw_all := lw_g (lw_at lw_ms 83 rfl) rfl
theorem qs84 : (Cond.selects "OverTheHeadsModel" ⟨"OverTheHeadsModel", "laysSorts", "()V"⟩ ⟨"OverTheHeadsModel", "laysSorts", "()V"⟩) ∈ lw_all := lw_g (lw_at lw_ms 84 rfl) rfl
theorem qs85 : (Cond.selects "OverTheHeadsModel" ⟨"OverTheHeadsModel", "raises", "(II)I"⟩ ⟨"OverTheHeadsModel", "raises", "(II)I"⟩) ∈ lw_all := lw_g (lw_at lw_ms 85 rfl) rfl
theorem qs86 : (Cond.selects "OverTheHeadsModel" ⟨"OverTheHeadsModel", "gainBy", "(II)I"⟩ ⟨"OverTheHeadsModel", "gainBy", "(II)I"⟩) ∈ lw_all := lw_g (lw_at lw_ms 86 rfl) rfl
theorem qs87 : (Cond.selects "OverTheHeadsModel" ⟨"OverTheHeadsModel", "changes", "(II)V"⟩ ⟨"OverTheHeadsModel", "changes", "(II)V"⟩) ∈ lw_all := lw_g (lw_at lw_ms 87 rfl) rfl
theorem qs88 : (Cond.selects "OverTheHeadsModel" ⟨"OverTheHeadsModel", "finds", "(I)V"⟩ ⟨"OverTheHeadsModel", "finds", "(I)V"⟩) ∈ lw_all := lw_g (lw_at lw_ms 88 rfl) rfl
