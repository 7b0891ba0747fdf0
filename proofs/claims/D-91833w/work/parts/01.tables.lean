-- ===== PART A: goes FIRST, ahead of the names: the tables' words, and 'selects' of the private methods out of them =====
/-- a private method of a class that the tables say can be made, by its rows of tables_1 -/
def lw_okq (q : MethodName × Nat) : Prop := (q.1.cls ≠ "java/lang/invoke/MethodHandle" ∧ q.1.cls ≠ "java/lang/invoke/VarHandle") ∧ Cond.instantiable q.1.cls q.2 ∈ tables_1 ∧ Cond.privateMethod q.1 ∈ tables_1 ∧ Cond.instanceMethod q.1 ∈ tables_1
set_option maxRecDepth 100000
theorem lw_t1 {w : Cond} (h : w ∈ tables_1_1) : w ∈ tables_1 := List.mem_append_left _ h
theorem lw_t2 {w : Cond} (h : w ∈ tables_1_2) : w ∈ tables_1 := List.mem_append_right _ (List.mem_append_left _ h)
theorem lw_t3 {w : Cond} (h : w ∈ tables_1_3) : w ∈ tables_1 := List.mem_append_right _ (List.mem_append_right _ (List.mem_append_left _ h))
theorem lw_t4 {w : Cond} (h : w ∈ tables_1_4) : w ∈ tables_1 := List.mem_append_right _ (List.mem_append_right _ (List.mem_append_right _ (List.mem_append_left _ h)))
theorem lw_t5 {w : Cond} (h : w ∈ tables_1_5) : w ∈ tables_1 := List.mem_append_right _ (List.mem_append_right _ (List.mem_append_right _ (List.mem_append_right _ (List.mem_append_left _ h))))
theorem lw_t6 {w : Cond} (h : w ∈ tables_1_6) : w ∈ tables_1 := List.mem_append_right _ (List.mem_append_right _ (List.mem_append_right _ (List.mem_append_right _ (List.mem_append_right _ (List.mem_append_left _ h)))))
theorem lw_t7 {w : Cond} (h : w ∈ tables_1_7) : w ∈ tables_1 := List.mem_append_right _ (List.mem_append_right _ (List.mem_append_right _ (List.mem_append_right _ (List.mem_append_right _ (List.mem_append_right _ (List.mem_append_left _ h))))))
theorem lw_t8 {w : Cond} (h : w ∈ tables_1_8) : w ∈ tables_1 := List.mem_append_right _ (List.mem_append_right _ (List.mem_append_right _ (List.mem_append_right _ (List.mem_append_right _ (List.mem_append_right _ (List.mem_append_right _ h))))))
theorem lw_p0 : lw_okq (⟨"java/lang/NullPointerException", "getExtendedNPEMessage", "()Ljava/lang/String;"⟩, 8) := ⟨⟨by decide +kernel, by decide +kernel⟩, lw_t1 (List.mem_of_getElem? (i := 87) rfl), lw_t1 (List.mem_of_getElem? (i := 85) rfl), lw_t1 (List.mem_of_getElem? (i := 86) rfl)⟩
theorem lw_p1 : lw_okq (⟨"java/lang/Throwable", "fillInStackTrace", "(I)Ljava/lang/Throwable;"⟩, 6) := ⟨⟨by decide +kernel, by decide +kernel⟩, lw_t1 (List.mem_of_getElem? (i := 99) rfl), lw_t1 (List.mem_of_getElem? (i := 97) rfl), lw_t1 (List.mem_of_getElem? (i := 98) rfl)⟩
theorem lw_p2 : lw_okq (⟨"NonsenseRows$Slot", "put", "(IJ)V"⟩, 1) := ⟨⟨by decide +kernel, by decide +kernel⟩, lw_t1 (List.mem_of_getElem? (i := 200) rfl), lw_t1 (List.mem_of_getElem? (i := 198) rfl), lw_t1 (List.mem_of_getElem? (i := 199) rfl)⟩
theorem lw_p3 : lw_okq (⟨"NonsenseRows$Slot", "putWider", "(IJ)V"⟩, 1) := ⟨⟨by decide +kernel, by decide +kernel⟩, lw_t1 (List.mem_of_getElem? (i := 200) rfl), lw_t1 (List.mem_of_getElem? (i := 205) rfl), lw_t1 (List.mem_of_getElem? (i := 206) rfl)⟩
theorem lw_p4 : lw_okq (⟨"NonsenseRows$Slot", "width", "()I"⟩, 1) := ⟨⟨by decide +kernel, by decide +kernel⟩, lw_t1 (List.mem_of_getElem? (i := 200) rfl), lw_t1 (List.mem_of_getElem? (i := 234) rfl), lw_t1 (List.mem_of_getElem? (i := 235) rfl)⟩
theorem lw_p5 : lw_okq (⟨"NonsenseRows", "puts", "(I)V"⟩, 11) := ⟨⟨by decide +kernel, by decide +kernel⟩, lw_t2 (List.mem_of_getElem? (i := 1) rfl), lw_t2 (List.mem_of_getElem? (i := 234) rfl), lw_t2 (List.mem_of_getElem? (i := 235) rfl)⟩
theorem lw_p6 : lw_okq (⟨"NonsenseRows$Reader", "next", "()V"⟩, 12) := ⟨⟨by decide +kernel, by decide +kernel⟩, lw_t3 (List.mem_of_getElem? (i := 7) rfl), lw_t3 (List.mem_of_getElem? (i := 73) rfl), lw_t3 (List.mem_of_getElem? (i := 74) rfl)⟩
theorem lw_p7 : lw_okq (⟨"NonsenseRows$Reader", "isAt", "(II)Z"⟩, 12) := ⟨⟨by decide +kernel, by decide +kernel⟩, lw_t3 (List.mem_of_getElem? (i := 7) rfl), lw_t3 (List.mem_of_getElem? (i := 77) rfl), lw_t3 (List.mem_of_getElem? (i := 78) rfl)⟩
theorem lw_p8 : lw_okq (⟨"NonsenseRows$Reader", "line", "()V"⟩, 12) := ⟨⟨by decide +kernel, by decide +kernel⟩, lw_t3 (List.mem_of_getElem? (i := 7) rfl), lw_t3 (List.mem_of_getElem? (i := 84) rfl), lw_t3 (List.mem_of_getElem? (i := 85) rfl)⟩
theorem lw_p9 : lw_okq (⟨"NonsenseRows$Reader", "which", "([Ljava/lang/String;)I"⟩, 12) := ⟨⟨by decide +kernel, by decide +kernel⟩, lw_t3 (List.mem_of_getElem? (i := 7) rfl), lw_t3 (List.mem_of_getElem? (i := 88) rfl), lw_t3 (List.mem_of_getElem? (i := 89) rfl)⟩
theorem lw_p10 : lw_okq (⟨"NonsenseRows$Reader", "is", "(Ljava/lang/String;)Z"⟩, 12) := ⟨⟨by decide +kernel, by decide +kernel⟩, lw_t3 (List.mem_of_getElem? (i := 7) rfl), lw_t3 (List.mem_of_getElem? (i := 92) rfl), lw_t3 (List.mem_of_getElem? (i := 93) rfl)⟩
theorem lw_p11 : lw_okq (⟨"NonsenseRows$Reader", "fails", "(I)V"⟩, 12) := ⟨⟨by decide +kernel, by decide +kernel⟩, lw_t3 (List.mem_of_getElem? (i := 7) rfl), lw_t3 (List.mem_of_getElem? (i := 156) rfl), lw_t3 (List.mem_of_getElem? (i := 157) rfl)⟩
theorem lw_p12 : lw_okq (⟨"NonsenseRows$Reader", "lawLine", "(I)V"⟩, 12) := ⟨⟨by decide +kernel, by decide +kernel⟩, lw_t3 (List.mem_of_getElem? (i := 7) rfl), lw_t3 (List.mem_of_getElem? (i := 188) rfl), lw_t3 (List.mem_of_getElem? (i := 189) rfl)⟩
theorem lw_p13 : lw_okq (⟨"NonsenseRows$Reader", "sort", "()I"⟩, 12) := ⟨⟨by decide +kernel, by decide +kernel⟩, lw_t3 (List.mem_of_getElem? (i := 7) rfl), lw_t3 (List.mem_of_getElem? (i := 192) rfl), lw_t3 (List.mem_of_getElem? (i := 193) rfl)⟩
theorem lw_p14 : lw_okq (⟨"NonsenseRows$Reader", "word", "(Ljava/lang/String;)V"⟩, 12) := ⟨⟨by decide +kernel, by decide +kernel⟩, lw_t3 (List.mem_of_getElem? (i := 7) rfl), lw_t3 (List.mem_of_getElem? (i := 197) rfl), lw_t3 (List.mem_of_getElem? (i := 198) rfl)⟩
theorem lw_p15 : lw_okq (⟨"NonsenseRows$Reader", "takes", "(Ljava/lang/String;)Z"⟩, 12) := ⟨⟨by decide +kernel, by decide +kernel⟩, lw_t3 (List.mem_of_getElem? (i := 7) rfl), lw_t3 (List.mem_of_getElem? (i := 201) rfl), lw_t3 (List.mem_of_getElem? (i := 202) rfl)⟩
def lw_privs_1 : List (MethodName × Nat) := [(⟨"java/lang/NullPointerException", "getExtendedNPEMessage", "()Ljava/lang/String;"⟩, 8), (⟨"java/lang/Throwable", "fillInStackTrace", "(I)Ljava/lang/Throwable;"⟩, 6), (⟨"NonsenseRows$Slot", "put", "(IJ)V"⟩, 1), (⟨"NonsenseRows$Slot", "putWider", "(IJ)V"⟩, 1), (⟨"NonsenseRows$Slot", "width", "()I"⟩, 1), (⟨"NonsenseRows", "puts", "(I)V"⟩, 11), (⟨"NonsenseRows$Reader", "next", "()V"⟩, 12), (⟨"NonsenseRows$Reader", "isAt", "(II)Z"⟩, 12), (⟨"NonsenseRows$Reader", "line", "()V"⟩, 12), (⟨"NonsenseRows$Reader", "which", "([Ljava/lang/String;)I"⟩, 12), (⟨"NonsenseRows$Reader", "is", "(Ljava/lang/String;)Z"⟩, 12), (⟨"NonsenseRows$Reader", "fails", "(I)V"⟩, 12), (⟨"NonsenseRows$Reader", "lawLine", "(I)V"⟩, 12), (⟨"NonsenseRows$Reader", "sort", "()I"⟩, 12), (⟨"NonsenseRows$Reader", "word", "(Ljava/lang/String;)V"⟩, 12), (⟨"NonsenseRows$Reader", "takes", "(Ljava/lang/String;)Z"⟩, 12)]
theorem lw_r1 : ∀ q ∈ lw_privs_1, lw_okq q := List.forall_mem_cons.mpr ⟨lw_p0, List.forall_mem_cons.mpr ⟨lw_p1, List.forall_mem_cons.mpr ⟨lw_p2, List.forall_mem_cons.mpr ⟨lw_p3, List.forall_mem_cons.mpr ⟨lw_p4, List.forall_mem_cons.mpr ⟨lw_p5, List.forall_mem_cons.mpr ⟨lw_p6, List.forall_mem_cons.mpr ⟨lw_p7, List.forall_mem_cons.mpr ⟨lw_p8, List.forall_mem_cons.mpr ⟨lw_p9, List.forall_mem_cons.mpr ⟨lw_p10, List.forall_mem_cons.mpr ⟨lw_p11, List.forall_mem_cons.mpr ⟨lw_p12, List.forall_mem_cons.mpr ⟨lw_p13, List.forall_mem_cons.mpr ⟨lw_p14, List.forall_mem_cons.mpr ⟨lw_p15, fun _ h => absurd h List.not_mem_nil⟩⟩⟩⟩⟩⟩⟩⟩⟩⟩⟩⟩⟩⟩⟩⟩
theorem lw_p16 : lw_okq (⟨"NonsenseRows$Reader", "sum", "()LNonsenseRows$Sum;"⟩, 12) := ⟨⟨by decide +kernel, by decide +kernel⟩, lw_t3 (List.mem_of_getElem? (i := 7) rfl), lw_t3 (List.mem_of_getElem? (i := 205) rfl), lw_t3 (List.mem_of_getElem? (i := 206) rfl)⟩
theorem lw_p17 : lw_okq (⟨"NonsenseRows$Reader", "term", "()LNonsenseRows$Sum;"⟩, 12) := ⟨⟨by decide +kernel, by decide +kernel⟩, lw_t3 (List.mem_of_getElem? (i := 7) rfl), lw_t3 (List.mem_of_getElem? (i := 209) rfl), lw_t3 (List.mem_of_getElem? (i := 210) rfl)⟩
theorem lw_p18 : lw_okq (⟨"NonsenseRows$Reader", "part", "()LNonsenseRows$Sum;"⟩, 12) := ⟨⟨by decide +kernel, by decide +kernel⟩, lw_t3 (List.mem_of_getElem? (i := 7) rfl), lw_t3 (List.mem_of_getElem? (i := 213) rfl), lw_t3 (List.mem_of_getElem? (i := 214) rfl)⟩
theorem lw_p19 : lw_okq (⟨"NonsenseRows$Reader", "number", "(II)I"⟩, 12) := ⟨⟨by decide +kernel, by decide +kernel⟩, lw_t3 (List.mem_of_getElem? (i := 7) rfl), lw_t3 (List.mem_of_getElem? (i := 219) rfl), lw_t3 (List.mem_of_getElem? (i := 220) rfl)⟩
theorem lw_p20 : lw_okq (⟨"NonsenseRows$Reader", "rowLine", "()V"⟩, 12) := ⟨⟨by decide +kernel, by decide +kernel⟩, lw_t3 (List.mem_of_getElem? (i := 7) rfl), lw_t4 (List.mem_of_getElem? (i := 46) rfl), lw_t4 (List.mem_of_getElem? (i := 47) rfl)⟩
theorem lw_p21 : lw_okq (⟨"java/util/ArrayList", "add", "(Ljava/lang/Object;[Ljava/lang/Object;I)V"⟩, 3) := ⟨⟨by decide +kernel, by decide +kernel⟩, lw_t2 (List.mem_of_getElem? (i := 63) rfl), lw_t4 (List.mem_of_getElem? (i := 63) rfl), lw_t4 (List.mem_of_getElem? (i := 64) rfl)⟩
theorem lw_p22 : lw_okq (⟨"java/util/ArrayList", "grow", "()[Ljava/lang/Object;"⟩, 3) := ⟨⟨by decide +kernel, by decide +kernel⟩, lw_t2 (List.mem_of_getElem? (i := 63) rfl), lw_t4 (List.mem_of_getElem? (i := 67) rfl), lw_t4 (List.mem_of_getElem? (i := 68) rfl)⟩
theorem lw_p23 : lw_okq (⟨"java/util/ArrayList", "grow", "(I)[Ljava/lang/Object;"⟩, 3) := ⟨⟨by decide +kernel, by decide +kernel⟩, lw_t2 (List.mem_of_getElem? (i := 63) rfl), lw_t4 (List.mem_of_getElem? (i := 71) rfl), lw_t4 (List.mem_of_getElem? (i := 72) rfl)⟩
theorem lw_p24 : lw_okq (⟨"NonsenseRows$Reader", "holdLine", "()V"⟩, 12) := ⟨⟨by decide +kernel, by decide +kernel⟩, lw_t3 (List.mem_of_getElem? (i := 7) rfl), lw_t4 (List.mem_of_getElem? (i := 123) rfl), lw_t4 (List.mem_of_getElem? (i := 124) rfl)⟩
theorem lw_p25 : lw_okq (⟨"NonsenseRows$Reader", "leanLine", "()V"⟩, 12) := ⟨⟨by decide +kernel, by decide +kernel⟩, lw_t3 (List.mem_of_getElem? (i := 7) rfl), lw_t4 (List.mem_of_getElem? (i := 128) rfl), lw_t4 (List.mem_of_getElem? (i := 129) rfl)⟩
theorem lw_p26 : lw_okq (⟨"NonsenseRows", "isRow", "(I)Z"⟩, 11) := ⟨⟨by decide +kernel, by decide +kernel⟩, lw_t2 (List.mem_of_getElem? (i := 1) rfl), lw_t4 (List.mem_of_getElem? (i := 181) rfl), lw_t4 (List.mem_of_getElem? (i := 182) rfl)⟩
theorem lw_p27 : lw_okq (⟨"NonsenseRows", "slipMany", "(I)I"⟩, 11) := ⟨⟨by decide +kernel, by decide +kernel⟩, lw_t2 (List.mem_of_getElem? (i := 1) rfl), lw_t4 (List.mem_of_getElem? (i := 186) rfl), lw_t4 (List.mem_of_getElem? (i := 187) rfl)⟩
theorem lw_p28 : lw_okq (⟨"NonsenseRows", "rowAt", "(I)[I"⟩, 11) := ⟨⟨by decide +kernel, by decide +kernel⟩, lw_t2 (List.mem_of_getElem? (i := 1) rfl), lw_t4 (List.mem_of_getElem? (i := 190) rfl), lw_t4 (List.mem_of_getElem? (i := 191) rfl)⟩
theorem lw_p29 : lw_okq (⟨"NonsenseRows$Head", "moves", "(IIII)V"⟩, 5) := ⟨⟨by decide +kernel, by decide +kernel⟩, lw_t2 (List.mem_of_getElem? (i := 91) rfl), lw_t4 (List.mem_of_getElem? (i := 215) rfl), lw_t4 (List.mem_of_getElem? (i := 216) rfl)⟩
theorem lw_p30 : lw_okq (⟨"NonsenseRows", "notes", "(IIIZZ)V"⟩, 11) := ⟨⟨by decide +kernel, by decide +kernel⟩, lw_t2 (List.mem_of_getElem? (i := 1) rfl), lw_t5 (List.mem_of_getElem? (i := 35) rfl), lw_t5 (List.mem_of_getElem? (i := 36) rfl)⟩
theorem lw_p31 : lw_okq (⟨"java/util/ArrayList", "fastRemove", "([Ljava/lang/Object;I)V"⟩, 3) := ⟨⟨by decide +kernel, by decide +kernel⟩, lw_t2 (List.mem_of_getElem? (i := 63) rfl), lw_t5 (List.mem_of_getElem? (i := 48) rfl), lw_t5 (List.mem_of_getElem? (i := 49) rfl)⟩
def lw_privs_2 : List (MethodName × Nat) := [(⟨"NonsenseRows$Reader", "sum", "()LNonsenseRows$Sum;"⟩, 12), (⟨"NonsenseRows$Reader", "term", "()LNonsenseRows$Sum;"⟩, 12), (⟨"NonsenseRows$Reader", "part", "()LNonsenseRows$Sum;"⟩, 12), (⟨"NonsenseRows$Reader", "number", "(II)I"⟩, 12), (⟨"NonsenseRows$Reader", "rowLine", "()V"⟩, 12), (⟨"java/util/ArrayList", "add", "(Ljava/lang/Object;[Ljava/lang/Object;I)V"⟩, 3), (⟨"java/util/ArrayList", "grow", "()[Ljava/lang/Object;"⟩, 3), (⟨"java/util/ArrayList", "grow", "(I)[Ljava/lang/Object;"⟩, 3), (⟨"NonsenseRows$Reader", "holdLine", "()V"⟩, 12), (⟨"NonsenseRows$Reader", "leanLine", "()V"⟩, 12), (⟨"NonsenseRows", "isRow", "(I)Z"⟩, 11), (⟨"NonsenseRows", "slipMany", "(I)I"⟩, 11), (⟨"NonsenseRows", "rowAt", "(I)[I"⟩, 11), (⟨"NonsenseRows$Head", "moves", "(IIII)V"⟩, 5), (⟨"NonsenseRows", "notes", "(IIIZZ)V"⟩, 11), (⟨"java/util/ArrayList", "fastRemove", "([Ljava/lang/Object;I)V"⟩, 3)]
theorem lw_r2 : ∀ q ∈ lw_privs_2, lw_okq q := List.forall_mem_cons.mpr ⟨lw_p16, List.forall_mem_cons.mpr ⟨lw_p17, List.forall_mem_cons.mpr ⟨lw_p18, List.forall_mem_cons.mpr ⟨lw_p19, List.forall_mem_cons.mpr ⟨lw_p20, List.forall_mem_cons.mpr ⟨lw_p21, List.forall_mem_cons.mpr ⟨lw_p22, List.forall_mem_cons.mpr ⟨lw_p23, List.forall_mem_cons.mpr ⟨lw_p24, List.forall_mem_cons.mpr ⟨lw_p25, List.forall_mem_cons.mpr ⟨lw_p26, List.forall_mem_cons.mpr ⟨lw_p27, List.forall_mem_cons.mpr ⟨lw_p28, List.forall_mem_cons.mpr ⟨lw_p29, List.forall_mem_cons.mpr ⟨lw_p30, List.forall_mem_cons.mpr ⟨lw_p31, fun _ h => absurd h List.not_mem_nil⟩⟩⟩⟩⟩⟩⟩⟩⟩⟩⟩⟩⟩⟩⟩⟩
theorem lw_p32 : lw_okq (⟨"NonsenseRows", "isThing", "(I)Z"⟩, 11) := ⟨⟨by decide +kernel, by decide +kernel⟩, lw_t2 (List.mem_of_getElem? (i := 1) rfl), lw_t5 (List.mem_of_getElem? (i := 119) rfl), lw_t5 (List.mem_of_getElem? (i := 120) rfl)⟩
theorem lw_p33 : lw_okq (⟨"NonsenseRows", "needsOf", "(II)I"⟩, 11) := ⟨⟨by decide +kernel, by decide +kernel⟩, lw_t2 (List.mem_of_getElem? (i := 1) rfl), lw_t5 (List.mem_of_getElem? (i := 158) rfl), lw_t5 (List.mem_of_getElem? (i := 159) rfl)⟩
theorem lw_p34 : lw_okq (⟨"NonsenseRows", "onPaper", "()LNonsenseRows$Head;"⟩, 11) := ⟨⟨by decide +kernel, by decide +kernel⟩, lw_t2 (List.mem_of_getElem? (i := 1) rfl), lw_t5 (List.mem_of_getElem? (i := 162) rfl), lw_t5 (List.mem_of_getElem? (i := 163) rfl)⟩
theorem lw_p35 : lw_okq (⟨"NonsenseRows", "freshOf", "(II)I"⟩, 11) := ⟨⟨by decide +kernel, by decide +kernel⟩, lw_t2 (List.mem_of_getElem? (i := 1) rfl), lw_t5 (List.mem_of_getElem? (i := 175) rfl), lw_t5 (List.mem_of_getElem? (i := 176) rfl)⟩
theorem lw_p36 : lw_okq (⟨"NonsenseRows", "replays", "()Z"⟩, 11) := ⟨⟨by decide +kernel, by decide +kernel⟩, lw_t2 (List.mem_of_getElem? (i := 1) rfl), lw_t5 (List.mem_of_getElem? (i := 238) rfl), lw_t5 (List.mem_of_getElem? (i := 239) rfl)⟩
theorem lw_p37 : lw_okq (⟨"NonsenseRows", "isSpread", "(III)Z"⟩, 11) := ⟨⟨by decide +kernel, by decide +kernel⟩, lw_t2 (List.mem_of_getElem? (i := 1) rfl), lw_t6 (List.mem_of_getElem? (i := 22) rfl), lw_t6 (List.mem_of_getElem? (i := 23) rfl)⟩
theorem lw_p38 : lw_okq (⟨"NonsenseRows", "spreads", "(III)V"⟩, 11) := ⟨⟨by decide +kernel, by decide +kernel⟩, lw_t2 (List.mem_of_getElem? (i := 1) rfl), lw_t6 (List.mem_of_getElem? (i := 28) rfl), lw_t6 (List.mem_of_getElem? (i := 29) rfl)⟩
theorem lw_p39 : lw_okq (⟨"NonsenseRows", "plans", "(IIII)V"⟩, 11) := ⟨⟨by decide +kernel, by decide +kernel⟩, lw_t2 (List.mem_of_getElem? (i := 1) rfl), lw_t6 (List.mem_of_getElem? (i := 32) rfl), lw_t6 (List.mem_of_getElem? (i := 33) rfl)⟩
theorem lw_p40 : lw_okq (⟨"NonsenseRows", "leavesBy", "(II)I"⟩, 11) := ⟨⟨by decide +kernel, by decide +kernel⟩, lw_t2 (List.mem_of_getElem? (i := 1) rfl), lw_t6 (List.mem_of_getElem? (i := 36) rfl), lw_t6 (List.mem_of_getElem? (i := 37) rfl)⟩
theorem lw_p41 : lw_okq (⟨"NonsenseRows", "adds", "([I)I"⟩, 11) := ⟨⟨by decide +kernel, by decide +kernel⟩, lw_t2 (List.mem_of_getElem? (i := 1) rfl), lw_t6 (List.mem_of_getElem? (i := 52) rfl), lw_t6 (List.mem_of_getElem? (i := 53) rfl)⟩
theorem lw_p42 : lw_okq (⟨"NonsenseRowsModel", "takeImage", "(I)V"⟩, 38) := ⟨⟨by decide +kernel, by decide +kernel⟩, lw_t6 (List.mem_of_getElem? (i := 107) rfl), lw_t6 (List.mem_of_getElem? (i := 239) rfl), lw_t7 (List.mem_of_getElem? (i := 0) rfl)⟩
theorem lw_p43 : lw_okq (⟨"NonsenseRowsModel", "advance", "()V"⟩, 38) := ⟨⟨by decide +kernel, by decide +kernel⟩, lw_t6 (List.mem_of_getElem? (i := 107) rfl), lw_t7 (List.mem_of_getElem? (i := 19) rfl), lw_t7 (List.mem_of_getElem? (i := 20) rfl)⟩
theorem lw_p44 : lw_okq (⟨"NonsenseRowsModel", "see", "(I)I"⟩, 38) := ⟨⟨by decide +kernel, by decide +kernel⟩, lw_t6 (List.mem_of_getElem? (i := 107) rfl), lw_t7 (List.mem_of_getElem? (i := 23) rfl), lw_t7 (List.mem_of_getElem? (i := 24) rfl)⟩
theorem lw_p45 : lw_okq (⟨"NonsenseRowsModel", "good", "()Z"⟩, 38) := ⟨⟨by decide +kernel, by decide +kernel⟩, lw_t6 (List.mem_of_getElem? (i := 107) rfl), lw_t7 (List.mem_of_getElem? (i := 33) rfl), lw_t7 (List.mem_of_getElem? (i := 34) rfl)⟩
theorem lw_p46 : lw_okq (⟨"NonsenseRowsModel", "readLine", "()V"⟩, 38) := ⟨⟨by decide +kernel, by decide +kernel⟩, lw_t6 (List.mem_of_getElem? (i := 107) rfl), lw_t7 (List.mem_of_getElem? (i := 37) rfl), lw_t7 (List.mem_of_getElem? (i := 38) rfl)⟩
theorem lw_p47 : lw_okq (⟨"NonsenseRowsModel", "is", "(Ljava/lang/String;)Z"⟩, 38) := ⟨⟨by decide +kernel, by decide +kernel⟩, lw_t6 (List.mem_of_getElem? (i := 107) rfl), lw_t7 (List.mem_of_getElem? (i := 42) rfl), lw_t7 (List.mem_of_getElem? (i := 43) rfl)⟩
def lw_privs_3 : List (MethodName × Nat) := [(⟨"NonsenseRows", "isThing", "(I)Z"⟩, 11), (⟨"NonsenseRows", "needsOf", "(II)I"⟩, 11), (⟨"NonsenseRows", "onPaper", "()LNonsenseRows$Head;"⟩, 11), (⟨"NonsenseRows", "freshOf", "(II)I"⟩, 11), (⟨"NonsenseRows", "replays", "()Z"⟩, 11), (⟨"NonsenseRows", "isSpread", "(III)Z"⟩, 11), (⟨"NonsenseRows", "spreads", "(III)V"⟩, 11), (⟨"NonsenseRows", "plans", "(IIII)V"⟩, 11), (⟨"NonsenseRows", "leavesBy", "(II)I"⟩, 11), (⟨"NonsenseRows", "adds", "([I)I"⟩, 11), (⟨"NonsenseRowsModel", "takeImage", "(I)V"⟩, 38), (⟨"NonsenseRowsModel", "advance", "()V"⟩, 38), (⟨"NonsenseRowsModel", "see", "(I)I"⟩, 38), (⟨"NonsenseRowsModel", "good", "()Z"⟩, 38), (⟨"NonsenseRowsModel", "readLine", "()V"⟩, 38), (⟨"NonsenseRowsModel", "is", "(Ljava/lang/String;)Z"⟩, 38)]
theorem lw_r3 : ∀ q ∈ lw_privs_3, lw_okq q := List.forall_mem_cons.mpr ⟨lw_p32, List.forall_mem_cons.mpr ⟨lw_p33, List.forall_mem_cons.mpr ⟨lw_p34, List.forall_mem_cons.mpr ⟨lw_p35, List.forall_mem_cons.mpr ⟨lw_p36, List.forall_mem_cons.mpr ⟨lw_p37, List.forall_mem_cons.mpr ⟨lw_p38, List.forall_mem_cons.mpr ⟨lw_p39, List.forall_mem_cons.mpr ⟨lw_p40, List.forall_mem_cons.mpr ⟨lw_p41, List.forall_mem_cons.mpr ⟨lw_p42, List.forall_mem_cons.mpr ⟨lw_p43, List.forall_mem_cons.mpr ⟨lw_p44, List.forall_mem_cons.mpr ⟨lw_p45, List.forall_mem_cons.mpr ⟨lw_p46, List.forall_mem_cons.mpr ⟨lw_p47, fun _ h => absurd h List.not_mem_nil⟩⟩⟩⟩⟩⟩⟩⟩⟩⟩⟩⟩⟩⟩⟩⟩
theorem lw_p48 : lw_okq (⟨"NonsenseRowsModel", "errs", "(I)V"⟩, 38) := ⟨⟨by decide +kernel, by decide +kernel⟩, lw_t6 (List.mem_of_getElem? (i := 107) rfl), lw_t7 (List.mem_of_getElem? (i := 54) rfl), lw_t7 (List.mem_of_getElem? (i := 55) rfl)⟩
theorem lw_p49 : lw_okq (⟨"NonsenseRowsModel", "takes", "(Ljava/lang/String;)Z"⟩, 38) := ⟨⟨by decide +kernel, by decide +kernel⟩, lw_t6 (List.mem_of_getElem? (i := 107) rfl), lw_t7 (List.mem_of_getElem? (i := 58) rfl), lw_t7 (List.mem_of_getElem? (i := 59) rfl)⟩
theorem lw_p50 : lw_okq (⟨"NonsenseRowsModel", "needsWord", "(Ljava/lang/String;)V"⟩, 38) := ⟨⟨by decide +kernel, by decide +kernel⟩, lw_t6 (List.mem_of_getElem? (i := 107) rfl), lw_t7 (List.mem_of_getElem? (i := 63) rfl), lw_t7 (List.mem_of_getElem? (i := 64) rfl)⟩
theorem lw_p51 : lw_okq (⟨"NonsenseRowsModel", "number", "(II)I"⟩, 38) := ⟨⟨by decide +kernel, by decide +kernel⟩, lw_t6 (List.mem_of_getElem? (i := 107) rfl), lw_t7 (List.mem_of_getElem? (i := 67) rfl), lw_t7 (List.mem_of_getElem? (i := 68) rfl)⟩
theorem lw_p52 : lw_okq (⟨"NonsenseRowsModel", "readRow", "()V"⟩, 38) := ⟨⟨by decide +kernel, by decide +kernel⟩, lw_t6 (List.mem_of_getElem? (i := 107) rfl), lw_t7 (List.mem_of_getElem? (i := 71) rfl), lw_t7 (List.mem_of_getElem? (i := 72) rfl)⟩
theorem lw_p53 : lw_okq (⟨"NonsenseRowsModel", "sortHere", "()I"⟩, 38) := ⟨⟨by decide +kernel, by decide +kernel⟩, lw_t6 (List.mem_of_getElem? (i := 107) rfl), lw_t7 (List.mem_of_getElem? (i := 75) rfl), lw_t7 (List.mem_of_getElem? (i := 76) rfl)⟩
theorem lw_p54 : lw_okq (⟨"NonsenseRowsModel", "readLaw", "(I)V"⟩, 38) := ⟨⟨by decide +kernel, by decide +kernel⟩, lw_t6 (List.mem_of_getElem? (i := 107) rfl), lw_t7 (List.mem_of_getElem? (i := 83) rfl), lw_t7 (List.mem_of_getElem? (i := 84) rfl)⟩
theorem lw_p55 : lw_okq (⟨"NonsenseRowsModel", "readPart", "(I)V"⟩, 38) := ⟨⟨by decide +kernel, by decide +kernel⟩, lw_t6 (List.mem_of_getElem? (i := 107) rfl), lw_t7 (List.mem_of_getElem? (i := 88) rfl), lw_t7 (List.mem_of_getElem? (i := 89) rfl)⟩
theorem lw_p56 : lw_okq (⟨"NonsenseRowsModel", "clearHead", "()V"⟩, 38) := ⟨⟨by decide +kernel, by decide +kernel⟩, lw_t6 (List.mem_of_getElem? (i := 107) rfl), lw_t7 (List.mem_of_getElem? (i := 100) rfl), lw_t7 (List.mem_of_getElem? (i := 101) rfl)⟩
theorem lw_p57 : lw_okq (⟨"NonsenseRowsModel", "isThing", "(I)Z"⟩, 38) := ⟨⟨by decide +kernel, by decide +kernel⟩, lw_t6 (List.mem_of_getElem? (i := 107) rfl), lw_t7 (List.mem_of_getElem? (i := 110) rfl), lw_t7 (List.mem_of_getElem? (i := 111) rfl)⟩
theorem lw_p58 : lw_okq (⟨"NonsenseRowsModel", "comesTo", "(III)J"⟩, 38) := ⟨⟨by decide +kernel, by decide +kernel⟩, lw_t6 (List.mem_of_getElem? (i := 107) rfl), lw_t7 (List.mem_of_getElem? (i := 115) rfl), lw_t7 (List.mem_of_getElem? (i := 116) rfl)⟩
theorem lw_p59 : lw_okq (⟨"NonsenseRowsModel", "partOf", "(III)J"⟩, 38) := ⟨⟨by decide +kernel, by decide +kernel⟩, lw_t6 (List.mem_of_getElem? (i := 107) rfl), lw_t7 (List.mem_of_getElem? (i := 119) rfl), lw_t7 (List.mem_of_getElem? (i := 120) rfl)⟩
theorem lw_p60 : lw_okq (⟨"NonsenseRowsModel", "isRow", "(I)Z"⟩, 38) := ⟨⟨by decide +kernel, by decide +kernel⟩, lw_t6 (List.mem_of_getElem? (i := 107) rfl), lw_t7 (List.mem_of_getElem? (i := 129) rfl), lw_t7 (List.mem_of_getElem? (i := 130) rfl)⟩
theorem lw_p61 : lw_okq (⟨"NonsenseRowsModel", "slipsOf", "(I)I"⟩, 38) := ⟨⟨by decide +kernel, by decide +kernel⟩, lw_t6 (List.mem_of_getElem? (i := 107) rfl), lw_t7 (List.mem_of_getElem? (i := 134) rfl), lw_t7 (List.mem_of_getElem? (i := 135) rfl)⟩
theorem lw_p62 : lw_okq (⟨"NonsenseRowsModel", "manyOf", "(I)I"⟩, 38) := ⟨⟨by decide +kernel, by decide +kernel⟩, lw_t6 (List.mem_of_getElem? (i := 107) rfl), lw_t7 (List.mem_of_getElem? (i := 138) rfl), lw_t7 (List.mem_of_getElem? (i := 139) rfl)⟩
theorem lw_p63 : lw_okq (⟨"NonsenseRowsModel", "supportOf", "(II)I"⟩, 38) := ⟨⟨by decide +kernel, by decide +kernel⟩, lw_t6 (List.mem_of_getElem? (i := 107) rfl), lw_t7 (List.mem_of_getElem? (i := 142) rfl), lw_t7 (List.mem_of_getElem? (i := 143) rfl)⟩
def lw_privs_4 : List (MethodName × Nat) := [(⟨"NonsenseRowsModel", "errs", "(I)V"⟩, 38), (⟨"NonsenseRowsModel", "takes", "(Ljava/lang/String;)Z"⟩, 38), (⟨"NonsenseRowsModel", "needsWord", "(Ljava/lang/String;)V"⟩, 38), (⟨"NonsenseRowsModel", "number", "(II)I"⟩, 38), (⟨"NonsenseRowsModel", "readRow", "()V"⟩, 38), (⟨"NonsenseRowsModel", "sortHere", "()I"⟩, 38), (⟨"NonsenseRowsModel", "readLaw", "(I)V"⟩, 38), (⟨"NonsenseRowsModel", "readPart", "(I)V"⟩, 38), (⟨"NonsenseRowsModel", "clearHead", "()V"⟩, 38), (⟨"NonsenseRowsModel", "isThing", "(I)Z"⟩, 38), (⟨"NonsenseRowsModel", "comesTo", "(III)J"⟩, 38), (⟨"NonsenseRowsModel", "partOf", "(III)J"⟩, 38), (⟨"NonsenseRowsModel", "isRow", "(I)Z"⟩, 38), (⟨"NonsenseRowsModel", "slipsOf", "(I)I"⟩, 38), (⟨"NonsenseRowsModel", "manyOf", "(I)I"⟩, 38), (⟨"NonsenseRowsModel", "supportOf", "(II)I"⟩, 38)]
theorem lw_r4 : ∀ q ∈ lw_privs_4, lw_okq q := List.forall_mem_cons.mpr ⟨lw_p48, List.forall_mem_cons.mpr ⟨lw_p49, List.forall_mem_cons.mpr ⟨lw_p50, List.forall_mem_cons.mpr ⟨lw_p51, List.forall_mem_cons.mpr ⟨lw_p52, List.forall_mem_cons.mpr ⟨lw_p53, List.forall_mem_cons.mpr ⟨lw_p54, List.forall_mem_cons.mpr ⟨lw_p55, List.forall_mem_cons.mpr ⟨lw_p56, List.forall_mem_cons.mpr ⟨lw_p57, List.forall_mem_cons.mpr ⟨lw_p58, List.forall_mem_cons.mpr ⟨lw_p59, List.forall_mem_cons.mpr ⟨lw_p60, List.forall_mem_cons.mpr ⟨lw_p61, List.forall_mem_cons.mpr ⟨lw_p62, List.forall_mem_cons.mpr ⟨lw_p63, fun _ h => absurd h List.not_mem_nil⟩⟩⟩⟩⟩⟩⟩⟩⟩⟩⟩⟩⟩⟩⟩⟩
theorem lw_p64 : lw_okq (⟨"NonsenseRowsModel", "thingOf", "(II)I"⟩, 38) := ⟨⟨by decide +kernel, by decide +kernel⟩, lw_t6 (List.mem_of_getElem? (i := 107) rfl), lw_t7 (List.mem_of_getElem? (i := 146) rfl), lw_t7 (List.mem_of_getElem? (i := 147) rfl)⟩
theorem lw_p65 : lw_okq (⟨"NonsenseRowsModel", "reads", "(I)V"⟩, 38) := ⟨⟨by decide +kernel, by decide +kernel⟩, lw_t6 (List.mem_of_getElem? (i := 107) rfl), lw_t7 (List.mem_of_getElem? (i := 156) rfl), lw_t7 (List.mem_of_getElem? (i := 157) rfl)⟩
theorem lw_p66 : lw_okq (⟨"NonsenseRowsModel", "grows", "(IIII)V"⟩, 38) := ⟨⟨by decide +kernel, by decide +kernel⟩, lw_t6 (List.mem_of_getElem? (i := 107) rfl), lw_t7 (List.mem_of_getElem? (i := 160) rfl), lw_t7 (List.mem_of_getElem? (i := 161) rfl)⟩
theorem lw_p67 : lw_okq (⟨"NonsenseRowsModel", "changes", "(IJ)V"⟩, 38) := ⟨⟨by decide +kernel, by decide +kernel⟩, lw_t6 (List.mem_of_getElem? (i := 107) rfl), lw_t7 (List.mem_of_getElem? (i := 164) rfl), lw_t7 (List.mem_of_getElem? (i := 165) rfl)⟩
theorem lw_p68 : lw_okq (⟨"NonsenseRowsModel", "sits", "(IIII)V"⟩, 38) := ⟨⟨by decide +kernel, by decide +kernel⟩, lw_t6 (List.mem_of_getElem? (i := 107) rfl), lw_t7 (List.mem_of_getElem? (i := 170) rfl), lw_t7 (List.mem_of_getElem? (i := 171) rfl)⟩
theorem lw_p69 : lw_okq (⟨"NonsenseRowsModel", "learns", "(I)I"⟩, 38) := ⟨⟨by decide +kernel, by decide +kernel⟩, lw_t6 (List.mem_of_getElem? (i := 107) rfl), lw_t7 (List.mem_of_getElem? (i := 178) rfl), lw_t7 (List.mem_of_getElem? (i := 179) rfl)⟩
theorem lw_p70 : lw_okq (⟨"NonsenseRowsModel", "hoursGo", "(I)V"⟩, 38) := ⟨⟨by decide +kernel, by decide +kernel⟩, lw_t6 (List.mem_of_getElem? (i := 107) rfl), lw_t7 (List.mem_of_getElem? (i := 187) rfl), lw_t7 (List.mem_of_getElem? (i := 188) rfl)⟩
theorem lw_p71 : lw_okq (⟨"NonsenseRowsModel", "hourGoes", "()V"⟩, 38) := ⟨⟨by decide +kernel, by decide +kernel⟩, lw_t6 (List.mem_of_getElem? (i := 107) rfl), lw_t7 (List.mem_of_getElem? (i := 191) rfl), lw_t7 (List.mem_of_getElem? (i := 192) rfl)⟩
theorem lw_p72 : lw_okq (⟨"NonsenseRowsModel", "linksOf", "(I)I"⟩, 38) := ⟨⟨by decide +kernel, by decide +kernel⟩, lw_t6 (List.mem_of_getElem? (i := 107) rfl), lw_t7 (List.mem_of_getElem? (i := 204) rfl), lw_t7 (List.mem_of_getElem? (i := 205) rfl)⟩
theorem lw_p73 : lw_okq (⟨"NonsenseRowsModel", "needsOf", "(I)I"⟩, 38) := ⟨⟨by decide +kernel, by decide +kernel⟩, lw_t6 (List.mem_of_getElem? (i := 107) rfl), lw_t7 (List.mem_of_getElem? (i := 220) rfl), lw_t7 (List.mem_of_getElem? (i := 221) rfl)⟩
theorem lw_p74 : lw_okq (⟨"NonsenseRowsModel", "copy", "()V"⟩, 38) := ⟨⟨by decide +kernel, by decide +kernel⟩, lw_t6 (List.mem_of_getElem? (i := 107) rfl), lw_t7 (List.mem_of_getElem? (i := 224) rfl), lw_t7 (List.mem_of_getElem? (i := 225) rfl)⟩
theorem lw_p75 : lw_okq (⟨"NonsenseRowsModel", "takeBack", "()V"⟩, 38) := ⟨⟨by decide +kernel, by decide +kernel⟩, lw_t6 (List.mem_of_getElem? (i := 107) rfl), lw_t7 (List.mem_of_getElem? (i := 228) rfl), lw_t7 (List.mem_of_getElem? (i := 229) rfl)⟩
theorem lw_p76 : lw_okq (⟨"NonsenseRowsModel", "freshOf", "(I)I"⟩, 38) := ⟨⟨by decide +kernel, by decide +kernel⟩, lw_t6 (List.mem_of_getElem? (i := 107) rfl), lw_t7 (List.mem_of_getElem? (i := 236) rfl), lw_t7 (List.mem_of_getElem? (i := 237) rfl)⟩
theorem lw_p77 : lw_okq (⟨"NonsenseRowsModel", "isPlan", "(III)Z"⟩, 38) := ⟨⟨by decide +kernel, by decide +kernel⟩, lw_t6 (List.mem_of_getElem? (i := 107) rfl), lw_t8 (List.mem_of_getElem? (i := 37) rfl), lw_t8 (List.mem_of_getElem? (i := 38) rfl)⟩
theorem lw_p78 : lw_okq (⟨"NonsenseRowsModel", "plans", "(IIII)V"⟩, 38) := ⟨⟨by decide +kernel, by decide +kernel⟩, lw_t6 (List.mem_of_getElem? (i := 107) rfl), lw_t8 (List.mem_of_getElem? (i := 43) rfl), lw_t8 (List.mem_of_getElem? (i := 44) rfl)⟩
theorem lw_p79 : lw_okq (⟨"NonsenseRowsModel", "leftOf", "(I)I"⟩, 38) := ⟨⟨by decide +kernel, by decide +kernel⟩, lw_t6 (List.mem_of_getElem? (i := 107) rfl), lw_t8 (List.mem_of_getElem? (i := 47) rfl), lw_t8 (List.mem_of_getElem? (i := 48) rfl)⟩
def lw_privs_5 : List (MethodName × Nat) := [(⟨"NonsenseRowsModel", "thingOf", "(II)I"⟩, 38), (⟨"NonsenseRowsModel", "reads", "(I)V"⟩, 38), (⟨"NonsenseRowsModel", "grows", "(IIII)V"⟩, 38), (⟨"NonsenseRowsModel", "changes", "(IJ)V"⟩, 38), (⟨"NonsenseRowsModel", "sits", "(IIII)V"⟩, 38), (⟨"NonsenseRowsModel", "learns", "(I)I"⟩, 38), (⟨"NonsenseRowsModel", "hoursGo", "(I)V"⟩, 38), (⟨"NonsenseRowsModel", "hourGoes", "()V"⟩, 38), (⟨"NonsenseRowsModel", "linksOf", "(I)I"⟩, 38), (⟨"NonsenseRowsModel", "needsOf", "(I)I"⟩, 38), (⟨"NonsenseRowsModel", "copy", "()V"⟩, 38), (⟨"NonsenseRowsModel", "takeBack", "()V"⟩, 38), (⟨"NonsenseRowsModel", "freshOf", "(I)I"⟩, 38), (⟨"NonsenseRowsModel", "isPlan", "(III)Z"⟩, 38), (⟨"NonsenseRowsModel", "plans", "(IIII)V"⟩, 38), (⟨"NonsenseRowsModel", "leftOf", "(I)I"⟩, 38)]
theorem lw_r5 : ∀ q ∈ lw_privs_5, lw_okq q := List.forall_mem_cons.mpr ⟨lw_p64, List.forall_mem_cons.mpr ⟨lw_p65, List.forall_mem_cons.mpr ⟨lw_p66, List.forall_mem_cons.mpr ⟨lw_p67, List.forall_mem_cons.mpr ⟨lw_p68, List.forall_mem_cons.mpr ⟨lw_p69, List.forall_mem_cons.mpr ⟨lw_p70, List.forall_mem_cons.mpr ⟨lw_p71, List.forall_mem_cons.mpr ⟨lw_p72, List.forall_mem_cons.mpr ⟨lw_p73, List.forall_mem_cons.mpr ⟨lw_p74, List.forall_mem_cons.mpr ⟨lw_p75, List.forall_mem_cons.mpr ⟨lw_p76, List.forall_mem_cons.mpr ⟨lw_p77, List.forall_mem_cons.mpr ⟨lw_p78, List.forall_mem_cons.mpr ⟨lw_p79, fun _ h => absurd h List.not_mem_nil⟩⟩⟩⟩⟩⟩⟩⟩⟩⟩⟩⟩⟩⟩⟩⟩
theorem lw_p80 : lw_okq (⟨"NonsenseRowsModel", "makes", "(I)I"⟩, 38) := ⟨⟨by decide +kernel, by decide +kernel⟩, lw_t6 (List.mem_of_getElem? (i := 107) rfl), lw_t8 (List.mem_of_getElem? (i := 59) rfl), lw_t8 (List.mem_of_getElem? (i := 60) rfl)⟩
theorem lw_p81 : lw_okq (⟨"NonsenseRowsModel", "placeIn", "(II)I"⟩, 38) := ⟨⟨by decide +kernel, by decide +kernel⟩, lw_t6 (List.mem_of_getElem? (i := 107) rfl), lw_t8 (List.mem_of_getElem? (i := 108) rfl), lw_t8 (List.mem_of_getElem? (i := 109) rfl)⟩
theorem lw_p82 : lw_okq (⟨"NonsenseRowsModel", "fitsBook", "()Z"⟩, 38) := ⟨⟨by decide +kernel, by decide +kernel⟩, lw_t6 (List.mem_of_getElem? (i := 107) rfl), lw_t8 (List.mem_of_getElem? (i := 116) rfl), lw_t8 (List.mem_of_getElem? (i := 117) rfl)⟩
def lw_privs_6 : List (MethodName × Nat) := [(⟨"NonsenseRowsModel", "makes", "(I)I"⟩, 38), (⟨"NonsenseRowsModel", "placeIn", "(II)I"⟩, 38), (⟨"NonsenseRowsModel", "fitsBook", "()Z"⟩, 38)]
theorem lw_r6 : ∀ q ∈ lw_privs_6, lw_okq q := List.forall_mem_cons.mpr ⟨lw_p80, List.forall_mem_cons.mpr ⟨lw_p81, List.forall_mem_cons.mpr ⟨lw_p82, fun _ h => absurd h List.not_mem_nil⟩⟩⟩
def lw_privs : List (MethodName × Nat) := lw_privs_1 ++ (lw_privs_2 ++ (lw_privs_3 ++ (lw_privs_4 ++ (lw_privs_5 ++ (lw_privs_6)))))
def lw_tbl : List Cond := k2_sels lw_privs ++ tables_1
theorem lw_privs_ok : ∀ q ∈ lw_privs, lw_okq q := by
  show ∀ q ∈ lw_privs_1 ++ (lw_privs_2 ++ (lw_privs_3 ++ (lw_privs_4 ++ (lw_privs_5 ++ (lw_privs_6))))), lw_okq q
  exact List.forall_mem_append.mpr ⟨lw_r1, List.forall_mem_append.mpr ⟨lw_r2, List.forall_mem_append.mpr ⟨lw_r3, List.forall_mem_append.mpr ⟨lw_r4, List.forall_mem_append.mpr ⟨lw_r5, lw_r6⟩⟩⟩⟩⟩
-- ===== ONE list of words for every method: the tables' words that hold all through a run =====
def lw_all : List Cond := lw_tbl.filter goodWord
/-- a word of the tables by its place: claim/WORDS.tsv -/
theorem lw_w {w : Cond} (i : Nat) (h : lw_tbl[i]? = some w) (g : goodWord w = true) : w ∈ lw_all := List.mem_filter.mpr ⟨List.mem_of_getElem? h, g⟩
theorem lw_all_tbl {w : Cond} (h : w ∈ lw_all) : w ∈ lw_tbl := (List.mem_filter.mp h).1
theorem lw_self : GoodIn lw_all lw_all := fun w h => ⟨h, good_of_word (List.mem_filter.mp h).2⟩
/-- a class's field words, by their places -/
theorem lw_in (ws : List Cond) (ps : List Nat) (hp : ws = ps.filterMap (fun i => lw_tbl[i]?)) (hg : ws.all goodWord = true) : ∀ w ∈ ws, w ∈ lw_all := by
  intro w h
  have h1 := List.all_eq_true.mp hg w h
  rw [hp] at h
  obtain ⟨i, -, hi⟩ := List.mem_filterMap.mp h
  exact lw_w i hi h1
/-- the words of a contract for the method y with code b, L locals, answer r -/
abbrev ws_ (y : MethodName) (b : ByteArray) (L : Nat) (r : Option FieldType) : List Cond := Cond.code y b L r :: lw_all
theorem lw_meth {y : MethodName} {b : ByteArray} {L : Nat} {r : Option FieldType} (h : Cond.code y b L r ∈ lw_all) : GoodIn lw_all (ws_ y b L r) := by
  intro w hw
  rcases List.mem_cons.mp hw with e | e
  · rw [e]
    exact lw_self _ h
  · exact lw_self _ e
theorem lw_app {a c : List Cond} (ha : ∀ w ∈ a, w ∈ lw_all) (hc : GoodIn lw_all c) : GoodIn lw_all (a ++ c) := by
  intro w hw
  rcases List.mem_append.mp hw with e | e
  · exact lw_self w (ha w e)
  · exact hc w e
/-- what a call through an object asks: cwV n hts (lw_V ..) -/
theorem lw_V {own : String} {idx : Nat} {C : String} {y : MethodName} {b : ByteArray} {L : Nat} {r : Option FieldType} (h1 : Cond.methodLink own idx y ∈ lw_all) (h2 : Cond.instanceMethod y ∈ lw_all) (h3 : Cond.selects C y y ∈ lw_all) (h4 : Cond.initialized C ∈ lw_all) (h5 : Cond.code y b L r ∈ lw_all) : GoodIn lw_all (wsV own idx C y (ws_ y b L r)) := by
  refine lw_app ?_ (lw_meth h5)
  intro w hw
  simp only [List.mem_cons, List.not_mem_nil, or_false] at hw
  rcases hw with e | e | e | e
  · rw [e]; exact h1
  · rw [e]; exact h2
  · rw [e]; exact h3
  · rw [e]; exact h4
/-- what a static call asks: va_cwS n hts (lw_S ..) -/
theorem lw_S {own : String} {idx : Nat} {y : MethodName} {b : ByteArray} {L : Nat} {r : Option FieldType} (h1 : Cond.methodLink own idx y ∈ lw_all) (h2 : Cond.static y ∈ lw_all) (h3 : Cond.initialized y.cls ∈ lw_all) (h4 : Cond.code y b L r ∈ lw_all) : GoodIn lw_all (va_wsS own idx y (ws_ y b L r)) := by
  refine lw_app ?_ (lw_meth h4)
  intro w hw
  simp only [List.mem_cons, List.not_mem_nil, or_false] at hw
  rcases hw with e | e | e
  · rw [e]; exact h1
  · rw [e]; exact h2
  · rw [e]; exact h3
/-- the words of a contract for a method WITH HANDLERS (hh: its table) -/
abbrev wsW_ (y : MethodName) (b : ByteArray) (L : Nat) (r : Option FieldType) (hh : List (Nat × Nat × Nat × Nat)) : List Cond := Cond.codeWith y b L r hh :: lw_all
theorem lw_methW {y : MethodName} {b : ByteArray} {L : Nat} {r : Option FieldType} {hh : List (Nat × Nat × Nat × Nat)} (h : Cond.codeWith y b L r hh ∈ lw_all) : GoodIn lw_all (wsW_ y b L r hh) := by
  intro w hw
  rcases List.mem_cons.mp hw with e | e
  · rw [e]
    exact lw_self _ h
  · exact lw_self _ e
/-- any list of words by their places (lw_in), good -/
theorem lw_good {ws : List Cond} (h : ∀ w ∈ ws, w ∈ lw_all) : GoodIn lw_all ws := fun w hw => lw_self w (h w hw)
/-- what a call of a method with handlers asks: vx_cwVW n hts (lw_VW ..), vx_cwSW n hts (lw_SW ..) -/
theorem lw_VW {own : String} {idx : Nat} {C : String} {y : MethodName} {b : ByteArray} {L : Nat} {r : Option FieldType} {hh : List (Nat × Nat × Nat × Nat)} (h1 : Cond.methodLink own idx y ∈ lw_all) (h2 : Cond.instanceMethod y ∈ lw_all) (h3 : Cond.selects C y y ∈ lw_all) (h4 : Cond.initialized C ∈ lw_all) (h5 : Cond.codeWith y b L r hh ∈ lw_all) : GoodIn lw_all (wsV own idx C y (wsW_ y b L r hh)) := by
  refine lw_app ?_ (lw_methW h5)
  intro w hw
  simp only [List.mem_cons, List.not_mem_nil, or_false] at hw
  rcases hw with e | e | e | e
  · rw [e]; exact h1
  · rw [e]; exact h2
  · rw [e]; exact h3
  · rw [e]; exact h4
theorem lw_SW {own : String} {idx : Nat} {y : MethodName} {b : ByteArray} {L : Nat} {r : Option FieldType} {hh : List (Nat × Nat × Nat × Nat)} (h1 : Cond.methodLink own idx y ∈ lw_all) (h2 : Cond.static y ∈ lw_all) (h3 : Cond.initialized y.cls ∈ lw_all) (h4 : Cond.codeWith y b L r hh ∈ lw_all) : GoodIn lw_all (va_wsS own idx y (wsW_ y b L r hh)) := by
  refine lw_app ?_ (lw_methW h4)
  intro w hw
  simp only [List.mem_cons, List.not_mem_nil, or_false] at hw
  rcases hw with e | e | e
  · rw [e]; exact h1
  · rw [e]; exact h2
  · rw [e]; exact h3
/-- a word by its place in its run of the tables -/
theorem lw_at {r : List Cond} (hr : ∀ w ∈ r, w ∈ lw_tbl) {w : Cond} (i : Nat) (h : r[i]? = some w) : w ∈ lw_tbl := hr w (List.mem_of_getElem? h)
theorem lw_g {w : Cond} (h : w ∈ lw_tbl) (g : goodWord w = true) : w ∈ lw_all := List.mem_filter.mpr ⟨h, g⟩
theorem lw_ms : ∀ w ∈ k2_sels lw_privs, w ∈ lw_tbl := fun w h => show w ∈ k2_sels lw_privs ++ tables_1 from List.mem_append_left _ h
theorem lw_m1 : ∀ w ∈ tables_1_1, w ∈ lw_tbl := fun w h => show w ∈ k2_sels lw_privs ++ tables_1 from List.mem_append_right (k2_sels lw_privs) (show w ∈ tables_1 from List.mem_append_left _ h)
theorem lw_m2 : ∀ w ∈ tables_1_2, w ∈ lw_tbl := fun w h => show w ∈ k2_sels lw_privs ++ tables_1 from List.mem_append_right (k2_sels lw_privs) (show w ∈ tables_1 from List.mem_append_right _ (List.mem_append_left _ h))
theorem lw_m3 : ∀ w ∈ tables_1_3, w ∈ lw_tbl := fun w h => show w ∈ k2_sels lw_privs ++ tables_1 from List.mem_append_right (k2_sels lw_privs) (show w ∈ tables_1 from List.mem_append_right _ (List.mem_append_right _ (List.mem_append_left _ h)))
theorem lw_m4 : ∀ w ∈ tables_1_4, w ∈ lw_tbl := fun w h => show w ∈ k2_sels lw_privs ++ tables_1 from List.mem_append_right (k2_sels lw_privs) (show w ∈ tables_1 from List.mem_append_right _ (List.mem_append_right _ (List.mem_append_right _ (List.mem_append_left _ h))))
theorem lw_m5 : ∀ w ∈ tables_1_5, w ∈ lw_tbl := fun w h => show w ∈ k2_sels lw_privs ++ tables_1 from List.mem_append_right (k2_sels lw_privs) (show w ∈ tables_1 from List.mem_append_right _ (List.mem_append_right _ (List.mem_append_right _ (List.mem_append_right _ (List.mem_append_left _ h)))))
theorem lw_m6 : ∀ w ∈ tables_1_6, w ∈ lw_tbl := fun w h => show w ∈ k2_sels lw_privs ++ tables_1 from List.mem_append_right (k2_sels lw_privs) (show w ∈ tables_1 from List.mem_append_right _ (List.mem_append_right _ (List.mem_append_right _ (List.mem_append_right _ (List.mem_append_right _ (List.mem_append_left _ h))))))
theorem lw_m7 : ∀ w ∈ tables_1_7, w ∈ lw_tbl := fun w h => show w ∈ k2_sels lw_privs ++ tables_1 from List.mem_append_right (k2_sels lw_privs) (show w ∈ tables_1 from List.mem_append_right _ (List.mem_append_right _ (List.mem_append_right _ (List.mem_append_right _ (List.mem_append_right _ (List.mem_append_right _ (List.mem_append_left _ h)))))))
theorem lw_m8 : ∀ w ∈ tables_1_8, w ∈ lw_tbl := fun w h => show w ∈ k2_sels lw_privs ++ tables_1 from List.mem_append_right (k2_sels lw_privs) (show w ∈ tables_1 from List.mem_append_right _ (List.mem_append_right _ (List.mem_append_right _ (List.mem_append_right _ (List.mem_append_right _ (List.mem_append_right _ (List.mem_append_right _ h)))))))
theorem qs0 : (Cond.selects "java/lang/NullPointerException" ⟨"java/lang/NullPointerException", "getExtendedNPEMessage", "()Ljava/lang/String;"⟩ ⟨"java/lang/NullPointerException", "getExtendedNPEMessage", "()Ljava/lang/String;"⟩) ∈ lw_all := lw_g (lw_at lw_ms 0 rfl) rfl
theorem qs1 : (Cond.selects "java/lang/Throwable" ⟨"java/lang/Throwable", "fillInStackTrace", "(I)Ljava/lang/Throwable;"⟩ ⟨"java/lang/Throwable", "fillInStackTrace", "(I)Ljava/lang/Throwable;"⟩) ∈ lw_all := lw_g (lw_at lw_ms 1 rfl) rfl
theorem qs2 : (Cond.selects "NonsenseRows$Slot" ⟨"NonsenseRows$Slot", "put", "(IJ)V"⟩ ⟨"NonsenseRows$Slot", "put", "(IJ)V"⟩) ∈ lw_all := lw_g (lw_at lw_ms 2 rfl) rfl
theorem qs3 : (Cond.selects "NonsenseRows$Slot" ⟨"NonsenseRows$Slot", "putWider", "(IJ)V"⟩ ⟨"NonsenseRows$Slot", "putWider", "(IJ)V"⟩) ∈ lw_all := lw_g (lw_at lw_ms 3 rfl) rfl
theorem qs4 : (Cond.selects "NonsenseRows$Slot" ⟨"NonsenseRows$Slot", "width", "()I"⟩ ⟨"NonsenseRows$Slot", "width", "()I"⟩) ∈ lw_all := lw_g (lw_at lw_ms 4 rfl) rfl
theorem qs5 : (Cond.selects "NonsenseRows" ⟨"NonsenseRows", "puts", "(I)V"⟩ ⟨"NonsenseRows", "puts", "(I)V"⟩) ∈ lw_all := lw_g (lw_at lw_ms 5 rfl) rfl
theorem qs6 : (Cond.selects "NonsenseRows$Reader" ⟨"NonsenseRows$Reader", "next", "()V"⟩ ⟨"NonsenseRows$Reader", "next", "()V"⟩) ∈ lw_all := lw_g (lw_at lw_ms 6 rfl) rfl
theorem qs7 : (Cond.selects "NonsenseRows$Reader" ⟨"NonsenseRows$Reader", "isAt", "(II)Z"⟩ ⟨"NonsenseRows$Reader", "isAt", "(II)Z"⟩) ∈ lw_all := lw_g (lw_at lw_ms 7 rfl) rfl
theorem qs8 : (Cond.selects "NonsenseRows$Reader" ⟨"NonsenseRows$Reader", "line", "()V"⟩ ⟨"NonsenseRows$Reader", "line", "()V"⟩) ∈ lw_all := lw_g (lw_at lw_ms 8 rfl) rfl
theorem qs9 : (Cond.selects "NonsenseRows$Reader" ⟨"NonsenseRows$Reader", "which", "([Ljava/lang/String;)I"⟩ ⟨"NonsenseRows$Reader", "which", "([Ljava/lang/String;)I"⟩) ∈ lw_all := lw_g (lw_at lw_ms 9 rfl) rfl
theorem qs10 : (Cond.selects "NonsenseRows$Reader" ⟨"NonsenseRows$Reader", "is", "(Ljava/lang/String;)Z"⟩ ⟨"NonsenseRows$Reader", "is", "(Ljava/lang/String;)Z"⟩) ∈ lw_all := lw_g (lw_at lw_ms 10 rfl) rfl
theorem qs11 : (Cond.selects "NonsenseRows$Reader" ⟨"NonsenseRows$Reader", "fails", "(I)V"⟩ ⟨"NonsenseRows$Reader", "fails", "(I)V"⟩) ∈ lw_all := lw_g (lw_at lw_ms 11 rfl) rfl
theorem qs12 : (Cond.selects "NonsenseRows$Reader" ⟨"NonsenseRows$Reader", "lawLine", "(I)V"⟩ ⟨"NonsenseRows$Reader", "lawLine", "(I)V"⟩) ∈ lw_all := lw_g (lw_at lw_ms 12 rfl) rfl
theorem qs13 : (Cond.selects "NonsenseRows$Reader" ⟨"NonsenseRows$Reader", "sort", "()I"⟩ ⟨"NonsenseRows$Reader", "sort", "()I"⟩) ∈ lw_all := lw_g (lw_at lw_ms 13 rfl) rfl
theorem qs14 : (Cond.selects "NonsenseRows$Reader" ⟨"NonsenseRows$Reader", "word", "(Ljava/lang/String;)V"⟩ ⟨"NonsenseRows$Reader", "word", "(Ljava/lang/String;)V"⟩) ∈ lw_all := lw_g (lw_at lw_ms 14 rfl) rfl
theorem qs15 : (Cond.selects "NonsenseRows$Reader" ⟨"NonsenseRows$Reader", "takes", "(Ljava/lang/String;)Z"⟩ ⟨"NonsenseRows$Reader", "takes", "(Ljava/lang/String;)Z"⟩) ∈ lw_all := lw_g (lw_at lw_ms 15 rfl) rfl
theorem qs16 : (Cond.selects "NonsenseRows$Reader" ⟨"NonsenseRows$Reader", "sum", "()LNonsenseRows$Sum;"⟩ ⟨"NonsenseRows$Reader", "sum", "()LNonsenseRows$Sum;"⟩) ∈ lw_all := lw_g (lw_at lw_ms 16 rfl) rfl
theorem qs17 : (Cond.selects "NonsenseRows$Reader" ⟨"NonsenseRows$Reader", "term", "()LNonsenseRows$Sum;"⟩ ⟨"NonsenseRows$Reader", "term", "()LNonsenseRows$Sum;"⟩) ∈ lw_all := lw_g (lw_at lw_ms 17 rfl) rfl
theorem qs18 : (Cond.selects "NonsenseRows$Reader" ⟨"NonsenseRows$Reader", "part", "()LNonsenseRows$Sum;"⟩ ⟨"NonsenseRows$Reader", "part", "()LNonsenseRows$Sum;"⟩) ∈ lw_all := lw_g (lw_at lw_ms 18 rfl) rfl
theorem qs19 : (Cond.selects "NonsenseRows$Reader" ⟨"NonsenseRows$Reader", "number", "(II)I"⟩ ⟨"NonsenseRows$Reader", "number", "(II)I"⟩) ∈ lw_all := lw_g (lw_at lw_ms 19 rfl) rfl
theorem qs20 : (Cond.selects "NonsenseRows$Reader" ⟨"NonsenseRows$Reader", "rowLine", "()V"⟩ ⟨"NonsenseRows$Reader", "rowLine", "()V"⟩) ∈ lw_all := lw_g (lw_at lw_ms 20 rfl) rfl
theorem qs21 : (Cond.selects "java/util/ArrayList" ⟨"java/util/ArrayList", "add", "(Ljava/lang/Object;[Ljava/lang/Object;I)V"⟩ ⟨"java/util/ArrayList", "add", "(Ljava/lang/Object;[Ljava/lang/Object;I)V"⟩) ∈ lw_all := lw_g (lw_at lw_ms 21 rfl) rfl
theorem qs22 : (Cond.selects "java/util/ArrayList" ⟨"java/util/ArrayList", "grow", "()[Ljava/lang/Object;"⟩ ⟨"java/util/ArrayList", "grow", "()[Ljava/lang/Object;"⟩) ∈ lw_all := lw_g (lw_at lw_ms 22 rfl) rfl
theorem qs23 : (Cond.selects "java/util/ArrayList" ⟨"java/util/ArrayList", "grow", "(I)[Ljava/lang/Object;"⟩ ⟨"java/util/ArrayList", "grow", "(I)[Ljava/lang/Object;"⟩) ∈ lw_all := lw_g (lw_at lw_ms 23 rfl) rfl
theorem qs24 : (Cond.selects "NonsenseRows$Reader" ⟨"NonsenseRows$Reader", "holdLine", "()V"⟩ ⟨"NonsenseRows$Reader", "holdLine", "()V"⟩) ∈ lw_all := lw_g (lw_at lw_ms 24 rfl) rfl
theorem qs25 : (Cond.selects "NonsenseRows$Reader" ⟨"NonsenseRows$Reader", "leanLine", "()V"⟩ ⟨"NonsenseRows$Reader", "leanLine", "()V"⟩) ∈ lw_all := lw_g (lw_at lw_ms 25 rfl) rfl
theorem qs26 : (Cond.selects "NonsenseRows" ⟨"NonsenseRows", "isRow", "(I)Z"⟩ ⟨"NonsenseRows", "isRow", "(I)Z"⟩) ∈ lw_all := lw_g (lw_at lw_ms 26 rfl) rfl
theorem qs27 : (Cond.selects "NonsenseRows" ⟨"NonsenseRows", "slipMany", "(I)I"⟩ ⟨"NonsenseRows", "slipMany", "(I)I"⟩) ∈ lw_all := lw_g (lw_at lw_ms 27 rfl) rfl
theorem qs28 : (Cond.selects "NonsenseRows" ⟨"NonsenseRows", "rowAt", "(I)[I"⟩ ⟨"NonsenseRows", "rowAt", "(I)[I"⟩) ∈ lw_all := lw_g (lw_at lw_ms 28 rfl) rfl
theorem qs29 : (Cond.selects "NonsenseRows$Head" ⟨"NonsenseRows$Head", "moves", "(IIII)V"⟩ ⟨"NonsenseRows$Head", "moves", "(IIII)V"⟩) ∈ lw_all := lw_g (lw_at lw_ms 29 rfl) rfl
theorem qs30 : (Cond.selects "NonsenseRows" ⟨"NonsenseRows", "notes", "(IIIZZ)V"⟩ ⟨"NonsenseRows", "notes", "(IIIZZ)V"⟩) ∈ lw_all := lw_g (lw_at lw_ms 30 rfl) rfl
theorem qs31 : (Cond.selects "java/util/ArrayList" ⟨"java/util/ArrayList", "fastRemove", "([Ljava/lang/Object;I)V"⟩ ⟨"java/util/ArrayList", "fastRemove", "([Ljava/lang/Object;I)V"⟩) ∈ lw_all := lw_g (lw_at lw_ms 31 rfl) rfl
theorem qs32 : (Cond.selects "NonsenseRows" ⟨"NonsenseRows", "isThing", "(I)Z"⟩ ⟨"NonsenseRows", "isThing", "(I)Z"⟩) ∈ lw_all := lw_g (lw_at lw_ms 32 rfl) rfl
theorem qs33 : (Cond.selects "NonsenseRows" ⟨"NonsenseRows", "needsOf", "(II)I"⟩ ⟨"NonsenseRows", "needsOf", "(II)I"⟩) ∈ lw_all := lw_g (lw_at lw_ms 33 rfl) rfl
theorem qs34 : (Cond.selects "NonsenseRows" ⟨"NonsenseRows", "onPaper", "()LNonsenseRows$Head;"⟩ ⟨"NonsenseRows", "onPaper", "()LNonsenseRows$Head;"⟩) ∈ lw_all := lw_g (lw_at lw_ms 34 rfl) rfl
theorem qs35 : (Cond.selects "NonsenseRows" ⟨"NonsenseRows", "freshOf", "(II)I"⟩ ⟨"NonsenseRows", "freshOf", "(II)I"⟩) ∈ lw_all := lw_g (lw_at lw_ms 35 rfl) rfl
theorem qs36 : (Cond.selects "NonsenseRows" ⟨"NonsenseRows", "replays", "()Z"⟩ ⟨"NonsenseRows", "replays", "()Z"⟩) ∈ lw_all := lw_g (lw_at lw_ms 36 rfl) rfl
theorem qs37 : (Cond.selects "NonsenseRows" ⟨"NonsenseRows", "isSpread", "(III)Z"⟩ ⟨"NonsenseRows", "isSpread", "(III)Z"⟩) ∈ lw_all := lw_g (lw_at lw_ms 37 rfl) rfl
theorem qs38 : (Cond.selects "NonsenseRows" ⟨"NonsenseRows", "spreads", "(III)V"⟩ ⟨"NonsenseRows", "spreads", "(III)V"⟩) ∈ lw_all := lw_g (lw_at lw_ms 38 rfl) rfl
theorem qs39 : (Cond.selects "NonsenseRows" ⟨"NonsenseRows", "plans", "(IIII)V"⟩ ⟨"NonsenseRows", "plans", "(IIII)V"⟩) ∈ lw_all := lw_g (lw_at lw_ms 39 rfl) rfl
theorem qs40 : (Cond.selects "NonsenseRows" ⟨"NonsenseRows", "leavesBy", "(II)I"⟩ ⟨"NonsenseRows", "leavesBy", "(II)I"⟩) ∈ lw_all := lw_g (lw_at lw_ms 40 rfl) rfl
theorem qs41 : (Cond.selects "NonsenseRows" ⟨"NonsenseRows", "adds", "([I)I"⟩ ⟨"NonsenseRows", "adds", "([I)I"⟩) ∈ lw_all := lw_g (lw_at lw_ms 41 rfl) rfl
theorem qs42 : (Cond.selects "NonsenseRowsModel" ⟨"NonsenseRowsModel", "takeImage", "(I)V"⟩ ⟨"NonsenseRowsModel", "takeImage", "(I)V"⟩) ∈ lw_all := lw_g (lw_at lw_ms 42 rfl) rfl
theorem qs43 : (Cond.selects "NonsenseRowsModel" ⟨"NonsenseRowsModel", "advance", "()V"⟩ ⟨"NonsenseRowsModel", "advance", "()V"⟩) ∈ lw_all := lw_g (lw_at lw_ms 43 rfl) rfl
theorem qs44 : (Cond.selects "NonsenseRowsModel" ⟨"NonsenseRowsModel", "see", "(I)I"⟩ ⟨"NonsenseRowsModel", "see", "(I)I"⟩) ∈ lw_all := lw_g (lw_at lw_ms 44 rfl) rfl
theorem qs45 : (Cond.selects "NonsenseRowsModel" ⟨"NonsenseRowsModel", "good", "()Z"⟩ ⟨"NonsenseRowsModel", "good", "()Z"⟩) ∈ lw_all := lw_g (lw_at lw_ms 45 rfl) rfl
theorem qs46 : (Cond.selects "NonsenseRowsModel" ⟨"NonsenseRowsModel", "readLine", "()V"⟩ ⟨"NonsenseRowsModel", "readLine", "()V"⟩) ∈ lw_all := lw_g (lw_at lw_ms 46 rfl) rfl
theorem qs47 : (Cond.selects "NonsenseRowsModel" ⟨"NonsenseRowsModel", "is", "(Ljava/lang/String;)Z"⟩ ⟨"NonsenseRowsModel", "is", "(Ljava/lang/String;)Z"⟩) ∈ lw_all := lw_g (lw_at lw_ms 47 rfl) rfl
theorem qs48 : (Cond.selects "NonsenseRowsModel" ⟨"NonsenseRowsModel", "errs", "(I)V"⟩ ⟨"NonsenseRowsModel", "errs", "(I)V"⟩) ∈ lw_all := lw_g (lw_at lw_ms 48 rfl) rfl
theorem qs49 : (Cond.selects "NonsenseRowsModel" ⟨"NonsenseRowsModel", "takes", "(Ljava/lang/String;)Z"⟩ ⟨"NonsenseRowsModel", "takes", "(Ljava/lang/String;)Z"⟩) ∈ lw_all := lw_g (lw_at lw_ms 49 rfl) rfl
theorem qs50 : (Cond.selects "NonsenseRowsModel" ⟨"NonsenseRowsModel", "needsWord", "(Ljava/lang/String;)V"⟩ ⟨"NonsenseRowsModel", "needsWord", "(Ljava/lang/String;)V"⟩) ∈ lw_all := lw_g (lw_at lw_ms 50 rfl) rfl
theorem qs51 : (Cond.selects "NonsenseRowsModel" ⟨"NonsenseRowsModel", "number", "(II)I"⟩ ⟨"NonsenseRowsModel", "number", "(II)I"⟩) ∈ lw_all := lw_g (lw_at lw_ms 51 rfl) rfl
theorem qs52 : (Cond.selects "NonsenseRowsModel" ⟨"NonsenseRowsModel", "readRow", "()V"⟩ ⟨"NonsenseRowsModel", "readRow", "()V"⟩) ∈ lw_all := lw_g (lw_at lw_ms 52 rfl) rfl
theorem qs53 : (Cond.selects "NonsenseRowsModel" ⟨"NonsenseRowsModel", "sortHere", "()I"⟩ ⟨"NonsenseRowsModel", "sortHere", "()I"⟩) ∈ lw_all := lw_g (lw_at lw_ms 53 rfl) rfl
theorem qs54 : (Cond.selects "NonsenseRowsModel" ⟨"NonsenseRowsModel", "readLaw", "(I)V"⟩ ⟨"NonsenseRowsModel", "readLaw", "(I)V"⟩) ∈ lw_all := lw_g (lw_at lw_ms 54 rfl) rfl
theorem qs55 : (Cond.selects "NonsenseRowsModel" ⟨"NonsenseRowsModel", "readPart", "(I)V"⟩ ⟨"NonsenseRowsModel", "readPart", "(I)V"⟩) ∈ lw_all := lw_g (lw_at lw_ms 55 rfl) rfl
theorem qs56 : (Cond.selects "NonsenseRowsModel" ⟨"NonsenseRowsModel", "clearHead", "()V"⟩ ⟨"NonsenseRowsModel", "clearHead", "()V"⟩) ∈ lw_all := lw_g (lw_at lw_ms 56 rfl) rfl
theorem qs57 : (Cond.selects "NonsenseRowsModel" ⟨"NonsenseRowsModel", "isThing", "(I)Z"⟩ ⟨"NonsenseRowsModel", "isThing", "(I)Z"⟩) ∈ lw_all := lw_g (lw_at lw_ms 57 rfl) rfl
theorem qs58 : (Cond.selects "NonsenseRowsModel" ⟨"NonsenseRowsModel", "comesTo", "(III)J"⟩ ⟨"NonsenseRowsModel", "comesTo", "(III)J"⟩) ∈ lw_all := lw_g (lw_at lw_ms 58 rfl) rfl
theorem qs59 : (Cond.selects "NonsenseRowsModel" ⟨"NonsenseRowsModel", "partOf", "(III)J"⟩ ⟨"NonsenseRowsModel", "partOf", "(III)J"⟩) ∈ lw_all := lw_g (lw_at lw_ms 59 rfl) rfl
theorem qs60 : (Cond.selects "NonsenseRowsModel" ⟨"NonsenseRowsModel", "isRow", "(I)Z"⟩ ⟨"NonsenseRowsModel", "isRow", "(I)Z"⟩) ∈ lw_all := lw_g (lw_at lw_ms 60 rfl) rfl
theorem qs61 : (Cond.selects "NonsenseRowsModel" ⟨"NonsenseRowsModel", "slipsOf", "(I)I"⟩ ⟨"NonsenseRowsModel", "slipsOf", "(I)I"⟩) ∈ lw_all := lw_g (lw_at lw_ms 61 rfl) rfl
theorem qs62 : (Cond.selects "NonsenseRowsModel" ⟨"NonsenseRowsModel", "manyOf", "(I)I"⟩ ⟨"NonsenseRowsModel", "manyOf", "(I)I"⟩) ∈ lw_all := lw_g (lw_at lw_ms 62 rfl) rfl
theorem qs63 : (Cond.selects "NonsenseRowsModel" ⟨"NonsenseRowsModel", "supportOf", "(II)I"⟩ ⟨"NonsenseRowsModel", "supportOf", "(II)I"⟩) ∈ lw_all := lw_g (lw_at lw_ms 63 rfl) rfl
theorem qs64 : (Cond.selects "NonsenseRowsModel" ⟨"NonsenseRowsModel", "thingOf", "(II)I"⟩ ⟨"NonsenseRowsModel", "thingOf", "(II)I"⟩) ∈ lw_all := lw_g (lw_at lw_ms 64 rfl) rfl
theorem qs65 : (Cond.selects "NonsenseRowsModel" ⟨"NonsenseRowsModel", "reads", "(I)V"⟩ ⟨"NonsenseRowsModel", "reads", "(I)V"⟩) ∈ lw_all := lw_g (lw_at lw_ms 65 rfl) rfl
theorem qs66 : (Cond.selects "NonsenseRowsModel" ⟨"NonsenseRowsModel", "grows", "(IIII)V"⟩ ⟨"NonsenseRowsModel", "grows", "(IIII)V"⟩) ∈ lw_all := lw_g (lw_at lw_ms 66 rfl) rfl
theorem qs67 : (Cond.selects "NonsenseRowsModel" ⟨"NonsenseRowsModel", "changes", "(IJ)V"⟩ ⟨"NonsenseRowsModel", "changes", "(IJ)V"⟩) ∈ lw_all := lw_g (lw_at lw_ms 67 rfl) rfl
theorem qs68 : (Cond.selects "NonsenseRowsModel" ⟨"NonsenseRowsModel", "sits", "(IIII)V"⟩ ⟨"NonsenseRowsModel", "sits", "(IIII)V"⟩) ∈ lw_all := lw_g (lw_at lw_ms 68 rfl) rfl
theorem qs69 : (Cond.selects "NonsenseRowsModel" ⟨"NonsenseRowsModel", "learns", "(I)I"⟩ ⟨"NonsenseRowsModel", "learns", "(I)I"⟩) ∈ lw_all := lw_g (lw_at lw_ms 69 rfl) rfl
theorem qs70 : (Cond.selects "NonsenseRowsModel" ⟨"NonsenseRowsModel", "hoursGo", "(I)V"⟩ ⟨"NonsenseRowsModel", "hoursGo", "(I)V"⟩) ∈ lw_all := lw_g (lw_at lw_ms 70 rfl) rfl
theorem qs71 : (Cond.selects "NonsenseRowsModel" ⟨"NonsenseRowsModel", "hourGoes", "()V"⟩ ⟨"NonsenseRowsModel", "hourGoes", "()V"⟩) ∈ lw_all := lw_g (lw_at lw_ms 71 rfl) rfl
theorem qs72 : (Cond.selects "NonsenseRowsModel" ⟨"NonsenseRowsModel", "linksOf", "(I)I"⟩ ⟨"NonsenseRowsModel", "linksOf", "(I)I"⟩) ∈ lw_all := lw_g (lw_at lw_ms 72 rfl) rfl
theorem qs73 : (Cond.selects "NonsenseRowsModel" ⟨"NonsenseRowsModel", "needsOf", "(I)I"⟩ ⟨"NonsenseRowsModel", "needsOf", "(I)I"⟩) ∈ lw_all := lw_g (lw_at lw_ms 73 rfl) rfl
theorem qs74 : (Cond.selects "NonsenseRowsModel" ⟨"NonsenseRowsModel", "copy", "()V"⟩ ⟨"NonsenseRowsModel", "copy", "()V"⟩) ∈ lw_all := lw_g (lw_at lw_ms 74 rfl) rfl
theorem qs75 : (Cond.selects "NonsenseRowsModel" ⟨"NonsenseRowsModel", "takeBack", "()V"⟩ ⟨"NonsenseRowsModel", "takeBack", "()V"⟩) ∈ lw_all := lw_g (lw_at lw_ms 75 rfl) rfl
theorem qs76 : (Cond.selects "NonsenseRowsModel" ⟨"NonsenseRowsModel", "freshOf", "(I)I"⟩ ⟨"NonsenseRowsModel", "freshOf", "(I)I"⟩) ∈ lw_all := lw_g (lw_at lw_ms 76 rfl) rfl
theorem qs77 : (Cond.selects "NonsenseRowsModel" ⟨"NonsenseRowsModel", "isPlan", "(III)Z"⟩ ⟨"NonsenseRowsModel", "isPlan", "(III)Z"⟩) ∈ lw_all := lw_g (lw_at lw_ms 77 rfl) rfl
theorem qs78 : (Cond.selects "NonsenseRowsModel" ⟨"NonsenseRowsModel", "plans", "(IIII)V"⟩ ⟨"NonsenseRowsModel", "plans", "(IIII)V"⟩) ∈ lw_all := lw_g (lw_at lw_ms 78 rfl) rfl
theorem qs79 : (Cond.selects "NonsenseRowsModel" ⟨"NonsenseRowsModel", "leftOf", "(I)I"⟩ ⟨"NonsenseRowsModel", "leftOf", "(I)I"⟩) ∈ lw_all := lw_g (lw_at lw_ms 79 rfl) rfl
theorem qs80 : (Cond.selects "NonsenseRowsModel" ⟨"NonsenseRowsModel", "makes", "(I)I"⟩ ⟨"NonsenseRowsModel", "makes", "(I)I"⟩) ∈ lw_all := lw_g (lw_at lw_ms 80 rfl) rfl
theorem qs81 : (Cond.selects "NonsenseRowsModel" ⟨"NonsenseRowsModel", "placeIn", "(II)I"⟩ ⟨"NonsenseRowsModel", "placeIn", "(II)I"⟩) ∈ lw_all := lw_g (lw_at lw_ms 81 rfl) rfl
theorem qs82 : (Cond.selects "NonsenseRowsModel" ⟨"NonsenseRowsModel", "fitsBook", "()Z"⟩ ⟨"NonsenseRowsModel", "fitsBook", "()Z"⟩) ∈ lw_all := lw_g (lw_at lw_ms 82 rfl) rfl
-- ===== end of PART A; then your names; then what follows =====
