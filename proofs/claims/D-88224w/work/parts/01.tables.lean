-- ===== PART A: goes FIRST, ahead of the names: the tables' words, and 'selects' of the private methods out of them =====
/-- a private method of a class that the tables say can be made, by its rows of tables_1 -/
def lw_okq (q : MethodName × Nat) : Prop := (q.1.cls ≠ "java/lang/invoke/MethodHandle" ∧ q.1.cls ≠ "java/lang/invoke/VarHandle") ∧ Cond.instantiable q.1.cls q.2 ∈ tables_1 ∧ Cond.privateMethod q.1 ∈ tables_1 ∧ Cond.instanceMethod q.1 ∈ tables_1
set_option maxRecDepth 100000
theorem lw_t1 {w : Cond} (h : w ∈ tables_1_1) : w ∈ tables_1 := List.mem_append_left _ h
theorem lw_t2 {w : Cond} (h : w ∈ tables_1_2) : w ∈ tables_1 := List.mem_append_right _ (List.mem_append_left _ h)
theorem lw_t3 {w : Cond} (h : w ∈ tables_1_3) : w ∈ tables_1 := List.mem_append_right _ (List.mem_append_right _ (List.mem_append_left _ h))
theorem lw_t4 {w : Cond} (h : w ∈ tables_1_4) : w ∈ tables_1 := List.mem_append_right _ (List.mem_append_right _ (List.mem_append_right _ (List.mem_append_left _ h)))
theorem lw_t5 {w : Cond} (h : w ∈ tables_1_5) : w ∈ tables_1 := List.mem_append_right _ (List.mem_append_right _ (List.mem_append_right _ (List.mem_append_right _ (List.mem_append_left _ h))))
theorem lw_t6 {w : Cond} (h : w ∈ tables_1_6) : w ∈ tables_1 := List.mem_append_right _ (List.mem_append_right _ (List.mem_append_right _ (List.mem_append_right _ (List.mem_append_right _ (List.mem_append_left _ h)))))
theorem lw_t7 {w : Cond} (h : w ∈ tables_1_7) : w ∈ tables_1 := List.mem_append_right _ (List.mem_append_right _ (List.mem_append_right _ (List.mem_append_right _ (List.mem_append_right _ (List.mem_append_right _ h)))))
theorem lw_p0 : lw_okq (⟨"BedBook", "isFull", "()Z"⟩, 26) := ⟨⟨by decide +kernel, by decide +kernel⟩, lw_t1 (List.mem_of_getElem? (i := 38) rfl), lw_t1 (List.mem_of_getElem? (i := 229) rfl), lw_t1 (List.mem_of_getElem? (i := 230) rfl)⟩
theorem lw_p1 : lw_okq (⟨"BedBook", "comes", "(LBedBook$Plant;)I"⟩, 26) := ⟨⟨by decide +kernel, by decide +kernel⟩, lw_t1 (List.mem_of_getElem? (i := 38) rfl), lw_t2 (List.mem_of_getElem? (i := 54) rfl), lw_t2 (List.mem_of_getElem? (i := 55) rfl)⟩
theorem lw_p2 : lw_okq (⟨"java/util/ArrayList", "add", "(Ljava/lang/Object;[Ljava/lang/Object;I)V"⟩, 3) := ⟨⟨by decide +kernel, by decide +kernel⟩, lw_t1 (List.mem_of_getElem? (i := 46) rfl), lw_t2 (List.mem_of_getElem? (i := 62) rfl), lw_t2 (List.mem_of_getElem? (i := 63) rfl)⟩
theorem lw_p3 : lw_okq (⟨"java/util/ArrayList", "grow", "()[Ljava/lang/Object;"⟩, 3) := ⟨⟨by decide +kernel, by decide +kernel⟩, lw_t1 (List.mem_of_getElem? (i := 46) rfl), lw_t2 (List.mem_of_getElem? (i := 66) rfl), lw_t2 (List.mem_of_getElem? (i := 67) rfl)⟩
theorem lw_p4 : lw_okq (⟨"java/util/ArrayList", "grow", "(I)[Ljava/lang/Object;"⟩, 3) := ⟨⟨by decide +kernel, by decide +kernel⟩, lw_t1 (List.mem_of_getElem? (i := 46) rfl), lw_t2 (List.mem_of_getElem? (i := 70) rfl), lw_t2 (List.mem_of_getElem? (i := 71) rfl)⟩
theorem lw_p5 : lw_okq (⟨"BedBook", "isPlant", "(I)Z"⟩, 26) := ⟨⟨by decide +kernel, by decide +kernel⟩, lw_t1 (List.mem_of_getElem? (i := 38) rfl), lw_t2 (List.mem_of_getElem? (i := 134) rfl), lw_t2 (List.mem_of_getElem? (i := 135) rfl)⟩
theorem lw_p6 : lw_okq (⟨"BedBook", "leadsBack", "(II)Z"⟩, 26) := ⟨⟨by decide +kernel, by decide +kernel⟩, lw_t1 (List.mem_of_getElem? (i := 38) rfl), lw_t3 (List.mem_of_getElem? (i := 19) rfl), lw_t3 (List.mem_of_getElem? (i := 20) rfl)⟩
theorem lw_p7 : lw_okq (⟨"BedBook", "isBed", "(I)Z"⟩, 26) := ⟨⟨by decide +kernel, by decide +kernel⟩, lw_t1 (List.mem_of_getElem? (i := 38) rfl), lw_t3 (List.mem_of_getElem? (i := 56) rfl), lw_t3 (List.mem_of_getElem? (i := 57) rfl)⟩
theorem lw_p8 : lw_okq (⟨"BedBook", "brings", "(I)I"⟩, 26) := ⟨⟨by decide +kernel, by decide +kernel⟩, lw_t1 (List.mem_of_getElem? (i := 38) rfl), lw_t3 (List.mem_of_getElem? (i := 80) rfl), lw_t3 (List.mem_of_getElem? (i := 81) rfl)⟩
theorem lw_p9 : lw_okq (⟨"BedBook", "price", "(II)I"⟩, 26) := ⟨⟨by decide +kernel, by decide +kernel⟩, lw_t1 (List.mem_of_getElem? (i := 38) rfl), lw_t3 (List.mem_of_getElem? (i := 84) rfl), lw_t3 (List.mem_of_getElem? (i := 85) rfl)⟩
theorem lw_p10 : lw_okq (⟨"BedBook", "goesOn", "(I)V"⟩, 26) := ⟨⟨by decide +kernel, by decide +kernel⟩, lw_t1 (List.mem_of_getElem? (i := 38) rfl), lw_t3 (List.mem_of_getElem? (i := 88) rfl), lw_t3 (List.mem_of_getElem? (i := 89) rfl)⟩
theorem lw_p11 : lw_okq (⟨"BedBook$Reader", "next", "()V"⟩, 7) := ⟨⟨by decide +kernel, by decide +kernel⟩, lw_t1 (List.mem_of_getElem? (i := 74) rfl), lw_t3 (List.mem_of_getElem? (i := 105) rfl), lw_t3 (List.mem_of_getElem? (i := 106) rfl)⟩
theorem lw_p12 : lw_okq (⟨"BedBook$Reader", "at", "(I)I"⟩, 7) := ⟨⟨by decide +kernel, by decide +kernel⟩, lw_t1 (List.mem_of_getElem? (i := 74) rfl), lw_t3 (List.mem_of_getElem? (i := 109) rfl), lw_t3 (List.mem_of_getElem? (i := 110) rfl)⟩
theorem lw_p13 : lw_okq (⟨"BedBook$Reader", "which", "(Ljava/lang/String;)I"⟩, 7) := ⟨⟨by decide +kernel, by decide +kernel⟩, lw_t1 (List.mem_of_getElem? (i := 74) rfl), lw_t3 (List.mem_of_getElem? (i := 209) rfl), lw_t3 (List.mem_of_getElem? (i := 210) rfl)⟩
theorem lw_p14 : lw_okq (⟨"BedBook$Reader", "wrong", "(I)LBedBook$Wrong;"⟩, 7) := ⟨⟨by decide +kernel, by decide +kernel⟩, lw_t1 (List.mem_of_getElem? (i := 74) rfl), lw_t3 (List.mem_of_getElem? (i := 233) rfl), lw_t3 (List.mem_of_getElem? (i := 234) rfl)⟩
theorem lw_p15 : lw_okq (⟨"java/lang/Throwable", "fillInStackTrace", "(I)Ljava/lang/Throwable;"⟩, 6) := ⟨⟨by decide +kernel, by decide +kernel⟩, lw_t4 (List.mem_of_getElem? (i := 34) rfl), lw_t4 (List.mem_of_getElem? (i := 32) rfl), lw_t4 (List.mem_of_getElem? (i := 33) rfl)⟩
def lw_privs_1 : List (MethodName × Nat) := [(⟨"BedBook", "isFull", "()Z"⟩, 26), (⟨"BedBook", "comes", "(LBedBook$Plant;)I"⟩, 26), (⟨"java/util/ArrayList", "add", "(Ljava/lang/Object;[Ljava/lang/Object;I)V"⟩, 3), (⟨"java/util/ArrayList", "grow", "()[Ljava/lang/Object;"⟩, 3), (⟨"java/util/ArrayList", "grow", "(I)[Ljava/lang/Object;"⟩, 3), (⟨"BedBook", "isPlant", "(I)Z"⟩, 26), (⟨"BedBook", "leadsBack", "(II)Z"⟩, 26), (⟨"BedBook", "isBed", "(I)Z"⟩, 26), (⟨"BedBook", "brings", "(I)I"⟩, 26), (⟨"BedBook", "price", "(II)I"⟩, 26), (⟨"BedBook", "goesOn", "(I)V"⟩, 26), (⟨"BedBook$Reader", "next", "()V"⟩, 7), (⟨"BedBook$Reader", "at", "(I)I"⟩, 7), (⟨"BedBook$Reader", "which", "(Ljava/lang/String;)I"⟩, 7), (⟨"BedBook$Reader", "wrong", "(I)LBedBook$Wrong;"⟩, 7), (⟨"java/lang/Throwable", "fillInStackTrace", "(I)Ljava/lang/Throwable;"⟩, 6)]
theorem lw_r1 : ∀ q ∈ lw_privs_1, lw_okq q := List.forall_mem_cons.mpr ⟨lw_p0, List.forall_mem_cons.mpr ⟨lw_p1, List.forall_mem_cons.mpr ⟨lw_p2, List.forall_mem_cons.mpr ⟨lw_p3, List.forall_mem_cons.mpr ⟨lw_p4, List.forall_mem_cons.mpr ⟨lw_p5, List.forall_mem_cons.mpr ⟨lw_p6, List.forall_mem_cons.mpr ⟨lw_p7, List.forall_mem_cons.mpr ⟨lw_p8, List.forall_mem_cons.mpr ⟨lw_p9, List.forall_mem_cons.mpr ⟨lw_p10, List.forall_mem_cons.mpr ⟨lw_p11, List.forall_mem_cons.mpr ⟨lw_p12, List.forall_mem_cons.mpr ⟨lw_p13, List.forall_mem_cons.mpr ⟨lw_p14, List.forall_mem_cons.mpr ⟨lw_p15, fun _ h => absurd h List.not_mem_nil⟩⟩⟩⟩⟩⟩⟩⟩⟩⟩⟩⟩⟩⟩⟩⟩
theorem lw_p16 : lw_okq (⟨"BedBook$Reader", "need", "(Ljava/lang/String;)V"⟩, 7) := ⟨⟨by decide +kernel, by decide +kernel⟩, lw_t1 (List.mem_of_getElem? (i := 74) rfl), lw_t4 (List.mem_of_getElem? (i := 68) rfl), lw_t4 (List.mem_of_getElem? (i := 69) rfl)⟩
theorem lw_p17 : lw_okq (⟨"BedBook$Reader", "e", "()LBedBook$Exp;"⟩, 7) := ⟨⟨by decide +kernel, by decide +kernel⟩, lw_t1 (List.mem_of_getElem? (i := 74) rfl), lw_t4 (List.mem_of_getElem? (i := 72) rfl), lw_t4 (List.mem_of_getElem? (i := 73) rfl)⟩
theorem lw_p18 : lw_okq (⟨"BedBook$Reader", "test", "()LBedBook$Exp;"⟩, 7) := ⟨⟨by decide +kernel, by decide +kernel⟩, lw_t1 (List.mem_of_getElem? (i := 74) rfl), lw_t4 (List.mem_of_getElem? (i := 76) rfl), lw_t4 (List.mem_of_getElem? (i := 77) rfl)⟩
theorem lw_p19 : lw_okq (⟨"BedBook$Reader", "sum", "()LBedBook$Exp;"⟩, 7) := ⟨⟨by decide +kernel, by decide +kernel⟩, lw_t1 (List.mem_of_getElem? (i := 74) rfl), lw_t4 (List.mem_of_getElem? (i := 80) rfl), lw_t4 (List.mem_of_getElem? (i := 81) rfl)⟩
theorem lw_p20 : lw_okq (⟨"BedBook$Reader", "part", "()LBedBook$Exp;"⟩, 7) := ⟨⟨by decide +kernel, by decide +kernel⟩, lw_t1 (List.mem_of_getElem? (i := 74) rfl), lw_t4 (List.mem_of_getElem? (i := 84) rfl), lw_t4 (List.mem_of_getElem? (i := 85) rfl)⟩
theorem lw_p21 : lw_okq (⟨"BedBook$Reader", "isSign", "(C)Z"⟩, 7) := ⟨⟨by decide +kernel, by decide +kernel⟩, lw_t1 (List.mem_of_getElem? (i := 74) rfl), lw_t4 (List.mem_of_getElem? (i := 89) rfl), lw_t4 (List.mem_of_getElem? (i := 90) rfl)⟩
theorem lw_p22 : lw_okq (⟨"BedBook$Reader", "need", "(C)V"⟩, 7) := ⟨⟨by decide +kernel, by decide +kernel⟩, lw_t1 (List.mem_of_getElem? (i := 74) rfl), lw_t4 (List.mem_of_getElem? (i := 116) rfl), lw_t4 (List.mem_of_getElem? (i := 117) rfl)⟩
theorem lw_p23 : lw_okq (⟨"BedBook", "nameOf", "(III)I"⟩, 26) := ⟨⟨by decide +kernel, by decide +kernel⟩, lw_t1 (List.mem_of_getElem? (i := 38) rfl), lw_t5 (List.mem_of_getElem? (i := 33) rfl), lw_t5 (List.mem_of_getElem? (i := 34) rfl)⟩
theorem lw_p24 : lw_okq (⟨"BedBook", "called", "(II)I"⟩, 26) := ⟨⟨by decide +kernel, by decide +kernel⟩, lw_t1 (List.mem_of_getElem? (i := 38) rfl), lw_t5 (List.mem_of_getElem? (i := 37) rfl), lw_t5 (List.mem_of_getElem? (i := 38) rfl)⟩
theorem lw_p25 : lw_okq (⟨"BedBookModel", "lay", "(J)V"⟩, 56) := ⟨⟨by decide +kernel, by decide +kernel⟩, lw_t5 (List.mem_of_getElem? (i := 201) rfl), lw_t5 (List.mem_of_getElem? (i := 199) rfl), lw_t5 (List.mem_of_getElem? (i := 200) rfl)⟩
theorem lw_p26 : lw_okq (⟨"BedBookModel", "cutAll", "()V"⟩, 56) := ⟨⟨by decide +kernel, by decide +kernel⟩, lw_t5 (List.mem_of_getElem? (i := 201) rfl), lw_t6 (List.mem_of_getElem? (i := 155) rfl), lw_t6 (List.mem_of_getElem? (i := 156) rfl)⟩
theorem lw_p27 : lw_okq (⟨"BedBookModel", "line", "()V"⟩, 56) := ⟨⟨by decide +kernel, by decide +kernel⟩, lw_t5 (List.mem_of_getElem? (i := 201) rfl), lw_t6 (List.mem_of_getElem? (i := 174) rfl), lw_t6 (List.mem_of_getElem? (i := 175) rfl)⟩
theorem lw_p28 : lw_okq (⟨"BedBookModel", "isWord", "(I)Z"⟩, 56) := ⟨⟨by decide +kernel, by decide +kernel⟩, lw_t5 (List.mem_of_getElem? (i := 201) rfl), lw_t6 (List.mem_of_getElem? (i := 178) rfl), lw_t6 (List.mem_of_getElem? (i := 179) rfl)⟩
theorem lw_p29 : lw_okq (⟨"BedBookModel", "wrong", "(I)V"⟩, 56) := ⟨⟨by decide +kernel, by decide +kernel⟩, lw_t5 (List.mem_of_getElem? (i := 201) rfl), lw_t6 (List.mem_of_getElem? (i := 182) rfl), lw_t6 (List.mem_of_getElem? (i := 183) rfl)⟩
theorem lw_p30 : lw_okq (⟨"BedBookModel", "takeWord", "(I)V"⟩, 56) := ⟨⟨by decide +kernel, by decide +kernel⟩, lw_t5 (List.mem_of_getElem? (i := 201) rfl), lw_t6 (List.mem_of_getElem? (i := 186) rfl), lw_t6 (List.mem_of_getElem? (i := 187) rfl)⟩
theorem lw_p31 : lw_okq (⟨"BedBookModel", "hasWord", "(I)Z"⟩, 56) := ⟨⟨by decide +kernel, by decide +kernel⟩, lw_t5 (List.mem_of_getElem? (i := 201) rfl), lw_t6 (List.mem_of_getElem? (i := 190) rfl), lw_t6 (List.mem_of_getElem? (i := 191) rfl)⟩
def lw_privs_2 : List (MethodName × Nat) := [(⟨"BedBook$Reader", "need", "(Ljava/lang/String;)V"⟩, 7), (⟨"BedBook$Reader", "e", "()LBedBook$Exp;"⟩, 7), (⟨"BedBook$Reader", "test", "()LBedBook$Exp;"⟩, 7), (⟨"BedBook$Reader", "sum", "()LBedBook$Exp;"⟩, 7), (⟨"BedBook$Reader", "part", "()LBedBook$Exp;"⟩, 7), (⟨"BedBook$Reader", "isSign", "(C)Z"⟩, 7), (⟨"BedBook$Reader", "need", "(C)V"⟩, 7), (⟨"BedBook", "nameOf", "(III)I"⟩, 26), (⟨"BedBook", "called", "(II)I"⟩, 26), (⟨"BedBookModel", "lay", "(J)V"⟩, 56), (⟨"BedBookModel", "cutAll", "()V"⟩, 56), (⟨"BedBookModel", "line", "()V"⟩, 56), (⟨"BedBookModel", "isWord", "(I)Z"⟩, 56), (⟨"BedBookModel", "wrong", "(I)V"⟩, 56), (⟨"BedBookModel", "takeWord", "(I)V"⟩, 56), (⟨"BedBookModel", "hasWord", "(I)Z"⟩, 56)]
theorem lw_r2 : ∀ q ∈ lw_privs_2, lw_okq q := List.forall_mem_cons.mpr ⟨lw_p16, List.forall_mem_cons.mpr ⟨lw_p17, List.forall_mem_cons.mpr ⟨lw_p18, List.forall_mem_cons.mpr ⟨lw_p19, List.forall_mem_cons.mpr ⟨lw_p20, List.forall_mem_cons.mpr ⟨lw_p21, List.forall_mem_cons.mpr ⟨lw_p22, List.forall_mem_cons.mpr ⟨lw_p23, List.forall_mem_cons.mpr ⟨lw_p24, List.forall_mem_cons.mpr ⟨lw_p25, List.forall_mem_cons.mpr ⟨lw_p26, List.forall_mem_cons.mpr ⟨lw_p27, List.forall_mem_cons.mpr ⟨lw_p28, List.forall_mem_cons.mpr ⟨lw_p29, List.forall_mem_cons.mpr ⟨lw_p30, List.forall_mem_cons.mpr ⟨lw_p31, fun _ h => absurd h List.not_mem_nil⟩⟩⟩⟩⟩⟩⟩⟩⟩⟩⟩⟩⟩⟩⟩⟩
theorem lw_p32 : lw_okq (⟨"BedBookModel", "opens", "()V"⟩, 56) := ⟨⟨by decide +kernel, by decide +kernel⟩, lw_t5 (List.mem_of_getElem? (i := 201) rfl), lw_t6 (List.mem_of_getElem? (i := 194) rfl), lw_t6 (List.mem_of_getElem? (i := 195) rfl)⟩
theorem lw_p33 : lw_okq (⟨"BedBookModel", "part", "()Z"⟩, 56) := ⟨⟨by decide +kernel, by decide +kernel⟩, lw_t5 (List.mem_of_getElem? (i := 201) rfl), lw_t6 (List.mem_of_getElem? (i := 198) rfl), lw_t6 (List.mem_of_getElem? (i := 199) rfl)⟩
theorem lw_p34 : lw_okq (⟨"BedBookModel", "partWord", "()I"⟩, 56) := ⟨⟨by decide +kernel, by decide +kernel⟩, lw_t5 (List.mem_of_getElem? (i := 201) rfl), lw_t6 (List.mem_of_getElem? (i := 202) rfl), lw_t6 (List.mem_of_getElem? (i := 203) rfl)⟩
theorem lw_p35 : lw_okq (⟨"BedBookModel", "isSign", "(I)Z"⟩, 56) := ⟨⟨by decide +kernel, by decide +kernel⟩, lw_t5 (List.mem_of_getElem? (i := 201) rfl), lw_t6 (List.mem_of_getElem? (i := 206) rfl), lw_t6 (List.mem_of_getElem? (i := 207) rfl)⟩
theorem lw_p36 : lw_okq (⟨"BedBookModel", "hasSign", "(I)Z"⟩, 56) := ⟨⟨by decide +kernel, by decide +kernel⟩, lw_t5 (List.mem_of_getElem? (i := 201) rfl), lw_t6 (List.mem_of_getElem? (i := 210) rfl), lw_t6 (List.mem_of_getElem? (i := 211) rfl)⟩
theorem lw_p37 : lw_okq (⟨"BedBookModel", "emit", "(II)V"⟩, 56) := ⟨⟨by decide +kernel, by decide +kernel⟩, lw_t5 (List.mem_of_getElem? (i := 201) rfl), lw_t6 (List.mem_of_getElem? (i := 214) rfl), lw_t6 (List.mem_of_getElem? (i := 215) rfl)⟩
theorem lw_p38 : lw_okq (⟨"BedBookModel", "goesOnBehind", "()Z"⟩, 56) := ⟨⟨by decide +kernel, by decide +kernel⟩, lw_t5 (List.mem_of_getElem? (i := 201) rfl), lw_t6 (List.mem_of_getElem? (i := 218) rfl), lw_t6 (List.mem_of_getElem? (i := 219) rfl)⟩
theorem lw_p39 : lw_okq (⟨"BedBookModel", "takeSign", "(I)V"⟩, 56) := ⟨⟨by decide +kernel, by decide +kernel⟩, lw_t5 (List.mem_of_getElem? (i := 201) rfl), lw_t6 (List.mem_of_getElem? (i := 222) rfl), lw_t6 (List.mem_of_getElem? (i := 223) rfl)⟩
theorem lw_p40 : lw_okq (⟨"BedBookModel", "grows", "(IIII)I"⟩, 56) := ⟨⟨by decide +kernel, by decide +kernel⟩, lw_t5 (List.mem_of_getElem? (i := 201) rfl), lw_t6 (List.mem_of_getElem? (i := 237) rfl), lw_t6 (List.mem_of_getElem? (i := 238) rfl)⟩
theorem lw_p41 : lw_okq (⟨"BedBookModel", "isPlant", "(I)Z"⟩, 56) := ⟨⟨by decide +kernel, by decide +kernel⟩, lw_t5 (List.mem_of_getElem? (i := 201) rfl), lw_t7 (List.mem_of_getElem? (i := 5) rfl), lw_t7 (List.mem_of_getElem? (i := 6) rfl)⟩
theorem lw_p42 : lw_okq (⟨"BedBookModel", "fitsAs", "(II)Z"⟩, 56) := ⟨⟨by decide +kernel, by decide +kernel⟩, lw_t5 (List.mem_of_getElem? (i := 201) rfl), lw_t7 (List.mem_of_getElem? (i := 25) rfl), lw_t7 (List.mem_of_getElem? (i := 26) rfl)⟩
theorem lw_p43 : lw_okq (⟨"BedBookModel", "markOf", "(III)I"⟩, 56) := ⟨⟨by decide +kernel, by decide +kernel⟩, lw_t5 (List.mem_of_getElem? (i := 201) rfl), lw_t7 (List.mem_of_getElem? (i := 29) rfl), lw_t7 (List.mem_of_getElem? (i := 30) rfl)⟩
theorem lw_p44 : lw_okq (⟨"BedBookModel", "hasMark", "(III)Z"⟩, 56) := ⟨⟨by decide +kernel, by decide +kernel⟩, lw_t5 (List.mem_of_getElem? (i := 201) rfl), lw_t7 (List.mem_of_getElem? (i := 33) rfl), lw_t7 (List.mem_of_getElem? (i := 34) rfl)⟩
theorem lw_p45 : lw_okq (⟨"BedBookModel", "leadsBack", "(II)Z"⟩, 56) := ⟨⟨by decide +kernel, by decide +kernel⟩, lw_t5 (List.mem_of_getElem? (i := 201) rfl), lw_t7 (List.mem_of_getElem? (i := 52) rfl), lw_t7 (List.mem_of_getElem? (i := 53) rfl)⟩
theorem lw_p46 : lw_okq (⟨"BedBookModel", "joinedTo", "(II)I"⟩, 56) := ⟨⟨by decide +kernel, by decide +kernel⟩, lw_t5 (List.mem_of_getElem? (i := 201) rfl), lw_t7 (List.mem_of_getElem? (i := 56) rfl), lw_t7 (List.mem_of_getElem? (i := 57) rfl)⟩
theorem lw_p47 : lw_okq (⟨"BedBookModel", "nameOf", "(III)I"⟩, 56) := ⟨⟨by decide +kernel, by decide +kernel⟩, lw_t5 (List.mem_of_getElem? (i := 201) rfl), lw_t7 (List.mem_of_getElem? (i := 64) rfl), lw_t7 (List.mem_of_getElem? (i := 65) rfl)⟩
def lw_privs_3 : List (MethodName × Nat) := [(⟨"BedBookModel", "opens", "()V"⟩, 56), (⟨"BedBookModel", "part", "()Z"⟩, 56), (⟨"BedBookModel", "partWord", "()I"⟩, 56), (⟨"BedBookModel", "isSign", "(I)Z"⟩, 56), (⟨"BedBookModel", "hasSign", "(I)Z"⟩, 56), (⟨"BedBookModel", "emit", "(II)V"⟩, 56), (⟨"BedBookModel", "goesOnBehind", "()Z"⟩, 56), (⟨"BedBookModel", "takeSign", "(I)V"⟩, 56), (⟨"BedBookModel", "grows", "(IIII)I"⟩, 56), (⟨"BedBookModel", "isPlant", "(I)Z"⟩, 56), (⟨"BedBookModel", "fitsAs", "(II)Z"⟩, 56), (⟨"BedBookModel", "markOf", "(III)I"⟩, 56), (⟨"BedBookModel", "hasMark", "(III)Z"⟩, 56), (⟨"BedBookModel", "leadsBack", "(II)Z"⟩, 56), (⟨"BedBookModel", "joinedTo", "(II)I"⟩, 56), (⟨"BedBookModel", "nameOf", "(III)I"⟩, 56)]
theorem lw_r3 : ∀ q ∈ lw_privs_3, lw_okq q := List.forall_mem_cons.mpr ⟨lw_p32, List.forall_mem_cons.mpr ⟨lw_p33, List.forall_mem_cons.mpr ⟨lw_p34, List.forall_mem_cons.mpr ⟨lw_p35, List.forall_mem_cons.mpr ⟨lw_p36, List.forall_mem_cons.mpr ⟨lw_p37, List.forall_mem_cons.mpr ⟨lw_p38, List.forall_mem_cons.mpr ⟨lw_p39, List.forall_mem_cons.mpr ⟨lw_p40, List.forall_mem_cons.mpr ⟨lw_p41, List.forall_mem_cons.mpr ⟨lw_p42, List.forall_mem_cons.mpr ⟨lw_p43, List.forall_mem_cons.mpr ⟨lw_p44, List.forall_mem_cons.mpr ⟨lw_p45, List.forall_mem_cons.mpr ⟨lw_p46, List.forall_mem_cons.mpr ⟨lw_p47, fun _ h => absurd h List.not_mem_nil⟩⟩⟩⟩⟩⟩⟩⟩⟩⟩⟩⟩⟩⟩⟩⟩
theorem lw_p48 : lw_okq (⟨"BedBookModel", "leads", "(II)I"⟩, 56) := ⟨⟨by decide +kernel, by decide +kernel⟩, lw_t5 (List.mem_of_getElem? (i := 201) rfl), lw_t7 (List.mem_of_getElem? (i := 68) rfl), lw_t7 (List.mem_of_getElem? (i := 69) rfl)⟩
theorem lw_p49 : lw_okq (⟨"BedBookModel", "isBed", "(I)Z"⟩, 56) := ⟨⟨by decide +kernel, by decide +kernel⟩, lw_t5 (List.mem_of_getElem? (i := 201) rfl), lw_t7 (List.mem_of_getElem? (i := 83) rfl), lw_t7 (List.mem_of_getElem? (i := 84) rfl)⟩
theorem lw_p50 : lw_okq (⟨"BedBookModel", "suits", "(II)Z"⟩, 56) := ⟨⟨by decide +kernel, by decide +kernel⟩, lw_t5 (List.mem_of_getElem? (i := 201) rfl), lw_t7 (List.mem_of_getElem? (i := 95) rfl), lw_t7 (List.mem_of_getElem? (i := 96) rfl)⟩
theorem lw_p51 : lw_okq (⟨"BedBookModel", "comes", "(I)Z"⟩, 56) := ⟨⟨by decide +kernel, by decide +kernel⟩, lw_t5 (List.mem_of_getElem? (i := 201) rfl), lw_t7 (List.mem_of_getElem? (i := 103) rfl), lw_t7 (List.mem_of_getElem? (i := 104) rfl)⟩
theorem lw_p52 : lw_okq (⟨"BedBookModel", "begins", "(I)V"⟩, 56) := ⟨⟨by decide +kernel, by decide +kernel⟩, lw_t5 (List.mem_of_getElem? (i := 201) rfl), lw_t7 (List.mem_of_getElem? (i := 107) rfl), lw_t7 (List.mem_of_getElem? (i := 108) rfl)⟩
theorem lw_p53 : lw_okq (⟨"BedBookModel", "costOf", "(II)I"⟩, 56) := ⟨⟨by decide +kernel, by decide +kernel⟩, lw_t5 (List.mem_of_getElem? (i := 201) rfl), lw_t7 (List.mem_of_getElem? (i := 111) rfl), lw_t7 (List.mem_of_getElem? (i := 112) rfl)⟩
theorem lw_p54 : lw_okq (⟨"BedBookModel", "isSending", "(III)Z"⟩, 56) := ⟨⟨by decide +kernel, by decide +kernel⟩, lw_t5 (List.mem_of_getElem? (i := 201) rfl), lw_t7 (List.mem_of_getElem? (i := 120) rfl), lw_t7 (List.mem_of_getElem? (i := 121) rfl)⟩
theorem lw_p55 : lw_okq (⟨"BedBookModel", "lets", "(III)Z"⟩, 56) := ⟨⟨by decide +kernel, by decide +kernel⟩, lw_t5 (List.mem_of_getElem? (i := 201) rfl), lw_t7 (List.mem_of_getElem? (i := 124) rfl), lw_t7 (List.mem_of_getElem? (i := 125) rfl)⟩
theorem lw_p56 : lw_okq (⟨"BedBookModel", "rootOf", "(I)I"⟩, 56) := ⟨⟨by decide +kernel, by decide +kernel⟩, lw_t5 (List.mem_of_getElem? (i := 201) rfl), lw_t7 (List.mem_of_getElem? (i := 128) rfl), lw_t7 (List.mem_of_getElem? (i := 129) rfl)⟩
theorem lw_p57 : lw_okq (⟨"BedBookModel", "isCut", "(I)Z"⟩, 56) := ⟨⟨by decide +kernel, by decide +kernel⟩, lw_t5 (List.mem_of_getElem? (i := 201) rfl), lw_t7 (List.mem_of_getElem? (i := 132) rfl), lw_t7 (List.mem_of_getElem? (i := 133) rfl)⟩
theorem lw_p58 : lw_okq (⟨"BedBookModel", "worth", "(I)I"⟩, 56) := ⟨⟨by decide +kernel, by decide +kernel⟩, lw_t5 (List.mem_of_getElem? (i := 201) rfl), lw_t7 (List.mem_of_getElem? (i := 136) rfl), lw_t7 (List.mem_of_getElem? (i := 137) rfl)⟩
theorem lw_p59 : lw_okq (⟨"BedBookModel", "checks", "(I)Z"⟩, 56) := ⟨⟨by decide +kernel, by decide +kernel⟩, lw_t5 (List.mem_of_getElem? (i := 201) rfl), lw_t7 (List.mem_of_getElem? (i := 156) rfl), lw_t7 (List.mem_of_getElem? (i := 157) rfl)⟩
def lw_privs_4 : List (MethodName × Nat) := [(⟨"BedBookModel", "leads", "(II)I"⟩, 56), (⟨"BedBookModel", "isBed", "(I)Z"⟩, 56), (⟨"BedBookModel", "suits", "(II)Z"⟩, 56), (⟨"BedBookModel", "comes", "(I)Z"⟩, 56), (⟨"BedBookModel", "begins", "(I)V"⟩, 56), (⟨"BedBookModel", "costOf", "(II)I"⟩, 56), (⟨"BedBookModel", "isSending", "(III)Z"⟩, 56), (⟨"BedBookModel", "lets", "(III)Z"⟩, 56), (⟨"BedBookModel", "rootOf", "(I)I"⟩, 56), (⟨"BedBookModel", "isCut", "(I)Z"⟩, 56), (⟨"BedBookModel", "worth", "(I)I"⟩, 56), (⟨"BedBookModel", "checks", "(I)Z"⟩, 56)]
theorem lw_r4 : ∀ q ∈ lw_privs_4, lw_okq q := List.forall_mem_cons.mpr ⟨lw_p48, List.forall_mem_cons.mpr ⟨lw_p49, List.forall_mem_cons.mpr ⟨lw_p50, List.forall_mem_cons.mpr ⟨lw_p51, List.forall_mem_cons.mpr ⟨lw_p52, List.forall_mem_cons.mpr ⟨lw_p53, List.forall_mem_cons.mpr ⟨lw_p54, List.forall_mem_cons.mpr ⟨lw_p55, List.forall_mem_cons.mpr ⟨lw_p56, List.forall_mem_cons.mpr ⟨lw_p57, List.forall_mem_cons.mpr ⟨lw_p58, List.forall_mem_cons.mpr ⟨lw_p59, fun _ h => absurd h List.not_mem_nil⟩⟩⟩⟩⟩⟩⟩⟩⟩⟩⟩⟩
def lw_privs : List (MethodName × Nat) := lw_privs_1 ++ (lw_privs_2 ++ (lw_privs_3 ++ (lw_privs_4)))
def lw_tbl : List Cond := k2_sels lw_privs ++ tables_1
theorem lw_privs_ok : ∀ q ∈ lw_privs, lw_okq q := by
  show ∀ q ∈ lw_privs_1 ++ (lw_privs_2 ++ (lw_privs_3 ++ (lw_privs_4))), lw_okq q
  exact List.forall_mem_append.mpr ⟨lw_r1, List.forall_mem_append.mpr ⟨lw_r2, List.forall_mem_append.mpr ⟨lw_r3, lw_r4⟩⟩⟩
-- ===== ONE list of words for every method: the tables' words that hold all through a run =====
def lw_all : List Cond := lw_tbl.filter goodWord
/-- a word of the tables by its place: claim/WORDS.tsv -/
theorem lw_w {w : Cond} (i : Nat) (h : lw_tbl[i]? = some w) (g : goodWord w = true) : w ∈ lw_all := List.mem_filter.mpr ⟨List.mem_of_getElem? h, g⟩
theorem lw_all_tbl {w : Cond} (h : w ∈ lw_all) : w ∈ lw_tbl := (List.mem_filter.mp h).1
theorem lw_self : GoodIn lw_all lw_all := fun w h => ⟨h, good_of_word (List.mem_filter.mp h).2⟩
/-- a class's field words, by their places -/
theorem lw_in (ws : List Cond) (ps : List Nat) (hp : ws = ps.filterMap (fun i => lw_tbl[i]?)) (hg : ws.all goodWord = true) : ∀ w ∈ ws, w ∈ lw_all := by
  intro w h
  have h1 := List.all_eq_true.mp hg w h
  rw [hp] at h
  obtain ⟨i, -, hi⟩ := List.mem_filterMap.mp h
  exact lw_w i hi h1
/-- the words of a contract for the method y with code b, L locals, answer r -/
abbrev ws_ (y : MethodName) (b : ByteArray) (L : Nat) (r : Option FieldType) : List Cond := Cond.code y b L r :: lw_all
theorem lw_meth {y : MethodName} {b : ByteArray} {L : Nat} {r : Option FieldType} (h : Cond.code y b L r ∈ lw_all) : GoodIn lw_all (ws_ y b L r) := by
  intro w hw
  rcases List.mem_cons.mp hw with e | e
  · rw [e]
    exact lw_self _ h
  · exact lw_self _ e
theorem lw_app {a c : List Cond} (ha : ∀ w ∈ a, w ∈ lw_all) (hc : GoodIn lw_all c) : GoodIn lw_all (a ++ c) := by
  intro w hw
  rcases List.mem_append.mp hw with e | e
  · exact lw_self w (ha w e)
  · exact hc w e
/-- what a call through an object asks: cwV n hts (lw_V ..) -/
theorem lw_V {own : String} {idx : Nat} {C : String} {y : MethodName} {b : ByteArray} {L : Nat} {r : Option FieldType} (h1 : Cond.methodLink own idx y ∈ lw_all) (h2 : Cond.instanceMethod y ∈ lw_all) (h3 : Cond.selects C y y ∈ lw_all) (h4 : Cond.initialized C ∈ lw_all) (h5 : Cond.code y b L r ∈ lw_all) : GoodIn lw_all (wsV own idx C y (ws_ y b L r)) := by
  refine lw_app ?_ (lw_meth h5)
  intro w hw
  simp only [List.mem_cons, List.not_mem_nil, or_false] at hw
  rcases hw with e | e | e | e
  · rw [e]; exact h1
  · rw [e]; exact h2
  · rw [e]; exact h3
  · rw [e]; exact h4
/-- what a static call asks: va_cwS n hts (lw_S ..) -/
theorem lw_S {own : String} {idx : Nat} {y : MethodName} {b : ByteArray} {L : Nat} {r : Option FieldType} (h1 : Cond.methodLink own idx y ∈ lw_all) (h2 : Cond.static y ∈ lw_all) (h3 : Cond.initialized y.cls ∈ lw_all) (h4 : Cond.code y b L r ∈ lw_all) : GoodIn lw_all (va_wsS own idx y (ws_ y b L r)) := by
  refine lw_app ?_ (lw_meth h4)
  intro w hw
  simp only [List.mem_cons, List.not_mem_nil, or_false] at hw
  rcases hw with e | e | e
  · rw [e]; exact h1
  · rw [e]; exact h2
  · rw [e]; exact h3
/-- the words of a contract for a method WITH HANDLERS (hh: its table) -/
abbrev wsW_ (y : MethodName) (b : ByteArray) (L : Nat) (r : Option FieldType) (hh : List (Nat × Nat × Nat × Nat)) : List Cond := Cond.codeWith y b L r hh :: lw_all
theorem lw_methW {y : MethodName} {b : ByteArray} {L : Nat} {r : Option FieldType} {hh : List (Nat × Nat × Nat × Nat)} (h : Cond.codeWith y b L r hh ∈ lw_all) : GoodIn lw_all (wsW_ y b L r hh) := by
  intro w hw
  rcases List.mem_cons.mp hw with e | e
  · rw [e]
    exact lw_self _ h
  · exact lw_self _ e
/-- any list of words by their places (lw_in), good -/
theorem lw_good {ws : List Cond} (h : ∀ w ∈ ws, w ∈ lw_all) : GoodIn lw_all ws := fun w hw => lw_self w (h w hw)
/-- what a call of a method with handlers asks: vx_cwVW n hts (lw_VW ..), vx_cwSW n hts (lw_SW ..) -/
theorem lw_VW {own : String} {idx : Nat} {C : String} {y : MethodName} {b : ByteArray} {L : Nat} {r : Option FieldType} {hh : List (Nat × Nat × Nat × Nat)} (h1 : Cond.methodLink own idx y ∈ lw_all) (h2 : Cond.instanceMethod y ∈ lw_all) (h3 : Cond.selects C y y ∈ lw_all) (h4 : Cond.initialized C ∈ lw_all) (h5 : Cond.codeWith y b L r hh ∈ lw_all) : GoodIn lw_all (wsV own idx C y (wsW_ y b L r hh)) := by
  refine lw_app ?_ (lw_methW h5)
  intro w hw
  simp only [List.mem_cons, List.not_mem_nil, or_false] at hw
  rcases hw with e | e | e | e
  · rw [e]; exact h1
  · rw [e]; exact h2
  · rw [e]; exact h3
  · rw [e]; exact h4
theorem lw_SW {own : String} {idx : Nat} {y : MethodName} {b : ByteArray} {L : Nat} {r : Option FieldType} {hh : List (Nat × Nat × Nat × Nat)} (h1 : Cond.methodLink own idx y ∈ lw_all) (h2 : Cond.static y ∈ lw_all) (h3 : Cond.initialized y.cls ∈ lw_all) (h4 : Cond.codeWith y b L r hh ∈ lw_all) : GoodIn lw_all (va_wsS own idx y (wsW_ y b L r hh)) := by
  refine lw_app ?_ (lw_methW h4)
  intro w hw
  simp only [List.mem_cons, List.not_mem_nil, or_false] at hw
  rcases hw with e | e | e
  · rw [e]; exact h1
  · rw [e]; exact h2
  · rw [e]; exact h3
/-- a word by its place in its run of the tables -/
theorem lw_at {r : List Cond} (hr : ∀ w ∈ r, w ∈ lw_tbl) {w : Cond} (i : Nat) (h : r[i]? = some w) : w ∈ lw_tbl := hr w (List.mem_of_getElem? h)
theorem lw_g {w : Cond} (h : w ∈ lw_tbl) (g : goodWord w = true) : w ∈ lw_all := List.mem_filter.mpr ⟨h, g⟩
theorem lw_ms : ∀ w ∈ k2_sels lw_privs, w ∈ lw_tbl := fun w h => show w ∈ k2_sels lw_privs ++ tables_1 from List.mem_append_left _ h
theorem lw_m1 : ∀ w ∈ tables_1_1, w ∈ lw_tbl := fun w h => show w ∈ k2_sels lw_privs ++ tables_1 from List.mem_append_right (k2_sels lw_privs) (show w ∈ tables_1 from List.mem_append_left _ h)
theorem lw_m2 : ∀ w ∈ tables_1_2, w ∈ lw_tbl := fun w h => show w ∈ k2_sels lw_privs ++ tables_1 from List.mem_append_right (k2_sels lw_privs) (show w ∈ tables_1 from List.mem_append_right _ (List.mem_append_left _ h))
theorem lw_m3 : ∀ w ∈ tables_1_3, w ∈ lw_tbl := fun w h => show w ∈ k2_sels lw_privs ++ tables_1 from List.mem_append_right (k2_sels lw_privs) (show w ∈ tables_1 from List.mem_append_right _ (List.mem_append_right _ (List.mem_append_left _ h)))
theorem lw_m4 : ∀ w ∈ tables_1_4, w ∈ lw_tbl := fun w h => show w ∈ k2_sels lw_privs ++ tables_1 from List.mem_append_right (k2_sels lw_privs) (show w ∈ tables_1 from List.mem_append_right _ (List.mem_append_right _ (List.mem_append_right _ (List.mem_append_left _ h))))
theorem lw_m5 : ∀ w ∈ tables_1_5, w ∈ lw_tbl := fun w h => show w ∈ k2_sels lw_privs ++ tables_1 from List.mem_append_right (k2_sels lw_privs) (show w ∈ tables_1 from List.mem_append_right _ (List.mem_append_right _ (List.mem_append_right _ (List.mem_append_right _ (List.mem_append_left _ h)))))
theorem lw_m6 : ∀ w ∈ tables_1_6, w ∈ lw_tbl := fun w h => show w ∈ k2_sels lw_privs ++ tables_1 from List.mem_append_right (k2_sels lw_privs) (show w ∈ tables_1 from List.mem_append_right _ (List.mem_append_right _ (List.mem_append_right _ (List.mem_append_right _ (List.mem_append_right _ (List.mem_append_left _ h))))))
theorem lw_m7 : ∀ w ∈ tables_1_7, w ∈ lw_tbl := fun w h => show w ∈ k2_sels lw_privs ++ tables_1 from List.mem_append_right (k2_sels lw_privs) (show w ∈ tables_1 from List.mem_append_right _ (List.mem_append_right _ (List.mem_append_right _ (List.mem_append_right _ (List.mem_append_right _ (List.mem_append_right _ h))))))
theorem qs0 : (Cond.selects "BedBook" ⟨"BedBook", "isFull", "()Z"⟩ ⟨"BedBook", "isFull", "()Z"⟩) ∈ lw_all := lw_g (lw_at lw_ms 0 rfl) rfl
theorem qs1 : (Cond.selects "BedBook" ⟨"BedBook", "comes", "(LBedBook$Plant;)I"⟩ ⟨"BedBook", "comes", "(LBedBook$Plant;)I"⟩) ∈ lw_all := lw_g (lw_at lw_ms 1 rfl) rfl
theorem qs2 : (Cond.selects "java/util/ArrayList" ⟨"java/util/ArrayList", "add", "(Ljava/lang/Object;[Ljava/lang/Object;I)V"⟩ ⟨"java/util/ArrayList", "add", "(Ljava/lang/Object;[Ljava/lang/Object;I)V"⟩) ∈ lw_all := lw_g (lw_at lw_ms 2 rfl) rfl
theorem qs3 : (Cond.selects "java/util/ArrayList" ⟨"java/util/ArrayList", "grow", "()[Ljava/lang/Object;"⟩ ⟨"java/util/ArrayList", "grow", "()[Ljava/lang/Object;"⟩) ∈ lw_all := lw_g (lw_at lw_ms 3 rfl) rfl
theorem qs4 : (Cond.selects "java/util/ArrayList" ⟨"java/util/ArrayList", "grow", "(I)[Ljava/lang/Object;"⟩ ⟨"java/util/ArrayList", "grow", "(I)[Ljava/lang/Object;"⟩) ∈ lw_all := lw_g (lw_at lw_ms 4 rfl) rfl
theorem qs5 : (Cond.selects "BedBook" ⟨"BedBook", "isPlant", "(I)Z"⟩ ⟨"BedBook", "isPlant", "(I)Z"⟩) ∈ lw_all := lw_g (lw_at lw_ms 5 rfl) rfl
theorem qs6 : (Cond.selects "BedBook" ⟨"BedBook", "leadsBack", "(II)Z"⟩ ⟨"BedBook", "leadsBack", "(II)Z"⟩) ∈ lw_all := lw_g (lw_at lw_ms 6 rfl) rfl
theorem qs7 : (Cond.selects "BedBook" ⟨"BedBook", "isBed", "(I)Z"⟩ ⟨"BedBook", "isBed", "(I)Z"⟩) ∈ lw_all := lw_g (lw_at lw_ms 7 rfl) rfl
theorem qs8 : (Cond.selects "BedBook" ⟨"BedBook", "brings", "(I)I"⟩ ⟨"BedBook", "brings", "(I)I"⟩) ∈ lw_all := lw_g (lw_at lw_ms 8 rfl) rfl
theorem qs9 : (Cond.selects "BedBook" ⟨"BedBook", "price", "(II)I"⟩ ⟨"BedBook", "price", "(II)I"⟩) ∈ lw_all := lw_g (lw_at lw_ms 9 rfl) rfl
theorem qs10 : (Cond.selects "BedBook" ⟨"BedBook", "goesOn", "(I)V"⟩ ⟨"BedBook", "goesOn", "(I)V"⟩) ∈ lw_all := lw_g (lw_at lw_ms 10 rfl) rfl
theorem qs11 : (Cond.selects "BedBook$Reader" ⟨"BedBook$Reader", "next", "()V"⟩ ⟨"BedBook$Reader", "next", "()V"⟩) ∈ lw_all := lw_g (lw_at lw_ms 11 rfl) rfl
theorem qs12 : (Cond.selects "BedBook$Reader" ⟨"BedBook$Reader", "at", "(I)I"⟩ ⟨"BedBook$Reader", "at", "(I)I"⟩) ∈ lw_all := lw_g (lw_at lw_ms 12 rfl) rfl
theorem qs13 : (Cond.selects "BedBook$Reader" ⟨"BedBook$Reader", "which", "(Ljava/lang/String;)I"⟩ ⟨"BedBook$Reader", "which", "(Ljava/lang/String;)I"⟩) ∈ lw_all := lw_g (lw_at lw_ms 13 rfl) rfl
theorem qs14 : (Cond.selects "BedBook$Reader" ⟨"BedBook$Reader", "wrong", "(I)LBedBook$Wrong;"⟩ ⟨"BedBook$Reader", "wrong", "(I)LBedBook$Wrong;"⟩) ∈ lw_all := lw_g (lw_at lw_ms 14 rfl) rfl
theorem qs15 : (Cond.selects "java/lang/Throwable" ⟨"java/lang/Throwable", "fillInStackTrace", "(I)Ljava/lang/Throwable;"⟩ ⟨"java/lang/Throwable", "fillInStackTrace", "(I)Ljava/lang/Throwable;"⟩) ∈ lw_all := lw_g (lw_at lw_ms 15 rfl) rfl
theorem qs16 : (Cond.selects "BedBook$Reader" ⟨"BedBook$Reader", "need", "(Ljava/lang/String;)V"⟩ ⟨"BedBook$Reader", "need", "(Ljava/lang/String;)V"⟩) ∈ lw_all := lw_g (lw_at lw_ms 16 rfl) rfl
theorem qs17 : (Cond.selects "BedBook$Reader" ⟨"BedBook$Reader", "e", "()LBedBook$Exp;"⟩ ⟨"BedBook$Reader", "e", "()LBedBook$Exp;"⟩) ∈ lw_all := lw_g (lw_at lw_ms 17 rfl) rfl
theorem qs18 : (Cond.selects "BedBook$Reader" ⟨"BedBook$Reader", "test", "()LBedBook$Exp;"⟩ ⟨"BedBook$Reader", "test", "()LBedBook$Exp;"⟩) ∈ lw_all := lw_g (lw_at lw_ms 18 rfl) rfl
theorem qs19 : (Cond.selects "BedBook$Reader" ⟨"BedBook$Reader", "sum", "()LBedBook$Exp;"⟩ ⟨"BedBook$Reader", "sum", "()LBedBook$Exp;"⟩) ∈ lw_all := lw_g (lw_at lw_ms 19 rfl) rfl
theorem qs20 : (Cond.selects "BedBook$Reader" ⟨"BedBook$Reader", "part", "()LBedBook$Exp;"⟩ ⟨"BedBook$Reader", "part", "()LBedBook$Exp;"⟩) ∈ lw_all := lw_g (lw_at lw_ms 20 rfl) rfl
theorem qs21 : (Cond.selects "BedBook$Reader" ⟨"BedBook$Reader", "isSign", "(C)Z"⟩ ⟨"BedBook$Reader", "isSign", "(C)Z"⟩) ∈ lw_all := lw_g (lw_at lw_ms 21 rfl) rfl
theorem qs22 : (Cond.selects "BedBook$Reader" ⟨"BedBook$Reader", "need", "(C)V"⟩ ⟨"BedBook$Reader", "need", "(C)V"⟩) ∈ lw_all := lw_g (lw_at lw_ms 22 rfl) rfl
theorem qs23 : (Cond.selects "BedBook" ⟨"BedBook", "nameOf", "(III)I"⟩ ⟨"BedBook", "nameOf", "(III)I"⟩) ∈ lw_all := lw_g (lw_at lw_ms 23 rfl) rfl
theorem qs24 : (Cond.selects "BedBook" ⟨"BedBook", "called", "(II)I"⟩ ⟨"BedBook", "called", "(II)I"⟩) ∈ lw_all := lw_g (lw_at lw_ms 24 rfl) rfl
theorem qs25 : (Cond.selects "BedBookModel" ⟨"BedBookModel", "lay", "(J)V"⟩ ⟨"BedBookModel", "lay", "(J)V"⟩) ∈ lw_all := lw_g (lw_at lw_ms 25 rfl) rfl
theorem qs26 : (Cond.selects "BedBookModel" ⟨"BedBookModel", "cutAll", "()V"⟩ ⟨"BedBookModel", "cutAll", "()V"⟩) ∈ lw_all := lw_g (lw_at lw_ms 26 rfl) rfl
theorem qs27 : (Cond.selects "BedBookModel" ⟨"BedBookModel", "line", "()V"⟩ ⟨"BedBookModel", "line", "()V"⟩) ∈ lw_all := lw_g (lw_at lw_ms 27 rfl) rfl
theorem qs28 : (Cond.selects "BedBookModel" ⟨"BedBookModel", "isWord", "(I)Z"⟩ ⟨"BedBookModel", "isWord", "(I)Z"⟩) ∈ lw_all := lw_g (lw_at lw_ms 28 rfl) rfl
theorem qs29 : (Cond.selects "BedBookModel" ⟨"BedBookModel", "wrong", "(I)V"⟩ ⟨"BedBookModel", "wrong", "(I)V"⟩) ∈ lw_all := lw_g (lw_at lw_ms 29 rfl) rfl
theorem qs30 : (Cond.selects "BedBookModel" ⟨"BedBookModel", "takeWord", "(I)V"⟩ ⟨"BedBookModel", "takeWord", "(I)V"⟩) ∈ lw_all := lw_g (lw_at lw_ms 30 rfl) rfl
theorem qs31 : (Cond.selects "BedBookModel" ⟨"BedBookModel", "hasWord", "(I)Z"⟩ ⟨"BedBookModel", "hasWord", "(I)Z"⟩) ∈ lw_all := lw_g (lw_at lw_ms 31 rfl) rfl
theorem qs32 : (Cond.selects "BedBookModel" ⟨"BedBookModel", "opens", "()V"⟩ ⟨"BedBookModel", "opens", "()V"⟩) ∈ lw_all := lw_g (lw_at lw_ms 32 rfl) rfl
theorem qs33 : (Cond.selects "BedBookModel" ⟨"BedBookModel", "part", "()Z"⟩ ⟨"BedBookModel", "part", "()Z"⟩) ∈ lw_all := lw_g (lw_at lw_ms 33 rfl) rfl
theorem qs34 : (Cond.selects "BedBookModel" ⟨"BedBookModel", "partWord", "()I"⟩ ⟨"BedBookModel", "partWord", "()I"⟩) ∈ lw_all := lw_g (lw_at lw_ms 34 rfl) rfl
theorem qs35 : (Cond.selects "BedBookModel" ⟨"BedBookModel", "isSign", "(I)Z"⟩ ⟨"BedBookModel", "isSign", "(I)Z"⟩) ∈ lw_all := lw_g (lw_at lw_ms 35 rfl) rfl
theorem qs36 : (Cond.selects "BedBookModel" ⟨"BedBookModel", "hasSign", "(I)Z"⟩ ⟨"BedBookModel", "hasSign", "(I)Z"⟩) ∈ lw_all := lw_g (lw_at lw_ms 36 rfl) rfl
theorem qs37 : (Cond.selects "BedBookModel" ⟨"BedBookModel", "emit", "(II)V"⟩ ⟨"BedBookModel", "emit", "(II)V"⟩) ∈ lw_all := lw_g (lw_at lw_ms 37 rfl) rfl
theorem qs38 : (Cond.selects "BedBookModel" ⟨"BedBookModel", "goesOnBehind", "()Z"⟩ ⟨"BedBookModel", "goesOnBehind", "()Z"⟩) ∈ lw_all := lw_g (lw_at lw_ms 38 rfl) rfl
theorem qs39 : (Cond.selects "BedBookModel" ⟨"BedBookModel", "takeSign", "(I)V"⟩ ⟨"BedBookModel", "takeSign", "(I)V"⟩) ∈ lw_all := lw_g (lw_at lw_ms 39 rfl) rfl
theorem qs40 : (Cond.selects "BedBookModel" ⟨"BedBookModel", "grows", "(IIII)I"⟩ ⟨"BedBookModel", "grows", "(IIII)I"⟩) ∈ lw_all := lw_g (lw_at lw_ms 40 rfl) rfl
theorem qs41 : (Cond.selects "BedBookModel" ⟨"BedBookModel", "isPlant", "(I)Z"⟩ ⟨"BedBookModel", "isPlant", "(I)Z"⟩) ∈ lw_all := lw_g (lw_at lw_ms 41 rfl) rfl
theorem qs42 : (Cond.selects "BedBookModel" ⟨"BedBookModel", "fitsAs", "(II)Z"⟩ ⟨"BedBookModel", "fitsAs", "(II)Z"⟩) ∈ lw_all := lw_g (lw_at lw_ms 42 rfl) rfl
theorem qs43 : (Cond.selects "BedBookModel" ⟨"BedBookModel", "markOf", "(III)I"⟩ ⟨"BedBookModel", "markOf", "(III)I"⟩) ∈ lw_all := lw_g (lw_at lw_ms 43 rfl) rfl
theorem qs44 : (Cond.selects "BedBookModel" ⟨"BedBookModel", "hasMark", "(III)Z"⟩ ⟨"BedBookModel", "hasMark", "(III)Z"⟩) ∈ lw_all := lw_g (lw_at lw_ms 44 rfl) rfl
theorem qs45 : (Cond.selects "BedBookModel" ⟨"BedBookModel", "leadsBack", "(II)Z"⟩ ⟨"BedBookModel", "leadsBack", "(II)Z"⟩) ∈ lw_all := lw_g (lw_at lw_ms 45 rfl) rfl
theorem qs46 : (Cond.selects "BedBookModel" ⟨"BedBookModel", "joinedTo", "(II)I"⟩ ⟨"BedBookModel", "joinedTo", "(II)I"⟩) ∈ lw_all := lw_g (lw_at lw_ms 46 rfl) rfl
theorem qs47 : (Cond.selects "BedBookModel" ⟨"BedBookModel", "nameOf", "(III)I"⟩ ⟨"BedBookModel", "nameOf", "(III)I"⟩) ∈ lw_all := lw_g (lw_at lw_ms 47 rfl) rfl
theorem qs48 : (Cond.selects "BedBookModel" ⟨"BedBookModel", "leads", "(II)I"⟩ ⟨"BedBookModel", "leads", "(II)I"⟩) ∈ lw_all := lw_g (lw_at lw_ms 48 rfl) rfl
theorem qs49 : (Cond.selects "BedBookModel" ⟨"BedBookModel", "isBed", "(I)Z"⟩ ⟨"BedBookModel", "isBed", "(I)Z"⟩) ∈ lw_all := lw_g (lw_at lw_ms 49 rfl) rfl
theorem qs50 : (Cond.selects "BedBookModel" ⟨"BedBookModel", "suits", "(II)Z"⟩ ⟨"BedBookModel", "suits", "(II)Z"⟩) ∈ lw_all := lw_g (lw_at lw_ms 50 rfl) rfl
theorem qs51 : (Cond.selects "BedBookModel" ⟨"BedBookModel", "comes", "(I)Z"⟩ ⟨"BedBookModel", "comes", "(I)Z"⟩) ∈ lw_all := lw_g (lw_at lw_ms 51 rfl) rfl
theorem qs52 : (Cond.selects "BedBookModel" ⟨"BedBookModel", "begins", "(I)V"⟩ ⟨"BedBookModel", "begins", "(I)V"⟩) ∈ lw_all := lw_g (lw_at lw_ms 52 rfl) rfl
theorem qs53 : (Cond.selects "BedBookModel" ⟨"BedBookModel", "costOf", "(II)I"⟩ ⟨"BedBookModel", "costOf", "(II)I"⟩) ∈ lw_all := lw_g (lw_at lw_ms 53 rfl) rfl
theorem qs54 : (Cond.selects "BedBookModel" ⟨"BedBookModel", "isSending", "(III)Z"⟩ ⟨"BedBookModel", "isSending", "(III)Z"⟩) ∈ lw_all := lw_g (lw_at lw_ms 54 rfl) rfl
theorem qs55 : (Cond.selects "BedBookModel" ⟨"BedBookModel", "lets", "(III)Z"⟩ ⟨"BedBookModel", "lets", "(III)Z"⟩) ∈ lw_all := lw_g (lw_at lw_ms 55 rfl) rfl
theorem qs56 : (Cond.selects "BedBookModel" ⟨"BedBookModel", "rootOf", "(I)I"⟩ ⟨"BedBookModel", "rootOf", "(I)I"⟩) ∈ lw_all := lw_g (lw_at lw_ms 56 rfl) rfl
theorem qs57 : (Cond.selects "BedBookModel" ⟨"BedBookModel", "isCut", "(I)Z"⟩ ⟨"BedBookModel", "isCut", "(I)Z"⟩) ∈ lw_all := lw_g (lw_at lw_ms 57 rfl) rfl
theorem qs58 : (Cond.selects "BedBookModel" ⟨"BedBookModel", "worth", "(I)I"⟩ ⟨"BedBookModel", "worth", "(I)I"⟩) ∈ lw_all := lw_g (lw_at lw_ms 58 rfl) rfl
theorem qs59 : (Cond.selects "BedBookModel" ⟨"BedBookModel", "checks", "(I)Z"⟩ ⟨"BedBookModel", "checks", "(I)Z"⟩) ∈ lw_all := lw_g (lw_at lw_ms 59 rfl) rfl
