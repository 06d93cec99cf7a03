-- ===== PART A: goes FIRST, ahead of the names: the tables' words, and 'selects' of the private methods out of them =====
/-- a private method of a class that the tables say can be made, by its rows of tables_1 -/
def lw_okq (q : MethodName × Nat) : Prop := (q.1.cls ≠ "java/lang/invoke/MethodHandle" ∧ q.1.cls ≠ "java/lang/invoke/VarHandle") ∧ Cond.instantiable q.1.cls q.2 ∈ tables_1 ∧ Cond.privateMethod q.1 ∈ tables_1 ∧ Cond.instanceMethod q.1 ∈ tables_1
set_option maxRecDepth 100000
theorem lw_t1 {w : Cond} (h : w ∈ tables_1_1) : w ∈ tables_1 := List.mem_append_left _ h
theorem lw_t2 {w : Cond} (h : w ∈ tables_1_2) : w ∈ tables_1 := List.mem_append_right _ (List.mem_append_left _ h)
theorem lw_t3 {w : Cond} (h : w ∈ tables_1_3) : w ∈ tables_1 := List.mem_append_right _ (List.mem_append_right _ (List.mem_append_left _ h))
theorem lw_t4 {w : Cond} (h : w ∈ tables_1_4) : w ∈ tables_1 := List.mem_append_right _ (List.mem_append_right _ (List.mem_append_right _ (List.mem_append_left _ h)))
theorem lw_t5 {w : Cond} (h : w ∈ tables_1_5) : w ∈ tables_1 := List.mem_append_right _ (List.mem_append_right _ (List.mem_append_right _ (List.mem_append_right _ (List.mem_append_left _ h))))
theorem lw_t6 {w : Cond} (h : w ∈ tables_1_6) : w ∈ tables_1 := List.mem_append_right _ (List.mem_append_right _ (List.mem_append_right _ (List.mem_append_right _ (List.mem_append_right _ h))))
theorem lw_p0 : lw_okq (⟨"ThrowReports", "more", "(LThrowReports$Node;)I"⟩, 14) := ⟨⟨by decide +kernel, by decide +kernel⟩, lw_t1 (List.mem_of_getElem? (i := 30) rfl), lw_t1 (List.mem_of_getElem? (i := 190) rfl), lw_t1 (List.mem_of_getElem? (i := 191) rfl)⟩
theorem lw_p1 : lw_okq (⟨"ThrowReports", "isNode", "(I)Z"⟩, 14) := ⟨⟨by decide +kernel, by decide +kernel⟩, lw_t1 (List.mem_of_getElem? (i := 30) rfl), lw_t1 (List.mem_of_getElem? (i := 198) rfl), lw_t1 (List.mem_of_getElem? (i := 199) rfl)⟩
theorem lw_p2 : lw_okq (⟨"java/lang/NullPointerException", "getExtendedNPEMessage", "()Ljava/lang/String;"⟩, 8) := ⟨⟨by decide +kernel, by decide +kernel⟩, lw_t1 (List.mem_of_getElem? (i := 224) rfl), lw_t2 (List.mem_of_getElem? (i := 15) rfl), lw_t2 (List.mem_of_getElem? (i := 16) rfl)⟩
theorem lw_p3 : lw_okq (⟨"java/lang/Throwable", "fillInStackTrace", "(I)Ljava/lang/Throwable;"⟩, 6) := ⟨⟨by decide +kernel, by decide +kernel⟩, lw_t2 (List.mem_of_getElem? (i := 28) rfl), lw_t2 (List.mem_of_getElem? (i := 26) rfl), lw_t2 (List.mem_of_getElem? (i := 27) rfl)⟩
theorem lw_p4 : lw_okq (⟨"ThrowReports", "does", "(LThrowReports$Node;)V"⟩, 14) := ⟨⟨by decide +kernel, by decide +kernel⟩, lw_t1 (List.mem_of_getElem? (i := 30) rfl), lw_t2 (List.mem_of_getElem? (i := 161) rfl), lw_t2 (List.mem_of_getElem? (i := 162) rfl)⟩
theorem lw_p5 : lw_okq (⟨"ThrowReports", "begins", "(LThrowReports$Node;)V"⟩, 14) := ⟨⟨by decide +kernel, by decide +kernel⟩, lw_t1 (List.mem_of_getElem? (i := 30) rfl), lw_t2 (List.mem_of_getElem? (i := 171) rfl), lw_t2 (List.mem_of_getElem? (i := 172) rfl)⟩
theorem lw_p6 : lw_okq (⟨"ThrowReports", "acts", "(IIIII)V"⟩, 14) := ⟨⟨by decide +kernel, by decide +kernel⟩, lw_t1 (List.mem_of_getElem? (i := 30) rfl), lw_t2 (List.mem_of_getElem? (i := 175) rfl), lw_t2 (List.mem_of_getElem? (i := 176) rfl)⟩
theorem lw_p7 : lw_okq (⟨"ThrowReports", "makes", "(III)V"⟩, 14) := ⟨⟨by decide +kernel, by decide +kernel⟩, lw_t1 (List.mem_of_getElem? (i := 30) rfl), lw_t2 (List.mem_of_getElem? (i := 179) rfl), lw_t2 (List.mem_of_getElem? (i := 180) rfl)⟩
theorem lw_p8 : lw_okq (⟨"ThrowReports", "need", "(JJ)V"⟩, 14) := ⟨⟨by decide +kernel, by decide +kernel⟩, lw_t1 (List.mem_of_getElem? (i := 30) rfl), lw_t2 (List.mem_of_getElem? (i := 186) rfl), lw_t2 (List.mem_of_getElem? (i := 187) rfl)⟩
theorem lw_p9 : lw_okq (⟨"ThrowReports", "becomes", "(ILjava/lang/Object;I)V"⟩, 14) := ⟨⟨by decide +kernel, by decide +kernel⟩, lw_t1 (List.mem_of_getElem? (i := 30) rfl), lw_t2 (List.mem_of_getElem? (i := 218) rfl), lw_t2 (List.mem_of_getElem? (i := 219) rfl)⟩
theorem lw_p10 : lw_okq (⟨"ThrowReports", "deep", "(III)V"⟩, 14) := ⟨⟨by decide +kernel, by decide +kernel⟩, lw_t1 (List.mem_of_getElem? (i := 30) rfl), lw_t2 (List.mem_of_getElem? (i := 222) rfl), lw_t2 (List.mem_of_getElem? (i := 223) rfl)⟩
theorem lw_p11 : lw_okq (⟨"ThrowReports", "takesItem", "(ILjava/lang/Object;II)V"⟩, 14) := ⟨⟨by decide +kernel, by decide +kernel⟩, lw_t1 (List.mem_of_getElem? (i := 30) rfl), lw_t3 (List.mem_of_getElem? (i := 39) rfl), lw_t3 (List.mem_of_getElem? (i := 40) rfl)⟩
theorem lw_p12 : lw_okq (⟨"ThrowReports", "copies", "(LThrowReports$Holder;ILThrowReports$Holder;II)V"⟩, 14) := ⟨⟨by decide +kernel, by decide +kernel⟩, lw_t1 (List.mem_of_getElem? (i := 30) rfl), lw_t3 (List.mem_of_getElem? (i := 84) rfl), lw_t3 (List.mem_of_getElem? (i := 85) rfl)⟩
theorem lw_p13 : lw_okq (⟨"ThrowReports$Holder", "isRow", "()Z"⟩, 1) := ⟨⟨by decide +kernel, by decide +kernel⟩, lw_t1 (List.mem_of_getElem? (i := 55) rfl), lw_t3 (List.mem_of_getElem? (i := 94) rfl), lw_t3 (List.mem_of_getElem? (i := 95) rfl)⟩
theorem lw_p14 : lw_okq (⟨"ThrowReports$Holder", "kind", "()I"⟩, 1) := ⟨⟨by decide +kernel, by decide +kernel⟩, lw_t1 (List.mem_of_getElem? (i := 55) rfl), lw_t3 (List.mem_of_getElem? (i := 98) rfl), lw_t3 (List.mem_of_getElem? (i := 99) rfl)⟩
theorem lw_p15 : lw_okq (⟨"ThrowReports$Holder", "size", "()I"⟩, 1) := ⟨⟨by decide +kernel, by decide +kernel⟩, lw_t1 (List.mem_of_getElem? (i := 55) rfl), lw_t3 (List.mem_of_getElem? (i := 115) rfl), lw_t3 (List.mem_of_getElem? (i := 116) rfl)⟩
def lw_privs_1 : List (MethodName × Nat) := [(⟨"ThrowReports", "more", "(LThrowReports$Node;)I"⟩, 14), (⟨"ThrowReports", "isNode", "(I)Z"⟩, 14), (⟨"java/lang/NullPointerException", "getExtendedNPEMessage", "()Ljava/lang/String;"⟩, 8), (⟨"java/lang/Throwable", "fillInStackTrace", "(I)Ljava/lang/Throwable;"⟩, 6), (⟨"ThrowReports", "does", "(LThrowReports$Node;)V"⟩, 14), (⟨"ThrowReports", "begins", "(LThrowReports$Node;)V"⟩, 14), (⟨"ThrowReports", "acts", "(IIIII)V"⟩, 14), (⟨"ThrowReports", "makes", "(III)V"⟩, 14), (⟨"ThrowReports", "need", "(JJ)V"⟩, 14), (⟨"ThrowReports", "becomes", "(ILjava/lang/Object;I)V"⟩, 14), (⟨"ThrowReports", "deep", "(III)V"⟩, 14), (⟨"ThrowReports", "takesItem", "(ILjava/lang/Object;II)V"⟩, 14), (⟨"ThrowReports", "copies", "(LThrowReports$Holder;ILThrowReports$Holder;II)V"⟩, 14), (⟨"ThrowReports$Holder", "isRow", "()Z"⟩, 1), (⟨"ThrowReports$Holder", "kind", "()I"⟩, 1), (⟨"ThrowReports$Holder", "size", "()I"⟩, 1)]
theorem lw_r1 : ∀ q ∈ lw_privs_1, lw_okq q := List.forall_mem_cons.mpr ⟨lw_p0, List.forall_mem_cons.mpr ⟨lw_p1, List.forall_mem_cons.mpr ⟨lw_p2, List.forall_mem_cons.mpr ⟨lw_p3, List.forall_mem_cons.mpr ⟨lw_p4, List.forall_mem_cons.mpr ⟨lw_p5, List.forall_mem_cons.mpr ⟨lw_p6, List.forall_mem_cons.mpr ⟨lw_p7, List.forall_mem_cons.mpr ⟨lw_p8, List.forall_mem_cons.mpr ⟨lw_p9, List.forall_mem_cons.mpr ⟨lw_p10, List.forall_mem_cons.mpr ⟨lw_p11, List.forall_mem_cons.mpr ⟨lw_p12, List.forall_mem_cons.mpr ⟨lw_p13, List.forall_mem_cons.mpr ⟨lw_p14, List.forall_mem_cons.mpr ⟨lw_p15, fun _ h => absurd h List.not_mem_nil⟩⟩⟩⟩⟩⟩⟩⟩⟩⟩⟩⟩⟩⟩⟩⟩
theorem lw_p16 : lw_okq (⟨"ThrowReports", "guards", "(LThrowReports$Node;)V"⟩, 14) := ⟨⟨by decide +kernel, by decide +kernel⟩, lw_t1 (List.mem_of_getElem? (i := 30) rfl), lw_t3 (List.mem_of_getElem? (i := 140) rfl), lw_t3 (List.mem_of_getElem? (i := 141) rfl)⟩
theorem lw_p17 : lw_okq (⟨"ThrowReports", "takes", "(LThrowReports$Node;)V"⟩, 14) := ⟨⟨by decide +kernel, by decide +kernel⟩, lw_t1 (List.mem_of_getElem? (i := 30) rfl), lw_t3 (List.mem_of_getElem? (i := 144) rfl), lw_t3 (List.mem_of_getElem? (i := 145) rfl)⟩
theorem lw_p18 : lw_okq (⟨"ThrowReports", "handles", "(LThrowReports$Node;ILjava/lang/RuntimeException;)V"⟩, 14) := ⟨⟨by decide +kernel, by decide +kernel⟩, lw_t1 (List.mem_of_getElem? (i := 30) rfl), lw_t3 (List.mem_of_getElem? (i := 148) rfl), lw_t3 (List.mem_of_getElem? (i := 149) rfl)⟩
theorem lw_p19 : lw_okq (⟨"ThrowReports$Node", "takes", "(I)Z"⟩, 15) := ⟨⟨by decide +kernel, by decide +kernel⟩, lw_t1 (List.mem_of_getElem? (i := 124) rfl), lw_t3 (List.mem_of_getElem? (i := 152) rfl), lw_t3 (List.mem_of_getElem? (i := 153) rfl)⟩
theorem lw_p20 : lw_okq (⟨"ThrowReports", "ends", "(LThrowReports$Node;Z)V"⟩, 14) := ⟨⟨by decide +kernel, by decide +kernel⟩, lw_t1 (List.mem_of_getElem? (i := 30) rfl), lw_t3 (List.mem_of_getElem? (i := 156) rfl), lw_t3 (List.mem_of_getElem? (i := 157) rfl)⟩
theorem lw_p21 : lw_okq (⟨"ThrowReports", "numberOf", "(Ljava/lang/Object;)I"⟩, 14) := ⟨⟨by decide +kernel, by decide +kernel⟩, lw_t1 (List.mem_of_getElem? (i := 30) rfl), lw_t3 (List.mem_of_getElem? (i := 176) rfl), lw_t3 (List.mem_of_getElem? (i := 177) rfl)⟩
theorem lw_p22 : lw_okq (⟨"ThrowReports", "isAlike", "(LThrowReports$Holder;LThrowReports$Holder;)Z"⟩, 14) := ⟨⟨by decide +kernel, by decide +kernel⟩, lw_t1 (List.mem_of_getElem? (i := 30) rfl), lw_t3 (List.mem_of_getElem? (i := 192) rfl), lw_t3 (List.mem_of_getElem? (i := 193) rfl)⟩
theorem lw_p23 : lw_okq (⟨"ThrowReports$Node", "forget", "()V"⟩, 15) := ⟨⟨by decide +kernel, by decide +kernel⟩, lw_t1 (List.mem_of_getElem? (i := 124) rfl), lw_t3 (List.mem_of_getElem? (i := 207) rfl), lw_t3 (List.mem_of_getElem? (i := 208) rfl)⟩
theorem lw_p24 : lw_okq (⟨"ThrowReports", "through", "(LThrowReports$Node;LThrowReports$State;)LThrowReports$Ways;"⟩, 14) := ⟨⟨by decide +kernel, by decide +kernel⟩, lw_t1 (List.mem_of_getElem? (i := 30) rfl), lw_t3 (List.mem_of_getElem? (i := 211) rfl), lw_t3 (List.mem_of_getElem? (i := 212) rfl)⟩
theorem lw_p25 : lw_okq (⟨"ThrowReports$Questions", "size", "(Z)LThrowReports$Questions;"⟩, 2) := ⟨⟨by decide +kernel, by decide +kernel⟩, lw_t3 (List.mem_of_getElem? (i := 218) rfl), lw_t4 (List.mem_of_getElem? (i := 5) rfl), lw_t4 (List.mem_of_getElem? (i := 6) rfl)⟩
theorem lw_p26 : lw_okq (⟨"ThrowReports$Ways", "add", "(ILThrowReports$State;)V"⟩, 1) := ⟨⟨by decide +kernel, by decide +kernel⟩, lw_t3 (List.mem_of_getElem? (i := 224) rfl), lw_t4 (List.mem_of_getElem? (i := 9) rfl), lw_t4 (List.mem_of_getElem? (i := 10) rfl)⟩
theorem lw_p27 : lw_okq (⟨"ThrowReports$State", "copy", "()LThrowReports$State;"⟩, 1) := ⟨⟨by decide +kernel, by decide +kernel⟩, lw_t1 (List.mem_of_getElem? (i := 42) rfl), lw_t4 (List.mem_of_getElem? (i := 16) rfl), lw_t4 (List.mem_of_getElem? (i := 17) rfl)⟩
theorem lw_p28 : lw_okq (⟨"ThrowReports$Questions", "may", "(I)LThrowReports$Questions;"⟩, 2) := ⟨⟨by decide +kernel, by decide +kernel⟩, lw_t3 (List.mem_of_getElem? (i := 218) rfl), lw_t4 (List.mem_of_getElem? (i := 23) rfl), lw_t4 (List.mem_of_getElem? (i := 24) rfl)⟩
theorem lw_p29 : lw_okq (⟨"ThrowReports$Questions", "anew", "(II)LThrowReports$Ways;"⟩, 2) := ⟨⟨by decide +kernel, by decide +kernel⟩, lw_t3 (List.mem_of_getElem? (i := 218) rfl), lw_t4 (List.mem_of_getElem? (i := 27) rfl), lw_t4 (List.mem_of_getElem? (i := 28) rfl)⟩
theorem lw_p30 : lw_okq (⟨"ThrowReports$State", "with", "(II)LThrowReports$State;"⟩, 1) := ⟨⟨by decide +kernel, by decide +kernel⟩, lw_t1 (List.mem_of_getElem? (i := 42) rfl), lw_t4 (List.mem_of_getElem? (i := 31) rfl), lw_t4 (List.mem_of_getElem? (i := 32) rfl)⟩
theorem lw_p31 : lw_okq (⟨"ThrowReports$Questions", "end", "()LThrowReports$Ways;"⟩, 2) := ⟨⟨by decide +kernel, by decide +kernel⟩, lw_t3 (List.mem_of_getElem? (i := 218) rfl), lw_t4 (List.mem_of_getElem? (i := 36) rfl), lw_t4 (List.mem_of_getElem? (i := 37) rfl)⟩
def lw_privs_2 : List (MethodName × Nat) := [(⟨"ThrowReports", "guards", "(LThrowReports$Node;)V"⟩, 14), (⟨"ThrowReports", "takes", "(LThrowReports$Node;)V"⟩, 14), (⟨"ThrowReports", "handles", "(LThrowReports$Node;ILjava/lang/RuntimeException;)V"⟩, 14), (⟨"ThrowReports$Node", "takes", "(I)Z"⟩, 15), (⟨"ThrowReports", "ends", "(LThrowReports$Node;Z)V"⟩, 14), (⟨"ThrowReports", "numberOf", "(Ljava/lang/Object;)I"⟩, 14), (⟨"ThrowReports", "isAlike", "(LThrowReports$Holder;LThrowReports$Holder;)Z"⟩, 14), (⟨"ThrowReports$Node", "forget", "()V"⟩, 15), (⟨"ThrowReports", "through", "(LThrowReports$Node;LThrowReports$State;)LThrowReports$Ways;"⟩, 14), (⟨"ThrowReports$Questions", "size", "(Z)LThrowReports$Questions;"⟩, 2), (⟨"ThrowReports$Ways", "add", "(ILThrowReports$State;)V"⟩, 1), (⟨"ThrowReports$State", "copy", "()LThrowReports$State;"⟩, 1), (⟨"ThrowReports$Questions", "may", "(I)LThrowReports$Questions;"⟩, 2), (⟨"ThrowReports$Questions", "anew", "(II)LThrowReports$Ways;"⟩, 2), (⟨"ThrowReports$State", "with", "(II)LThrowReports$State;"⟩, 1), (⟨"ThrowReports$Questions", "end", "()LThrowReports$Ways;"⟩, 2)]
theorem lw_r2 : ∀ q ∈ lw_privs_2, lw_okq q := List.forall_mem_cons.mpr ⟨lw_p16, List.forall_mem_cons.mpr ⟨lw_p17, List.forall_mem_cons.mpr ⟨lw_p18, List.forall_mem_cons.mpr ⟨lw_p19, List.forall_mem_cons.mpr ⟨lw_p20, List.forall_mem_cons.mpr ⟨lw_p21, List.forall_mem_cons.mpr ⟨lw_p22, List.forall_mem_cons.mpr ⟨lw_p23, List.forall_mem_cons.mpr ⟨lw_p24, List.forall_mem_cons.mpr ⟨lw_p25, List.forall_mem_cons.mpr ⟨lw_p26, List.forall_mem_cons.mpr ⟨lw_p27, List.forall_mem_cons.mpr ⟨lw_p28, List.forall_mem_cons.mpr ⟨lw_p29, List.forall_mem_cons.mpr ⟨lw_p30, List.forall_mem_cons.mpr ⟨lw_p31, fun _ h => absurd h List.not_mem_nil⟩⟩⟩⟩⟩⟩⟩⟩⟩⟩⟩⟩⟩⟩⟩⟩
theorem lw_p32 : lw_okq (⟨"ThrowReports$Questions", "as", "(II)LThrowReports$Questions;"⟩, 2) := ⟨⟨by decide +kernel, by decide +kernel⟩, lw_t3 (List.mem_of_getElem? (i := 218) rfl), lw_t4 (List.mem_of_getElem? (i := 40) rfl), lw_t4 (List.mem_of_getElem? (i := 41) rfl)⟩
theorem lw_p33 : lw_okq (⟨"ThrowReports$Questions", "set", "(I)I"⟩, 2) := ⟨⟨by decide +kernel, by decide +kernel⟩, lw_t3 (List.mem_of_getElem? (i := 218) rfl), lw_t4 (List.mem_of_getElem? (i := 44) rfl), lw_t4 (List.mem_of_getElem? (i := 45) rfl)⟩
theorem lw_p34 : lw_okq (⟨"ThrowReports$Questions", "parts", "(III)V"⟩, 2) := ⟨⟨by decide +kernel, by decide +kernel⟩, lw_t3 (List.mem_of_getElem? (i := 218) rfl), lw_t4 (List.mem_of_getElem? (i := 51) rfl), lw_t4 (List.mem_of_getElem? (i := 52) rfl)⟩
theorem lw_p35 : lw_okq (⟨"ThrowReports$Questions", "there", "(I)LThrowReports$Questions;"⟩, 2) := ⟨⟨by decide +kernel, by decide +kernel⟩, lw_t3 (List.mem_of_getElem? (i := 218) rfl), lw_t4 (List.mem_of_getElem? (i := 56) rfl), lw_t4 (List.mem_of_getElem? (i := 57) rfl)⟩
theorem lw_p36 : lw_okq (⟨"ThrowReports", "ofBoth", "(LThrowReports$Node;LThrowReports$State;)LThrowReports$Ways;"⟩, 14) := ⟨⟨by decide +kernel, by decide +kernel⟩, lw_t1 (List.mem_of_getElem? (i := 30) rfl), lw_t4 (List.mem_of_getElem? (i := 74) rfl), lw_t4 (List.mem_of_getElem? (i := 75) rfl)⟩
theorem lw_p37 : lw_okq (⟨"ThrowReports$Ways", "addAll", "(LThrowReports$Ways;)V"⟩, 1) := ⟨⟨by decide +kernel, by decide +kernel⟩, lw_t3 (List.mem_of_getElem? (i := 224) rfl), lw_t4 (List.mem_of_getElem? (i := 78) rfl), lw_t4 (List.mem_of_getElem? (i := 79) rfl)⟩
theorem lw_p38 : lw_okq (⟨"ThrowReports", "ofChoice", "(LThrowReports$Node;LThrowReports$State;)LThrowReports$Ways;"⟩, 14) := ⟨⟨by decide +kernel, by decide +kernel⟩, lw_t1 (List.mem_of_getElem? (i := 30) rfl), lw_t4 (List.mem_of_getElem? (i := 83) rfl), lw_t4 (List.mem_of_getElem? (i := 84) rfl)⟩
theorem lw_p39 : lw_okq (⟨"ThrowReports", "ofGuard", "(LThrowReports$Node;LThrowReports$State;)LThrowReports$Ways;"⟩, 14) := ⟨⟨by decide +kernel, by decide +kernel⟩, lw_t1 (List.mem_of_getElem? (i := 30) rfl), lw_t4 (List.mem_of_getElem? (i := 90) rfl), lw_t4 (List.mem_of_getElem? (i := 91) rfl)⟩
theorem lw_p40 : lw_okq (⟨"ThrowReports$Ways", "bits", "()I"⟩, 1) := ⟨⟨by decide +kernel, by decide +kernel⟩, lw_t3 (List.mem_of_getElem? (i := 224) rfl), lw_t4 (List.mem_of_getElem? (i := 94) rfl), lw_t4 (List.mem_of_getElem? (i := 95) rfl)⟩
theorem lw_p41 : lw_okq (⟨"ThrowReports", "behind", "(LThrowReports$Node;LThrowReports$Ways;)LThrowReports$Ways;"⟩, 14) := ⟨⟨by decide +kernel, by decide +kernel⟩, lw_t1 (List.mem_of_getElem? (i := 30) rfl), lw_t4 (List.mem_of_getElem? (i := 100) rfl), lw_t4 (List.mem_of_getElem? (i := 101) rfl)⟩
theorem lw_p42 : lw_okq (⟨"ThrowReportsModel", "node", "(IIIIIII)I"⟩, 40) := ⟨⟨by decide +kernel, by decide +kernel⟩, lw_t4 (List.mem_of_getElem? (i := 120) rfl), lw_t5 (List.mem_of_getElem? (i := 24) rfl), lw_t5 (List.mem_of_getElem? (i := 25) rfl)⟩
theorem lw_p43 : lw_okq (⟨"ThrowReportsModel", "isNode", "(I)Z"⟩, 40) := ⟨⟨by decide +kernel, by decide +kernel⟩, lw_t4 (List.mem_of_getElem? (i := 120) rfl), lw_t5 (List.mem_of_getElem? (i := 32) rfl), lw_t5 (List.mem_of_getElem? (i := 33) rfl)⟩
theorem lw_p44 : lw_okq (⟨"ThrowReportsModel", "goes", "(I)I"⟩, 40) := ⟨⟨by decide +kernel, by decide +kernel⟩, lw_t4 (List.mem_of_getElem? (i := 120) rfl), lw_t5 (List.mem_of_getElem? (i := 52) rfl), lw_t5 (List.mem_of_getElem? (i := 53) rfl)⟩
theorem lw_p45 : lw_okq (⟨"ThrowReportsModel", "push", "(I)V"⟩, 40) := ⟨⟨by decide +kernel, by decide +kernel⟩, lw_t4 (List.mem_of_getElem? (i := 120) rfl), lw_t5 (List.mem_of_getElem? (i := 56) rfl), lw_t5 (List.mem_of_getElem? (i := 57) rfl)⟩
theorem lw_p46 : lw_okq (⟨"ThrowReportsModel", "ofAct", "(I)I"⟩, 40) := ⟨⟨by decide +kernel, by decide +kernel⟩, lw_t4 (List.mem_of_getElem? (i := 120) rfl), lw_t5 (List.mem_of_getElem? (i := 60) rfl), lw_t5 (List.mem_of_getElem? (i := 61) rfl)⟩
theorem lw_p47 : lw_okq (⟨"ThrowReportsModel", "done", "(I)I"⟩, 40) := ⟨⟨by decide +kernel, by decide +kernel⟩, lw_t4 (List.mem_of_getElem? (i := 120) rfl), lw_t5 (List.mem_of_getElem? (i := 64) rfl), lw_t5 (List.mem_of_getElem? (i := 65) rfl)⟩
def lw_privs_3 : List (MethodName × Nat) := [(⟨"ThrowReports$Questions", "as", "(II)LThrowReports$Questions;"⟩, 2), (⟨"ThrowReports$Questions", "set", "(I)I"⟩, 2), (⟨"ThrowReports$Questions", "parts", "(III)V"⟩, 2), (⟨"ThrowReports$Questions", "there", "(I)LThrowReports$Questions;"⟩, 2), (⟨"ThrowReports", "ofBoth", "(LThrowReports$Node;LThrowReports$State;)LThrowReports$Ways;"⟩, 14), (⟨"ThrowReports$Ways", "addAll", "(LThrowReports$Ways;)V"⟩, 1), (⟨"ThrowReports", "ofChoice", "(LThrowReports$Node;LThrowReports$State;)LThrowReports$Ways;"⟩, 14), (⟨"ThrowReports", "ofGuard", "(LThrowReports$Node;LThrowReports$State;)LThrowReports$Ways;"⟩, 14), (⟨"ThrowReports$Ways", "bits", "()I"⟩, 1), (⟨"ThrowReports", "behind", "(LThrowReports$Node;LThrowReports$Ways;)LThrowReports$Ways;"⟩, 14), (⟨"ThrowReportsModel", "node", "(IIIIIII)I"⟩, 40), (⟨"ThrowReportsModel", "isNode", "(I)Z"⟩, 40), (⟨"ThrowReportsModel", "goes", "(I)I"⟩, 40), (⟨"ThrowReportsModel", "push", "(I)V"⟩, 40), (⟨"ThrowReportsModel", "ofAct", "(I)I"⟩, 40), (⟨"ThrowReportsModel", "done", "(I)I"⟩, 40)]
theorem lw_r3 : ∀ q ∈ lw_privs_3, lw_okq q := List.forall_mem_cons.mpr ⟨lw_p32, List.forall_mem_cons.mpr ⟨lw_p33, List.forall_mem_cons.mpr ⟨lw_p34, List.forall_mem_cons.mpr ⟨lw_p35, List.forall_mem_cons.mpr ⟨lw_p36, List.forall_mem_cons.mpr ⟨lw_p37, List.forall_mem_cons.mpr ⟨lw_p38, List.forall_mem_cons.mpr ⟨lw_p39, List.forall_mem_cons.mpr ⟨lw_p40, List.forall_mem_cons.mpr ⟨lw_p41, List.forall_mem_cons.mpr ⟨lw_p42, List.forall_mem_cons.mpr ⟨lw_p43, List.forall_mem_cons.mpr ⟨lw_p44, List.forall_mem_cons.mpr ⟨lw_p45, List.forall_mem_cons.mpr ⟨lw_p46, List.forall_mem_cons.mpr ⟨lw_p47, fun _ h => absurd h List.not_mem_nil⟩⟩⟩⟩⟩⟩⟩⟩⟩⟩⟩⟩⟩⟩⟩⟩
theorem lw_p48 : lw_okq (⟨"ThrowReportsModel", "make", "(III)I"⟩, 40) := ⟨⟨by decide +kernel, by decide +kernel⟩, lw_t4 (List.mem_of_getElem? (i := 120) rfl), lw_t5 (List.mem_of_getElem? (i := 68) rfl), lw_t5 (List.mem_of_getElem? (i := 69) rfl)⟩
theorem lw_p49 : lw_okq (⟨"ThrowReportsModel", "fits", "(JJ)Z"⟩, 40) := ⟨⟨by decide +kernel, by decide +kernel⟩, lw_t4 (List.mem_of_getElem? (i := 120) rfl), lw_t5 (List.mem_of_getElem? (i := 72) rfl), lw_t5 (List.mem_of_getElem? (i := 73) rfl)⟩
theorem lw_p50 : lw_okq (⟨"ThrowReportsModel", "fresh", "(II)I"⟩, 40) := ⟨⟨by decide +kernel, by decide +kernel⟩, lw_t4 (List.mem_of_getElem? (i := 120) rfl), lw_t5 (List.mem_of_getElem? (i := 78) rfl), lw_t5 (List.mem_of_getElem? (i := 79) rfl)⟩
theorem lw_p51 : lw_okq (⟨"ThrowReportsModel", "deep", "(III)I"⟩, 40) := ⟨⟨by decide +kernel, by decide +kernel⟩, lw_t4 (List.mem_of_getElem? (i := 120) rfl), lw_t5 (List.mem_of_getElem? (i := 82) rfl), lw_t5 (List.mem_of_getElem? (i := 83) rfl)⟩
theorem lw_p52 : lw_okq (⟨"ThrowReportsModel", "figure", "(III)I"⟩, 40) := ⟨⟨by decide +kernel, by decide +kernel⟩, lw_t4 (List.mem_of_getElem? (i := 120) rfl), lw_t5 (List.mem_of_getElem? (i := 86) rfl), lw_t5 (List.mem_of_getElem? (i := 87) rfl)⟩
theorem lw_p53 : lw_okq (⟨"ThrowReportsModel", "move", "(III)I"⟩, 40) := ⟨⟨by decide +kernel, by decide +kernel⟩, lw_t4 (List.mem_of_getElem? (i := 120) rfl), lw_t5 (List.mem_of_getElem? (i := 90) rfl), lw_t5 (List.mem_of_getElem? (i := 91) rfl)⟩
theorem lw_p54 : lw_okq (⟨"ThrowReportsModel", "as", "(II)I"⟩, 40) := ⟨⟨by decide +kernel, by decide +kernel⟩, lw_t4 (List.mem_of_getElem? (i := 120) rfl), lw_t5 (List.mem_of_getElem? (i := 94) rfl), lw_t5 (List.mem_of_getElem? (i := 95) rfl)⟩
theorem lw_p55 : lw_okq (⟨"ThrowReportsModel", "is", "(II)Z"⟩, 40) := ⟨⟨by decide +kernel, by decide +kernel⟩, lw_t4 (List.mem_of_getElem? (i := 120) rfl), lw_t5 (List.mem_of_getElem? (i := 98) rfl), lw_t5 (List.mem_of_getElem? (i := 99) rfl)⟩
theorem lw_p56 : lw_okq (⟨"ThrowReportsModel", "get", "(IIII)I"⟩, 40) := ⟨⟨by decide +kernel, by decide +kernel⟩, lw_t4 (List.mem_of_getElem? (i := 120) rfl), lw_t5 (List.mem_of_getElem? (i := 105) rfl), lw_t5 (List.mem_of_getElem? (i := 106) rfl)⟩
theorem lw_p57 : lw_okq (⟨"ThrowReportsModel", "itemOf", "(III)I"⟩, 40) := ⟨⟨by decide +kernel, by decide +kernel⟩, lw_t4 (List.mem_of_getElem? (i := 120) rfl), lw_t5 (List.mem_of_getElem? (i := 109) rfl), lw_t5 (List.mem_of_getElem? (i := 110) rfl)⟩
theorem lw_p58 : lw_okq (⟨"ThrowReportsModel", "row", "(II)I"⟩, 40) := ⟨⟨by decide +kernel, by decide +kernel⟩, lw_t4 (List.mem_of_getElem? (i := 120) rfl), lw_t5 (List.mem_of_getElem? (i := 113) rfl), lw_t5 (List.mem_of_getElem? (i := 114) rfl)⟩
theorem lw_p59 : lw_okq (⟨"ThrowReportsModel", "set", "(IIII)I"⟩, 40) := ⟨⟨by decide +kernel, by decide +kernel⟩, lw_t4 (List.mem_of_getElem? (i := 120) rfl), lw_t5 (List.mem_of_getElem? (i := 117) rfl), lw_t5 (List.mem_of_getElem? (i := 118) rfl)⟩
theorem lw_p60 : lw_okq (⟨"ThrowReportsModel", "take", "(IIII)I"⟩, 40) := ⟨⟨by decide +kernel, by decide +kernel⟩, lw_t4 (List.mem_of_getElem? (i := 120) rfl), lw_t5 (List.mem_of_getElem? (i := 127) rfl), lw_t5 (List.mem_of_getElem? (i := 128) rfl)⟩
theorem lw_p61 : lw_okq (⟨"ThrowReportsModel", "lay", "(IIII)I"⟩, 40) := ⟨⟨by decide +kernel, by decide +kernel⟩, lw_t4 (List.mem_of_getElem? (i := 120) rfl), lw_t5 (List.mem_of_getElem? (i := 131) rfl), lw_t5 (List.mem_of_getElem? (i := 132) rfl)⟩
theorem lw_p62 : lw_okq (⟨"ThrowReportsModel", "measure", "(III)I"⟩, 40) := ⟨⟨by decide +kernel, by decide +kernel⟩, lw_t4 (List.mem_of_getElem? (i := 120) rfl), lw_t5 (List.mem_of_getElem? (i := 135) rfl), lw_t5 (List.mem_of_getElem? (i := 136) rfl)⟩
theorem lw_p63 : lw_okq (⟨"ThrowReportsModel", "cloned", "(II)I"⟩, 40) := ⟨⟨by decide +kernel, by decide +kernel⟩, lw_t4 (List.mem_of_getElem? (i := 120) rfl), lw_t5 (List.mem_of_getElem? (i := 139) rfl), lw_t5 (List.mem_of_getElem? (i := 140) rfl)⟩
def lw_privs_4 : List (MethodName × Nat) := [(⟨"ThrowReportsModel", "make", "(III)I"⟩, 40), (⟨"ThrowReportsModel", "fits", "(JJ)Z"⟩, 40), (⟨"ThrowReportsModel", "fresh", "(II)I"⟩, 40), (⟨"ThrowReportsModel", "deep", "(III)I"⟩, 40), (⟨"ThrowReportsModel", "figure", "(III)I"⟩, 40), (⟨"ThrowReportsModel", "move", "(III)I"⟩, 40), (⟨"ThrowReportsModel", "as", "(II)I"⟩, 40), (⟨"ThrowReportsModel", "is", "(II)Z"⟩, 40), (⟨"ThrowReportsModel", "get", "(IIII)I"⟩, 40), (⟨"ThrowReportsModel", "itemOf", "(III)I"⟩, 40), (⟨"ThrowReportsModel", "row", "(II)I"⟩, 40), (⟨"ThrowReportsModel", "set", "(IIII)I"⟩, 40), (⟨"ThrowReportsModel", "take", "(IIII)I"⟩, 40), (⟨"ThrowReportsModel", "lay", "(IIII)I"⟩, 40), (⟨"ThrowReportsModel", "measure", "(III)I"⟩, 40), (⟨"ThrowReportsModel", "cloned", "(II)I"⟩, 40)]
theorem lw_r4 : ∀ q ∈ lw_privs_4, lw_okq q := List.forall_mem_cons.mpr ⟨lw_p48, List.forall_mem_cons.mpr ⟨lw_p49, List.forall_mem_cons.mpr ⟨lw_p50, List.forall_mem_cons.mpr ⟨lw_p51, List.forall_mem_cons.mpr ⟨lw_p52, List.forall_mem_cons.mpr ⟨lw_p53, List.forall_mem_cons.mpr ⟨lw_p54, List.forall_mem_cons.mpr ⟨lw_p55, List.forall_mem_cons.mpr ⟨lw_p56, List.forall_mem_cons.mpr ⟨lw_p57, List.forall_mem_cons.mpr ⟨lw_p58, List.forall_mem_cons.mpr ⟨lw_p59, List.forall_mem_cons.mpr ⟨lw_p60, List.forall_mem_cons.mpr ⟨lw_p61, List.forall_mem_cons.mpr ⟨lw_p62, List.forall_mem_cons.mpr ⟨lw_p63, fun _ h => absurd h List.not_mem_nil⟩⟩⟩⟩⟩⟩⟩⟩⟩⟩⟩⟩⟩⟩⟩⟩
theorem lw_p64 : lw_okq (⟨"ThrowReportsModel", "tell", "(II)I"⟩, 40) := ⟨⟨by decide +kernel, by decide +kernel⟩, lw_t4 (List.mem_of_getElem? (i := 120) rfl), lw_t5 (List.mem_of_getElem? (i := 143) rfl), lw_t5 (List.mem_of_getElem? (i := 144) rfl)⟩
theorem lw_p65 : lw_okq (⟨"ThrowReportsModel", "copy", "(IIIII)I"⟩, 40) := ⟨⟨by decide +kernel, by decide +kernel⟩, lw_t4 (List.mem_of_getElem? (i := 120) rfl), lw_t5 (List.mem_of_getElem? (i := 147) rfl), lw_t5 (List.mem_of_getElem? (i := 148) rfl)⟩
theorem lw_p66 : lw_okq (⟨"ThrowReportsModel", "divide", "(IIIZ)I"⟩, 40) := ⟨⟨by decide +kernel, by decide +kernel⟩, lw_t4 (List.mem_of_getElem? (i := 120) rfl), lw_t5 (List.mem_of_getElem? (i := 154) rfl), lw_t5 (List.mem_of_getElem? (i := 155) rfl)⟩
theorem lw_p67 : lw_okq (⟨"ThrowReportsModel", "ofGuard", "(II)I"⟩, 40) := ⟨⟨by decide +kernel, by decide +kernel⟩, lw_t4 (List.mem_of_getElem? (i := 120) rfl), lw_t5 (List.mem_of_getElem? (i := 159) rfl), lw_t5 (List.mem_of_getElem? (i := 160) rfl)⟩
theorem lw_p68 : lw_okq (⟨"ThrowReportsModel", "step", "(II)V"⟩, 40) := ⟨⟨by decide +kernel, by decide +kernel⟩, lw_t4 (List.mem_of_getElem? (i := 120) rfl), lw_t5 (List.mem_of_getElem? (i := 163) rfl), lw_t5 (List.mem_of_getElem? (i := 164) rfl)⟩
theorem lw_p69 : lw_okq (⟨"ThrowReportsModel", "ofOther", "(II)I"⟩, 40) := ⟨⟨by decide +kernel, by decide +kernel⟩, lw_t4 (List.mem_of_getElem? (i := 120) rfl), lw_t5 (List.mem_of_getElem? (i := 167) rfl), lw_t5 (List.mem_of_getElem? (i := 168) rfl)⟩
theorem lw_p70 : lw_okq (⟨"ThrowReportsModel", "twins", "(II)Z"⟩, 40) := ⟨⟨by decide +kernel, by decide +kernel⟩, lw_t4 (List.mem_of_getElem? (i := 120) rfl), lw_t5 (List.mem_of_getElem? (i := 199) rfl), lw_t5 (List.mem_of_getElem? (i := 200) rfl)⟩
theorem lw_p71 : lw_okq (⟨"ThrowReportsModel", "plainTwins", "(II)Z"⟩, 40) := ⟨⟨by decide +kernel, by decide +kernel⟩, lw_t4 (List.mem_of_getElem? (i := 120) rfl), lw_t5 (List.mem_of_getElem? (i := 203) rfl), lw_t5 (List.mem_of_getElem? (i := 204) rfl)⟩
theorem lw_p72 : lw_okq (⟨"ThrowReportsModel", "startOf", "(I)I"⟩, 40) := ⟨⟨by decide +kernel, by decide +kernel⟩, lw_t4 (List.mem_of_getElem? (i := 120) rfl), lw_t5 (List.mem_of_getElem? (i := 211) rfl), lw_t5 (List.mem_of_getElem? (i := 212) rfl)⟩
theorem lw_p73 : lw_okq (⟨"ThrowReportsModel", "through", "(I)V"⟩, 40) := ⟨⟨by decide +kernel, by decide +kernel⟩, lw_t4 (List.mem_of_getElem? (i := 120) rfl), lw_t5 (List.mem_of_getElem? (i := 222) rfl), lw_t5 (List.mem_of_getElem? (i := 223) rfl)⟩
theorem lw_p74 : lw_okq (⟨"ThrowReportsModel", "throughAct", "(II)V"⟩, 40) := ⟨⟨by decide +kernel, by decide +kernel⟩, lw_t4 (List.mem_of_getElem? (i := 120) rfl), lw_t5 (List.mem_of_getElem? (i := 226) rfl), lw_t5 (List.mem_of_getElem? (i := 227) rfl)⟩
theorem lw_p75 : lw_okq (⟨"ThrowReportsModel", "enter", "(II)V"⟩, 40) := ⟨⟨by decide +kernel, by decide +kernel⟩, lw_t4 (List.mem_of_getElem? (i := 120) rfl), lw_t5 (List.mem_of_getElem? (i := 230) rfl), lw_t5 (List.mem_of_getElem? (i := 231) rfl)⟩
theorem lw_p76 : lw_okq (⟨"ThrowReportsModel", "mayAct", "(II)Z"⟩, 40) := ⟨⟨by decide +kernel, by decide +kernel⟩, lw_t4 (List.mem_of_getElem? (i := 120) rfl), lw_t6 (List.mem_of_getElem? (i := 0) rfl), lw_t6 (List.mem_of_getElem? (i := 1) rfl)⟩
theorem lw_p77 : lw_okq (⟨"ThrowReportsModel", "mayNew", "(IZII)Z"⟩, 40) := ⟨⟨by decide +kernel, by decide +kernel⟩, lw_t4 (List.mem_of_getElem? (i := 120) rfl), lw_t6 (List.mem_of_getElem? (i := 4) rfl), lw_t6 (List.mem_of_getElem? (i := 5) rfl)⟩
theorem lw_p78 : lw_okq (⟨"ThrowReportsModel", "mayFail", "(IIII)V"⟩, 40) := ⟨⟨by decide +kernel, by decide +kernel⟩, lw_t4 (List.mem_of_getElem? (i := 120) rfl), lw_t6 (List.mem_of_getElem? (i := 8) rfl), lw_t6 (List.mem_of_getElem? (i := 9) rfl)⟩
theorem lw_p79 : lw_okq (⟨"ThrowReportsModel", "mayAs", "(III)Z"⟩, 40) := ⟨⟨by decide +kernel, by decide +kernel⟩, lw_t4 (List.mem_of_getElem? (i := 120) rfl), lw_t6 (List.mem_of_getElem? (i := 12) rfl), lw_t6 (List.mem_of_getElem? (i := 13) rfl)⟩
def lw_privs_5 : List (MethodName × Nat) := [(⟨"ThrowReportsModel", "tell", "(II)I"⟩, 40), (⟨"ThrowReportsModel", "copy", "(IIIII)I"⟩, 40), (⟨"ThrowReportsModel", "divide", "(IIIZ)I"⟩, 40), (⟨"ThrowReportsModel", "ofGuard", "(II)I"⟩, 40), (⟨"ThrowReportsModel", "step", "(II)V"⟩, 40), (⟨"ThrowReportsModel", "ofOther", "(II)I"⟩, 40), (⟨"ThrowReportsModel", "twins", "(II)Z"⟩, 40), (⟨"ThrowReportsModel", "plainTwins", "(II)Z"⟩, 40), (⟨"ThrowReportsModel", "startOf", "(I)I"⟩, 40), (⟨"ThrowReportsModel", "through", "(I)V"⟩, 40), (⟨"ThrowReportsModel", "throughAct", "(II)V"⟩, 40), (⟨"ThrowReportsModel", "enter", "(II)V"⟩, 40), (⟨"ThrowReportsModel", "mayAct", "(II)Z"⟩, 40), (⟨"ThrowReportsModel", "mayNew", "(IZII)Z"⟩, 40), (⟨"ThrowReportsModel", "mayFail", "(IIII)V"⟩, 40), (⟨"ThrowReportsModel", "mayAs", "(III)Z"⟩, 40)]
theorem lw_r5 : ∀ q ∈ lw_privs_5, lw_okq q := List.forall_mem_cons.mpr ⟨lw_p64, List.forall_mem_cons.mpr ⟨lw_p65, List.forall_mem_cons.mpr ⟨lw_p66, List.forall_mem_cons.mpr ⟨lw_p67, List.forall_mem_cons.mpr ⟨lw_p68, List.forall_mem_cons.mpr ⟨lw_p69, List.forall_mem_cons.mpr ⟨lw_p70, List.forall_mem_cons.mpr ⟨lw_p71, List.forall_mem_cons.mpr ⟨lw_p72, List.forall_mem_cons.mpr ⟨lw_p73, List.forall_mem_cons.mpr ⟨lw_p74, List.forall_mem_cons.mpr ⟨lw_p75, List.forall_mem_cons.mpr ⟨lw_p76, List.forall_mem_cons.mpr ⟨lw_p77, List.forall_mem_cons.mpr ⟨lw_p78, List.forall_mem_cons.mpr ⟨lw_p79, fun _ h => absurd h List.not_mem_nil⟩⟩⟩⟩⟩⟩⟩⟩⟩⟩⟩⟩⟩⟩⟩⟩
theorem lw_p80 : lw_okq (⟨"ThrowReportsModel", "mayItem", "(III)Z"⟩, 40) := ⟨⟨by decide +kernel, by decide +kernel⟩, lw_t4 (List.mem_of_getElem? (i := 120) rfl), lw_t6 (List.mem_of_getElem? (i := 16) rfl), lw_t6 (List.mem_of_getElem? (i := 17) rfl)⟩
theorem lw_p81 : lw_okq (⟨"ThrowReportsModel", "mayRow", "(II)Z"⟩, 40) := ⟨⟨by decide +kernel, by decide +kernel⟩, lw_t4 (List.mem_of_getElem? (i := 120) rfl), lw_t6 (List.mem_of_getElem? (i := 20) rfl), lw_t6 (List.mem_of_getElem? (i := 21) rfl)⟩
theorem lw_p82 : lw_okq (⟨"ThrowReportsModel", "mayTake", "(IIII)Z"⟩, 40) := ⟨⟨by decide +kernel, by decide +kernel⟩, lw_t4 (List.mem_of_getElem? (i := 120) rfl), lw_t6 (List.mem_of_getElem? (i := 24) rfl), lw_t6 (List.mem_of_getElem? (i := 25) rfl)⟩
theorem lw_p83 : lw_okq (⟨"ThrowReportsModel", "mayLay", "(IIII)Z"⟩, 40) := ⟨⟨by decide +kernel, by decide +kernel⟩, lw_t4 (List.mem_of_getElem? (i := 120) rfl), lw_t6 (List.mem_of_getElem? (i := 28) rfl), lw_t6 (List.mem_of_getElem? (i := 29) rfl)⟩
theorem lw_p84 : lw_okq (⟨"ThrowReportsModel", "mayCopy", "(III)Z"⟩, 40) := ⟨⟨by decide +kernel, by decide +kernel⟩, lw_t4 (List.mem_of_getElem? (i := 120) rfl), lw_t6 (List.mem_of_getElem? (i := 32) rfl), lw_t6 (List.mem_of_getElem? (i := 33) rfl)⟩
theorem lw_p85 : lw_okq (⟨"ThrowReportsModel", "leave", "(II)V"⟩, 40) := ⟨⟨by decide +kernel, by decide +kernel⟩, lw_t4 (List.mem_of_getElem? (i := 120) rfl), lw_t6 (List.mem_of_getElem? (i := 39) rfl), lw_t6 (List.mem_of_getElem? (i := 40) rfl)⟩
theorem lw_p86 : lw_okq (⟨"ThrowReportsModel", "throughBoth", "(II)V"⟩, 40) := ⟨⟨by decide +kernel, by decide +kernel⟩, lw_t4 (List.mem_of_getElem? (i := 120) rfl), lw_t6 (List.mem_of_getElem? (i := 43) rfl), lw_t6 (List.mem_of_getElem? (i := 44) rfl)⟩
theorem lw_p87 : lw_okq (⟨"ThrowReportsModel", "put", "(II)V"⟩, 40) := ⟨⟨by decide +kernel, by decide +kernel⟩, lw_t4 (List.mem_of_getElem? (i := 120) rfl), lw_t6 (List.mem_of_getElem? (i := 47) rfl), lw_t6 (List.mem_of_getElem? (i := 48) rfl)⟩
theorem lw_p88 : lw_okq (⟨"ThrowReportsModel", "throughChoice", "(II)V"⟩, 40) := ⟨⟨by decide +kernel, by decide +kernel⟩, lw_t4 (List.mem_of_getElem? (i := 120) rfl), lw_t6 (List.mem_of_getElem? (i := 51) rfl), lw_t6 (List.mem_of_getElem? (i := 52) rfl)⟩
theorem lw_p89 : lw_okq (⟨"ThrowReportsModel", "throughGuard", "(II)V"⟩, 40) := ⟨⟨by decide +kernel, by decide +kernel⟩, lw_t4 (List.mem_of_getElem? (i := 120) rfl), lw_t6 (List.mem_of_getElem? (i := 55) rfl), lw_t6 (List.mem_of_getElem? (i := 56) rfl)⟩
theorem lw_p90 : lw_okq (⟨"ThrowReportsModel", "part", "(II)V"⟩, 40) := ⟨⟨by decide +kernel, by decide +kernel⟩, lw_t4 (List.mem_of_getElem? (i := 120) rfl), lw_t6 (List.mem_of_getElem? (i := 59) rfl), lw_t6 (List.mem_of_getElem? (i := 60) rfl)⟩
theorem lw_p91 : lw_okq (⟨"ThrowReportsModel", "last", "(III)V"⟩, 40) := ⟨⟨by decide +kernel, by decide +kernel⟩, lw_t4 (List.mem_of_getElem? (i := 120) rfl), lw_t6 (List.mem_of_getElem? (i := 63) rfl), lw_t6 (List.mem_of_getElem? (i := 64) rfl)⟩
theorem lw_p92 : lw_okq (⟨"ThrowReportsModel", "has", "(I)Z"⟩, 40) := ⟨⟨by decide +kernel, by decide +kernel⟩, lw_t4 (List.mem_of_getElem? (i := 120) rfl), lw_t6 (List.mem_of_getElem? (i := 71) rfl), lw_t6 (List.mem_of_getElem? (i := 72) rfl)⟩
def lw_privs_6 : List (MethodName × Nat) := [(⟨"ThrowReportsModel", "mayItem", "(III)Z"⟩, 40), (⟨"ThrowReportsModel", "mayRow", "(II)Z"⟩, 40), (⟨"ThrowReportsModel", "mayTake", "(IIII)Z"⟩, 40), (⟨"ThrowReportsModel", "mayLay", "(IIII)Z"⟩, 40), (⟨"ThrowReportsModel", "mayCopy", "(III)Z"⟩, 40), (⟨"ThrowReportsModel", "leave", "(II)V"⟩, 40), (⟨"ThrowReportsModel", "throughBoth", "(II)V"⟩, 40), (⟨"ThrowReportsModel", "put", "(II)V"⟩, 40), (⟨"ThrowReportsModel", "throughChoice", "(II)V"⟩, 40), (⟨"ThrowReportsModel", "throughGuard", "(II)V"⟩, 40), (⟨"ThrowReportsModel", "part", "(II)V"⟩, 40), (⟨"ThrowReportsModel", "last", "(III)V"⟩, 40), (⟨"ThrowReportsModel", "has", "(I)Z"⟩, 40)]
theorem lw_r6 : ∀ q ∈ lw_privs_6, lw_okq q := List.forall_mem_cons.mpr ⟨lw_p80, List.forall_mem_cons.mpr ⟨lw_p81, List.forall_mem_cons.mpr ⟨lw_p82, List.forall_mem_cons.mpr ⟨lw_p83, List.forall_mem_cons.mpr ⟨lw_p84, List.forall_mem_cons.mpr ⟨lw_p85, List.forall_mem_cons.mpr ⟨lw_p86, List.forall_mem_cons.mpr ⟨lw_p87, List.forall_mem_cons.mpr ⟨lw_p88, List.forall_mem_cons.mpr ⟨lw_p89, List.forall_mem_cons.mpr ⟨lw_p90, List.forall_mem_cons.mpr ⟨lw_p91, List.forall_mem_cons.mpr ⟨lw_p92, fun _ h => absurd h List.not_mem_nil⟩⟩⟩⟩⟩⟩⟩⟩⟩⟩⟩⟩⟩
def lw_privs : List (MethodName × Nat) := lw_privs_1 ++ (lw_privs_2 ++ (lw_privs_3 ++ (lw_privs_4 ++ (lw_privs_5 ++ (lw_privs_6)))))
def lw_tbl : List Cond := k2_sels lw_privs ++ tables_1
theorem lw_privs_ok : ∀ q ∈ lw_privs, lw_okq q := by
  show ∀ q ∈ lw_privs_1 ++ (lw_privs_2 ++ (lw_privs_3 ++ (lw_privs_4 ++ (lw_privs_5 ++ (lw_privs_6))))), lw_okq q
  exact List.forall_mem_append.mpr ⟨lw_r1, List.forall_mem_append.mpr ⟨lw_r2, List.forall_mem_append.mpr ⟨lw_r3, List.forall_mem_append.mpr ⟨lw_r4, List.forall_mem_append.mpr ⟨lw_r5, lw_r6⟩⟩⟩⟩⟩
-- ===== ONE list of words for every method: the tables' words that hold all through a run =====
def lw_all : List Cond := lw_tbl.filter goodWord
/-- a word of the tables by its place: claim/WORDS.tsv -/
theorem lw_w {w : Cond} (i : Nat) (h : lw_tbl[i]? = some w) (g : goodWord w = true) : w ∈ lw_all := List.mem_filter.mpr ⟨List.mem_of_getElem? h, g⟩
theorem lw_all_tbl {w : Cond} (h : w ∈ lw_all) : w ∈ lw_tbl := (List.mem_filter.mp h).1
theorem lw_self : GoodIn lw_all lw_all := fun w h => ⟨h, good_of_word (List.mem_filter.mp h).2⟩
/-- a class's field words, by their places -/
theorem lw_in (ws : List Cond) (ps : List Nat) (hp : ws = ps.filterMap (fun i => lw_tbl[i]?)) (hg : ws.all goodWord = true) : ∀ w ∈ ws, w ∈ lw_all := by
  intro w h
  have h1 := List.all_eq_true.mp hg w h
  rw [hp] at h
  obtain ⟨i, -, hi⟩ := List.mem_filterMap.mp h
  exact lw_w i hi h1
/-- the words of a contract for the method y with code b, L locals, answer r -/
abbrev ws_ (y : MethodName) (b : ByteArray) (L : Nat) (r : Option FieldType) : List Cond := Cond.code y b L r :: lw_all
theorem lw_meth {y : MethodName} {b : ByteArray} {L : Nat} {r : Option FieldType} (h : Cond.code y b L r ∈ lw_all) : GoodIn lw_all (ws_ y b L r) := by
  intro w hw
  rcases List.mem_cons.mp hw with e | e
  · rw [e]
    exact lw_self _ h
  · exact lw_self _ e
theorem lw_app {a c : List Cond} (ha : ∀ w ∈ a, w ∈ lw_all) (hc : GoodIn lw_all c) : GoodIn lw_all (a ++ c) := by
  intro w hw
  rcases List.mem_append.mp hw with e | e
  · exact lw_self w (ha w e)
  · exact hc w e
/-- what a call through an object asks: cwV n hts (lw_V ..) -/
theorem lw_V {own : String} {idx : Nat} {C : String} {y : MethodName} {b : ByteArray} {L : Nat} {r : Option FieldType} (h1 : Cond.methodLink own idx y ∈ lw_all) (h2 : Cond.instanceMethod y ∈ lw_all) (h3 : Cond.selects C y y ∈ lw_all) (h4 : Cond.initialized C ∈ lw_all) (h5 : Cond.code y b L r ∈ lw_all) : GoodIn lw_all (wsV own idx C y (ws_ y b L r)) := by
  refine lw_app ?_ (lw_meth h5)
  intro w hw
  simp only [List.mem_cons, List.not_mem_nil, or_false] at hw
  rcases hw with e | e | e | e
  · rw [e]; exact h1
  · rw [e]; exact h2
  · rw [e]; exact h3
  · rw [e]; exact h4
/-- what a static call asks: va_cwS n hts (lw_S ..) -/
theorem lw_S {own : String} {idx : Nat} {y : MethodName} {b : ByteArray} {L : Nat} {r : Option FieldType} (h1 : Cond.methodLink own idx y ∈ lw_all) (h2 : Cond.static y ∈ lw_all) (h3 : Cond.initialized y.cls ∈ lw_all) (h4 : Cond.code y b L r ∈ lw_all) : GoodIn lw_all (va_wsS own idx y (ws_ y b L r)) := by
  refine lw_app ?_ (lw_meth h4)
  intro w hw
  simp only [List.mem_cons, List.not_mem_nil, or_false] at hw
  rcases hw with e | e | e
  · rw [e]; exact h1
  · rw [e]; exact h2
  · rw [e]; exact h3
/-- the words of a contract for a method WITH HANDLERS (hh: its table) -/
abbrev wsW_ (y : MethodName) (b : ByteArray) (L : Nat) (r : Option FieldType) (hh : List (Nat × Nat × Nat × Nat)) : List Cond := Cond.codeWith y b L r hh :: lw_all
theorem lw_methW {y : MethodName} {b : ByteArray} {L : Nat} {r : Option FieldType} {hh : List (Nat × Nat × Nat × Nat)} (h : Cond.codeWith y b L r hh ∈ lw_all) : GoodIn lw_all (wsW_ y b L r hh) := by
  intro w hw
  rcases List.mem_cons.mp hw with e | e
  · rw [e]
    exact lw_self _ h
  · exact lw_self _ e
/-- any list of words by their places (lw_in), good -/
theorem lw_good {ws : List Cond} (h : ∀ w ∈ ws, w ∈ lw_all) : GoodIn lw_all ws := fun w hw => lw_self w (h w hw)
/-- what a call of a method with handlers asks: vx_cwVW n hts (lw_VW ..), vx_cwSW n hts (lw_SW ..) -/
theorem lw_VW {own : String} {idx : Nat} {C : String} {y : MethodName} {b : ByteArray} {L : Nat} {r : Option FieldType} {hh : List (Nat × Nat × Nat × Nat)} (h1 : Cond.methodLink own idx y ∈ lw_all) (h2 : Cond.instanceMethod y ∈ lw_all) (h3 : Cond.selects C y y ∈ lw_all) (h4 : Cond.initialized C ∈ lw_all) (h5 : Cond.codeWith y b L r hh ∈ lw_all) : GoodIn lw_all (wsV own idx C y (wsW_ y b L r hh)) := by
  refine lw_app ?_ (lw_methW h5)
  intro w hw
  simp only [List.mem_cons, List.not_mem_nil, or_false] at hw
  rcases hw with e | e | e | e
  · rw [e]; exact h1
  · rw [e]; exact h2
  · rw [e]; exact h3
  · rw [e]; exact h4
theorem lw_SW {own : String} {idx : Nat} {y : MethodName} {b : ByteArray} {L : Nat} {r : Option FieldType} {hh : List (Nat × Nat × Nat × Nat)} (h1 : Cond.methodLink own idx y ∈ lw_all) (h2 : Cond.static y ∈ lw_all) (h3 : Cond.initialized y.cls ∈ lw_all) (h4 : Cond.codeWith y b L r hh ∈ lw_all) : GoodIn lw_all (va_wsS own idx y (wsW_ y b L r hh)) := by
  refine lw_app ?_ (lw_methW h4)
  intro w hw
  simp only [List.mem_cons, List.not_mem_nil, or_false] at hw
  rcases hw with e | e | e
  · rw [e]; exact h1
  · rw [e]; exact h2
  · rw [e]; exact h3
/-- a word by its place in its run of the tables -/
theorem lw_at {r : List Cond} (hr : ∀ w ∈ r, w ∈ lw_tbl) {w : Cond} (i : Nat) (h : r[i]? = some w) : w ∈ lw_tbl := hr w (List.mem_of_getElem? h)
theorem lw_g {w : Cond} (h : w ∈ lw_tbl) (g : goodWord w = true) : w ∈ lw_all := List.mem_filter.mpr ⟨h, g⟩
theorem lw_ms : ∀ w ∈ k2_sels lw_privs, w ∈ lw_tbl := fun w h => show w ∈ k2_sels lw_privs ++ tables_1 from List.mem_append_left _ h
theorem lw_m1 : ∀ w ∈ tables_1_1, w ∈ lw_tbl := fun w h => show w ∈ k2_sels lw_privs ++ tables_1 from List.mem_append_right (k2_sels lw_privs) (show w ∈ tables_1 from List.mem_append_left _ h)
theorem lw_m2 : ∀ w ∈ tables_1_2, w ∈ lw_tbl := fun w h => show w ∈ k2_sels lw_privs ++ tables_1 from List.mem_append_right (k2_sels lw_privs) (show w ∈ tables_1 from List.mem_append_right _ (List.mem_append_left _ h))
theorem lw_m3 : ∀ w ∈ tables_1_3, w ∈ lw_tbl := fun w h => show w ∈ k2_sels lw_privs ++ tables_1 from List.mem_append_right (k2_sels lw_privs) (show w ∈ tables_1 from List.mem_append_right _ (List.mem_append_right _ (List.mem_append_left _ h)))
theorem lw_m4 : ∀ w ∈ tables_1_4, w ∈ lw_tbl := fun w h => show w ∈ k2_sels lw_privs ++ tables_1 from List.mem_append_right (k2_sels lw_privs) (show w ∈ tables_1 from List.mem_append_right _ (List.mem_append_right _ (List.mem_append_right _ (List.mem_append_left _ h))))
theorem lw_m5 : ∀ w ∈ tables_1_5, w ∈ lw_tbl := fun w h => show w ∈ k2_sels lw_privs ++ tables_1 from List.mem_append_right (k2_sels lw_privs) (show w ∈ tables_1 from List.mem_append_right _ (List.mem_append_right _ (List.mem_append_right _ (List.mem_append_right _ (List.mem_append_left _ h)))))
theorem lw_m6 : ∀ w ∈ tables_1_6, w ∈ lw_tbl := fun w h => show w ∈ k2_sels lw_privs ++ tables_1 from List.mem_append_right (k2_sels lw_privs) (show w ∈ tables_1 from List.mem_append_right _ (List.mem_append_right _ (List.mem_append_right _ (List.mem_append_right _ (List.mem_append_right _ h)))))
theorem qs0 : (Cond.selects "ThrowReports" ⟨"ThrowReports", "more", "(LThrowReports$Node;)I"⟩ ⟨"ThrowReports", "more", "(LThrowReports$Node;)I"⟩) ∈ lw_all := lw_g (lw_at lw_ms 0 rfl) rfl
theorem qs1 : (Cond.selects "ThrowReports" ⟨"ThrowReports", "isNode", "(I)Z"⟩ ⟨"ThrowReports", "isNode", "(I)Z"⟩) ∈ lw_all := lw_g (lw_at lw_ms 1 rfl) rfl
theorem qs2 : (Cond.selects "java/lang/NullPointerException" ⟨"java/lang/NullPointerException", "getExtendedNPEMessage", "()Ljava/lang/String;"⟩ ⟨"java/lang/NullPointerException", "getExtendedNPEMessage", "()Ljava/lang/String;"⟩) ∈ lw_all := lw_g (lw_at lw_ms 2 rfl) rfl
theorem qs3 : (Cond.selects "java/lang/Throwable" ⟨"java/lang/Throwable", "fillInStackTrace", "(I)Ljava/lang/Throwable;"⟩ ⟨"java/lang/Throwable", "fillInStackTrace", "(I)Ljava/lang/Throwable;"⟩) ∈ lw_all := lw_g (lw_at lw_ms 3 rfl) rfl
theorem qs4 : (Cond.selects "ThrowReports" ⟨"ThrowReports", "does", "(LThrowReports$Node;)V"⟩ ⟨"ThrowReports", "does", "(LThrowReports$Node;)V"⟩) ∈ lw_all := lw_g (lw_at lw_ms 4 rfl) rfl
theorem qs5 : (Cond.selects "ThrowReports" ⟨"ThrowReports", "begins", "(LThrowReports$Node;)V"⟩ ⟨"ThrowReports", "begins", "(LThrowReports$Node;)V"⟩) ∈ lw_all := lw_g (lw_at lw_ms 5 rfl) rfl
theorem qs6 : (Cond.selects "ThrowReports" ⟨"ThrowReports", "acts", "(IIIII)V"⟩ ⟨"ThrowReports", "acts", "(IIIII)V"⟩) ∈ lw_all := lw_g (lw_at lw_ms 6 rfl) rfl
theorem qs7 : (Cond.selects "ThrowReports" ⟨"ThrowReports", "makes", "(III)V"⟩ ⟨"ThrowReports", "makes", "(III)V"⟩) ∈ lw_all := lw_g (lw_at lw_ms 7 rfl) rfl
theorem qs8 : (Cond.selects "ThrowReports" ⟨"ThrowReports", "need", "(JJ)V"⟩ ⟨"ThrowReports", "need", "(JJ)V"⟩) ∈ lw_all := lw_g (lw_at lw_ms 8 rfl) rfl
theorem qs9 : (Cond.selects "ThrowReports" ⟨"ThrowReports", "becomes", "(ILjava/lang/Object;I)V"⟩ ⟨"ThrowReports", "becomes", "(ILjava/lang/Object;I)V"⟩) ∈ lw_all := lw_g (lw_at lw_ms 9 rfl) rfl
theorem qs10 : (Cond.selects "ThrowReports" ⟨"ThrowReports", "deep", "(III)V"⟩ ⟨"ThrowReports", "deep", "(III)V"⟩) ∈ lw_all := lw_g (lw_at lw_ms 10 rfl) rfl
theorem qs11 : (Cond.selects "ThrowReports" ⟨"ThrowReports", "takesItem", "(ILjava/lang/Object;II)V"⟩ ⟨"ThrowReports", "takesItem", "(ILjava/lang/Object;II)V"⟩) ∈ lw_all := lw_g (lw_at lw_ms 11 rfl) rfl
theorem qs12 : (Cond.selects "ThrowReports" ⟨"ThrowReports", "copies", "(LThrowReports$Holder;ILThrowReports$Holder;II)V"⟩ ⟨"ThrowReports", "copies", "(LThrowReports$Holder;ILThrowReports$Holder;II)V"⟩) ∈ lw_all := lw_g (lw_at lw_ms 12 rfl) rfl
theorem qs13 : (Cond.selects "ThrowReports$Holder" ⟨"ThrowReports$Holder", "isRow", "()Z"⟩ ⟨"ThrowReports$Holder", "isRow", "()Z"⟩) ∈ lw_all := lw_g (lw_at lw_ms 13 rfl) rfl
theorem qs14 : (Cond.selects "ThrowReports$Holder" ⟨"ThrowReports$Holder", "kind", "()I"⟩ ⟨"ThrowReports$Holder", "kind", "()I"⟩) ∈ lw_all := lw_g (lw_at lw_ms 14 rfl) rfl
theorem qs15 : (Cond.selects "ThrowReports$Holder" ⟨"ThrowReports$Holder", "size", "()I"⟩ ⟨"ThrowReports$Holder", "size", "()I"⟩) ∈ lw_all := lw_g (lw_at lw_ms 15 rfl) rfl
theorem qs16 : (Cond.selects "ThrowReports" ⟨"ThrowReports", "guards", "(LThrowReports$Node;)V"⟩ ⟨"ThrowReports", "guards", "(LThrowReports$Node;)V"⟩) ∈ lw_all := lw_g (lw_at lw_ms 16 rfl) rfl
theorem qs17 : (Cond.selects "ThrowReports" ⟨"ThrowReports", "takes", "(LThrowReports$Node;)V"⟩ ⟨"ThrowReports", "takes", "(LThrowReports$Node;)V"⟩) ∈ lw_all := lw_g (lw_at lw_ms 17 rfl) rfl
theorem qs18 : (Cond.selects "ThrowReports" ⟨"ThrowReports", "handles", "(LThrowReports$Node;ILjava/lang/RuntimeException;)V"⟩ ⟨"ThrowReports", "handles", "(LThrowReports$Node;ILjava/lang/RuntimeException;)V"⟩) ∈ lw_all := lw_g (lw_at lw_ms 18 rfl) rfl
theorem qs19 : (Cond.selects "ThrowReports$Node" ⟨"ThrowReports$Node", "takes", "(I)Z"⟩ ⟨"ThrowReports$Node", "takes", "(I)Z"⟩) ∈ lw_all := lw_g (lw_at lw_ms 19 rfl) rfl
theorem qs20 : (Cond.selects "ThrowReports" ⟨"ThrowReports", "ends", "(LThrowReports$Node;Z)V"⟩ ⟨"ThrowReports", "ends", "(LThrowReports$Node;Z)V"⟩) ∈ lw_all := lw_g (lw_at lw_ms 20 rfl) rfl
theorem qs21 : (Cond.selects "ThrowReports" ⟨"ThrowReports", "numberOf", "(Ljava/lang/Object;)I"⟩ ⟨"ThrowReports", "numberOf", "(Ljava/lang/Object;)I"⟩) ∈ lw_all := lw_g (lw_at lw_ms 21 rfl) rfl
theorem qs22 : (Cond.selects "ThrowReports" ⟨"ThrowReports", "isAlike", "(LThrowReports$Holder;LThrowReports$Holder;)Z"⟩ ⟨"ThrowReports", "isAlike", "(LThrowReports$Holder;LThrowReports$Holder;)Z"⟩) ∈ lw_all := lw_g (lw_at lw_ms 22 rfl) rfl
theorem qs23 : (Cond.selects "ThrowReports$Node" ⟨"ThrowReports$Node", "forget", "()V"⟩ ⟨"ThrowReports$Node", "forget", "()V"⟩) ∈ lw_all := lw_g (lw_at lw_ms 23 rfl) rfl
theorem qs24 : (Cond.selects "ThrowReports" ⟨"ThrowReports", "through", "(LThrowReports$Node;LThrowReports$State;)LThrowReports$Ways;"⟩ ⟨"ThrowReports", "through", "(LThrowReports$Node;LThrowReports$State;)LThrowReports$Ways;"⟩) ∈ lw_all := lw_g (lw_at lw_ms 24 rfl) rfl
theorem qs25 : (Cond.selects "ThrowReports$Questions" ⟨"ThrowReports$Questions", "size", "(Z)LThrowReports$Questions;"⟩ ⟨"ThrowReports$Questions", "size", "(Z)LThrowReports$Questions;"⟩) ∈ lw_all := lw_g (lw_at lw_ms 25 rfl) rfl
theorem qs26 : (Cond.selects "ThrowReports$Ways" ⟨"ThrowReports$Ways", "add", "(ILThrowReports$State;)V"⟩ ⟨"ThrowReports$Ways", "add", "(ILThrowReports$State;)V"⟩) ∈ lw_all := lw_g (lw_at lw_ms 26 rfl) rfl
theorem qs27 : (Cond.selects "ThrowReports$State" ⟨"ThrowReports$State", "copy", "()LThrowReports$State;"⟩ ⟨"ThrowReports$State", "copy", "()LThrowReports$State;"⟩) ∈ lw_all := lw_g (lw_at lw_ms 27 rfl) rfl
theorem qs28 : (Cond.selects "ThrowReports$Questions" ⟨"ThrowReports$Questions", "may", "(I)LThrowReports$Questions;"⟩ ⟨"ThrowReports$Questions", "may", "(I)LThrowReports$Questions;"⟩) ∈ lw_all := lw_g (lw_at lw_ms 28 rfl) rfl
theorem qs29 : (Cond.selects "ThrowReports$Questions" ⟨"ThrowReports$Questions", "anew", "(II)LThrowReports$Ways;"⟩ ⟨"ThrowReports$Questions", "anew", "(II)LThrowReports$Ways;"⟩) ∈ lw_all := lw_g (lw_at lw_ms 29 rfl) rfl
theorem qs30 : (Cond.selects "ThrowReports$State" ⟨"ThrowReports$State", "with", "(II)LThrowReports$State;"⟩ ⟨"ThrowReports$State", "with", "(II)LThrowReports$State;"⟩) ∈ lw_all := lw_g (lw_at lw_ms 30 rfl) rfl
theorem qs31 : (Cond.selects "ThrowReports$Questions" ⟨"ThrowReports$Questions", "end", "()LThrowReports$Ways;"⟩ ⟨"ThrowReports$Questions", "end", "()LThrowReports$Ways;"⟩) ∈ lw_all := lw_g (lw_at lw_ms 31 rfl) rfl
theorem qs32 : (Cond.selects "ThrowReports$Questions" ⟨"ThrowReports$Questions", "as", "(II)LThrowReports$Questions;"⟩ ⟨"ThrowReports$Questions", "as", "(II)LThrowReports$Questions;"⟩) ∈ lw_all := lw_g (lw_at lw_ms 32 rfl) rfl
theorem qs33 : (Cond.selects "ThrowReports$Questions" ⟨"ThrowReports$Questions", "set", "(I)I"⟩ ⟨"ThrowReports$Questions", "set", "(I)I"⟩) ∈ lw_all := lw_g (lw_at lw_ms 33 rfl) rfl
theorem qs34 : (Cond.selects "ThrowReports$Questions" ⟨"ThrowReports$Questions", "parts", "(III)V"⟩ ⟨"ThrowReports$Questions", "parts", "(III)V"⟩) ∈ lw_all := lw_g (lw_at lw_ms 34 rfl) rfl
theorem qs35 : (Cond.selects "ThrowReports$Questions" ⟨"ThrowReports$Questions", "there", "(I)LThrowReports$Questions;"⟩ ⟨"ThrowReports$Questions", "there", "(I)LThrowReports$Questions;"⟩) ∈ lw_all := lw_g (lw_at lw_ms 35 rfl) rfl
theorem qs36 : (Cond.selects "ThrowReports" ⟨"ThrowReports", "ofBoth", "(LThrowReports$Node;LThrowReports$State;)LThrowReports$Ways;"⟩ ⟨"ThrowReports", "ofBoth", "(LThrowReports$Node;LThrowReports$State;)LThrowReports$Ways;"⟩) ∈ lw_all := lw_g (lw_at lw_ms 36 rfl) rfl
theorem qs37 : (Cond.selects "ThrowReports$Ways" ⟨"ThrowReports$Ways", "addAll", "(LThrowReports$Ways;)V"⟩ ⟨"ThrowReports$Ways", "addAll", "(LThrowReports$Ways;)V"⟩) ∈ lw_all := lw_g (lw_at lw_ms 37 rfl) rfl
theorem qs38 : (Cond.selects "ThrowReports" ⟨"ThrowReports", "ofChoice", "(LThrowReports$Node;LThrowReports$State;)LThrowReports$Ways;"⟩ ⟨"ThrowReports", "ofChoice", "(LThrowReports$Node;LThrowReports$State;)LThrowReports$Ways;"⟩) ∈ lw_all := lw_g (lw_at lw_ms 38 rfl) rfl
theorem qs39 : (Cond.selects "ThrowReports" ⟨"ThrowReports", "ofGuard", "(LThrowReports$Node;LThrowReports$State;)LThrowReports$Ways;"⟩ ⟨"ThrowReports", "ofGuard", "(LThrowReports$Node;LThrowReports$State;)LThrowReports$Ways;"⟩) ∈ lw_all := lw_g (lw_at lw_ms 39 rfl) rfl
theorem qs40 : (Cond.selects "ThrowReports$Ways" ⟨"ThrowReports$Ways", "bits", "()I"⟩ ⟨"ThrowReports$Ways", "bits", "()I"⟩) ∈ lw_all := lw_g (lw_at lw_ms 40 rfl) rfl
theorem qs41 : (Cond.selects "ThrowReports" ⟨"ThrowReports", "behind", "(LThrowReports$Node;LThrowReports$Ways;)LThrowReports$Ways;"⟩ ⟨"ThrowReports", "behind", "(LThrowReports$Node;LThrowReports$Ways;)LThrowReports$Ways;"⟩) ∈ lw_all := lw_g (lw_at lw_ms 41 rfl) rfl
theorem qs42 : (Cond.selects "ThrowReportsModel" ⟨"ThrowReportsModel", "node", "(IIIIIII)I"⟩ ⟨"ThrowReportsModel", "node", "(IIIIIII)I"⟩) ∈ lw_all := lw_g (lw_at lw_ms 42 rfl) rfl
theorem qs43 : (Cond.selects "ThrowReportsModel" ⟨"ThrowReportsModel", "isNode", "(I)Z"⟩ ⟨"ThrowReportsModel", "isNode", "(I)Z"⟩) ∈ lw_all := lw_g (lw_at lw_ms 43 rfl) rfl
theorem qs44 : (Cond.selects "ThrowReportsModel" ⟨"ThrowReportsModel", "goes", "(I)I"⟩ ⟨"ThrowReportsModel", "goes", "(I)I"⟩) ∈ lw_all := lw_g (lw_at lw_ms 44 rfl) rfl
theorem qs45 : (Cond.selects "ThrowReportsModel" ⟨"ThrowReportsModel", "push", "(I)V"⟩ ⟨"ThrowReportsModel", "push", "(I)V"⟩) ∈ lw_all := lw_g (lw_at lw_ms 45 rfl) rfl
theorem qs46 : (Cond.selects "ThrowReportsModel" ⟨"ThrowReportsModel", "ofAct", "(I)I"⟩ ⟨"ThrowReportsModel", "ofAct", "(I)I"⟩) ∈ lw_all := lw_g (lw_at lw_ms 46 rfl) rfl
theorem qs47 : (Cond.selects "ThrowReportsModel" ⟨"ThrowReportsModel", "done", "(I)I"⟩ ⟨"ThrowReportsModel", "done", "(I)I"⟩) ∈ lw_all := lw_g (lw_at lw_ms 47 rfl) rfl
theorem qs48 : (Cond.selects "ThrowReportsModel" ⟨"ThrowReportsModel", "make", "(III)I"⟩ ⟨"ThrowReportsModel", "make", "(III)I"⟩) ∈ lw_all := lw_g (lw_at lw_ms 48 rfl) rfl
theorem qs49 : (Cond.selects "ThrowReportsModel" ⟨"ThrowReportsModel", "fits", "(JJ)Z"⟩ ⟨"ThrowReportsModel", "fits", "(JJ)Z"⟩) ∈ lw_all := lw_g (lw_at lw_ms 49 rfl) rfl
theorem qs50 : (Cond.selects "ThrowReportsModel" ⟨"ThrowReportsModel", "fresh", "(II)I"⟩ ⟨"ThrowReportsModel", "fresh", "(II)I"⟩) ∈ lw_all := lw_g (lw_at lw_ms 50 rfl) rfl
theorem qs51 : (Cond.selects "ThrowReportsModel" ⟨"ThrowReportsModel", "deep", "(III)I"⟩ ⟨"ThrowReportsModel", "deep", "(III)I"⟩) ∈ lw_all := lw_g (lw_at lw_ms 51 rfl) rfl
theorem qs52 : (Cond.selects "ThrowReportsModel" ⟨"ThrowReportsModel", "figure", "(III)I"⟩ ⟨"ThrowReportsModel", "figure", "(III)I"⟩) ∈ lw_all := lw_g (lw_at lw_ms 52 rfl) rfl
theorem qs53 : (Cond.selects "ThrowReportsModel" ⟨"ThrowReportsModel", "move", "(III)I"⟩ ⟨"ThrowReportsModel", "move", "(III)I"⟩) ∈ lw_all := lw_g (lw_at lw_ms 53 rfl) rfl
theorem qs54 : (Cond.selects "ThrowReportsModel" ⟨"ThrowReportsModel", "as", "(II)I"⟩ ⟨"ThrowReportsModel", "as", "(II)I"⟩) ∈ lw_all := lw_g (lw_at lw_ms 54 rfl) rfl
theorem qs55 : (Cond.selects "ThrowReportsModel" ⟨"ThrowReportsModel", "is", "(II)Z"⟩ ⟨"ThrowReportsModel", "is", "(II)Z"⟩) ∈ lw_all := lw_g (lw_at lw_ms 55 rfl) rfl
theorem qs56 : (Cond.selects "ThrowReportsModel" ⟨"ThrowReportsModel", "get", "(IIII)I"⟩ ⟨"ThrowReportsModel", "get", "(IIII)I"⟩) ∈ lw_all := lw_g (lw_at lw_ms 56 rfl) rfl
theorem qs57 : (Cond.selects "ThrowReportsModel" ⟨"ThrowReportsModel", "itemOf", "(III)I"⟩ ⟨"ThrowReportsModel", "itemOf", "(III)I"⟩) ∈ lw_all := lw_g (lw_at lw_ms 57 rfl) rfl
theorem qs58 : (Cond.selects "ThrowReportsModel" ⟨"ThrowReportsModel", "row", "(II)I"⟩ ⟨"ThrowReportsModel", "row", "(II)I"⟩) ∈ lw_all := lw_g (lw_at lw_ms 58 rfl) rfl
theorem qs59 : (Cond.selects "ThrowReportsModel" ⟨"ThrowReportsModel", "set", "(IIII)I"⟩ ⟨"ThrowReportsModel", "set", "(IIII)I"⟩) ∈ lw_all := lw_g (lw_at lw_ms 59 rfl) rfl
theorem qs60 : (Cond.selects "ThrowReportsModel" ⟨"ThrowReportsModel", "take", "(IIII)I"⟩ ⟨"ThrowReportsModel", "take", "(IIII)I"⟩) ∈ lw_all := lw_g (lw_at lw_ms 60 rfl) rfl
theorem qs61 : (Cond.selects "ThrowReportsModel" ⟨"ThrowReportsModel", "lay", "(IIII)I"⟩ ⟨"ThrowReportsModel", "lay", "(IIII)I"⟩) ∈ lw_all := lw_g (lw_at lw_ms 61 rfl) rfl
theorem qs62 : (Cond.selects "ThrowReportsModel" ⟨"ThrowReportsModel", "measure", "(III)I"⟩ ⟨"ThrowReportsModel", "measure", "(III)I"⟩) ∈ lw_all := lw_g (lw_at lw_ms 62 rfl) rfl
theorem qs63 : (Cond.selects "ThrowReportsModel" ⟨"ThrowReportsModel", "cloned", "(II)I"⟩ ⟨"ThrowReportsModel", "cloned", "(II)I"⟩) ∈ lw_all := lw_g (lw_at lw_ms 63 rfl) rfl
theorem qs64 : (Cond.selects "ThrowReportsModel" ⟨"ThrowReportsModel", "tell", "(II)I"⟩ ⟨"ThrowReportsModel", "tell", "(II)I"⟩) ∈ lw_all := lw_g (lw_at lw_ms 64 rfl) rfl
theorem qs65 : (Cond.selects "ThrowReportsModel" ⟨"ThrowReportsModel", "copy", "(IIIII)I"⟩ ⟨"ThrowReportsModel", "copy", "(IIIII)I"⟩) ∈ lw_all := lw_g (lw_at lw_ms 65 rfl) rfl
theorem qs66 : (Cond.selects "ThrowReportsModel" ⟨"ThrowReportsModel", "divide", "(IIIZ)I"⟩ ⟨"ThrowReportsModel", "divide", "(IIIZ)I"⟩) ∈ lw_all := lw_g (lw_at lw_ms 66 rfl) rfl
theorem qs67 : (Cond.selects "ThrowReportsModel" ⟨"ThrowReportsModel", "ofGuard", "(II)I"⟩ ⟨"ThrowReportsModel", "ofGuard", "(II)I"⟩) ∈ lw_all := lw_g (lw_at lw_ms 67 rfl) rfl
theorem qs68 : (Cond.selects "ThrowReportsModel" ⟨"ThrowReportsModel", "step", "(II)V"⟩ ⟨"ThrowReportsModel", "step", "(II)V"⟩) ∈ lw_all := lw_g (lw_at lw_ms 68 rfl) rfl
theorem qs69 : (Cond.selects "ThrowReportsModel" ⟨"ThrowReportsModel", "ofOther", "(II)I"⟩ ⟨"ThrowReportsModel", "ofOther", "(II)I"⟩) ∈ lw_all := lw_g (lw_at lw_ms 69 rfl) rfl
theorem qs70 : (Cond.selects "ThrowReportsModel" ⟨"ThrowReportsModel", "twins", "(II)Z"⟩ ⟨"ThrowReportsModel", "twins", "(II)Z"⟩) ∈ lw_all := lw_g (lw_at lw_ms 70 rfl) rfl
theorem qs71 : (Cond.selects "ThrowReportsModel" ⟨"ThrowReportsModel", "plainTwins", "(II)Z"⟩ ⟨"ThrowReportsModel", "plainTwins", "(II)Z"⟩) ∈ lw_all := lw_g (lw_at lw_ms 71 rfl) rfl
theorem qs72 : (Cond.selects "ThrowReportsModel" ⟨"ThrowReportsModel", "startOf", "(I)I"⟩ ⟨"ThrowReportsModel", "startOf", "(I)I"⟩) ∈ lw_all := lw_g (lw_at lw_ms 72 rfl) rfl
theorem qs73 : (Cond.selects "ThrowReportsModel" ⟨"ThrowReportsModel", "through", "(I)V"⟩ ⟨"ThrowReportsModel", "through", "(I)V"⟩) ∈ lw_all := lw_g (lw_at lw_ms 73 rfl) rfl
theorem qs74 : (Cond.selects "ThrowReportsModel" ⟨"ThrowReportsModel", "throughAct", "(II)V"⟩ ⟨"ThrowReportsModel", "throughAct", "(II)V"⟩) ∈ lw_all := lw_g (lw_at lw_ms 74 rfl) rfl
theorem qs75 : (Cond.selects "ThrowReportsModel" ⟨"ThrowReportsModel", "enter", "(II)V"⟩ ⟨"ThrowReportsModel", "enter", "(II)V"⟩) ∈ lw_all := lw_g (lw_at lw_ms 75 rfl) rfl
theorem qs76 : (Cond.selects "ThrowReportsModel" ⟨"ThrowReportsModel", "mayAct", "(II)Z"⟩ ⟨"ThrowReportsModel", "mayAct", "(II)Z"⟩) ∈ lw_all := lw_g (lw_at lw_ms 76 rfl) rfl
theorem qs77 : (Cond.selects "ThrowReportsModel" ⟨"ThrowReportsModel", "mayNew", "(IZII)Z"⟩ ⟨"ThrowReportsModel", "mayNew", "(IZII)Z"⟩) ∈ lw_all := lw_g (lw_at lw_ms 77 rfl) rfl
theorem qs78 : (Cond.selects "ThrowReportsModel" ⟨"ThrowReportsModel", "mayFail", "(IIII)V"⟩ ⟨"ThrowReportsModel", "mayFail", "(IIII)V"⟩) ∈ lw_all := lw_g (lw_at lw_ms 78 rfl) rfl
theorem qs79 : (Cond.selects "ThrowReportsModel" ⟨"ThrowReportsModel", "mayAs", "(III)Z"⟩ ⟨"ThrowReportsModel", "mayAs", "(III)Z"⟩) ∈ lw_all := lw_g (lw_at lw_ms 79 rfl) rfl
theorem qs80 : (Cond.selects "ThrowReportsModel" ⟨"ThrowReportsModel", "mayItem", "(III)Z"⟩ ⟨"ThrowReportsModel", "mayItem", "(III)Z"⟩) ∈ lw_all := lw_g (lw_at lw_ms 80 rfl) rfl
theorem qs81 : (Cond.selects "ThrowReportsModel" ⟨"ThrowReportsModel", "mayRow", "(II)Z"⟩ ⟨"ThrowReportsModel", "mayRow", "(II)Z"⟩) ∈ lw_all := lw_g (lw_at lw_ms 81 rfl) rfl
theorem qs82 : (Cond.selects "ThrowReportsModel" ⟨"ThrowReportsModel", "mayTake", "(IIII)Z"⟩ ⟨"ThrowReportsModel", "mayTake", "(IIII)Z"⟩) ∈ lw_all := lw_g (lw_at lw_ms 82 rfl) rfl
theorem qs83 : (Cond.selects "ThrowReportsModel" ⟨"ThrowReportsModel", "mayLay", "(IIII)Z"⟩ ⟨"ThrowReportsModel", "mayLay", "(IIII)Z"⟩) ∈ lw_all := lw_g (lw_at lw_ms 83 rfl) rfl
theorem qs84 : (Cond.selects "ThrowReportsModel" ⟨"ThrowReportsModel", "mayCopy", "(III)Z"⟩ ⟨"ThrowReportsModel", "mayCopy", "(III)Z"⟩) ∈ lw_all := lw_g (lw_at lw_ms 84 rfl) rfl
theorem qs85 : (Cond.selects "ThrowReportsModel" ⟨"ThrowReportsModel", "leave", "(II)V"⟩ ⟨"ThrowReportsModel", "leave", "(II)V"⟩) ∈ lw_all := lw_g (lw_at lw_ms 85 rfl) rfl
theorem qs86 : (Cond.selects "ThrowReportsModel" ⟨"ThrowReportsModel", "throughBoth", "(II)V"⟩ ⟨"ThrowReportsModel", "throughBoth", "(II)V"⟩) ∈ lw_all := lw_g (lw_at lw_ms 86 rfl) rfl
theorem qs87 : (Cond.selects "ThrowReportsModel" ⟨"ThrowReportsModel", "put", "(II)V"⟩ ⟨"ThrowReportsModel", "put", "(II)V"⟩) ∈ lw_all := lw_g (lw_at lw_ms 87 rfl) rfl
theorem qs88 : (Cond.selects "ThrowReportsModel" ⟨"ThrowReportsModel", "throughChoice", "(II)V"⟩ ⟨"ThrowReportsModel", "throughChoice", "(II)V"⟩) ∈ lw_all := lw_g (lw_at lw_ms 88 rfl) rfl
theorem qs89 : (Cond.selects "ThrowReportsModel" ⟨"ThrowReportsModel", "throughGuard", "(II)V"⟩ ⟨"ThrowReportsModel", "throughGuard", "(II)V"⟩) ∈ lw_all := lw_g (lw_at lw_ms 89 rfl) rfl
theorem qs90 : (Cond.selects "ThrowReportsModel" ⟨"ThrowReportsModel", "part", "(II)V"⟩ ⟨"ThrowReportsModel", "part", "(II)V"⟩) ∈ lw_all := lw_g (lw_at lw_ms 90 rfl) rfl
theorem qs91 : (Cond.selects "ThrowReportsModel" ⟨"ThrowReportsModel", "last", "(III)V"⟩ ⟨"ThrowReportsModel", "last", "(III)V"⟩) ∈ lw_all := lw_g (lw_at lw_ms 91 rfl) rfl
theorem qs92 : (Cond.selects "ThrowReportsModel" ⟨"ThrowReportsModel", "has", "(I)Z"⟩ ⟨"ThrowReportsModel", "has", "(I)Z"⟩) ∈ lw_all := lw_g (lw_at lw_ms 92 rfl) rfl
-- ===== end of PART A; then your names; then what follows =====
