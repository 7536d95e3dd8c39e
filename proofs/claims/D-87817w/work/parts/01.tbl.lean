-- ===== PART A: goes FIRST, ahead of the names: the tables' words, and 'selects' of the private methods out of them =====
/-- a private method of a class that the tables say can be made, by its rows of tables_1 -/
def lw_okq (q : MethodName × Nat) : Prop := (q.1.cls ≠ "java/lang/invoke/MethodHandle" ∧ q.1.cls ≠ "java/lang/invoke/VarHandle") ∧ Cond.instantiable q.1.cls q.2 ∈ tables_1 ∧ Cond.privateMethod q.1 ∈ tables_1 ∧ Cond.instanceMethod q.1 ∈ tables_1
set_option maxRecDepth 100000
theorem lw_t1 {w : Cond} (h : w ∈ tables_1_1) : w ∈ tables_1 := List.mem_append_left _ h
theorem lw_t2 {w : Cond} (h : w ∈ tables_1_2) : w ∈ tables_1 := List.mem_append_right _ (List.mem_append_left _ h)
theorem lw_t3 {w : Cond} (h : w ∈ tables_1_3) : w ∈ tables_1 := List.mem_append_right _ (List.mem_append_right _ (List.mem_append_left _ h))
theorem lw_t4 {w : Cond} (h : w ∈ tables_1_4) : w ∈ tables_1 := List.mem_append_right _ (List.mem_append_right _ (List.mem_append_right _ (List.mem_append_left _ h)))
theorem lw_t5 {w : Cond} (h : w ∈ tables_1_5) : w ∈ tables_1 := List.mem_append_right _ (List.mem_append_right _ (List.mem_append_right _ (List.mem_append_right _ h)))
theorem lw_p0 : lw_okq (⟨"JoinLoom", "find", "(I)LJoinLoom$Table;"⟩, 11) := ⟨⟨by decide +kernel, by decide +kernel⟩, lw_t1 (List.mem_of_getElem? (i := 16) rfl), lw_t1 (List.mem_of_getElem? (i := 209) rfl), lw_t1 (List.mem_of_getElem? (i := 210) rfl)⟩
theorem lw_p1 : lw_okq (⟨"JoinLoom$Table", "compare", "(IIII)I"⟩, 3) := ⟨⟨by decide +kernel, by decide +kernel⟩, lw_t1 (List.mem_of_getElem? (i := 185) rfl), lw_t1 (List.mem_of_getElem? (i := 221) rfl), lw_t1 (List.mem_of_getElem? (i := 222) rfl)⟩
theorem lw_p2 : lw_okq (⟨"JoinLoom$Table", "moves", "(II)V"⟩, 3) := ⟨⟨by decide +kernel, by decide +kernel⟩, lw_t1 (List.mem_of_getElem? (i := 185) rfl), lw_t1 (List.mem_of_getElem? (i := 239) rfl), lw_t2 (List.mem_of_getElem? (i := 0) rfl)⟩
theorem lw_p3 : lw_okq (⟨"JoinLoom", "place", "(ZI)I"⟩, 11) := ⟨⟨by decide +kernel, by decide +kernel⟩, lw_t1 (List.mem_of_getElem? (i := 16) rfl), lw_t2 (List.mem_of_getElem? (i := 123) rfl), lw_t2 (List.mem_of_getElem? (i := 124) rfl)⟩
theorem lw_p4 : lw_okq (⟨"JoinLoom$Question", "last", "()LJoinLoom$Has;"⟩, 5) := ⟨⟨by decide +kernel, by decide +kernel⟩, lw_t2 (List.mem_of_getElem? (i := 24) rfl), lw_t2 (List.mem_of_getElem? (i := 127) rfl), lw_t2 (List.mem_of_getElem? (i := 128) rfl)⟩
theorem lw_p5 : lw_okq (⟨"JoinLoom", "stands", "()Z"⟩, 11) := ⟨⟨by decide +kernel, by decide +kernel⟩, lw_t1 (List.mem_of_getElem? (i := 16) rfl), lw_t2 (List.mem_of_getElem? (i := 177) rfl), lw_t2 (List.mem_of_getElem? (i := 178) rfl)⟩
theorem lw_p6 : lw_okq (⟨"JoinLoom$Tree", "isIn", "(I)Z"⟩, 11) := ⟨⟨by decide +kernel, by decide +kernel⟩, lw_t1 (List.mem_of_getElem? (i := 71) rfl), lw_t2 (List.mem_of_getElem? (i := 216) rfl), lw_t2 (List.mem_of_getElem? (i := 217) rfl)⟩
theorem lw_p7 : lw_okq (⟨"JoinLoom$Tree", "comes", "(I)V"⟩, 11) := ⟨⟨by decide +kernel, by decide +kernel⟩, lw_t1 (List.mem_of_getElem? (i := 71) rfl), lw_t2 (List.mem_of_getElem? (i := 221) rfl), lw_t2 (List.mem_of_getElem? (i := 222) rfl)⟩
theorem lw_p8 : lw_okq (⟨"JoinLoom$Tree", "compare", "(II)I"⟩, 11) := ⟨⟨by decide +kernel, by decide +kernel⟩, lw_t1 (List.mem_of_getElem? (i := 71) rfl), lw_t2 (List.mem_of_getElem? (i := 225) rfl), lw_t2 (List.mem_of_getElem? (i := 226) rfl)⟩
theorem lw_p9 : lw_okq (⟨"JoinLoom$Loom", "goes", "(II)V"⟩, 8) := ⟨⟨by decide +kernel, by decide +kernel⟩, lw_t1 (List.mem_of_getElem? (i := 64) rfl), lw_t2 (List.mem_of_getElem? (i := 230) rfl), lw_t2 (List.mem_of_getElem? (i := 231) rfl)⟩
theorem lw_p10 : lw_okq (⟨"JoinLoom$Cloth", "compare", "(I[I)I"⟩, 7) := ⟨⟨by decide +kernel, by decide +kernel⟩, lw_t1 (List.mem_of_getElem? (i := 26) rfl), lw_t2 (List.mem_of_getElem? (i := 238) rfl), lw_t2 (List.mem_of_getElem? (i := 239) rfl)⟩
theorem lw_p11 : lw_okq (⟨"JoinLoom$Tree", "spans", "()V"⟩, 11) := ⟨⟨by decide +kernel, by decide +kernel⟩, lw_t1 (List.mem_of_getElem? (i := 71) rfl), lw_t3 (List.mem_of_getElem? (i := 15) rfl), lw_t3 (List.mem_of_getElem? (i := 16) rfl)⟩
theorem lw_p12 : lw_okq (⟨"JoinLoom$Tree", "key", "(I)J"⟩, 11) := ⟨⟨by decide +kernel, by decide +kernel⟩, lw_t1 (List.mem_of_getElem? (i := 71) rfl), lw_t3 (List.mem_of_getElem? (i := 19) rfl), lw_t3 (List.mem_of_getElem? (i := 20) rfl)⟩
theorem lw_p13 : lw_okq (⟨"JoinLoom$Loom", "holds", "(IIZ)Z"⟩, 8) := ⟨⟨by decide +kernel, by decide +kernel⟩, lw_t1 (List.mem_of_getElem? (i := 64) rfl), lw_t3 (List.mem_of_getElem? (i := 42) rfl), lw_t3 (List.mem_of_getElem? (i := 43) rfl)⟩
theorem lw_p14 : lw_okq (⟨"JoinLoom$Has", "value", "(I[I)I"⟩, 6) := ⟨⟨by decide +kernel, by decide +kernel⟩, lw_t2 (List.mem_of_getElem? (i := 61) rfl), lw_t3 (List.mem_of_getElem? (i := 59) rfl), lw_t3 (List.mem_of_getElem? (i := 60) rfl)⟩
theorem lw_p15 : lw_okq (⟨"JoinLoom$Loom", "below", "([LJoinLoom$Tree;III)V"⟩, 8) := ⟨⟨by decide +kernel, by decide +kernel⟩, lw_t1 (List.mem_of_getElem? (i := 64) rfl), lw_t3 (List.mem_of_getElem? (i := 82) rfl), lw_t3 (List.mem_of_getElem? (i := 83) rfl)⟩
def lw_privs_1 : List (MethodName × Nat) := [(⟨"JoinLoom", "find", "(I)LJoinLoom$Table;"⟩, 11), (⟨"JoinLoom$Table", "compare", "(IIII)I"⟩, 3), (⟨"JoinLoom$Table", "moves", "(II)V"⟩, 3), (⟨"JoinLoom", "place", "(ZI)I"⟩, 11), (⟨"JoinLoom$Question", "last", "()LJoinLoom$Has;"⟩, 5), (⟨"JoinLoom", "stands", "()Z"⟩, 11), (⟨"JoinLoom$Tree", "isIn", "(I)Z"⟩, 11), (⟨"JoinLoom$Tree", "comes", "(I)V"⟩, 11), (⟨"JoinLoom$Tree", "compare", "(II)I"⟩, 11), (⟨"JoinLoom$Loom", "goes", "(II)V"⟩, 8), (⟨"JoinLoom$Cloth", "compare", "(I[I)I"⟩, 7), (⟨"JoinLoom$Tree", "spans", "()V"⟩, 11), (⟨"JoinLoom$Tree", "key", "(I)J"⟩, 11), (⟨"JoinLoom$Loom", "holds", "(IIZ)Z"⟩, 8), (⟨"JoinLoom$Has", "value", "(I[I)I"⟩, 6), (⟨"JoinLoom$Loom", "below", "([LJoinLoom$Tree;III)V"⟩, 8)]
theorem lw_r1 : ∀ q ∈ lw_privs_1, lw_okq q := List.forall_mem_cons.mpr ⟨lw_p0, List.forall_mem_cons.mpr ⟨lw_p1, List.forall_mem_cons.mpr ⟨lw_p2, List.forall_mem_cons.mpr ⟨lw_p3, List.forall_mem_cons.mpr ⟨lw_p4, List.forall_mem_cons.mpr ⟨lw_p5, List.forall_mem_cons.mpr ⟨lw_p6, List.forall_mem_cons.mpr ⟨lw_p7, List.forall_mem_cons.mpr ⟨lw_p8, List.forall_mem_cons.mpr ⟨lw_p9, List.forall_mem_cons.mpr ⟨lw_p10, List.forall_mem_cons.mpr ⟨lw_p11, List.forall_mem_cons.mpr ⟨lw_p12, List.forall_mem_cons.mpr ⟨lw_p13, List.forall_mem_cons.mpr ⟨lw_p14, List.forall_mem_cons.mpr ⟨lw_p15, fun _ h => absurd h List.not_mem_nil⟩⟩⟩⟩⟩⟩⟩⟩⟩⟩⟩⟩⟩⟩⟩⟩
theorem lw_p16 : lw_okq (⟨"JoinLoom", "isAnswer", "(I)Z"⟩, 11) := ⟨⟨by decide +kernel, by decide +kernel⟩, lw_t1 (List.mem_of_getElem? (i := 16) rfl), lw_t3 (List.mem_of_getElem? (i := 115) rfl), lw_t3 (List.mem_of_getElem? (i := 116) rfl)⟩
theorem lw_p17 : lw_okq (⟨"JoinLoom", "isName", "(I)Z"⟩, 11) := ⟨⟨by decide +kernel, by decide +kernel⟩, lw_t1 (List.mem_of_getElem? (i := 16) rfl), lw_t3 (List.mem_of_getElem? (i := 119) rfl), lw_t3 (List.mem_of_getElem? (i := 120) rfl)⟩
theorem lw_p18 : lw_okq (⟨"JoinLoom", "different", "(I)I"⟩, 11) := ⟨⟨by decide +kernel, by decide +kernel⟩, lw_t1 (List.mem_of_getElem? (i := 16) rfl), lw_t3 (List.mem_of_getElem? (i := 140) rfl), lw_t3 (List.mem_of_getElem? (i := 141) rfl)⟩
theorem lw_p19 : lw_okq (⟨"JoinLoom", "isCompared", "()Z"⟩, 11) := ⟨⟨by decide +kernel, by decide +kernel⟩, lw_t1 (List.mem_of_getElem? (i := 16) rfl), lw_t3 (List.mem_of_getElem? (i := 156) rfl), lw_t3 (List.mem_of_getElem? (i := 157) rfl)⟩
theorem lw_p20 : lw_okq (⟨"JoinLoom", "alone", "(LJoinLoom$Cloth;LJoinLoom$Cloth;I)I"⟩, 11) := ⟨⟨by decide +kernel, by decide +kernel⟩, lw_t1 (List.mem_of_getElem? (i := 16) rfl), lw_t3 (List.mem_of_getElem? (i := 160) rfl), lw_t3 (List.mem_of_getElem? (i := 161) rfl)⟩
theorem lw_p21 : lw_okq (⟨"JoinLoom", "covers", "(IJJ)J"⟩, 11) := ⟨⟨by decide +kernel, by decide +kernel⟩, lw_t1 (List.mem_of_getElem? (i := 16) rfl), lw_t3 (List.mem_of_getElem? (i := 177) rfl), lw_t3 (List.mem_of_getElem? (i := 178) rfl)⟩
theorem lw_p22 : lw_okq (⟨"JoinLoom", "sharesOf", "(I)I"⟩, 11) := ⟨⟨by decide +kernel, by decide +kernel⟩, lw_t1 (List.mem_of_getElem? (i := 16) rfl), lw_t3 (List.mem_of_getElem? (i := 181) rfl), lw_t3 (List.mem_of_getElem? (i := 182) rfl)⟩
theorem lw_p23 : lw_okq (⟨"JoinLoom", "isShared", "(I)Z"⟩, 11) := ⟨⟨by decide +kernel, by decide +kernel⟩, lw_t1 (List.mem_of_getElem? (i := 16) rfl), lw_t3 (List.mem_of_getElem? (i := 185) rfl), lw_t3 (List.mem_of_getElem? (i := 186) rfl)⟩
theorem lw_p24 : lw_okq (⟨"JoinLoom", "tries", "(II)V"⟩, 11) := ⟨⟨by decide +kernel, by decide +kernel⟩, lw_t1 (List.mem_of_getElem? (i := 16) rfl), lw_t3 (List.mem_of_getElem? (i := 198) rfl), lw_t3 (List.mem_of_getElem? (i := 199) rfl)⟩
theorem lw_p25 : lw_okq (⟨"JoinLoomModel", "isTable", "(I)Z"⟩, 31) := ⟨⟨by decide +kernel, by decide +kernel⟩, lw_t3 (List.mem_of_getElem? (i := 224) rfl), lw_t4 (List.mem_of_getElem? (i := 96) rfl), lw_t4 (List.mem_of_getElem? (i := 97) rfl)⟩
theorem lw_p26 : lw_okq (⟨"JoinLoomModel", "find", "(IIII)I"⟩, 31) := ⟨⟨by decide +kernel, by decide +kernel⟩, lw_t3 (List.mem_of_getElem? (i := 224) rfl), lw_t4 (List.mem_of_getElem? (i := 100) rfl), lw_t4 (List.mem_of_getElem? (i := 101) rfl)⟩
theorem lw_p27 : lw_okq (⟨"JoinLoomModel", "against", "(IIIII)I"⟩, 31) := ⟨⟨by decide +kernel, by decide +kernel⟩, lw_t3 (List.mem_of_getElem? (i := 224) rfl), lw_t4 (List.mem_of_getElem? (i := 104) rfl), lw_t4 (List.mem_of_getElem? (i := 105) rfl)⟩
theorem lw_p28 : lw_okq (⟨"JoinLoomModel", "cell", "(III)I"⟩, 31) := ⟨⟨by decide +kernel, by decide +kernel⟩, lw_t3 (List.mem_of_getElem? (i := 224) rfl), lw_t4 (List.mem_of_getElem? (i := 108) rfl), lw_t4 (List.mem_of_getElem? (i := 109) rfl)⟩
theorem lw_p29 : lw_okq (⟨"JoinLoomModel", "moves", "(III)V"⟩, 31) := ⟨⟨by decide +kernel, by decide +kernel⟩, lw_t3 (List.mem_of_getElem? (i := 224) rfl), lw_t4 (List.mem_of_getElem? (i := 116) rfl), lw_t4 (List.mem_of_getElem? (i := 117) rfl)⟩
theorem lw_p30 : lw_okq (⟨"JoinLoomModel", "place", "(II)I"⟩, 31) := ⟨⟨by decide +kernel, by decide +kernel⟩, lw_t3 (List.mem_of_getElem? (i := 224) rfl), lw_t4 (List.mem_of_getElem? (i := 144) rfl), lw_t4 (List.mem_of_getElem? (i := 145) rfl)⟩
theorem lw_p31 : lw_okq (⟨"JoinLoomModel", "holds", "()Z"⟩, 31) := ⟨⟨by decide +kernel, by decide +kernel⟩, lw_t3 (List.mem_of_getElem? (i := 224) rfl), lw_t4 (List.mem_of_getElem? (i := 160) rfl), lw_t4 (List.mem_of_getElem? (i := 161) rfl)⟩
def lw_privs_2 : List (MethodName × Nat) := [(⟨"JoinLoom", "isAnswer", "(I)Z"⟩, 11), (⟨"JoinLoom", "isName", "(I)Z"⟩, 11), (⟨"JoinLoom", "different", "(I)I"⟩, 11), (⟨"JoinLoom", "isCompared", "()Z"⟩, 11), (⟨"JoinLoom", "alone", "(LJoinLoom$Cloth;LJoinLoom$Cloth;I)I"⟩, 11), (⟨"JoinLoom", "covers", "(IJJ)J"⟩, 11), (⟨"JoinLoom", "sharesOf", "(I)I"⟩, 11), (⟨"JoinLoom", "isShared", "(I)Z"⟩, 11), (⟨"JoinLoom", "tries", "(II)V"⟩, 11), (⟨"JoinLoomModel", "isTable", "(I)Z"⟩, 31), (⟨"JoinLoomModel", "find", "(IIII)I"⟩, 31), (⟨"JoinLoomModel", "against", "(IIIII)I"⟩, 31), (⟨"JoinLoomModel", "cell", "(III)I"⟩, 31), (⟨"JoinLoomModel", "moves", "(III)V"⟩, 31), (⟨"JoinLoomModel", "place", "(II)I"⟩, 31), (⟨"JoinLoomModel", "holds", "()Z"⟩, 31)]
theorem lw_r2 : ∀ q ∈ lw_privs_2, lw_okq q := List.forall_mem_cons.mpr ⟨lw_p16, List.forall_mem_cons.mpr ⟨lw_p17, List.forall_mem_cons.mpr ⟨lw_p18, List.forall_mem_cons.mpr ⟨lw_p19, List.forall_mem_cons.mpr ⟨lw_p20, List.forall_mem_cons.mpr ⟨lw_p21, List.forall_mem_cons.mpr ⟨lw_p22, List.forall_mem_cons.mpr ⟨lw_p23, List.forall_mem_cons.mpr ⟨lw_p24, List.forall_mem_cons.mpr ⟨lw_p25, List.forall_mem_cons.mpr ⟨lw_p26, List.forall_mem_cons.mpr ⟨lw_p27, List.forall_mem_cons.mpr ⟨lw_p28, List.forall_mem_cons.mpr ⟨lw_p29, List.forall_mem_cons.mpr ⟨lw_p30, List.forall_mem_cons.mpr ⟨lw_p31, fun _ h => absurd h List.not_mem_nil⟩⟩⟩⟩⟩⟩⟩⟩⟩⟩⟩⟩⟩⟩⟩⟩
theorem lw_p32 : lw_okq (⟨"JoinLoomModel", "hasName", "(II)Z"⟩, 31) := ⟨⟨by decide +kernel, by decide +kernel⟩, lw_t3 (List.mem_of_getElem? (i := 224) rfl), lw_t4 (List.mem_of_getElem? (i := 164) rfl), lw_t4 (List.mem_of_getElem? (i := 165) rfl)⟩
theorem lw_p33 : lw_okq (⟨"JoinLoomModel", "meets", "()Z"⟩, 31) := ⟨⟨by decide +kernel, by decide +kernel⟩, lw_t3 (List.mem_of_getElem? (i := 224) rfl), lw_t4 (List.mem_of_getElem? (i := 168) rfl), lw_t4 (List.mem_of_getElem? (i := 169) rfl)⟩
theorem lw_p34 : lw_okq (⟨"JoinLoomModel", "columnOf", "(I)I"⟩, 31) := ⟨⟨by decide +kernel, by decide +kernel⟩, lw_t3 (List.mem_of_getElem? (i := 224) rfl), lw_t4 (List.mem_of_getElem? (i := 172) rfl), lw_t4 (List.mem_of_getElem? (i := 173) rfl)⟩
theorem lw_p35 : lw_okq (⟨"JoinLoomModel", "isAgain", "(III)Z"⟩, 31) := ⟨⟨by decide +kernel, by decide +kernel⟩, lw_t3 (List.mem_of_getElem? (i := 224) rfl), lw_t4 (List.mem_of_getElem? (i := 176) rfl), lw_t4 (List.mem_of_getElem? (i := 177) rfl)⟩
theorem lw_p36 : lw_okq (⟨"JoinLoomModel", "areTrue", "(I)Z"⟩, 31) := ⟨⟨by decide +kernel, by decide +kernel⟩, lw_t3 (List.mem_of_getElem? (i := 224) rfl), lw_t4 (List.mem_of_getElem? (i := 180) rfl), lw_t4 (List.mem_of_getElem? (i := 181) rfl)⟩
theorem lw_p37 : lw_okq (⟨"JoinLoomModel", "isTrue", "(II)Z"⟩, 31) := ⟨⟨by decide +kernel, by decide +kernel⟩, lw_t3 (List.mem_of_getElem? (i := 224) rfl), lw_t4 (List.mem_of_getElem? (i := 184) rfl), lw_t4 (List.mem_of_getElem? (i := 185) rfl)⟩
theorem lw_p38 : lw_okq (⟨"JoinLoomModel", "isNamed", "(I)Z"⟩, 31) := ⟨⟨by decide +kernel, by decide +kernel⟩, lw_t3 (List.mem_of_getElem? (i := 224) rfl), lw_t4 (List.mem_of_getElem? (i := 188) rfl), lw_t4 (List.mem_of_getElem? (i := 189) rfl)⟩
theorem lw_p39 : lw_okq (⟨"JoinLoomModel", "touches", "(II)Z"⟩, 31) := ⟨⟨by decide +kernel, by decide +kernel⟩, lw_t3 (List.mem_of_getElem? (i := 224) rfl), lw_t4 (List.mem_of_getElem? (i := 192) rfl), lw_t4 (List.mem_of_getElem? (i := 193) rfl)⟩
theorem lw_p40 : lw_okq (⟨"JoinLoomModel", "isSet", "(II)Z"⟩, 31) := ⟨⟨by decide +kernel, by decide +kernel⟩, lw_t3 (List.mem_of_getElem? (i := 224) rfl), lw_t4 (List.mem_of_getElem? (i := 196) rfl), lw_t4 (List.mem_of_getElem? (i := 197) rfl)⟩
theorem lw_p41 : lw_okq (⟨"JoinLoomModel", "rowOf", "(II)I"⟩, 31) := ⟨⟨by decide +kernel, by decide +kernel⟩, lw_t3 (List.mem_of_getElem? (i := 224) rfl), lw_t4 (List.mem_of_getElem? (i := 200) rfl), lw_t4 (List.mem_of_getElem? (i := 201) rfl)⟩
theorem lw_p42 : lw_okq (⟨"JoinLoomModel", "agrees", "(III)Z"⟩, 31) := ⟨⟨by decide +kernel, by decide +kernel⟩, lw_t3 (List.mem_of_getElem? (i := 224) rfl), lw_t4 (List.mem_of_getElem? (i := 204) rfl), lw_t4 (List.mem_of_getElem? (i := 205) rfl)⟩
theorem lw_p43 : lw_okq (⟨"JoinLoomModel", "told", "(II)I"⟩, 31) := ⟨⟨by decide +kernel, by decide +kernel⟩, lw_t3 (List.mem_of_getElem? (i := 224) rfl), lw_t4 (List.mem_of_getElem? (i := 208) rfl), lw_t4 (List.mem_of_getElem? (i := 209) rfl)⟩
theorem lw_p44 : lw_okq (⟨"JoinLoomModel", "isWhole", "(II)Z"⟩, 31) := ⟨⟨by decide +kernel, by decide +kernel⟩, lw_t3 (List.mem_of_getElem? (i := 224) rfl), lw_t4 (List.mem_of_getElem? (i := 212) rfl), lw_t4 (List.mem_of_getElem? (i := 213) rfl)⟩
theorem lw_p45 : lw_okq (⟨"JoinLoomModel", "isName", "(I)Z"⟩, 31) := ⟨⟨by decide +kernel, by decide +kernel⟩, lw_t3 (List.mem_of_getElem? (i := 224) rfl), lw_t4 (List.mem_of_getElem? (i := 223) rfl), lw_t4 (List.mem_of_getElem? (i := 224) rfl)⟩
theorem lw_p46 : lw_okq (⟨"JoinLoomModel", "isNew", "(II)Z"⟩, 31) := ⟨⟨by decide +kernel, by decide +kernel⟩, lw_t3 (List.mem_of_getElem? (i := 224) rfl), lw_t4 (List.mem_of_getElem? (i := 239) rfl), lw_t5 (List.mem_of_getElem? (i := 0) rfl)⟩
theorem lw_p47 : lw_okq (⟨"JoinLoomModel", "differ", "(I)Z"⟩, 31) := ⟨⟨by decide +kernel, by decide +kernel⟩, lw_t3 (List.mem_of_getElem? (i := 224) rfl), lw_t5 (List.mem_of_getElem? (i := 15) rfl), lw_t5 (List.mem_of_getElem? (i := 16) rfl)⟩
def lw_privs_3 : List (MethodName × Nat) := [(⟨"JoinLoomModel", "hasName", "(II)Z"⟩, 31), (⟨"JoinLoomModel", "meets", "()Z"⟩, 31), (⟨"JoinLoomModel", "columnOf", "(I)I"⟩, 31), (⟨"JoinLoomModel", "isAgain", "(III)Z"⟩, 31), (⟨"JoinLoomModel", "areTrue", "(I)Z"⟩, 31), (⟨"JoinLoomModel", "isTrue", "(II)Z"⟩, 31), (⟨"JoinLoomModel", "isNamed", "(I)Z"⟩, 31), (⟨"JoinLoomModel", "touches", "(II)Z"⟩, 31), (⟨"JoinLoomModel", "isSet", "(II)Z"⟩, 31), (⟨"JoinLoomModel", "rowOf", "(II)I"⟩, 31), (⟨"JoinLoomModel", "agrees", "(III)Z"⟩, 31), (⟨"JoinLoomModel", "told", "(II)I"⟩, 31), (⟨"JoinLoomModel", "isWhole", "(II)Z"⟩, 31), (⟨"JoinLoomModel", "isName", "(I)Z"⟩, 31), (⟨"JoinLoomModel", "isNew", "(II)Z"⟩, 31), (⟨"JoinLoomModel", "differ", "(I)Z"⟩, 31)]
theorem lw_r3 : ∀ q ∈ lw_privs_3, lw_okq q := List.forall_mem_cons.mpr ⟨lw_p32, List.forall_mem_cons.mpr ⟨lw_p33, List.forall_mem_cons.mpr ⟨lw_p34, List.forall_mem_cons.mpr ⟨lw_p35, List.forall_mem_cons.mpr ⟨lw_p36, List.forall_mem_cons.mpr ⟨lw_p37, List.forall_mem_cons.mpr ⟨lw_p38, List.forall_mem_cons.mpr ⟨lw_p39, List.forall_mem_cons.mpr ⟨lw_p40, List.forall_mem_cons.mpr ⟨lw_p41, List.forall_mem_cons.mpr ⟨lw_p42, List.forall_mem_cons.mpr ⟨lw_p43, List.forall_mem_cons.mpr ⟨lw_p44, List.forall_mem_cons.mpr ⟨lw_p45, List.forall_mem_cons.mpr ⟨lw_p46, List.forall_mem_cons.mpr ⟨lw_p47, fun _ h => absurd h List.not_mem_nil⟩⟩⟩⟩⟩⟩⟩⟩⟩⟩⟩⟩⟩⟩⟩⟩
theorem lw_p48 : lw_okq (⟨"JoinLoomModel", "differs", "(II)I"⟩, 31) := ⟨⟨by decide +kernel, by decide +kernel⟩, lw_t3 (List.mem_of_getElem? (i := 224) rfl), lw_t5 (List.mem_of_getElem? (i := 19) rfl), lw_t5 (List.mem_of_getElem? (i := 20) rfl)⟩
theorem lw_p49 : lw_okq (⟨"JoinLoomModel", "least", "()J"⟩, 31) := ⟨⟨by decide +kernel, by decide +kernel⟩, lw_t3 (List.mem_of_getElem? (i := 224) rfl), lw_t5 (List.mem_of_getElem? (i := 34) rfl), lw_t5 (List.mem_of_getElem? (i := 35) rfl)⟩
theorem lw_p50 : lw_okq (⟨"JoinLoomModel", "covers", "()Z"⟩, 31) := ⟨⟨by decide +kernel, by decide +kernel⟩, lw_t3 (List.mem_of_getElem? (i := 224) rfl), lw_t5 (List.mem_of_getElem? (i := 39) rfl), lw_t5 (List.mem_of_getElem? (i := 40) rfl)⟩
theorem lw_p51 : lw_okq (⟨"JoinLoomModel", "product", "()J"⟩, 31) := ⟨⟨by decide +kernel, by decide +kernel⟩, lw_t3 (List.mem_of_getElem? (i := 224) rfl), lw_t5 (List.mem_of_getElem? (i := 43) rfl), lw_t5 (List.mem_of_getElem? (i := 44) rfl)⟩
theorem lw_p52 : lw_okq (⟨"JoinLoomModel", "nextOrder", "()Z"⟩, 31) := ⟨⟨by decide +kernel, by decide +kernel⟩, lw_t3 (List.mem_of_getElem? (i := 224) rfl), lw_t5 (List.mem_of_getElem? (i := 59) rfl), lw_t5 (List.mem_of_getElem? (i := 60) rfl)⟩
theorem lw_p53 : lw_okq (⟨"JoinLoomModel", "isRinged", "(I)Z"⟩, 31) := ⟨⟨by decide +kernel, by decide +kernel⟩, lw_t3 (List.mem_of_getElem? (i := 224) rfl), lw_t5 (List.mem_of_getElem? (i := 67) rfl), lw_t5 (List.mem_of_getElem? (i := 68) rfl)⟩
theorem lw_p54 : lw_okq (⟨"JoinLoomModel", "ringsOf", "(II)I"⟩, 31) := ⟨⟨by decide +kernel, by decide +kernel⟩, lw_t3 (List.mem_of_getElem? (i := 224) rfl), lw_t5 (List.mem_of_getElem? (i := 71) rfl), lw_t5 (List.mem_of_getElem? (i := 72) rfl)⟩
theorem lw_p55 : lw_okq (⟨"JoinLoomModel", "begins", "(III)Z"⟩, 31) := ⟨⟨by decide +kernel, by decide +kernel⟩, lw_t3 (List.mem_of_getElem? (i := 224) rfl), lw_t5 (List.mem_of_getElem? (i := 75) rfl), lw_t5 (List.mem_of_getElem? (i := 76) rfl)⟩
def lw_privs_4 : List (MethodName × Nat) := [(⟨"JoinLoomModel", "differs", "(II)I"⟩, 31), (⟨"JoinLoomModel", "least", "()J"⟩, 31), (⟨"JoinLoomModel", "covers", "()Z"⟩, 31), (⟨"JoinLoomModel", "product", "()J"⟩, 31), (⟨"JoinLoomModel", "nextOrder", "()Z"⟩, 31), (⟨"JoinLoomModel", "isRinged", "(I)Z"⟩, 31), (⟨"JoinLoomModel", "ringsOf", "(II)I"⟩, 31), (⟨"JoinLoomModel", "begins", "(III)Z"⟩, 31)]
theorem lw_r4 : ∀ q ∈ lw_privs_4, lw_okq q := List.forall_mem_cons.mpr ⟨lw_p48, List.forall_mem_cons.mpr ⟨lw_p49, List.forall_mem_cons.mpr ⟨lw_p50, List.forall_mem_cons.mpr ⟨lw_p51, List.forall_mem_cons.mpr ⟨lw_p52, List.forall_mem_cons.mpr ⟨lw_p53, List.forall_mem_cons.mpr ⟨lw_p54, List.forall_mem_cons.mpr ⟨lw_p55, fun _ h => absurd h List.not_mem_nil⟩⟩⟩⟩⟩⟩⟩⟩
def lw_privs : List (MethodName × Nat) := lw_privs_1 ++ (lw_privs_2 ++ (lw_privs_3 ++ (lw_privs_4)))
def lw_tbl : List Cond := k2_sels lw_privs ++ tables_1
theorem lw_privs_ok : ∀ q ∈ lw_privs, lw_okq q := by
  show ∀ q ∈ lw_privs_1 ++ (lw_privs_2 ++ (lw_privs_3 ++ (lw_privs_4))), lw_okq q
  exact List.forall_mem_append.mpr ⟨lw_r1, List.forall_mem_append.mpr ⟨lw_r2, List.forall_mem_append.mpr ⟨lw_r3, lw_r4⟩⟩⟩
-- ===== ONE list of words for every method: the tables' words that hold all through a run =====
def lw_all : List Cond := lw_tbl.filter goodWord
/-- a word of the tables by its place: claim/WORDS.tsv -/
theorem lw_w {w : Cond} (i : Nat) (h : lw_tbl[i]? = some w) (g : goodWord w = true) : w ∈ lw_all := List.mem_filter.mpr ⟨List.mem_of_getElem? h, g⟩
theorem lw_all_tbl {w : Cond} (h : w ∈ lw_all) : w ∈ lw_tbl := (List.mem_filter.mp h).1
theorem lw_self : GoodIn lw_all lw_all := fun w h => ⟨h, good_of_word (List.mem_filter.mp h).2⟩
/-- a class's field words, by their places -/
theorem lw_in (ws : List Cond) (ps : List Nat) (hp : ws = ps.filterMap (fun i => lw_tbl[i]?)) (hg : ws.all goodWord = true) : ∀ w ∈ ws, w ∈ lw_all := by
  intro w h
  have h1 := List.all_eq_true.mp hg w h
  rw [hp] at h
  obtain ⟨i, -, hi⟩ := List.mem_filterMap.mp h
  exact lw_w i hi h1
/-- the words of a contract for the method y with code b, L locals, answer r -/
abbrev ws_ (y : MethodName) (b : ByteArray) (L : Nat) (r : Option FieldType) : List Cond := Cond.code y b L r :: lw_all
theorem lw_meth {y : MethodName} {b : ByteArray} {L : Nat} {r : Option FieldType} (h : Cond.code y b L r ∈ lw_all) : GoodIn lw_all (ws_ y b L r) := by
  intro w hw
  rcases List.mem_cons.mp hw with e | e
  · rw [e]
    exact lw_self _ h
  · exact lw_self _ e
theorem lw_app {a c : List Cond} (ha : ∀ w ∈ a, w ∈ lw_all) (hc : GoodIn lw_all c) : GoodIn lw_all (a ++ c) := by
  intro w hw
  rcases List.mem_append.mp hw with e | e
  · exact lw_self w (ha w e)
  · exact hc w e
/-- what a call through an object asks: cwV n hts (lw_V ..) -/
theorem lw_V {own : String} {idx : Nat} {C : String} {y : MethodName} {b : ByteArray} {L : Nat} {r : Option FieldType} (h1 : Cond.methodLink own idx y ∈ lw_all) (h2 : Cond.instanceMethod y ∈ lw_all) (h3 : Cond.selects C y y ∈ lw_all) (h4 : Cond.initialized C ∈ lw_all) (h5 : Cond.code y b L r ∈ lw_all) : GoodIn lw_all (wsV own idx C y (ws_ y b L r)) := by
  refine lw_app ?_ (lw_meth h5)
  intro w hw
  simp only [List.mem_cons, List.not_mem_nil, or_false] at hw
  rcases hw with e | e | e | e
  · rw [e]; exact h1
  · rw [e]; exact h2
  · rw [e]; exact h3
  · rw [e]; exact h4
/-- what a static call asks: va_cwS n hts (lw_S ..) -/
theorem lw_S {own : String} {idx : Nat} {y : MethodName} {b : ByteArray} {L : Nat} {r : Option FieldType} (h1 : Cond.methodLink own idx y ∈ lw_all) (h2 : Cond.static y ∈ lw_all) (h3 : Cond.initialized y.cls ∈ lw_all) (h4 : Cond.code y b L r ∈ lw_all) : GoodIn lw_all (va_wsS own idx y (ws_ y b L r)) := by
  refine lw_app ?_ (lw_meth h4)
  intro w hw
  simp only [List.mem_cons, List.not_mem_nil, or_false] at hw
  rcases hw with e | e | e
  · rw [e]; exact h1
  · rw [e]; exact h2
  · rw [e]; exact h3
/-- the words of a contract for a method WITH HANDLERS (hh: its table) -/
abbrev wsW_ (y : MethodName) (b : ByteArray) (L : Nat) (r : Option FieldType) (hh : List (Nat × Nat × Nat × Nat)) : List Cond := Cond.codeWith y b L r hh :: lw_all
theorem lw_methW {y : MethodName} {b : ByteArray} {L : Nat} {r : Option FieldType} {hh : List (Nat × Nat × Nat × Nat)} (h : Cond.codeWith y b L r hh ∈ lw_all) : GoodIn lw_all (wsW_ y b L r hh) := by
  intro w hw
  rcases List.mem_cons.mp hw with e | e
  · rw [e]
    exact lw_self _ h
  · exact lw_self _ e
/-- any list of words by their places (lw_in), good -/
theorem lw_good {ws : List Cond} (h : ∀ w ∈ ws, w ∈ lw_all) : GoodIn lw_all ws := fun w hw => lw_self w (h w hw)
/-- what a call of a method with handlers asks: vx_cwVW n hts (lw_VW ..), vx_cwSW n hts (lw_SW ..) -/
theorem lw_VW {own : String} {idx : Nat} {C : String} {y : MethodName} {b : ByteArray} {L : Nat} {r : Option FieldType} {hh : List (Nat × Nat × Nat × Nat)} (h1 : Cond.methodLink own idx y ∈ lw_all) (h2 : Cond.instanceMethod y ∈ lw_all) (h3 : Cond.selects C y y ∈ lw_all) (h4 : Cond.initialized C ∈ lw_all) (h5 : Cond.codeWith y b L r hh ∈ lw_all) : GoodIn lw_all (wsV own idx C y (wsW_ y b L r hh)) := by
  refine lw_app ?_ (lw_methW h5)
  intro w hw
  simp only [List.mem_cons, List.not_mem_nil, or_false] at hw
  rcases hw with e | e | e | e
  · rw [e]; exact h1
  · rw [e]; exact h2
  · rw [e]; exact h3
  · rw [e]; exact h4
theorem lw_SW {own : String} {idx : Nat} {y : MethodName} {b : ByteArray} {L : Nat} {r : Option FieldType} {hh : List (Nat × Nat × Nat × Nat)} (h1 : Cond.methodLink own idx y ∈ lw_all) (h2 : Cond.static y ∈ lw_all) (h3 : Cond.initialized y.cls ∈ lw_all) (h4 : Cond.codeWith y b L r hh ∈ lw_all) : GoodIn lw_all (va_wsS own idx y (wsW_ y b L r hh)) := by
  refine lw_app ?_ (lw_methW h4)
  intro w hw
  simp only [List.mem_cons, List.not_mem_nil, or_false] at hw
  rcases hw with e | e | e
  · rw [e]; exact h1
  · rw [e]; exact h2
  · rw [e]; exact h3
/-- a word by its place in its run of the tables -/
theorem lw_at {r : List Cond} (hr : ∀ w ∈ r, w ∈ lw_tbl) {w : Cond} (i : Nat) (h : r[i]? = some w) : w ∈ lw_tbl := hr w (List.mem_of_getElem? h)
theorem lw_g {w : Cond} (h : w ∈ lw_tbl) (g : goodWord w = true) : w ∈ lw_all := List.mem_filter.mpr ⟨h, g⟩
theorem lw_ms : ∀ w ∈ k2_sels lw_privs, w ∈ lw_tbl := fun w h => show w ∈ k2_sels lw_privs ++ tables_1 from List.mem_append_left _ h
theorem lw_m1 : ∀ w ∈ tables_1_1, w ∈ lw_tbl := fun w h => show w ∈ k2_sels lw_privs ++ tables_1 from List.mem_append_right (k2_sels lw_privs) (show w ∈ tables_1 from List.mem_append_left _ h)
theorem lw_m2 : ∀ w ∈ tables_1_2, w ∈ lw_tbl := fun w h => show w ∈ k2_sels lw_privs ++ tables_1 from List.mem_append_right (k2_sels lw_privs) (show w ∈ tables_1 from List.mem_append_right _ (List.mem_append_left _ h))
theorem lw_m3 : ∀ w ∈ tables_1_3, w ∈ lw_tbl := fun w h => show w ∈ k2_sels lw_privs ++ tables_1 from List.mem_append_right (k2_sels lw_privs) (show w ∈ tables_1 from List.mem_append_right _ (List.mem_append_right _ (List.mem_append_left _ h)))
theorem lw_m4 : ∀ w ∈ tables_1_4, w ∈ lw_tbl := fun w h => show w ∈ k2_sels lw_privs ++ tables_1 from List.mem_append_right (k2_sels lw_privs) (show w ∈ tables_1 from List.mem_append_right _ (List.mem_append_right _ (List.mem_append_right _ (List.mem_append_left _ h))))
theorem lw_m5 : ∀ w ∈ tables_1_5, w ∈ lw_tbl := fun w h => show w ∈ k2_sels lw_privs ++ tables_1 from List.mem_append_right (k2_sels lw_privs) (show w ∈ tables_1 from List.mem_append_right _ (List.mem_append_right _ (List.mem_append_right _ (List.mem_append_right _ h))))
theorem qs0 : (Cond.selects "JoinLoom" ⟨"JoinLoom", "find", "(I)LJoinLoom$Table;"⟩ ⟨"JoinLoom", "find", "(I)LJoinLoom$Table;"⟩) ∈ lw_all := lw_g (lw_at lw_ms 0 rfl) rfl
theorem qs1 : (Cond.selects "JoinLoom$Table" ⟨"JoinLoom$Table", "compare", "(IIII)I"⟩ ⟨"JoinLoom$Table", "compare", "(IIII)I"⟩) ∈ lw_all := lw_g (lw_at lw_ms 1 rfl) rfl
theorem qs2 : (Cond.selects "JoinLoom$Table" ⟨"JoinLoom$Table", "moves", "(II)V"⟩ ⟨"JoinLoom$Table", "moves", "(II)V"⟩) ∈ lw_all := lw_g (lw_at lw_ms 2 rfl) rfl
theorem qs3 : (Cond.selects "JoinLoom" ⟨"JoinLoom", "place", "(ZI)I"⟩ ⟨"JoinLoom", "place", "(ZI)I"⟩) ∈ lw_all := lw_g (lw_at lw_ms 3 rfl) rfl
theorem qs4 : (Cond.selects "JoinLoom$Question" ⟨"JoinLoom$Question", "last", "()LJoinLoom$Has;"⟩ ⟨"JoinLoom$Question", "last", "()LJoinLoom$Has;"⟩) ∈ lw_all := lw_g (lw_at lw_ms 4 rfl) rfl
theorem qs5 : (Cond.selects "JoinLoom" ⟨"JoinLoom", "stands", "()Z"⟩ ⟨"JoinLoom", "stands", "()Z"⟩) ∈ lw_all := lw_g (lw_at lw_ms 5 rfl) rfl
theorem qs6 : (Cond.selects "JoinLoom$Tree" ⟨"JoinLoom$Tree", "isIn", "(I)Z"⟩ ⟨"JoinLoom$Tree", "isIn", "(I)Z"⟩) ∈ lw_all := lw_g (lw_at lw_ms 6 rfl) rfl
theorem qs7 : (Cond.selects "JoinLoom$Tree" ⟨"JoinLoom$Tree", "comes", "(I)V"⟩ ⟨"JoinLoom$Tree", "comes", "(I)V"⟩) ∈ lw_all := lw_g (lw_at lw_ms 7 rfl) rfl
theorem qs8 : (Cond.selects "JoinLoom$Tree" ⟨"JoinLoom$Tree", "compare", "(II)I"⟩ ⟨"JoinLoom$Tree", "compare", "(II)I"⟩) ∈ lw_all := lw_g (lw_at lw_ms 8 rfl) rfl
theorem qs9 : (Cond.selects "JoinLoom$Loom" ⟨"JoinLoom$Loom", "goes", "(II)V"⟩ ⟨"JoinLoom$Loom", "goes", "(II)V"⟩) ∈ lw_all := lw_g (lw_at lw_ms 9 rfl) rfl
theorem qs10 : (Cond.selects "JoinLoom$Cloth" ⟨"JoinLoom$Cloth", "compare", "(I[I)I"⟩ ⟨"JoinLoom$Cloth", "compare", "(I[I)I"⟩) ∈ lw_all := lw_g (lw_at lw_ms 10 rfl) rfl
theorem qs11 : (Cond.selects "JoinLoom$Tree" ⟨"JoinLoom$Tree", "spans", "()V"⟩ ⟨"JoinLoom$Tree", "spans", "()V"⟩) ∈ lw_all := lw_g (lw_at lw_ms 11 rfl) rfl
theorem qs12 : (Cond.selects "JoinLoom$Tree" ⟨"JoinLoom$Tree", "key", "(I)J"⟩ ⟨"JoinLoom$Tree", "key", "(I)J"⟩) ∈ lw_all := lw_g (lw_at lw_ms 12 rfl) rfl
theorem qs13 : (Cond.selects "JoinLoom$Loom" ⟨"JoinLoom$Loom", "holds", "(IIZ)Z"⟩ ⟨"JoinLoom$Loom", "holds", "(IIZ)Z"⟩) ∈ lw_all := lw_g (lw_at lw_ms 13 rfl) rfl
theorem qs14 : (Cond.selects "JoinLoom$Has" ⟨"JoinLoom$Has", "value", "(I[I)I"⟩ ⟨"JoinLoom$Has", "value", "(I[I)I"⟩) ∈ lw_all := lw_g (lw_at lw_ms 14 rfl) rfl
theorem qs15 : (Cond.selects "JoinLoom$Loom" ⟨"JoinLoom$Loom", "below", "([LJoinLoom$Tree;III)V"⟩ ⟨"JoinLoom$Loom", "below", "([LJoinLoom$Tree;III)V"⟩) ∈ lw_all := lw_g (lw_at lw_ms 15 rfl) rfl
theorem qs16 : (Cond.selects "JoinLoom" ⟨"JoinLoom", "isAnswer", "(I)Z"⟩ ⟨"JoinLoom", "isAnswer", "(I)Z"⟩) ∈ lw_all := lw_g (lw_at lw_ms 16 rfl) rfl
theorem qs17 : (Cond.selects "JoinLoom" ⟨"JoinLoom", "isName", "(I)Z"⟩ ⟨"JoinLoom", "isName", "(I)Z"⟩) ∈ lw_all := lw_g (lw_at lw_ms 17 rfl) rfl
theorem qs18 : (Cond.selects "JoinLoom" ⟨"JoinLoom", "different", "(I)I"⟩ ⟨"JoinLoom", "different", "(I)I"⟩) ∈ lw_all := lw_g (lw_at lw_ms 18 rfl) rfl
theorem qs19 : (Cond.selects "JoinLoom" ⟨"JoinLoom", "isCompared", "()Z"⟩ ⟨"JoinLoom", "isCompared", "()Z"⟩) ∈ lw_all := lw_g (lw_at lw_ms 19 rfl) rfl
theorem qs20 : (Cond.selects "JoinLoom" ⟨"JoinLoom", "alone", "(LJoinLoom$Cloth;LJoinLoom$Cloth;I)I"⟩ ⟨"JoinLoom", "alone", "(LJoinLoom$Cloth;LJoinLoom$Cloth;I)I"⟩) ∈ lw_all := lw_g (lw_at lw_ms 20 rfl) rfl
theorem qs21 : (Cond.selects "JoinLoom" ⟨"JoinLoom", "covers", "(IJJ)J"⟩ ⟨"JoinLoom", "covers", "(IJJ)J"⟩) ∈ lw_all := lw_g (lw_at lw_ms 21 rfl) rfl
theorem qs22 : (Cond.selects "JoinLoom" ⟨"JoinLoom", "sharesOf", "(I)I"⟩ ⟨"JoinLoom", "sharesOf", "(I)I"⟩) ∈ lw_all := lw_g (lw_at lw_ms 22 rfl) rfl
theorem qs23 : (Cond.selects "JoinLoom" ⟨"JoinLoom", "isShared", "(I)Z"⟩ ⟨"JoinLoom", "isShared", "(I)Z"⟩) ∈ lw_all := lw_g (lw_at lw_ms 23 rfl) rfl
theorem qs24 : (Cond.selects "JoinLoom" ⟨"JoinLoom", "tries", "(II)V"⟩ ⟨"JoinLoom", "tries", "(II)V"⟩) ∈ lw_all := lw_g (lw_at lw_ms 24 rfl) rfl
theorem qs25 : (Cond.selects "JoinLoomModel" ⟨"JoinLoomModel", "isTable", "(I)Z"⟩ ⟨"JoinLoomModel", "isTable", "(I)Z"⟩) ∈ lw_all := lw_g (lw_at lw_ms 25 rfl) rfl
theorem qs26 : (Cond.selects "JoinLoomModel" ⟨"JoinLoomModel", "find", "(IIII)I"⟩ ⟨"JoinLoomModel", "find", "(IIII)I"⟩) ∈ lw_all := lw_g (lw_at lw_ms 26 rfl) rfl
theorem qs27 : (Cond.selects "JoinLoomModel" ⟨"JoinLoomModel", "against", "(IIIII)I"⟩ ⟨"JoinLoomModel", "against", "(IIIII)I"⟩) ∈ lw_all := lw_g (lw_at lw_ms 27 rfl) rfl
theorem qs28 : (Cond.selects "JoinLoomModel" ⟨"JoinLoomModel", "cell", "(III)I"⟩ ⟨"JoinLoomModel", "cell", "(III)I"⟩) ∈ lw_all := lw_g (lw_at lw_ms 28 rfl) rfl
theorem qs29 : (Cond.selects "JoinLoomModel" ⟨"JoinLoomModel", "moves", "(III)V"⟩ ⟨"JoinLoomModel", "moves", "(III)V"⟩) ∈ lw_all := lw_g (lw_at lw_ms 29 rfl) rfl
theorem qs30 : (Cond.selects "JoinLoomModel" ⟨"JoinLoomModel", "place", "(II)I"⟩ ⟨"JoinLoomModel", "place", "(II)I"⟩) ∈ lw_all := lw_g (lw_at lw_ms 30 rfl) rfl
theorem qs31 : (Cond.selects "JoinLoomModel" ⟨"JoinLoomModel", "holds", "()Z"⟩ ⟨"JoinLoomModel", "holds", "()Z"⟩) ∈ lw_all := lw_g (lw_at lw_ms 31 rfl) rfl
theorem qs32 : (Cond.selects "JoinLoomModel" ⟨"JoinLoomModel", "hasName", "(II)Z"⟩ ⟨"JoinLoomModel", "hasName", "(II)Z"⟩) ∈ lw_all := lw_g (lw_at lw_ms 32 rfl) rfl
theorem qs33 : (Cond.selects "JoinLoomModel" ⟨"JoinLoomModel", "meets", "()Z"⟩ ⟨"JoinLoomModel", "meets", "()Z"⟩) ∈ lw_all := lw_g (lw_at lw_ms 33 rfl) rfl
theorem qs34 : (Cond.selects "JoinLoomModel" ⟨"JoinLoomModel", "columnOf", "(I)I"⟩ ⟨"JoinLoomModel", "columnOf", "(I)I"⟩) ∈ lw_all := lw_g (lw_at lw_ms 34 rfl) rfl
theorem qs35 : (Cond.selects "JoinLoomModel" ⟨"JoinLoomModel", "isAgain", "(III)Z"⟩ ⟨"JoinLoomModel", "isAgain", "(III)Z"⟩) ∈ lw_all := lw_g (lw_at lw_ms 35 rfl) rfl
theorem qs36 : (Cond.selects "JoinLoomModel" ⟨"JoinLoomModel", "areTrue", "(I)Z"⟩ ⟨"JoinLoomModel", "areTrue", "(I)Z"⟩) ∈ lw_all := lw_g (lw_at lw_ms 36 rfl) rfl
theorem qs37 : (Cond.selects "JoinLoomModel" ⟨"JoinLoomModel", "isTrue", "(II)Z"⟩ ⟨"JoinLoomModel", "isTrue", "(II)Z"⟩) ∈ lw_all := lw_g (lw_at lw_ms 37 rfl) rfl
theorem qs38 : (Cond.selects "JoinLoomModel" ⟨"JoinLoomModel", "isNamed", "(I)Z"⟩ ⟨"JoinLoomModel", "isNamed", "(I)Z"⟩) ∈ lw_all := lw_g (lw_at lw_ms 38 rfl) rfl
theorem qs39 : (Cond.selects "JoinLoomModel" ⟨"JoinLoomModel", "touches", "(II)Z"⟩ ⟨"JoinLoomModel", "touches", "(II)Z"⟩) ∈ lw_all := lw_g (lw_at lw_ms 39 rfl) rfl
theorem qs40 : (Cond.selects "JoinLoomModel" ⟨"JoinLoomModel", "isSet", "(II)Z"⟩ ⟨"JoinLoomModel", "isSet", "(II)Z"⟩) ∈ lw_all := lw_g (lw_at lw_ms 40 rfl) rfl
theorem qs41 : (Cond.selects "JoinLoomModel" ⟨"JoinLoomModel", "rowOf", "(II)I"⟩ ⟨"JoinLoomModel", "rowOf", "(II)I"⟩) ∈ lw_all := lw_g (lw_at lw_ms 41 rfl) rfl
theorem qs42 : (Cond.selects "JoinLoomModel" ⟨"JoinLoomModel", "agrees", "(III)Z"⟩ ⟨"JoinLoomModel", "agrees", "(III)Z"⟩) ∈ lw_all := lw_g (lw_at lw_ms 42 rfl) rfl
theorem qs43 : (Cond.selects "JoinLoomModel" ⟨"JoinLoomModel", "told", "(II)I"⟩ ⟨"JoinLoomModel", "told", "(II)I"⟩) ∈ lw_all := lw_g (lw_at lw_ms 43 rfl) rfl
theorem qs44 : (Cond.selects "JoinLoomModel" ⟨"JoinLoomModel", "isWhole", "(II)Z"⟩ ⟨"JoinLoomModel", "isWhole", "(II)Z"⟩) ∈ lw_all := lw_g (lw_at lw_ms 44 rfl) rfl
theorem qs45 : (Cond.selects "JoinLoomModel" ⟨"JoinLoomModel", "isName", "(I)Z"⟩ ⟨"JoinLoomModel", "isName", "(I)Z"⟩) ∈ lw_all := lw_g (lw_at lw_ms 45 rfl) rfl
theorem qs46 : (Cond.selects "JoinLoomModel" ⟨"JoinLoomModel", "isNew", "(II)Z"⟩ ⟨"JoinLoomModel", "isNew", "(II)Z"⟩) ∈ lw_all := lw_g (lw_at lw_ms 46 rfl) rfl
theorem qs47 : (Cond.selects "JoinLoomModel" ⟨"JoinLoomModel", "differ", "(I)Z"⟩ ⟨"JoinLoomModel", "differ", "(I)Z"⟩) ∈ lw_all := lw_g (lw_at lw_ms 47 rfl) rfl
theorem qs48 : (Cond.selects "JoinLoomModel" ⟨"JoinLoomModel", "differs", "(II)I"⟩ ⟨"JoinLoomModel", "differs", "(II)I"⟩) ∈ lw_all := lw_g (lw_at lw_ms 48 rfl) rfl
theorem qs49 : (Cond.selects "JoinLoomModel" ⟨"JoinLoomModel", "least", "()J"⟩ ⟨"JoinLoomModel", "least", "()J"⟩) ∈ lw_all := lw_g (lw_at lw_ms 49 rfl) rfl
theorem qs50 : (Cond.selects "JoinLoomModel" ⟨"JoinLoomModel", "covers", "()Z"⟩ ⟨"JoinLoomModel", "covers", "()Z"⟩) ∈ lw_all := lw_g (lw_at lw_ms 50 rfl) rfl
theorem qs51 : (Cond.selects "JoinLoomModel" ⟨"JoinLoomModel", "product", "()J"⟩ ⟨"JoinLoomModel", "product", "()J"⟩) ∈ lw_all := lw_g (lw_at lw_ms 51 rfl) rfl
theorem qs52 : (Cond.selects "JoinLoomModel" ⟨"JoinLoomModel", "nextOrder", "()Z"⟩ ⟨"JoinLoomModel", "nextOrder", "()Z"⟩) ∈ lw_all := lw_g (lw_at lw_ms 52 rfl) rfl
theorem qs53 : (Cond.selects "JoinLoomModel" ⟨"JoinLoomModel", "isRinged", "(I)Z"⟩ ⟨"JoinLoomModel", "isRinged", "(I)Z"⟩) ∈ lw_all := lw_g (lw_at lw_ms 53 rfl) rfl
theorem qs54 : (Cond.selects "JoinLoomModel" ⟨"JoinLoomModel", "ringsOf", "(II)I"⟩ ⟨"JoinLoomModel", "ringsOf", "(II)I"⟩) ∈ lw_all := lw_g (lw_at lw_ms 54 rfl) rfl
theorem qs55 : (Cond.selects "JoinLoomModel" ⟨"JoinLoomModel", "begins", "(III)Z"⟩ ⟨"JoinLoomModel", "begins", "(III)Z"⟩) ∈ lw_all := lw_g (lw_at lw_ms 55 rfl) rfl
-- ===== end of PART A; then your names; then what follows =====
