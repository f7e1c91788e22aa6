-- ===== PART A: goes FIRST, ahead of the names: the tables' words, and 'selects' of the private methods out of them =====
/-- a private method of a class that the tables say can be made, by its rows of tables_1 -/
def lw_okq (q : MethodName × Nat) : Prop := (q.1.cls ≠ "java/lang/invoke/MethodHandle" ∧ q.1.cls ≠ "java/lang/invoke/VarHandle") ∧ Cond.instantiable q.1.cls q.2 ∈ tables_1 ∧ Cond.privateMethod q.1 ∈ tables_1 ∧ Cond.instanceMethod q.1 ∈ tables_1
set_option maxRecDepth 100000
theorem lw_t1 {w : Cond} (h : w ∈ tables_1_1) : w ∈ tables_1 := List.mem_append_left _ h
theorem lw_t2 {w : Cond} (h : w ∈ tables_1_2) : w ∈ tables_1 := List.mem_append_right _ (List.mem_append_left _ h)
theorem lw_t3 {w : Cond} (h : w ∈ tables_1_3) : w ∈ tables_1 := List.mem_append_right _ (List.mem_append_right _ (List.mem_append_left _ h))
theorem lw_t4 {w : Cond} (h : w ∈ tables_1_4) : w ∈ tables_1 := List.mem_append_right _ (List.mem_append_right _ (List.mem_append_right _ (List.mem_append_left _ h)))
theorem lw_t5 {w : Cond} (h : w ∈ tables_1_5) : w ∈ tables_1 := List.mem_append_right _ (List.mem_append_right _ (List.mem_append_right _ (List.mem_append_right _ (List.mem_append_left _ h))))
theorem lw_t6 {w : Cond} (h : w ∈ tables_1_6) : w ∈ tables_1 := List.mem_append_right _ (List.mem_append_right _ (List.mem_append_right _ (List.mem_append_right _ (List.mem_append_right _ (List.mem_append_left _ h)))))
theorem lw_t7 {w : Cond} (h : w ∈ tables_1_7) : w ∈ tables_1 := List.mem_append_right _ (List.mem_append_right _ (List.mem_append_right _ (List.mem_append_right _ (List.mem_append_right _ (List.mem_append_right _ h)))))
theorem lw_p0 : lw_okq (⟨"java/util/ArrayList", "add", "(Ljava/lang/Object;[Ljava/lang/Object;I)V"⟩, 3) := ⟨⟨by decide +kernel, by decide +kernel⟩, lw_t1 (List.mem_of_getElem? (i := 35) rfl), lw_t1 (List.mem_of_getElem? (i := 183) rfl), lw_t1 (List.mem_of_getElem? (i := 184) rfl)⟩
theorem lw_p1 : lw_okq (⟨"java/util/ArrayList", "grow", "()[Ljava/lang/Object;"⟩, 3) := ⟨⟨by decide +kernel, by decide +kernel⟩, lw_t1 (List.mem_of_getElem? (i := 35) rfl), lw_t1 (List.mem_of_getElem? (i := 187) rfl), lw_t1 (List.mem_of_getElem? (i := 188) rfl)⟩
theorem lw_p2 : lw_okq (⟨"java/util/ArrayList", "grow", "(I)[Ljava/lang/Object;"⟩, 3) := ⟨⟨by decide +kernel, by decide +kernel⟩, lw_t1 (List.mem_of_getElem? (i := 35) rfl), lw_t1 (List.mem_of_getElem? (i := 191) rfl), lw_t1 (List.mem_of_getElem? (i := 192) rfl)⟩
theorem lw_p3 : lw_okq (⟨"TileOffice", "isKind", "(I)Z"⟩, 15) := ⟨⟨by decide +kernel, by decide +kernel⟩, lw_t1 (List.mem_of_getElem? (i := 27) rfl), lw_t2 (List.mem_of_getElem? (i := 2) rfl), lw_t2 (List.mem_of_getElem? (i := 3) rfl)⟩
theorem lw_p4 : lw_okq (⟨"TileOffice", "pattern", "(I)LTileOffice$Pattern;"⟩, 15) := ⟨⟨by decide +kernel, by decide +kernel⟩, lw_t1 (List.mem_of_getElem? (i := 27) rfl), lw_t2 (List.mem_of_getElem? (i := 56) rfl), lw_t2 (List.mem_of_getElem? (i := 57) rfl)⟩
theorem lw_p5 : lw_okq (⟨"TileOffice", "canMake", "(I)Z"⟩, 15) := ⟨⟨by decide +kernel, by decide +kernel⟩, lw_t1 (List.mem_of_getElem? (i := 27) rfl), lw_t2 (List.mem_of_getElem? (i := 60) rfl), lw_t2 (List.mem_of_getElem? (i := 61) rfl)⟩
theorem lw_p6 : lw_okq (⟨"TileOffice", "keep", "(LTileOffice$Pattern;)V"⟩, 15) := ⟨⟨by decide +kernel, by decide +kernel⟩, lw_t1 (List.mem_of_getElem? (i := 27) rfl), lw_t2 (List.mem_of_getElem? (i := 64) rfl), lw_t2 (List.mem_of_getElem? (i := 65) rfl)⟩
theorem lw_p7 : lw_okq (⟨"java/util/ArrayList", "rangeCheckForAdd", "(I)V"⟩, 3) := ⟨⟨by decide +kernel, by decide +kernel⟩, lw_t1 (List.mem_of_getElem? (i := 35) rfl), lw_t2 (List.mem_of_getElem? (i := 139) rfl), lw_t2 (List.mem_of_getElem? (i := 140) rfl)⟩
theorem lw_p8 : lw_okq (⟨"java/util/ArrayList", "fastRemove", "([Ljava/lang/Object;I)V"⟩, 3) := ⟨⟨by decide +kernel, by decide +kernel⟩, lw_t1 (List.mem_of_getElem? (i := 35) rfl), lw_t2 (List.mem_of_getElem? (i := 159) rfl), lw_t2 (List.mem_of_getElem? (i := 160) rfl)⟩
theorem lw_p9 : lw_okq (⟨"TileOffice", "own", "(LTileOffice$Pattern;I)LTileOffice$Row;"⟩, 15) := ⟨⟨by decide +kernel, by decide +kernel⟩, lw_t1 (List.mem_of_getElem? (i := 27) rfl), lw_t2 (List.mem_of_getElem? (i := 180) rfl), lw_t2 (List.mem_of_getElem? (i := 181) rfl)⟩
theorem lw_p10 : lw_okq (⟨"TileOffice", "rule", "(I)LTileOffice$Rule;"⟩, 15) := ⟨⟨by decide +kernel, by decide +kernel⟩, lw_t1 (List.mem_of_getElem? (i := 27) rfl), lw_t3 (List.mem_of_getElem? (i := 77) rfl), lw_t3 (List.mem_of_getElem? (i := 78) rfl)⟩
theorem lw_p11 : lw_okq (⟨"TileOffice", "canGrow", "(LTileOffice$Pattern;LTileOffice$Rule;I)Z"⟩, 15) := ⟨⟨by decide +kernel, by decide +kernel⟩, lw_t1 (List.mem_of_getElem? (i := 27) rfl), lw_t3 (List.mem_of_getElem? (i := 90) rfl), lw_t3 (List.mem_of_getElem? (i := 91) rfl)⟩
theorem lw_p12 : lw_okq (⟨"TileOffice", "isTurned", "(LTileOffice$Pattern;LTileOffice$Rule;I)Z"⟩, 15) := ⟨⟨by decide +kernel, by decide +kernel⟩, lw_t1 (List.mem_of_getElem? (i := 27) rfl), lw_t3 (List.mem_of_getElem? (i := 99) rfl), lw_t3 (List.mem_of_getElem? (i := 100) rfl)⟩
theorem lw_p13 : lw_okq (⟨"TileOffice", "step", "(LTileOffice$Rule;)V"⟩, 15) := ⟨⟨by decide +kernel, by decide +kernel⟩, lw_t1 (List.mem_of_getElem? (i := 27) rfl), lw_t3 (List.mem_of_getElem? (i := 103) rfl), lw_t3 (List.mem_of_getElem? (i := 104) rfl)⟩
theorem lw_p14 : lw_okq (⟨"TileOffice", "grown", "(Ljava/util/ArrayList;LTileOffice$Rule;)Ljava/util/ArrayList;"⟩, 15) := ⟨⟨by decide +kernel, by decide +kernel⟩, lw_t1 (List.mem_of_getElem? (i := 27) rfl), lw_t3 (List.mem_of_getElem? (i := 110) rfl), lw_t3 (List.mem_of_getElem? (i := 111) rfl)⟩
theorem lw_p15 : lw_okq (⟨"TileOffice", "lay", "(LTileOffice$Row;ILTileOffice$Rule;LTileOffice$Row;II)V"⟩, 15) := ⟨⟨by decide +kernel, by decide +kernel⟩, lw_t1 (List.mem_of_getElem? (i := 27) rfl), lw_t3 (List.mem_of_getElem? (i := 114) rfl), lw_t3 (List.mem_of_getElem? (i := 115) rfl)⟩
def lw_privs_1 : List (MethodName × Nat) := [(⟨"java/util/ArrayList", "add", "(Ljava/lang/Object;[Ljava/lang/Object;I)V"⟩, 3), (⟨"java/util/ArrayList", "grow", "()[Ljava/lang/Object;"⟩, 3), (⟨"java/util/ArrayList", "grow", "(I)[Ljava/lang/Object;"⟩, 3), (⟨"TileOffice", "isKind", "(I)Z"⟩, 15), (⟨"TileOffice", "pattern", "(I)LTileOffice$Pattern;"⟩, 15), (⟨"TileOffice", "canMake", "(I)Z"⟩, 15), (⟨"TileOffice", "keep", "(LTileOffice$Pattern;)V"⟩, 15), (⟨"java/util/ArrayList", "rangeCheckForAdd", "(I)V"⟩, 3), (⟨"java/util/ArrayList", "fastRemove", "([Ljava/lang/Object;I)V"⟩, 3), (⟨"TileOffice", "own", "(LTileOffice$Pattern;I)LTileOffice$Row;"⟩, 15), (⟨"TileOffice", "rule", "(I)LTileOffice$Rule;"⟩, 15), (⟨"TileOffice", "canGrow", "(LTileOffice$Pattern;LTileOffice$Rule;I)Z"⟩, 15), (⟨"TileOffice", "isTurned", "(LTileOffice$Pattern;LTileOffice$Rule;I)Z"⟩, 15), (⟨"TileOffice", "step", "(LTileOffice$Rule;)V"⟩, 15), (⟨"TileOffice", "grown", "(Ljava/util/ArrayList;LTileOffice$Rule;)Ljava/util/ArrayList;"⟩, 15), (⟨"TileOffice", "lay", "(LTileOffice$Row;ILTileOffice$Rule;LTileOffice$Row;II)V"⟩, 15)]
theorem lw_r1 : ∀ q ∈ lw_privs_1, lw_okq q := List.forall_mem_cons.mpr ⟨lw_p0, List.forall_mem_cons.mpr ⟨lw_p1, List.forall_mem_cons.mpr ⟨lw_p2, List.forall_mem_cons.mpr ⟨lw_p3, List.forall_mem_cons.mpr ⟨lw_p4, List.forall_mem_cons.mpr ⟨lw_p5, List.forall_mem_cons.mpr ⟨lw_p6, List.forall_mem_cons.mpr ⟨lw_p7, List.forall_mem_cons.mpr ⟨lw_p8, List.forall_mem_cons.mpr ⟨lw_p9, List.forall_mem_cons.mpr ⟨lw_p10, List.forall_mem_cons.mpr ⟨lw_p11, List.forall_mem_cons.mpr ⟨lw_p12, List.forall_mem_cons.mpr ⟨lw_p13, List.forall_mem_cons.mpr ⟨lw_p14, List.forall_mem_cons.mpr ⟨lw_p15, fun _ h => absurd h List.not_mem_nil⟩⟩⟩⟩⟩⟩⟩⟩⟩⟩⟩⟩⟩⟩⟩⟩
theorem lw_p16 : lw_okq (⟨"TileOffice", "fillMatrix", "(LTileOffice$Rule;)V"⟩, 15) := ⟨⟨by decide +kernel, by decide +kernel⟩, lw_t1 (List.mem_of_getElem? (i := 27) rfl), lw_t3 (List.mem_of_getElem? (i := 125) rfl), lw_t3 (List.mem_of_getElem? (i := 126) rfl)⟩
theorem lw_p17 : lw_okq (⟨"TileOffice", "fillLeads", "(II)V"⟩, 15) := ⟨⟨by decide +kernel, by decide +kernel⟩, lw_t1 (List.mem_of_getElem? (i := 27) rfl), lw_t3 (List.mem_of_getElem? (i := 129) rfl), lw_t3 (List.mem_of_getElem? (i := 130) rfl)⟩
theorem lw_p18 : lw_okq (⟨"TileOffice", "multiply", "(I)V"⟩, 15) := ⟨⟨by decide +kernel, by decide +kernel⟩, lw_t1 (List.mem_of_getElem? (i := 27) rfl), lw_t3 (List.mem_of_getElem? (i := 133) rfl), lw_t3 (List.mem_of_getElem? (i := 134) rfl)⟩
theorem lw_p19 : lw_okq (⟨"java/lang/Throwable", "fillInStackTrace", "(I)Ljava/lang/Throwable;"⟩, 6) := ⟨⟨by decide +kernel, by decide +kernel⟩, lw_t3 (List.mem_of_getElem? (i := 163) rfl), lw_t3 (List.mem_of_getElem? (i := 161) rfl), lw_t3 (List.mem_of_getElem? (i := 162) rfl)⟩
theorem lw_p20 : lw_okq (⟨"TileOffice", "fit", "(LTileOffice$Row;ILTileOffice$Row;II)Z"⟩, 15) := ⟨⟨by decide +kernel, by decide +kernel⟩, lw_t1 (List.mem_of_getElem? (i := 27) rfl), lw_t4 (List.mem_of_getElem? (i := 8) rfl), lw_t4 (List.mem_of_getElem? (i := 9) rfl)⟩
theorem lw_p21 : lw_okq (⟨"TileOffice", "isMoved", "(LTileOffice$Pattern;ILTileOffice$Pattern;)Z"⟩, 15) := ⟨⟨by decide +kernel, by decide +kernel⟩, lw_t1 (List.mem_of_getElem? (i := 27) rfl), lw_t4 (List.mem_of_getElem? (i := 34) rfl), lw_t4 (List.mem_of_getElem? (i := 35) rfl)⟩
theorem lw_p22 : lw_okq (⟨"TileOffice", "isMoved", "(LTileOffice$Pattern;IIILTileOffice$Row;I)Z"⟩, 15) := ⟨⟨by decide +kernel, by decide +kernel⟩, lw_t1 (List.mem_of_getElem? (i := 27) rfl), lw_t4 (List.mem_of_getElem? (i := 48) rfl), lw_t4 (List.mem_of_getElem? (i := 49) rfl)⟩
theorem lw_p23 : lw_okq (⟨"TileOffice", "lies", "(LTileOffice$Pattern;IILTileOffice$Pattern;I)Z"⟩, 15) := ⟨⟨by decide +kernel, by decide +kernel⟩, lw_t1 (List.mem_of_getElem? (i := 27) rfl), lw_t4 (List.mem_of_getElem? (i := 60) rfl), lw_t4 (List.mem_of_getElem? (i := 61) rfl)⟩
theorem lw_p24 : lw_okq (⟨"TileOffice", "floor", "(I)LTileOffice$Floor;"⟩, 15) := ⟨⟨by decide +kernel, by decide +kernel⟩, lw_t1 (List.mem_of_getElem? (i := 27) rfl), lw_t4 (List.mem_of_getElem? (i := 143) rfl), lw_t4 (List.mem_of_getElem? (i := 144) rfl)⟩
theorem lw_p25 : lw_okq (⟨"TileOffice$Floor", "has", "(II)Z"⟩, 20) := ⟨⟨by decide +kernel, by decide +kernel⟩, lw_t4 (List.mem_of_getElem? (i := 68) rfl), lw_t4 (List.mem_of_getElem? (i := 151) rfl), lw_t4 (List.mem_of_getElem? (i := 152) rfl)⟩
theorem lw_p26 : lw_okq (⟨"TileOffice$Floor", "search", "(IZ)V"⟩, 20) := ⟨⟨by decide +kernel, by decide +kernel⟩, lw_t4 (List.mem_of_getElem? (i := 68) rfl), lw_t4 (List.mem_of_getElem? (i := 170) rfl), lw_t4 (List.mem_of_getElem? (i := 171) rfl)⟩
theorem lw_p27 : lw_okq (⟨"TileOffice$Floor", "begin", "()V"⟩, 20) := ⟨⟨by decide +kernel, by decide +kernel⟩, lw_t4 (List.mem_of_getElem? (i := 68) rfl), lw_t4 (List.mem_of_getElem? (i := 174) rfl), lw_t4 (List.mem_of_getElem? (i := 175) rfl)⟩
theorem lw_p28 : lw_okq (⟨"TileOffice$Floor", "clear", "()V"⟩, 20) := ⟨⟨by decide +kernel, by decide +kernel⟩, lw_t4 (List.mem_of_getElem? (i := 68) rfl), lw_t4 (List.mem_of_getElem? (i := 178) rfl), lw_t4 (List.mem_of_getElem? (i := 179) rfl)⟩
theorem lw_p29 : lw_okq (⟨"TileOffice$Floor", "isGood", "()Z"⟩, 20) := ⟨⟨by decide +kernel, by decide +kernel⟩, lw_t4 (List.mem_of_getElem? (i := 68) rfl), lw_t4 (List.mem_of_getElem? (i := 185) rfl), lw_t4 (List.mem_of_getElem? (i := 186) rfl)⟩
theorem lw_p30 : lw_okq (⟨"TileOffice$Floor", "fits", "(IIII)Z"⟩, 20) := ⟨⟨by decide +kernel, by decide +kernel⟩, lw_t4 (List.mem_of_getElem? (i := 68) rfl), lw_t4 (List.mem_of_getElem? (i := 189) rfl), lw_t4 (List.mem_of_getElem? (i := 190) rfl)⟩
theorem lw_p31 : lw_okq (⟨"TileOffice$Floor", "meets", "(IIII)Z"⟩, 20) := ⟨⟨by decide +kernel, by decide +kernel⟩, lw_t4 (List.mem_of_getElem? (i := 68) rfl), lw_t4 (List.mem_of_getElem? (i := 194) rfl), lw_t4 (List.mem_of_getElem? (i := 195) rfl)⟩
def lw_privs_2 : List (MethodName × Nat) := [(⟨"TileOffice", "fillMatrix", "(LTileOffice$Rule;)V"⟩, 15), (⟨"TileOffice", "fillLeads", "(II)V"⟩, 15), (⟨"TileOffice", "multiply", "(I)V"⟩, 15), (⟨"java/lang/Throwable", "fillInStackTrace", "(I)Ljava/lang/Throwable;"⟩, 6), (⟨"TileOffice", "fit", "(LTileOffice$Row;ILTileOffice$Row;II)Z"⟩, 15), (⟨"TileOffice", "isMoved", "(LTileOffice$Pattern;ILTileOffice$Pattern;)Z"⟩, 15), (⟨"TileOffice", "isMoved", "(LTileOffice$Pattern;IIILTileOffice$Row;I)Z"⟩, 15), (⟨"TileOffice", "lies", "(LTileOffice$Pattern;IILTileOffice$Pattern;I)Z"⟩, 15), (⟨"TileOffice", "floor", "(I)LTileOffice$Floor;"⟩, 15), (⟨"TileOffice$Floor", "has", "(II)Z"⟩, 20), (⟨"TileOffice$Floor", "search", "(IZ)V"⟩, 20), (⟨"TileOffice$Floor", "begin", "()V"⟩, 20), (⟨"TileOffice$Floor", "clear", "()V"⟩, 20), (⟨"TileOffice$Floor", "isGood", "()Z"⟩, 20), (⟨"TileOffice$Floor", "fits", "(IIII)Z"⟩, 20), (⟨"TileOffice$Floor", "meets", "(IIII)Z"⟩, 20)]
theorem lw_r2 : ∀ q ∈ lw_privs_2, lw_okq q := List.forall_mem_cons.mpr ⟨lw_p16, List.forall_mem_cons.mpr ⟨lw_p17, List.forall_mem_cons.mpr ⟨lw_p18, List.forall_mem_cons.mpr ⟨lw_p19, List.forall_mem_cons.mpr ⟨lw_p20, List.forall_mem_cons.mpr ⟨lw_p21, List.forall_mem_cons.mpr ⟨lw_p22, List.forall_mem_cons.mpr ⟨lw_p23, List.forall_mem_cons.mpr ⟨lw_p24, List.forall_mem_cons.mpr ⟨lw_p25, List.forall_mem_cons.mpr ⟨lw_p26, List.forall_mem_cons.mpr ⟨lw_p27, List.forall_mem_cons.mpr ⟨lw_p28, List.forall_mem_cons.mpr ⟨lw_p29, List.forall_mem_cons.mpr ⟨lw_p30, List.forall_mem_cons.mpr ⟨lw_p31, fun _ h => absurd h List.not_mem_nil⟩⟩⟩⟩⟩⟩⟩⟩⟩⟩⟩⟩⟩⟩⟩⟩
theorem lw_p32 : lw_okq (⟨"TileOffice$Floor", "next", "()V"⟩, 20) := ⟨⟨by decide +kernel, by decide +kernel⟩, lw_t4 (List.mem_of_getElem? (i := 68) rfl), lw_t4 (List.mem_of_getElem? (i := 198) rfl), lw_t4 (List.mem_of_getElem? (i := 199) rfl)⟩
theorem lw_p33 : lw_okq (⟨"TileOffice$Floor", "keep", "()V"⟩, 20) := ⟨⟨by decide +kernel, by decide +kernel⟩, lw_t4 (List.mem_of_getElem? (i := 68) rfl), lw_t4 (List.mem_of_getElem? (i := 202) rfl), lw_t4 (List.mem_of_getElem? (i := 203) rfl)⟩
theorem lw_p34 : lw_okq (⟨"TileOffice$Floor", "fitting", "(III)I"⟩, 20) := ⟨⟨by decide +kernel, by decide +kernel⟩, lw_t4 (List.mem_of_getElem? (i := 68) rfl), lw_t4 (List.mem_of_getElem? (i := 207) rfl), lw_t4 (List.mem_of_getElem? (i := 208) rfl)⟩
theorem lw_p35 : lw_okq (⟨"TileOffice$Floor", "ends", "()Z"⟩, 20) := ⟨⟨by decide +kernel, by decide +kernel⟩, lw_t4 (List.mem_of_getElem? (i := 68) rfl), lw_t4 (List.mem_of_getElem? (i := 211) rfl), lw_t4 (List.mem_of_getElem? (i := 212) rfl)⟩
theorem lw_p36 : lw_okq (⟨"TileOffice$Floor", "tries", "(IIII)V"⟩, 20) := ⟨⟨by decide +kernel, by decide +kernel⟩, lw_t4 (List.mem_of_getElem? (i := 68) rfl), lw_t4 (List.mem_of_getElem? (i := 215) rfl), lw_t4 (List.mem_of_getElem? (i := 216) rfl)⟩
theorem lw_p37 : lw_okq (⟨"TileOffice$Floor", "round", "()I"⟩, 20) := ⟨⟨by decide +kernel, by decide +kernel⟩, lw_t4 (List.mem_of_getElem? (i := 68) rfl), lw_t5 (List.mem_of_getElem? (i := 4) rfl), lw_t5 (List.mem_of_getElem? (i := 5) rfl)⟩
theorem lw_p38 : lw_okq (⟨"TileOffice$Floor", "way", "(II)I"⟩, 20) := ⟨⟨by decide +kernel, by decide +kernel⟩, lw_t4 (List.mem_of_getElem? (i := 68) rfl), lw_t5 (List.mem_of_getElem? (i := 8) rfl), lw_t5 (List.mem_of_getElem? (i := 9) rfl)⟩
theorem lw_p39 : lw_okq (⟨"TileOfficeModel", "isKind", "(I)Z"⟩, 55) := ⟨⟨by decide +kernel, by decide +kernel⟩, lw_t5 (List.mem_of_getElem? (i := 28) rfl), lw_t5 (List.mem_of_getElem? (i := 231) rfl), lw_t5 (List.mem_of_getElem? (i := 232) rfl)⟩
theorem lw_p40 : lw_okq (⟨"TileOfficeModel", "lies", "(II)I"⟩, 55) := ⟨⟨by decide +kernel, by decide +kernel⟩, lw_t5 (List.mem_of_getElem? (i := 28) rfl), lw_t5 (List.mem_of_getElem? (i := 235) rfl), lw_t5 (List.mem_of_getElem? (i := 236) rfl)⟩
theorem lw_p41 : lw_okq (⟨"TileOfficeModel", "colour", "(III)I"⟩, 55) := ⟨⟨by decide +kernel, by decide +kernel⟩, lw_t5 (List.mem_of_getElem? (i := 28) rfl), lw_t5 (List.mem_of_getElem? (i := 239) rfl), lw_t6 (List.mem_of_getElem? (i := 0) rfl)⟩
theorem lw_p42 : lw_okq (⟨"TileOfficeModel", "isPattern", "(I)Z"⟩, 55) := ⟨⟨by decide +kernel, by decide +kernel⟩, lw_t5 (List.mem_of_getElem? (i := 28) rfl), lw_t6 (List.mem_of_getElem? (i := 15) rfl), lw_t6 (List.mem_of_getElem? (i := 16) rfl)⟩
theorem lw_p43 : lw_okq (⟨"TileOfficeModel", "keep", "(I)V"⟩, 55) := ⟨⟨by decide +kernel, by decide +kernel⟩, lw_t5 (List.mem_of_getElem? (i := 28) rfl), lw_t6 (List.mem_of_getElem? (i := 19) rfl), lw_t6 (List.mem_of_getElem? (i := 20) rfl)⟩
theorem lw_p44 : lw_okq (⟨"TileOfficeModel", "rowOf", "(II)I"⟩, 55) := ⟨⟨by decide +kernel, by decide +kernel⟩, lw_t5 (List.mem_of_getElem? (i := 28) rfl), lw_t6 (List.mem_of_getElem? (i := 23) rfl), lw_t6 (List.mem_of_getElem? (i := 24) rfl)⟩
theorem lw_p45 : lw_okq (⟨"TileOfficeModel", "newRow", "(II)I"⟩, 55) := ⟨⟨by decide +kernel, by decide +kernel⟩, lw_t5 (List.mem_of_getElem? (i := 28) rfl), lw_t6 (List.mem_of_getElem? (i := 27) rfl), lw_t6 (List.mem_of_getElem? (i := 28) rfl)⟩
theorem lw_p46 : lw_okq (⟨"TileOfficeModel", "takeRow", "(II)V"⟩, 55) := ⟨⟨by decide +kernel, by decide +kernel⟩, lw_t5 (List.mem_of_getElem? (i := 28) rfl), lw_t6 (List.mem_of_getElem? (i := 35) rfl), lw_t6 (List.mem_of_getElem? (i := 36) rfl)⟩
theorem lw_p47 : lw_okq (⟨"TileOfficeModel", "has", "(IJJ)Z"⟩, 55) := ⟨⟨by decide +kernel, by decide +kernel⟩, lw_t5 (List.mem_of_getElem? (i := 28) rfl), lw_t6 (List.mem_of_getElem? (i := 47) rfl), lw_t6 (List.mem_of_getElem? (i := 48) rfl)⟩
def lw_privs_3 : List (MethodName × Nat) := [(⟨"TileOffice$Floor", "next", "()V"⟩, 20), (⟨"TileOffice$Floor", "keep", "()V"⟩, 20), (⟨"TileOffice$Floor", "fitting", "(III)I"⟩, 20), (⟨"TileOffice$Floor", "ends", "()Z"⟩, 20), (⟨"TileOffice$Floor", "tries", "(IIII)V"⟩, 20), (⟨"TileOffice$Floor", "round", "()I"⟩, 20), (⟨"TileOffice$Floor", "way", "(II)I"⟩, 20), (⟨"TileOfficeModel", "isKind", "(I)Z"⟩, 55), (⟨"TileOfficeModel", "lies", "(II)I"⟩, 55), (⟨"TileOfficeModel", "colour", "(III)I"⟩, 55), (⟨"TileOfficeModel", "isPattern", "(I)Z"⟩, 55), (⟨"TileOfficeModel", "keep", "(I)V"⟩, 55), (⟨"TileOfficeModel", "rowOf", "(II)I"⟩, 55), (⟨"TileOfficeModel", "newRow", "(II)I"⟩, 55), (⟨"TileOfficeModel", "takeRow", "(II)V"⟩, 55), (⟨"TileOfficeModel", "has", "(IJJ)Z"⟩, 55)]
theorem lw_r3 : ∀ q ∈ lw_privs_3, lw_okq q := List.forall_mem_cons.mpr ⟨lw_p32, List.forall_mem_cons.mpr ⟨lw_p33, List.forall_mem_cons.mpr ⟨lw_p34, List.forall_mem_cons.mpr ⟨lw_p35, List.forall_mem_cons.mpr ⟨lw_p36, List.forall_mem_cons.mpr ⟨lw_p37, List.forall_mem_cons.mpr ⟨lw_p38, List.forall_mem_cons.mpr ⟨lw_p39, List.forall_mem_cons.mpr ⟨lw_p40, List.forall_mem_cons.mpr ⟨lw_p41, List.forall_mem_cons.mpr ⟨lw_p42, List.forall_mem_cons.mpr ⟨lw_p43, List.forall_mem_cons.mpr ⟨lw_p44, List.forall_mem_cons.mpr ⟨lw_p45, List.forall_mem_cons.mpr ⟨lw_p46, List.forall_mem_cons.mpr ⟨lw_p47, fun _ h => absurd h List.not_mem_nil⟩⟩⟩⟩⟩⟩⟩⟩⟩⟩⟩⟩⟩⟩⟩⟩
theorem lw_p48 : lw_okq (⟨"TileOfficeModel", "sets", "(IIII)Z"⟩, 55) := ⟨⟨by decide +kernel, by decide +kernel⟩, lw_t5 (List.mem_of_getElem? (i := 28) rfl), lw_t6 (List.mem_of_getElem? (i := 54) rfl), lw_t6 (List.mem_of_getElem? (i := 55) rfl)⟩
theorem lw_p49 : lw_okq (⟨"TileOfficeModel", "own", "(II)V"⟩, 55) := ⟨⟨by decide +kernel, by decide +kernel⟩, lw_t5 (List.mem_of_getElem? (i := 28) rfl), lw_t6 (List.mem_of_getElem? (i := 58) rfl), lw_t6 (List.mem_of_getElem? (i := 59) rfl)⟩
theorem lw_p50 : lw_okq (⟨"TileOfficeModel", "placeOf", "(III)I"⟩, 55) := ⟨⟨by decide +kernel, by decide +kernel⟩, lw_t5 (List.mem_of_getElem? (i := 28) rfl), lw_t6 (List.mem_of_getElem? (i := 62) rfl), lw_t6 (List.mem_of_getElem? (i := 63) rfl)⟩
theorem lw_p51 : lw_okq (⟨"TileOfficeModel", "cellAt", "(III)I"⟩, 55) := ⟨⟨by decide +kernel, by decide +kernel⟩, lw_t5 (List.mem_of_getElem? (i := 28) rfl), lw_t6 (List.mem_of_getElem? (i := 70) rfl), lw_t6 (List.mem_of_getElem? (i := 71) rfl)⟩
theorem lw_p52 : lw_okq (⟨"TileOfficeModel", "comesFrom", "(IIIII)V"⟩, 55) := ⟨⟨by decide +kernel, by decide +kernel⟩, lw_t5 (List.mem_of_getElem? (i := 28) rfl), lw_t6 (List.mem_of_getElem? (i := 108) rfl), lw_t6 (List.mem_of_getElem? (i := 109) rfl)⟩
theorem lw_p53 : lw_okq (⟨"TileOfficeModel", "moved", "(II)I"⟩, 55) := ⟨⟨by decide +kernel, by decide +kernel⟩, lw_t5 (List.mem_of_getElem? (i := 28) rfl), lw_t6 (List.mem_of_getElem? (i := 112) rfl), lw_t6 (List.mem_of_getElem? (i := 113) rfl)⟩
theorem lw_p54 : lw_okq (⟨"TileOfficeModel", "comes", "(IIII)I"⟩, 55) := ⟨⟨by decide +kernel, by decide +kernel⟩, lw_t5 (List.mem_of_getElem? (i := 28) rfl), lw_t6 (List.mem_of_getElem? (i := 120) rfl), lw_t6 (List.mem_of_getElem? (i := 121) rfl)⟩
theorem lw_p55 : lw_okq (⟨"TileOfficeModel", "isRule", "(I)Z"⟩, 55) := ⟨⟨by decide +kernel, by decide +kernel⟩, lw_t5 (List.mem_of_getElem? (i := 28) rfl), lw_t6 (List.mem_of_getElem? (i := 132) rfl), lw_t6 (List.mem_of_getElem? (i := 133) rfl)⟩
theorem lw_p56 : lw_okq (⟨"TileOfficeModel", "grown", "(III)Z"⟩, 55) := ⟨⟨by decide +kernel, by decide +kernel⟩, lw_t5 (List.mem_of_getElem? (i := 28) rfl), lw_t6 (List.mem_of_getElem? (i := 140) rfl), lw_t6 (List.mem_of_getElem? (i := 141) rfl)⟩
theorem lw_p57 : lw_okq (⟨"TileOfficeModel", "block", "(IIII)I"⟩, 55) := ⟨⟨by decide +kernel, by decide +kernel⟩, lw_t5 (List.mem_of_getElem? (i := 28) rfl), lw_t6 (List.mem_of_getElem? (i := 144) rfl), lw_t6 (List.mem_of_getElem? (i := 145) rfl)⟩
theorem lw_p58 : lw_okq (⟨"TileOfficeModel", "fit", "(III)Z"⟩, 55) := ⟨⟨by decide +kernel, by decide +kernel⟩, lw_t5 (List.mem_of_getElem? (i := 28) rfl), lw_t6 (List.mem_of_getElem? (i := 166) rfl), lw_t6 (List.mem_of_getElem? (i := 167) rfl)⟩
theorem lw_p59 : lw_okq (⟨"TileOfficeModel", "comesAgain", "(III)Z"⟩, 55) := ⟨⟨by decide +kernel, by decide +kernel⟩, lw_t5 (List.mem_of_getElem? (i := 28) rfl), lw_t6 (List.mem_of_getElem? (i := 174) rfl), lw_t6 (List.mem_of_getElem? (i := 175) rfl)⟩
theorem lw_p60 : lw_okq (⟨"TileOfficeModel", "isFull", "(I)Z"⟩, 55) := ⟨⟨by decide +kernel, by decide +kernel⟩, lw_t5 (List.mem_of_getElem? (i := 28) rfl), lw_t6 (List.mem_of_getElem? (i := 182) rfl), lw_t6 (List.mem_of_getElem? (i := 183) rfl)⟩
theorem lw_p61 : lw_okq (⟨"TileOfficeModel", "isMoved", "(III)Z"⟩, 55) := ⟨⟨by decide +kernel, by decide +kernel⟩, lw_t5 (List.mem_of_getElem? (i := 28) rfl), lw_t6 (List.mem_of_getElem? (i := 186) rfl), lw_t6 (List.mem_of_getElem? (i := 187) rfl)⟩
theorem lw_p62 : lw_okq (⟨"TileOfficeModel", "wide", "(I)I"⟩, 55) := ⟨⟨by decide +kernel, by decide +kernel⟩, lw_t5 (List.mem_of_getElem? (i := 28) rfl), lw_t6 (List.mem_of_getElem? (i := 190) rfl), lw_t6 (List.mem_of_getElem? (i := 191) rfl)⟩
theorem lw_p63 : lw_okq (⟨"TileOfficeModel", "movedCell", "(IIII)I"⟩, 55) := ⟨⟨by decide +kernel, by decide +kernel⟩, lw_t5 (List.mem_of_getElem? (i := 28) rfl), lw_t6 (List.mem_of_getElem? (i := 194) rfl), lw_t6 (List.mem_of_getElem? (i := 195) rfl)⟩
def lw_privs_4 : List (MethodName × Nat) := [(⟨"TileOfficeModel", "sets", "(IIII)Z"⟩, 55), (⟨"TileOfficeModel", "own", "(II)V"⟩, 55), (⟨"TileOfficeModel", "placeOf", "(III)I"⟩, 55), (⟨"TileOfficeModel", "cellAt", "(III)I"⟩, 55), (⟨"TileOfficeModel", "comesFrom", "(IIIII)V"⟩, 55), (⟨"TileOfficeModel", "moved", "(II)I"⟩, 55), (⟨"TileOfficeModel", "comes", "(IIII)I"⟩, 55), (⟨"TileOfficeModel", "isRule", "(I)Z"⟩, 55), (⟨"TileOfficeModel", "grown", "(III)Z"⟩, 55), (⟨"TileOfficeModel", "block", "(IIII)I"⟩, 55), (⟨"TileOfficeModel", "fit", "(III)Z"⟩, 55), (⟨"TileOfficeModel", "comesAgain", "(III)Z"⟩, 55), (⟨"TileOfficeModel", "isFull", "(I)Z"⟩, 55), (⟨"TileOfficeModel", "isMoved", "(III)Z"⟩, 55), (⟨"TileOfficeModel", "wide", "(I)I"⟩, 55), (⟨"TileOfficeModel", "movedCell", "(IIII)I"⟩, 55)]
theorem lw_r4 : ∀ q ∈ lw_privs_4, lw_okq q := List.forall_mem_cons.mpr ⟨lw_p48, List.forall_mem_cons.mpr ⟨lw_p49, List.forall_mem_cons.mpr ⟨lw_p50, List.forall_mem_cons.mpr ⟨lw_p51, List.forall_mem_cons.mpr ⟨lw_p52, List.forall_mem_cons.mpr ⟨lw_p53, List.forall_mem_cons.mpr ⟨lw_p54, List.forall_mem_cons.mpr ⟨lw_p55, List.forall_mem_cons.mpr ⟨lw_p56, List.forall_mem_cons.mpr ⟨lw_p57, List.forall_mem_cons.mpr ⟨lw_p58, List.forall_mem_cons.mpr ⟨lw_p59, List.forall_mem_cons.mpr ⟨lw_p60, List.forall_mem_cons.mpr ⟨lw_p61, List.forall_mem_cons.mpr ⟨lw_p62, List.forall_mem_cons.mpr ⟨lw_p63, fun _ h => absurd h List.not_mem_nil⟩⟩⟩⟩⟩⟩⟩⟩⟩⟩⟩⟩⟩⟩⟩⟩
theorem lw_p64 : lw_okq (⟨"TileOfficeModel", "isFound", "(IIIII)Z"⟩, 55) := ⟨⟨by decide +kernel, by decide +kernel⟩, lw_t5 (List.mem_of_getElem? (i := 28) rfl), lw_t6 (List.mem_of_getElem? (i := 206) rfl), lw_t6 (List.mem_of_getElem? (i := 207) rfl)⟩
theorem lw_p65 : lw_okq (⟨"TileOfficeModel", "isPlace", "(III)Z"⟩, 55) := ⟨⟨by decide +kernel, by decide +kernel⟩, lw_t5 (List.mem_of_getElem? (i := 28) rfl), lw_t6 (List.mem_of_getElem? (i := 218) rfl), lw_t6 (List.mem_of_getElem? (i := 219) rfl)⟩
theorem lw_p66 : lw_okq (⟨"TileOfficeModel", "isFloor", "(I)Z"⟩, 55) := ⟨⟨by decide +kernel, by decide +kernel⟩, lw_t5 (List.mem_of_getElem? (i := 28) rfl), lw_t6 (List.mem_of_getElem? (i := 222) rfl), lw_t6 (List.mem_of_getElem? (i := 223) rfl)⟩
theorem lw_p67 : lw_okq (⟨"TileOfficeModel", "starts", "(I)Z"⟩, 55) := ⟨⟨by decide +kernel, by decide +kernel⟩, lw_t5 (List.mem_of_getElem? (i := 28) rfl), lw_t6 (List.mem_of_getElem? (i := 238) rfl), lw_t6 (List.mem_of_getElem? (i := 239) rfl)⟩
theorem lw_p68 : lw_okq (⟨"TileOfficeModel", "mayLie", "(II)Z"⟩, 55) := ⟨⟨by decide +kernel, by decide +kernel⟩, lw_t5 (List.mem_of_getElem? (i := 28) rfl), lw_t7 (List.mem_of_getElem? (i := 2) rfl), lw_t7 (List.mem_of_getElem? (i := 3) rfl)⟩
theorem lw_p69 : lw_okq (⟨"TileOfficeModel", "lyingAt", "(II)I"⟩, 55) := ⟨⟨by decide +kernel, by decide +kernel⟩, lw_t5 (List.mem_of_getElem? (i := 28) rfl), lw_t7 (List.mem_of_getElem? (i := 6) rfl), lw_t7 (List.mem_of_getElem? (i := 7) rfl)⟩
theorem lw_p70 : lw_okq (⟨"TileOfficeModel", "search", "(IZ)V"⟩, 55) := ⟨⟨by decide +kernel, by decide +kernel⟩, lw_t5 (List.mem_of_getElem? (i := 28) rfl), lw_t7 (List.mem_of_getElem? (i := 10) rfl), lw_t7 (List.mem_of_getElem? (i := 11) rfl)⟩
theorem lw_p71 : lw_okq (⟨"TileOfficeModel", "leastCost", "()I"⟩, 55) := ⟨⟨by decide +kernel, by decide +kernel⟩, lw_t5 (List.mem_of_getElem? (i := 28) rfl), lw_t7 (List.mem_of_getElem? (i := 14) rfl), lw_t7 (List.mem_of_getElem? (i := 15) rfl)⟩
theorem lw_p72 : lw_okq (⟨"TileOfficeModel", "nextPlace", "()I"⟩, 55) := ⟨⟨by decide +kernel, by decide +kernel⟩, lw_t5 (List.mem_of_getElem? (i := 28) rfl), lw_t7 (List.mem_of_getElem? (i := 18) rfl), lw_t7 (List.mem_of_getElem? (i := 19) rfl)⟩
theorem lw_p73 : lw_okq (⟨"TileOfficeModel", "fitting", "(I)I"⟩, 55) := ⟨⟨by decide +kernel, by decide +kernel⟩, lw_t5 (List.mem_of_getElem? (i := 28) rfl), lw_t7 (List.mem_of_getElem? (i := 22) rfl), lw_t7 (List.mem_of_getElem? (i := 23) rfl)⟩
theorem lw_p74 : lw_okq (⟨"TileOfficeModel", "nextFitting", "(II)I"⟩, 55) := ⟨⟨by decide +kernel, by decide +kernel⟩, lw_t5 (List.mem_of_getElem? (i := 28) rfl), lw_t7 (List.mem_of_getElem? (i := 26) rfl), lw_t7 (List.mem_of_getElem? (i := 27) rfl)⟩
theorem lw_p75 : lw_okq (⟨"TileOfficeModel", "show", "()V"⟩, 55) := ⟨⟨by decide +kernel, by decide +kernel⟩, lw_t5 (List.mem_of_getElem? (i := 28) rfl), lw_t7 (List.mem_of_getElem? (i := 30) rfl), lw_t7 (List.mem_of_getElem? (i := 31) rfl)⟩
theorem lw_p76 : lw_okq (⟨"TileOfficeModel", "takeBack", "(I)V"⟩, 55) := ⟨⟨by decide +kernel, by decide +kernel⟩, lw_t5 (List.mem_of_getElem? (i := 28) rfl), lw_t7 (List.mem_of_getElem? (i := 34) rfl), lw_t7 (List.mem_of_getElem? (i := 35) rfl)⟩
theorem lw_p77 : lw_okq (⟨"TileOfficeModel", "lay", "(II)V"⟩, 55) := ⟨⟨by decide +kernel, by decide +kernel⟩, lw_t5 (List.mem_of_getElem? (i := 28) rfl), lw_t7 (List.mem_of_getElem? (i := 39) rfl), lw_t7 (List.mem_of_getElem? (i := 40) rfl)⟩
def lw_privs_5 : List (MethodName × Nat) := [(⟨"TileOfficeModel", "isFound", "(IIIII)Z"⟩, 55), (⟨"TileOfficeModel", "isPlace", "(III)Z"⟩, 55), (⟨"TileOfficeModel", "isFloor", "(I)Z"⟩, 55), (⟨"TileOfficeModel", "starts", "(I)Z"⟩, 55), (⟨"TileOfficeModel", "mayLie", "(II)Z"⟩, 55), (⟨"TileOfficeModel", "lyingAt", "(II)I"⟩, 55), (⟨"TileOfficeModel", "search", "(IZ)V"⟩, 55), (⟨"TileOfficeModel", "leastCost", "()I"⟩, 55), (⟨"TileOfficeModel", "nextPlace", "()I"⟩, 55), (⟨"TileOfficeModel", "fitting", "(I)I"⟩, 55), (⟨"TileOfficeModel", "nextFitting", "(II)I"⟩, 55), (⟨"TileOfficeModel", "show", "()V"⟩, 55), (⟨"TileOfficeModel", "takeBack", "(I)V"⟩, 55), (⟨"TileOfficeModel", "lay", "(II)V"⟩, 55)]
theorem lw_r5 : ∀ q ∈ lw_privs_5, lw_okq q := List.forall_mem_cons.mpr ⟨lw_p64, List.forall_mem_cons.mpr ⟨lw_p65, List.forall_mem_cons.mpr ⟨lw_p66, List.forall_mem_cons.mpr ⟨lw_p67, List.forall_mem_cons.mpr ⟨lw_p68, List.forall_mem_cons.mpr ⟨lw_p69, List.forall_mem_cons.mpr ⟨lw_p70, List.forall_mem_cons.mpr ⟨lw_p71, List.forall_mem_cons.mpr ⟨lw_p72, List.forall_mem_cons.mpr ⟨lw_p73, List.forall_mem_cons.mpr ⟨lw_p74, List.forall_mem_cons.mpr ⟨lw_p75, List.forall_mem_cons.mpr ⟨lw_p76, List.forall_mem_cons.mpr ⟨lw_p77, fun _ h => absurd h List.not_mem_nil⟩⟩⟩⟩⟩⟩⟩⟩⟩⟩⟩⟩⟩⟩
def lw_privs : List (MethodName × Nat) := lw_privs_1 ++ (lw_privs_2 ++ (lw_privs_3 ++ (lw_privs_4 ++ (lw_privs_5))))
def lw_tbl : List Cond := k2_sels lw_privs ++ tables_1
theorem lw_privs_ok : ∀ q ∈ lw_privs, lw_okq q := by
  show ∀ q ∈ lw_privs_1 ++ (lw_privs_2 ++ (lw_privs_3 ++ (lw_privs_4 ++ (lw_privs_5)))), lw_okq q
  exact List.forall_mem_append.mpr ⟨lw_r1, List.forall_mem_append.mpr ⟨lw_r2, List.forall_mem_append.mpr ⟨lw_r3, List.forall_mem_append.mpr ⟨lw_r4, lw_r5⟩⟩⟩⟩
-- ===== ONE list of words for every method: the tables' words that hold all through a run =====
def lw_all : List Cond := lw_tbl.filter goodWord
/-- a word of the tables by its place: claim/WORDS.tsv -/
theorem lw_w {w : Cond} (i : Nat) (h : lw_tbl[i]? = some w) (g : goodWord w = true) : w ∈ lw_all := List.mem_filter.mpr ⟨List.mem_of_getElem? h, g⟩
theorem lw_all_tbl {w : Cond} (h : w ∈ lw_all) : w ∈ lw_tbl := (List.mem_filter.mp h).1
theorem lw_self : GoodIn lw_all lw_all := fun w h => ⟨h, good_of_word (List.mem_filter.mp h).2⟩
/-- a class's field words, by their places -/
theorem lw_in (ws : List Cond) (ps : List Nat) (hp : ws = ps.filterMap (fun i => lw_tbl[i]?)) (hg : ws.all goodWord = true) : ∀ w ∈ ws, w ∈ lw_all := by
  intro w h
  have h1 := List.all_eq_true.mp hg w h
  rw [hp] at h
  obtain ⟨i, -, hi⟩ := List.mem_filterMap.mp h
  exact lw_w i hi h1
/-- the words of a contract for the method y with code b, L locals, answer r -/
abbrev ws_ (y : MethodName) (b : ByteArray) (L : Nat) (r : Option FieldType) : List Cond := Cond.code y b L r :: lw_all
theorem lw_meth {y : MethodName} {b : ByteArray} {L : Nat} {r : Option FieldType} (h : Cond.code y b L r ∈ lw_all) : GoodIn lw_all (ws_ y b L r) := by
  intro w hw
  rcases List.mem_cons.mp hw with e | e
  · rw [e]
    exact lw_self _ h
  · exact lw_self _ e
theorem lw_app {a c : List Cond} (ha : ∀ w ∈ a, w ∈ lw_all) (hc : GoodIn lw_all c) : GoodIn lw_all (a ++ c) := by
  intro w hw
  rcases List.mem_append.mp hw with e | e
  · exact lw_self w (ha w e)
  · exact hc w e
/-- what a call through an object asks: cwV n hts (lw_V ..) -/
theorem lw_V {own : String} {idx : Nat} {C : String} {y : MethodName} {b : ByteArray} {L : Nat} {r : Option FieldType} (h1 : Cond.methodLink own idx y ∈ lw_all) (h2 : Cond.instanceMethod y ∈ lw_all) (h3 : Cond.selects C y y ∈ lw_all) (h4 : Cond.initialized C ∈ lw_all) (h5 : Cond.code y b L r ∈ lw_all) : GoodIn lw_all (wsV own idx C y (ws_ y b L r)) := by
  refine lw_app ?_ (lw_meth h5)
  intro w hw
  simp only [List.mem_cons, List.not_mem_nil, or_false] at hw
  rcases hw with e | e | e | e
  · rw [e]; exact h1
  · rw [e]; exact h2
  · rw [e]; exact h3
  · rw [e]; exact h4
/-- what a static call asks: va_cwS n hts (lw_S ..) -/
theorem lw_S {own : String} {idx : Nat} {y : MethodName} {b : ByteArray} {L : Nat} {r : Option FieldType} (h1 : Cond.methodLink own idx y ∈ lw_all) (h2 : Cond.static y ∈ lw_all) (h3 : Cond.initialized y.cls ∈ lw_all) (h4 : Cond.code y b L r ∈ lw_all) : GoodIn lw_all (va_wsS own idx y (ws_ y b L r)) := by
  refine lw_app ?_ (lw_meth h4)
  intro w hw
  simp only [List.mem_cons, List.not_mem_nil, or_false] at hw
  rcases hw with e | e | e
  · rw [e]; exact h1
  · rw [e]; exact h2
  · rw [e]; exact h3
/-- the words of a contract for a method WITH HANDLERS (hh: its table) -/
abbrev wsW_ (y : MethodName) (b : ByteArray) (L : Nat) (r : Option FieldType) (hh : List (Nat × Nat × Nat × Nat)) : List Cond := Cond.codeWith y b L r hh :: lw_all
theorem lw_methW {y : MethodName} {b : ByteArray} {L : Nat} {r : Option FieldType} {hh : List (Nat × Nat × Nat × Nat)} (h : Cond.codeWith y b L r hh ∈ lw_all) : GoodIn lw_all (wsW_ y b L r hh) := by
  intro w hw
  rcases List.mem_cons.mp hw with e | e
  · rw [e]
    exact lw_self _ h
  · exact lw_self _ e
/-- any list of words by their places (lw_in), good -/
theorem lw_good {ws : List Cond} (h : ∀ w ∈ ws, w ∈ lw_all) : GoodIn lw_all ws := fun w hw => lw_self w (h w hw)
/-- what a call of a method with handlers asks: vx_cwVW n hts (lw_VW ..), vx_cwSW n hts (lw_SW ..) -/
theorem lw_VW {own : String} {idx : Nat} {C : String} {y : MethodName} {b : ByteArray} {L : Nat} {r : Option FieldType} {hh : List (Nat × Nat × Nat × Nat)} (h1 : Cond.methodLink own idx y ∈ lw_all) (h2 : Cond.instanceMethod y ∈ lw_all) (h3 : Cond.selects C y y ∈ lw_all) (h4 : Cond.initialized C ∈ lw_all) (h5 : Cond.codeWith y b L r hh ∈ lw_all) : GoodIn lw_all (wsV own idx C y (wsW_ y b L r hh)) := by
  refine lw_app ?_ (lw_methW h5)
  intro w hw
  simp only [List.mem_cons, List.not_mem_nil, or_false] at hw
  rcases hw with e | e | e | e
  · rw [e]; exact h1
  · rw [e]; exact h2
  · rw [e]; exact h3
  · rw [e]; exact h4
theorem lw_SW {own : String} {idx : Nat} {y : MethodName} {b : ByteArray} {L : Nat} {r : Option FieldType} {hh : List (Nat × Nat × Nat × Nat)} (h1 : Cond.methodLink own idx y ∈ lw_all) (h2 : Cond.static y ∈ lw_all) (h3 : Cond.initialized y.cls ∈ lw_all) (h4 : Cond.codeWith y b L r hh ∈ lw_all) : GoodIn lw_all (va_wsS own idx y (wsW_ y b L r hh)) := by
  refine lw_app ?_ (lw_methW h4)
  intro w hw
  simp only [List.mem_cons, List.not_mem_nil, or_false] at hw
  rcases hw with e | e | e
  · rw [e]; exact h1
  · rw [e]; exact h2
  · rw [e]; exact h3
/-- a word by its place in its run of the tables -/
theorem lw_at {r : List Cond} (hr : ∀ w ∈ r, w ∈ lw_tbl) {w : Cond} (i : Nat) (h : r[i]? = some w) : w ∈ lw_tbl := hr w (List.mem_of_getElem? h)
theorem lw_g {w : Cond} (h : w ∈ lw_tbl) (g : goodWord w = true) : w ∈ lw_all := List.mem_filter.mpr ⟨h, g⟩
theorem lw_ms : ∀ w ∈ k2_sels lw_privs, w ∈ lw_tbl := fun w h => show w ∈ k2_sels lw_privs ++ tables_1 from List.mem_append_left _ h
theorem lw_m1 : ∀ w ∈ tables_1_1, w ∈ lw_tbl := fun w h => show w ∈ k2_sels lw_privs ++ tables_1 from List.mem_append_right (k2_sels lw_privs) (show w ∈ tables_1 from List.mem_append_left _ h)
theorem lw_m2 : ∀ w ∈ tables_1_2, w ∈ lw_tbl := fun w h => show w ∈ k2_sels lw_privs ++ tables_1 from List.mem_append_right (k2_sels lw_privs) (show w ∈ tables_1 from List.mem_append_right _ (List.mem_append_left _ h))
theorem lw_m3 : ∀ w ∈ tables_1_3, w ∈ lw_tbl := fun w h => show w ∈ k2_sels lw_privs ++ tables_1 from List.mem_append_right (k2_sels lw_privs) (show w ∈ tables_1 from List.mem_append_right _ (List.mem_append_right _ (List.mem_append_left _ h)))
theorem lw_m4 : ∀ w ∈ tables_1_4, w ∈ lw_tbl := fun w h => show w ∈ k2_sels lw_privs ++ tables_1 from List.mem_append_right (k2_sels lw_privs) (show w ∈ tables_1 from List.mem_append_right _ (List.mem_append_right _ (List.mem_append_right _ (List.mem_append_left _ h))))
theorem lw_m5 : ∀ w ∈ tables_1_5, w ∈ lw_tbl := fun w h => show w ∈ k2_sels lw_privs ++ tables_1 from List.mem_append_right (k2_sels lw_privs) (show w ∈ tables_1 from List.mem_append_right _ (List.mem_append_right _ (List.mem_append_right _ (List.mem_append_right _ (List.mem_append_left _ h)))))
theorem lw_m6 : ∀ w ∈ tables_1_6, w ∈ lw_tbl := fun w h => show w ∈ k2_sels lw_privs ++ tables_1 from List.mem_append_right (k2_sels lw_privs) (show w ∈ tables_1 from List.mem_append_right _ (List.mem_append_right _ (List.mem_append_right _ (List.mem_append_right _ (List.mem_append_right _ (List.mem_append_left _ h))))))
theorem lw_m7 : ∀ w ∈ tables_1_7, w ∈ lw_tbl := fun w h => show w ∈ k2_sels lw_privs ++ tables_1 from List.mem_append_right (k2_sels lw_privs) (show w ∈ tables_1 from List.mem_append_right _ (List.mem_append_right _ (List.mem_append_right _ (List.mem_append_right _ (List.mem_append_right _ (List.mem_append_right _ h))))))
theorem qs0 : (Cond.selects "java/util/ArrayList" ⟨"java/util/ArrayList", "add", "(Ljava/lang/Object;[Ljava/lang/Object;I)V"⟩ ⟨"java/util/ArrayList", "add", "(Ljava/lang/Object;[Ljava/lang/Object;I)V"⟩) ∈ lw_all := lw_g (lw_at lw_ms 0 rfl) rfl
theorem qs1 : (Cond.selects "java/util/ArrayList" ⟨"java/util/ArrayList", "grow", "()[Ljava/lang/Object;"⟩ ⟨"java/util/ArrayList", "grow", "()[Ljava/lang/Object;"⟩) ∈ lw_all := lw_g (lw_at lw_ms 1 rfl) rfl
theorem qs2 : (Cond.selects "java/util/ArrayList" ⟨"java/util/ArrayList", "grow", "(I)[Ljava/lang/Object;"⟩ ⟨"java/util/ArrayList", "grow", "(I)[Ljava/lang/Object;"⟩) ∈ lw_all := lw_g (lw_at lw_ms 2 rfl) rfl
theorem qs3 : (Cond.selects "TileOffice" ⟨"TileOffice", "isKind", "(I)Z"⟩ ⟨"TileOffice", "isKind", "(I)Z"⟩) ∈ lw_all := lw_g (lw_at lw_ms 3 rfl) rfl
theorem qs4 : (Cond.selects "TileOffice" ⟨"TileOffice", "pattern", "(I)LTileOffice$Pattern;"⟩ ⟨"TileOffice", "pattern", "(I)LTileOffice$Pattern;"⟩) ∈ lw_all := lw_g (lw_at lw_ms 4 rfl) rfl
theorem qs5 : (Cond.selects "TileOffice" ⟨"TileOffice", "canMake", "(I)Z"⟩ ⟨"TileOffice", "canMake", "(I)Z"⟩) ∈ lw_all := lw_g (lw_at lw_ms 5 rfl) rfl
theorem qs6 : (Cond.selects "TileOffice" ⟨"TileOffice", "keep", "(LTileOffice$Pattern;)V"⟩ ⟨"TileOffice", "keep", "(LTileOffice$Pattern;)V"⟩) ∈ lw_all := lw_g (lw_at lw_ms 6 rfl) rfl
theorem qs7 : (Cond.selects "java/util/ArrayList" ⟨"java/util/ArrayList", "rangeCheckForAdd", "(I)V"⟩ ⟨"java/util/ArrayList", "rangeCheckForAdd", "(I)V"⟩) ∈ lw_all := lw_g (lw_at lw_ms 7 rfl) rfl
theorem qs8 : (Cond.selects "java/util/ArrayList" ⟨"java/util/ArrayList", "fastRemove", "([Ljava/lang/Object;I)V"⟩ ⟨"java/util/ArrayList", "fastRemove", "([Ljava/lang/Object;I)V"⟩) ∈ lw_all := lw_g (lw_at lw_ms 8 rfl) rfl
theorem qs9 : (Cond.selects "TileOffice" ⟨"TileOffice", "own", "(LTileOffice$Pattern;I)LTileOffice$Row;"⟩ ⟨"TileOffice", "own", "(LTileOffice$Pattern;I)LTileOffice$Row;"⟩) ∈ lw_all := lw_g (lw_at lw_ms 9 rfl) rfl
theorem qs10 : (Cond.selects "TileOffice" ⟨"TileOffice", "rule", "(I)LTileOffice$Rule;"⟩ ⟨"TileOffice", "rule", "(I)LTileOffice$Rule;"⟩) ∈ lw_all := lw_g (lw_at lw_ms 10 rfl) rfl
theorem qs11 : (Cond.selects "TileOffice" ⟨"TileOffice", "canGrow", "(LTileOffice$Pattern;LTileOffice$Rule;I)Z"⟩ ⟨"TileOffice", "canGrow", "(LTileOffice$Pattern;LTileOffice$Rule;I)Z"⟩) ∈ lw_all := lw_g (lw_at lw_ms 11 rfl) rfl
theorem qs12 : (Cond.selects "TileOffice" ⟨"TileOffice", "isTurned", "(LTileOffice$Pattern;LTileOffice$Rule;I)Z"⟩ ⟨"TileOffice", "isTurned", "(LTileOffice$Pattern;LTileOffice$Rule;I)Z"⟩) ∈ lw_all := lw_g (lw_at lw_ms 12 rfl) rfl
theorem qs13 : (Cond.selects "TileOffice" ⟨"TileOffice", "step", "(LTileOffice$Rule;)V"⟩ ⟨"TileOffice", "step", "(LTileOffice$Rule;)V"⟩) ∈ lw_all := lw_g (lw_at lw_ms 13 rfl) rfl
theorem qs14 : (Cond.selects "TileOffice" ⟨"TileOffice", "grown", "(Ljava/util/ArrayList;LTileOffice$Rule;)Ljava/util/ArrayList;"⟩ ⟨"TileOffice", "grown", "(Ljava/util/ArrayList;LTileOffice$Rule;)Ljava/util/ArrayList;"⟩) ∈ lw_all := lw_g (lw_at lw_ms 14 rfl) rfl
theorem qs15 : (Cond.selects "TileOffice" ⟨"TileOffice", "lay", "(LTileOffice$Row;ILTileOffice$Rule;LTileOffice$Row;II)V"⟩ ⟨"TileOffice", "lay", "(LTileOffice$Row;ILTileOffice$Rule;LTileOffice$Row;II)V"⟩) ∈ lw_all := lw_g (lw_at lw_ms 15 rfl) rfl
theorem qs16 : (Cond.selects "TileOffice" ⟨"TileOffice", "fillMatrix", "(LTileOffice$Rule;)V"⟩ ⟨"TileOffice", "fillMatrix", "(LTileOffice$Rule;)V"⟩) ∈ lw_all := lw_g (lw_at lw_ms 16 rfl) rfl
theorem qs17 : (Cond.selects "TileOffice" ⟨"TileOffice", "fillLeads", "(II)V"⟩ ⟨"TileOffice", "fillLeads", "(II)V"⟩) ∈ lw_all := lw_g (lw_at lw_ms 17 rfl) rfl
theorem qs18 : (Cond.selects "TileOffice" ⟨"TileOffice", "multiply", "(I)V"⟩ ⟨"TileOffice", "multiply", "(I)V"⟩) ∈ lw_all := lw_g (lw_at lw_ms 18 rfl) rfl
theorem qs19 : (Cond.selects "java/lang/Throwable" ⟨"java/lang/Throwable", "fillInStackTrace", "(I)Ljava/lang/Throwable;"⟩ ⟨"java/lang/Throwable", "fillInStackTrace", "(I)Ljava/lang/Throwable;"⟩) ∈ lw_all := lw_g (lw_at lw_ms 19 rfl) rfl
theorem qs20 : (Cond.selects "TileOffice" ⟨"TileOffice", "fit", "(LTileOffice$Row;ILTileOffice$Row;II)Z"⟩ ⟨"TileOffice", "fit", "(LTileOffice$Row;ILTileOffice$Row;II)Z"⟩) ∈ lw_all := lw_g (lw_at lw_ms 20 rfl) rfl
theorem qs21 : (Cond.selects "TileOffice" ⟨"TileOffice", "isMoved", "(LTileOffice$Pattern;ILTileOffice$Pattern;)Z"⟩ ⟨"TileOffice", "isMoved", "(LTileOffice$Pattern;ILTileOffice$Pattern;)Z"⟩) ∈ lw_all := lw_g (lw_at lw_ms 21 rfl) rfl
theorem qs22 : (Cond.selects "TileOffice" ⟨"TileOffice", "isMoved", "(LTileOffice$Pattern;IIILTileOffice$Row;I)Z"⟩ ⟨"TileOffice", "isMoved", "(LTileOffice$Pattern;IIILTileOffice$Row;I)Z"⟩) ∈ lw_all := lw_g (lw_at lw_ms 22 rfl) rfl
theorem qs23 : (Cond.selects "TileOffice" ⟨"TileOffice", "lies", "(LTileOffice$Pattern;IILTileOffice$Pattern;I)Z"⟩ ⟨"TileOffice", "lies", "(LTileOffice$Pattern;IILTileOffice$Pattern;I)Z"⟩) ∈ lw_all := lw_g (lw_at lw_ms 23 rfl) rfl
theorem qs24 : (Cond.selects "TileOffice" ⟨"TileOffice", "floor", "(I)LTileOffice$Floor;"⟩ ⟨"TileOffice", "floor", "(I)LTileOffice$Floor;"⟩) ∈ lw_all := lw_g (lw_at lw_ms 24 rfl) rfl
theorem qs25 : (Cond.selects "TileOffice$Floor" ⟨"TileOffice$Floor", "has", "(II)Z"⟩ ⟨"TileOffice$Floor", "has", "(II)Z"⟩) ∈ lw_all := lw_g (lw_at lw_ms 25 rfl) rfl
theorem qs26 : (Cond.selects "TileOffice$Floor" ⟨"TileOffice$Floor", "search", "(IZ)V"⟩ ⟨"TileOffice$Floor", "search", "(IZ)V"⟩) ∈ lw_all := lw_g (lw_at lw_ms 26 rfl) rfl
theorem qs27 : (Cond.selects "TileOffice$Floor" ⟨"TileOffice$Floor", "begin", "()V"⟩ ⟨"TileOffice$Floor", "begin", "()V"⟩) ∈ lw_all := lw_g (lw_at lw_ms 27 rfl) rfl
theorem qs28 : (Cond.selects "TileOffice$Floor" ⟨"TileOffice$Floor", "clear", "()V"⟩ ⟨"TileOffice$Floor", "clear", "()V"⟩) ∈ lw_all := lw_g (lw_at lw_ms 28 rfl) rfl
theorem qs29 : (Cond.selects "TileOffice$Floor" ⟨"TileOffice$Floor", "isGood", "()Z"⟩ ⟨"TileOffice$Floor", "isGood", "()Z"⟩) ∈ lw_all := lw_g (lw_at lw_ms 29 rfl) rfl
theorem qs30 : (Cond.selects "TileOffice$Floor" ⟨"TileOffice$Floor", "fits", "(IIII)Z"⟩ ⟨"TileOffice$Floor", "fits", "(IIII)Z"⟩) ∈ lw_all := lw_g (lw_at lw_ms 30 rfl) rfl
theorem qs31 : (Cond.selects "TileOffice$Floor" ⟨"TileOffice$Floor", "meets", "(IIII)Z"⟩ ⟨"TileOffice$Floor", "meets", "(IIII)Z"⟩) ∈ lw_all := lw_g (lw_at lw_ms 31 rfl) rfl
theorem qs32 : (Cond.selects "TileOffice$Floor" ⟨"TileOffice$Floor", "next", "()V"⟩ ⟨"TileOffice$Floor", "next", "()V"⟩) ∈ lw_all := lw_g (lw_at lw_ms 32 rfl) rfl
theorem qs33 : (Cond.selects "TileOffice$Floor" ⟨"TileOffice$Floor", "keep", "()V"⟩ ⟨"TileOffice$Floor", "keep", "()V"⟩) ∈ lw_all := lw_g (lw_at lw_ms 33 rfl) rfl
theorem qs34 : (Cond.selects "TileOffice$Floor" ⟨"TileOffice$Floor", "fitting", "(III)I"⟩ ⟨"TileOffice$Floor", "fitting", "(III)I"⟩) ∈ lw_all := lw_g (lw_at lw_ms 34 rfl) rfl
theorem qs35 : (Cond.selects "TileOffice$Floor" ⟨"TileOffice$Floor", "ends", "()Z"⟩ ⟨"TileOffice$Floor", "ends", "()Z"⟩) ∈ lw_all := lw_g (lw_at lw_ms 35 rfl) rfl
theorem qs36 : (Cond.selects "TileOffice$Floor" ⟨"TileOffice$Floor", "tries", "(IIII)V"⟩ ⟨"TileOffice$Floor", "tries", "(IIII)V"⟩) ∈ lw_all := lw_g (lw_at lw_ms 36 rfl) rfl
theorem qs37 : (Cond.selects "TileOffice$Floor" ⟨"TileOffice$Floor", "round", "()I"⟩ ⟨"TileOffice$Floor", "round", "()I"⟩) ∈ lw_all := lw_g (lw_at lw_ms 37 rfl) rfl
theorem qs38 : (Cond.selects "TileOffice$Floor" ⟨"TileOffice$Floor", "way", "(II)I"⟩ ⟨"TileOffice$Floor", "way", "(II)I"⟩) ∈ lw_all := lw_g (lw_at lw_ms 38 rfl) rfl
theorem qs39 : (Cond.selects "TileOfficeModel" ⟨"TileOfficeModel", "isKind", "(I)Z"⟩ ⟨"TileOfficeModel", "isKind", "(I)Z"⟩) ∈ lw_all := lw_g (lw_at lw_ms 39 rfl) rfl
theorem qs40 : (Cond.selects "TileOfficeModel" ⟨"TileOfficeModel", "lies", "(II)I"⟩ ⟨"TileOfficeModel", "lies", "(II)I"⟩) ∈ lw_all := lw_g (lw_at lw_ms 40 rfl) rfl
theorem qs41 : (Cond.selects "TileOfficeModel" ⟨"TileOfficeModel", "colour", "(III)I"⟩ ⟨"TileOfficeModel", "colour", "(III)I"⟩) ∈ lw_all := lw_g (lw_at lw_ms 41 rfl) rfl
theorem qs42 : (Cond.selects "TileOfficeModel" ⟨"TileOfficeModel", "isPattern", "(I)Z"⟩ ⟨"TileOfficeModel", "isPattern", "(I)Z"⟩) ∈ lw_all := lw_g (lw_at lw_ms 42 rfl) rfl
theorem qs43 : (Cond.selects "TileOfficeModel" ⟨"TileOfficeModel", "keep", "(I)V"⟩ ⟨"TileOfficeModel", "keep", "(I)V"⟩) ∈ lw_all := lw_g (lw_at lw_ms 43 rfl) rfl
theorem qs44 : (Cond.selects "TileOfficeModel" ⟨"TileOfficeModel", "rowOf", "(II)I"⟩ ⟨"TileOfficeModel", "rowOf", "(II)I"⟩) ∈ lw_all := lw_g (lw_at lw_ms 44 rfl) rfl
theorem qs45 : (Cond.selects "TileOfficeModel" ⟨"TileOfficeModel", "newRow", "(II)I"⟩ ⟨"TileOfficeModel", "newRow", "(II)I"⟩) ∈ lw_all := lw_g (lw_at lw_ms 45 rfl) rfl
theorem qs46 : (Cond.selects "TileOfficeModel" ⟨"TileOfficeModel", "takeRow", "(II)V"⟩ ⟨"TileOfficeModel", "takeRow", "(II)V"⟩) ∈ lw_all := lw_g (lw_at lw_ms 46 rfl) rfl
theorem qs47 : (Cond.selects "TileOfficeModel" ⟨"TileOfficeModel", "has", "(IJJ)Z"⟩ ⟨"TileOfficeModel", "has", "(IJJ)Z"⟩) ∈ lw_all := lw_g (lw_at lw_ms 47 rfl) rfl
theorem qs48 : (Cond.selects "TileOfficeModel" ⟨"TileOfficeModel", "sets", "(IIII)Z"⟩ ⟨"TileOfficeModel", "sets", "(IIII)Z"⟩) ∈ lw_all := lw_g (lw_at lw_ms 48 rfl) rfl
theorem qs49 : (Cond.selects "TileOfficeModel" ⟨"TileOfficeModel", "own", "(II)V"⟩ ⟨"TileOfficeModel", "own", "(II)V"⟩) ∈ lw_all := lw_g (lw_at lw_ms 49 rfl) rfl
theorem qs50 : (Cond.selects "TileOfficeModel" ⟨"TileOfficeModel", "placeOf", "(III)I"⟩ ⟨"TileOfficeModel", "placeOf", "(III)I"⟩) ∈ lw_all := lw_g (lw_at lw_ms 50 rfl) rfl
theorem qs51 : (Cond.selects "TileOfficeModel" ⟨"TileOfficeModel", "cellAt", "(III)I"⟩ ⟨"TileOfficeModel", "cellAt", "(III)I"⟩) ∈ lw_all := lw_g (lw_at lw_ms 51 rfl) rfl
theorem qs52 : (Cond.selects "TileOfficeModel" ⟨"TileOfficeModel", "comesFrom", "(IIIII)V"⟩ ⟨"TileOfficeModel", "comesFrom", "(IIIII)V"⟩) ∈ lw_all := lw_g (lw_at lw_ms 52 rfl) rfl
theorem qs53 : (Cond.selects "TileOfficeModel" ⟨"TileOfficeModel", "moved", "(II)I"⟩ ⟨"TileOfficeModel", "moved", "(II)I"⟩) ∈ lw_all := lw_g (lw_at lw_ms 53 rfl) rfl
theorem qs54 : (Cond.selects "TileOfficeModel" ⟨"TileOfficeModel", "comes", "(IIII)I"⟩ ⟨"TileOfficeModel", "comes", "(IIII)I"⟩) ∈ lw_all := lw_g (lw_at lw_ms 54 rfl) rfl
theorem qs55 : (Cond.selects "TileOfficeModel" ⟨"TileOfficeModel", "isRule", "(I)Z"⟩ ⟨"TileOfficeModel", "isRule", "(I)Z"⟩) ∈ lw_all := lw_g (lw_at lw_ms 55 rfl) rfl
theorem qs56 : (Cond.selects "TileOfficeModel" ⟨"TileOfficeModel", "grown", "(III)Z"⟩ ⟨"TileOfficeModel", "grown", "(III)Z"⟩) ∈ lw_all := lw_g (lw_at lw_ms 56 rfl) rfl
theorem qs57 : (Cond.selects "TileOfficeModel" ⟨"TileOfficeModel", "block", "(IIII)I"⟩ ⟨"TileOfficeModel", "block", "(IIII)I"⟩) ∈ lw_all := lw_g (lw_at lw_ms 57 rfl) rfl
theorem qs58 : (Cond.selects "TileOfficeModel" ⟨"TileOfficeModel", "fit", "(III)Z"⟩ ⟨"TileOfficeModel", "fit", "(III)Z"⟩) ∈ lw_all := lw_g (lw_at lw_ms 58 rfl) rfl
theorem qs59 : (Cond.selects "TileOfficeModel" ⟨"TileOfficeModel", "comesAgain", "(III)Z"⟩ ⟨"TileOfficeModel", "comesAgain", "(III)Z"⟩) ∈ lw_all := lw_g (lw_at lw_ms 59 rfl) rfl
theorem qs60 : (Cond.selects "TileOfficeModel" ⟨"TileOfficeModel", "isFull", "(I)Z"⟩ ⟨"TileOfficeModel", "isFull", "(I)Z"⟩) ∈ lw_all := lw_g (lw_at lw_ms 60 rfl) rfl
theorem qs61 : (Cond.selects "TileOfficeModel" ⟨"TileOfficeModel", "isMoved", "(III)Z"⟩ ⟨"TileOfficeModel", "isMoved", "(III)Z"⟩) ∈ lw_all := lw_g (lw_at lw_ms 61 rfl) rfl
theorem qs62 : (Cond.selects "TileOfficeModel" ⟨"TileOfficeModel", "wide", "(I)I"⟩ ⟨"TileOfficeModel", "wide", "(I)I"⟩) ∈ lw_all := lw_g (lw_at lw_ms 62 rfl) rfl
theorem qs63 : (Cond.selects "TileOfficeModel" ⟨"TileOfficeModel", "movedCell", "(IIII)I"⟩ ⟨"TileOfficeModel", "movedCell", "(IIII)I"⟩) ∈ lw_all := lw_g (lw_at lw_ms 63 rfl) rfl
theorem qs64 : (Cond.selects "TileOfficeModel" ⟨"TileOfficeModel", "isFound", "(IIIII)Z"⟩ ⟨"TileOfficeModel", "isFound", "(IIIII)Z"⟩) ∈ lw_all := lw_g (lw_at lw_ms 64 rfl) rfl
theorem qs65 : (Cond.selects "TileOfficeModel" ⟨"TileOfficeModel", "isPlace", "(III)Z"⟩ ⟨"TileOfficeModel", "isPlace", "(III)Z"⟩) ∈ lw_all := lw_g (lw_at lw_ms 65 rfl) rfl
theorem qs66 : (Cond.selects "TileOfficeModel" ⟨"TileOfficeModel", "isFloor", "(I)Z"⟩ ⟨"TileOfficeModel", "isFloor", "(I)Z"⟩) ∈ lw_all := lw_g (lw_at lw_ms 66 rfl) rfl
theorem qs67 : (Cond.selects "TileOfficeModel" ⟨"TileOfficeModel", "starts", "(I)Z"⟩ ⟨"TileOfficeModel", "starts", "(I)Z"⟩) ∈ lw_all := lw_g (lw_at lw_ms 67 rfl) rfl
theorem qs68 : (Cond.selects "TileOfficeModel" ⟨"TileOfficeModel", "mayLie", "(II)Z"⟩ ⟨"TileOfficeModel", "mayLie", "(II)Z"⟩) ∈ lw_all := lw_g (lw_at lw_ms 68 rfl) rfl
theorem qs69 : (Cond.selects "TileOfficeModel" ⟨"TileOfficeModel", "lyingAt", "(II)I"⟩ ⟨"TileOfficeModel", "lyingAt", "(II)I"⟩) ∈ lw_all := lw_g (lw_at lw_ms 69 rfl) rfl
theorem qs70 : (Cond.selects "TileOfficeModel" ⟨"TileOfficeModel", "search", "(IZ)V"⟩ ⟨"TileOfficeModel", "search", "(IZ)V"⟩) ∈ lw_all := lw_g (lw_at lw_ms 70 rfl) rfl
theorem qs71 : (Cond.selects "TileOfficeModel" ⟨"TileOfficeModel", "leastCost", "()I"⟩ ⟨"TileOfficeModel", "leastCost", "()I"⟩) ∈ lw_all := lw_g (lw_at lw_ms 71 rfl) rfl
theorem qs72 : (Cond.selects "TileOfficeModel" ⟨"TileOfficeModel", "nextPlace", "()I"⟩ ⟨"TileOfficeModel", "nextPlace", "()I"⟩) ∈ lw_all := lw_g (lw_at lw_ms 72 rfl) rfl
theorem qs73 : (Cond.selects "TileOfficeModel" ⟨"TileOfficeModel", "fitting", "(I)I"⟩ ⟨"TileOfficeModel", "fitting", "(I)I"⟩) ∈ lw_all := lw_g (lw_at lw_ms 73 rfl) rfl
theorem qs74 : (Cond.selects "TileOfficeModel" ⟨"TileOfficeModel", "nextFitting", "(II)I"⟩ ⟨"TileOfficeModel", "nextFitting", "(II)I"⟩) ∈ lw_all := lw_g (lw_at lw_ms 74 rfl) rfl
theorem qs75 : (Cond.selects "TileOfficeModel" ⟨"TileOfficeModel", "show", "()V"⟩ ⟨"TileOfficeModel", "show", "()V"⟩) ∈ lw_all := lw_g (lw_at lw_ms 75 rfl) rfl
theorem qs76 : (Cond.selects "TileOfficeModel" ⟨"TileOfficeModel", "takeBack", "(I)V"⟩ ⟨"TileOfficeModel", "takeBack", "(I)V"⟩) ∈ lw_all := lw_g (lw_at lw_ms 76 rfl) rfl
theorem qs77 : (Cond.selects "TileOfficeModel" ⟨"TileOfficeModel", "lay", "(II)V"⟩ ⟨"TileOfficeModel", "lay", "(II)V"⟩) ∈ lw_all := lw_g (lw_at lw_ms 77 rfl) rfl
