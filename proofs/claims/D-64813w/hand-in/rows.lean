section
-- ===== PART A: goes FIRST, ahead of the names: the tables' words, and 'selects' of the private methods out of them =====
/-- a private method of a class that the tables say can be made, by its rows of tables_1 -/
def lw_okq (q : MethodName × Nat) : Prop := (q.1.cls ≠ "java/lang/invoke/MethodHandle" ∧ q.1.cls ≠ "java/lang/invoke/VarHandle") ∧ Cond.instantiable q.1.cls q.2 ∈ tables_1 ∧ Cond.privateMethod q.1 ∈ tables_1 ∧ Cond.instanceMethod q.1 ∈ tables_1
theorem lw_p0 : lw_okq (⟨"RowPress", "isStretch", "(II)Z"⟩, 8) := ⟨⟨by decide +kernel, by decide +kernel⟩, List.mem_of_getElem? (i := 11) (by decide +kernel), List.mem_of_getElem? (i := 94) (by decide +kernel), List.mem_of_getElem? (i := 95) (by decide +kernel)⟩
theorem lw_p1 : lw_okq (⟨"RowPress", "bring", "(III)V"⟩, 8) := ⟨⟨by decide +kernel, by decide +kernel⟩, List.mem_of_getElem? (i := 11) (by decide +kernel), List.mem_of_getElem? (i := 98) (by decide +kernel), List.mem_of_getElem? (i := 99) (by decide +kernel)⟩
theorem lw_p2 : lw_okq (⟨"RowPress", "reverse", "(II)V"⟩, 8) := ⟨⟨by decide +kernel, by decide +kernel⟩, List.mem_of_getElem? (i := 11) (by decide +kernel), List.mem_of_getElem? (i := 102) (by decide +kernel), List.mem_of_getElem? (i := 103) (by decide +kernel)⟩
theorem lw_p3 : lw_okq (⟨"RowPress", "swap", "(II)V"⟩, 8) := ⟨⟨by decide +kernel, by decide +kernel⟩, List.mem_of_getElem? (i := 11) (by decide +kernel), List.mem_of_getElem? (i := 106) (by decide +kernel), List.mem_of_getElem? (i := 107) (by decide +kernel)⟩
theorem lw_p4 : lw_okq (⟨"RowPress", "isOrder", "(I)Z"⟩, 8) := ⟨⟨by decide +kernel, by decide +kernel⟩, List.mem_of_getElem? (i := 11) (by decide +kernel), List.mem_of_getElem? (i := 123) (by decide +kernel), List.mem_of_getElem? (i := 124) (by decide +kernel)⟩
theorem lw_p5 : lw_okq (⟨"RowPress", "begin", "(II)V"⟩, 8) := ⟨⟨by decide +kernel, by decide +kernel⟩, List.mem_of_getElem? (i := 11) (by decide +kernel), List.mem_of_getElem? (i := 127) (by decide +kernel), List.mem_of_getElem? (i := 128) (by decide +kernel)⟩
theorem lw_p6 : lw_okq (⟨"RowPress", "sortAt", "(II)V"⟩, 8) := ⟨⟨by decide +kernel, by decide +kernel⟩, List.mem_of_getElem? (i := 11) (by decide +kernel), List.mem_of_getElem? (i := 131) (by decide +kernel), List.mem_of_getElem? (i := 132) (by decide +kernel)⟩
theorem lw_p7 : lw_okq (⟨"RowPress", "sortShort", "(II)V"⟩, 8) := ⟨⟨by decide +kernel, by decide +kernel⟩, List.mem_of_getElem? (i := 11) (by decide +kernel), List.mem_of_getElem? (i := 138) (by decide +kernel), List.mem_of_getElem? (i := 139) (by decide +kernel)⟩
theorem lw_p8 : lw_okq (⟨"RowPress", "search", "(IIIZ)I"⟩, 8) := ⟨⟨by decide +kernel, by decide +kernel⟩, List.mem_of_getElem? (i := 11) (by decide +kernel), List.mem_of_getElem? (i := 142) (by decide +kernel), List.mem_of_getElem? (i := 143) (by decide +kernel)⟩
theorem lw_p9 : lw_okq (⟨"RowPress", "compare", "(II)I"⟩, 8) := ⟨⟨by decide +kernel, by decide +kernel⟩, List.mem_of_getElem? (i := 11) (by decide +kernel), List.mem_of_getElem? (i := 146) (by decide +kernel), List.mem_of_getElem? (i := 147) (by decide +kernel)⟩
theorem lw_p10 : lw_okq (⟨"RowPress", "mergeAt", "(III)V"⟩, 8) := ⟨⟨by decide +kernel, by decide +kernel⟩, List.mem_of_getElem? (i := 11) (by decide +kernel), List.mem_of_getElem? (i := 175) (by decide +kernel), List.mem_of_getElem? (i := 176) (by decide +kernel)⟩
theorem lw_p11 : lw_okq (⟨"RowPress", "isSorted", "(II)Z"⟩, 8) := ⟨⟨by decide +kernel, by decide +kernel⟩, List.mem_of_getElem? (i := 11) (by decide +kernel), List.mem_of_getElem? (i := 184) (by decide +kernel), List.mem_of_getElem? (i := 185) (by decide +kernel)⟩
theorem lw_p12 : lw_okq (⟨"RowPress", "splitAt", "(III)I"⟩, 8) := ⟨⟨by decide +kernel, by decide +kernel⟩, List.mem_of_getElem? (i := 11) (by decide +kernel), List.mem_of_getElem? (i := 192) (by decide +kernel), List.mem_of_getElem? (i := 193) (by decide +kernel)⟩
theorem lw_p13 : lw_okq (⟨"RowPress", "runs", "()I"⟩, 8) := ⟨⟨by decide +kernel, by decide +kernel⟩, List.mem_of_getElem? (i := 11) (by decide +kernel), List.mem_of_getElem? (i := 225) (by decide +kernel), List.mem_of_getElem? (i := 226) (by decide +kernel)⟩
theorem lw_p14 : lw_okq (⟨"RowPress", "different", "()I"⟩, 8) := ⟨⟨by decide +kernel, by decide +kernel⟩, List.mem_of_getElem? (i := 11) (by decide +kernel), List.mem_of_getElem? (i := 229) (by decide +kernel), List.mem_of_getElem? (i := 230) (by decide +kernel)⟩
theorem lw_p15 : lw_okq (⟨"RowPressModel", "arrange", "(III)V"⟩, 5) := ⟨⟨by decide +kernel, by decide +kernel⟩, List.mem_of_getElem? (i := 239) (by decide +kernel), List.mem_of_getElem? (i := 280) (by decide +kernel), List.mem_of_getElem? (i := 281) (by decide +kernel)⟩
def lw_privs_1 : List (MethodName × Nat) := [(⟨"RowPress", "isStretch", "(II)Z"⟩, 8), (⟨"RowPress", "bring", "(III)V"⟩, 8), (⟨"RowPress", "reverse", "(II)V"⟩, 8), (⟨"RowPress", "swap", "(II)V"⟩, 8), (⟨"RowPress", "isOrder", "(I)Z"⟩, 8), (⟨"RowPress", "begin", "(II)V"⟩, 8), (⟨"RowPress", "sortAt", "(II)V"⟩, 8), (⟨"RowPress", "sortShort", "(II)V"⟩, 8), (⟨"RowPress", "search", "(IIIZ)I"⟩, 8), (⟨"RowPress", "compare", "(II)I"⟩, 8), (⟨"RowPress", "mergeAt", "(III)V"⟩, 8), (⟨"RowPress", "isSorted", "(II)Z"⟩, 8), (⟨"RowPress", "splitAt", "(III)I"⟩, 8), (⟨"RowPress", "runs", "()I"⟩, 8), (⟨"RowPress", "different", "()I"⟩, 8), (⟨"RowPressModel", "arrange", "(III)V"⟩, 5)]
theorem lw_r1 : ∀ q ∈ lw_privs_1, lw_okq q := List.forall_mem_cons.mpr ⟨lw_p0, List.forall_mem_cons.mpr ⟨lw_p1, List.forall_mem_cons.mpr ⟨lw_p2, List.forall_mem_cons.mpr ⟨lw_p3, List.forall_mem_cons.mpr ⟨lw_p4, List.forall_mem_cons.mpr ⟨lw_p5, List.forall_mem_cons.mpr ⟨lw_p6, List.forall_mem_cons.mpr ⟨lw_p7, List.forall_mem_cons.mpr ⟨lw_p8, List.forall_mem_cons.mpr ⟨lw_p9, List.forall_mem_cons.mpr ⟨lw_p10, List.forall_mem_cons.mpr ⟨lw_p11, List.forall_mem_cons.mpr ⟨lw_p12, List.forall_mem_cons.mpr ⟨lw_p13, List.forall_mem_cons.mpr ⟨lw_p14, List.forall_mem_cons.mpr ⟨lw_p15, fun _ h => absurd h List.not_mem_nil⟩⟩⟩⟩⟩⟩⟩⟩⟩⟩⟩⟩⟩⟩⟩⟩
theorem lw_p16 : lw_okq (⟨"RowPressModel", "place", "(IIII)I"⟩, 5) := ⟨⟨by decide +kernel, by decide +kernel⟩, List.mem_of_getElem? (i := 239) (by decide +kernel), List.mem_of_getElem? (i := 284) (by decide +kernel), List.mem_of_getElem? (i := 285) (by decide +kernel)⟩
theorem lw_p17 : lw_okq (⟨"RowPressModel", "move", "(II)V"⟩, 5) := ⟨⟨by decide +kernel, by decide +kernel⟩, List.mem_of_getElem? (i := 239) (by decide +kernel), List.mem_of_getElem? (i := 292) (by decide +kernel), List.mem_of_getElem? (i := 293) (by decide +kernel)⟩
theorem lw_p18 : lw_okq (⟨"RowPressModel", "take", "(II)V"⟩, 5) := ⟨⟨by decide +kernel, by decide +kernel⟩, List.mem_of_getElem? (i := 239) (by decide +kernel), List.mem_of_getElem? (i := 296) (by decide +kernel), List.mem_of_getElem? (i := 297) (by decide +kernel)⟩
theorem lw_p19 : lw_okq (⟨"RowPressModel", "isStretch", "(II)Z"⟩, 5) := ⟨⟨by decide +kernel, by decide +kernel⟩, List.mem_of_getElem? (i := 239) (by decide +kernel), List.mem_of_getElem? (i := 304) (by decide +kernel), List.mem_of_getElem? (i := 305) (by decide +kernel)⟩
theorem lw_p20 : lw_okq (⟨"RowPressModel", "isSorted", "(III)Z"⟩, 5) := ⟨⟨by decide +kernel, by decide +kernel⟩, List.mem_of_getElem? (i := 239) (by decide +kernel), List.mem_of_getElem? (i := 312) (by decide +kernel), List.mem_of_getElem? (i := 313) (by decide +kernel)⟩
theorem lw_p21 : lw_okq (⟨"RowPressModel", "stretches", "()I"⟩, 5) := ⟨⟨by decide +kernel, by decide +kernel⟩, List.mem_of_getElem? (i := 239) (by decide +kernel), List.mem_of_getElem? (i := 356) (by decide +kernel), List.mem_of_getElem? (i := 357) (by decide +kernel)⟩
theorem lw_p22 : lw_okq (⟨"RowPressModel", "different", "()I"⟩, 5) := ⟨⟨by decide +kernel, by decide +kernel⟩, List.mem_of_getElem? (i := 239) (by decide +kernel), List.mem_of_getElem? (i := 360) (by decide +kernel), List.mem_of_getElem? (i := 361) (by decide +kernel)⟩
def lw_privs_2 : List (MethodName × Nat) := [(⟨"RowPressModel", "place", "(IIII)I"⟩, 5), (⟨"RowPressModel", "move", "(II)V"⟩, 5), (⟨"RowPressModel", "take", "(II)V"⟩, 5), (⟨"RowPressModel", "isStretch", "(II)Z"⟩, 5), (⟨"RowPressModel", "isSorted", "(III)Z"⟩, 5), (⟨"RowPressModel", "stretches", "()I"⟩, 5), (⟨"RowPressModel", "different", "()I"⟩, 5)]
theorem lw_r2 : ∀ q ∈ lw_privs_2, lw_okq q := List.forall_mem_cons.mpr ⟨lw_p16, List.forall_mem_cons.mpr ⟨lw_p17, List.forall_mem_cons.mpr ⟨lw_p18, List.forall_mem_cons.mpr ⟨lw_p19, List.forall_mem_cons.mpr ⟨lw_p20, List.forall_mem_cons.mpr ⟨lw_p21, List.forall_mem_cons.mpr ⟨lw_p22, fun _ h => absurd h List.not_mem_nil⟩⟩⟩⟩⟩⟩⟩
def lw_privs : List (MethodName × Nat) := lw_privs_1 ++ (lw_privs_2)
def lw_tbl : List Cond := k2_sels lw_privs ++ tables_1
theorem lw_privs_ok : ∀ q ∈ lw_privs, lw_okq q := by
  show ∀ q ∈ lw_privs_1 ++ (lw_privs_2), lw_okq q
  exact List.forall_mem_append.mpr ⟨lw_r1, lw_r2⟩
/-- ONE word list for all methods: the tables' words that stay true -/
def w0 : List Cond := lw_tbl.filter goodWord
theorem w0_of {w : Cond} (k : Nat) (h : lw_tbl[k]? = some w) (hg : goodWord w = true) : w ∈ w0 := List.mem_filter.mpr ⟨List.mem_of_getElem? h, hg⟩
theorem w0_tbl {w : Cond} (h : w ∈ w0) : w ∈ lw_tbl := (List.mem_filter.mp h).1
theorem w0_good {y : MethodName} {b : ByteArray} {n : Nat} {r : Option FieldType} (h : Cond.code y b n r ∈ w0) : GoodIn w0 (Cond.code y b n r :: w0) := by
  intro w hw
  rcases List.mem_cons.mp hw with rfl | hw
  · exact ⟨h, good_of_word (List.mem_filter.mp h).2⟩
  · exact ⟨hw, good_of_word (List.mem_filter.mp hw).2⟩
theorem w0_good0 : GoodIn w0 w0 := fun w hw => ⟨hw, good_of_word (List.mem_filter.mp hw).2⟩
-- methods: name and code
abbrev b_R_init : ByteArray := prog_1_method_1_code
def y_R_init : MethodName := ⟨"RowPress", "<init>", "()V"⟩
abbrev b_J_init : ByteArray := object_method_1_code
def y_J_init : MethodName := ⟨"java/lang/Object", "<init>", "()V"⟩
abbrev b_S_init : ByteArray := prog_5_method_1_code
def y_S_init : MethodName := ⟨"RowPress$Signed", "<init>", "()V"⟩
abbrev b_O_init : ByteArray := prog_4_method_1_code
def y_O_init : MethodName := ⟨"RowPress$Order", "<init>", "()V"⟩
abbrev b_U_init : ByteArray := prog_6_method_1_code
def y_U_init : MethodName := ⟨"RowPress$Unsigned", "<init>", "()V"⟩
abbrev b_F_init : ByteArray := prog_2_method_1_code
def y_F_init : MethodName := ⟨"RowPress$Falling", "<init>", "()V"⟩
abbrev b_L_init : ByteArray := prog_3_method_1_code
def y_L_init : MethodName := ⟨"RowPress$Lowest", "<init>", "()V"⟩
abbrev b_R_put : ByteArray := prog_1_method_4_code
def y_R_put : MethodName := ⟨"RowPress", "put", "(II)I"⟩
abbrev b_R_run : ByteArray := prog_1_method_5_code
def y_R_run : MethodName := ⟨"RowPress", "run", "(IIII)I"⟩
abbrev b_R_clear : ByteArray := prog_1_method_6_code
def y_R_clear : MethodName := ⟨"RowPress", "clear", "()I"⟩
abbrev b_R_rotate : ByteArray := prog_1_method_10_code
def y_R_rotate : MethodName := ⟨"RowPress", "rotate", "(III)I"⟩
abbrev b_R_isStretch : ByteArray := prog_1_method_3_code
def y_R_isStretch : MethodName := ⟨"RowPress", "isStretch", "(II)Z"⟩
abbrev b_R_bring : ByteArray := prog_1_method_9_code
def y_R_bring : MethodName := ⟨"RowPress", "bring", "(III)V"⟩
abbrev b_R_reverse : ByteArray := prog_1_method_8_code
def y_R_reverse : MethodName := ⟨"RowPress", "reverse", "(II)V"⟩
abbrev b_R_swap : ByteArray := prog_1_method_7_code
def y_R_swap : MethodName := ⟨"RowPress", "swap", "(II)V"⟩
abbrev b_R_turn : ByteArray := prog_1_method_11_code
def y_R_turn : MethodName := ⟨"RowPress", "turn", "(II)I"⟩
abbrev b_R_sort : ByteArray := prog_1_method_19_code
def y_R_sort : MethodName := ⟨"RowPress", "sort", "(I)I"⟩
abbrev b_R_sortPart : ByteArray := prog_1_method_20_code
def y_R_sortPart : MethodName := ⟨"RowPress", "sortPart", "(III)I"⟩
abbrev b_R_isOrder : ByteArray := prog_1_method_2_code
def y_R_isOrder : MethodName := ⟨"RowPress", "isOrder", "(I)Z"⟩
abbrev b_R_begin : ByteArray := prog_1_method_15_code
def y_R_begin : MethodName := ⟨"RowPress", "begin", "(II)V"⟩
abbrev b_R_sortAt : ByteArray := prog_1_method_18_code
def y_R_sortAt : MethodName := ⟨"RowPress", "sortAt", "(II)V"⟩
abbrev b_X_min : ByteArray := prog_10_method_69_code
def y_X_min : MethodName := ⟨"java/lang/Math", "min", "(II)I"⟩
abbrev b_R_sortShort : ByteArray := prog_1_method_16_code
def y_R_sortShort : MethodName := ⟨"RowPress", "sortShort", "(II)V"⟩
abbrev b_R_search : ByteArray := prog_1_method_13_code
def y_R_search : MethodName := ⟨"RowPress", "search", "(IIIZ)I"⟩
abbrev b_R_compare : ByteArray := prog_1_method_12_code
def y_R_compare : MethodName := ⟨"RowPress", "compare", "(II)I"⟩
abbrev b_F_compare : ByteArray := prog_2_method_2_code
def y_F_compare : MethodName := ⟨"RowPress$Falling", "compare", "(II)I"⟩
abbrev b_I_compare : ByteArray := prog_9_method_40_code
def y_I_compare : MethodName := ⟨"java/lang/Integer", "compare", "(II)I"⟩
abbrev b_L_compare : ByteArray := prog_3_method_2_code
def y_L_compare : MethodName := ⟨"RowPress$Lowest", "compare", "(II)I"⟩
abbrev b_S_compare : ByteArray := prog_5_method_2_code
def y_S_compare : MethodName := ⟨"RowPress$Signed", "compare", "(II)I"⟩
abbrev b_U_compare : ByteArray := prog_6_method_2_code
def y_U_compare : MethodName := ⟨"RowPress$Unsigned", "compare", "(II)I"⟩
abbrev b_I_compareUnsigned : ByteArray := prog_9_method_41_code
def y_I_compareUnsigned : MethodName := ⟨"java/lang/Integer", "compareUnsigned", "(II)I"⟩
abbrev b_R_mergeAt : ByteArray := prog_1_method_17_code
def y_R_mergeAt : MethodName := ⟨"RowPress", "mergeAt", "(III)V"⟩
abbrev b_R_merge : ByteArray := prog_1_method_21_code
def y_R_merge : MethodName := ⟨"RowPress", "merge", "(IIII)I"⟩
abbrev b_R_isSorted : ByteArray := prog_1_method_14_code
def y_R_isSorted : MethodName := ⟨"RowPress", "isSorted", "(II)Z"⟩
abbrev b_R_split : ByteArray := prog_1_method_23_code
def y_R_split : MethodName := ⟨"RowPress", "split", "(IIII)I"⟩
abbrev b_R_splitAt : ByteArray := prog_1_method_22_code
def y_R_splitAt : MethodName := ⟨"RowPress", "splitAt", "(III)I"⟩
abbrev b_R_thin : ByteArray := prog_1_method_24_code
def y_R_thin : MethodName := ⟨"RowPress", "thin", "(I)I"⟩
abbrev b_R_sorted : ByteArray := prog_1_method_25_code
def y_R_sorted : MethodName := ⟨"RowPress", "sorted", "(III)I"⟩
abbrev b_R_find : ByteArray := prog_1_method_26_code
def y_R_find : MethodName := ⟨"RowPress", "find", "(III)I"⟩
abbrev b_R_rank : ByteArray := prog_1_method_27_code
def y_R_rank : MethodName := ⟨"RowPress", "rank", "(II)I"⟩
abbrev b_R_key : ByteArray := prog_1_method_28_code
def y_R_key : MethodName := ⟨"RowPress", "key", "(I)I"⟩
abbrev b_R_tag : ByteArray := prog_1_method_29_code
def y_R_tag : MethodName := ⟨"RowPress", "tag", "(I)I"⟩
abbrev b_R_count : ByteArray := prog_1_method_32_code
def y_R_count : MethodName := ⟨"RowPress", "count", "(I)I"⟩
abbrev b_R_runs : ByteArray := prog_1_method_30_code
def y_R_runs : MethodName := ⟨"RowPress", "runs", "()I"⟩
abbrev b_R_different : ByteArray := prog_1_method_31_code
def y_R_different : MethodName := ⟨"RowPress", "different", "()I"⟩
abbrev b_R_check : ByteArray := prog_1_method_33_code
def y_R_check : MethodName := ⟨"RowPress", "check", "()I"⟩
abbrev b_M_init : ByteArray := prog_8_method_1_code
def y_M_init : MethodName := ⟨"RowPressModel", "<init>", "()V"⟩
abbrev b_M_put : ByteArray := prog_8_method_6_code
def y_M_put : MethodName := ⟨"RowPressModel", "put", "(II)I"⟩
abbrev b_M_run : ByteArray := prog_8_method_7_code
def y_M_run : MethodName := ⟨"RowPressModel", "run", "(IIII)I"⟩
abbrev b_M_clear : ByteArray := prog_8_method_8_code
def y_M_clear : MethodName := ⟨"RowPressModel", "clear", "()I"⟩
abbrev b_M_sort : ByteArray := prog_8_method_13_code
def y_M_sort : MethodName := ⟨"RowPressModel", "sort", "(I)I"⟩
abbrev b_M_isOrder : ByteArray := prog_8_method_2_code
def y_M_isOrder : MethodName := ⟨"RowPressModel", "isOrder", "(I)Z"⟩
abbrev b_M_arrange : ByteArray := prog_8_method_12_code
def y_M_arrange : MethodName := ⟨"RowPressModel", "arrange", "(III)V"⟩
abbrev b_M_place : ByteArray := prog_8_method_9_code
def y_M_place : MethodName := ⟨"RowPressModel", "place", "(IIII)I"⟩
abbrev b_M_isLess : ByteArray := prog_8_method_4_code
def y_M_isLess : MethodName := ⟨"RowPressModel", "isLess", "(III)Z"⟩
abbrev b_M_move : ByteArray := prog_8_method_10_code
def y_M_move : MethodName := ⟨"RowPressModel", "move", "(II)V"⟩
abbrev b_M_take : ByteArray := prog_8_method_11_code
def y_M_take : MethodName := ⟨"RowPressModel", "take", "(II)V"⟩
abbrev b_M_sortPart : ByteArray := prog_8_method_14_code
def y_M_sortPart : MethodName := ⟨"RowPressModel", "sortPart", "(III)I"⟩
abbrev b_M_isStretch : ByteArray := prog_8_method_3_code
def y_M_isStretch : MethodName := ⟨"RowPressModel", "isStretch", "(II)Z"⟩
abbrev b_M_merge : ByteArray := prog_8_method_15_code
def y_M_merge : MethodName := ⟨"RowPressModel", "merge", "(IIII)I"⟩
abbrev b_M_isSorted : ByteArray := prog_8_method_5_code
def y_M_isSorted : MethodName := ⟨"RowPressModel", "isSorted", "(III)Z"⟩
abbrev b_M_rotate : ByteArray := prog_8_method_16_code
def y_M_rotate : MethodName := ⟨"RowPressModel", "rotate", "(III)I"⟩
abbrev b_M_turn : ByteArray := prog_8_method_17_code
def y_M_turn : MethodName := ⟨"RowPressModel", "turn", "(II)I"⟩
abbrev b_M_split : ByteArray := prog_8_method_18_code
def y_M_split : MethodName := ⟨"RowPressModel", "split", "(IIII)I"⟩
abbrev b_M_thin : ByteArray := prog_8_method_19_code
def y_M_thin : MethodName := ⟨"RowPressModel", "thin", "(I)I"⟩
abbrev b_M_sorted : ByteArray := prog_8_method_20_code
def y_M_sorted : MethodName := ⟨"RowPressModel", "sorted", "(III)I"⟩
abbrev b_M_find : ByteArray := prog_8_method_21_code
def y_M_find : MethodName := ⟨"RowPressModel", "find", "(III)I"⟩
abbrev b_M_rank : ByteArray := prog_8_method_22_code
def y_M_rank : MethodName := ⟨"RowPressModel", "rank", "(II)I"⟩
abbrev b_M_key : ByteArray := prog_8_method_23_code
def y_M_key : MethodName := ⟨"RowPressModel", "key", "(I)I"⟩
abbrev b_M_tag : ByteArray := prog_8_method_24_code
def y_M_tag : MethodName := ⟨"RowPressModel", "tag", "(I)I"⟩
abbrev b_M_count : ByteArray := prog_8_method_27_code
def y_M_count : MethodName := ⟨"RowPressModel", "count", "(I)I"⟩
abbrev b_M_stretches : ByteArray := prog_8_method_25_code
def y_M_stretches : MethodName := ⟨"RowPressModel", "stretches", "()I"⟩
abbrev b_M_different : ByteArray := prog_8_method_26_code
def y_M_different : MethodName := ⟨"RowPressModel", "different", "()I"⟩
abbrev b_M_check : ByteArray := prog_8_method_28_code
def y_M_check : MethodName := ⟨"RowPressModel", "check", "()I"⟩
def y_O_compare : MethodName := ⟨"RowPress$Order", "compare", "(II)I"⟩
-- words, by their places
set_option maxRecDepth 20000 in
theorem cd_R_init : Cond.code y_R_init b_R_init 1 none ∈ w0 := w0_of 37 rfl rfl
set_option maxRecDepth 20000 in
theorem cd_J_init : Cond.code y_J_init b_J_init 1 none ∈ w0 := w0_of 40 rfl rfl
set_option maxRecDepth 20000 in
theorem cd_S_init : Cond.code y_S_init b_S_init 1 none ∈ w0 := w0_of 47 rfl rfl
set_option maxRecDepth 20000 in
theorem cd_O_init : Cond.code y_O_init b_O_init 1 none ∈ w0 := w0_of 50 rfl rfl
set_option maxRecDepth 20000 in
theorem cd_U_init : Cond.code y_U_init b_U_init 1 none ∈ w0 := w0_of 57 rfl rfl
set_option maxRecDepth 20000 in
theorem cd_F_init : Cond.code y_F_init b_F_init 1 none ∈ w0 := w0_of 64 rfl rfl
set_option maxRecDepth 20000 in
theorem cd_L_init : Cond.code y_L_init b_L_init 1 none ∈ w0 := w0_of 71 rfl rfl
set_option maxRecDepth 20000 in
theorem cd_R_put : Cond.code y_R_put b_R_put 3 (some .int) ∈ w0 := w0_of 103 rfl rfl
set_option maxRecDepth 20000 in
theorem cd_R_run : Cond.code y_R_run b_R_run 6 (some .int) ∈ w0 := w0_of 107 rfl rfl
set_option maxRecDepth 20000 in
theorem cd_R_clear : Cond.code y_R_clear b_R_clear 2 (some .int) ∈ w0 := w0_of 111 rfl rfl
set_option maxRecDepth 20000 in
theorem cd_R_rotate : Cond.code y_R_rotate b_R_rotate 6 (some .int) ∈ w0 := w0_of 115 rfl rfl
set_option maxRecDepth 20000 in
theorem cd_R_isStretch : Cond.code y_R_isStretch b_R_isStretch 3 (some .boolean) ∈ w0 := w0_of 119 rfl rfl
set_option maxRecDepth 20000 in
theorem cd_R_bring : Cond.code y_R_bring b_R_bring 4 none ∈ w0 := w0_of 123 rfl rfl
set_option maxRecDepth 20000 in
theorem cd_R_reverse : Cond.code y_R_reverse b_R_reverse 5 none ∈ w0 := w0_of 127 rfl rfl
set_option maxRecDepth 20000 in
theorem cd_R_swap : Cond.code y_R_swap b_R_swap 5 none ∈ w0 := w0_of 131 rfl rfl
set_option maxRecDepth 20000 in
theorem cd_R_turn : Cond.code y_R_turn b_R_turn 5 (some .int) ∈ w0 := w0_of 136 rfl rfl
set_option maxRecDepth 20000 in
theorem cd_R_sort : Cond.code y_R_sort b_R_sort 2 (some .int) ∈ w0 := w0_of 140 rfl rfl
set_option maxRecDepth 20000 in
theorem cd_R_sortPart : Cond.code y_R_sortPart b_R_sortPart 4 (some .int) ∈ w0 := w0_of 144 rfl rfl
set_option maxRecDepth 20000 in
theorem cd_R_isOrder : Cond.code y_R_isOrder b_R_isOrder 2 (some .boolean) ∈ w0 := w0_of 148 rfl rfl
set_option maxRecDepth 20000 in
theorem cd_R_begin : Cond.code y_R_begin b_R_begin 3 none ∈ w0 := w0_of 152 rfl rfl
set_option maxRecDepth 20000 in
theorem cd_R_sortAt : Cond.code y_R_sortAt b_R_sortAt 5 none ∈ w0 := w0_of 156 rfl rfl
set_option maxRecDepth 20000 in
theorem cd_X_min : Cond.code y_X_min b_X_min 2 (some .int) ∈ w0 := w0_of 159 rfl rfl
set_option maxRecDepth 20000 in
theorem cd_R_sortShort : Cond.code y_R_sortShort b_R_sortShort 5 none ∈ w0 := w0_of 163 rfl rfl
set_option maxRecDepth 20000 in
theorem cd_R_search : Cond.code y_R_search b_R_search 9 (some .int) ∈ w0 := w0_of 167 rfl rfl
set_option maxRecDepth 20000 in
theorem cd_R_compare : Cond.code y_R_compare b_R_compare 3 (some .int) ∈ w0 := w0_of 171 rfl rfl
set_option maxRecDepth 20000 in
theorem cd_F_compare : Cond.code y_F_compare b_F_compare 3 (some .int) ∈ w0 := w0_of 177 rfl rfl
set_option maxRecDepth 20000 in
theorem cd_I_compare : Cond.code y_I_compare b_I_compare 2 (some .int) ∈ w0 := w0_of 180 rfl rfl
set_option maxRecDepth 20000 in
theorem cd_L_compare : Cond.code y_L_compare b_L_compare 3 (some .int) ∈ w0 := w0_of 183 rfl rfl
set_option maxRecDepth 20000 in
theorem cd_S_compare : Cond.code y_S_compare b_S_compare 3 (some .int) ∈ w0 := w0_of 187 rfl rfl
set_option maxRecDepth 20000 in
theorem cd_U_compare : Cond.code y_U_compare b_U_compare 3 (some .int) ∈ w0 := w0_of 191 rfl rfl
set_option maxRecDepth 20000 in
theorem cd_I_compareUnsigned : Cond.code y_I_compareUnsigned b_I_compareUnsigned 2 (some .int) ∈ w0 := w0_of 194 rfl rfl
set_option maxRecDepth 20000 in
theorem cd_R_mergeAt : Cond.code y_R_mergeAt b_R_mergeAt 9 none ∈ w0 := w0_of 200 rfl rfl
set_option maxRecDepth 20000 in
theorem cd_R_merge : Cond.code y_R_merge b_R_merge 5 (some .int) ∈ w0 := w0_of 205 rfl rfl
set_option maxRecDepth 20000 in
theorem cd_R_isSorted : Cond.code y_R_isSorted b_R_isSorted 4 (some .boolean) ∈ w0 := w0_of 209 rfl rfl
set_option maxRecDepth 20000 in
theorem cd_R_split : Cond.code y_R_split b_R_split 8 (some .int) ∈ w0 := w0_of 213 rfl rfl
set_option maxRecDepth 20000 in
theorem cd_R_splitAt : Cond.code y_R_splitAt b_R_splitAt 7 (some .int) ∈ w0 := w0_of 217 rfl rfl
set_option maxRecDepth 20000 in
theorem cd_R_thin : Cond.code y_R_thin b_R_thin 4 (some .int) ∈ w0 := w0_of 221 rfl rfl
set_option maxRecDepth 20000 in
theorem cd_R_sorted : Cond.code y_R_sorted b_R_sorted 4 (some .int) ∈ w0 := w0_of 225 rfl rfl
set_option maxRecDepth 20000 in
theorem cd_R_find : Cond.code y_R_find b_R_find 7 (some .int) ∈ w0 := w0_of 230 rfl rfl
set_option maxRecDepth 20000 in
theorem cd_R_rank : Cond.code y_R_rank b_R_rank 6 (some .int) ∈ w0 := w0_of 234 rfl rfl
set_option maxRecDepth 20000 in
theorem cd_R_key : Cond.code y_R_key b_R_key 2 (some .int) ∈ w0 := w0_of 238 rfl rfl
set_option maxRecDepth 20000 in
theorem cd_R_tag : Cond.code y_R_tag b_R_tag 2 (some .int) ∈ w0 := w0_of 242 rfl rfl
set_option maxRecDepth 20000 in
theorem cd_R_count : Cond.code y_R_count b_R_count 2 (some .int) ∈ w0 := w0_of 246 rfl rfl
set_option maxRecDepth 20000 in
theorem cd_R_runs : Cond.code y_R_runs b_R_runs 3 (some .int) ∈ w0 := w0_of 250 rfl rfl
set_option maxRecDepth 20000 in
theorem cd_R_different : Cond.code y_R_different b_R_different 4 (some .int) ∈ w0 := w0_of 254 rfl rfl
set_option maxRecDepth 20000 in
theorem cd_R_check : Cond.code y_R_check b_R_check 4 (some .int) ∈ w0 := w0_of 258 rfl rfl
set_option maxRecDepth 20000 in
theorem cd_M_init : Cond.code y_M_init b_M_init 1 none ∈ w0 := w0_of 265 rfl rfl
set_option maxRecDepth 20000 in
theorem cd_M_put : Cond.code y_M_put b_M_put 3 (some .int) ∈ w0 := w0_of 286 rfl rfl
set_option maxRecDepth 20000 in
theorem cd_M_run : Cond.code y_M_run b_M_run 6 (some .int) ∈ w0 := w0_of 290 rfl rfl
set_option maxRecDepth 20000 in
theorem cd_M_clear : Cond.code y_M_clear b_M_clear 2 (some .int) ∈ w0 := w0_of 294 rfl rfl
set_option maxRecDepth 20000 in
theorem cd_M_sort : Cond.code y_M_sort b_M_sort 2 (some .int) ∈ w0 := w0_of 298 rfl rfl
set_option maxRecDepth 20000 in
theorem cd_M_isOrder : Cond.code y_M_isOrder b_M_isOrder 1 (some .boolean) ∈ w0 := w0_of 301 rfl rfl
set_option maxRecDepth 20000 in
theorem cd_M_arrange : Cond.code y_M_arrange b_M_arrange 5 none ∈ w0 := w0_of 305 rfl rfl
set_option maxRecDepth 20000 in
theorem cd_M_place : Cond.code y_M_place b_M_place 8 (some .int) ∈ w0 := w0_of 309 rfl rfl
set_option maxRecDepth 20000 in
theorem cd_M_isLess : Cond.code y_M_isLess b_M_isLess 3 (some .boolean) ∈ w0 := w0_of 312 rfl rfl
set_option maxRecDepth 20000 in
theorem cd_M_move : Cond.code y_M_move b_M_move 3 none ∈ w0 := w0_of 317 rfl rfl
set_option maxRecDepth 20000 in
theorem cd_M_take : Cond.code y_M_take b_M_take 4 none ∈ w0 := w0_of 321 rfl rfl
set_option maxRecDepth 20000 in
theorem cd_M_sortPart : Cond.code y_M_sortPart b_M_sortPart 4 (some .int) ∈ w0 := w0_of 325 rfl rfl
set_option maxRecDepth 20000 in
theorem cd_M_isStretch : Cond.code y_M_isStretch b_M_isStretch 3 (some .boolean) ∈ w0 := w0_of 329 rfl rfl
set_option maxRecDepth 20000 in
theorem cd_M_merge : Cond.code y_M_merge b_M_merge 6 (some .int) ∈ w0 := w0_of 333 rfl rfl
set_option maxRecDepth 20000 in
theorem cd_M_isSorted : Cond.code y_M_isSorted b_M_isSorted 5 (some .boolean) ∈ w0 := w0_of 337 rfl rfl
set_option maxRecDepth 20000 in
theorem cd_M_rotate : Cond.code y_M_rotate b_M_rotate 5 (some .int) ∈ w0 := w0_of 341 rfl rfl
set_option maxRecDepth 20000 in
theorem cd_M_turn : Cond.code y_M_turn b_M_turn 4 (some .int) ∈ w0 := w0_of 345 rfl rfl
set_option maxRecDepth 20000 in
theorem cd_M_split : Cond.code y_M_split b_M_split 8 (some .int) ∈ w0 := w0_of 349 rfl rfl
set_option maxRecDepth 20000 in
theorem cd_M_thin : Cond.code y_M_thin b_M_thin 4 (some .int) ∈ w0 := w0_of 353 rfl rfl
set_option maxRecDepth 20000 in
theorem cd_M_sorted : Cond.code y_M_sorted b_M_sorted 4 (some .int) ∈ w0 := w0_of 357 rfl rfl
set_option maxRecDepth 20000 in
theorem cd_M_find : Cond.code y_M_find b_M_find 7 (some .int) ∈ w0 := w0_of 361 rfl rfl
set_option maxRecDepth 20000 in
theorem cd_M_rank : Cond.code y_M_rank b_M_rank 3 (some .int) ∈ w0 := w0_of 365 rfl rfl
set_option maxRecDepth 20000 in
theorem cd_M_key : Cond.code y_M_key b_M_key 2 (some .int) ∈ w0 := w0_of 369 rfl rfl
set_option maxRecDepth 20000 in
theorem cd_M_tag : Cond.code y_M_tag b_M_tag 2 (some .int) ∈ w0 := w0_of 373 rfl rfl
set_option maxRecDepth 20000 in
theorem cd_M_count : Cond.code y_M_count b_M_count 2 (some .int) ∈ w0 := w0_of 377 rfl rfl
set_option maxRecDepth 20000 in
theorem cd_M_stretches : Cond.code y_M_stretches b_M_stretches 3 (some .int) ∈ w0 := w0_of 381 rfl rfl
set_option maxRecDepth 20000 in
theorem cd_M_different : Cond.code y_M_different b_M_different 5 (some .int) ∈ w0 := w0_of 385 rfl rfl
set_option maxRecDepth 20000 in
theorem cd_M_check : Cond.code y_M_check b_M_check 1 (some .int) ∈ w0 := w0_of 389 rfl rfl
set_option maxRecDepth 20000 in
theorem in_law : Cond.initialized "RowPressLaw" ∈ w0 := w0_of 23 (by decide +kernel) rfl
set_option maxRecDepth 20000 in
theorem in_R : Cond.initialized "RowPress" ∈ w0 := w0_of 24 (by decide +kernel) rfl
set_option maxRecDepth 20000 in
theorem in_O : Cond.initialized "RowPress$Order" ∈ w0 := w0_of 25 (by decide +kernel) rfl
set_option maxRecDepth 20000 in
theorem in_S : Cond.initialized "RowPress$Signed" ∈ w0 := w0_of 26 (by decide +kernel) rfl
set_option maxRecDepth 20000 in
theorem in_U : Cond.initialized "RowPress$Unsigned" ∈ w0 := w0_of 27 (by decide +kernel) rfl
set_option maxRecDepth 20000 in
theorem in_F : Cond.initialized "RowPress$Falling" ∈ w0 := w0_of 28 (by decide +kernel) rfl
set_option maxRecDepth 20000 in
theorem in_L : Cond.initialized "RowPress$Lowest" ∈ w0 := w0_of 29 (by decide +kernel) rfl
set_option maxRecDepth 20000 in
theorem in_M : Cond.initialized "RowPressModel" ∈ w0 := w0_of 30 (by decide +kernel) rfl
set_option maxRecDepth 20000 in
theorem in_X : Cond.initialized "java/lang/Math" ∈ w0 := w0_of 31 (by decide +kernel) rfl
set_option maxRecDepth 20000 in
theorem in_I : Cond.initialized "java/lang/Integer" ∈ w0 := w0_of 32 (by decide +kernel) rfl
set_option maxRecDepth 20000 in
theorem cl_law_7 : Cond.classLink "RowPressLaw" 7 "RowPress" ∈ w0 := w0_of 33 (by decide +kernel) rfl
set_option maxRecDepth 20000 in
theorem it_R : Cond.instantiable "RowPress" 8 ∈ w0 := w0_of 34 (by decide +kernel) rfl
set_option maxRecDepth 20000 in
theorem ml_law_9 : Cond.methodLink "RowPressLaw" 9 y_R_init ∈ w0 := w0_of 35 (by decide +kernel) rfl
set_option maxRecDepth 20000 in
theorem im_R_init : Cond.instanceMethod y_R_init ∈ w0 := w0_of 36 (by decide +kernel) rfl
set_option maxRecDepth 20000 in
theorem ml_R_1 : Cond.methodLink "RowPress" 1 y_J_init ∈ w0 := w0_of 38 (by decide +kernel) rfl
set_option maxRecDepth 20000 in
theorem im_J_init : Cond.instanceMethod y_J_init ∈ w0 := w0_of 39 (by decide +kernel) rfl
set_option maxRecDepth 20000 in
theorem cl_R_7 : Cond.classLink "RowPress" 7 "RowPress$Order" ∈ w0 := w0_of 41 (by decide +kernel) rfl
set_option maxRecDepth 20000 in
theorem cl_R_9 : Cond.classLink "RowPress" 9 "RowPress$Signed" ∈ w0 := w0_of 43 (by decide +kernel) rfl
set_option maxRecDepth 20000 in
theorem it_S : Cond.instantiable "RowPress$Signed" 0 ∈ w0 := w0_of 44 (by decide +kernel) rfl
set_option maxRecDepth 20000 in
theorem im_S_init : Cond.instanceMethod y_S_init ∈ w0 := w0_of 46 (by decide +kernel) rfl
set_option maxRecDepth 20000 in
theorem im_O_init : Cond.instanceMethod y_O_init ∈ w0 := w0_of 49 (by decide +kernel) rfl
set_option maxRecDepth 20000 in
theorem ml_O_1 : Cond.methodLink "RowPress$Order" 1 y_J_init ∈ w0 := w0_of 51 (by decide +kernel) rfl
set_option maxRecDepth 20000 in
theorem cl_R_12 : Cond.classLink "RowPress" 12 "RowPress$Unsigned" ∈ w0 := w0_of 53 (by decide +kernel) rfl
set_option maxRecDepth 20000 in
theorem it_U : Cond.instantiable "RowPress$Unsigned" 0 ∈ w0 := w0_of 54 (by decide +kernel) rfl
set_option maxRecDepth 20000 in
theorem im_U_init : Cond.instanceMethod y_U_init ∈ w0 := w0_of 56 (by decide +kernel) rfl
set_option maxRecDepth 20000 in
theorem cl_R_15 : Cond.classLink "RowPress" 15 "RowPress$Falling" ∈ w0 := w0_of 60 (by decide +kernel) rfl
set_option maxRecDepth 20000 in
theorem it_F : Cond.instantiable "RowPress$Falling" 0 ∈ w0 := w0_of 61 (by decide +kernel) rfl
set_option maxRecDepth 20000 in
theorem im_F_init : Cond.instanceMethod y_F_init ∈ w0 := w0_of 63 (by decide +kernel) rfl
set_option maxRecDepth 20000 in
theorem cl_R_18 : Cond.classLink "RowPress" 18 "RowPress$Lowest" ∈ w0 := w0_of 67 (by decide +kernel) rfl
set_option maxRecDepth 20000 in
theorem it_L : Cond.instantiable "RowPress$Lowest" 0 ∈ w0 := w0_of 68 (by decide +kernel) rfl
set_option maxRecDepth 20000 in
theorem im_L_init : Cond.instanceMethod y_L_init ∈ w0 := w0_of 70 (by decide +kernel) rfl
set_option maxRecDepth 20000 in
theorem fl_R_21 : Cond.fieldLink "RowPress" 21 "RowPress" "orders" "[LRowPress$Order;" ∈ w0 := w0_of 74 (by decide +kernel) rfl
set_option maxRecDepth 20000 in
theorem fl_R_27 : Cond.fieldLink "RowPress" 27 "RowPress" "keys" "[I" ∈ w0 := w0_of 75 (by decide +kernel) rfl
set_option maxRecDepth 20000 in
theorem fl_R_31 : Cond.fieldLink "RowPress" 31 "RowPress" "tags" "[I" ∈ w0 := w0_of 76 (by decide +kernel) rfl
set_option maxRecDepth 20000 in
theorem fl_R_38 : Cond.fieldLink "RowPress" 38 "RowPress" "size" "I" ∈ w0 := w0_of 77 (by decide +kernel) rfl
set_option maxRecDepth 20000 in
theorem fl_R_34 : Cond.fieldLink "RowPress" 34 "RowPress" "order" "LRowPress$Order;" ∈ w0 := w0_of 78 (by decide +kernel) rfl
set_option maxRecDepth 20000 in
theorem fl_R_63 : Cond.fieldLink "RowPress" 63 "RowPress" "compares" "J" ∈ w0 := w0_of 79 (by decide +kernel) rfl
set_option maxRecDepth 20000 in
theorem fl_R_42 : Cond.fieldLink "RowPress" 42 "RowPress" "writes" "J" ∈ w0 := w0_of 80 (by decide +kernel) rfl
set_option maxRecDepth 20000 in
theorem fl_R_71 : Cond.fieldLink "RowPress" 71 "RowPress" "measured" "I" ∈ w0 := w0_of 81 (by decide +kernel) rfl
set_option maxRecDepth 20000 in
theorem ac_int : Cond.arrayClass .int ∈ w0 := w0_of 99 (by decide +kernel) rfl
set_option maxRecDepth 20000 in
theorem ml_law_13 : Cond.methodLink "RowPressLaw" 13 y_R_put ∈ w0 := w0_of 100 (by decide +kernel) rfl
set_option maxRecDepth 20000 in
theorem im_R_put : Cond.instanceMethod y_R_put ∈ w0 := w0_of 101 (by decide +kernel) rfl
set_option maxRecDepth 20000 in
theorem se_R_put : Cond.selects "RowPress" y_R_put y_R_put ∈ w0 := w0_of 102 (by decide +kernel) rfl
set_option maxRecDepth 20000 in
theorem ml_law_18 : Cond.methodLink "RowPressLaw" 18 y_R_run ∈ w0 := w0_of 104 (by decide +kernel) rfl
set_option maxRecDepth 20000 in
theorem im_R_run : Cond.instanceMethod y_R_run ∈ w0 := w0_of 105 (by decide +kernel) rfl
set_option maxRecDepth 20000 in
theorem se_R_run : Cond.selects "RowPress" y_R_run y_R_run ∈ w0 := w0_of 106 (by decide +kernel) rfl
set_option maxRecDepth 20000 in
theorem ml_law_23 : Cond.methodLink "RowPressLaw" 23 y_R_clear ∈ w0 := w0_of 108 (by decide +kernel) rfl
set_option maxRecDepth 20000 in
theorem im_R_clear : Cond.instanceMethod y_R_clear ∈ w0 := w0_of 109 (by decide +kernel) rfl
set_option maxRecDepth 20000 in
theorem se_R_clear : Cond.selects "RowPress" y_R_clear y_R_clear ∈ w0 := w0_of 110 (by decide +kernel) rfl
set_option maxRecDepth 20000 in
theorem ml_law_42 : Cond.methodLink "RowPressLaw" 42 y_R_rotate ∈ w0 := w0_of 112 (by decide +kernel) rfl
set_option maxRecDepth 20000 in
theorem im_R_rotate : Cond.instanceMethod y_R_rotate ∈ w0 := w0_of 113 (by decide +kernel) rfl
set_option maxRecDepth 20000 in
theorem se_R_rotate : Cond.selects "RowPress" y_R_rotate y_R_rotate ∈ w0 := w0_of 114 (by decide +kernel) rfl
set_option maxRecDepth 20000 in
theorem ml_R_55 : Cond.methodLink "RowPress" 55 y_R_isStretch ∈ w0 := w0_of 116 (by decide +kernel) rfl
set_option maxRecDepth 20000 in
theorem im_R_isStretch : Cond.instanceMethod y_R_isStretch ∈ w0 := w0_of 118 (by decide +kernel) rfl
set_option maxRecDepth 20000 in
theorem ml_R_59 : Cond.methodLink "RowPress" 59 y_R_bring ∈ w0 := w0_of 120 (by decide +kernel) rfl
set_option maxRecDepth 20000 in
theorem im_R_bring : Cond.instanceMethod y_R_bring ∈ w0 := w0_of 122 (by decide +kernel) rfl
set_option maxRecDepth 20000 in
theorem ml_R_52 : Cond.methodLink "RowPress" 52 y_R_reverse ∈ w0 := w0_of 124 (by decide +kernel) rfl
set_option maxRecDepth 20000 in
theorem im_R_reverse : Cond.instanceMethod y_R_reverse ∈ w0 := w0_of 126 (by decide +kernel) rfl
set_option maxRecDepth 20000 in
theorem ml_R_48 : Cond.methodLink "RowPress" 48 y_R_swap ∈ w0 := w0_of 128 (by decide +kernel) rfl
set_option maxRecDepth 20000 in
theorem im_R_swap : Cond.instanceMethod y_R_swap ∈ w0 := w0_of 130 (by decide +kernel) rfl
set_option maxRecDepth 20000 in
theorem ql_R_46 : Cond.constantLong "RowPress" 46 2 ∈ w0 := w0_of 132 (by decide +kernel) rfl
set_option maxRecDepth 20000 in
theorem ml_law_46 : Cond.methodLink "RowPressLaw" 46 y_R_turn ∈ w0 := w0_of 133 (by decide +kernel) rfl
set_option maxRecDepth 20000 in
theorem im_R_turn : Cond.instanceMethod y_R_turn ∈ w0 := w0_of 134 (by decide +kernel) rfl
set_option maxRecDepth 20000 in
theorem se_R_turn : Cond.selects "RowPress" y_R_turn y_R_turn ∈ w0 := w0_of 135 (by decide +kernel) rfl
set_option maxRecDepth 20000 in
theorem ml_law_28 : Cond.methodLink "RowPressLaw" 28 y_R_sort ∈ w0 := w0_of 137 (by decide +kernel) rfl
set_option maxRecDepth 20000 in
theorem im_R_sort : Cond.instanceMethod y_R_sort ∈ w0 := w0_of 138 (by decide +kernel) rfl
set_option maxRecDepth 20000 in
theorem se_R_sort : Cond.selects "RowPress" y_R_sort y_R_sort ∈ w0 := w0_of 139 (by decide +kernel) rfl
set_option maxRecDepth 20000 in
theorem ml_R_89 : Cond.methodLink "RowPress" 89 y_R_sortPart ∈ w0 := w0_of 141 (by decide +kernel) rfl
set_option maxRecDepth 20000 in
theorem im_R_sortPart : Cond.instanceMethod y_R_sortPart ∈ w0 := w0_of 142 (by decide +kernel) rfl
set_option maxRecDepth 20000 in
theorem se_R_sortPart : Cond.selects "RowPress" y_R_sortPart y_R_sortPart ∈ w0 := w0_of 143 (by decide +kernel) rfl
set_option maxRecDepth 20000 in
theorem ml_R_93 : Cond.methodLink "RowPress" 93 y_R_isOrder ∈ w0 := w0_of 145 (by decide +kernel) rfl
set_option maxRecDepth 20000 in
theorem im_R_isOrder : Cond.instanceMethod y_R_isOrder ∈ w0 := w0_of 147 (by decide +kernel) rfl
set_option maxRecDepth 20000 in
theorem ml_R_97 : Cond.methodLink "RowPress" 97 y_R_begin ∈ w0 := w0_of 149 (by decide +kernel) rfl
set_option maxRecDepth 20000 in
theorem im_R_begin : Cond.instanceMethod y_R_begin ∈ w0 := w0_of 151 (by decide +kernel) rfl
set_option maxRecDepth 20000 in
theorem ml_R_100 : Cond.methodLink "RowPress" 100 y_R_sortAt ∈ w0 := w0_of 153 (by decide +kernel) rfl
set_option maxRecDepth 20000 in
theorem im_R_sortAt : Cond.instanceMethod y_R_sortAt ∈ w0 := w0_of 155 (by decide +kernel) rfl
set_option maxRecDepth 20000 in
theorem ml_R_81 : Cond.methodLink "RowPress" 81 y_X_min ∈ w0 := w0_of 157 (by decide +kernel) rfl
set_option maxRecDepth 20000 in
theorem st_X_min : Cond.static y_X_min ∈ w0 := w0_of 158 (by decide +kernel) rfl
set_option maxRecDepth 20000 in
theorem ml_R_86 : Cond.methodLink "RowPress" 86 y_R_sortShort ∈ w0 := w0_of 160 (by decide +kernel) rfl
set_option maxRecDepth 20000 in
theorem im_R_sortShort : Cond.instanceMethod y_R_sortShort ∈ w0 := w0_of 162 (by decide +kernel) rfl
set_option maxRecDepth 20000 in
theorem ml_R_74 : Cond.methodLink "RowPress" 74 y_R_search ∈ w0 := w0_of 164 (by decide +kernel) rfl
set_option maxRecDepth 20000 in
theorem im_R_search : Cond.instanceMethod y_R_search ∈ w0 := w0_of 166 (by decide +kernel) rfl
set_option maxRecDepth 20000 in
theorem ml_R_70 : Cond.methodLink "RowPress" 70 y_R_compare ∈ w0 := w0_of 168 (by decide +kernel) rfl
set_option maxRecDepth 20000 in
theorem im_R_compare : Cond.instanceMethod y_R_compare ∈ w0 := w0_of 170 (by decide +kernel) rfl
set_option maxRecDepth 20000 in
theorem ml_R_66 : Cond.methodLink "RowPress" 66 y_O_compare ∈ w0 := w0_of 172 (by decide +kernel) rfl
set_option maxRecDepth 20000 in
theorem sm_O_compare : Cond.sameMethod "RowPress$Order" "RowPress$Order" "compare" "(II)I" ∈ w0 := w0_of 174 (by decide +kernel) rfl
set_option maxRecDepth 20000 in
theorem se_F_compare : Cond.selects "RowPress$Falling" y_O_compare y_F_compare ∈ w0 := w0_of 175 (by decide +kernel) rfl
set_option maxRecDepth 20000 in
theorem im_F_compare : Cond.instanceMethod y_F_compare ∈ w0 := w0_of 176 (by decide +kernel) rfl
set_option maxRecDepth 20000 in
theorem ml_F_7 : Cond.methodLink "RowPress$Falling" 7 y_I_compare ∈ w0 := w0_of 178 (by decide +kernel) rfl
set_option maxRecDepth 20000 in
theorem st_I_compare : Cond.static y_I_compare ∈ w0 := w0_of 179 (by decide +kernel) rfl
set_option maxRecDepth 20000 in
theorem se_L_compare : Cond.selects "RowPress$Lowest" y_O_compare y_L_compare ∈ w0 := w0_of 181 (by decide +kernel) rfl
set_option maxRecDepth 20000 in
theorem im_L_compare : Cond.instanceMethod y_L_compare ∈ w0 := w0_of 182 (by decide +kernel) rfl
set_option maxRecDepth 20000 in
theorem ml_L_7 : Cond.methodLink "RowPress$Lowest" 7 y_I_compare ∈ w0 := w0_of 184 (by decide +kernel) rfl
set_option maxRecDepth 20000 in
theorem se_S_compare : Cond.selects "RowPress$Signed" y_O_compare y_S_compare ∈ w0 := w0_of 185 (by decide +kernel) rfl
set_option maxRecDepth 20000 in
theorem im_S_compare : Cond.instanceMethod y_S_compare ∈ w0 := w0_of 186 (by decide +kernel) rfl
set_option maxRecDepth 20000 in
theorem ml_S_7 : Cond.methodLink "RowPress$Signed" 7 y_I_compare ∈ w0 := w0_of 188 (by decide +kernel) rfl
set_option maxRecDepth 20000 in
theorem se_U_compare : Cond.selects "RowPress$Unsigned" y_O_compare y_U_compare ∈ w0 := w0_of 189 (by decide +kernel) rfl
set_option maxRecDepth 20000 in
theorem im_U_compare : Cond.instanceMethod y_U_compare ∈ w0 := w0_of 190 (by decide +kernel) rfl
set_option maxRecDepth 20000 in
theorem ml_U_7 : Cond.methodLink "RowPress$Unsigned" 7 y_I_compareUnsigned ∈ w0 := w0_of 192 (by decide +kernel) rfl
set_option maxRecDepth 20000 in
theorem st_I_compareUnsigned : Cond.static y_I_compareUnsigned ∈ w0 := w0_of 193 (by decide +kernel) rfl
set_option maxRecDepth 20000 in
theorem qi_I_127 : Cond.constant "java/lang/Integer" 127 (-2147483648) ∈ w0 := w0_of 195 (by decide +kernel) rfl
set_option maxRecDepth 20000 in
theorem ml_I_259 : Cond.methodLink "java/lang/Integer" 259 y_I_compare ∈ w0 := w0_of 196 (by decide +kernel) rfl
set_option maxRecDepth 20000 in
theorem ml_R_78 : Cond.methodLink "RowPress" 78 y_R_mergeAt ∈ w0 := w0_of 197 (by decide +kernel) rfl
set_option maxRecDepth 20000 in
theorem im_R_mergeAt : Cond.instanceMethod y_R_mergeAt ∈ w0 := w0_of 199 (by decide +kernel) rfl
set_option maxRecDepth 20000 in
theorem ml_law_33 : Cond.methodLink "RowPressLaw" 33 y_R_sortPart ∈ w0 := w0_of 201 (by decide +kernel) rfl
set_option maxRecDepth 20000 in
theorem ml_law_38 : Cond.methodLink "RowPressLaw" 38 y_R_merge ∈ w0 := w0_of 202 (by decide +kernel) rfl
set_option maxRecDepth 20000 in
theorem im_R_merge : Cond.instanceMethod y_R_merge ∈ w0 := w0_of 203 (by decide +kernel) rfl
set_option maxRecDepth 20000 in
theorem se_R_merge : Cond.selects "RowPress" y_R_merge y_R_merge ∈ w0 := w0_of 204 (by decide +kernel) rfl
set_option maxRecDepth 20000 in
theorem ml_R_103 : Cond.methodLink "RowPress" 103 y_R_isSorted ∈ w0 := w0_of 206 (by decide +kernel) rfl
set_option maxRecDepth 20000 in
theorem im_R_isSorted : Cond.instanceMethod y_R_isSorted ∈ w0 := w0_of 208 (by decide +kernel) rfl
set_option maxRecDepth 20000 in
theorem ml_law_50 : Cond.methodLink "RowPressLaw" 50 y_R_split ∈ w0 := w0_of 210 (by decide +kernel) rfl
set_option maxRecDepth 20000 in
theorem im_R_split : Cond.instanceMethod y_R_split ∈ w0 := w0_of 211 (by decide +kernel) rfl
set_option maxRecDepth 20000 in
theorem se_R_split : Cond.selects "RowPress" y_R_split y_R_split ∈ w0 := w0_of 212 (by decide +kernel) rfl
set_option maxRecDepth 20000 in
theorem ml_R_106 : Cond.methodLink "RowPress" 106 y_R_splitAt ∈ w0 := w0_of 214 (by decide +kernel) rfl
set_option maxRecDepth 20000 in
theorem im_R_splitAt : Cond.instanceMethod y_R_splitAt ∈ w0 := w0_of 216 (by decide +kernel) rfl
set_option maxRecDepth 20000 in
theorem ml_law_54 : Cond.methodLink "RowPressLaw" 54 y_R_thin ∈ w0 := w0_of 218 (by decide +kernel) rfl
set_option maxRecDepth 20000 in
theorem im_R_thin : Cond.instanceMethod y_R_thin ∈ w0 := w0_of 219 (by decide +kernel) rfl
set_option maxRecDepth 20000 in
theorem se_R_thin : Cond.selects "RowPress" y_R_thin y_R_thin ∈ w0 := w0_of 220 (by decide +kernel) rfl
set_option maxRecDepth 20000 in
theorem ml_R_109 : Cond.methodLink "RowPress" 109 y_R_sorted ∈ w0 := w0_of 222 (by decide +kernel) rfl
set_option maxRecDepth 20000 in
theorem im_R_sorted : Cond.instanceMethod y_R_sorted ∈ w0 := w0_of 223 (by decide +kernel) rfl
set_option maxRecDepth 20000 in
theorem se_R_sorted : Cond.selects "RowPress" y_R_sorted y_R_sorted ∈ w0 := w0_of 224 (by decide +kernel) rfl
set_option maxRecDepth 20000 in
theorem ml_law_58 : Cond.methodLink "RowPressLaw" 58 y_R_sorted ∈ w0 := w0_of 226 (by decide +kernel) rfl
set_option maxRecDepth 20000 in
theorem ml_law_62 : Cond.methodLink "RowPressLaw" 62 y_R_find ∈ w0 := w0_of 227 (by decide +kernel) rfl
set_option maxRecDepth 20000 in
theorem im_R_find : Cond.instanceMethod y_R_find ∈ w0 := w0_of 228 (by decide +kernel) rfl
set_option maxRecDepth 20000 in
theorem se_R_find : Cond.selects "RowPress" y_R_find y_R_find ∈ w0 := w0_of 229 (by decide +kernel) rfl
set_option maxRecDepth 20000 in
theorem ml_law_66 : Cond.methodLink "RowPressLaw" 66 y_R_rank ∈ w0 := w0_of 231 (by decide +kernel) rfl
set_option maxRecDepth 20000 in
theorem im_R_rank : Cond.instanceMethod y_R_rank ∈ w0 := w0_of 232 (by decide +kernel) rfl
set_option maxRecDepth 20000 in
theorem se_R_rank : Cond.selects "RowPress" y_R_rank y_R_rank ∈ w0 := w0_of 233 (by decide +kernel) rfl
set_option maxRecDepth 20000 in
theorem ml_law_70 : Cond.methodLink "RowPressLaw" 70 y_R_key ∈ w0 := w0_of 235 (by decide +kernel) rfl
set_option maxRecDepth 20000 in
theorem im_R_key : Cond.instanceMethod y_R_key ∈ w0 := w0_of 236 (by decide +kernel) rfl
set_option maxRecDepth 20000 in
theorem se_R_key : Cond.selects "RowPress" y_R_key y_R_key ∈ w0 := w0_of 237 (by decide +kernel) rfl
set_option maxRecDepth 20000 in
theorem ml_law_74 : Cond.methodLink "RowPressLaw" 74 y_R_tag ∈ w0 := w0_of 239 (by decide +kernel) rfl
set_option maxRecDepth 20000 in
theorem im_R_tag : Cond.instanceMethod y_R_tag ∈ w0 := w0_of 240 (by decide +kernel) rfl
set_option maxRecDepth 20000 in
theorem se_R_tag : Cond.selects "RowPress" y_R_tag y_R_tag ∈ w0 := w0_of 241 (by decide +kernel) rfl
set_option maxRecDepth 20000 in
theorem ml_law_78 : Cond.methodLink "RowPressLaw" 78 y_R_count ∈ w0 := w0_of 243 (by decide +kernel) rfl
set_option maxRecDepth 20000 in
theorem im_R_count : Cond.instanceMethod y_R_count ∈ w0 := w0_of 244 (by decide +kernel) rfl
set_option maxRecDepth 20000 in
theorem se_R_count : Cond.selects "RowPress" y_R_count y_R_count ∈ w0 := w0_of 245 (by decide +kernel) rfl
set_option maxRecDepth 20000 in
theorem ml_R_112 : Cond.methodLink "RowPress" 112 y_R_runs ∈ w0 := w0_of 247 (by decide +kernel) rfl
set_option maxRecDepth 20000 in
theorem im_R_runs : Cond.instanceMethod y_R_runs ∈ w0 := w0_of 249 (by decide +kernel) rfl
set_option maxRecDepth 20000 in
theorem ml_R_116 : Cond.methodLink "RowPress" 116 y_R_different ∈ w0 := w0_of 251 (by decide +kernel) rfl
set_option maxRecDepth 20000 in
theorem im_R_different : Cond.instanceMethod y_R_different ∈ w0 := w0_of 253 (by decide +kernel) rfl
set_option maxRecDepth 20000 in
theorem ml_law_82 : Cond.methodLink "RowPressLaw" 82 y_R_check ∈ w0 := w0_of 255 (by decide +kernel) rfl
set_option maxRecDepth 20000 in
theorem im_R_check : Cond.instanceMethod y_R_check ∈ w0 := w0_of 256 (by decide +kernel) rfl
set_option maxRecDepth 20000 in
theorem se_R_check : Cond.selects "RowPress" y_R_check y_R_check ∈ w0 := w0_of 257 (by decide +kernel) rfl
set_option maxRecDepth 20000 in
theorem ql_R_119 : Cond.constantLong "RowPress" 119 8 ∈ w0 := w0_of 259 (by decide +kernel) rfl
set_option maxRecDepth 20000 in
theorem ql_R_121 : Cond.constantLong "RowPress" 121 40 ∈ w0 := w0_of 260 (by decide +kernel) rfl
set_option maxRecDepth 20000 in
theorem cl_law_10 : Cond.classLink "RowPressLaw" 10 "RowPressModel" ∈ w0 := w0_of 261 (by decide +kernel) rfl
set_option maxRecDepth 20000 in
theorem it_M : Cond.instantiable "RowPressModel" 5 ∈ w0 := w0_of 262 (by decide +kernel) rfl
set_option maxRecDepth 20000 in
theorem ml_law_12 : Cond.methodLink "RowPressLaw" 12 y_M_init ∈ w0 := w0_of 263 (by decide +kernel) rfl
set_option maxRecDepth 20000 in
theorem im_M_init : Cond.instanceMethod y_M_init ∈ w0 := w0_of 264 (by decide +kernel) rfl
set_option maxRecDepth 20000 in
theorem ml_M_1 : Cond.methodLink "RowPressModel" 1 y_J_init ∈ w0 := w0_of 266 (by decide +kernel) rfl
set_option maxRecDepth 20000 in
theorem fl_M_7 : Cond.fieldLink "RowPressModel" 7 "RowPressModel" "keys" "[I" ∈ w0 := w0_of 267 (by decide +kernel) rfl
set_option maxRecDepth 20000 in
theorem fl_M_13 : Cond.fieldLink "RowPressModel" 13 "RowPressModel" "tags" "[I" ∈ w0 := w0_of 268 (by decide +kernel) rfl
set_option maxRecDepth 20000 in
theorem fl_M_22 : Cond.fieldLink "RowPressModel" 22 "RowPressModel" "many" "I" ∈ w0 := w0_of 269 (by decide +kernel) rfl
set_option maxRecDepth 20000 in
theorem fl_M_16 : Cond.fieldLink "RowPressModel" 16 "RowPressModel" "nextKeys" "[I" ∈ w0 := w0_of 270 (by decide +kernel) rfl
set_option maxRecDepth 20000 in
theorem fl_M_19 : Cond.fieldLink "RowPressModel" 19 "RowPressModel" "nextTags" "[I" ∈ w0 := w0_of 271 (by decide +kernel) rfl
set_option maxRecDepth 20000 in
theorem ml_law_17 : Cond.methodLink "RowPressLaw" 17 y_M_put ∈ w0 := w0_of 283 (by decide +kernel) rfl
set_option maxRecDepth 20000 in
theorem im_M_put : Cond.instanceMethod y_M_put ∈ w0 := w0_of 284 (by decide +kernel) rfl
set_option maxRecDepth 20000 in
theorem se_M_put : Cond.selects "RowPressModel" y_M_put y_M_put ∈ w0 := w0_of 285 (by decide +kernel) rfl
set_option maxRecDepth 20000 in
theorem ml_law_22 : Cond.methodLink "RowPressLaw" 22 y_M_run ∈ w0 := w0_of 287 (by decide +kernel) rfl
set_option maxRecDepth 20000 in
theorem im_M_run : Cond.instanceMethod y_M_run ∈ w0 := w0_of 288 (by decide +kernel) rfl
set_option maxRecDepth 20000 in
theorem se_M_run : Cond.selects "RowPressModel" y_M_run y_M_run ∈ w0 := w0_of 289 (by decide +kernel) rfl
set_option maxRecDepth 20000 in
theorem ml_law_27 : Cond.methodLink "RowPressLaw" 27 y_M_clear ∈ w0 := w0_of 291 (by decide +kernel) rfl
set_option maxRecDepth 20000 in
theorem im_M_clear : Cond.instanceMethod y_M_clear ∈ w0 := w0_of 292 (by decide +kernel) rfl
set_option maxRecDepth 20000 in
theorem se_M_clear : Cond.selects "RowPressModel" y_M_clear y_M_clear ∈ w0 := w0_of 293 (by decide +kernel) rfl
set_option maxRecDepth 20000 in
theorem ml_law_32 : Cond.methodLink "RowPressLaw" 32 y_M_sort ∈ w0 := w0_of 295 (by decide +kernel) rfl
set_option maxRecDepth 20000 in
theorem im_M_sort : Cond.instanceMethod y_M_sort ∈ w0 := w0_of 296 (by decide +kernel) rfl
set_option maxRecDepth 20000 in
theorem se_M_sort : Cond.selects "RowPressModel" y_M_sort y_M_sort ∈ w0 := w0_of 297 (by decide +kernel) rfl
set_option maxRecDepth 20000 in
theorem ml_M_43 : Cond.methodLink "RowPressModel" 43 y_M_isOrder ∈ w0 := w0_of 299 (by decide +kernel) rfl
set_option maxRecDepth 20000 in
theorem st_M_isOrder : Cond.static y_M_isOrder ∈ w0 := w0_of 300 (by decide +kernel) rfl
set_option maxRecDepth 20000 in
theorem ml_M_47 : Cond.methodLink "RowPressModel" 47 y_M_arrange ∈ w0 := w0_of 302 (by decide +kernel) rfl
set_option maxRecDepth 20000 in
theorem im_M_arrange : Cond.instanceMethod y_M_arrange ∈ w0 := w0_of 304 (by decide +kernel) rfl
set_option maxRecDepth 20000 in
theorem ml_M_32 : Cond.methodLink "RowPressModel" 32 y_M_place ∈ w0 := w0_of 306 (by decide +kernel) rfl
set_option maxRecDepth 20000 in
theorem im_M_place : Cond.instanceMethod y_M_place ∈ w0 := w0_of 308 (by decide +kernel) rfl
set_option maxRecDepth 20000 in
theorem ml_M_28 : Cond.methodLink "RowPressModel" 28 y_M_isLess ∈ w0 := w0_of 310 (by decide +kernel) rfl
set_option maxRecDepth 20000 in
theorem st_M_isLess : Cond.static y_M_isLess ∈ w0 := w0_of 311 (by decide +kernel) rfl
set_option maxRecDepth 20000 in
theorem ql_M_26 : Cond.constantLong "RowPressModel" 26 4294967295 ∈ w0 := w0_of 313 (by decide +kernel) rfl
set_option maxRecDepth 20000 in
theorem ml_M_36 : Cond.methodLink "RowPressModel" 36 y_M_move ∈ w0 := w0_of 314 (by decide +kernel) rfl
set_option maxRecDepth 20000 in
theorem im_M_move : Cond.instanceMethod y_M_move ∈ w0 := w0_of 316 (by decide +kernel) rfl
set_option maxRecDepth 20000 in
theorem ml_M_40 : Cond.methodLink "RowPressModel" 40 y_M_take ∈ w0 := w0_of 318 (by decide +kernel) rfl
set_option maxRecDepth 20000 in
theorem im_M_take : Cond.instanceMethod y_M_take ∈ w0 := w0_of 320 (by decide +kernel) rfl
set_option maxRecDepth 20000 in
theorem ml_law_37 : Cond.methodLink "RowPressLaw" 37 y_M_sortPart ∈ w0 := w0_of 322 (by decide +kernel) rfl
set_option maxRecDepth 20000 in
theorem im_M_sortPart : Cond.instanceMethod y_M_sortPart ∈ w0 := w0_of 323 (by decide +kernel) rfl
set_option maxRecDepth 20000 in
theorem se_M_sortPart : Cond.selects "RowPressModel" y_M_sortPart y_M_sortPart ∈ w0 := w0_of 324 (by decide +kernel) rfl
set_option maxRecDepth 20000 in
theorem ml_M_51 : Cond.methodLink "RowPressModel" 51 y_M_isStretch ∈ w0 := w0_of 326 (by decide +kernel) rfl
set_option maxRecDepth 20000 in
theorem im_M_isStretch : Cond.instanceMethod y_M_isStretch ∈ w0 := w0_of 328 (by decide +kernel) rfl
set_option maxRecDepth 20000 in
theorem ml_law_41 : Cond.methodLink "RowPressLaw" 41 y_M_merge ∈ w0 := w0_of 330 (by decide +kernel) rfl
set_option maxRecDepth 20000 in
theorem im_M_merge : Cond.instanceMethod y_M_merge ∈ w0 := w0_of 331 (by decide +kernel) rfl
set_option maxRecDepth 20000 in
theorem se_M_merge : Cond.selects "RowPressModel" y_M_merge y_M_merge ∈ w0 := w0_of 332 (by decide +kernel) rfl
set_option maxRecDepth 20000 in
theorem ml_M_55 : Cond.methodLink "RowPressModel" 55 y_M_isSorted ∈ w0 := w0_of 334 (by decide +kernel) rfl
set_option maxRecDepth 20000 in
theorem im_M_isSorted : Cond.instanceMethod y_M_isSorted ∈ w0 := w0_of 336 (by decide +kernel) rfl
set_option maxRecDepth 20000 in
theorem ml_law_45 : Cond.methodLink "RowPressLaw" 45 y_M_rotate ∈ w0 := w0_of 338 (by decide +kernel) rfl
set_option maxRecDepth 20000 in
theorem im_M_rotate : Cond.instanceMethod y_M_rotate ∈ w0 := w0_of 339 (by decide +kernel) rfl
set_option maxRecDepth 20000 in
theorem se_M_rotate : Cond.selects "RowPressModel" y_M_rotate y_M_rotate ∈ w0 := w0_of 340 (by decide +kernel) rfl
set_option maxRecDepth 20000 in
theorem ml_law_49 : Cond.methodLink "RowPressLaw" 49 y_M_turn ∈ w0 := w0_of 342 (by decide +kernel) rfl
set_option maxRecDepth 20000 in
theorem im_M_turn : Cond.instanceMethod y_M_turn ∈ w0 := w0_of 343 (by decide +kernel) rfl
set_option maxRecDepth 20000 in
theorem se_M_turn : Cond.selects "RowPressModel" y_M_turn y_M_turn ∈ w0 := w0_of 344 (by decide +kernel) rfl
set_option maxRecDepth 20000 in
theorem ml_law_53 : Cond.methodLink "RowPressLaw" 53 y_M_split ∈ w0 := w0_of 346 (by decide +kernel) rfl
set_option maxRecDepth 20000 in
theorem im_M_split : Cond.instanceMethod y_M_split ∈ w0 := w0_of 347 (by decide +kernel) rfl
set_option maxRecDepth 20000 in
theorem se_M_split : Cond.selects "RowPressModel" y_M_split y_M_split ∈ w0 := w0_of 348 (by decide +kernel) rfl
set_option maxRecDepth 20000 in
theorem ml_law_57 : Cond.methodLink "RowPressLaw" 57 y_M_thin ∈ w0 := w0_of 350 (by decide +kernel) rfl
set_option maxRecDepth 20000 in
theorem im_M_thin : Cond.instanceMethod y_M_thin ∈ w0 := w0_of 351 (by decide +kernel) rfl
set_option maxRecDepth 20000 in
theorem se_M_thin : Cond.selects "RowPressModel" y_M_thin y_M_thin ∈ w0 := w0_of 352 (by decide +kernel) rfl
set_option maxRecDepth 20000 in
theorem ml_law_61 : Cond.methodLink "RowPressLaw" 61 y_M_sorted ∈ w0 := w0_of 354 (by decide +kernel) rfl
set_option maxRecDepth 20000 in
theorem im_M_sorted : Cond.instanceMethod y_M_sorted ∈ w0 := w0_of 355 (by decide +kernel) rfl
set_option maxRecDepth 20000 in
theorem se_M_sorted : Cond.selects "RowPressModel" y_M_sorted y_M_sorted ∈ w0 := w0_of 356 (by decide +kernel) rfl
set_option maxRecDepth 20000 in
theorem ml_law_65 : Cond.methodLink "RowPressLaw" 65 y_M_find ∈ w0 := w0_of 358 (by decide +kernel) rfl
set_option maxRecDepth 20000 in
theorem im_M_find : Cond.instanceMethod y_M_find ∈ w0 := w0_of 359 (by decide +kernel) rfl
set_option maxRecDepth 20000 in
theorem se_M_find : Cond.selects "RowPressModel" y_M_find y_M_find ∈ w0 := w0_of 360 (by decide +kernel) rfl
set_option maxRecDepth 20000 in
theorem ml_law_69 : Cond.methodLink "RowPressLaw" 69 y_M_rank ∈ w0 := w0_of 362 (by decide +kernel) rfl
set_option maxRecDepth 20000 in
theorem im_M_rank : Cond.instanceMethod y_M_rank ∈ w0 := w0_of 363 (by decide +kernel) rfl
set_option maxRecDepth 20000 in
theorem se_M_rank : Cond.selects "RowPressModel" y_M_rank y_M_rank ∈ w0 := w0_of 364 (by decide +kernel) rfl
set_option maxRecDepth 20000 in
theorem ml_law_73 : Cond.methodLink "RowPressLaw" 73 y_M_key ∈ w0 := w0_of 366 (by decide +kernel) rfl
set_option maxRecDepth 20000 in
theorem im_M_key : Cond.instanceMethod y_M_key ∈ w0 := w0_of 367 (by decide +kernel) rfl
set_option maxRecDepth 20000 in
theorem se_M_key : Cond.selects "RowPressModel" y_M_key y_M_key ∈ w0 := w0_of 368 (by decide +kernel) rfl
set_option maxRecDepth 20000 in
theorem ml_law_77 : Cond.methodLink "RowPressLaw" 77 y_M_tag ∈ w0 := w0_of 370 (by decide +kernel) rfl
set_option maxRecDepth 20000 in
theorem im_M_tag : Cond.instanceMethod y_M_tag ∈ w0 := w0_of 371 (by decide +kernel) rfl
set_option maxRecDepth 20000 in
theorem se_M_tag : Cond.selects "RowPressModel" y_M_tag y_M_tag ∈ w0 := w0_of 372 (by decide +kernel) rfl
set_option maxRecDepth 20000 in
theorem ml_law_81 : Cond.methodLink "RowPressLaw" 81 y_M_count ∈ w0 := w0_of 374 (by decide +kernel) rfl
set_option maxRecDepth 20000 in
theorem im_M_count : Cond.instanceMethod y_M_count ∈ w0 := w0_of 375 (by decide +kernel) rfl
set_option maxRecDepth 20000 in
theorem se_M_count : Cond.selects "RowPressModel" y_M_count y_M_count ∈ w0 := w0_of 376 (by decide +kernel) rfl
set_option maxRecDepth 20000 in
theorem ml_M_58 : Cond.methodLink "RowPressModel" 58 y_M_stretches ∈ w0 := w0_of 378 (by decide +kernel) rfl
set_option maxRecDepth 20000 in
theorem im_M_stretches : Cond.instanceMethod y_M_stretches ∈ w0 := w0_of 380 (by decide +kernel) rfl
set_option maxRecDepth 20000 in
theorem ml_M_62 : Cond.methodLink "RowPressModel" 62 y_M_different ∈ w0 := w0_of 382 (by decide +kernel) rfl
set_option maxRecDepth 20000 in
theorem im_M_different : Cond.instanceMethod y_M_different ∈ w0 := w0_of 384 (by decide +kernel) rfl
set_option maxRecDepth 20000 in
theorem ml_law_85 : Cond.methodLink "RowPressLaw" 85 y_M_check ∈ w0 := w0_of 386 (by decide +kernel) rfl
set_option maxRecDepth 20000 in
theorem im_M_check : Cond.instanceMethod y_M_check ∈ w0 := w0_of 387 (by decide +kernel) rfl
set_option maxRecDepth 20000 in
theorem se_M_check : Cond.selects "RowPressModel" y_M_check y_M_check ∈ w0 := w0_of 388 (by decide +kernel) rfl
set_option maxRecDepth 20000 in
theorem se_R_isStretch : Cond.selects "RowPress" y_R_isStretch y_R_isStretch ∈ w0 := w0_of 0 (by decide +kernel) rfl
set_option maxRecDepth 20000 in
theorem se_R_bring : Cond.selects "RowPress" y_R_bring y_R_bring ∈ w0 := w0_of 1 (by decide +kernel) rfl
set_option maxRecDepth 20000 in
theorem se_R_reverse : Cond.selects "RowPress" y_R_reverse y_R_reverse ∈ w0 := w0_of 2 (by decide +kernel) rfl
set_option maxRecDepth 20000 in
theorem se_R_swap : Cond.selects "RowPress" y_R_swap y_R_swap ∈ w0 := w0_of 3 (by decide +kernel) rfl
set_option maxRecDepth 20000 in
theorem se_R_isOrder : Cond.selects "RowPress" y_R_isOrder y_R_isOrder ∈ w0 := w0_of 4 (by decide +kernel) rfl
set_option maxRecDepth 20000 in
theorem se_R_begin : Cond.selects "RowPress" y_R_begin y_R_begin ∈ w0 := w0_of 5 (by decide +kernel) rfl
set_option maxRecDepth 20000 in
theorem se_R_sortAt : Cond.selects "RowPress" y_R_sortAt y_R_sortAt ∈ w0 := w0_of 6 (by decide +kernel) rfl
set_option maxRecDepth 20000 in
theorem se_R_sortShort : Cond.selects "RowPress" y_R_sortShort y_R_sortShort ∈ w0 := w0_of 7 (by decide +kernel) rfl
set_option maxRecDepth 20000 in
theorem se_R_search : Cond.selects "RowPress" y_R_search y_R_search ∈ w0 := w0_of 8 (by decide +kernel) rfl
set_option maxRecDepth 20000 in
theorem se_R_compare : Cond.selects "RowPress" y_R_compare y_R_compare ∈ w0 := w0_of 9 (by decide +kernel) rfl
set_option maxRecDepth 20000 in
theorem se_R_mergeAt : Cond.selects "RowPress" y_R_mergeAt y_R_mergeAt ∈ w0 := w0_of 10 (by decide +kernel) rfl
set_option maxRecDepth 20000 in
theorem se_R_isSorted : Cond.selects "RowPress" y_R_isSorted y_R_isSorted ∈ w0 := w0_of 11 (by decide +kernel) rfl
set_option maxRecDepth 20000 in
theorem se_R_splitAt : Cond.selects "RowPress" y_R_splitAt y_R_splitAt ∈ w0 := w0_of 12 (by decide +kernel) rfl
set_option maxRecDepth 20000 in
theorem se_R_runs : Cond.selects "RowPress" y_R_runs y_R_runs ∈ w0 := w0_of 13 (by decide +kernel) rfl
set_option maxRecDepth 20000 in
theorem se_R_different : Cond.selects "RowPress" y_R_different y_R_different ∈ w0 := w0_of 14 (by decide +kernel) rfl
set_option maxRecDepth 20000 in
theorem se_M_arrange : Cond.selects "RowPressModel" y_M_arrange y_M_arrange ∈ w0 := w0_of 15 (by decide +kernel) rfl
set_option maxRecDepth 20000 in
theorem se_M_place : Cond.selects "RowPressModel" y_M_place y_M_place ∈ w0 := w0_of 16 (by decide +kernel) rfl
set_option maxRecDepth 20000 in
theorem se_M_move : Cond.selects "RowPressModel" y_M_move y_M_move ∈ w0 := w0_of 17 (by decide +kernel) rfl
set_option maxRecDepth 20000 in
theorem se_M_take : Cond.selects "RowPressModel" y_M_take y_M_take ∈ w0 := w0_of 18 (by decide +kernel) rfl
set_option maxRecDepth 20000 in
theorem se_M_isStretch : Cond.selects "RowPressModel" y_M_isStretch y_M_isStretch ∈ w0 := w0_of 19 (by decide +kernel) rfl
set_option maxRecDepth 20000 in
theorem se_M_isSorted : Cond.selects "RowPressModel" y_M_isSorted y_M_isSorted ∈ w0 := w0_of 20 (by decide +kernel) rfl
set_option maxRecDepth 20000 in
theorem se_M_stretches : Cond.selects "RowPressModel" y_M_stretches y_M_stretches ∈ w0 := w0_of 21 (by decide +kernel) rfl
set_option maxRecDepth 20000 in
theorem se_M_different : Cond.selects "RowPressModel" y_M_different y_M_different ∈ w0 := w0_of 22 (by decide +kernel) rfl
-- what a call asks of the words
def ck_s (own : String) (idx : Nat) (y : MethodName) (b : ByteArray) (maxL : Nat) (ret : Option FieldType) (n : Nat) : Prop :=
  Cond.code y b maxL ret ∈ w0 ∧ Cond.initialized y.cls ∈ w0 ∧ Cond.methodLink own idx y ∈ w0 ∧ y.cls ≠ "java/lang/invoke/MethodHandle" ∧ y.cls ≠ "java/lang/invoke/VarHandle" ∧ (parseMethodDescriptor y.desc).map (fun d => d.parameters.length) = some n ∧ Cond.static y ∈ w0
def ck_v (own : String) (idx : Nat) (y : MethodName) (b : ByteArray) (maxL : Nat) (ret : Option FieldType) (n : Nat) : Prop :=
  Cond.code y b maxL ret ∈ w0 ∧ Cond.initialized y.cls ∈ w0 ∧ Cond.methodLink own idx y ∈ w0 ∧ y.cls ≠ "java/lang/invoke/MethodHandle" ∧ y.cls ≠ "java/lang/invoke/VarHandle" ∧ (parseMethodDescriptor y.desc).map (fun d => d.parameters.length) = some n ∧ Cond.instanceMethod y ∈ w0 ∧ Cond.selects y.cls y y ∈ w0
theorem k_law_13 : ck_v "RowPressLaw" 13 y_R_put b_R_put 3 (some .int) 2 := ⟨cd_R_put, in_R, ml_law_13, by decide +kernel, by decide +kernel, by decide +kernel, im_R_put, se_R_put⟩
theorem k_law_18 : ck_v "RowPressLaw" 18 y_R_run b_R_run 6 (some .int) 4 := ⟨cd_R_run, in_R, ml_law_18, by decide +kernel, by decide +kernel, by decide +kernel, im_R_run, se_R_run⟩
theorem k_law_23 : ck_v "RowPressLaw" 23 y_R_clear b_R_clear 2 (some .int) 0 := ⟨cd_R_clear, in_R, ml_law_23, by decide +kernel, by decide +kernel, by decide +kernel, im_R_clear, se_R_clear⟩
theorem k_law_42 : ck_v "RowPressLaw" 42 y_R_rotate b_R_rotate 6 (some .int) 3 := ⟨cd_R_rotate, in_R, ml_law_42, by decide +kernel, by decide +kernel, by decide +kernel, im_R_rotate, se_R_rotate⟩
theorem k_R_55 : ck_v "RowPress" 55 y_R_isStretch b_R_isStretch 3 (some .boolean) 2 := ⟨cd_R_isStretch, in_R, ml_R_55, by decide +kernel, by decide +kernel, by decide +kernel, im_R_isStretch, se_R_isStretch⟩
theorem k_R_59 : ck_v "RowPress" 59 y_R_bring b_R_bring 4 none 3 := ⟨cd_R_bring, in_R, ml_R_59, by decide +kernel, by decide +kernel, by decide +kernel, im_R_bring, se_R_bring⟩
theorem k_R_52 : ck_v "RowPress" 52 y_R_reverse b_R_reverse 5 none 2 := ⟨cd_R_reverse, in_R, ml_R_52, by decide +kernel, by decide +kernel, by decide +kernel, im_R_reverse, se_R_reverse⟩
theorem k_R_48 : ck_v "RowPress" 48 y_R_swap b_R_swap 5 none 2 := ⟨cd_R_swap, in_R, ml_R_48, by decide +kernel, by decide +kernel, by decide +kernel, im_R_swap, se_R_swap⟩
theorem k_law_46 : ck_v "RowPressLaw" 46 y_R_turn b_R_turn 5 (some .int) 2 := ⟨cd_R_turn, in_R, ml_law_46, by decide +kernel, by decide +kernel, by decide +kernel, im_R_turn, se_R_turn⟩
theorem k_law_28 : ck_v "RowPressLaw" 28 y_R_sort b_R_sort 2 (some .int) 1 := ⟨cd_R_sort, in_R, ml_law_28, by decide +kernel, by decide +kernel, by decide +kernel, im_R_sort, se_R_sort⟩
theorem k_R_89 : ck_v "RowPress" 89 y_R_sortPart b_R_sortPart 4 (some .int) 3 := ⟨cd_R_sortPart, in_R, ml_R_89, by decide +kernel, by decide +kernel, by decide +kernel, im_R_sortPart, se_R_sortPart⟩
theorem k_R_93 : ck_v "RowPress" 93 y_R_isOrder b_R_isOrder 2 (some .boolean) 1 := ⟨cd_R_isOrder, in_R, ml_R_93, by decide +kernel, by decide +kernel, by decide +kernel, im_R_isOrder, se_R_isOrder⟩
theorem k_R_97 : ck_v "RowPress" 97 y_R_begin b_R_begin 3 none 2 := ⟨cd_R_begin, in_R, ml_R_97, by decide +kernel, by decide +kernel, by decide +kernel, im_R_begin, se_R_begin⟩
theorem k_R_100 : ck_v "RowPress" 100 y_R_sortAt b_R_sortAt 5 none 2 := ⟨cd_R_sortAt, in_R, ml_R_100, by decide +kernel, by decide +kernel, by decide +kernel, im_R_sortAt, se_R_sortAt⟩
theorem k_R_81 : ck_s "RowPress" 81 y_X_min b_X_min 2 (some .int) 2 := ⟨cd_X_min, in_X, ml_R_81, by decide +kernel, by decide +kernel, by decide +kernel, st_X_min⟩
theorem k_R_86 : ck_v "RowPress" 86 y_R_sortShort b_R_sortShort 5 none 2 := ⟨cd_R_sortShort, in_R, ml_R_86, by decide +kernel, by decide +kernel, by decide +kernel, im_R_sortShort, se_R_sortShort⟩
theorem k_R_74 : ck_v "RowPress" 74 y_R_search b_R_search 9 (some .int) 4 := ⟨cd_R_search, in_R, ml_R_74, by decide +kernel, by decide +kernel, by decide +kernel, im_R_search, se_R_search⟩
theorem k_R_70 : ck_v "RowPress" 70 y_R_compare b_R_compare 3 (some .int) 2 := ⟨cd_R_compare, in_R, ml_R_70, by decide +kernel, by decide +kernel, by decide +kernel, im_R_compare, se_R_compare⟩
theorem k_F_7 : ck_s "RowPress$Falling" 7 y_I_compare b_I_compare 2 (some .int) 2 := ⟨cd_I_compare, in_I, ml_F_7, by decide +kernel, by decide +kernel, by decide +kernel, st_I_compare⟩
theorem k_L_7 : ck_s "RowPress$Lowest" 7 y_I_compare b_I_compare 2 (some .int) 2 := ⟨cd_I_compare, in_I, ml_L_7, by decide +kernel, by decide +kernel, by decide +kernel, st_I_compare⟩
theorem k_S_7 : ck_s "RowPress$Signed" 7 y_I_compare b_I_compare 2 (some .int) 2 := ⟨cd_I_compare, in_I, ml_S_7, by decide +kernel, by decide +kernel, by decide +kernel, st_I_compare⟩
theorem k_U_7 : ck_s "RowPress$Unsigned" 7 y_I_compareUnsigned b_I_compareUnsigned 2 (some .int) 2 := ⟨cd_I_compareUnsigned, in_I, ml_U_7, by decide +kernel, by decide +kernel, by decide +kernel, st_I_compareUnsigned⟩
theorem k_I_259 : ck_s "java/lang/Integer" 259 y_I_compare b_I_compare 2 (some .int) 2 := ⟨cd_I_compare, in_I, ml_I_259, by decide +kernel, by decide +kernel, by decide +kernel, st_I_compare⟩
theorem k_R_78 : ck_v "RowPress" 78 y_R_mergeAt b_R_mergeAt 9 none 3 := ⟨cd_R_mergeAt, in_R, ml_R_78, by decide +kernel, by decide +kernel, by decide +kernel, im_R_mergeAt, se_R_mergeAt⟩
theorem k_law_33 : ck_v "RowPressLaw" 33 y_R_sortPart b_R_sortPart 4 (some .int) 3 := ⟨cd_R_sortPart, in_R, ml_law_33, by decide +kernel, by decide +kernel, by decide +kernel, im_R_sortPart, se_R_sortPart⟩
theorem k_law_38 : ck_v "RowPressLaw" 38 y_R_merge b_R_merge 5 (some .int) 4 := ⟨cd_R_merge, in_R, ml_law_38, by decide +kernel, by decide +kernel, by decide +kernel, im_R_merge, se_R_merge⟩
theorem k_R_103 : ck_v "RowPress" 103 y_R_isSorted b_R_isSorted 4 (some .boolean) 2 := ⟨cd_R_isSorted, in_R, ml_R_103, by decide +kernel, by decide +kernel, by decide +kernel, im_R_isSorted, se_R_isSorted⟩
theorem k_law_50 : ck_v "RowPressLaw" 50 y_R_split b_R_split 8 (some .int) 4 := ⟨cd_R_split, in_R, ml_law_50, by decide +kernel, by decide +kernel, by decide +kernel, im_R_split, se_R_split⟩
theorem k_R_106 : ck_v "RowPress" 106 y_R_splitAt b_R_splitAt 7 (some .int) 3 := ⟨cd_R_splitAt, in_R, ml_R_106, by decide +kernel, by decide +kernel, by decide +kernel, im_R_splitAt, se_R_splitAt⟩
theorem k_law_54 : ck_v "RowPressLaw" 54 y_R_thin b_R_thin 4 (some .int) 1 := ⟨cd_R_thin, in_R, ml_law_54, by decide +kernel, by decide +kernel, by decide +kernel, im_R_thin, se_R_thin⟩
theorem k_R_109 : ck_v "RowPress" 109 y_R_sorted b_R_sorted 4 (some .int) 3 := ⟨cd_R_sorted, in_R, ml_R_109, by decide +kernel, by decide +kernel, by decide +kernel, im_R_sorted, se_R_sorted⟩
theorem k_law_58 : ck_v "RowPressLaw" 58 y_R_sorted b_R_sorted 4 (some .int) 3 := ⟨cd_R_sorted, in_R, ml_law_58, by decide +kernel, by decide +kernel, by decide +kernel, im_R_sorted, se_R_sorted⟩
theorem k_law_62 : ck_v "RowPressLaw" 62 y_R_find b_R_find 7 (some .int) 3 := ⟨cd_R_find, in_R, ml_law_62, by decide +kernel, by decide +kernel, by decide +kernel, im_R_find, se_R_find⟩
theorem k_law_66 : ck_v "RowPressLaw" 66 y_R_rank b_R_rank 6 (some .int) 2 := ⟨cd_R_rank, in_R, ml_law_66, by decide +kernel, by decide +kernel, by decide +kernel, im_R_rank, se_R_rank⟩
theorem k_law_70 : ck_v "RowPressLaw" 70 y_R_key b_R_key 2 (some .int) 1 := ⟨cd_R_key, in_R, ml_law_70, by decide +kernel, by decide +kernel, by decide +kernel, im_R_key, se_R_key⟩
theorem k_law_74 : ck_v "RowPressLaw" 74 y_R_tag b_R_tag 2 (some .int) 1 := ⟨cd_R_tag, in_R, ml_law_74, by decide +kernel, by decide +kernel, by decide +kernel, im_R_tag, se_R_tag⟩
theorem k_law_78 : ck_v "RowPressLaw" 78 y_R_count b_R_count 2 (some .int) 1 := ⟨cd_R_count, in_R, ml_law_78, by decide +kernel, by decide +kernel, by decide +kernel, im_R_count, se_R_count⟩
theorem k_R_112 : ck_v "RowPress" 112 y_R_runs b_R_runs 3 (some .int) 0 := ⟨cd_R_runs, in_R, ml_R_112, by decide +kernel, by decide +kernel, by decide +kernel, im_R_runs, se_R_runs⟩
theorem k_R_116 : ck_v "RowPress" 116 y_R_different b_R_different 4 (some .int) 0 := ⟨cd_R_different, in_R, ml_R_116, by decide +kernel, by decide +kernel, by decide +kernel, im_R_different, se_R_different⟩
theorem k_law_82 : ck_v "RowPressLaw" 82 y_R_check b_R_check 4 (some .int) 0 := ⟨cd_R_check, in_R, ml_law_82, by decide +kernel, by decide +kernel, by decide +kernel, im_R_check, se_R_check⟩
theorem k_law_17 : ck_v "RowPressLaw" 17 y_M_put b_M_put 3 (some .int) 2 := ⟨cd_M_put, in_M, ml_law_17, by decide +kernel, by decide +kernel, by decide +kernel, im_M_put, se_M_put⟩
theorem k_law_22 : ck_v "RowPressLaw" 22 y_M_run b_M_run 6 (some .int) 4 := ⟨cd_M_run, in_M, ml_law_22, by decide +kernel, by decide +kernel, by decide +kernel, im_M_run, se_M_run⟩
theorem k_law_27 : ck_v "RowPressLaw" 27 y_M_clear b_M_clear 2 (some .int) 0 := ⟨cd_M_clear, in_M, ml_law_27, by decide +kernel, by decide +kernel, by decide +kernel, im_M_clear, se_M_clear⟩
theorem k_law_32 : ck_v "RowPressLaw" 32 y_M_sort b_M_sort 2 (some .int) 1 := ⟨cd_M_sort, in_M, ml_law_32, by decide +kernel, by decide +kernel, by decide +kernel, im_M_sort, se_M_sort⟩
theorem k_M_43 : ck_s "RowPressModel" 43 y_M_isOrder b_M_isOrder 1 (some .boolean) 1 := ⟨cd_M_isOrder, in_M, ml_M_43, by decide +kernel, by decide +kernel, by decide +kernel, st_M_isOrder⟩
theorem k_M_47 : ck_v "RowPressModel" 47 y_M_arrange b_M_arrange 5 none 3 := ⟨cd_M_arrange, in_M, ml_M_47, by decide +kernel, by decide +kernel, by decide +kernel, im_M_arrange, se_M_arrange⟩
theorem k_M_32 : ck_v "RowPressModel" 32 y_M_place b_M_place 8 (some .int) 4 := ⟨cd_M_place, in_M, ml_M_32, by decide +kernel, by decide +kernel, by decide +kernel, im_M_place, se_M_place⟩
theorem k_M_28 : ck_s "RowPressModel" 28 y_M_isLess b_M_isLess 3 (some .boolean) 3 := ⟨cd_M_isLess, in_M, ml_M_28, by decide +kernel, by decide +kernel, by decide +kernel, st_M_isLess⟩
theorem k_M_36 : ck_v "RowPressModel" 36 y_M_move b_M_move 3 none 2 := ⟨cd_M_move, in_M, ml_M_36, by decide +kernel, by decide +kernel, by decide +kernel, im_M_move, se_M_move⟩
theorem k_M_40 : ck_v "RowPressModel" 40 y_M_take b_M_take 4 none 2 := ⟨cd_M_take, in_M, ml_M_40, by decide +kernel, by decide +kernel, by decide +kernel, im_M_take, se_M_take⟩
theorem k_law_37 : ck_v "RowPressLaw" 37 y_M_sortPart b_M_sortPart 4 (some .int) 3 := ⟨cd_M_sortPart, in_M, ml_law_37, by decide +kernel, by decide +kernel, by decide +kernel, im_M_sortPart, se_M_sortPart⟩
theorem k_M_51 : ck_v "RowPressModel" 51 y_M_isStretch b_M_isStretch 3 (some .boolean) 2 := ⟨cd_M_isStretch, in_M, ml_M_51, by decide +kernel, by decide +kernel, by decide +kernel, im_M_isStretch, se_M_isStretch⟩
theorem k_law_41 : ck_v "RowPressLaw" 41 y_M_merge b_M_merge 6 (some .int) 4 := ⟨cd_M_merge, in_M, ml_law_41, by decide +kernel, by decide +kernel, by decide +kernel, im_M_merge, se_M_merge⟩
theorem k_M_55 : ck_v "RowPressModel" 55 y_M_isSorted b_M_isSorted 5 (some .boolean) 3 := ⟨cd_M_isSorted, in_M, ml_M_55, by decide +kernel, by decide +kernel, by decide +kernel, im_M_isSorted, se_M_isSorted⟩
theorem k_law_45 : ck_v "RowPressLaw" 45 y_M_rotate b_M_rotate 5 (some .int) 3 := ⟨cd_M_rotate, in_M, ml_law_45, by decide +kernel, by decide +kernel, by decide +kernel, im_M_rotate, se_M_rotate⟩
theorem k_law_49 : ck_v "RowPressLaw" 49 y_M_turn b_M_turn 4 (some .int) 2 := ⟨cd_M_turn, in_M, ml_law_49, by decide +kernel, by decide +kernel, by decide +kernel, im_M_turn, se_M_turn⟩
theorem k_law_53 : ck_v "RowPressLaw" 53 y_M_split b_M_split 8 (some .int) 4 := ⟨cd_M_split, in_M, ml_law_53, by decide +kernel, by decide +kernel, by decide +kernel, im_M_split, se_M_split⟩
theorem k_law_57 : ck_v "RowPressLaw" 57 y_M_thin b_M_thin 4 (some .int) 1 := ⟨cd_M_thin, in_M, ml_law_57, by decide +kernel, by decide +kernel, by decide +kernel, im_M_thin, se_M_thin⟩
theorem k_law_61 : ck_v "RowPressLaw" 61 y_M_sorted b_M_sorted 4 (some .int) 3 := ⟨cd_M_sorted, in_M, ml_law_61, by decide +kernel, by decide +kernel, by decide +kernel, im_M_sorted, se_M_sorted⟩
theorem k_law_65 : ck_v "RowPressLaw" 65 y_M_find b_M_find 7 (some .int) 3 := ⟨cd_M_find, in_M, ml_law_65, by decide +kernel, by decide +kernel, by decide +kernel, im_M_find, se_M_find⟩
theorem k_law_69 : ck_v "RowPressLaw" 69 y_M_rank b_M_rank 3 (some .int) 2 := ⟨cd_M_rank, in_M, ml_law_69, by decide +kernel, by decide +kernel, by decide +kernel, im_M_rank, se_M_rank⟩
theorem k_law_73 : ck_v "RowPressLaw" 73 y_M_key b_M_key 2 (some .int) 1 := ⟨cd_M_key, in_M, ml_law_73, by decide +kernel, by decide +kernel, by decide +kernel, im_M_key, se_M_key⟩
theorem k_law_77 : ck_v "RowPressLaw" 77 y_M_tag b_M_tag 2 (some .int) 1 := ⟨cd_M_tag, in_M, ml_law_77, by decide +kernel, by decide +kernel, by decide +kernel, im_M_tag, se_M_tag⟩
theorem k_law_81 : ck_v "RowPressLaw" 81 y_M_count b_M_count 2 (some .int) 1 := ⟨cd_M_count, in_M, ml_law_81, by decide +kernel, by decide +kernel, by decide +kernel, im_M_count, se_M_count⟩
theorem k_M_58 : ck_v "RowPressModel" 58 y_M_stretches b_M_stretches 3 (some .int) 0 := ⟨cd_M_stretches, in_M, ml_M_58, by decide +kernel, by decide +kernel, by decide +kernel, im_M_stretches, se_M_stretches⟩
theorem k_M_62 : ck_v "RowPressModel" 62 y_M_different b_M_different 5 (some .int) 0 := ⟨cd_M_different, in_M, ml_M_62, by decide +kernel, by decide +kernel, by decide +kernel, im_M_different, se_M_different⟩
theorem k_law_85 : ck_v "RowPressLaw" 85 y_M_check b_M_check 1 (some .int) 0 := ⟨cd_M_check, in_M, ml_law_85, by decide +kernel, by decide +kernel, by decide +kernel, im_M_check, se_M_check⟩
end
section
/-! THE ABSTRACT STATE: xa_At Γ ws pc lv st: from every concrete state that matches (world ws, locals lv by place, operand stack st) the machine comes to Q. One row an instruction. -/
-- names: classes and fields
def R_R : String := "RowPress"
def F_R : u_T := fun k => match k with
  | 0 => ("RowPress", "orders", "[LRowPress$Order;", true)
  | 1 => ("RowPress", "keys", "[I", true)
  | 2 => ("RowPress", "tags", "[I", true)
  | 3 => ("RowPress", "size", "I", false)
  | 4 => ("RowPress", "order", "LRowPress$Order;", false)
  | 5 => ("RowPress", "compares", "J", false)
  | 6 => ("RowPress", "writes", "J", false)
  | _ => ("RowPress", "measured", "I", false)
def t_R : Nat → FieldType := fun k => match k with
  | 0 => .array (.object "RowPress$Order")
  | 1 => .array .int
  | 2 => .array .int
  | 3 => .int
  | 4 => .object "RowPress$Order"
  | 5 => .long
  | 6 => .long
  | _ => .int
def R_M : String := "RowPressModel"
def F_M : u_T := fun k => match k with
  | 0 => ("RowPressModel", "keys", "[I", true)
  | 1 => ("RowPressModel", "tags", "[I", true)
  | 2 => ("RowPressModel", "many", "I", false)
  | 3 => ("RowPressModel", "nextKeys", "[I", true)
  | _ => ("RowPressModel", "nextTags", "[I", true)
def t_M : Nat → FieldType := fun k => match k with
  | 0 => .array .int
  | 1 => .array .int
  | 2 => .int
  | 3 => .array .int
  | _ => .array .int
def R_S : String := "RowPress$Signed"
def R_U : String := "RowPress$Unsigned"
def R_F : String := "RowPress$Falling"
def R_L : String := "RowPress$Lowest"
def R_O : String := "RowPress$Order"
def F_0 : u_T := fun _ => ("", "", "", false)
def t_0 : Nat → FieldType := fun _ => .int
abbrev classes : List vw_C := [(R_R, F_R, 8), (R_M, F_M, 5), (R_S, F_0, 0), (R_U, F_0, 0), (R_F, F_0, 0), (R_L, F_0, 0)]
theorem n_R : ∀ a, a < 8 → ∀ b, b < 8 → a ≠ b → (F_R a).2.1 ≠ (F_R b).2.1 := by decide +kernel
theorem t_R_ok : ∀ k, k < 8 → parseFieldDescriptor (F_R k).2.2.1 = some (t_R k) := by decide +kernel
theorem n_M : ∀ a, a < 5 → ∀ b, b < 5 → a ≠ b → (F_M a).2.1 ≠ (F_M b).2.1 := by decide +kernel
theorem t_M_ok : ∀ k, k < 5 → parseFieldDescriptor (F_M k).2.2.1 = some (t_M k) := by decide +kernel
theorem t_0_ok : ∀ k, k < 0 → parseFieldDescriptor (F_0 k).2.2.1 = some (t_0 k) := fun k h => absurd h (Nat.not_lt_zero k)
theorem i_R0 : ∀ w ∈ u_ws R_R F_R 8, w ∈ lw_tbl := by decide +kernel
theorem i_R1 : (u_ws R_R F_R 8).all goodWord = true := by decide +kernel
theorem i_R : ∀ w ∈ u_ws R_R F_R 8, w ∈ w0 := fun w h => List.mem_filter.mpr ⟨i_R0 w h, List.all_eq_true.mp i_R1 w h⟩
theorem i_M0 : ∀ w ∈ u_ws R_M F_M 5, w ∈ lw_tbl := by decide +kernel
theorem i_M1 : (u_ws R_M F_M 5).all goodWord = true := by decide +kernel
theorem i_M : ∀ w ∈ u_ws R_M F_M 5, w ∈ w0 := fun w h => List.mem_filter.mpr ⟨i_M0 w h, List.all_eq_true.mp i_M1 w h⟩
theorem i_0 (C : String) : ∀ w ∈ u_ws C F_0 0, w ∈ w0 := fun w h => by simp [u_ws] at h
-- the words that don't ride in w0
def nw_l : List (String × Nat × MethodName) := [("RowPress", 11, y_S_init), ("RowPress$Signed", 1, y_O_init), ("RowPress", 14, y_U_init), ("RowPress$Unsigned", 1, y_O_init), ("RowPress", 17, y_F_init), ("RowPress$Falling", 1, y_O_init), ("RowPress", 20, y_L_init), ("RowPress$Lowest", 1, y_O_init)]
def nw_c : List String := [R_S, R_U, R_F, R_L]
def xa_N (U : State) : Prop := (∀ q ∈ nw_l, va_Nw (.methodLinkNest q.1 q.2.1 q.2.2 "RowPress") U) ∧ va_Nw (.declares y_O_compare) U ∧ (∀ C ∈ nw_c, va_Nw (.castable C "RowPress$Order") U) ∧ va_AO "RowPress$Order" U
theorem xa_N.warm {s U : State} (hW : s.WarmedH U.vm) (h : xa_N s) : xa_N U := ⟨fun q hq => va_Nw.warmM hW (h.1 q hq), va_Nw.warmD hW h.2.1, fun C hC => va_Nw.warmC hW (h.2.2.1 C hC), va_AO.moved hW.alike h.2.2.2⟩
theorem xa_N.same {u U : State} (hv : u.vm = U.vm) (h : xa_N u) : xa_N U := ⟨fun q hq => va_Nw.same rfl hv (h.1 q hq), va_Nw.same rfl hv h.2.1, fun C hC => va_Nw.same rfl hv (h.2.2.1 C hC), va_AO.moved (hv ▸ Vm.Alike.refl u.vm) h.2.2.2⟩
-- the context
abbrev xa_C : Type := (Program × Launch × Env × Room × State × MethodId × Array Value × List Frame) × (Method × Code × (State → Prop) × Nat × Nat) × ((Nat → Prop) × va_G × Nat)
abbrev xp (Γ : xa_C) : Program := Γ.1.1
abbrev xl (Γ : xa_C) : Launch := Γ.1.2.1
abbrev xe (Γ : xa_C) : Env := Γ.1.2.2.1
abbrev xR (Γ : xa_C) : Room := Γ.1.2.2.2.1
abbrev xs (Γ : xa_C) : State := Γ.1.2.2.2.2.1
abbrev xm (Γ : xa_C) : MethodId := Γ.1.2.2.2.2.2.1
abbrev xg (Γ : xa_C) : Array Value := Γ.1.2.2.2.2.2.2.1
abbrev xb (Γ : xa_C) : List Frame := Γ.1.2.2.2.2.2.2.2
abbrev xt (Γ : xa_C) : Method := Γ.2.1.1
abbrev xc (Γ : xa_C) : Code := Γ.2.1.2.1
abbrev xQ (Γ : xa_C) : State → Prop := Γ.2.1.2.2.1
abbrev xk (Γ : xa_C) : Nat := Γ.2.1.2.2.2.1
abbrev xn (Γ : xa_C) : Nat := Γ.2.1.2.2.2.2
abbrev xA (Γ : xa_C) : Nat → Prop := Γ.2.2.1
abbrev xD (Γ : xa_C) : va_G := Γ.2.2.2.1
abbrev xz (Γ : xa_C) : Nat := Γ.2.2.2.2
/-- the fixed facts: the machine, the code, the words; r: how many frames are left below -/
def xa_G (Γ : xa_C) (own : String) (cc : ByteArray) (r : Nat) : Prop := (xp Γ).tables.exec = Jvm.exec ∧ (xc Γ).code = cc ∧ (xc Γ).maxLocals = xz Γ ∧ (xs Γ).vm.findClass own = some (xm Γ).cls ∧ (∀ w ∈ w0, w.before (xg Γ) (xs Γ) = true) ∧ (∀ q, (xs Γ).heap.size ≤ q → xA Γ q) ∧ xa_N (xs Γ) ∧ (r ≤ (xR Γ).frames ∧ 64 * r ≤ (xR Γ).locals) ∧ (xk Γ ≤ (xR Γ).cells ∧ xn Γ ≤ (xR Γ).slots)
section XG
variable {Γ : xa_C} {own : String} {cc : ByteArray} {r : Nat}
theorem xa_G.ex (G : xa_G Γ own cc r) : (xp Γ).tables.exec = Jvm.exec := G.1
theorem xa_G.by (G : xa_G Γ own cc r) : (xc Γ).code = cc := G.2.1
theorem xa_G.ml (G : xa_G Γ own cc r) : (xc Γ).maxLocals = xz Γ := G.2.2.1
theorem xa_G.ow (G : xa_G Γ own cc r) : (xs Γ).vm.findClass own = some (xm Γ).cls := G.2.2.2.1
theorem xa_G.ts (G : xa_G Γ own cc r) : ∀ w ∈ w0, w.before (xg Γ) (xs Γ) = true := G.2.2.2.2.1
theorem xa_G.hA (G : xa_G Γ own cc r) : ∀ q, (xs Γ).heap.size ≤ q → xA Γ q := G.2.2.2.2.2.1
theorem xa_G.nw (G : xa_G Γ own cc r) : xa_N (xs Γ) := G.2.2.2.2.2.2.1
theorem xa_G.rm (G : xa_G Γ own cc r) : r ≤ (xR Γ).frames ∧ 64 * r ≤ (xR Γ).locals := G.2.2.2.2.2.2.2.1
theorem xa_G.cs (G : xa_G Γ own cc r) : xk Γ ≤ (xR Γ).cells ∧ xn Γ ≤ (xR Γ).slots := G.2.2.2.2.2.2.2.2
end XG
-- locals by place
def xa_L (ls : Array Slot) (nL : Nat) (lv : List (Option Value)) : Prop := ls.size = nL ∧ lv_wf ls ∧ lv.length = nL ∧ ∀ (i : Nat) (v : Value), lv[i]? = some (some v) → ls[i]? = some (.val v)
def xa_pr (lv : List (Option Value)) : List (Nat × Value) := (List.range lv.length).filterMap (fun i => match lv[i]? with | some (some v) => some (i, v) | _ => none)
theorem xa_pr_mem {lv : List (Option Value)} {i : Nat} {v : Value} : (i, v) ∈ xa_pr lv ↔ lv[i]? = some (some v) := by
  unfold xa_pr
  rw [List.mem_filterMap]
  constructor
  · rintro ⟨j, -, h⟩
    split at h
    next w hw => cases h; exact hw
    next => cases h
  · intro h
    refine ⟨i, List.mem_range.mpr (List.getElem?_eq_some_iff.mp h).1, ?_⟩
    rw [h]
theorem xa_L.has {ls : Array Slot} {nL : Nat} {lv : List (Option Value)} (h : xa_L ls nL lv) : lv_has ls nL (xa_pr lv) := ⟨h.1, h.2.1, fun q hq => h.2.2.2 q.1 q.2 (xa_pr_mem.mp hq)⟩
theorem xa_L.rd {ls : Array Slot} {nL : Nat} {lv : List (Option Value)} (h : xa_L ls nL lv) {i : Nat} {v : Value} (hi : lv[i]? = some (some v)) : ls[i]? = some (.val v) := h.2.2.2 i v hi
/-- place i may be stored to: it is there, and no long lies across it -/
def xa_ok (lv : List (Option Value)) (i : Nat) : Bool := Nat.blt i lv.length && (match i with
  | 0 => true
  | k + 1 => match lv[k]? with
    | some (some w) => !(w.category == 2)
    | _ => true)
theorem xa_ok_lt {lv : List (Option Value)} {i : Nat} (h : xa_ok lv i = true) : i < lv.length := by
  unfold xa_ok at h
  rw [Bool.and_eq_true] at h
  exact Nat.le_of_ble_eq_true h.1
theorem xa_ok_cat {lv : List (Option Value)} {j i : Nat} {w : Value} (h : xa_ok lv i = true) (hj : lv[j]? = some (some w)) : (!(j + 1 == i && w.category == 2)) = true := by
  by_cases e : j + 1 = i
  · subst e
    unfold xa_ok at h
    rw [Bool.and_eq_true] at h
    have h2 := h.2
    simp only [hj] at h2
    simp only [beq_self_eq_true, Bool.true_and]
    exact h2
  · simp [e]
theorem xa_L.set1 {ls' : Array Slot} {nL i : Nat} {lv : List (Option Value)} {v : Value} (h : lv_has ls' nL ((i, v) :: (xa_pr lv).filter (fun q => !(q.1 == i) && !(q.1 + 1 == i && q.2.category == 2)))) (hn : lv.length = nL) (ho : xa_ok lv i = true) : xa_L ls' nL (lv.set i (some v)) := by
  have hi := xa_ok_lt ho
  refine ⟨h.1, h.2.1, by rw [List.length_set]; exact hn, fun j w hj => ?_⟩
  by_cases e : j = i
  · subst e
    rw [List.getElem?_set_self hi] at hj
    cases hj
    exact h.2.2 _ List.mem_cons_self
  · rw [List.getElem?_set_ne (Ne.symm e)] at hj
    refine h.2.2 (j, w) (List.mem_cons_of_mem _ (List.mem_filter.mpr ⟨xa_pr_mem.mpr hj, ?_⟩))
    rw [Bool.and_eq_true]
    exact ⟨by simp [e], xa_ok_cat ho hj⟩
theorem xa_L.set2 {ls' : Array Slot} {nL i : Nat} {lv : List (Option Value)} {v : Value} (h : lv_has ls' nL ((i, v) :: (xa_pr lv).filter (fun q => !(q.1 == i) && (!(q.1 == i + 1) && !(q.1 + 1 == i && q.2.category == 2))))) (hn : lv.length = nL) (ho : xa_ok lv i = true) : xa_L ls' nL ((lv.set i (some v)).set (i + 1) none) := by
  have hi := xa_ok_lt ho
  refine ⟨h.1, h.2.1, by rw [List.length_set, List.length_set]; exact hn, fun j w hj => ?_⟩
  by_cases e1 : j = i + 1
  · subst e1
    by_cases hl : i + 1 < (lv.set i (some v)).length
    · rw [List.getElem?_set_self hl] at hj
      cases hj
    · rw [List.getElem?_eq_none (by rw [List.length_set]; omega)] at hj
      cases hj
  · rw [List.getElem?_set_ne (Ne.symm e1)] at hj
    by_cases e : j = i
    · subst e
      rw [List.getElem?_set_self hi] at hj
      cases hj
      exact h.2.2 _ List.mem_cons_self
    · rw [List.getElem?_set_ne (Ne.symm e)] at hj
      refine h.2.2 (j, w) (List.mem_cons_of_mem _ (List.mem_filter.mpr ⟨xa_pr_mem.mpr hj, ?_⟩))
      rw [Bool.and_eq_true, Bool.and_eq_true]
      exact ⟨by simp [e], by simp [e1], xa_ok_cat ho hj⟩
theorem xa_L.entry (av : List Value) (hc : ∀ v ∈ av, v.category = 1) {n : Nat} (hn : av.length ≤ n) : xa_L ((lg_sl av ++ List.replicate (n - (lg_sl av).length) Slot.unset).toArray) n (av.map some ++ List.replicate (n - av.length) none) := by
  have hs : lg_sl av = av.map Slot.val := by
    clear hn
    induction av with
    | nil => rfl
    | cons v t ih =>
      have h1 : v.category = 1 := hc v List.mem_cons_self
      have h2 := ih (fun w hw => hc w (List.mem_cons_of_mem _ hw))
      simp only [lg_sl, List.flatMap_cons, List.map_cons] at h2 ⊢
      rw [h2]
      simp [h1]
  have h0 := lv_entry av (n := n) (by rw [hs, List.length_map]; exact hn)
  refine ⟨h0.1, h0.2.1, by simp; omega, fun i v hv => ?_⟩
  have hi : i < av.length := by
    rcases Nat.lt_or_ge i av.length with q | q
    · exact q
    · rw [List.getElem?_append_right (by rw [List.length_map]; exact q)] at hv
      have := List.eq_of_mem_replicate (List.mem_of_getElem? hv)
      cases this
  rw [List.getElem?_append_left (by rw [List.length_map]; exact hi), List.getElem?_map] at hv
  rw [hs, List.getElem?_toArray, List.getElem?_append_left (by rw [List.length_map]; exact hi), List.getElem?_map]
  cases ha : av[i]? with
  | none => rw [ha] at hv; cases hv
  | some w => rw [ha] at hv; cases hv; rfl
/-- THE ABSTRACT STATE -/
def xa_At (Γ : xa_C) (ws : va_W) (pc : Nat) (lv : List (Option Value)) (st : List Value) : Prop :=
  ∀ (H : Heap) (locs : List Loc) (ls : Array Slot), va_P (xD Γ) classes ws H → va_D (xA Γ) ws → va_S (xA Γ) (xs Γ).heap H locs → xa_L ls (xz Γ) lv → W (xp Γ) (xl Γ) (xe Γ) (xR Γ) (xs Γ) (xm Γ) (xg Γ) (xb Γ) (xt Γ) (xc Γ) H locs (xk Γ) (xn Γ) (xQ Γ) (F0 (xm Γ) pc ls st)
section XROWS
variable {Γ : xa_C} {own : String} {cc : ByteArray} {r : Nat} {ws : va_W} {pc : Nat} {lv : List (Option Value)} {st : List Value}
theorem xa_eq {pc' : Nat} {lv' : List (Option Value)} {st' : List Value} (k : xa_At Γ ws pc' lv' st') (h1 : pc' = pc) (h2 : lv' = lv) (h3 : st' = st) : xa_At Γ ws pc lv st := by
  subst h1; subst h2; subst h3; exact k
theorem xa_iconst (G : xa_G Γ own cc r) {n : Int} {v : Int32} (hdg : decode cc pc = .ok (.iconst n, 1)) (hv : Int32.ofInt n = v) (k : xa_At Γ ws (pc + 1) lv (.int v :: st)) : xa_At Γ ws pc lv st := fun H locs ls hP hD hS hL => lv_iconst G.ex G.by hdg hv (k H locs ls hP hD hS hL)
theorem xa_bipush (G : xa_G Γ own cc r) {n : Int} {v : Int32} (hdg : decode cc pc = .ok (.bipush n, 2)) (hv : (Int8.ofInt n).toInt32 = v) (k : xa_At Γ ws (pc + 2) lv (.int v :: st)) : xa_At Γ ws pc lv st := fun H locs ls hP hD hS hL => lv_bipush G.ex G.by hdg hv (k H locs ls hP hD hS hL)
theorem xa_sipush (G : xa_G Γ own cc r) {n : Int} {v : Int32} (hdg : decode cc pc = .ok (.sipush n, 3)) (hv : (Int16.ofInt n).toInt32 = v) (k : xa_At Γ ws (pc + 3) lv (.int v :: st)) : xa_At Γ ws pc lv st := fun H locs ls hP hD hS hL => lv_sipush G.ex G.by hdg hv (k H locs ls hP hD hS hL)
theorem xa_lconst (G : xa_G Γ own cc r) {n : Fin 2} {v : Int64} (hdg : decode cc pc = .ok (.lconst n, 1)) (hv : Int64.ofNat (n : Nat) = v) (k : xa_At Γ ws (pc + 1) lv (.long v :: st)) : xa_At Γ ws pc lv st := fun H locs ls hP hD hS hL => lv_lconst G.ex G.by hdg hv (k H locs ls hP hD hS hL)
theorem xa_ldc2 (G : xa_G Γ own cc r) {ix : Nat} {v : Int64} (hw : Cond.constantLong own ix v ∈ w0) (hdg : decode cc pc = .ok (.ldc2_w ix, 3)) (k : xa_At Γ ws (pc + 3) lv (.long v :: st)) : xa_At Γ ws pc lv st := fun H locs ls hP hD hS hL => lv_ldc2 G.ex G.by G.ow (G.ts _ hw) hdg (k H locs ls hP hD hS hL)
theorem xa_ldc (G : xa_G Γ own cc r) {ix : Nat} {v : Int32} (hw : Cond.constant own ix v ∈ w0) (hdg : decode cc pc = .ok (.ldc ix, 2)) (k : xa_At Γ ws (pc + 2) lv (.int v :: st)) : xa_At Γ ws pc lv st := fun H locs ls hP hD hS hL => lv_ldc G.ex G.by G.ow (G.ts _ hw) hdg (k H locs ls hP hD hS hL)
theorem xa_iload_n (G : xa_G Γ own cc r) {j : Fin 4} {i : Nat} {x : Int32} (hdg : decode cc pc = .ok (.iload_n j, 1)) (hi : (j : Nat) = i) (hl : lv[i]? = some (some (.int x))) (k : xa_At Γ ws (pc + 1) lv (.int x :: st)) : xa_At Γ ws pc lv st := fun H locs ls hP hD hS hL => lv_iload_n G.ex G.by hdg hi (hL.rd hl) (k H locs ls hP hD hS hL)
theorem xa_iload (G : xa_G Γ own cc r) {i : Nat} {x : Int32} (hdg : decode cc pc = .ok (.iload i, 2)) (hl : lv[i]? = some (some (.int x))) (k : xa_At Γ ws (pc + 2) lv (.int x :: st)) : xa_At Γ ws pc lv st := fun H locs ls hP hD hS hL => lv_iload G.ex G.by hdg (hL.rd hl) (k H locs ls hP hD hS hL)
theorem xa_lload_n (G : xa_G Γ own cc r) {j : Fin 4} {i : Nat} {x : Int64} (hdg : decode cc pc = .ok (.lload_n j, 1)) (hi : (j : Nat) = i) (hl : lv[i]? = some (some (.long x))) (k : xa_At Γ ws (pc + 1) lv (.long x :: st)) : xa_At Γ ws pc lv st := fun H locs ls hP hD hS hL => lv_lload_n G.ex G.by hdg hi (hL.rd hl) (k H locs ls hP hD hS hL)
theorem xa_lload (G : xa_G Γ own cc r) {i : Nat} {x : Int64} (hdg : decode cc pc = .ok (.lload i, 2)) (hl : lv[i]? = some (some (.long x))) (k : xa_At Γ ws (pc + 2) lv (.long x :: st)) : xa_At Γ ws pc lv st := fun H locs ls hP hD hS hL => lv_lload G.ex G.by hdg (hL.rd hl) (k H locs ls hP hD hS hL)
theorem xa_aload_n (G : xa_G Γ own cc r) {j : Fin 4} {i : Nat} {x : Nat} (hdg : decode cc pc = .ok (.aload_n j, 1)) (hi : (j : Nat) = i) (hl : lv[i]? = some (some (.ref x))) (k : xa_At Γ ws (pc + 1) lv (.ref x :: st)) : xa_At Γ ws pc lv st := fun H locs ls hP hD hS hL => lv_aload_n G.ex G.by hdg hi (hL.rd hl) (k H locs ls hP hD hS hL)
theorem xa_istore_n (G : xa_G Γ own cc r) {j : Fin 4} {i : Nat} {x : Int32} (hdg : decode cc pc = .ok (.istore_n j, 1)) (hi : (j : Nat) = i) (ho : xa_ok lv i = true) (k : xa_At Γ ws (pc + 1) (lv.set i (some (.int x))) st) : xa_At Γ ws pc lv (.int x :: st) := fun H locs ls hP hD hS hL => lv_istore_n G.ex G.by hdg hi hL.has (by rw [← hL.2.2.1]; exact xa_ok_lt ho) rfl (fun ls' h => k H locs ls' hP hD hS (xa_L.set1 h hL.2.2.1 ho))
theorem xa_istore (G : xa_G Γ own cc r) {i : Nat} {x : Int32} (hdg : decode cc pc = .ok (.istore i, 2)) (ho : xa_ok lv i = true) (k : xa_At Γ ws (pc + 2) (lv.set i (some (.int x))) st) : xa_At Γ ws pc lv (.int x :: st) := fun H locs ls hP hD hS hL => lv_istore G.ex G.by hdg hL.has (by rw [← hL.2.2.1]; exact xa_ok_lt ho) rfl (fun ls' h => k H locs ls' hP hD hS (xa_L.set1 h hL.2.2.1 ho))
theorem xa_astore_n (G : xa_G Γ own cc r) {j : Fin 4} {i : Nat} {x : Nat} (hdg : decode cc pc = .ok (.astore_n j, 1)) (hi : (j : Nat) = i) (ho : xa_ok lv i = true) (k : xa_At Γ ws (pc + 1) (lv.set i (some (.ref x))) st) : xa_At Γ ws pc lv (.ref x :: st) := fun H locs ls hP hD hS hL => lv_astore_n G.ex G.by hdg hi hL.has (by rw [← hL.2.2.1]; exact xa_ok_lt ho) rfl (fun ls' h => k H locs ls' hP hD hS (xa_L.set1 h hL.2.2.1 ho))
theorem xa_lstore_n (G : xa_G Γ own cc r) {j : Fin 4} {i : Nat} {x : Int64} (hdg : decode cc pc = .ok (.lstore_n j, 1)) (hi : (j : Nat) = i) (ho : xa_ok lv i = true) (hn : Nat.blt (i + 1) lv.length = true) (k : xa_At Γ ws (pc + 1) ((lv.set i (some (.long x))).set (i + 1) none) st) : xa_At Γ ws pc lv (.long x :: st) := fun H locs ls hP hD hS hL => lv_lstore_n G.ex G.by hdg hi hL.has (by rw [← hL.2.2.1]; exact Nat.le_of_ble_eq_true hn) rfl (fun ls' h => k H locs ls' hP hD hS (xa_L.set2 h hL.2.2.1 ho))
theorem xa_lstore (G : xa_G Γ own cc r) {i : Nat} {x : Int64} (hdg : decode cc pc = .ok (.lstore i, 2)) (ho : xa_ok lv i = true) (hn : Nat.blt (i + 1) lv.length = true) (k : xa_At Γ ws (pc + 2) ((lv.set i (some (.long x))).set (i + 1) none) st) : xa_At Γ ws pc lv (.long x :: st) := fun H locs ls hP hD hS hL => lv_lstore G.ex G.by hdg hL.has (by rw [← hL.2.2.1]; exact Nat.le_of_ble_eq_true hn) rfl (fun ls' h => k H locs ls' hP hD hS (xa_L.set2 h hL.2.2.1 ho))
theorem xa_iinc (G : xa_G Γ own cc r) {i : Nat} {n : Int} {x v : Int32} (hdg : decode cc pc = .ok (.iinc i n, 3)) (hl : lv[i]? = some (some (.int x))) (ho : xa_ok lv i = true) (hv : x + Int32.ofInt n = v) (k : xa_At Γ ws (pc + 3) (lv.set i (some (.int v))) st) : xa_At Γ ws pc lv st := by
  intro H locs ls hP hD hS hL
  obtain ⟨p0, h0⟩ := List.getElem?_of_mem (xa_pr_mem.mpr hl)
  exact lv_iinc G.ex G.by hdg hL.has h0 hv (by rw [← hL.2.2.1]; exact xa_ok_lt ho) rfl (fun ls' h => k H locs ls' hP hD hS (xa_L.set1 h hL.2.2.1 ho))
theorem xa_iadd (G : xa_G Γ own cc r) {x y : Int32} (hdg : decode cc pc = .ok (.iadd, 1)) (k : xa_At Γ ws (pc + 1) lv (.int (x + y) :: st)) : xa_At Γ ws pc lv (.int y :: .int x :: st) := fun H locs ls hP hD hS hL => lv_iadd G.ex G.by hdg (k H locs ls hP hD hS hL)
theorem xa_isub (G : xa_G Γ own cc r) {x y : Int32} (hdg : decode cc pc = .ok (.isub, 1)) (k : xa_At Γ ws (pc + 1) lv (.int (x - y) :: st)) : xa_At Γ ws pc lv (.int y :: .int x :: st) := fun H locs ls hP hD hS hL => lv_isub G.ex G.by hdg (k H locs ls hP hD hS hL)
theorem xa_imul (G : xa_G Γ own cc r) {x y : Int32} (hdg : decode cc pc = .ok (.imul, 1)) (k : xa_At Γ ws (pc + 1) lv (.int (x * y) :: st)) : xa_At Γ ws pc lv (.int y :: .int x :: st) := fun H locs ls hP hD hS hL => lv_imul G.ex G.by hdg (k H locs ls hP hD hS hL)
theorem xa_iand (G : xa_G Γ own cc r) {x y : Int32} (hdg : decode cc pc = .ok (.iand, 1)) (k : xa_At Γ ws (pc + 1) lv (.int (x &&& y) :: st)) : xa_At Γ ws pc lv (.int y :: .int x :: st) := fun H locs ls hP hD hS hL => lv_iand G.ex G.by hdg (k H locs ls hP hD hS hL)
theorem xa_ishr (G : xa_G Γ own cc r) {x y : Int32} (hdg : decode cc pc = .ok (.ishr, 1)) (k : xa_At Γ ws (pc + 1) lv (.int (x >>> (y &&& 31)) :: st)) : xa_At Γ ws pc lv (.int y :: .int x :: st) := fun H locs ls hP hD hS hL => lv_ishr G.ex G.by hdg (k H locs ls hP hD hS hL)
theorem xa_ladd (G : xa_G Γ own cc r) {x y : Int64} (hdg : decode cc pc = .ok (.ladd, 1)) (k : xa_At Γ ws (pc + 1) lv (.long (x + y) :: st)) : xa_At Γ ws pc lv (.long y :: .long x :: st) := fun H locs ls hP hD hS hL => lv_ladd G.ex G.by hdg (k H locs ls hP hD hS hL)
theorem xa_lmul (G : xa_G Γ own cc r) {x y : Int64} (hdg : decode cc pc = .ok (.lmul, 1)) (k : xa_At Γ ws (pc + 1) lv (.long (x * y) :: st)) : xa_At Γ ws pc lv (.long y :: .long x :: st) := fun H locs ls hP hD hS hL => lv_lmul G.ex G.by hdg (k H locs ls hP hD hS hL)
theorem xa_land (G : xa_G Γ own cc r) {x y : Int64} (hdg : decode cc pc = .ok (.land, 1)) (k : xa_At Γ ws (pc + 1) lv (.long (x &&& y) :: st)) : xa_At Γ ws pc lv (.long y :: .long x :: st) := fun H locs ls hP hD hS hL => lv_land G.ex G.by hdg (k H locs ls hP hD hS hL)
theorem xa_lshl (G : xa_G Γ own cc r) {x v : Int64} {y : Int32} (hdg : decode cc pc = .ok (.lshl, 1)) (hv : x <<< (y.toInt64 &&& 63) = v) (k : xa_At Γ ws (pc + 1) lv (.long v :: st)) : xa_At Γ ws pc lv (.int y :: .long x :: st) := fun H locs ls hP hD hS hL => lv_lshl G.ex G.by hdg hv (k H locs ls hP hD hS hL)
theorem xa_i2l (G : xa_G Γ own cc r) {x : Int32} {v : Int64} (hdg : decode cc pc = .ok (.i2l, 1)) (hv : x.toInt64 = v) (k : xa_At Γ ws (pc + 1) lv (.long v :: st)) : xa_At Γ ws pc lv (.int x :: st) := fun H locs ls hP hD hS hL => lv_i2l G.ex G.by hdg hv (k H locs ls hP hD hS hL)
theorem xa_lcmp (G : xa_G Γ own cc r) {x y : Int64} (hdg : decode cc pc = .ok (.lcmp, 1)) (k : xa_At Γ ws (pc + 1) lv (.int (lg_cmp x y) :: st)) : xa_At Γ ws pc lv (.long y :: .long x :: st) := fun H locs ls hP hD hS hL => W.lcmp G.ex G.by hdg (k H locs ls hP hD hS hL)
theorem xa_dup (G : xa_G Γ own cc r) {v : Value} (hdg : decode cc pc = .ok (.dup, 1)) (hc : v.category = 1) (k : xa_At Γ ws (pc + 1) lv (v :: v :: st)) : xa_At Γ ws pc lv (v :: st) := fun H locs ls hP hD hS hL => lv_dup G.ex G.by hdg hc (k H locs ls hP hD hS hL)
theorem xa_goto (G : xa_G Γ own cc r) {off : Int} {tgt : Nat} (hdg : decode cc pc = .ok (.goto off, 3)) (ht : (pc : Int) + off = (tgt : Int)) (k : xa_At Γ ws tgt lv st) : xa_At Γ ws pc lv st := fun H locs ls hP hD hS hL => lv_goto G.ex G.by hdg ht (k H locs ls hP hD hS hL)
theorem xa_if_eq (G : xa_G Γ own cc r) {x : Int32} {off : Int} {tgt : Nat} (hdg : decode cc pc = .ok (.ifCond .eq off, 3)) (ht : (pc : Int) + off = (tgt : Int)) (kt : x = 0 → xa_At Γ ws tgt lv st) (kf : ¬ x = 0 → xa_At Γ ws (pc + 3) lv st) : xa_At Γ ws pc lv (.int x :: st) := fun H locs ls hP hD hS hL => lv_if_eq G.ex G.by hdg ht (fun h => kt h H locs ls hP hD hS hL) (fun h => kf h H locs ls hP hD hS hL)
theorem xa_if_ne (G : xa_G Γ own cc r) {x : Int32} {off : Int} {tgt : Nat} (hdg : decode cc pc = .ok (.ifCond .ne off, 3)) (ht : (pc : Int) + off = (tgt : Int)) (kt : ¬ x = 0 → xa_At Γ ws tgt lv st) (kf : x = 0 → xa_At Γ ws (pc + 3) lv st) : xa_At Γ ws pc lv (.int x :: st) := fun H locs ls hP hD hS hL => lv_if_ne G.ex G.by hdg ht (fun h => kt h H locs ls hP hD hS hL) (fun h => kf h H locs ls hP hD hS hL)
theorem xa_if_lt (G : xa_G Γ own cc r) {x : Int32} {off : Int} {tgt : Nat} (hdg : decode cc pc = .ok (.ifCond .lt off, 3)) (ht : (pc : Int) + off = (tgt : Int)) (kt : x < 0 → xa_At Γ ws tgt lv st) (kf : ¬ x < 0 → xa_At Γ ws (pc + 3) lv st) : xa_At Γ ws pc lv (.int x :: st) := fun H locs ls hP hD hS hL => lv_if_lt G.ex G.by hdg ht (fun h => kt h H locs ls hP hD hS hL) (fun h => kf h H locs ls hP hD hS hL)
theorem xa_if_ge (G : xa_G Γ own cc r) {x : Int32} {off : Int} {tgt : Nat} (hdg : decode cc pc = .ok (.ifCond .ge off, 3)) (ht : (pc : Int) + off = (tgt : Int)) (kt : 0 ≤ x → xa_At Γ ws tgt lv st) (kf : ¬ 0 ≤ x → xa_At Γ ws (pc + 3) lv st) : xa_At Γ ws pc lv (.int x :: st) := fun H locs ls hP hD hS hL => lv_if_ge G.ex G.by hdg ht (fun h => kt h H locs ls hP hD hS hL) (fun h => kf h H locs ls hP hD hS hL)
theorem xa_if_gt (G : xa_G Γ own cc r) {x : Int32} {off : Int} {tgt : Nat} (hdg : decode cc pc = .ok (.ifCond .gt off, 3)) (ht : (pc : Int) + off = (tgt : Int)) (kt : 0 < x → xa_At Γ ws tgt lv st) (kf : ¬ 0 < x → xa_At Γ ws (pc + 3) lv st) : xa_At Γ ws pc lv (.int x :: st) := fun H locs ls hP hD hS hL => lv_if_gt G.ex G.by hdg ht (fun h => kt h H locs ls hP hD hS hL) (fun h => kf h H locs ls hP hD hS hL)
theorem xa_if_le (G : xa_G Γ own cc r) {x : Int32} {off : Int} {tgt : Nat} (hdg : decode cc pc = .ok (.ifCond .le off, 3)) (ht : (pc : Int) + off = (tgt : Int)) (kt : x ≤ 0 → xa_At Γ ws tgt lv st) (kf : ¬ x ≤ 0 → xa_At Γ ws (pc + 3) lv st) : xa_At Γ ws pc lv (.int x :: st) := fun H locs ls hP hD hS hL => lv_if_le G.ex G.by hdg ht (fun h => kt h H locs ls hP hD hS hL) (fun h => kf h H locs ls hP hD hS hL)
theorem xa_icmp_eq (G : xa_G Γ own cc r) {x y : Int32} {off : Int} {tgt : Nat} (hdg : decode cc pc = .ok (.if_icmp .eq off, 3)) (ht : (pc : Int) + off = (tgt : Int)) (kt : x = y → xa_At Γ ws tgt lv st) (kf : ¬ x = y → xa_At Γ ws (pc + 3) lv st) : xa_At Γ ws pc lv (.int y :: .int x :: st) := fun H locs ls hP hD hS hL => lv_icmp_eq G.ex G.by hdg ht (fun h => kt h H locs ls hP hD hS hL) (fun h => kf h H locs ls hP hD hS hL)
theorem xa_icmp_ne (G : xa_G Γ own cc r) {x y : Int32} {off : Int} {tgt : Nat} (hdg : decode cc pc = .ok (.if_icmp .ne off, 3)) (ht : (pc : Int) + off = (tgt : Int)) (kt : ¬ x = y → xa_At Γ ws tgt lv st) (kf : x = y → xa_At Γ ws (pc + 3) lv st) : xa_At Γ ws pc lv (.int y :: .int x :: st) := fun H locs ls hP hD hS hL => lv_icmp_ne G.ex G.by hdg ht (fun h => kt h H locs ls hP hD hS hL) (fun h => kf h H locs ls hP hD hS hL)
theorem xa_icmp_lt (G : xa_G Γ own cc r) {x y : Int32} {off : Int} {tgt : Nat} (hdg : decode cc pc = .ok (.if_icmp .lt off, 3)) (ht : (pc : Int) + off = (tgt : Int)) (kt : x < y → xa_At Γ ws tgt lv st) (kf : ¬ x < y → xa_At Γ ws (pc + 3) lv st) : xa_At Γ ws pc lv (.int y :: .int x :: st) := fun H locs ls hP hD hS hL => lv_icmp_lt G.ex G.by hdg ht (fun h => kt h H locs ls hP hD hS hL) (fun h => kf h H locs ls hP hD hS hL)
theorem xa_icmp_ge (G : xa_G Γ own cc r) {x y : Int32} {off : Int} {tgt : Nat} (hdg : decode cc pc = .ok (.if_icmp .ge off, 3)) (ht : (pc : Int) + off = (tgt : Int)) (kt : y ≤ x → xa_At Γ ws tgt lv st) (kf : ¬ y ≤ x → xa_At Γ ws (pc + 3) lv st) : xa_At Γ ws pc lv (.int y :: .int x :: st) := fun H locs ls hP hD hS hL => lv_icmp_ge G.ex G.by hdg ht (fun h => kt h H locs ls hP hD hS hL) (fun h => kf h H locs ls hP hD hS hL)
theorem xa_icmp_gt (G : xa_G Γ own cc r) {x y : Int32} {off : Int} {tgt : Nat} (hdg : decode cc pc = .ok (.if_icmp .gt off, 3)) (ht : (pc : Int) + off = (tgt : Int)) (kt : y < x → xa_At Γ ws tgt lv st) (kf : ¬ y < x → xa_At Γ ws (pc + 3) lv st) : xa_At Γ ws pc lv (.int y :: .int x :: st) := fun H locs ls hP hD hS hL => lv_icmp_gt G.ex G.by hdg ht (fun h => kt h H locs ls hP hD hS hL) (fun h => kf h H locs ls hP hD hS hL)
theorem xa_icmp_le (G : xa_G Γ own cc r) {x y : Int32} {off : Int} {tgt : Nat} (hdg : decode cc pc = .ok (.if_icmp .le off, 3)) (ht : (pc : Int) + off = (tgt : Int)) (kt : x ≤ y → xa_At Γ ws tgt lv st) (kf : ¬ x ≤ y → xa_At Γ ws (pc + 3) lv st) : xa_At Γ ws pc lv (.int y :: .int x :: st) := fun H locs ls hP hD hS hL => lv_icmp_le G.ex G.by hdg ht (fun h => kt h H locs ls hP hD hS hL) (fun h => kf h H locs ls hP hD hS hL)
theorem xa_swIn (G : xa_G Γ own cc r) {dflt lo hi : Int} {offs : Array Int} {len : Nat} {x : Int32} {off : Int} {tgt : Nat} (hdg : decode cc pc = .ok (.tableswitch dflt lo hi offs, len)) (h1 : ¬ x.toInt < lo) (h2 : ¬ hi < x.toInt) (ho : offs[(x.toInt - lo).toNat]? = some off) (ht : (pc : Int) + off = (tgt : Int)) (k : xa_At Γ ws tgt lv st) : xa_At Γ ws pc lv (.int x :: st) := fun H locs ls hP hD hS hL => lv_tableIn G.ex G.by hdg h1 h2 ho ht (k H locs ls hP hD hS hL)
theorem xa_swOut (G : xa_G Γ own cc r) {dflt lo hi : Int} {offs : Array Int} {len : Nat} {x : Int32} {tgt : Nat} (hdg : decode cc pc = .ok (.tableswitch dflt lo hi offs, len)) (h : x.toInt < lo ∨ hi < x.toInt) (ht : (pc : Int) + dflt = (tgt : Int)) (k : xa_At Γ ws tgt lv st) : xa_At Γ ws pc lv (.int x :: st) := fun H locs ls hP hD hS hL => lv_tableOut G.ex G.by hdg h ht (k H locs ls hP hD hS hL)
-- numbers by Nat
theorem xa_addN (G : xa_G Γ own cc r) {a b : Nat} (hdg : decode cc pc = .ok (.iadd, 1)) (k : xa_At Γ ws (pc + 1) lv (.int (nI (a + b)) :: st)) : xa_At Γ ws pc lv (.int (nI b) :: .int (nI a) :: st) := xa_iadd G hdg (by rw [nI_add]; exact k)
theorem xa_subN (G : xa_G Γ own cc r) {a b : Nat} (hdg : decode cc pc = .ok (.isub, 1)) (h : b ≤ a) (k : xa_At Γ ws (pc + 1) lv (.int (nI (a - b)) :: st)) : xa_At Γ ws pc lv (.int (nI b) :: .int (nI a) :: st) := xa_isub G hdg (by rw [pk_sub h]; exact k)
theorem xa_mulN (G : xa_G Γ own cc r) {a b : Nat} (hdg : decode cc pc = .ok (.imul, 1)) (k : xa_At Γ ws (pc + 1) lv (.int (nI (a * b)) :: st)) : xa_At Γ ws pc lv (.int (nI b) :: .int (nI a) :: st) := xa_imul G hdg (by rw [pk_mul]; exact k)
theorem xa_hN {a : Nat} (h : a < 2 ^ 31) : nI a >>> (nI 1 &&& 31) = nI (a / 2) := by
  have := pk_shrN h (nI 1 &&& 31) 1 (by decide +kernel)
  rw [this]
theorem xa_shrN (G : xa_G Γ own cc r) {a : Nat} (hdg : decode cc pc = .ok (.ishr, 1)) (h : a < 2 ^ 31) (k : xa_At Γ ws (pc + 1) lv (.int (nI (a / 2)) :: st)) : xa_At Γ ws pc lv (.int (nI 1) :: .int (nI a) :: st) := xa_ishr G hdg (by rw [xa_hN h]; exact k)
theorem xa_laddN (G : xa_G Γ own cc r) {a b : Nat} (hdg : decode cc pc = .ok (.ladd, 1)) (k : xa_At Γ ws (pc + 1) lv (.long (lN (a + b)) :: st)) : xa_At Γ ws pc lv (.long (lN b) :: .long (lN a) :: st) := xa_ladd G hdg (by rw [lN_add]; exact k)
theorem xa_lmulN (G : xa_G Γ own cc r) {a b : Nat} (hdg : decode cc pc = .ok (.lmul, 1)) (k : xa_At Γ ws (pc + 1) lv (.long (lN (a * b)) :: st)) : xa_At Γ ws pc lv (.long (lN b) :: .long (lN a) :: st) := xa_lmul G hdg (by rw [lN_mul]; exact k)
theorem xa_i2lN (G : xa_G Γ own cc r) {a : Nat} (hdg : decode cc pc = .ok (.i2l, 1)) (h : a < 2 ^ 31) (k : xa_At Γ ws (pc + 1) lv (.long (lN a) :: st)) : xa_At Γ ws pc lv (.int (nI a) :: st) := xa_i2l G hdg (nI_l h) k
theorem xi_1 (a : Nat) : nI a + Int32.ofInt 1 = nI (a + 1) := nI_1 a
theorem xi_5 (a : Nat) : nI a + Int32.ofInt 5 = nI (a + 5) := nI_add a 5
theorem xi_8 (a : Nat) : nI a + Int32.ofInt 8 = nI (a + 8) := nI_add a 8
theorem xi_m1 {a : Nat} (h : 0 < a) : nI a + Int32.ofInt (-1) = nI (a - 1) := sb_m1 h
theorem xa_inc1 (G : xa_G Γ own cc r) {i a : Nat} (hdg : decode cc pc = .ok (.iinc i 1, 3)) (hl : lv[i]? = some (some (.int (nI a)))) (ho : xa_ok lv i = true) (k : xa_At Γ ws (pc + 3) (lv.set i (some (.int (nI (a + 1))))) st) : xa_At Γ ws pc lv st := xa_iinc G hdg hl ho (xi_1 a) k
theorem xa_ltN (G : xa_G Γ own cc r) {a b : Nat} {off : Int} {tgt : Nat} (hdg : decode cc pc = .ok (.if_icmp .lt off, 3)) (ht : (pc : Int) + off = (tgt : Int)) (ha : a < 2 ^ 31) (hb : b < 2 ^ 31) (kt : a < b → xa_At Γ ws tgt lv st) (kf : b ≤ a → xa_At Γ ws (pc + 3) lv st) : xa_At Γ ws pc lv (.int (nI b) :: .int (nI a) :: st) := xa_icmp_lt G hdg ht (fun h => kt ((nI_ltI ha hb).mp h)) (fun h => kf (Nat.le_of_not_lt (fun q => h ((nI_ltI ha hb).mpr q))))
theorem xa_geN (G : xa_G Γ own cc r) {a b : Nat} {off : Int} {tgt : Nat} (hdg : decode cc pc = .ok (.if_icmp .ge off, 3)) (ht : (pc : Int) + off = (tgt : Int)) (ha : a < 2 ^ 31) (hb : b < 2 ^ 31) (kt : b ≤ a → xa_At Γ ws tgt lv st) (kf : a < b → xa_At Γ ws (pc + 3) lv st) : xa_At Γ ws pc lv (.int (nI b) :: .int (nI a) :: st) := xa_icmp_ge G hdg ht (fun h => kt ((nI_leI hb ha).mp h)) (fun h => kf (Nat.lt_of_not_le (fun q => h ((nI_leI hb ha).mpr q))))
theorem xa_gtN (G : xa_G Γ own cc r) {a b : Nat} {off : Int} {tgt : Nat} (hdg : decode cc pc = .ok (.if_icmp .gt off, 3)) (ht : (pc : Int) + off = (tgt : Int)) (ha : a < 2 ^ 31) (hb : b < 2 ^ 31) (kt : b < a → xa_At Γ ws tgt lv st) (kf : a ≤ b → xa_At Γ ws (pc + 3) lv st) : xa_At Γ ws pc lv (.int (nI b) :: .int (nI a) :: st) := xa_icmp_gt G hdg ht (fun h => kt ((nI_ltI hb ha).mp h)) (fun h => kf (Nat.le_of_not_lt (fun q => h ((nI_ltI hb ha).mpr q))))
theorem xa_leN (G : xa_G Γ own cc r) {a b : Nat} {off : Int} {tgt : Nat} (hdg : decode cc pc = .ok (.if_icmp .le off, 3)) (ht : (pc : Int) + off = (tgt : Int)) (ha : a < 2 ^ 31) (hb : b < 2 ^ 31) (kt : a ≤ b → xa_At Γ ws tgt lv st) (kf : b < a → xa_At Γ ws (pc + 3) lv st) : xa_At Γ ws pc lv (.int (nI b) :: .int (nI a) :: st) := xa_icmp_le G hdg ht (fun h => kt ((nI_leI ha hb).mp h)) (fun h => kf (Nat.lt_of_not_le (fun q => h ((nI_leI ha hb).mpr q))))
theorem xa_eqN (G : xa_G Γ own cc r) {a b : Nat} {off : Int} {tgt : Nat} (hdg : decode cc pc = .ok (.if_icmp .eq off, 3)) (ht : (pc : Int) + off = (tgt : Int)) (ha : a < 2 ^ 31) (hb : b < 2 ^ 31) (kt : a = b → xa_At Γ ws tgt lv st) (kf : a ≠ b → xa_At Γ ws (pc + 3) lv st) : xa_At Γ ws pc lv (.int (nI b) :: .int (nI a) :: st) := xa_icmp_eq G hdg ht (fun h => kt ((nI_eq ha hb).mp h)) (fun h => kf (fun q => h ((nI_eq ha hb).mpr q)))
theorem xa_neN (G : xa_G Γ own cc r) {a b : Nat} {off : Int} {tgt : Nat} (hdg : decode cc pc = .ok (.if_icmp .ne off, 3)) (ht : (pc : Int) + off = (tgt : Int)) (ha : a < 2 ^ 31) (hb : b < 2 ^ 31) (kt : a ≠ b → xa_At Γ ws tgt lv st) (kf : a = b → xa_At Γ ws (pc + 3) lv st) : xa_At Γ ws pc lv (.int (nI b) :: .int (nI a) :: st) := xa_icmp_ne G hdg ht (fun h => kt (fun q => h ((nI_eq ha hb).mpr q))) (fun h => kf ((nI_eq ha hb).mp h))
theorem xa_z {a : Nat} (ha : a < 2 ^ 31) : nI a = 0 ↔ a = 0 := by
  constructor
  · intro h
    rcases Nat.eq_zero_or_pos a with q | q
    · exact q
    · exact absurd h (nI_ne0 q ha)
  · rintro rfl; exact nI_0
theorem xa_ifeqN (G : xa_G Γ own cc r) {a : Nat} {off : Int} {tgt : Nat} (hdg : decode cc pc = .ok (.ifCond .eq off, 3)) (ht : (pc : Int) + off = (tgt : Int)) (ha : a < 2 ^ 31) (kt : a = 0 → xa_At Γ ws tgt lv st) (kf : 0 < a → xa_At Γ ws (pc + 3) lv st) : xa_At Γ ws pc lv (.int (nI a) :: st) := xa_if_eq G hdg ht (fun h => kt ((xa_z ha).mp h)) (fun h => kf (Nat.pos_of_ne_zero (fun q => h ((xa_z ha).mpr q))))
theorem xa_ifneN (G : xa_G Γ own cc r) {a : Nat} {off : Int} {tgt : Nat} (hdg : decode cc pc = .ok (.ifCond .ne off, 3)) (ht : (pc : Int) + off = (tgt : Int)) (ha : a < 2 ^ 31) (kt : 0 < a → xa_At Γ ws tgt lv st) (kf : a = 0 → xa_At Γ ws (pc + 3) lv st) : xa_At Γ ws pc lv (.int (nI a) :: st) := xa_if_ne G hdg ht (fun h => kt (Nat.pos_of_ne_zero (fun q => h ((xa_z ha).mpr q)))) (fun h => kf ((xa_z ha).mp h))
theorem xa_ifleN (G : xa_G Γ own cc r) {a : Nat} {off : Int} {tgt : Nat} (hdg : decode cc pc = .ok (.ifCond .le off, 3)) (ht : (pc : Int) + off = (tgt : Int)) (ha : a < 2 ^ 31) (kt : a = 0 → xa_At Γ ws tgt lv st) (kf : 0 < a → xa_At Γ ws (pc + 3) lv st) : xa_At Γ ws pc lv (.int (nI a) :: st) := xa_if_le G hdg ht (fun h => kt (by
  rcases Nat.eq_zero_or_pos a with q | q
  · exact q
  · exact absurd h (nI_nle q ha))) (fun h => kf (Nat.pos_of_ne_zero (fun q => h (by subst q; decide +kernel))))
-- answers 0 and 1
theorem xa_ifeq0 (G : xa_G Γ own cc r) {off : Int} {tgt : Nat} (hdg : decode cc pc = .ok (.ifCond .eq off, 3)) (ht : (pc : Int) + off = (tgt : Int)) (kt : xa_At Γ ws tgt lv st) : xa_At Γ ws pc lv (.int 0 :: st) := xa_if_eq G hdg ht (fun _ => kt) (fun h => absurd rfl h)
theorem xa_ifeq1 (G : xa_G Γ own cc r) {off : Int} {tgt : Nat} (hdg : decode cc pc = .ok (.ifCond .eq off, 3)) (ht : (pc : Int) + off = (tgt : Int)) (kf : xa_At Γ ws (pc + 3) lv st) : xa_At Γ ws pc lv (.int 1 :: st) := xa_if_eq G hdg ht (fun h => absurd h (by decide)) (fun _ => kf)
theorem xa_ifne1 (G : xa_G Γ own cc r) {off : Int} {tgt : Nat} (hdg : decode cc pc = .ok (.ifCond .ne off, 3)) (ht : (pc : Int) + off = (tgt : Int)) (kt : xa_At Γ ws tgt lv st) : xa_At Γ ws pc lv (.int 1 :: st) := xa_if_ne G hdg ht (fun _ => kt) (fun h => absurd h (by decide))
theorem xa_ifne0 (G : xa_G Γ own cc r) {off : Int} {tgt : Nat} (hdg : decode cc pc = .ok (.ifCond .ne off, 3)) (ht : (pc : Int) + off = (tgt : Int)) (kf : xa_At Γ ws (pc + 3) lv st) : xa_At Γ ws pc lv (.int 0 :: st) := xa_if_ne G hdg ht (fun h => absurd rfl h) (fun _ => kf)
end XROWS
end
section
/-! CONTRACTS over a world (xa_Mi: int or boolean, xa_Mv: void), their proof from xa_At, and their use at a call -/
def xa_r (r : Nat) : Room := { frames := r, cells := 0, slots := 0, locals := 64 * r }
def xa_P (D : va_G) (sz : Nat) (tys : List (ClassId × FieldType)) (ws : va_W) : State → Prop := fun U => U.heap.size = sz ∧ va_P D classes ws U.heap ∧ va_K D classes tys U ∧ va_D (fun _ => True) ws ∧ xa_N U
def xa_B {S : Type} (D : va_G) (sz : Nat) (tys : List (ClassId × FieldType)) (ws : va_W) (wf : S → va_W) : S → State → Prop := fun u t => va_P D classes (wf u) t.heap ∧ va_K D classes tys t ∧ va_D (va_A ws sz) (wf u)
def xa_Mi {S : Type} (l : Launch) (y : MethodName) (b : ByteArray) (maxL : Nat) (ret : Option FieldType) (r : Nat) (tys : List (ClassId × FieldType)) (av : List Value) (ws : va_W) (wf : S → va_W) (post : Int32 → S → Prop) : Prop :=
  ∀ (D : va_G) (sz : Nat), Met l y (Cond.code y b maxL ret :: w0) (xa_r r) (va_Pc av (xa_P D sz tys ws)) (va_Qi post (xa_B D sz tys ws wf) (va_A ws sz)) 0 0 (va_A ws sz)
def xa_Mv {S : Type} (l : Launch) (y : MethodName) (b : ByteArray) (maxL : Nat) (r : Nat) (tys : List (ClassId × FieldType)) (av : List Value) (ws : va_W) (wf : S → va_W) (post : S → Prop) : Prop :=
  ∀ (D : va_G) (sz : Nat), Met l y (Cond.code y b maxL none :: w0) (xa_r r) (va_Pc av (xa_P D sz tys ws)) (va_Qv post (xa_B D sz tys ws wf) (va_A ws sz)) 0 0 (va_A ws sz)
theorem xa_P.blind {D : va_G} {sz : Nat} {tys : List (ClassId × FieldType)} {ws : va_W} {av : List Value} : FrameBlind (va_Pc av (xa_P D sz tys ws)) := by
  intro a U g mk q
  obtain ⟨q0, q1, qP, qK, qD, qN⟩ := q
  exact ⟨q0, q1, qP, va_K.moved (u := U) (U := U.calling g mk a) (Vm.Alike.refl U.vm) qK, qD, qN.same rfl⟩
set_option maxHeartbeats 1000000 in
theorem xa_Mi.of {S : Type} {l : Launch} {y : MethodName} {b : ByteArray} {maxL : Nat} {ty : FieldType} {r : Nat} {tys : List (ClassId × FieldType)} {av : List Value} {ws : va_W} {wf : S → va_W} {post : Int32 → S → Prop} (lv0 : List (Option Value)) (hy : plainName y.cls = true) (hav : av.all (fun v => v.category == 1) = true) (hlen : Nat.ble av.length maxL = true) (hlv : av.map some ++ List.replicate (maxL - av.length) none = lv0)
    (body : ∀ Γ : xa_C, xa_G Γ y.cls b r → va_K (xD Γ) classes tys (xs Γ) → (∀ (pc : Nat) (lv : List (Option Value)) (v : Int32) (u : S), decode b pc = .ok (.ireturn, 1) → narrow ty (.int v) = .int v → post v u → xa_At Γ (wf u) pc lv [.int v]) → xa_At Γ ws 0 lv0 []) : xa_Mi l y b maxL (some ty) r tys av ws wf post := by
  intro D sz
  refine Met.ofW (cc := b) (maxL := maxL) (ret := some ty) hy rfl ?_
  intro p e s m args below meth c s₁ B hml hv
  obtain ⟨rfl, hsz, hP, hK, hD0, hN⟩ := hv
  subst hsz
  have hts0 := atoms_spec (ws := Cond.code y b maxL (some ty) :: w0) B.pre
  have hown : s.vm.findClass y.cls = some m.cls := findClass_of_methodNamed B.named
  have hD := hD0.self (sz := s.heap.size)
  have hlocks := B.notSynchronized
  rw [lg_entry_eq]
  have hL := xa_L.entry av (fun v hv => eq_of_beq (List.all_eq_true.mp hav v hv)) (n := maxL) (Nat.le_of_ble_eq_true hlen)
  rw [hlv] at hL
  refine body ((p, l, e, (headSpec (Cond.code y b maxL (some ty) :: w0) (xa_r r)).room, s, m, av.toArray, below), (meth, c, MQ below (va_Qi post (xa_B D s.heap.size tys ws wf) (va_A ws s.heap.size)) av.toArray s 0 0 (va_A ws s.heap.size), 0, 0), (va_A ws s.heap.size, D, maxL)) ⟨B.exec, B.bytes, hml, hown, fun w hw => hts0 w (List.mem_cons_of_mem _ hw), fun q h => Or.inr h, hN, ⟨Nat.le_refl _, Nat.le_refl _⟩, Nat.zero_le _, Nat.zero_le _⟩ hK ?_ s.heap [] _ hP hD va_S.rf hL
  intro pc lv v u hdg hn hp H locs ls hP1 hD1 hS1 hL1
  exact W.zret (ty := ty) B.exec B.bytes B.returns hn (fun t ht hW => ⟨⟨v, u, rfl, hp, by rw [ht]; exact hP1, va_K.moved hW.alike hK, hD1⟩, hS1.F ht⟩) hS1.2.2 hdg
set_option maxHeartbeats 1000000 in
theorem xa_Mv.of {S : Type} {l : Launch} {y : MethodName} {b : ByteArray} {maxL : Nat} {r : Nat} {tys : List (ClassId × FieldType)} {av : List Value} {ws : va_W} {wf : S → va_W} {post : S → Prop} (lv0 : List (Option Value)) (hy : plainName y.cls = true) (hav : av.all (fun v => v.category == 1) = true) (hlen : Nat.ble av.length maxL = true) (hlv : av.map some ++ List.replicate (maxL - av.length) none = lv0)
    (body : ∀ Γ : xa_C, xa_G Γ y.cls b r → va_K (xD Γ) classes tys (xs Γ) → (∀ (pc : Nat) (lv : List (Option Value)) (u : S), decode b pc = .ok (.return_, 1) → post u → xa_At Γ (wf u) pc lv []) → xa_At Γ ws 0 lv0 []) : xa_Mv l y b maxL r tys av ws wf post := by
  intro D sz
  refine Met.ofW (cc := b) (maxL := maxL) (ret := none) hy rfl ?_
  intro p e s m args below meth c s₁ B hml hv
  obtain ⟨rfl, hsz, hP, hK, hD0, hN⟩ := hv
  subst hsz
  have hts0 := atoms_spec (ws := Cond.code y b maxL none :: w0) B.pre
  have hown : s.vm.findClass y.cls = some m.cls := findClass_of_methodNamed B.named
  have hD := hD0.self (sz := s.heap.size)
  have hlocks := B.notSynchronized
  rw [lg_entry_eq]
  have hL := xa_L.entry av (fun v hv => eq_of_beq (List.all_eq_true.mp hav v hv)) (n := maxL) (Nat.le_of_ble_eq_true hlen)
  rw [hlv] at hL
  refine body ((p, l, e, (headSpec (Cond.code y b maxL none :: w0) (xa_r r)).room, s, m, av.toArray, below), (meth, c, MQ below (va_Qv post (xa_B D s.heap.size tys ws wf) (va_A ws s.heap.size)) av.toArray s 0 0 (va_A ws s.heap.size), 0, 0), (va_A ws s.heap.size, D, maxL)) ⟨B.exec, B.bytes, hml, hown, fun w hw => hts0 w (List.mem_cons_of_mem _ hw), fun q h => Or.inr h, hN, ⟨Nat.le_refl _, Nat.le_refl _⟩, Nat.zero_le _, Nat.zero_le _⟩ hK ?_ s.heap [] _ hP hD va_S.rf hL
  intro pc lv u hdg hp H locs ls hP1 hD1 hS1 hL1
  exact W.vret B.exec B.bytes B.returns (fun t ht hW => ⟨⟨u, rfl, hp, by rw [ht]; exact hP1, va_K.moved hW.alike hK, hD1⟩, hS1.F ht⟩) hS1.2.2 hdg
-- parts of a world
theorem xa_Dap {A : Nat → Prop} {w1 w2 : va_W} (h : va_D A (w1 ++ w2)) : va_D A w1 ∧ va_D A w2 ∧ ∀ (i j : Nat) (p q : Nat × va_E), w1[i]? = some p → w2[j]? = some q → p.1 ≠ q.1 := by
  have l1 : ∀ (i : Nat) (p : Nat × va_E), w1[i]? = some p → i < w1.length ∧ (w1 ++ w2)[i]? = some p := fun i p hp => by
    have hl := (List.getElem?_eq_some_iff.mp hp).1
    exact ⟨hl, by rw [List.getElem?_append_left hl]; exact hp⟩
  have l2 : ∀ (j : Nat) (q : Nat × va_E), w2[j]? = some q → (w1 ++ w2)[w1.length + j]? = some q := fun j q hq => by
    rw [List.getElem?_append_right (Nat.le_add_right _ _), Nat.add_sub_cancel_left]; exact hq
  refine ⟨⟨fun i j p q hp hq e => h.1 i j p q (l1 i p hp).2 (l1 j q hq).2 e, fun k q hk => h.2 k q (l1 k q hk).2⟩, ⟨fun i j p q hp hq e => ?_, fun k q hk => h.2 _ q (l2 k q hk)⟩, fun i j p q hp hq e => ?_⟩
  · have := h.1 _ _ p q (l2 i p hp) (l2 j q hq) e
    omega
  · have := h.1 _ _ p q (l1 i p hp).2 (l2 j q hq) e
    have := (l1 i p hp).1
    omega
theorem xa_Pap {D : va_G} {cl : List vw_C} {w1 w2 : va_W} {H : Heap} (h : va_P D cl (w1 ++ w2) H) : va_P D cl w1 H ∧ va_P D cl w2 H := by
  refine ⟨fun k q hk => h k q ?_, fun k q hk => h (w1.length + k) q ?_⟩
  · rw [List.getElem?_append_left (List.getElem?_eq_some_iff.mp hk).1]; exact hk
  · rw [List.getElem?_append_right (Nat.le_add_right _ _), Nat.add_sub_cancel_left]; exact hk
/-- a callee's world wc within ws; 'out': what stands behind the call -/
def xa_J (D : va_G) (A : Nat → Prop) (ws wc : va_W) (out : va_W → va_W) : Prop := (∀ H, va_P D classes ws H → va_P D classes wc H) ∧ (va_D A ws → va_D A wc) ∧ ∀ (H H1 : Heap) (w1 : va_W), va_P D classes ws H → va_D A ws → (∀ q : Nat, q < H.size → ¬ va_A wc H.size q → H1[q]? = H[q]?) → (∀ q, va_A wc H.size q → A q) → va_P D classes w1 H1 → va_D (va_A wc H.size) w1 → va_P D classes (out w1) H1 ∧ va_D A (out w1)
theorem xa_J.own {D : va_G} {A : Nat → Prop} {ws : va_W} : xa_J D A ws ws (fun w => w) := ⟨fun _ h => h, fun h => h, fun H H1 w1 _ _ _ hF hP1 hD1 => ⟨hP1, hD1.weaken (fun k q _ h => hF q.1 h)⟩⟩
theorem xa_J.pure {D : va_G} {A : Nat → Prop} {ws : va_W} : xa_J D A ws [] (fun _ => ws) := by
  refine ⟨fun H _ k q h => by simp at h, fun _ => ⟨fun i j p q h => by simp at h, fun k q h => by simp at h⟩, fun H H1 w1 hP hD hk hF hP1 hD1 => ⟨hP.kept (fun k q hq => hk q.1 (hP k q hq).lt (fun z => ?_)), hD⟩⟩
  rcases z with ⟨k2, e, h⟩ | h
  · simp at h
  · have := (hP k q hq).lt; omega
theorem xa_J.left {D : va_G} {A : Nat → Prop} {wc wp : va_W} : xa_J D A (wc ++ wp) wc (fun w => w ++ wp) := by
  refine ⟨fun H h => (xa_Pap h).1, fun h => (xa_Dap h).1, fun H H1 w1 hP hD hk hF hP1 hD1 => ?_⟩
  obtain ⟨d1, d2, d3⟩ := xa_Dap hD
  have hPp := (xa_Pap hP).2
  have apart : ∀ (k : Nat) (q : Nat × va_E), wp[k]? = some q → ¬ va_A wc H.size q.1 := fun k q hq z => by
    rcases z with ⟨k2, e, h⟩ | h
    · exact d3 k2 k (q.1, e) q h hq rfl
    · have := (hPp k q hq).lt; omega
  exact ⟨hP1.app (hPp.kept (fun k q hq => hk q.1 (hPp k q hq).lt (apart k q hq))), va_D.app (hD1.weaken (fun k q _ h => hF q.1 h)) d2 (fun i j p q hp hq e => apart j q hq (by rw [← e]; exact hD1.2 i p hp))⟩
theorem xa_J.right {D : va_G} {A : Nat → Prop} {wc wp : va_W} : xa_J D A (wp ++ wc) wc (fun w => wp ++ w) := by
  refine ⟨fun H h => (xa_Pap h).2, fun h => (xa_Dap h).2.1, fun H H1 w1 hP hD hk hF hP1 hD1 => ?_⟩
  obtain ⟨d1, d2, d3⟩ := xa_Dap hD
  have hPp := (xa_Pap hP).1
  have apart : ∀ (k : Nat) (q : Nat × va_E), wp[k]? = some q → ¬ va_A wc H.size q.1 := fun k q hq z => by
    rcases z with ⟨k2, e, h⟩ | h
    · exact d3 k k2 q (q.1, e) hq h rfl
    · have := (hPp k q hq).lt; omega
  exact ⟨va_P.app (hPp.kept (fun k q hq => hk q.1 (hPp k q hq).lt (apart k q hq))) hP1, va_D.app d1 (hD1.weaken (fun k q _ h => hF q.1 h)) (fun i j p q hp hq e => apart i p hp (by rw [e]; exact hD1.2 j q hq))⟩
section XCALL
variable {Γ : xa_C} {own : String} {cc : ByteArray} {r0 : Nat} {ws wc : va_W} {out : va_W → va_W} {pc : Nat} {lv : List (Option Value)} {st0 st As : List Value} {S : Type} {y : MethodName} {b : ByteArray} {maxL r n ix q : Nat} {ret : Option FieldType} {tys : List (ClassId × FieldType)} {wf : S → va_W}
theorem xa_Fc {H : Heap} {locs : List Loc} (G : xa_G Γ own cc r0) (hD : va_D (xA Γ) wc) (hS : va_S (xA Γ) (xs Γ).heap H locs) : ∀ q, va_A wc H.size q → xA Γ q := fun q h => by
  rcases h with ⟨k, e, h⟩ | h
  · exact hD.2 k (q, e) h
  · exact G.hA q (Nat.le_trans hS.1 h)
theorem xa_cw (G : xa_G Γ own cc r0) (kv : ck_v own ix y b maxL ret n) (hr : r + 1 ≤ r0) (hm : maxL ≤ 45) : CallW (xR Γ) (xs Γ) (xg Γ) own y.cls ix y b maxL ret (Cond.code y b maxL ret :: w0) (xa_r r) 0 0 n := by
  obtain ⟨k1, k2, k3, k4, k5, k6, k7, k8⟩ := kv
  have hR := G.rm
  exact ⟨⟨rfl, rfl, by show r + 1 ≤ _; omega, by show 8 + (maxL + 11) + 64 * r ≤ _; omega, pay_in G.ts (w0_good k1), List.mem_cons_self, G.ts _ k1, G.ts _ k2, ⟨k4, k5⟩, fun sig h => by rw [h] at k6; exact (Option.some.inj k6).symm, G.ts _ k3⟩, G.ts _ k7, G.ts _ k8⟩
theorem xa_cs (G : xa_G Γ own cc r0) (kv : ck_s own ix y b maxL ret n) (hr : r + 1 ≤ r0) (hm : maxL ≤ 45) : CallB (xR Γ) (xs Γ) (xg Γ) own ix y b maxL ret (Cond.code y b maxL ret :: w0) (xa_r r) 0 0 n ∧ (Cond.static y).before (xg Γ) (xs Γ) = true := by
  obtain ⟨k1, k2, k3, k4, k5, k6, k7⟩ := kv
  have hR := G.rm
  exact ⟨⟨rfl, rfl, by show r + 1 ≤ _; omega, by show 8 + (maxL + 11) + 64 * r ≤ _; omega, pay_in G.ts (w0_good k1), List.mem_cons_self, G.ts _ k1, G.ts _ k2, ⟨k4, k5⟩, fun sig h => by rw [h] at k6; exact (Option.some.inj k6).symm, G.ts _ k3⟩, G.ts _ k7⟩
set_option maxHeartbeats 1000000 in
/-- a virtual call that answers an int -/
theorem xa_calli {post : Int32 → S → Prop} (G : xa_G Γ own cc r0) (K : va_K (xD Γ) classes tys (xs Γ)) (J : xa_J (xD Γ) (xA Γ) ws wc out) (kv : ck_v own ix y b maxL ret n) (M : xa_Mi (xl Γ) y b maxL ret r tys (.ref q :: As) wc wf post) {ci : Nat} {fs : List Value} {qc : vw_C} (hq : wc[0]? = some (q, .inr (ci, fs))) (hc : classes[ci]? = some qc) (hcy : qc.1 = y.cls)
    (hr : r + 1 ≤ r0) (hm : maxL ≤ 45) (hn : As.length = n) (hst : st0 = As.reverse ++ .ref q :: st) (hcat : (st.map fun v => v.category).sum ≤ 8) (hdg : decode cc pc = .ok (.invokevirtual ix, 3)) (kk : ∀ (v : Int32) (u : S), post v u → xa_At Γ (out (wf u)) (pc + 3) lv (.int v :: st)) : xa_At Γ ws pc lv st0 := by
  intro H locs ls hP hD hS hL
  subst hst
  have hPc := J.1 H hP
  have hDc := J.2.1 hD
  have hFc := xa_Fc G hDc hS
  have hrecv := va_recv K hPc hc hq
  rw [hcy] at hrecv
  refine va_calli (va_runV (As := As) (rest := st) ⟨G.ex, G.by, G.ml, G.ow, G.ts⟩ (M (xD Γ) H.size) (xa_cw G kv hr hm) ⟨xa_P.blind, hrecv, fun U hU hW => ⟨rfl, by rw [hU], by rw [hU]; exact hPc, va_K.moved hW.alike K, hDc.weaken (fun _ _ _ _ => trivial), G.nw.warm hW⟩⟩ rfl hn hL.1 rfl (lv_room hcat) hdg ⟨G.cs.1, G.cs.2⟩) hS (fun q _ h => hFc q h) hFc (fun v u t H1 locs1 ht hvm hw hB hz1 hk1 hS1 => ?_)
  obtain ⟨hP1, hK1, hD1⟩ := hB
  rw [ht] at hP1
  obtain ⟨hP2, hD2⟩ := J.2.2 H H1 _ hP hD hk1 hFc hP1 hD1
  exact kk v u hw H1 locs1 ls hP2 hD2 hS1 hL
set_option maxHeartbeats 1000000 in
/-- a virtual call that answers nothing -/
theorem xa_callv {post : S → Prop} (G : xa_G Γ own cc r0) (K : va_K (xD Γ) classes tys (xs Γ)) (J : xa_J (xD Γ) (xA Γ) ws wc out) (kv : ck_v own ix y b maxL none n) (M : xa_Mv (xl Γ) y b maxL r tys (.ref q :: As) wc wf post) {ci : Nat} {fs : List Value} {qc : vw_C} (hq : wc[0]? = some (q, .inr (ci, fs))) (hc : classes[ci]? = some qc) (hcy : qc.1 = y.cls)
    (hr : r + 1 ≤ r0) (hm : maxL ≤ 45) (hn : As.length = n) (hst : st0 = As.reverse ++ .ref q :: st) (hcat : (st.map fun v => v.category).sum ≤ 8) (hdg : decode cc pc = .ok (.invokevirtual ix, 3)) (kk : ∀ (u : S), post u → xa_At Γ (out (wf u)) (pc + 3) lv st) : xa_At Γ ws pc lv st0 := by
  intro H locs ls hP hD hS hL
  subst hst
  have hPc := J.1 H hP
  have hDc := J.2.1 hD
  have hFc := xa_Fc G hDc hS
  have hrecv := va_recv K hPc hc hq
  rw [hcy] at hrecv
  refine va_callv (va_runV (As := As) (rest := st) ⟨G.ex, G.by, G.ml, G.ow, G.ts⟩ (M (xD Γ) H.size) (xa_cw G kv hr hm) ⟨xa_P.blind, hrecv, fun U hU hW => ⟨rfl, by rw [hU], by rw [hU]; exact hPc, va_K.moved hW.alike K, hDc.weaken (fun _ _ _ _ => trivial), G.nw.warm hW⟩⟩ rfl hn hL.1 rfl (lv_room hcat) hdg ⟨G.cs.1, G.cs.2⟩) hS (fun q _ h => hFc q h) hFc (fun u t H1 locs1 ht hvm hw hB hz1 hk1 hS1 => ?_)
  obtain ⟨hP1, hK1, hD1⟩ := hB
  rw [ht] at hP1
  obtain ⟨hP2, hD2⟩ := J.2.2 H H1 _ hP hD hk1 hFc hP1 hD1
  exact kk u hw H1 locs1 ls hP2 hD2 hS1 hL
set_option maxHeartbeats 1000000 in
/-- a static call of a function without a world -/
theorem xa_calls {post : Int32 → Unit → Prop} (G : xa_G Γ own cc r0) (K : va_K (xD Γ) classes tys (xs Γ)) (kv : ck_s own ix y b maxL ret n) (M : xa_Mi (xl Γ) y b maxL ret r [] As [] (fun _ : Unit => []) post)
    (hr : r + 1 ≤ r0) (hm : maxL ≤ 45) (hn : As.length = n) (hst : st0 = As.reverse ++ st) (hcat : (st.map fun v => v.category).sum ≤ 8) (hdg : decode cc pc = .ok (.invokestatic ix, 3)) (kk : ∀ (v : Int32), post v () → xa_At Γ ws (pc + 3) lv (.int v :: st)) : xa_At Γ ws pc lv st0 := by
  intro H locs ls hP hD hS hL
  subst hst
  have J : xa_J (xD Γ) (xA Γ) ws [] (fun _ => ws) := xa_J.pure
  have hPc := J.1 H hP
  have hDc := J.2.1 hD
  have hFc := xa_Fc G hDc hS
  have K0 : va_K (xD Γ) classes [] (xs Γ) := K.sub [] rfl
  refine va_calli (va_runS (As := As) (rest := st) ⟨G.ex, G.by, G.ml, G.ow, G.ts⟩ (M (xD Γ) H.size) (xa_cs G kv hr hm) ⟨xa_P.blind, fun U hU hW => ⟨rfl, by rw [hU], by rw [hU]; exact hPc, va_K.moved hW.alike K0, hDc.weaken (fun _ _ _ _ => trivial), G.nw.warm hW⟩⟩ rfl hn hL.1 rfl (lv_room hcat) hdg ⟨G.cs.1, G.cs.2⟩) hS (fun q _ h => hFc q h) hFc (fun v u t H1 locs1 ht hvm hw hB hz1 hk1 hS1 => ?_)
  obtain ⟨hP1, hK1, hD1⟩ := hB
  rw [ht] at hP1
  obtain ⟨hP2, hD2⟩ := J.2.2 H H1 _ hP hD hk1 hFc hP1 hD1
  exact kk v hw H1 locs1 ls hP2 hD2 hS1 hL
set_option maxHeartbeats 1000000 in
/-- order.compare(..) on a receiver of class C, that selects y -/
theorem xa_callu {post : Int32 → Unit → Prop} {C : String} (G : xa_G Γ "RowPress" cc r0) (K : va_K (xD Γ) classes tys (xs Γ)) (k1 : Cond.code y b maxL ret ∈ w0) (k2 : Cond.initialized y.cls ∈ w0) (k3 : Cond.selects C y_O_compare y ∈ w0) (k4 : Cond.instanceMethod y ∈ w0) (M : xa_Mi (xl Γ) y b maxL ret r [] (.ref q :: As) [] (fun _ : Unit => []) post) (p0 : Nat) {ci : Nat} {fs : List Value} {qc : vw_C} (hq : ws[p0]? = some (q, .inr (ci, fs))) (hc : classes[ci]? = some qc) (hcy : qc.1 = C)
    (hr : r + 1 ≤ r0) (hm : maxL ≤ 45) (hn : As.length = 2) (hst : st0 = As.reverse ++ .ref q :: st) (hcat : (st.map fun v => v.category).sum ≤ 8) (hdg : decode cc pc = .ok (.invokevirtual 66, 3)) (kk : ∀ (v : Int32), post v () → xa_At Γ ws (pc + 3) lv (.int v :: st)) : xa_At Γ ws pc lv st0 := by
  intro H locs ls hP hD hS hL
  subst hst
  have J : xa_J (xD Γ) (xA Γ) ws [] (fun _ => ws) := xa_J.pure
  have hPc := J.1 H hP
  have hDc := J.2.1 hD
  have hFc := xa_Fc G hDc hS
  have hrecv := va_recv K hP hc hq
  rw [hcy] at hrecv
  have K0 : va_K (xD Γ) classes [] (xs Γ) := K.sub [] rfl
  have hR := G.rm
  have cu : va_CU (xR Γ) (xs Γ) (xg Γ) "RowPress" C "RowPress$Order" 66 y_O_compare y b maxL ret (Cond.code y b maxL ret :: w0) (xa_r r) 0 0 2 := ⟨⟨rfl, rfl, by show r + 1 ≤ _; omega, by show 8 + (maxL + 11) + 64 * r ≤ _; omega, pay_in G.ts (w0_good k1), List.mem_cons_self⟩, G.ts _ k1, G.ts _ k2, ⟨by decide +kernel, by decide +kernel⟩, fun sig h => by
    have h2 : (parseMethodDescriptor y_O_compare.desc).map (fun d => d.parameters.length) = some 2 := by decide +kernel
    rw [h] at h2
    exact (Option.some.inj h2).symm, G.ts _ ml_R_66, G.ts _ sm_O_compare, va_Decl.abs G.nw.2.1, G.ts _ k3, G.ts _ k4⟩
  refine va_calli (va_runU (As := As) (rest := st) ⟨G.ex, G.by, G.ml, G.ow, G.ts⟩ (M (xD Γ) H.size) cu ⟨xa_P.blind, hrecv, fun U hU hW => ⟨rfl, by rw [hU], by rw [hU]; exact hPc, va_K.moved hW.alike K0, hDc.weaken (fun _ _ _ _ => trivial), G.nw.warm hW⟩⟩ rfl hn hL.1 rfl (lv_room hcat) hdg ⟨G.cs.1, G.cs.2⟩) hS (fun q _ h => hFc q h) hFc (fun v u t H1 locs1 ht hvm hw hB hz1 hk1 hS1 => ?_)
  obtain ⟨hP1, hK1, hD1⟩ := hB
  rw [ht] at hP1
  obtain ⟨hP2, hD2⟩ := J.2.2 H H1 _ hP hD hk1 hFc hP1 hD1
  exact kk v hw H1 locs1 ls hP2 hD2 hS1 hL
end XCALL
end
section
/-! THE WORLDS: xw (a RowPress: 8 cells), mw (a RowPressModel: 5 cells); pairs (key, tag) by one function; rows for their fields and arrays -/
abbrev xE : Type := Int32 × Int32
def xuK (f : Nat → xE) (k : Nat) (x : Int32) : Nat → xE := fun j => if j = k then (x, (f j).2) else f j
def xuT (f : Nat → xE) (k : Nat) (x : Int32) : Nat → xE := fun j => if j = k then ((f j).1, x) else f j
theorem xuK_1 (f : Nat → xE) (k : Nat) (x : Int32) : upd (fun j => (f j).1) k x = (fun j => (xuK f k x j).1) := by
  funext j; by_cases h : j = k <;> simp [upd, xuK, h]
theorem xuK_2 (f : Nat → xE) (k : Nat) (x : Int32) : (fun j => (f j).2) = (fun j => (xuK f k x j).2) := by
  funext j; by_cases h : j = k <;> simp [xuK, h]
theorem xuT_1 (f : Nat → xE) (k : Nat) (x : Int32) : (fun j => (f j).1) = (fun j => (xuT f k x j).1) := by
  funext j; by_cases h : j = k <;> simp [xuT, h]
theorem xuT_2 (f : Nat → xE) (k : Nat) (x : Int32) : upd (fun j => (f j).2) k x = (fun j => (xuT f k x j).2) := by
  funext j; by_cases h : j = k <;> simp [upd, xuT, h]
def xw' (a : Nat → Nat) (cI cO : ClassId) (n o c w ms : Nat) (fk ft : Nat → Int32) : va_W := [
  (a 0, .inr (0, [.ref (a 1), .ref (a 2), .ref (a 3), .int (nI n), .ref (a (4 + o)), .long (lN c), .long (lN w), .int (nI ms)])),
  (a 1, .inl (cO, 4, .inr (.inr (.inr (.inr (fun i => some (a (4 + i)))))))),
  (a 2, .inl (cI, 500, .inl fk)), (a 3, .inl (cI, 500, .inl ft)),
  (a 4, .inr (2, [])), (a 5, .inr (3, [])), (a 6, .inr (4, [])), (a 7, .inr (5, []))]
def xw (a : Nat → Nat) (cI cO : ClassId) (n o c w ms : Nat) (f : Nat → xE) : va_W := xw' a cI cO n o c w ms (fun j => (f j).1) (fun j => (f j).2)
def mw' (a : Nat → Nat) (cI : ClassId) (n : Nat) (fk ft gk gt : Nat → Int32) : va_W := [
  (a 0, .inr (1, [.ref (a 1), .ref (a 2), .int (nI n), .ref (a 3), .ref (a 4)])),
  (a 1, .inl (cI, 500, .inl fk)), (a 2, .inl (cI, 500, .inl ft)), (a 3, .inl (cI, 500, .inl gk)), (a 4, .inl (cI, 500, .inl gt))]
def mw (a : Nat → Nat) (cI : ClassId) (n : Nat) (f g : Nat → xE) : va_W := mw' a cI n (fun j => (f j).1) (fun j => (f j).2) (fun j => (g j).1) (fun j => (g j).2)
abbrev yR (cI cO : ClassId) : List (ClassId × FieldType) := [(cI, .int), (cO, .object "RowPress$Order")]
theorem xw_cg {a : Nat → Nat} {cI cO : ClassId} {n o c w ms : Nat} {fk fk' ft ft' : Nat → Int32} (h1 : fk = fk') (h2 : ft = ft') : xw' a cI cO n o c w ms fk ft = xw' a cI cO n o c w ms fk' ft' := by subst h1; subst h2; rfl
theorem mw_cg {a : Nat → Nat} {cI : ClassId} {n : Nat} {fk fk' ft ft' gk gk' gt gt' : Nat → Int32} (h1 : fk = fk') (h2 : ft = ft') (h3 : gk = gk') (h4 : gt = gt') : mw' a cI n fk ft gk gt = mw' a cI n fk' ft' gk' gt' := by subst h1; subst h2; subst h3; subst h4; rfl
theorem xa_wf {Γ : xa_C} {ws ws' : va_W} {pc : Nat} {lv : List (Option Value)} {st : List Value} (h : ws = ws') (k : xa_At Γ ws' pc lv st) : xa_At Γ ws pc lv st := by subst h; exact k
theorem n500 : (500 : Nat) < 2 ^ 31 := by decide
section XR
variable {Γ : xa_C} {cc : ByteArray} {r : Nat} {a : Nat → Nat} {cI cO : ClassId} {n o c w ms : Nat} {f : Nat → xE} {pc : Nat} {lv : List (Option Value)} {st : List Value}
theorem xr_gO (G : xa_G Γ "RowPress" cc r) (K : va_K (xD Γ) classes (yR cI cO) (xs Γ)) (hdg : decode cc pc = .ok (.getfield 21, 3)) (k : xa_At Γ (xw a cI cO n o c w ms f) (pc + 3) lv (.ref (a 1) :: st)) : xa_At Γ (xw a cI cO n o c w ms f) pc lv (.ref (a 0) :: st) := fun H locs ls hP hD hS hL => va_get (D := xD Γ) (ci := 0) (v := .ref (a 1)) (C := R_R) (T := F_R) (N := 8) G.ex G.by G.ts i_R G.ow K hP 0 rfl rfl 0 (by decide) (G.ts _ fl_R_21) (fun _ h9 => h9) rfl hdg (k H locs ls hP hD hS hL)
theorem xr_gK (G : xa_G Γ "RowPress" cc r) (K : va_K (xD Γ) classes (yR cI cO) (xs Γ)) (hdg : decode cc pc = .ok (.getfield 27, 3)) (k : xa_At Γ (xw a cI cO n o c w ms f) (pc + 3) lv (.ref (a 2) :: st)) : xa_At Γ (xw a cI cO n o c w ms f) pc lv (.ref (a 0) :: st) := fun H locs ls hP hD hS hL => va_get (D := xD Γ) (ci := 0) (v := .ref (a 2)) (C := R_R) (T := F_R) (N := 8) G.ex G.by G.ts i_R G.ow K hP 0 rfl rfl 1 (by decide) (G.ts _ fl_R_27) (fun _ h9 => h9) rfl hdg (k H locs ls hP hD hS hL)
theorem xr_gT (G : xa_G Γ "RowPress" cc r) (K : va_K (xD Γ) classes (yR cI cO) (xs Γ)) (hdg : decode cc pc = .ok (.getfield 31, 3)) (k : xa_At Γ (xw a cI cO n o c w ms f) (pc + 3) lv (.ref (a 3) :: st)) : xa_At Γ (xw a cI cO n o c w ms f) pc lv (.ref (a 0) :: st) := fun H locs ls hP hD hS hL => va_get (D := xD Γ) (ci := 0) (v := .ref (a 3)) (C := R_R) (T := F_R) (N := 8) G.ex G.by G.ts i_R G.ow K hP 0 rfl rfl 2 (by decide) (G.ts _ fl_R_31) (fun _ h9 => h9) rfl hdg (k H locs ls hP hD hS hL)
theorem xr_gn (G : xa_G Γ "RowPress" cc r) (K : va_K (xD Γ) classes (yR cI cO) (xs Γ)) (hdg : decode cc pc = .ok (.getfield 38, 3)) (k : xa_At Γ (xw a cI cO n o c w ms f) (pc + 3) lv (.int (nI n) :: st)) : xa_At Γ (xw a cI cO n o c w ms f) pc lv (.ref (a 0) :: st) := fun H locs ls hP hD hS hL => va_get (D := xD Γ) (ci := 0) (v := .int (nI n)) (C := R_R) (T := F_R) (N := 8) G.ex G.by G.ts i_R G.ow K hP 0 rfl rfl 3 (by decide) (G.ts _ fl_R_38) (fun _ h9 => h9) rfl hdg (k H locs ls hP hD hS hL)
theorem xr_go (G : xa_G Γ "RowPress" cc r) (K : va_K (xD Γ) classes (yR cI cO) (xs Γ)) (hdg : decode cc pc = .ok (.getfield 34, 3)) (k : xa_At Γ (xw a cI cO n o c w ms f) (pc + 3) lv (.ref (a (4 + o)) :: st)) : xa_At Γ (xw a cI cO n o c w ms f) pc lv (.ref (a 0) :: st) := fun H locs ls hP hD hS hL => va_get (D := xD Γ) (ci := 0) (v := .ref (a (4 + o))) (C := R_R) (T := F_R) (N := 8) G.ex G.by G.ts i_R G.ow K hP 0 rfl rfl 4 (by decide) (G.ts _ fl_R_34) (fun _ h9 => h9) rfl hdg (k H locs ls hP hD hS hL)
theorem xr_gc (G : xa_G Γ "RowPress" cc r) (K : va_K (xD Γ) classes (yR cI cO) (xs Γ)) (hdg : decode cc pc = .ok (.getfield 63, 3)) (k : xa_At Γ (xw a cI cO n o c w ms f) (pc + 3) lv (.long (lN c) :: st)) : xa_At Γ (xw a cI cO n o c w ms f) pc lv (.ref (a 0) :: st) := fun H locs ls hP hD hS hL => va_get (D := xD Γ) (ci := 0) (v := .long (lN c)) (C := R_R) (T := F_R) (N := 8) G.ex G.by G.ts i_R G.ow K hP 0 rfl rfl 5 (by decide) (G.ts _ fl_R_63) (fun _ h9 => h9) rfl hdg (k H locs ls hP hD hS hL)
theorem xr_gw (G : xa_G Γ "RowPress" cc r) (K : va_K (xD Γ) classes (yR cI cO) (xs Γ)) (hdg : decode cc pc = .ok (.getfield 42, 3)) (k : xa_At Γ (xw a cI cO n o c w ms f) (pc + 3) lv (.long (lN w) :: st)) : xa_At Γ (xw a cI cO n o c w ms f) pc lv (.ref (a 0) :: st) := fun H locs ls hP hD hS hL => va_get (D := xD Γ) (ci := 0) (v := .long (lN w)) (C := R_R) (T := F_R) (N := 8) G.ex G.by G.ts i_R G.ow K hP 0 rfl rfl 6 (by decide) (G.ts _ fl_R_42) (fun _ h9 => h9) rfl hdg (k H locs ls hP hD hS hL)
theorem xr_gm (G : xa_G Γ "RowPress" cc r) (K : va_K (xD Γ) classes (yR cI cO) (xs Γ)) (hdg : decode cc pc = .ok (.getfield 71, 3)) (k : xa_At Γ (xw a cI cO n o c w ms f) (pc + 3) lv (.int (nI ms) :: st)) : xa_At Γ (xw a cI cO n o c w ms f) pc lv (.ref (a 0) :: st) := fun H locs ls hP hD hS hL => va_get (D := xD Γ) (ci := 0) (v := .int (nI ms)) (C := R_R) (T := F_R) (N := 8) G.ex G.by G.ts i_R G.ow K hP 0 rfl rfl 7 (by decide) (G.ts _ fl_R_71) (fun _ h9 => h9) rfl hdg (k H locs ls hP hD hS hL)
theorem xr_pn (G : xa_G Γ "RowPress" cc r) (K : va_K (xD Γ) classes (yR cI cO) (xs Γ)) {n1 : Nat} (hdg : decode cc pc = .ok (.putfield 38, 3)) (k : xa_At Γ (xw a cI cO n1 o c w ms f) (pc + 3) lv st) : xa_At Γ (xw a cI cO n o c w ms f) pc lv (.int (nI n1) :: .ref (a 0) :: st) := fun H locs ls hP hD hS hL => va_put (D := xD Γ) (ci := 0) (v := .int (nI n1)) (ty := .int) (C := R_R) (T := F_R) (N := 8) G.ex G.by G.ts i_R t_R t_R_ok n_R G.ow K hP hD hS 0 rfl rfl 3 (by decide) (G.ts _ fl_R_38) (fun _ h9 => h9) rfl (by decide +kernel) rfl rfl (Nat.le_of_ble_eq_true rfl) hdg (fun H1 locs1 hP1 hD1 hS1 => k H1 locs1 ls hP1 hD1 hS1 hL)
theorem xr_po (G : xa_G Γ "RowPress" cc r) (K : va_K (xD Γ) classes (yR cI cO) (xs Γ)) {o1 : Nat} (hdg : decode cc pc = .ok (.putfield 34, 3)) (k : xa_At Γ (xw a cI cO n o1 c w ms f) (pc + 3) lv st) : xa_At Γ (xw a cI cO n o c w ms f) pc lv (.ref (a (4 + o1)) :: .ref (a 0) :: st) := fun H locs ls hP hD hS hL => va_put (D := xD Γ) (ci := 0) (v := .ref (a (4 + o1))) (ty := .object "RowPress$Order") (C := R_R) (T := F_R) (N := 8) G.ex G.by G.ts i_R t_R t_R_ok n_R G.ow K hP hD hS 0 rfl rfl 4 (by decide) (G.ts _ fl_R_34) (fun _ h9 => h9) rfl (by decide +kernel) rfl rfl (Nat.le_of_ble_eq_true rfl) hdg (fun H1 locs1 hP1 hD1 hS1 => k H1 locs1 ls hP1 hD1 hS1 hL)
theorem xr_pc (G : xa_G Γ "RowPress" cc r) (K : va_K (xD Γ) classes (yR cI cO) (xs Γ)) {c1 : Nat} (hdg : decode cc pc = .ok (.putfield 63, 3)) (k : xa_At Γ (xw a cI cO n o c1 w ms f) (pc + 3) lv st) : xa_At Γ (xw a cI cO n o c w ms f) pc lv (.long (lN c1) :: .ref (a 0) :: st) := fun H locs ls hP hD hS hL => va_put (D := xD Γ) (ci := 0) (v := .long (lN c1)) (ty := .long) (C := R_R) (T := F_R) (N := 8) G.ex G.by G.ts i_R t_R t_R_ok n_R G.ow K hP hD hS 0 rfl rfl 5 (by decide) (G.ts _ fl_R_63) (fun _ h9 => h9) rfl (by decide +kernel) rfl rfl (Nat.le_of_ble_eq_true rfl) hdg (fun H1 locs1 hP1 hD1 hS1 => k H1 locs1 ls hP1 hD1 hS1 hL)
theorem xr_pw (G : xa_G Γ "RowPress" cc r) (K : va_K (xD Γ) classes (yR cI cO) (xs Γ)) {w1 : Nat} (hdg : decode cc pc = .ok (.putfield 42, 3)) (k : xa_At Γ (xw a cI cO n o c w1 ms f) (pc + 3) lv st) : xa_At Γ (xw a cI cO n o c w ms f) pc lv (.long (lN w1) :: .ref (a 0) :: st) := fun H locs ls hP hD hS hL => va_put (D := xD Γ) (ci := 0) (v := .long (lN w1)) (ty := .long) (C := R_R) (T := F_R) (N := 8) G.ex G.by G.ts i_R t_R t_R_ok n_R G.ow K hP hD hS 0 rfl rfl 6 (by decide) (G.ts _ fl_R_42) (fun _ h9 => h9) rfl (by decide +kernel) rfl rfl (Nat.le_of_ble_eq_true rfl) hdg (fun H1 locs1 hP1 hD1 hS1 => k H1 locs1 ls hP1 hD1 hS1 hL)
theorem xr_pm (G : xa_G Γ "RowPress" cc r) (K : va_K (xD Γ) classes (yR cI cO) (xs Γ)) {m1 : Nat} (hdg : decode cc pc = .ok (.putfield 71, 3)) (k : xa_At Γ (xw a cI cO n o c w m1 f) (pc + 3) lv st) : xa_At Γ (xw a cI cO n o c w ms f) pc lv (.int (nI m1) :: .ref (a 0) :: st) := fun H locs ls hP hD hS hL => va_put (D := xD Γ) (ci := 0) (v := .int (nI m1)) (ty := .int) (C := R_R) (T := F_R) (N := 8) G.ex G.by G.ts i_R t_R t_R_ok n_R G.ow K hP hD hS 0 rfl rfl 7 (by decide) (G.ts _ fl_R_71) (fun _ h9 => h9) rfl (by decide +kernel) rfl rfl (Nat.le_of_ble_eq_true rfl) hdg (fun H1 locs1 hP1 hD1 hS1 => k H1 locs1 ls hP1 hD1 hS1 hL)
theorem xr_ldK (G : xa_G Γ "RowPress" cc r) (K : va_K (xD Γ) classes (yR cI cO) (xs Γ)) {i : Nat} (hdg : decode cc pc = .ok (.iaload, 1)) (hi : i < 500) (k : xa_At Γ (xw a cI cO n o c w ms f) (pc + 1) lv (.int (f i).1 :: st)) : xa_At Γ (xw a cI cO n o c w ms f) pc lv (.int (nI i) :: .ref (a 2) :: st) := by
  intro H locs ls hP hD hS hL
  refine va_iald G.ex G.by K hP 2 0 rfl rfl (vp_in_nI hi n500) hdg ?_
  rw [nI_clamp (by omega)]
  exact k H locs ls hP hD hS hL
theorem xr_stK (G : xa_G Γ "RowPress" cc r) (K : va_K (xD Γ) classes (yR cI cO) (xs Γ)) {i : Nat} {x : Int32} (hdg : decode cc pc = .ok (.iastore, 1)) (hi : i < 500) (k : xa_At Γ (xw a cI cO n o c w ms (xuK f i x)) (pc + 1) lv st) : xa_At Γ (xw a cI cO n o c w ms f) pc lv (.int x :: .int (nI i) :: .ref (a 2) :: st) := by
  intro H locs ls hP hD hS hL
  refine va_iast G.ex G.by K hP hD hS 2 0 rfl rfl (vp_in_nI hi n500) hdg (fun H1 locs1 hP1 hD1 hS1 => ?_)
  rw [nI_clamp (by omega)] at hP1 hD1
  have hP2 : va_P (xD Γ) classes (xw' a cI cO n o c w ms (upd (fun j => (f j).1) i x) (fun j => (f j).2)) H1 := hP1
  have hD2 : va_D (xA Γ) (xw' a cI cO n o c w ms (upd (fun j => (f j).1) i x) (fun j => (f j).2)) := hD1
  rw [xw_cg (xuK_1 f i x) (xuK_2 f i x)] at hP2 hD2
  exact k H1 locs1 ls hP2 hD2 hS1 hL
theorem xr_ldT (G : xa_G Γ "RowPress" cc r) (K : va_K (xD Γ) classes (yR cI cO) (xs Γ)) {i : Nat} (hdg : decode cc pc = .ok (.iaload, 1)) (hi : i < 500) (k : xa_At Γ (xw a cI cO n o c w ms f) (pc + 1) lv (.int (f i).2 :: st)) : xa_At Γ (xw a cI cO n o c w ms f) pc lv (.int (nI i) :: .ref (a 3) :: st) := by
  intro H locs ls hP hD hS hL
  refine va_iald G.ex G.by K hP 3 0 rfl rfl (vp_in_nI hi n500) hdg ?_
  rw [nI_clamp (by omega)]
  exact k H locs ls hP hD hS hL
theorem xr_stT (G : xa_G Γ "RowPress" cc r) (K : va_K (xD Γ) classes (yR cI cO) (xs Γ)) {i : Nat} {x : Int32} (hdg : decode cc pc = .ok (.iastore, 1)) (hi : i < 500) (k : xa_At Γ (xw a cI cO n o c w ms (xuT f i x)) (pc + 1) lv st) : xa_At Γ (xw a cI cO n o c w ms f) pc lv (.int x :: .int (nI i) :: .ref (a 3) :: st) := by
  intro H locs ls hP hD hS hL
  refine va_iast G.ex G.by K hP hD hS 3 0 rfl rfl (vp_in_nI hi n500) hdg (fun H1 locs1 hP1 hD1 hS1 => ?_)
  rw [nI_clamp (by omega)] at hP1 hD1
  have hP2 : va_P (xD Γ) classes (xw' a cI cO n o c w ms (fun j => (f j).1) (upd (fun j => (f j).2) i x)) H1 := hP1
  have hD2 : va_D (xA Γ) (xw' a cI cO n o c w ms (fun j => (f j).1) (upd (fun j => (f j).2) i x)) := hD1
  rw [xw_cg (xuT_1 f i x) (xuT_2 f i x)] at hP2 hD2
  exact k H1 locs1 ls hP2 hD2 hS1 hL
theorem xr_len (G : xa_G Γ "RowPress" cc r) (K : va_K (xD Γ) classes (yR cI cO) (xs Γ)) (hdg : decode cc pc = .ok (.arraylength, 1)) (k : xa_At Γ (xw a cI cO n o c w ms f) (pc + 1) lv (.int (nI 4) :: st)) : xa_At Γ (xw a cI cO n o c w ms f) pc lv (.ref (a 1) :: st) := fun H locs ls hP hD hS hL => va_alen G.ex G.by K hP 1 1 rfl rfl rfl hdg (k H locs ls hP hD hS hL)
theorem xr_ldO (G : xa_G Γ "RowPress" cc r) (K : va_K (xD Γ) classes (yR cI cO) (xs Γ)) {i : Nat} (hdg : decode cc pc = .ok (.aaload, 1)) (hi : i < 4) (k : xa_At Γ (xw a cI cO n o c w ms f) (pc + 1) lv (.ref (a (4 + i)) :: st)) : xa_At Γ (xw a cI cO n o c w ms f) pc lv (.int (nI i) :: .ref (a 1) :: st) := by
  intro H locs ls hP hD hS hL
  refine va_aldq G.ex G.by K hP 1 1 rfl rfl (vp_in_nI hi (by decide)) hdg ?_
  rw [nI_clamp (by omega)]
  exact k H locs ls hP hD hS hL
end XR
section XM
variable {Γ : xa_C} {cc : ByteArray} {r : Nat} {a : Nat → Nat} {cI cO : ClassId} {n : Nat} {f g : Nat → xE} {pc : Nat} {lv : List (Option Value)} {st : List Value}
theorem xm_gK (G : xa_G Γ "RowPressModel" cc r) (K : va_K (xD Γ) classes (yR cI cO) (xs Γ)) (hdg : decode cc pc = .ok (.getfield 7, 3)) (k : xa_At Γ (mw a cI n f g) (pc + 3) lv (.ref (a 1) :: st)) : xa_At Γ (mw a cI n f g) pc lv (.ref (a 0) :: st) := fun H locs ls hP hD hS hL => va_get (D := xD Γ) (ci := 1) (v := .ref (a 1)) (C := R_M) (T := F_M) (N := 5) G.ex G.by G.ts i_M G.ow K hP 0 rfl rfl 0 (by decide) (G.ts _ fl_M_7) (fun _ h9 => h9) rfl hdg (k H locs ls hP hD hS hL)
theorem xm_gT (G : xa_G Γ "RowPressModel" cc r) (K : va_K (xD Γ) classes (yR cI cO) (xs Γ)) (hdg : decode cc pc = .ok (.getfield 13, 3)) (k : xa_At Γ (mw a cI n f g) (pc + 3) lv (.ref (a 2) :: st)) : xa_At Γ (mw a cI n f g) pc lv (.ref (a 0) :: st) := fun H locs ls hP hD hS hL => va_get (D := xD Γ) (ci := 1) (v := .ref (a 2)) (C := R_M) (T := F_M) (N := 5) G.ex G.by G.ts i_M G.ow K hP 0 rfl rfl 1 (by decide) (G.ts _ fl_M_13) (fun _ h9 => h9) rfl hdg (k H locs ls hP hD hS hL)
theorem xm_gn (G : xa_G Γ "RowPressModel" cc r) (K : va_K (xD Γ) classes (yR cI cO) (xs Γ)) (hdg : decode cc pc = .ok (.getfield 22, 3)) (k : xa_At Γ (mw a cI n f g) (pc + 3) lv (.int (nI n) :: st)) : xa_At Γ (mw a cI n f g) pc lv (.ref (a 0) :: st) := fun H locs ls hP hD hS hL => va_get (D := xD Γ) (ci := 1) (v := .int (nI n)) (C := R_M) (T := F_M) (N := 5) G.ex G.by G.ts i_M G.ow K hP 0 rfl rfl 2 (by decide) (G.ts _ fl_M_22) (fun _ h9 => h9) rfl hdg (k H locs ls hP hD hS hL)
theorem xm_gA (G : xa_G Γ "RowPressModel" cc r) (K : va_K (xD Γ) classes (yR cI cO) (xs Γ)) (hdg : decode cc pc = .ok (.getfield 16, 3)) (k : xa_At Γ (mw a cI n f g) (pc + 3) lv (.ref (a 3) :: st)) : xa_At Γ (mw a cI n f g) pc lv (.ref (a 0) :: st) := fun H locs ls hP hD hS hL => va_get (D := xD Γ) (ci := 1) (v := .ref (a 3)) (C := R_M) (T := F_M) (N := 5) G.ex G.by G.ts i_M G.ow K hP 0 rfl rfl 3 (by decide) (G.ts _ fl_M_16) (fun _ h9 => h9) rfl hdg (k H locs ls hP hD hS hL)
theorem xm_gB (G : xa_G Γ "RowPressModel" cc r) (K : va_K (xD Γ) classes (yR cI cO) (xs Γ)) (hdg : decode cc pc = .ok (.getfield 19, 3)) (k : xa_At Γ (mw a cI n f g) (pc + 3) lv (.ref (a 4) :: st)) : xa_At Γ (mw a cI n f g) pc lv (.ref (a 0) :: st) := fun H locs ls hP hD hS hL => va_get (D := xD Γ) (ci := 1) (v := .ref (a 4)) (C := R_M) (T := F_M) (N := 5) G.ex G.by G.ts i_M G.ow K hP 0 rfl rfl 4 (by decide) (G.ts _ fl_M_19) (fun _ h9 => h9) rfl hdg (k H locs ls hP hD hS hL)
theorem xm_pn (G : xa_G Γ "RowPressModel" cc r) (K : va_K (xD Γ) classes (yR cI cO) (xs Γ)) {n1 : Nat} (hdg : decode cc pc = .ok (.putfield 22, 3)) (k : xa_At Γ (mw a cI n1 f g) (pc + 3) lv st) : xa_At Γ (mw a cI n f g) pc lv (.int (nI n1) :: .ref (a 0) :: st) := fun H locs ls hP hD hS hL => va_put (D := xD Γ) (ci := 1) (v := .int (nI n1)) (ty := .int) (C := R_M) (T := F_M) (N := 5) G.ex G.by G.ts i_M t_M t_M_ok n_M G.ow K hP hD hS 0 rfl rfl 2 (by decide) (G.ts _ fl_M_22) (fun _ h9 => h9) rfl (by decide +kernel) rfl rfl (Nat.le_of_ble_eq_true rfl) hdg (fun H1 locs1 hP1 hD1 hS1 => k H1 locs1 ls hP1 hD1 hS1 hL)
theorem xm_ldK (G : xa_G Γ "RowPressModel" cc r) (K : va_K (xD Γ) classes (yR cI cO) (xs Γ)) {i : Nat} (hdg : decode cc pc = .ok (.iaload, 1)) (hi : i < 500) (k : xa_At Γ (mw a cI n f g) (pc + 1) lv (.int (f i).1 :: st)) : xa_At Γ (mw a cI n f g) pc lv (.int (nI i) :: .ref (a 1) :: st) := by
  intro H locs ls hP hD hS hL
  refine va_iald G.ex G.by K hP 1 0 rfl rfl (vp_in_nI hi n500) hdg ?_
  rw [nI_clamp (by omega)]
  exact k H locs ls hP hD hS hL
theorem xm_stK (G : xa_G Γ "RowPressModel" cc r) (K : va_K (xD Γ) classes (yR cI cO) (xs Γ)) {i : Nat} {x : Int32} (hdg : decode cc pc = .ok (.iastore, 1)) (hi : i < 500) (k : xa_At Γ (mw a cI n (xuK f i x) g) (pc + 1) lv st) : xa_At Γ (mw a cI n f g) pc lv (.int x :: .int (nI i) :: .ref (a 1) :: st) := by
  intro H locs ls hP hD hS hL
  refine va_iast G.ex G.by K hP hD hS 1 0 rfl rfl (vp_in_nI hi n500) hdg (fun H1 locs1 hP1 hD1 hS1 => ?_)
  rw [nI_clamp (by omega)] at hP1 hD1
  have hP2 : va_P (xD Γ) classes (mw' a cI n (upd (fun j => (f j).1) i x) (fun j => (f j).2) (fun j => (g j).1) (fun j => (g j).2)) H1 := hP1
  have hD2 : va_D (xA Γ) (mw' a cI n (upd (fun j => (f j).1) i x) (fun j => (f j).2) (fun j => (g j).1) (fun j => (g j).2)) := hD1
  rw [mw_cg (xuK_1 f i x) (xuK_2 f i x) rfl rfl] at hP2 hD2
  exact k H1 locs1 ls hP2 hD2 hS1 hL
theorem xm_ldT (G : xa_G Γ "RowPressModel" cc r) (K : va_K (xD Γ) classes (yR cI cO) (xs Γ)) {i : Nat} (hdg : decode cc pc = .ok (.iaload, 1)) (hi : i < 500) (k : xa_At Γ (mw a cI n f g) (pc + 1) lv (.int (f i).2 :: st)) : xa_At Γ (mw a cI n f g) pc lv (.int (nI i) :: .ref (a 2) :: st) := by
  intro H locs ls hP hD hS hL
  refine va_iald G.ex G.by K hP 2 0 rfl rfl (vp_in_nI hi n500) hdg ?_
  rw [nI_clamp (by omega)]
  exact k H locs ls hP hD hS hL
theorem xm_stT (G : xa_G Γ "RowPressModel" cc r) (K : va_K (xD Γ) classes (yR cI cO) (xs Γ)) {i : Nat} {x : Int32} (hdg : decode cc pc = .ok (.iastore, 1)) (hi : i < 500) (k : xa_At Γ (mw a cI n (xuT f i x) g) (pc + 1) lv st) : xa_At Γ (mw a cI n f g) pc lv (.int x :: .int (nI i) :: .ref (a 2) :: st) := by
  intro H locs ls hP hD hS hL
  refine va_iast G.ex G.by K hP hD hS 2 0 rfl rfl (vp_in_nI hi n500) hdg (fun H1 locs1 hP1 hD1 hS1 => ?_)
  rw [nI_clamp (by omega)] at hP1 hD1
  have hP2 : va_P (xD Γ) classes (mw' a cI n (fun j => (f j).1) (upd (fun j => (f j).2) i x) (fun j => (g j).1) (fun j => (g j).2)) H1 := hP1
  have hD2 : va_D (xA Γ) (mw' a cI n (fun j => (f j).1) (upd (fun j => (f j).2) i x) (fun j => (g j).1) (fun j => (g j).2)) := hD1
  rw [mw_cg (xuT_1 f i x) (xuT_2 f i x) rfl rfl] at hP2 hD2
  exact k H1 locs1 ls hP2 hD2 hS1 hL
theorem xm_ldA (G : xa_G Γ "RowPressModel" cc r) (K : va_K (xD Γ) classes (yR cI cO) (xs Γ)) {i : Nat} (hdg : decode cc pc = .ok (.iaload, 1)) (hi : i < 500) (k : xa_At Γ (mw a cI n f g) (pc + 1) lv (.int (g i).1 :: st)) : xa_At Γ (mw a cI n f g) pc lv (.int (nI i) :: .ref (a 3) :: st) := by
  intro H locs ls hP hD hS hL
  refine va_iald G.ex G.by K hP 3 0 rfl rfl (vp_in_nI hi n500) hdg ?_
  rw [nI_clamp (by omega)]
  exact k H locs ls hP hD hS hL
theorem xm_stA (G : xa_G Γ "RowPressModel" cc r) (K : va_K (xD Γ) classes (yR cI cO) (xs Γ)) {i : Nat} {x : Int32} (hdg : decode cc pc = .ok (.iastore, 1)) (hi : i < 500) (k : xa_At Γ (mw a cI n f (xuK g i x)) (pc + 1) lv st) : xa_At Γ (mw a cI n f g) pc lv (.int x :: .int (nI i) :: .ref (a 3) :: st) := by
  intro H locs ls hP hD hS hL
  refine va_iast G.ex G.by K hP hD hS 3 0 rfl rfl (vp_in_nI hi n500) hdg (fun H1 locs1 hP1 hD1 hS1 => ?_)
  rw [nI_clamp (by omega)] at hP1 hD1
  have hP2 : va_P (xD Γ) classes (mw' a cI n (fun j => (f j).1) (fun j => (f j).2) (upd (fun j => (g j).1) i x) (fun j => (g j).2)) H1 := hP1
  have hD2 : va_D (xA Γ) (mw' a cI n (fun j => (f j).1) (fun j => (f j).2) (upd (fun j => (g j).1) i x) (fun j => (g j).2)) := hD1
  rw [mw_cg rfl rfl (xuK_1 g i x) (xuK_2 g i x)] at hP2 hD2
  exact k H1 locs1 ls hP2 hD2 hS1 hL
theorem xm_ldB (G : xa_G Γ "RowPressModel" cc r) (K : va_K (xD Γ) classes (yR cI cO) (xs Γ)) {i : Nat} (hdg : decode cc pc = .ok (.iaload, 1)) (hi : i < 500) (k : xa_At Γ (mw a cI n f g) (pc + 1) lv (.int (g i).2 :: st)) : xa_At Γ (mw a cI n f g) pc lv (.int (nI i) :: .ref (a 4) :: st) := by
  intro H locs ls hP hD hS hL
  refine va_iald G.ex G.by K hP 4 0 rfl rfl (vp_in_nI hi n500) hdg ?_
  rw [nI_clamp (by omega)]
  exact k H locs ls hP hD hS hL
theorem xm_stB (G : xa_G Γ "RowPressModel" cc r) (K : va_K (xD Γ) classes (yR cI cO) (xs Γ)) {i : Nat} {x : Int32} (hdg : decode cc pc = .ok (.iastore, 1)) (hi : i < 500) (k : xa_At Γ (mw a cI n f (xuT g i x)) (pc + 1) lv st) : xa_At Γ (mw a cI n f g) pc lv (.int x :: .int (nI i) :: .ref (a 4) :: st) := by
  intro H locs ls hP hD hS hL
  refine va_iast G.ex G.by K hP hD hS 4 0 rfl rfl (vp_in_nI hi n500) hdg (fun H1 locs1 hP1 hD1 hS1 => ?_)
  rw [nI_clamp (by omega)] at hP1 hD1
  have hP2 : va_P (xD Γ) classes (mw' a cI n (fun j => (f j).1) (fun j => (f j).2) (fun j => (g j).1) (upd (fun j => (g j).2) i x)) H1 := hP1
  have hD2 : va_D (xA Γ) (mw' a cI n (fun j => (f j).1) (fun j => (f j).2) (fun j => (g j).1) (upd (fun j => (g j).2) i x)) := hD1
  rw [mw_cg rfl rfl (xuT_1 g i x) (xuT_2 g i x)] at hP2 hD2
  exact k H1 locs1 ls hP2 hD2 hS1 hL
end XM
end
section
theorem d_R_init_0 : decode b_R_init 0 = .ok (.aload_n 0, 1) := by decide +kernel
theorem d_R_init_1 : decode b_R_init 1 = .ok (.invokespecial 1, 3) := by decide +kernel
theorem d_R_init_4 : decode b_R_init 4 = .ok (.aload_n 0, 1) := by decide +kernel
theorem d_R_init_5 : decode b_R_init 5 = .ok (.iconst 4, 1) := by decide +kernel
theorem d_R_init_6 : decode b_R_init 6 = .ok (.anewarray 7, 3) := by decide +kernel
theorem d_R_init_9 : decode b_R_init 9 = .ok (.dup, 1) := by decide +kernel
theorem d_R_init_10 : decode b_R_init 10 = .ok (.iconst 0, 1) := by decide +kernel
theorem d_R_init_11 : decode b_R_init 11 = .ok (.new 9, 3) := by decide +kernel
theorem d_R_init_14 : decode b_R_init 14 = .ok (.dup, 1) := by decide +kernel
theorem d_R_init_15 : decode b_R_init 15 = .ok (.invokespecial 11, 3) := by decide +kernel
theorem d_R_init_18 : decode b_R_init 18 = .ok (.aastore, 1) := by decide +kernel
theorem d_R_init_19 : decode b_R_init 19 = .ok (.dup, 1) := by decide +kernel
theorem d_R_init_20 : decode b_R_init 20 = .ok (.iconst 1, 1) := by decide +kernel
theorem d_R_init_21 : decode b_R_init 21 = .ok (.new 12, 3) := by decide +kernel
theorem d_R_init_24 : decode b_R_init 24 = .ok (.dup, 1) := by decide +kernel
theorem d_R_init_25 : decode b_R_init 25 = .ok (.invokespecial 14, 3) := by decide +kernel
theorem d_R_init_28 : decode b_R_init 28 = .ok (.aastore, 1) := by decide +kernel
theorem d_R_init_29 : decode b_R_init 29 = .ok (.dup, 1) := by decide +kernel
theorem d_R_init_30 : decode b_R_init 30 = .ok (.iconst 2, 1) := by decide +kernel
theorem d_R_init_31 : decode b_R_init 31 = .ok (.new 15, 3) := by decide +kernel
theorem d_R_init_34 : decode b_R_init 34 = .ok (.dup, 1) := by decide +kernel
theorem d_R_init_35 : decode b_R_init 35 = .ok (.invokespecial 17, 3) := by decide +kernel
theorem d_R_init_38 : decode b_R_init 38 = .ok (.aastore, 1) := by decide +kernel
theorem d_R_init_39 : decode b_R_init 39 = .ok (.dup, 1) := by decide +kernel
theorem d_R_init_40 : decode b_R_init 40 = .ok (.iconst 3, 1) := by decide +kernel
theorem d_R_init_41 : decode b_R_init 41 = .ok (.new 18, 3) := by decide +kernel
theorem d_R_init_44 : decode b_R_init 44 = .ok (.dup, 1) := by decide +kernel
theorem d_R_init_45 : decode b_R_init 45 = .ok (.invokespecial 20, 3) := by decide +kernel
theorem d_R_init_48 : decode b_R_init 48 = .ok (.aastore, 1) := by decide +kernel
theorem d_R_init_49 : decode b_R_init 49 = .ok (.putfield 21, 3) := by decide +kernel
theorem d_R_init_52 : decode b_R_init 52 = .ok (.aload_n 0, 1) := by decide +kernel
theorem d_R_init_53 : decode b_R_init 53 = .ok (.sipush 500, 3) := by decide +kernel
theorem d_R_init_56 : decode b_R_init 56 = .ok (.newarray .int, 2) := by decide +kernel
theorem d_R_init_58 : decode b_R_init 58 = .ok (.putfield 27, 3) := by decide +kernel
theorem d_R_init_61 : decode b_R_init 61 = .ok (.aload_n 0, 1) := by decide +kernel
theorem d_R_init_62 : decode b_R_init 62 = .ok (.sipush 500, 3) := by decide +kernel
theorem d_R_init_65 : decode b_R_init 65 = .ok (.newarray .int, 2) := by decide +kernel
theorem d_R_init_67 : decode b_R_init 67 = .ok (.putfield 31, 3) := by decide +kernel
theorem d_R_init_70 : decode b_R_init 70 = .ok (.aload_n 0, 1) := by decide +kernel
theorem d_R_init_71 : decode b_R_init 71 = .ok (.aload_n 0, 1) := by decide +kernel
theorem d_R_init_72 : decode b_R_init 72 = .ok (.getfield 21, 3) := by decide +kernel
theorem d_R_init_75 : decode b_R_init 75 = .ok (.iconst 0, 1) := by decide +kernel
theorem d_R_init_76 : decode b_R_init 76 = .ok (.aaload, 1) := by decide +kernel
theorem d_R_init_77 : decode b_R_init 77 = .ok (.putfield 34, 3) := by decide +kernel
theorem d_R_init_80 : decode b_R_init 80 = .ok (.return_, 1) := by decide +kernel
theorem d_R_isOrder_0 : decode b_R_isOrder 0 = .ok (.iload_n 1, 1) := by decide +kernel
theorem d_R_isOrder_1 : decode b_R_isOrder 1 = .ok (.ifCond .lt 16, 3) := by decide +kernel
theorem d_R_isOrder_4 : decode b_R_isOrder 4 = .ok (.iload_n 1, 1) := by decide +kernel
theorem d_R_isOrder_5 : decode b_R_isOrder 5 = .ok (.aload_n 0, 1) := by decide +kernel
theorem d_R_isOrder_6 : decode b_R_isOrder 6 = .ok (.getfield 21, 3) := by decide +kernel
theorem d_R_isOrder_9 : decode b_R_isOrder 9 = .ok (.arraylength, 1) := by decide +kernel
theorem d_R_isOrder_10 : decode b_R_isOrder 10 = .ok (.if_icmp .ge 7, 3) := by decide +kernel
theorem d_R_isOrder_13 : decode b_R_isOrder 13 = .ok (.iconst 1, 1) := by decide +kernel
theorem d_R_isOrder_14 : decode b_R_isOrder 14 = .ok (.goto 4, 3) := by decide +kernel
theorem d_R_isOrder_17 : decode b_R_isOrder 17 = .ok (.iconst 0, 1) := by decide +kernel
theorem d_R_isOrder_18 : decode b_R_isOrder 18 = .ok (.ireturn, 1) := by decide +kernel
theorem d_R_isStretch_0 : decode b_R_isStretch 0 = .ok (.iload_n 1, 1) := by decide +kernel
theorem d_R_isStretch_1 : decode b_R_isStretch 1 = .ok (.ifCond .lt 20, 3) := by decide +kernel
theorem d_R_isStretch_4 : decode b_R_isStretch 4 = .ok (.iload_n 1, 1) := by decide +kernel
theorem d_R_isStretch_5 : decode b_R_isStretch 5 = .ok (.iload_n 2, 1) := by decide +kernel
theorem d_R_isStretch_6 : decode b_R_isStretch 6 = .ok (.if_icmp .gt 15, 3) := by decide +kernel
theorem d_R_isStretch_9 : decode b_R_isStretch 9 = .ok (.iload_n 2, 1) := by decide +kernel
theorem d_R_isStretch_10 : decode b_R_isStretch 10 = .ok (.aload_n 0, 1) := by decide +kernel
theorem d_R_isStretch_11 : decode b_R_isStretch 11 = .ok (.getfield 38, 3) := by decide +kernel
theorem d_R_isStretch_14 : decode b_R_isStretch 14 = .ok (.if_icmp .gt 7, 3) := by decide +kernel
theorem d_R_isStretch_17 : decode b_R_isStretch 17 = .ok (.iconst 1, 1) := by decide +kernel
theorem d_R_isStretch_18 : decode b_R_isStretch 18 = .ok (.goto 4, 3) := by decide +kernel
theorem d_R_isStretch_21 : decode b_R_isStretch 21 = .ok (.iconst 0, 1) := by decide +kernel
theorem d_R_isStretch_22 : decode b_R_isStretch 22 = .ok (.ireturn, 1) := by decide +kernel
theorem d_R_put_0 : decode b_R_put 0 = .ok (.aload_n 0, 1) := by decide +kernel
theorem d_R_put_1 : decode b_R_put 1 = .ok (.getfield 38, 3) := by decide +kernel
theorem d_R_put_4 : decode b_R_put 4 = .ok (.sipush 500, 3) := by decide +kernel
theorem d_R_put_7 : decode b_R_put 7 = .ok (.if_icmp .ne 5, 3) := by decide +kernel
theorem d_R_put_10 : decode b_R_put 10 = .ok (.iconst (-1), 1) := by decide +kernel
theorem d_R_put_11 : decode b_R_put 11 = .ok (.ireturn, 1) := by decide +kernel
theorem d_R_put_12 : decode b_R_put 12 = .ok (.aload_n 0, 1) := by decide +kernel
theorem d_R_put_13 : decode b_R_put 13 = .ok (.getfield 27, 3) := by decide +kernel
theorem d_R_put_16 : decode b_R_put 16 = .ok (.aload_n 0, 1) := by decide +kernel
theorem d_R_put_17 : decode b_R_put 17 = .ok (.getfield 38, 3) := by decide +kernel
theorem d_R_put_20 : decode b_R_put 20 = .ok (.iload_n 1, 1) := by decide +kernel
theorem d_R_put_21 : decode b_R_put 21 = .ok (.iastore, 1) := by decide +kernel
theorem d_R_put_22 : decode b_R_put 22 = .ok (.aload_n 0, 1) := by decide +kernel
theorem d_R_put_23 : decode b_R_put 23 = .ok (.getfield 31, 3) := by decide +kernel
theorem d_R_put_26 : decode b_R_put 26 = .ok (.aload_n 0, 1) := by decide +kernel
theorem d_R_put_27 : decode b_R_put 27 = .ok (.getfield 38, 3) := by decide +kernel
theorem d_R_put_30 : decode b_R_put 30 = .ok (.iload_n 2, 1) := by decide +kernel
theorem d_R_put_31 : decode b_R_put 31 = .ok (.iastore, 1) := by decide +kernel
theorem d_R_put_32 : decode b_R_put 32 = .ok (.aload_n 0, 1) := by decide +kernel
theorem d_R_put_33 : decode b_R_put 33 = .ok (.dup, 1) := by decide +kernel
theorem d_R_put_34 : decode b_R_put 34 = .ok (.getfield 38, 3) := by decide +kernel
theorem d_R_put_37 : decode b_R_put 37 = .ok (.iconst 1, 1) := by decide +kernel
theorem d_R_put_38 : decode b_R_put 38 = .ok (.iadd, 1) := by decide +kernel
theorem d_R_put_39 : decode b_R_put 39 = .ok (.putfield 38, 3) := by decide +kernel
theorem d_R_put_42 : decode b_R_put 42 = .ok (.aload_n 0, 1) := by decide +kernel
theorem d_R_put_43 : decode b_R_put 43 = .ok (.getfield 38, 3) := by decide +kernel
theorem d_R_put_46 : decode b_R_put 46 = .ok (.ireturn, 1) := by decide +kernel
theorem d_R_run_0 : decode b_R_run 0 = .ok (.iload_n 1, 1) := by decide +kernel
theorem d_R_run_1 : decode b_R_run 1 = .ok (.iconst 1, 1) := by decide +kernel
theorem d_R_run_2 : decode b_R_run 2 = .ok (.if_icmp .lt 15, 3) := by decide +kernel
theorem d_R_run_5 : decode b_R_run 5 = .ok (.iload_n 1, 1) := by decide +kernel
theorem d_R_run_6 : decode b_R_run 6 = .ok (.sipush 500, 3) := by decide +kernel
theorem d_R_run_9 : decode b_R_run 9 = .ok (.aload_n 0, 1) := by decide +kernel
theorem d_R_run_10 : decode b_R_run 10 = .ok (.getfield 38, 3) := by decide +kernel
theorem d_R_run_13 : decode b_R_run 13 = .ok (.isub, 1) := by decide +kernel
theorem d_R_run_14 : decode b_R_run 14 = .ok (.if_icmp .le 5, 3) := by decide +kernel
theorem d_R_run_17 : decode b_R_run 17 = .ok (.iconst (-1), 1) := by decide +kernel
theorem d_R_run_18 : decode b_R_run 18 = .ok (.ireturn, 1) := by decide +kernel
theorem d_R_run_19 : decode b_R_run 19 = .ok (.iconst 0, 1) := by decide +kernel
theorem d_R_run_20 : decode b_R_run 20 = .ok (.istore 5, 2) := by decide +kernel
theorem d_R_run_22 : decode b_R_run 22 = .ok (.iload 5, 2) := by decide +kernel
theorem d_R_run_24 : decode b_R_run 24 = .ok (.iload_n 1, 1) := by decide +kernel
theorem d_R_run_25 : decode b_R_run 25 = .ok (.if_icmp .ge 48, 3) := by decide +kernel
theorem d_R_run_28 : decode b_R_run 28 = .ok (.aload_n 0, 1) := by decide +kernel
theorem d_R_run_29 : decode b_R_run 29 = .ok (.getfield 27, 3) := by decide +kernel
theorem d_R_run_32 : decode b_R_run 32 = .ok (.aload_n 0, 1) := by decide +kernel
theorem d_R_run_33 : decode b_R_run 33 = .ok (.getfield 38, 3) := by decide +kernel
theorem d_R_run_36 : decode b_R_run 36 = .ok (.iload_n 2, 1) := by decide +kernel
theorem d_R_run_37 : decode b_R_run 37 = .ok (.iload 5, 2) := by decide +kernel
theorem d_R_run_39 : decode b_R_run 39 = .ok (.iload_n 3, 1) := by decide +kernel
theorem d_R_run_40 : decode b_R_run 40 = .ok (.imul, 1) := by decide +kernel
theorem d_R_run_41 : decode b_R_run 41 = .ok (.iadd, 1) := by decide +kernel
theorem d_R_run_42 : decode b_R_run 42 = .ok (.iastore, 1) := by decide +kernel
theorem d_R_run_43 : decode b_R_run 43 = .ok (.aload_n 0, 1) := by decide +kernel
theorem d_R_run_44 : decode b_R_run 44 = .ok (.getfield 31, 3) := by decide +kernel
theorem d_R_run_47 : decode b_R_run 47 = .ok (.aload_n 0, 1) := by decide +kernel
theorem d_R_run_48 : decode b_R_run 48 = .ok (.getfield 38, 3) := by decide +kernel
theorem d_R_run_51 : decode b_R_run 51 = .ok (.iload 4, 2) := by decide +kernel
theorem d_R_run_53 : decode b_R_run 53 = .ok (.iload 5, 2) := by decide +kernel
theorem d_R_run_55 : decode b_R_run 55 = .ok (.iadd, 1) := by decide +kernel
theorem d_R_run_56 : decode b_R_run 56 = .ok (.iastore, 1) := by decide +kernel
theorem d_R_run_57 : decode b_R_run 57 = .ok (.aload_n 0, 1) := by decide +kernel
theorem d_R_run_58 : decode b_R_run 58 = .ok (.dup, 1) := by decide +kernel
theorem d_R_run_59 : decode b_R_run 59 = .ok (.getfield 38, 3) := by decide +kernel
theorem d_R_run_62 : decode b_R_run 62 = .ok (.iconst 1, 1) := by decide +kernel
theorem d_R_run_63 : decode b_R_run 63 = .ok (.iadd, 1) := by decide +kernel
theorem d_R_run_64 : decode b_R_run 64 = .ok (.putfield 38, 3) := by decide +kernel
theorem d_R_run_67 : decode b_R_run 67 = .ok (.iinc 5 1, 3) := by decide +kernel
theorem d_R_run_70 : decode b_R_run 70 = .ok (.goto (-48), 3) := by decide +kernel
theorem d_R_run_73 : decode b_R_run 73 = .ok (.aload_n 0, 1) := by decide +kernel
theorem d_R_run_74 : decode b_R_run 74 = .ok (.getfield 38, 3) := by decide +kernel
theorem d_R_run_77 : decode b_R_run 77 = .ok (.ireturn, 1) := by decide +kernel
theorem d_R_clear_0 : decode b_R_clear 0 = .ok (.aload_n 0, 1) := by decide +kernel
theorem d_R_clear_1 : decode b_R_clear 1 = .ok (.getfield 38, 3) := by decide +kernel
theorem d_R_clear_4 : decode b_R_clear 4 = .ok (.istore_n 1, 1) := by decide +kernel
theorem d_R_clear_5 : decode b_R_clear 5 = .ok (.aload_n 0, 1) := by decide +kernel
theorem d_R_clear_6 : decode b_R_clear 6 = .ok (.iconst 0, 1) := by decide +kernel
theorem d_R_clear_7 : decode b_R_clear 7 = .ok (.putfield 38, 3) := by decide +kernel
theorem d_R_clear_10 : decode b_R_clear 10 = .ok (.iload_n 1, 1) := by decide +kernel
theorem d_R_clear_11 : decode b_R_clear 11 = .ok (.ireturn, 1) := by decide +kernel
theorem d_R_swap_0 : decode b_R_swap 0 = .ok (.aload_n 0, 1) := by decide +kernel
theorem d_R_swap_1 : decode b_R_swap 1 = .ok (.getfield 27, 3) := by decide +kernel
theorem d_R_swap_4 : decode b_R_swap 4 = .ok (.iload_n 1, 1) := by decide +kernel
theorem d_R_swap_5 : decode b_R_swap 5 = .ok (.iaload, 1) := by decide +kernel
theorem d_R_swap_6 : decode b_R_swap 6 = .ok (.istore_n 3, 1) := by decide +kernel
theorem d_R_swap_7 : decode b_R_swap 7 = .ok (.aload_n 0, 1) := by decide +kernel
theorem d_R_swap_8 : decode b_R_swap 8 = .ok (.getfield 31, 3) := by decide +kernel
theorem d_R_swap_11 : decode b_R_swap 11 = .ok (.iload_n 1, 1) := by decide +kernel
theorem d_R_swap_12 : decode b_R_swap 12 = .ok (.iaload, 1) := by decide +kernel
theorem d_R_swap_13 : decode b_R_swap 13 = .ok (.istore 4, 2) := by decide +kernel
theorem d_R_swap_15 : decode b_R_swap 15 = .ok (.aload_n 0, 1) := by decide +kernel
theorem d_R_swap_16 : decode b_R_swap 16 = .ok (.getfield 27, 3) := by decide +kernel
theorem d_R_swap_19 : decode b_R_swap 19 = .ok (.iload_n 1, 1) := by decide +kernel
theorem d_R_swap_20 : decode b_R_swap 20 = .ok (.aload_n 0, 1) := by decide +kernel
theorem d_R_swap_21 : decode b_R_swap 21 = .ok (.getfield 27, 3) := by decide +kernel
theorem d_R_swap_24 : decode b_R_swap 24 = .ok (.iload_n 2, 1) := by decide +kernel
theorem d_R_swap_25 : decode b_R_swap 25 = .ok (.iaload, 1) := by decide +kernel
theorem d_R_swap_26 : decode b_R_swap 26 = .ok (.iastore, 1) := by decide +kernel
theorem d_R_swap_27 : decode b_R_swap 27 = .ok (.aload_n 0, 1) := by decide +kernel
theorem d_R_swap_28 : decode b_R_swap 28 = .ok (.getfield 31, 3) := by decide +kernel
theorem d_R_swap_31 : decode b_R_swap 31 = .ok (.iload_n 1, 1) := by decide +kernel
theorem d_R_swap_32 : decode b_R_swap 32 = .ok (.aload_n 0, 1) := by decide +kernel
theorem d_R_swap_33 : decode b_R_swap 33 = .ok (.getfield 31, 3) := by decide +kernel
theorem d_R_swap_36 : decode b_R_swap 36 = .ok (.iload_n 2, 1) := by decide +kernel
theorem d_R_swap_37 : decode b_R_swap 37 = .ok (.iaload, 1) := by decide +kernel
theorem d_R_swap_38 : decode b_R_swap 38 = .ok (.iastore, 1) := by decide +kernel
theorem d_R_swap_39 : decode b_R_swap 39 = .ok (.aload_n 0, 1) := by decide +kernel
theorem d_R_swap_40 : decode b_R_swap 40 = .ok (.getfield 27, 3) := by decide +kernel
theorem d_R_swap_43 : decode b_R_swap 43 = .ok (.iload_n 2, 1) := by decide +kernel
theorem d_R_swap_44 : decode b_R_swap 44 = .ok (.iload_n 3, 1) := by decide +kernel
theorem d_R_swap_45 : decode b_R_swap 45 = .ok (.iastore, 1) := by decide +kernel
theorem d_R_swap_46 : decode b_R_swap 46 = .ok (.aload_n 0, 1) := by decide +kernel
theorem d_R_swap_47 : decode b_R_swap 47 = .ok (.getfield 31, 3) := by decide +kernel
theorem d_R_swap_50 : decode b_R_swap 50 = .ok (.iload_n 2, 1) := by decide +kernel
theorem d_R_swap_51 : decode b_R_swap 51 = .ok (.iload 4, 2) := by decide +kernel
theorem d_R_swap_53 : decode b_R_swap 53 = .ok (.iastore, 1) := by decide +kernel
theorem d_R_swap_54 : decode b_R_swap 54 = .ok (.aload_n 0, 1) := by decide +kernel
theorem d_R_swap_55 : decode b_R_swap 55 = .ok (.dup, 1) := by decide +kernel
theorem d_R_swap_56 : decode b_R_swap 56 = .ok (.getfield 42, 3) := by decide +kernel
theorem d_R_swap_59 : decode b_R_swap 59 = .ok (.ldc2_w 46, 3) := by decide +kernel
theorem d_R_swap_62 : decode b_R_swap 62 = .ok (.ladd, 1) := by decide +kernel
theorem d_R_swap_63 : decode b_R_swap 63 = .ok (.putfield 42, 3) := by decide +kernel
theorem d_R_swap_66 : decode b_R_swap 66 = .ok (.return_, 1) := by decide +kernel
theorem d_R_reverse_0 : decode b_R_reverse 0 = .ok (.iload_n 1, 1) := by decide +kernel
theorem d_R_reverse_1 : decode b_R_reverse 1 = .ok (.istore_n 3, 1) := by decide +kernel
theorem d_R_reverse_2 : decode b_R_reverse 2 = .ok (.iload_n 2, 1) := by decide +kernel
theorem d_R_reverse_3 : decode b_R_reverse 3 = .ok (.iconst 1, 1) := by decide +kernel
theorem d_R_reverse_4 : decode b_R_reverse 4 = .ok (.isub, 1) := by decide +kernel
theorem d_R_reverse_5 : decode b_R_reverse 5 = .ok (.istore 4, 2) := by decide +kernel
theorem d_R_reverse_7 : decode b_R_reverse 7 = .ok (.iload_n 3, 1) := by decide +kernel
theorem d_R_reverse_8 : decode b_R_reverse 8 = .ok (.iload 4, 2) := by decide +kernel
theorem d_R_reverse_10 : decode b_R_reverse 10 = .ok (.if_icmp .ge 19, 3) := by decide +kernel
theorem d_R_reverse_13 : decode b_R_reverse 13 = .ok (.aload_n 0, 1) := by decide +kernel
theorem d_R_reverse_14 : decode b_R_reverse 14 = .ok (.iload_n 3, 1) := by decide +kernel
theorem d_R_reverse_15 : decode b_R_reverse 15 = .ok (.iinc 3 1, 3) := by decide +kernel
theorem d_R_reverse_18 : decode b_R_reverse 18 = .ok (.iload 4, 2) := by decide +kernel
theorem d_R_reverse_20 : decode b_R_reverse 20 = .ok (.iinc 4 (-1), 3) := by decide +kernel
theorem d_R_reverse_23 : decode b_R_reverse 23 = .ok (.invokevirtual 48, 3) := by decide +kernel
theorem d_R_reverse_26 : decode b_R_reverse 26 = .ok (.goto (-19), 3) := by decide +kernel
theorem d_R_reverse_29 : decode b_R_reverse 29 = .ok (.return_, 1) := by decide +kernel
theorem d_R_bring_0 : decode b_R_bring 0 = .ok (.iload_n 1, 1) := by decide +kernel
theorem d_R_bring_1 : decode b_R_bring 1 = .ok (.iload_n 2, 1) := by decide +kernel
theorem d_R_bring_2 : decode b_R_bring 2 = .ok (.if_icmp .ge 26, 3) := by decide +kernel
theorem d_R_bring_5 : decode b_R_bring 5 = .ok (.iload_n 2, 1) := by decide +kernel
theorem d_R_bring_6 : decode b_R_bring 6 = .ok (.iload_n 3, 1) := by decide +kernel
theorem d_R_bring_7 : decode b_R_bring 7 = .ok (.if_icmp .ge 21, 3) := by decide +kernel
theorem d_R_bring_10 : decode b_R_bring 10 = .ok (.aload_n 0, 1) := by decide +kernel
theorem d_R_bring_11 : decode b_R_bring 11 = .ok (.iload_n 1, 1) := by decide +kernel
theorem d_R_bring_12 : decode b_R_bring 12 = .ok (.iload_n 2, 1) := by decide +kernel
theorem d_R_bring_13 : decode b_R_bring 13 = .ok (.invokevirtual 52, 3) := by decide +kernel
theorem d_R_bring_16 : decode b_R_bring 16 = .ok (.aload_n 0, 1) := by decide +kernel
theorem d_R_bring_17 : decode b_R_bring 17 = .ok (.iload_n 2, 1) := by decide +kernel
theorem d_R_bring_18 : decode b_R_bring 18 = .ok (.iload_n 3, 1) := by decide +kernel
theorem d_R_bring_19 : decode b_R_bring 19 = .ok (.invokevirtual 52, 3) := by decide +kernel
theorem d_R_bring_22 : decode b_R_bring 22 = .ok (.aload_n 0, 1) := by decide +kernel
theorem d_R_bring_23 : decode b_R_bring 23 = .ok (.iload_n 1, 1) := by decide +kernel
theorem d_R_bring_24 : decode b_R_bring 24 = .ok (.iload_n 3, 1) := by decide +kernel
theorem d_R_bring_25 : decode b_R_bring 25 = .ok (.invokevirtual 52, 3) := by decide +kernel
theorem d_R_bring_28 : decode b_R_bring 28 = .ok (.return_, 1) := by decide +kernel
theorem d_R_rotate_0 : decode b_R_rotate 0 = .ok (.aload_n 0, 1) := by decide +kernel
theorem d_R_rotate_1 : decode b_R_rotate 1 = .ok (.iload_n 1, 1) := by decide +kernel
theorem d_R_rotate_2 : decode b_R_rotate 2 = .ok (.iload_n 2, 1) := by decide +kernel
theorem d_R_rotate_3 : decode b_R_rotate 3 = .ok (.invokevirtual 55, 3) := by decide +kernel
theorem d_R_rotate_6 : decode b_R_rotate 6 = .ok (.ifCond .eq 12, 3) := by decide +kernel
theorem d_R_rotate_9 : decode b_R_rotate 9 = .ok (.aload_n 0, 1) := by decide +kernel
theorem d_R_rotate_10 : decode b_R_rotate 10 = .ok (.iload_n 2, 1) := by decide +kernel
theorem d_R_rotate_11 : decode b_R_rotate 11 = .ok (.iload_n 3, 1) := by decide +kernel
theorem d_R_rotate_12 : decode b_R_rotate 12 = .ok (.invokevirtual 55, 3) := by decide +kernel
theorem d_R_rotate_15 : decode b_R_rotate 15 = .ok (.ifCond .ne 5, 3) := by decide +kernel
theorem d_R_rotate_18 : decode b_R_rotate 18 = .ok (.iconst 0, 1) := by decide +kernel
theorem d_R_rotate_19 : decode b_R_rotate 19 = .ok (.ireturn, 1) := by decide +kernel
theorem d_R_rotate_20 : decode b_R_rotate 20 = .ok (.aload_n 0, 1) := by decide +kernel
theorem d_R_rotate_21 : decode b_R_rotate 21 = .ok (.getfield 42, 3) := by decide +kernel
theorem d_R_rotate_24 : decode b_R_rotate 24 = .ok (.lstore 4, 2) := by decide +kernel
theorem d_R_rotate_26 : decode b_R_rotate 26 = .ok (.aload_n 0, 1) := by decide +kernel
theorem d_R_rotate_27 : decode b_R_rotate 27 = .ok (.iload_n 1, 1) := by decide +kernel
theorem d_R_rotate_28 : decode b_R_rotate 28 = .ok (.iload_n 2, 1) := by decide +kernel
theorem d_R_rotate_29 : decode b_R_rotate 29 = .ok (.iload_n 3, 1) := by decide +kernel
theorem d_R_rotate_30 : decode b_R_rotate 30 = .ok (.invokevirtual 59, 3) := by decide +kernel
theorem d_R_rotate_33 : decode b_R_rotate 33 = .ok (.aload_n 0, 1) := by decide +kernel
theorem d_R_rotate_34 : decode b_R_rotate 34 = .ok (.lload 4, 2) := by decide +kernel
theorem d_R_rotate_36 : decode b_R_rotate 36 = .ok (.putfield 42, 3) := by decide +kernel
theorem d_R_rotate_39 : decode b_R_rotate 39 = .ok (.iconst 1, 1) := by decide +kernel
theorem d_R_rotate_40 : decode b_R_rotate 40 = .ok (.ireturn, 1) := by decide +kernel
theorem d_R_turn_0 : decode b_R_turn 0 = .ok (.aload_n 0, 1) := by decide +kernel
theorem d_R_turn_1 : decode b_R_turn 1 = .ok (.iload_n 1, 1) := by decide +kernel
theorem d_R_turn_2 : decode b_R_turn 2 = .ok (.iload_n 2, 1) := by decide +kernel
theorem d_R_turn_3 : decode b_R_turn 3 = .ok (.invokevirtual 55, 3) := by decide +kernel
theorem d_R_turn_6 : decode b_R_turn 6 = .ok (.ifCond .ne 5, 3) := by decide +kernel
theorem d_R_turn_9 : decode b_R_turn 9 = .ok (.iconst 0, 1) := by decide +kernel
theorem d_R_turn_10 : decode b_R_turn 10 = .ok (.ireturn, 1) := by decide +kernel
theorem d_R_turn_11 : decode b_R_turn 11 = .ok (.aload_n 0, 1) := by decide +kernel
theorem d_R_turn_12 : decode b_R_turn 12 = .ok (.getfield 42, 3) := by decide +kernel
theorem d_R_turn_15 : decode b_R_turn 15 = .ok (.lstore_n 3, 1) := by decide +kernel
theorem d_R_turn_16 : decode b_R_turn 16 = .ok (.aload_n 0, 1) := by decide +kernel
theorem d_R_turn_17 : decode b_R_turn 17 = .ok (.iload_n 1, 1) := by decide +kernel
theorem d_R_turn_18 : decode b_R_turn 18 = .ok (.iload_n 2, 1) := by decide +kernel
theorem d_R_turn_19 : decode b_R_turn 19 = .ok (.invokevirtual 52, 3) := by decide +kernel
theorem d_R_turn_22 : decode b_R_turn 22 = .ok (.aload_n 0, 1) := by decide +kernel
theorem d_R_turn_23 : decode b_R_turn 23 = .ok (.lload_n 3, 1) := by decide +kernel
theorem d_R_turn_24 : decode b_R_turn 24 = .ok (.putfield 42, 3) := by decide +kernel
theorem d_R_turn_27 : decode b_R_turn 27 = .ok (.iconst 1, 1) := by decide +kernel
theorem d_R_turn_28 : decode b_R_turn 28 = .ok (.ireturn, 1) := by decide +kernel
theorem d_R_compare_0 : decode b_R_compare 0 = .ok (.aload_n 0, 1) := by decide +kernel
theorem d_R_compare_1 : decode b_R_compare 1 = .ok (.dup, 1) := by decide +kernel
theorem d_R_compare_2 : decode b_R_compare 2 = .ok (.getfield 63, 3) := by decide +kernel
theorem d_R_compare_5 : decode b_R_compare 5 = .ok (.lconst 1, 1) := by decide +kernel
theorem d_R_compare_6 : decode b_R_compare 6 = .ok (.ladd, 1) := by decide +kernel
theorem d_R_compare_7 : decode b_R_compare 7 = .ok (.putfield 63, 3) := by decide +kernel
theorem d_R_compare_10 : decode b_R_compare 10 = .ok (.aload_n 0, 1) := by decide +kernel
theorem d_R_compare_11 : decode b_R_compare 11 = .ok (.getfield 34, 3) := by decide +kernel
theorem d_R_compare_14 : decode b_R_compare 14 = .ok (.iload_n 1, 1) := by decide +kernel
theorem d_R_compare_15 : decode b_R_compare 15 = .ok (.iload_n 2, 1) := by decide +kernel
theorem d_R_compare_16 : decode b_R_compare 16 = .ok (.invokevirtual 66, 3) := by decide +kernel
theorem d_R_compare_19 : decode b_R_compare 19 = .ok (.ireturn, 1) := by decide +kernel
theorem d_R_search_0 : decode b_R_search 0 = .ok (.iload_n 1, 1) := by decide +kernel
theorem d_R_search_1 : decode b_R_search 1 = .ok (.istore 5, 2) := by decide +kernel
theorem d_R_search_3 : decode b_R_search 3 = .ok (.iload_n 2, 1) := by decide +kernel
theorem d_R_search_4 : decode b_R_search 4 = .ok (.istore 6, 2) := by decide +kernel
theorem d_R_search_6 : decode b_R_search 6 = .ok (.iload 5, 2) := by decide +kernel
theorem d_R_search_8 : decode b_R_search 8 = .ok (.iload 6, 2) := by decide +kernel
theorem d_R_search_10 : decode b_R_search 10 = .ok (.if_icmp .ge 57, 3) := by decide +kernel
theorem d_R_search_13 : decode b_R_search 13 = .ok (.iload 5, 2) := by decide +kernel
theorem d_R_search_15 : decode b_R_search 15 = .ok (.iload 6, 2) := by decide +kernel
theorem d_R_search_17 : decode b_R_search 17 = .ok (.iadd, 1) := by decide +kernel
theorem d_R_search_18 : decode b_R_search 18 = .ok (.iconst 1, 1) := by decide +kernel
theorem d_R_search_19 : decode b_R_search 19 = .ok (.ishr, 1) := by decide +kernel
theorem d_R_search_20 : decode b_R_search 20 = .ok (.istore 7, 2) := by decide +kernel
theorem d_R_search_22 : decode b_R_search 22 = .ok (.aload_n 0, 1) := by decide +kernel
theorem d_R_search_23 : decode b_R_search 23 = .ok (.aload_n 0, 1) := by decide +kernel
theorem d_R_search_24 : decode b_R_search 24 = .ok (.getfield 27, 3) := by decide +kernel
theorem d_R_search_27 : decode b_R_search 27 = .ok (.iload 7, 2) := by decide +kernel
theorem d_R_search_29 : decode b_R_search 29 = .ok (.iaload, 1) := by decide +kernel
theorem d_R_search_30 : decode b_R_search 30 = .ok (.iload_n 3, 1) := by decide +kernel
theorem d_R_search_31 : decode b_R_search 31 = .ok (.invokevirtual 70, 3) := by decide +kernel
theorem d_R_search_34 : decode b_R_search 34 = .ok (.istore 8, 2) := by decide +kernel
theorem d_R_search_36 : decode b_R_search 36 = .ok (.iload 8, 2) := by decide +kernel
theorem d_R_search_38 : decode b_R_search 38 = .ok (.ifCond .lt 13, 3) := by decide +kernel
theorem d_R_search_41 : decode b_R_search 41 = .ok (.iload 4, 2) := by decide +kernel
theorem d_R_search_43 : decode b_R_search 43 = .ok (.ifCond .eq 17, 3) := by decide +kernel
theorem d_R_search_46 : decode b_R_search 46 = .ok (.iload 8, 2) := by decide +kernel
theorem d_R_search_48 : decode b_R_search 48 = .ok (.ifCond .ne 12, 3) := by decide +kernel
theorem d_R_search_51 : decode b_R_search 51 = .ok (.iload 7, 2) := by decide +kernel
theorem d_R_search_53 : decode b_R_search 53 = .ok (.iconst 1, 1) := by decide +kernel
theorem d_R_search_54 : decode b_R_search 54 = .ok (.iadd, 1) := by decide +kernel
theorem d_R_search_55 : decode b_R_search 55 = .ok (.istore 5, 2) := by decide +kernel
theorem d_R_search_57 : decode b_R_search 57 = .ok (.goto 7, 3) := by decide +kernel
theorem d_R_search_60 : decode b_R_search 60 = .ok (.iload 7, 2) := by decide +kernel
theorem d_R_search_62 : decode b_R_search 62 = .ok (.istore 6, 2) := by decide +kernel
theorem d_R_search_64 : decode b_R_search 64 = .ok (.goto (-58), 3) := by decide +kernel
theorem d_R_search_67 : decode b_R_search 67 = .ok (.iload 5, 2) := by decide +kernel
theorem d_R_search_69 : decode b_R_search 69 = .ok (.ireturn, 1) := by decide +kernel
theorem d_R_isSorted_0 : decode b_R_isSorted 0 = .ok (.iload_n 1, 1) := by decide +kernel
theorem d_R_isSorted_1 : decode b_R_isSorted 1 = .ok (.iconst 1, 1) := by decide +kernel
theorem d_R_isSorted_2 : decode b_R_isSorted 2 = .ok (.iadd, 1) := by decide +kernel
theorem d_R_isSorted_3 : decode b_R_isSorted 3 = .ok (.istore_n 3, 1) := by decide +kernel
theorem d_R_isSorted_4 : decode b_R_isSorted 4 = .ok (.iload_n 3, 1) := by decide +kernel
theorem d_R_isSorted_5 : decode b_R_isSorted 5 = .ok (.iload_n 2, 1) := by decide +kernel
theorem d_R_isSorted_6 : decode b_R_isSorted 6 = .ok (.if_icmp .ge 35, 3) := by decide +kernel
theorem d_R_isSorted_9 : decode b_R_isSorted 9 = .ok (.aload_n 0, 1) := by decide +kernel
theorem d_R_isSorted_10 : decode b_R_isSorted 10 = .ok (.getfield 34, 3) := by decide +kernel
theorem d_R_isSorted_13 : decode b_R_isSorted 13 = .ok (.aload_n 0, 1) := by decide +kernel
theorem d_R_isSorted_14 : decode b_R_isSorted 14 = .ok (.getfield 27, 3) := by decide +kernel
theorem d_R_isSorted_17 : decode b_R_isSorted 17 = .ok (.iload_n 3, 1) := by decide +kernel
theorem d_R_isSorted_18 : decode b_R_isSorted 18 = .ok (.iaload, 1) := by decide +kernel
theorem d_R_isSorted_19 : decode b_R_isSorted 19 = .ok (.aload_n 0, 1) := by decide +kernel
theorem d_R_isSorted_20 : decode b_R_isSorted 20 = .ok (.getfield 27, 3) := by decide +kernel
theorem d_R_isSorted_23 : decode b_R_isSorted 23 = .ok (.iload_n 3, 1) := by decide +kernel
theorem d_R_isSorted_24 : decode b_R_isSorted 24 = .ok (.iconst 1, 1) := by decide +kernel
theorem d_R_isSorted_25 : decode b_R_isSorted 25 = .ok (.isub, 1) := by decide +kernel
theorem d_R_isSorted_26 : decode b_R_isSorted 26 = .ok (.iaload, 1) := by decide +kernel
theorem d_R_isSorted_27 : decode b_R_isSorted 27 = .ok (.invokevirtual 66, 3) := by decide +kernel
theorem d_R_isSorted_30 : decode b_R_isSorted 30 = .ok (.ifCond .ge 5, 3) := by decide +kernel
theorem d_R_isSorted_33 : decode b_R_isSorted 33 = .ok (.iconst 0, 1) := by decide +kernel
theorem d_R_isSorted_34 : decode b_R_isSorted 34 = .ok (.ireturn, 1) := by decide +kernel
theorem d_R_isSorted_35 : decode b_R_isSorted 35 = .ok (.iinc 3 1, 3) := by decide +kernel
theorem d_R_isSorted_38 : decode b_R_isSorted 38 = .ok (.goto (-34), 3) := by decide +kernel
theorem d_R_isSorted_41 : decode b_R_isSorted 41 = .ok (.iconst 1, 1) := by decide +kernel
theorem d_R_isSorted_42 : decode b_R_isSorted 42 = .ok (.ireturn, 1) := by decide +kernel
theorem d_R_begin_0 : decode b_R_begin 0 = .ok (.aload_n 0, 1) := by decide +kernel
theorem d_R_begin_1 : decode b_R_begin 1 = .ok (.aload_n 0, 1) := by decide +kernel
theorem d_R_begin_2 : decode b_R_begin 2 = .ok (.getfield 21, 3) := by decide +kernel
theorem d_R_begin_5 : decode b_R_begin 5 = .ok (.iload_n 2, 1) := by decide +kernel
theorem d_R_begin_6 : decode b_R_begin 6 = .ok (.aaload, 1) := by decide +kernel
theorem d_R_begin_7 : decode b_R_begin 7 = .ok (.putfield 34, 3) := by decide +kernel
theorem d_R_begin_10 : decode b_R_begin 10 = .ok (.aload_n 0, 1) := by decide +kernel
theorem d_R_begin_11 : decode b_R_begin 11 = .ok (.lconst 0, 1) := by decide +kernel
theorem d_R_begin_12 : decode b_R_begin 12 = .ok (.putfield 63, 3) := by decide +kernel
theorem d_R_begin_15 : decode b_R_begin 15 = .ok (.aload_n 0, 1) := by decide +kernel
theorem d_R_begin_16 : decode b_R_begin 16 = .ok (.lconst 0, 1) := by decide +kernel
theorem d_R_begin_17 : decode b_R_begin 17 = .ok (.putfield 42, 3) := by decide +kernel
theorem d_R_begin_20 : decode b_R_begin 20 = .ok (.aload_n 0, 1) := by decide +kernel
theorem d_R_begin_21 : decode b_R_begin 21 = .ok (.iload_n 1, 1) := by decide +kernel
theorem d_R_begin_22 : decode b_R_begin 22 = .ok (.putfield 71, 3) := by decide +kernel
theorem d_R_begin_25 : decode b_R_begin 25 = .ok (.return_, 1) := by decide +kernel
theorem d_R_sortShort_0 : decode b_R_sortShort 0 = .ok (.iload_n 1, 1) := by decide +kernel
theorem d_R_sortShort_1 : decode b_R_sortShort 1 = .ok (.iconst 1, 1) := by decide +kernel
theorem d_R_sortShort_2 : decode b_R_sortShort 2 = .ok (.iadd, 1) := by decide +kernel
theorem d_R_sortShort_3 : decode b_R_sortShort 3 = .ok (.istore_n 3, 1) := by decide +kernel
theorem d_R_sortShort_4 : decode b_R_sortShort 4 = .ok (.iload_n 3, 1) := by decide +kernel
theorem d_R_sortShort_5 : decode b_R_sortShort 5 = .ok (.iload_n 2, 1) := by decide +kernel
theorem d_R_sortShort_6 : decode b_R_sortShort 6 = .ok (.if_icmp .ge 34, 3) := by decide +kernel
theorem d_R_sortShort_9 : decode b_R_sortShort 9 = .ok (.aload_n 0, 1) := by decide +kernel
theorem d_R_sortShort_10 : decode b_R_sortShort 10 = .ok (.iload_n 1, 1) := by decide +kernel
theorem d_R_sortShort_11 : decode b_R_sortShort 11 = .ok (.iload_n 3, 1) := by decide +kernel
theorem d_R_sortShort_12 : decode b_R_sortShort 12 = .ok (.aload_n 0, 1) := by decide +kernel
theorem d_R_sortShort_13 : decode b_R_sortShort 13 = .ok (.getfield 27, 3) := by decide +kernel
theorem d_R_sortShort_16 : decode b_R_sortShort 16 = .ok (.iload_n 3, 1) := by decide +kernel
theorem d_R_sortShort_17 : decode b_R_sortShort 17 = .ok (.iaload, 1) := by decide +kernel
theorem d_R_sortShort_18 : decode b_R_sortShort 18 = .ok (.iconst 1, 1) := by decide +kernel
theorem d_R_sortShort_19 : decode b_R_sortShort 19 = .ok (.invokevirtual 74, 3) := by decide +kernel
theorem d_R_sortShort_22 : decode b_R_sortShort 22 = .ok (.istore 4, 2) := by decide +kernel
theorem d_R_sortShort_24 : decode b_R_sortShort 24 = .ok (.aload_n 0, 1) := by decide +kernel
theorem d_R_sortShort_25 : decode b_R_sortShort 25 = .ok (.iload 4, 2) := by decide +kernel
theorem d_R_sortShort_27 : decode b_R_sortShort 27 = .ok (.iload_n 3, 1) := by decide +kernel
theorem d_R_sortShort_28 : decode b_R_sortShort 28 = .ok (.iload_n 3, 1) := by decide +kernel
theorem d_R_sortShort_29 : decode b_R_sortShort 29 = .ok (.iconst 1, 1) := by decide +kernel
theorem d_R_sortShort_30 : decode b_R_sortShort 30 = .ok (.iadd, 1) := by decide +kernel
theorem d_R_sortShort_31 : decode b_R_sortShort 31 = .ok (.invokevirtual 59, 3) := by decide +kernel
theorem d_R_sortShort_34 : decode b_R_sortShort 34 = .ok (.iinc 3 1, 3) := by decide +kernel
theorem d_R_sortShort_37 : decode b_R_sortShort 37 = .ok (.goto (-33), 3) := by decide +kernel
theorem d_R_sortShort_40 : decode b_R_sortShort 40 = .ok (.return_, 1) := by decide +kernel
theorem d_R_mergeAt_0 : decode b_R_mergeAt 0 = .ok (.iload_n 1, 1) := by decide +kernel
theorem d_R_mergeAt_1 : decode b_R_mergeAt 1 = .ok (.iload_n 2, 1) := by decide +kernel
theorem d_R_mergeAt_2 : decode b_R_mergeAt 2 = .ok (.if_icmp .eq 8, 3) := by decide +kernel
theorem d_R_mergeAt_5 : decode b_R_mergeAt 5 = .ok (.iload_n 2, 1) := by decide +kernel
theorem d_R_mergeAt_6 : decode b_R_mergeAt 6 = .ok (.iload_n 3, 1) := by decide +kernel
theorem d_R_mergeAt_7 : decode b_R_mergeAt 7 = .ok (.if_icmp .ne 4, 3) := by decide +kernel
theorem d_R_mergeAt_10 : decode b_R_mergeAt 10 = .ok (.return_, 1) := by decide +kernel
theorem d_R_mergeAt_11 : decode b_R_mergeAt 11 = .ok (.iload_n 3, 1) := by decide +kernel
theorem d_R_mergeAt_12 : decode b_R_mergeAt 12 = .ok (.iload_n 1, 1) := by decide +kernel
theorem d_R_mergeAt_13 : decode b_R_mergeAt 13 = .ok (.isub, 1) := by decide +kernel
theorem d_R_mergeAt_14 : decode b_R_mergeAt 14 = .ok (.iconst 2, 1) := by decide +kernel
theorem d_R_mergeAt_15 : decode b_R_mergeAt 15 = .ok (.if_icmp .ne 29, 3) := by decide +kernel
theorem d_R_mergeAt_18 : decode b_R_mergeAt 18 = .ok (.aload_n 0, 1) := by decide +kernel
theorem d_R_mergeAt_19 : decode b_R_mergeAt 19 = .ok (.aload_n 0, 1) := by decide +kernel
theorem d_R_mergeAt_20 : decode b_R_mergeAt 20 = .ok (.getfield 27, 3) := by decide +kernel
theorem d_R_mergeAt_23 : decode b_R_mergeAt 23 = .ok (.iload_n 2, 1) := by decide +kernel
theorem d_R_mergeAt_24 : decode b_R_mergeAt 24 = .ok (.iaload, 1) := by decide +kernel
theorem d_R_mergeAt_25 : decode b_R_mergeAt 25 = .ok (.aload_n 0, 1) := by decide +kernel
theorem d_R_mergeAt_26 : decode b_R_mergeAt 26 = .ok (.getfield 27, 3) := by decide +kernel
theorem d_R_mergeAt_29 : decode b_R_mergeAt 29 = .ok (.iload_n 1, 1) := by decide +kernel
theorem d_R_mergeAt_30 : decode b_R_mergeAt 30 = .ok (.iaload, 1) := by decide +kernel
theorem d_R_mergeAt_31 : decode b_R_mergeAt 31 = .ok (.invokevirtual 70, 3) := by decide +kernel
theorem d_R_mergeAt_34 : decode b_R_mergeAt 34 = .ok (.ifCond .ge 9, 3) := by decide +kernel
theorem d_R_mergeAt_37 : decode b_R_mergeAt 37 = .ok (.aload_n 0, 1) := by decide +kernel
theorem d_R_mergeAt_38 : decode b_R_mergeAt 38 = .ok (.iload_n 1, 1) := by decide +kernel
theorem d_R_mergeAt_39 : decode b_R_mergeAt 39 = .ok (.iload_n 2, 1) := by decide +kernel
theorem d_R_mergeAt_40 : decode b_R_mergeAt 40 = .ok (.invokevirtual 48, 3) := by decide +kernel
theorem d_R_mergeAt_43 : decode b_R_mergeAt 43 = .ok (.return_, 1) := by decide +kernel
theorem d_R_mergeAt_44 : decode b_R_mergeAt 44 = .ok (.iload_n 1, 1) := by decide +kernel
theorem d_R_mergeAt_45 : decode b_R_mergeAt 45 = .ok (.iload_n 3, 1) := by decide +kernel
theorem d_R_mergeAt_46 : decode b_R_mergeAt 46 = .ok (.iadd, 1) := by decide +kernel
theorem d_R_mergeAt_47 : decode b_R_mergeAt 47 = .ok (.iconst 1, 1) := by decide +kernel
theorem d_R_mergeAt_48 : decode b_R_mergeAt 48 = .ok (.ishr, 1) := by decide +kernel
theorem d_R_mergeAt_49 : decode b_R_mergeAt 49 = .ok (.istore 4, 2) := by decide +kernel
theorem d_R_mergeAt_51 : decode b_R_mergeAt 51 = .ok (.iload 4, 2) := by decide +kernel
theorem d_R_mergeAt_53 : decode b_R_mergeAt 53 = .ok (.iload_n 2, 1) := by decide +kernel
theorem d_R_mergeAt_54 : decode b_R_mergeAt 54 = .ok (.iadd, 1) := by decide +kernel
theorem d_R_mergeAt_55 : decode b_R_mergeAt 55 = .ok (.istore 5, 2) := by decide +kernel
theorem d_R_mergeAt_57 : decode b_R_mergeAt 57 = .ok (.iload_n 2, 1) := by decide +kernel
theorem d_R_mergeAt_58 : decode b_R_mergeAt 58 = .ok (.iload 4, 2) := by decide +kernel
theorem d_R_mergeAt_60 : decode b_R_mergeAt 60 = .ok (.if_icmp .le 10, 3) := by decide +kernel
theorem d_R_mergeAt_63 : decode b_R_mergeAt 63 = .ok (.iload 5, 2) := by decide +kernel
theorem d_R_mergeAt_65 : decode b_R_mergeAt 65 = .ok (.iload_n 3, 1) := by decide +kernel
theorem d_R_mergeAt_66 : decode b_R_mergeAt 66 = .ok (.isub, 1) := by decide +kernel
theorem d_R_mergeAt_67 : decode b_R_mergeAt 67 = .ok (.goto 4, 3) := by decide +kernel
theorem d_R_mergeAt_70 : decode b_R_mergeAt 70 = .ok (.iload_n 1, 1) := by decide +kernel
theorem d_R_mergeAt_71 : decode b_R_mergeAt 71 = .ok (.istore 6, 2) := by decide +kernel
theorem d_R_mergeAt_73 : decode b_R_mergeAt 73 = .ok (.iload_n 2, 1) := by decide +kernel
theorem d_R_mergeAt_74 : decode b_R_mergeAt 74 = .ok (.iload 4, 2) := by decide +kernel
theorem d_R_mergeAt_76 : decode b_R_mergeAt 76 = .ok (.if_icmp .le 8, 3) := by decide +kernel
theorem d_R_mergeAt_79 : decode b_R_mergeAt 79 = .ok (.iload 4, 2) := by decide +kernel
theorem d_R_mergeAt_81 : decode b_R_mergeAt 81 = .ok (.goto 4, 3) := by decide +kernel
theorem d_R_mergeAt_84 : decode b_R_mergeAt 84 = .ok (.iload_n 2, 1) := by decide +kernel
theorem d_R_mergeAt_85 : decode b_R_mergeAt 85 = .ok (.istore 7, 2) := by decide +kernel
theorem d_R_mergeAt_87 : decode b_R_mergeAt 87 = .ok (.iload 6, 2) := by decide +kernel
theorem d_R_mergeAt_89 : decode b_R_mergeAt 89 = .ok (.iload 7, 2) := by decide +kernel
theorem d_R_mergeAt_91 : decode b_R_mergeAt 91 = .ok (.if_icmp .ge 54, 3) := by decide +kernel
theorem d_R_mergeAt_94 : decode b_R_mergeAt 94 = .ok (.iload 6, 2) := by decide +kernel
theorem d_R_mergeAt_96 : decode b_R_mergeAt 96 = .ok (.iload 7, 2) := by decide +kernel
theorem d_R_mergeAt_98 : decode b_R_mergeAt 98 = .ok (.iadd, 1) := by decide +kernel
theorem d_R_mergeAt_99 : decode b_R_mergeAt 99 = .ok (.iconst 1, 1) := by decide +kernel
theorem d_R_mergeAt_100 : decode b_R_mergeAt 100 = .ok (.ishr, 1) := by decide +kernel
theorem d_R_mergeAt_101 : decode b_R_mergeAt 101 = .ok (.istore 8, 2) := by decide +kernel
theorem d_R_mergeAt_103 : decode b_R_mergeAt 103 = .ok (.aload_n 0, 1) := by decide +kernel
theorem d_R_mergeAt_104 : decode b_R_mergeAt 104 = .ok (.aload_n 0, 1) := by decide +kernel
theorem d_R_mergeAt_105 : decode b_R_mergeAt 105 = .ok (.getfield 27, 3) := by decide +kernel
theorem d_R_mergeAt_108 : decode b_R_mergeAt 108 = .ok (.iload 5, 2) := by decide +kernel
theorem d_R_mergeAt_110 : decode b_R_mergeAt 110 = .ok (.iload 8, 2) := by decide +kernel
theorem d_R_mergeAt_112 : decode b_R_mergeAt 112 = .ok (.isub, 1) := by decide +kernel
theorem d_R_mergeAt_113 : decode b_R_mergeAt 113 = .ok (.iconst 1, 1) := by decide +kernel
theorem d_R_mergeAt_114 : decode b_R_mergeAt 114 = .ok (.isub, 1) := by decide +kernel
theorem d_R_mergeAt_115 : decode b_R_mergeAt 115 = .ok (.iaload, 1) := by decide +kernel
theorem d_R_mergeAt_116 : decode b_R_mergeAt 116 = .ok (.aload_n 0, 1) := by decide +kernel
theorem d_R_mergeAt_117 : decode b_R_mergeAt 117 = .ok (.getfield 27, 3) := by decide +kernel
theorem d_R_mergeAt_120 : decode b_R_mergeAt 120 = .ok (.iload 8, 2) := by decide +kernel
theorem d_R_mergeAt_122 : decode b_R_mergeAt 122 = .ok (.iaload, 1) := by decide +kernel
theorem d_R_mergeAt_123 : decode b_R_mergeAt 123 = .ok (.invokevirtual 70, 3) := by decide +kernel
theorem d_R_mergeAt_126 : decode b_R_mergeAt 126 = .ok (.ifCond .ge 10, 3) := by decide +kernel
theorem d_R_mergeAt_129 : decode b_R_mergeAt 129 = .ok (.iload 8, 2) := by decide +kernel
theorem d_R_mergeAt_131 : decode b_R_mergeAt 131 = .ok (.istore 7, 2) := by decide +kernel
theorem d_R_mergeAt_133 : decode b_R_mergeAt 133 = .ok (.goto 9, 3) := by decide +kernel
theorem d_R_mergeAt_136 : decode b_R_mergeAt 136 = .ok (.iload 8, 2) := by decide +kernel
theorem d_R_mergeAt_138 : decode b_R_mergeAt 138 = .ok (.iconst 1, 1) := by decide +kernel
theorem d_R_mergeAt_139 : decode b_R_mergeAt 139 = .ok (.iadd, 1) := by decide +kernel
theorem d_R_mergeAt_140 : decode b_R_mergeAt 140 = .ok (.istore 6, 2) := by decide +kernel
theorem d_R_mergeAt_142 : decode b_R_mergeAt 142 = .ok (.goto (-55), 3) := by decide +kernel
theorem d_R_mergeAt_145 : decode b_R_mergeAt 145 = .ok (.iload 5, 2) := by decide +kernel
theorem d_R_mergeAt_147 : decode b_R_mergeAt 147 = .ok (.iload 6, 2) := by decide +kernel
theorem d_R_mergeAt_149 : decode b_R_mergeAt 149 = .ok (.isub, 1) := by decide +kernel
theorem d_R_mergeAt_150 : decode b_R_mergeAt 150 = .ok (.istore 8, 2) := by decide +kernel
theorem d_R_mergeAt_152 : decode b_R_mergeAt 152 = .ok (.aload_n 0, 1) := by decide +kernel
theorem d_R_mergeAt_153 : decode b_R_mergeAt 153 = .ok (.iload 6, 2) := by decide +kernel
theorem d_R_mergeAt_155 : decode b_R_mergeAt 155 = .ok (.iload_n 2, 1) := by decide +kernel
theorem d_R_mergeAt_156 : decode b_R_mergeAt 156 = .ok (.iload 8, 2) := by decide +kernel
theorem d_R_mergeAt_158 : decode b_R_mergeAt 158 = .ok (.invokevirtual 59, 3) := by decide +kernel
theorem d_R_mergeAt_161 : decode b_R_mergeAt 161 = .ok (.aload_n 0, 1) := by decide +kernel
theorem d_R_mergeAt_162 : decode b_R_mergeAt 162 = .ok (.iload_n 1, 1) := by decide +kernel
theorem d_R_mergeAt_163 : decode b_R_mergeAt 163 = .ok (.iload 6, 2) := by decide +kernel
theorem d_R_mergeAt_165 : decode b_R_mergeAt 165 = .ok (.iload 4, 2) := by decide +kernel
theorem d_R_mergeAt_167 : decode b_R_mergeAt 167 = .ok (.invokevirtual 78, 3) := by decide +kernel
theorem d_R_mergeAt_170 : decode b_R_mergeAt 170 = .ok (.aload_n 0, 1) := by decide +kernel
theorem d_R_mergeAt_171 : decode b_R_mergeAt 171 = .ok (.iload 4, 2) := by decide +kernel
theorem d_R_mergeAt_173 : decode b_R_mergeAt 173 = .ok (.iload 8, 2) := by decide +kernel
theorem d_R_mergeAt_175 : decode b_R_mergeAt 175 = .ok (.iload_n 3, 1) := by decide +kernel
theorem d_R_mergeAt_176 : decode b_R_mergeAt 176 = .ok (.invokevirtual 78, 3) := by decide +kernel
theorem d_R_mergeAt_179 : decode b_R_mergeAt 179 = .ok (.return_, 1) := by decide +kernel
theorem d_R_sortAt_0 : decode b_R_sortAt 0 = .ok (.iload_n 1, 1) := by decide +kernel
theorem d_R_sortAt_1 : decode b_R_sortAt 1 = .ok (.istore_n 3, 1) := by decide +kernel
theorem d_R_sortAt_2 : decode b_R_sortAt 2 = .ok (.iload_n 3, 1) := by decide +kernel
theorem d_R_sortAt_3 : decode b_R_sortAt 3 = .ok (.iload_n 2, 1) := by decide +kernel
theorem d_R_sortAt_4 : decode b_R_sortAt 4 = .ok (.if_icmp .ge 22, 3) := by decide +kernel
theorem d_R_sortAt_7 : decode b_R_sortAt 7 = .ok (.aload_n 0, 1) := by decide +kernel
theorem d_R_sortAt_8 : decode b_R_sortAt 8 = .ok (.iload_n 3, 1) := by decide +kernel
theorem d_R_sortAt_9 : decode b_R_sortAt 9 = .ok (.iload_n 3, 1) := by decide +kernel
theorem d_R_sortAt_10 : decode b_R_sortAt 10 = .ok (.bipush 8, 2) := by decide +kernel
theorem d_R_sortAt_12 : decode b_R_sortAt 12 = .ok (.iadd, 1) := by decide +kernel
theorem d_R_sortAt_13 : decode b_R_sortAt 13 = .ok (.iload_n 2, 1) := by decide +kernel
theorem d_R_sortAt_14 : decode b_R_sortAt 14 = .ok (.invokestatic 81, 3) := by decide +kernel
theorem d_R_sortAt_17 : decode b_R_sortAt 17 = .ok (.invokevirtual 86, 3) := by decide +kernel
theorem d_R_sortAt_20 : decode b_R_sortAt 20 = .ok (.iinc 3 8, 3) := by decide +kernel
theorem d_R_sortAt_23 : decode b_R_sortAt 23 = .ok (.goto (-21), 3) := by decide +kernel
theorem d_R_sortAt_26 : decode b_R_sortAt 26 = .ok (.bipush 8, 2) := by decide +kernel
theorem d_R_sortAt_28 : decode b_R_sortAt 28 = .ok (.istore_n 3, 1) := by decide +kernel
theorem d_R_sortAt_29 : decode b_R_sortAt 29 = .ok (.iload_n 3, 1) := by decide +kernel
theorem d_R_sortAt_30 : decode b_R_sortAt 30 = .ok (.iload_n 2, 1) := by decide +kernel
theorem d_R_sortAt_31 : decode b_R_sortAt 31 = .ok (.iload_n 1, 1) := by decide +kernel
theorem d_R_sortAt_32 : decode b_R_sortAt 32 = .ok (.isub, 1) := by decide +kernel
theorem d_R_sortAt_33 : decode b_R_sortAt 33 = .ok (.if_icmp .ge 52, 3) := by decide +kernel
theorem d_R_sortAt_36 : decode b_R_sortAt 36 = .ok (.iload_n 1, 1) := by decide +kernel
theorem d_R_sortAt_37 : decode b_R_sortAt 37 = .ok (.istore 4, 2) := by decide +kernel
theorem d_R_sortAt_39 : decode b_R_sortAt 39 = .ok (.iload 4, 2) := by decide +kernel
theorem d_R_sortAt_41 : decode b_R_sortAt 41 = .ok (.iload_n 3, 1) := by decide +kernel
theorem d_R_sortAt_42 : decode b_R_sortAt 42 = .ok (.iadd, 1) := by decide +kernel
theorem d_R_sortAt_43 : decode b_R_sortAt 43 = .ok (.iload_n 2, 1) := by decide +kernel
theorem d_R_sortAt_44 : decode b_R_sortAt 44 = .ok (.if_icmp .ge 34, 3) := by decide +kernel
theorem d_R_sortAt_47 : decode b_R_sortAt 47 = .ok (.aload_n 0, 1) := by decide +kernel
theorem d_R_sortAt_48 : decode b_R_sortAt 48 = .ok (.iload 4, 2) := by decide +kernel
theorem d_R_sortAt_50 : decode b_R_sortAt 50 = .ok (.iload 4, 2) := by decide +kernel
theorem d_R_sortAt_52 : decode b_R_sortAt 52 = .ok (.iload_n 3, 1) := by decide +kernel
theorem d_R_sortAt_53 : decode b_R_sortAt 53 = .ok (.iadd, 1) := by decide +kernel
theorem d_R_sortAt_54 : decode b_R_sortAt 54 = .ok (.iload 4, 2) := by decide +kernel
theorem d_R_sortAt_56 : decode b_R_sortAt 56 = .ok (.iconst 2, 1) := by decide +kernel
theorem d_R_sortAt_57 : decode b_R_sortAt 57 = .ok (.iload_n 3, 1) := by decide +kernel
theorem d_R_sortAt_58 : decode b_R_sortAt 58 = .ok (.imul, 1) := by decide +kernel
theorem d_R_sortAt_59 : decode b_R_sortAt 59 = .ok (.iadd, 1) := by decide +kernel
theorem d_R_sortAt_60 : decode b_R_sortAt 60 = .ok (.iload_n 2, 1) := by decide +kernel
theorem d_R_sortAt_61 : decode b_R_sortAt 61 = .ok (.invokestatic 81, 3) := by decide +kernel
theorem d_R_sortAt_64 : decode b_R_sortAt 64 = .ok (.invokevirtual 78, 3) := by decide +kernel
theorem d_R_sortAt_67 : decode b_R_sortAt 67 = .ok (.iload 4, 2) := by decide +kernel
theorem d_R_sortAt_69 : decode b_R_sortAt 69 = .ok (.iconst 2, 1) := by decide +kernel
theorem d_R_sortAt_70 : decode b_R_sortAt 70 = .ok (.iload_n 3, 1) := by decide +kernel
theorem d_R_sortAt_71 : decode b_R_sortAt 71 = .ok (.imul, 1) := by decide +kernel
theorem d_R_sortAt_72 : decode b_R_sortAt 72 = .ok (.iadd, 1) := by decide +kernel
theorem d_R_sortAt_73 : decode b_R_sortAt 73 = .ok (.istore 4, 2) := by decide +kernel
theorem d_R_sortAt_75 : decode b_R_sortAt 75 = .ok (.goto (-36), 3) := by decide +kernel
theorem d_R_sortAt_78 : decode b_R_sortAt 78 = .ok (.iload_n 3, 1) := by decide +kernel
theorem d_R_sortAt_79 : decode b_R_sortAt 79 = .ok (.iconst 2, 1) := by decide +kernel
theorem d_R_sortAt_80 : decode b_R_sortAt 80 = .ok (.imul, 1) := by decide +kernel
theorem d_R_sortAt_81 : decode b_R_sortAt 81 = .ok (.istore_n 3, 1) := by decide +kernel
theorem d_R_sortAt_82 : decode b_R_sortAt 82 = .ok (.goto (-53), 3) := by decide +kernel
theorem d_R_sortAt_85 : decode b_R_sortAt 85 = .ok (.return_, 1) := by decide +kernel
theorem d_R_sort_0 : decode b_R_sort 0 = .ok (.aload_n 0, 1) := by decide +kernel
theorem d_R_sort_1 : decode b_R_sort 1 = .ok (.iconst 0, 1) := by decide +kernel
theorem d_R_sort_2 : decode b_R_sort 2 = .ok (.aload_n 0, 1) := by decide +kernel
theorem d_R_sort_3 : decode b_R_sort 3 = .ok (.getfield 38, 3) := by decide +kernel
theorem d_R_sort_6 : decode b_R_sort 6 = .ok (.iload_n 1, 1) := by decide +kernel
theorem d_R_sort_7 : decode b_R_sort 7 = .ok (.invokevirtual 89, 3) := by decide +kernel
theorem d_R_sort_10 : decode b_R_sort 10 = .ok (.ireturn, 1) := by decide +kernel
theorem d_R_sortPart_0 : decode b_R_sortPart 0 = .ok (.aload_n 0, 1) := by decide +kernel
theorem d_R_sortPart_1 : decode b_R_sortPart 1 = .ok (.iload_n 1, 1) := by decide +kernel
theorem d_R_sortPart_2 : decode b_R_sortPart 2 = .ok (.iload_n 2, 1) := by decide +kernel
theorem d_R_sortPart_3 : decode b_R_sortPart 3 = .ok (.invokevirtual 55, 3) := by decide +kernel
theorem d_R_sortPart_6 : decode b_R_sortPart 6 = .ok (.ifCond .eq 11, 3) := by decide +kernel
theorem d_R_sortPart_9 : decode b_R_sortPart 9 = .ok (.aload_n 0, 1) := by decide +kernel
theorem d_R_sortPart_10 : decode b_R_sortPart 10 = .ok (.iload_n 3, 1) := by decide +kernel
theorem d_R_sortPart_11 : decode b_R_sortPart 11 = .ok (.invokevirtual 93, 3) := by decide +kernel
theorem d_R_sortPart_14 : decode b_R_sortPart 14 = .ok (.ifCond .ne 5, 3) := by decide +kernel
theorem d_R_sortPart_17 : decode b_R_sortPart 17 = .ok (.iconst 0, 1) := by decide +kernel
theorem d_R_sortPart_18 : decode b_R_sortPart 18 = .ok (.ireturn, 1) := by decide +kernel
theorem d_R_sortPart_19 : decode b_R_sortPart 19 = .ok (.aload_n 0, 1) := by decide +kernel
theorem d_R_sortPart_20 : decode b_R_sortPart 20 = .ok (.iload_n 2, 1) := by decide +kernel
theorem d_R_sortPart_21 : decode b_R_sortPart 21 = .ok (.iload_n 1, 1) := by decide +kernel
theorem d_R_sortPart_22 : decode b_R_sortPart 22 = .ok (.isub, 1) := by decide +kernel
theorem d_R_sortPart_23 : decode b_R_sortPart 23 = .ok (.iload_n 3, 1) := by decide +kernel
theorem d_R_sortPart_24 : decode b_R_sortPart 24 = .ok (.invokevirtual 97, 3) := by decide +kernel
theorem d_R_sortPart_27 : decode b_R_sortPart 27 = .ok (.aload_n 0, 1) := by decide +kernel
theorem d_R_sortPart_28 : decode b_R_sortPart 28 = .ok (.iload_n 1, 1) := by decide +kernel
theorem d_R_sortPart_29 : decode b_R_sortPart 29 = .ok (.iload_n 2, 1) := by decide +kernel
theorem d_R_sortPart_30 : decode b_R_sortPart 30 = .ok (.invokevirtual 100, 3) := by decide +kernel
theorem d_R_sortPart_33 : decode b_R_sortPart 33 = .ok (.iconst 1, 1) := by decide +kernel
theorem d_R_sortPart_34 : decode b_R_sortPart 34 = .ok (.ireturn, 1) := by decide +kernel
theorem d_R_merge_0 : decode b_R_merge 0 = .ok (.aload_n 0, 1) := by decide +kernel
theorem d_R_merge_1 : decode b_R_merge 1 = .ok (.iload_n 1, 1) := by decide +kernel
theorem d_R_merge_2 : decode b_R_merge 2 = .ok (.iload_n 2, 1) := by decide +kernel
theorem d_R_merge_3 : decode b_R_merge 3 = .ok (.invokevirtual 55, 3) := by decide +kernel
theorem d_R_merge_6 : decode b_R_merge 6 = .ok (.ifCond .eq 21, 3) := by decide +kernel
theorem d_R_merge_9 : decode b_R_merge 9 = .ok (.aload_n 0, 1) := by decide +kernel
theorem d_R_merge_10 : decode b_R_merge 10 = .ok (.iload_n 2, 1) := by decide +kernel
theorem d_R_merge_11 : decode b_R_merge 11 = .ok (.iload_n 3, 1) := by decide +kernel
theorem d_R_merge_12 : decode b_R_merge 12 = .ok (.invokevirtual 55, 3) := by decide +kernel
theorem d_R_merge_15 : decode b_R_merge 15 = .ok (.ifCond .eq 12, 3) := by decide +kernel
theorem d_R_merge_18 : decode b_R_merge 18 = .ok (.aload_n 0, 1) := by decide +kernel
theorem d_R_merge_19 : decode b_R_merge 19 = .ok (.iload 4, 2) := by decide +kernel
theorem d_R_merge_21 : decode b_R_merge 21 = .ok (.invokevirtual 93, 3) := by decide +kernel
theorem d_R_merge_24 : decode b_R_merge 24 = .ok (.ifCond .ne 5, 3) := by decide +kernel
theorem d_R_merge_27 : decode b_R_merge 27 = .ok (.iconst 0, 1) := by decide +kernel
theorem d_R_merge_28 : decode b_R_merge 28 = .ok (.ireturn, 1) := by decide +kernel
theorem d_R_merge_29 : decode b_R_merge 29 = .ok (.aload_n 0, 1) := by decide +kernel
theorem d_R_merge_30 : decode b_R_merge 30 = .ok (.aload_n 0, 1) := by decide +kernel
theorem d_R_merge_31 : decode b_R_merge 31 = .ok (.getfield 21, 3) := by decide +kernel
theorem d_R_merge_34 : decode b_R_merge 34 = .ok (.iload 4, 2) := by decide +kernel
theorem d_R_merge_36 : decode b_R_merge 36 = .ok (.aaload, 1) := by decide +kernel
theorem d_R_merge_37 : decode b_R_merge 37 = .ok (.putfield 34, 3) := by decide +kernel
theorem d_R_merge_40 : decode b_R_merge 40 = .ok (.aload_n 0, 1) := by decide +kernel
theorem d_R_merge_41 : decode b_R_merge 41 = .ok (.iload_n 1, 1) := by decide +kernel
theorem d_R_merge_42 : decode b_R_merge 42 = .ok (.iload_n 2, 1) := by decide +kernel
theorem d_R_merge_43 : decode b_R_merge 43 = .ok (.invokevirtual 103, 3) := by decide +kernel
theorem d_R_merge_46 : decode b_R_merge 46 = .ok (.ifCond .eq 12, 3) := by decide +kernel
theorem d_R_merge_49 : decode b_R_merge 49 = .ok (.aload_n 0, 1) := by decide +kernel
theorem d_R_merge_50 : decode b_R_merge 50 = .ok (.iload_n 2, 1) := by decide +kernel
theorem d_R_merge_51 : decode b_R_merge 51 = .ok (.iload_n 3, 1) := by decide +kernel
theorem d_R_merge_52 : decode b_R_merge 52 = .ok (.invokevirtual 103, 3) := by decide +kernel
theorem d_R_merge_55 : decode b_R_merge 55 = .ok (.ifCond .ne 5, 3) := by decide +kernel
theorem d_R_merge_58 : decode b_R_merge 58 = .ok (.iconst 0, 1) := by decide +kernel
theorem d_R_merge_59 : decode b_R_merge 59 = .ok (.ireturn, 1) := by decide +kernel
theorem d_R_merge_60 : decode b_R_merge 60 = .ok (.aload_n 0, 1) := by decide +kernel
theorem d_R_merge_61 : decode b_R_merge 61 = .ok (.iload_n 3, 1) := by decide +kernel
theorem d_R_merge_62 : decode b_R_merge 62 = .ok (.iload_n 1, 1) := by decide +kernel
theorem d_R_merge_63 : decode b_R_merge 63 = .ok (.isub, 1) := by decide +kernel
theorem d_R_merge_64 : decode b_R_merge 64 = .ok (.iload 4, 2) := by decide +kernel
theorem d_R_merge_66 : decode b_R_merge 66 = .ok (.invokevirtual 97, 3) := by decide +kernel
theorem d_R_merge_69 : decode b_R_merge 69 = .ok (.aload_n 0, 1) := by decide +kernel
theorem d_R_merge_70 : decode b_R_merge 70 = .ok (.iload_n 1, 1) := by decide +kernel
theorem d_R_merge_71 : decode b_R_merge 71 = .ok (.iload_n 2, 1) := by decide +kernel
theorem d_R_merge_72 : decode b_R_merge 72 = .ok (.iload_n 3, 1) := by decide +kernel
theorem d_R_merge_73 : decode b_R_merge 73 = .ok (.invokevirtual 78, 3) := by decide +kernel
theorem d_R_merge_76 : decode b_R_merge 76 = .ok (.iconst 1, 1) := by decide +kernel
theorem d_R_merge_77 : decode b_R_merge 77 = .ok (.ireturn, 1) := by decide +kernel
theorem d_R_splitAt_0 : decode b_R_splitAt 0 = .ok (.iload_n 1, 1) := by decide +kernel
theorem d_R_splitAt_1 : decode b_R_splitAt 1 = .ok (.iload_n 2, 1) := by decide +kernel
theorem d_R_splitAt_2 : decode b_R_splitAt 2 = .ok (.if_icmp .ne 5, 3) := by decide +kernel
theorem d_R_splitAt_5 : decode b_R_splitAt 5 = .ok (.iload_n 1, 1) := by decide +kernel
theorem d_R_splitAt_6 : decode b_R_splitAt 6 = .ok (.ireturn, 1) := by decide +kernel
theorem d_R_splitAt_7 : decode b_R_splitAt 7 = .ok (.iload_n 1, 1) := by decide +kernel
theorem d_R_splitAt_8 : decode b_R_splitAt 8 = .ok (.iconst 1, 1) := by decide +kernel
theorem d_R_splitAt_9 : decode b_R_splitAt 9 = .ok (.iadd, 1) := by decide +kernel
theorem d_R_splitAt_10 : decode b_R_splitAt 10 = .ok (.iload_n 2, 1) := by decide +kernel
theorem d_R_splitAt_11 : decode b_R_splitAt 11 = .ok (.if_icmp .ne 26, 3) := by decide +kernel
theorem d_R_splitAt_14 : decode b_R_splitAt 14 = .ok (.aload_n 0, 1) := by decide +kernel
theorem d_R_splitAt_15 : decode b_R_splitAt 15 = .ok (.getfield 34, 3) := by decide +kernel
theorem d_R_splitAt_18 : decode b_R_splitAt 18 = .ok (.aload_n 0, 1) := by decide +kernel
theorem d_R_splitAt_19 : decode b_R_splitAt 19 = .ok (.getfield 27, 3) := by decide +kernel
theorem d_R_splitAt_22 : decode b_R_splitAt 22 = .ok (.iload_n 1, 1) := by decide +kernel
theorem d_R_splitAt_23 : decode b_R_splitAt 23 = .ok (.iaload, 1) := by decide +kernel
theorem d_R_splitAt_24 : decode b_R_splitAt 24 = .ok (.iload_n 3, 1) := by decide +kernel
theorem d_R_splitAt_25 : decode b_R_splitAt 25 = .ok (.invokevirtual 66, 3) := by decide +kernel
theorem d_R_splitAt_28 : decode b_R_splitAt 28 = .ok (.ifCond .ge 7, 3) := by decide +kernel
theorem d_R_splitAt_31 : decode b_R_splitAt 31 = .ok (.iload_n 2, 1) := by decide +kernel
theorem d_R_splitAt_32 : decode b_R_splitAt 32 = .ok (.goto 4, 3) := by decide +kernel
theorem d_R_splitAt_35 : decode b_R_splitAt 35 = .ok (.iload_n 1, 1) := by decide +kernel
theorem d_R_splitAt_36 : decode b_R_splitAt 36 = .ok (.ireturn, 1) := by decide +kernel
theorem d_R_splitAt_37 : decode b_R_splitAt 37 = .ok (.iload_n 1, 1) := by decide +kernel
theorem d_R_splitAt_38 : decode b_R_splitAt 38 = .ok (.iload_n 2, 1) := by decide +kernel
theorem d_R_splitAt_39 : decode b_R_splitAt 39 = .ok (.iadd, 1) := by decide +kernel
theorem d_R_splitAt_40 : decode b_R_splitAt 40 = .ok (.iconst 1, 1) := by decide +kernel
theorem d_R_splitAt_41 : decode b_R_splitAt 41 = .ok (.ishr, 1) := by decide +kernel
theorem d_R_splitAt_42 : decode b_R_splitAt 42 = .ok (.istore 4, 2) := by decide +kernel
theorem d_R_splitAt_44 : decode b_R_splitAt 44 = .ok (.aload_n 0, 1) := by decide +kernel
theorem d_R_splitAt_45 : decode b_R_splitAt 45 = .ok (.iload_n 1, 1) := by decide +kernel
theorem d_R_splitAt_46 : decode b_R_splitAt 46 = .ok (.iload 4, 2) := by decide +kernel
theorem d_R_splitAt_48 : decode b_R_splitAt 48 = .ok (.iload_n 3, 1) := by decide +kernel
theorem d_R_splitAt_49 : decode b_R_splitAt 49 = .ok (.invokevirtual 106, 3) := by decide +kernel
theorem d_R_splitAt_52 : decode b_R_splitAt 52 = .ok (.istore 5, 2) := by decide +kernel
theorem d_R_splitAt_54 : decode b_R_splitAt 54 = .ok (.aload_n 0, 1) := by decide +kernel
theorem d_R_splitAt_55 : decode b_R_splitAt 55 = .ok (.iload 4, 2) := by decide +kernel
theorem d_R_splitAt_57 : decode b_R_splitAt 57 = .ok (.iload_n 2, 1) := by decide +kernel
theorem d_R_splitAt_58 : decode b_R_splitAt 58 = .ok (.iload_n 3, 1) := by decide +kernel
theorem d_R_splitAt_59 : decode b_R_splitAt 59 = .ok (.invokevirtual 106, 3) := by decide +kernel
theorem d_R_splitAt_62 : decode b_R_splitAt 62 = .ok (.istore 6, 2) := by decide +kernel
theorem d_R_splitAt_64 : decode b_R_splitAt 64 = .ok (.aload_n 0, 1) := by decide +kernel
theorem d_R_splitAt_65 : decode b_R_splitAt 65 = .ok (.iload 5, 2) := by decide +kernel
theorem d_R_splitAt_67 : decode b_R_splitAt 67 = .ok (.iload 4, 2) := by decide +kernel
theorem d_R_splitAt_69 : decode b_R_splitAt 69 = .ok (.iload 6, 2) := by decide +kernel
theorem d_R_splitAt_71 : decode b_R_splitAt 71 = .ok (.invokevirtual 59, 3) := by decide +kernel
theorem d_R_splitAt_74 : decode b_R_splitAt 74 = .ok (.iload 5, 2) := by decide +kernel
theorem d_R_splitAt_76 : decode b_R_splitAt 76 = .ok (.iload 6, 2) := by decide +kernel
theorem d_R_splitAt_78 : decode b_R_splitAt 78 = .ok (.iadd, 1) := by decide +kernel
theorem d_R_splitAt_79 : decode b_R_splitAt 79 = .ok (.iload 4, 2) := by decide +kernel
theorem d_R_splitAt_81 : decode b_R_splitAt 81 = .ok (.isub, 1) := by decide +kernel
theorem d_R_splitAt_82 : decode b_R_splitAt 82 = .ok (.ireturn, 1) := by decide +kernel
theorem d_R_split_0 : decode b_R_split 0 = .ok (.aload_n 0, 1) := by decide +kernel
theorem d_R_split_1 : decode b_R_split 1 = .ok (.iload_n 1, 1) := by decide +kernel
theorem d_R_split_2 : decode b_R_split 2 = .ok (.iload_n 2, 1) := by decide +kernel
theorem d_R_split_3 : decode b_R_split 3 = .ok (.invokevirtual 55, 3) := by decide +kernel
theorem d_R_split_6 : decode b_R_split 6 = .ok (.ifCond .eq 12, 3) := by decide +kernel
theorem d_R_split_9 : decode b_R_split 9 = .ok (.aload_n 0, 1) := by decide +kernel
theorem d_R_split_10 : decode b_R_split 10 = .ok (.iload 4, 2) := by decide +kernel
theorem d_R_split_12 : decode b_R_split 12 = .ok (.invokevirtual 93, 3) := by decide +kernel
theorem d_R_split_15 : decode b_R_split 15 = .ok (.ifCond .ne 5, 3) := by decide +kernel
theorem d_R_split_18 : decode b_R_split 18 = .ok (.iconst (-1), 1) := by decide +kernel
theorem d_R_split_19 : decode b_R_split 19 = .ok (.ireturn, 1) := by decide +kernel
theorem d_R_split_20 : decode b_R_split 20 = .ok (.aload_n 0, 1) := by decide +kernel
theorem d_R_split_21 : decode b_R_split 21 = .ok (.aload_n 0, 1) := by decide +kernel
theorem d_R_split_22 : decode b_R_split 22 = .ok (.getfield 21, 3) := by decide +kernel
theorem d_R_split_25 : decode b_R_split 25 = .ok (.iload 4, 2) := by decide +kernel
theorem d_R_split_27 : decode b_R_split 27 = .ok (.aaload, 1) := by decide +kernel
theorem d_R_split_28 : decode b_R_split 28 = .ok (.putfield 34, 3) := by decide +kernel
theorem d_R_split_31 : decode b_R_split 31 = .ok (.aload_n 0, 1) := by decide +kernel
theorem d_R_split_32 : decode b_R_split 32 = .ok (.getfield 42, 3) := by decide +kernel
theorem d_R_split_35 : decode b_R_split 35 = .ok (.lstore 5, 2) := by decide +kernel
theorem d_R_split_37 : decode b_R_split 37 = .ok (.aload_n 0, 1) := by decide +kernel
theorem d_R_split_38 : decode b_R_split 38 = .ok (.iload_n 1, 1) := by decide +kernel
theorem d_R_split_39 : decode b_R_split 39 = .ok (.iload_n 2, 1) := by decide +kernel
theorem d_R_split_40 : decode b_R_split 40 = .ok (.iload_n 3, 1) := by decide +kernel
theorem d_R_split_41 : decode b_R_split 41 = .ok (.invokevirtual 106, 3) := by decide +kernel
theorem d_R_split_44 : decode b_R_split 44 = .ok (.istore 7, 2) := by decide +kernel
theorem d_R_split_46 : decode b_R_split 46 = .ok (.aload_n 0, 1) := by decide +kernel
theorem d_R_split_47 : decode b_R_split 47 = .ok (.lload 5, 2) := by decide +kernel
theorem d_R_split_49 : decode b_R_split 49 = .ok (.putfield 42, 3) := by decide +kernel
theorem d_R_split_52 : decode b_R_split 52 = .ok (.iload 7, 2) := by decide +kernel
theorem d_R_split_54 : decode b_R_split 54 = .ok (.iload_n 1, 1) := by decide +kernel
theorem d_R_split_55 : decode b_R_split 55 = .ok (.isub, 1) := by decide +kernel
theorem d_R_split_56 : decode b_R_split 56 = .ok (.ireturn, 1) := by decide +kernel
theorem d_R_thin_0 : decode b_R_thin 0 = .ok (.aload_n 0, 1) := by decide +kernel
theorem d_R_thin_1 : decode b_R_thin 1 = .ok (.iconst 0, 1) := by decide +kernel
theorem d_R_thin_2 : decode b_R_thin 2 = .ok (.aload_n 0, 1) := by decide +kernel
theorem d_R_thin_3 : decode b_R_thin 3 = .ok (.getfield 38, 3) := by decide +kernel
theorem d_R_thin_6 : decode b_R_thin 6 = .ok (.iload_n 1, 1) := by decide +kernel
theorem d_R_thin_7 : decode b_R_thin 7 = .ok (.invokevirtual 109, 3) := by decide +kernel
theorem d_R_thin_10 : decode b_R_thin 10 = .ok (.iconst 1, 1) := by decide +kernel
theorem d_R_thin_11 : decode b_R_thin 11 = .ok (.if_icmp .eq 5, 3) := by decide +kernel
theorem d_R_thin_14 : decode b_R_thin 14 = .ok (.iconst (-1), 1) := by decide +kernel
theorem d_R_thin_15 : decode b_R_thin 15 = .ok (.ireturn, 1) := by decide +kernel
theorem d_R_thin_16 : decode b_R_thin 16 = .ok (.iconst 0, 1) := by decide +kernel
theorem d_R_thin_17 : decode b_R_thin 17 = .ok (.istore_n 2, 1) := by decide +kernel
theorem d_R_thin_18 : decode b_R_thin 18 = .ok (.iconst 0, 1) := by decide +kernel
theorem d_R_thin_19 : decode b_R_thin 19 = .ok (.istore_n 3, 1) := by decide +kernel
theorem d_R_thin_20 : decode b_R_thin 20 = .ok (.iload_n 3, 1) := by decide +kernel
theorem d_R_thin_21 : decode b_R_thin 21 = .ok (.aload_n 0, 1) := by decide +kernel
theorem d_R_thin_22 : decode b_R_thin 22 = .ok (.getfield 38, 3) := by decide +kernel
theorem d_R_thin_25 : decode b_R_thin 25 = .ok (.if_icmp .ge 64, 3) := by decide +kernel
theorem d_R_thin_28 : decode b_R_thin 28 = .ok (.iload_n 2, 1) := by decide +kernel
theorem d_R_thin_29 : decode b_R_thin 29 = .ok (.ifCond .eq 27, 3) := by decide +kernel
theorem d_R_thin_32 : decode b_R_thin 32 = .ok (.aload_n 0, 1) := by decide +kernel
theorem d_R_thin_33 : decode b_R_thin 33 = .ok (.getfield 34, 3) := by decide +kernel
theorem d_R_thin_36 : decode b_R_thin 36 = .ok (.aload_n 0, 1) := by decide +kernel
theorem d_R_thin_37 : decode b_R_thin 37 = .ok (.getfield 27, 3) := by decide +kernel
theorem d_R_thin_40 : decode b_R_thin 40 = .ok (.iload_n 2, 1) := by decide +kernel
theorem d_R_thin_41 : decode b_R_thin 41 = .ok (.iconst 1, 1) := by decide +kernel
theorem d_R_thin_42 : decode b_R_thin 42 = .ok (.isub, 1) := by decide +kernel
theorem d_R_thin_43 : decode b_R_thin 43 = .ok (.iaload, 1) := by decide +kernel
theorem d_R_thin_44 : decode b_R_thin 44 = .ok (.aload_n 0, 1) := by decide +kernel
theorem d_R_thin_45 : decode b_R_thin 45 = .ok (.getfield 27, 3) := by decide +kernel
theorem d_R_thin_48 : decode b_R_thin 48 = .ok (.iload_n 3, 1) := by decide +kernel
theorem d_R_thin_49 : decode b_R_thin 49 = .ok (.iaload, 1) := by decide +kernel
theorem d_R_thin_50 : decode b_R_thin 50 = .ok (.invokevirtual 66, 3) := by decide +kernel
theorem d_R_thin_53 : decode b_R_thin 53 = .ok (.ifCond .eq 30, 3) := by decide +kernel
theorem d_R_thin_56 : decode b_R_thin 56 = .ok (.aload_n 0, 1) := by decide +kernel
theorem d_R_thin_57 : decode b_R_thin 57 = .ok (.getfield 27, 3) := by decide +kernel
theorem d_R_thin_60 : decode b_R_thin 60 = .ok (.iload_n 2, 1) := by decide +kernel
theorem d_R_thin_61 : decode b_R_thin 61 = .ok (.aload_n 0, 1) := by decide +kernel
theorem d_R_thin_62 : decode b_R_thin 62 = .ok (.getfield 27, 3) := by decide +kernel
theorem d_R_thin_65 : decode b_R_thin 65 = .ok (.iload_n 3, 1) := by decide +kernel
theorem d_R_thin_66 : decode b_R_thin 66 = .ok (.iaload, 1) := by decide +kernel
theorem d_R_thin_67 : decode b_R_thin 67 = .ok (.iastore, 1) := by decide +kernel
theorem d_R_thin_68 : decode b_R_thin 68 = .ok (.aload_n 0, 1) := by decide +kernel
theorem d_R_thin_69 : decode b_R_thin 69 = .ok (.getfield 31, 3) := by decide +kernel
theorem d_R_thin_72 : decode b_R_thin 72 = .ok (.iload_n 2, 1) := by decide +kernel
theorem d_R_thin_73 : decode b_R_thin 73 = .ok (.aload_n 0, 1) := by decide +kernel
theorem d_R_thin_74 : decode b_R_thin 74 = .ok (.getfield 31, 3) := by decide +kernel
theorem d_R_thin_77 : decode b_R_thin 77 = .ok (.iload_n 3, 1) := by decide +kernel
theorem d_R_thin_78 : decode b_R_thin 78 = .ok (.iaload, 1) := by decide +kernel
theorem d_R_thin_79 : decode b_R_thin 79 = .ok (.iastore, 1) := by decide +kernel
theorem d_R_thin_80 : decode b_R_thin 80 = .ok (.iinc 2 1, 3) := by decide +kernel
theorem d_R_thin_83 : decode b_R_thin 83 = .ok (.iinc 3 1, 3) := by decide +kernel
theorem d_R_thin_86 : decode b_R_thin 86 = .ok (.goto (-66), 3) := by decide +kernel
theorem d_R_thin_89 : decode b_R_thin 89 = .ok (.aload_n 0, 1) := by decide +kernel
theorem d_R_thin_90 : decode b_R_thin 90 = .ok (.iload_n 2, 1) := by decide +kernel
theorem d_R_thin_91 : decode b_R_thin 91 = .ok (.putfield 38, 3) := by decide +kernel
theorem d_R_thin_94 : decode b_R_thin 94 = .ok (.aload_n 0, 1) := by decide +kernel
theorem d_R_thin_95 : decode b_R_thin 95 = .ok (.getfield 38, 3) := by decide +kernel
theorem d_R_thin_98 : decode b_R_thin 98 = .ok (.ireturn, 1) := by decide +kernel
theorem d_R_sorted_0 : decode b_R_sorted 0 = .ok (.aload_n 0, 1) := by decide +kernel
theorem d_R_sorted_1 : decode b_R_sorted 1 = .ok (.iload_n 1, 1) := by decide +kernel
theorem d_R_sorted_2 : decode b_R_sorted 2 = .ok (.iload_n 2, 1) := by decide +kernel
theorem d_R_sorted_3 : decode b_R_sorted 3 = .ok (.invokevirtual 55, 3) := by decide +kernel
theorem d_R_sorted_6 : decode b_R_sorted 6 = .ok (.ifCond .eq 11, 3) := by decide +kernel
theorem d_R_sorted_9 : decode b_R_sorted 9 = .ok (.aload_n 0, 1) := by decide +kernel
theorem d_R_sorted_10 : decode b_R_sorted 10 = .ok (.iload_n 3, 1) := by decide +kernel
theorem d_R_sorted_11 : decode b_R_sorted 11 = .ok (.invokevirtual 93, 3) := by decide +kernel
theorem d_R_sorted_14 : decode b_R_sorted 14 = .ok (.ifCond .ne 5, 3) := by decide +kernel
theorem d_R_sorted_17 : decode b_R_sorted 17 = .ok (.iconst (-1), 1) := by decide +kernel
theorem d_R_sorted_18 : decode b_R_sorted 18 = .ok (.ireturn, 1) := by decide +kernel
theorem d_R_sorted_19 : decode b_R_sorted 19 = .ok (.aload_n 0, 1) := by decide +kernel
theorem d_R_sorted_20 : decode b_R_sorted 20 = .ok (.aload_n 0, 1) := by decide +kernel
theorem d_R_sorted_21 : decode b_R_sorted 21 = .ok (.getfield 21, 3) := by decide +kernel
theorem d_R_sorted_24 : decode b_R_sorted 24 = .ok (.iload_n 3, 1) := by decide +kernel
theorem d_R_sorted_25 : decode b_R_sorted 25 = .ok (.aaload, 1) := by decide +kernel
theorem d_R_sorted_26 : decode b_R_sorted 26 = .ok (.putfield 34, 3) := by decide +kernel
theorem d_R_sorted_29 : decode b_R_sorted 29 = .ok (.aload_n 0, 1) := by decide +kernel
theorem d_R_sorted_30 : decode b_R_sorted 30 = .ok (.iload_n 1, 1) := by decide +kernel
theorem d_R_sorted_31 : decode b_R_sorted 31 = .ok (.iload_n 2, 1) := by decide +kernel
theorem d_R_sorted_32 : decode b_R_sorted 32 = .ok (.invokevirtual 103, 3) := by decide +kernel
theorem d_R_sorted_35 : decode b_R_sorted 35 = .ok (.ifCond .eq 7, 3) := by decide +kernel
theorem d_R_sorted_38 : decode b_R_sorted 38 = .ok (.iconst 1, 1) := by decide +kernel
theorem d_R_sorted_39 : decode b_R_sorted 39 = .ok (.goto 4, 3) := by decide +kernel
theorem d_R_sorted_42 : decode b_R_sorted 42 = .ok (.iconst 0, 1) := by decide +kernel
theorem d_R_sorted_43 : decode b_R_sorted 43 = .ok (.ireturn, 1) := by decide +kernel
theorem d_R_find_0 : decode b_R_find 0 = .ok (.iload_n 3, 1) := by decide +kernel
theorem d_R_find_1 : decode b_R_find 1 = .ok (.ifCond .lt 22, 3) := by decide +kernel
theorem d_R_find_4 : decode b_R_find 4 = .ok (.iload_n 3, 1) := by decide +kernel
theorem d_R_find_5 : decode b_R_find 5 = .ok (.iconst 1, 1) := by decide +kernel
theorem d_R_find_6 : decode b_R_find 6 = .ok (.if_icmp .gt 17, 3) := by decide +kernel
theorem d_R_find_9 : decode b_R_find 9 = .ok (.aload_n 0, 1) := by decide +kernel
theorem d_R_find_10 : decode b_R_find 10 = .ok (.iconst 0, 1) := by decide +kernel
theorem d_R_find_11 : decode b_R_find 11 = .ok (.aload_n 0, 1) := by decide +kernel
theorem d_R_find_12 : decode b_R_find 12 = .ok (.getfield 38, 3) := by decide +kernel
theorem d_R_find_15 : decode b_R_find 15 = .ok (.iload_n 2, 1) := by decide +kernel
theorem d_R_find_16 : decode b_R_find 16 = .ok (.invokevirtual 109, 3) := by decide +kernel
theorem d_R_find_19 : decode b_R_find 19 = .ok (.iconst 1, 1) := by decide +kernel
theorem d_R_find_20 : decode b_R_find 20 = .ok (.if_icmp .eq 5, 3) := by decide +kernel
theorem d_R_find_23 : decode b_R_find 23 = .ok (.iconst (-1), 1) := by decide +kernel
theorem d_R_find_24 : decode b_R_find 24 = .ok (.ireturn, 1) := by decide +kernel
theorem d_R_find_25 : decode b_R_find 25 = .ok (.aload_n 0, 1) := by decide +kernel
theorem d_R_find_26 : decode b_R_find 26 = .ok (.getfield 63, 3) := by decide +kernel
theorem d_R_find_29 : decode b_R_find 29 = .ok (.lstore 4, 2) := by decide +kernel
theorem d_R_find_31 : decode b_R_find 31 = .ok (.aload_n 0, 1) := by decide +kernel
theorem d_R_find_32 : decode b_R_find 32 = .ok (.iconst 0, 1) := by decide +kernel
theorem d_R_find_33 : decode b_R_find 33 = .ok (.aload_n 0, 1) := by decide +kernel
theorem d_R_find_34 : decode b_R_find 34 = .ok (.getfield 38, 3) := by decide +kernel
theorem d_R_find_37 : decode b_R_find 37 = .ok (.iload_n 1, 1) := by decide +kernel
theorem d_R_find_38 : decode b_R_find 38 = .ok (.iload_n 3, 1) := by decide +kernel
theorem d_R_find_39 : decode b_R_find 39 = .ok (.iconst 1, 1) := by decide +kernel
theorem d_R_find_40 : decode b_R_find 40 = .ok (.if_icmp .ne 7, 3) := by decide +kernel
theorem d_R_find_43 : decode b_R_find 43 = .ok (.iconst 1, 1) := by decide +kernel
theorem d_R_find_44 : decode b_R_find 44 = .ok (.goto 4, 3) := by decide +kernel
theorem d_R_find_47 : decode b_R_find 47 = .ok (.iconst 0, 1) := by decide +kernel
theorem d_R_find_48 : decode b_R_find 48 = .ok (.invokevirtual 74, 3) := by decide +kernel
theorem d_R_find_51 : decode b_R_find 51 = .ok (.istore 6, 2) := by decide +kernel
theorem d_R_find_53 : decode b_R_find 53 = .ok (.aload_n 0, 1) := by decide +kernel
theorem d_R_find_54 : decode b_R_find 54 = .ok (.lload 4, 2) := by decide +kernel
theorem d_R_find_56 : decode b_R_find 56 = .ok (.putfield 63, 3) := by decide +kernel
theorem d_R_find_59 : decode b_R_find 59 = .ok (.iload 6, 2) := by decide +kernel
theorem d_R_find_61 : decode b_R_find 61 = .ok (.ireturn, 1) := by decide +kernel
theorem d_R_rank_0 : decode b_R_rank 0 = .ok (.iload_n 1, 1) := by decide +kernel
theorem d_R_rank_1 : decode b_R_rank 1 = .ok (.ifCond .lt 19, 3) := by decide +kernel
theorem d_R_rank_4 : decode b_R_rank 4 = .ok (.iload_n 1, 1) := by decide +kernel
theorem d_R_rank_5 : decode b_R_rank 5 = .ok (.aload_n 0, 1) := by decide +kernel
theorem d_R_rank_6 : decode b_R_rank 6 = .ok (.getfield 38, 3) := by decide +kernel
theorem d_R_rank_9 : decode b_R_rank 9 = .ok (.if_icmp .ge 11, 3) := by decide +kernel
theorem d_R_rank_12 : decode b_R_rank 12 = .ok (.aload_n 0, 1) := by decide +kernel
theorem d_R_rank_13 : decode b_R_rank 13 = .ok (.iload_n 2, 1) := by decide +kernel
theorem d_R_rank_14 : decode b_R_rank 14 = .ok (.invokevirtual 93, 3) := by decide +kernel
theorem d_R_rank_17 : decode b_R_rank 17 = .ok (.ifCond .ne 5, 3) := by decide +kernel
theorem d_R_rank_20 : decode b_R_rank 20 = .ok (.iconst (-1), 1) := by decide +kernel
theorem d_R_rank_21 : decode b_R_rank 21 = .ok (.ireturn, 1) := by decide +kernel
theorem d_R_rank_22 : decode b_R_rank 22 = .ok (.iconst 0, 1) := by decide +kernel
theorem d_R_rank_23 : decode b_R_rank 23 = .ok (.istore_n 3, 1) := by decide +kernel
theorem d_R_rank_24 : decode b_R_rank 24 = .ok (.iconst 0, 1) := by decide +kernel
theorem d_R_rank_25 : decode b_R_rank 25 = .ok (.istore 4, 2) := by decide +kernel
theorem d_R_rank_27 : decode b_R_rank 27 = .ok (.iload 4, 2) := by decide +kernel
theorem d_R_rank_29 : decode b_R_rank 29 = .ok (.aload_n 0, 1) := by decide +kernel
theorem d_R_rank_30 : decode b_R_rank 30 = .ok (.getfield 38, 3) := by decide +kernel
theorem d_R_rank_33 : decode b_R_rank 33 = .ok (.if_icmp .ge 57, 3) := by decide +kernel
theorem d_R_rank_36 : decode b_R_rank 36 = .ok (.aload_n 0, 1) := by decide +kernel
theorem d_R_rank_37 : decode b_R_rank 37 = .ok (.getfield 21, 3) := by decide +kernel
theorem d_R_rank_40 : decode b_R_rank 40 = .ok (.iload_n 2, 1) := by decide +kernel
theorem d_R_rank_41 : decode b_R_rank 41 = .ok (.aaload, 1) := by decide +kernel
theorem d_R_rank_42 : decode b_R_rank 42 = .ok (.aload_n 0, 1) := by decide +kernel
theorem d_R_rank_43 : decode b_R_rank 43 = .ok (.getfield 27, 3) := by decide +kernel
theorem d_R_rank_46 : decode b_R_rank 46 = .ok (.iload 4, 2) := by decide +kernel
theorem d_R_rank_48 : decode b_R_rank 48 = .ok (.iaload, 1) := by decide +kernel
theorem d_R_rank_49 : decode b_R_rank 49 = .ok (.aload_n 0, 1) := by decide +kernel
theorem d_R_rank_50 : decode b_R_rank 50 = .ok (.getfield 27, 3) := by decide +kernel
theorem d_R_rank_53 : decode b_R_rank 53 = .ok (.iload_n 1, 1) := by decide +kernel
theorem d_R_rank_54 : decode b_R_rank 54 = .ok (.iaload, 1) := by decide +kernel
theorem d_R_rank_55 : decode b_R_rank 55 = .ok (.invokevirtual 66, 3) := by decide +kernel
theorem d_R_rank_58 : decode b_R_rank 58 = .ok (.istore 5, 2) := by decide +kernel
theorem d_R_rank_60 : decode b_R_rank 60 = .ok (.iload_n 3, 1) := by decide +kernel
theorem d_R_rank_61 : decode b_R_rank 61 = .ok (.iload 5, 2) := by decide +kernel
theorem d_R_rank_63 : decode b_R_rank 63 = .ok (.ifCond .lt 14, 3) := by decide +kernel
theorem d_R_rank_66 : decode b_R_rank 66 = .ok (.iload 5, 2) := by decide +kernel
theorem d_R_rank_68 : decode b_R_rank 68 = .ok (.ifCond .ne 13, 3) := by decide +kernel
theorem d_R_rank_71 : decode b_R_rank 71 = .ok (.iload 4, 2) := by decide +kernel
theorem d_R_rank_73 : decode b_R_rank 73 = .ok (.iload_n 1, 1) := by decide +kernel
theorem d_R_rank_74 : decode b_R_rank 74 = .ok (.if_icmp .ge 7, 3) := by decide +kernel
theorem d_R_rank_77 : decode b_R_rank 77 = .ok (.iconst 1, 1) := by decide +kernel
theorem d_R_rank_78 : decode b_R_rank 78 = .ok (.goto 4, 3) := by decide +kernel
theorem d_R_rank_81 : decode b_R_rank 81 = .ok (.iconst 0, 1) := by decide +kernel
theorem d_R_rank_82 : decode b_R_rank 82 = .ok (.iadd, 1) := by decide +kernel
theorem d_R_rank_83 : decode b_R_rank 83 = .ok (.istore_n 3, 1) := by decide +kernel
theorem d_R_rank_84 : decode b_R_rank 84 = .ok (.iinc 4 1, 3) := by decide +kernel
theorem d_R_rank_87 : decode b_R_rank 87 = .ok (.goto (-60), 3) := by decide +kernel
theorem d_R_rank_90 : decode b_R_rank 90 = .ok (.iload_n 3, 1) := by decide +kernel
theorem d_R_rank_91 : decode b_R_rank 91 = .ok (.ireturn, 1) := by decide +kernel
theorem d_R_key_0 : decode b_R_key 0 = .ok (.iload_n 1, 1) := by decide +kernel
theorem d_R_key_1 : decode b_R_key 1 = .ok (.ifCond .lt 20, 3) := by decide +kernel
theorem d_R_key_4 : decode b_R_key 4 = .ok (.iload_n 1, 1) := by decide +kernel
theorem d_R_key_5 : decode b_R_key 5 = .ok (.aload_n 0, 1) := by decide +kernel
theorem d_R_key_6 : decode b_R_key 6 = .ok (.getfield 38, 3) := by decide +kernel
theorem d_R_key_9 : decode b_R_key 9 = .ok (.if_icmp .ge 12, 3) := by decide +kernel
theorem d_R_key_12 : decode b_R_key 12 = .ok (.aload_n 0, 1) := by decide +kernel
theorem d_R_key_13 : decode b_R_key 13 = .ok (.getfield 27, 3) := by decide +kernel
theorem d_R_key_16 : decode b_R_key 16 = .ok (.iload_n 1, 1) := by decide +kernel
theorem d_R_key_17 : decode b_R_key 17 = .ok (.iaload, 1) := by decide +kernel
theorem d_R_key_18 : decode b_R_key 18 = .ok (.goto 4, 3) := by decide +kernel
theorem d_R_key_21 : decode b_R_key 21 = .ok (.iconst 0, 1) := by decide +kernel
theorem d_R_key_22 : decode b_R_key 22 = .ok (.ireturn, 1) := by decide +kernel
theorem d_R_tag_0 : decode b_R_tag 0 = .ok (.iload_n 1, 1) := by decide +kernel
theorem d_R_tag_1 : decode b_R_tag 1 = .ok (.ifCond .lt 20, 3) := by decide +kernel
theorem d_R_tag_4 : decode b_R_tag 4 = .ok (.iload_n 1, 1) := by decide +kernel
theorem d_R_tag_5 : decode b_R_tag 5 = .ok (.aload_n 0, 1) := by decide +kernel
theorem d_R_tag_6 : decode b_R_tag 6 = .ok (.getfield 38, 3) := by decide +kernel
theorem d_R_tag_9 : decode b_R_tag 9 = .ok (.if_icmp .ge 12, 3) := by decide +kernel
theorem d_R_tag_12 : decode b_R_tag 12 = .ok (.aload_n 0, 1) := by decide +kernel
theorem d_R_tag_13 : decode b_R_tag 13 = .ok (.getfield 31, 3) := by decide +kernel
theorem d_R_tag_16 : decode b_R_tag 16 = .ok (.iload_n 1, 1) := by decide +kernel
theorem d_R_tag_17 : decode b_R_tag 17 = .ok (.iaload, 1) := by decide +kernel
theorem d_R_tag_18 : decode b_R_tag 18 = .ok (.goto 4, 3) := by decide +kernel
theorem d_R_tag_21 : decode b_R_tag 21 = .ok (.iconst 0, 1) := by decide +kernel
theorem d_R_tag_22 : decode b_R_tag 22 = .ok (.ireturn, 1) := by decide +kernel
theorem d_R_runs_0 : decode b_R_runs 0 = .ok (.aload_n 0, 1) := by decide +kernel
theorem d_R_runs_1 : decode b_R_runs 1 = .ok (.getfield 38, 3) := by decide +kernel
theorem d_R_runs_4 : decode b_R_runs 4 = .ok (.ifCond .le 7, 3) := by decide +kernel
theorem d_R_runs_7 : decode b_R_runs 7 = .ok (.iconst 1, 1) := by decide +kernel
theorem d_R_runs_8 : decode b_R_runs 8 = .ok (.goto 4, 3) := by decide +kernel
theorem d_R_runs_11 : decode b_R_runs 11 = .ok (.iconst 0, 1) := by decide +kernel
theorem d_R_runs_12 : decode b_R_runs 12 = .ok (.istore_n 1, 1) := by decide +kernel
theorem d_R_runs_13 : decode b_R_runs 13 = .ok (.iconst 1, 1) := by decide +kernel
theorem d_R_runs_14 : decode b_R_runs 14 = .ok (.istore_n 2, 1) := by decide +kernel
theorem d_R_runs_15 : decode b_R_runs 15 = .ok (.iload_n 2, 1) := by decide +kernel
theorem d_R_runs_16 : decode b_R_runs 16 = .ok (.aload_n 0, 1) := by decide +kernel
theorem d_R_runs_17 : decode b_R_runs 17 = .ok (.getfield 38, 3) := by decide +kernel
theorem d_R_runs_20 : decode b_R_runs 20 = .ok (.if_icmp .ge 34, 3) := by decide +kernel
theorem d_R_runs_23 : decode b_R_runs 23 = .ok (.iload_n 1, 1) := by decide +kernel
theorem d_R_runs_24 : decode b_R_runs 24 = .ok (.aload_n 0, 1) := by decide +kernel
theorem d_R_runs_25 : decode b_R_runs 25 = .ok (.getfield 27, 3) := by decide +kernel
theorem d_R_runs_28 : decode b_R_runs 28 = .ok (.iload_n 2, 1) := by decide +kernel
theorem d_R_runs_29 : decode b_R_runs 29 = .ok (.iaload, 1) := by decide +kernel
theorem d_R_runs_30 : decode b_R_runs 30 = .ok (.aload_n 0, 1) := by decide +kernel
theorem d_R_runs_31 : decode b_R_runs 31 = .ok (.getfield 27, 3) := by decide +kernel
theorem d_R_runs_34 : decode b_R_runs 34 = .ok (.iload_n 2, 1) := by decide +kernel
theorem d_R_runs_35 : decode b_R_runs 35 = .ok (.iconst 1, 1) := by decide +kernel
theorem d_R_runs_36 : decode b_R_runs 36 = .ok (.isub, 1) := by decide +kernel
theorem d_R_runs_37 : decode b_R_runs 37 = .ok (.iaload, 1) := by decide +kernel
theorem d_R_runs_38 : decode b_R_runs 38 = .ok (.if_icmp .ge 7, 3) := by decide +kernel
theorem d_R_runs_41 : decode b_R_runs 41 = .ok (.iconst 1, 1) := by decide +kernel
theorem d_R_runs_42 : decode b_R_runs 42 = .ok (.goto 4, 3) := by decide +kernel
theorem d_R_runs_45 : decode b_R_runs 45 = .ok (.iconst 0, 1) := by decide +kernel
theorem d_R_runs_46 : decode b_R_runs 46 = .ok (.iadd, 1) := by decide +kernel
theorem d_R_runs_47 : decode b_R_runs 47 = .ok (.istore_n 1, 1) := by decide +kernel
theorem d_R_runs_48 : decode b_R_runs 48 = .ok (.iinc 2 1, 3) := by decide +kernel
theorem d_R_runs_51 : decode b_R_runs 51 = .ok (.goto (-36), 3) := by decide +kernel
theorem d_R_runs_54 : decode b_R_runs 54 = .ok (.iload_n 1, 1) := by decide +kernel
theorem d_R_runs_55 : decode b_R_runs 55 = .ok (.ireturn, 1) := by decide +kernel
theorem d_R_different_0 : decode b_R_different 0 = .ok (.iconst 0, 1) := by decide +kernel
theorem d_R_different_1 : decode b_R_different 1 = .ok (.istore_n 1, 1) := by decide +kernel
theorem d_R_different_2 : decode b_R_different 2 = .ok (.iconst 0, 1) := by decide +kernel
theorem d_R_different_3 : decode b_R_different 3 = .ok (.istore_n 2, 1) := by decide +kernel
theorem d_R_different_4 : decode b_R_different 4 = .ok (.iload_n 2, 1) := by decide +kernel
theorem d_R_different_5 : decode b_R_different 5 = .ok (.aload_n 0, 1) := by decide +kernel
theorem d_R_different_6 : decode b_R_different 6 = .ok (.getfield 38, 3) := by decide +kernel
theorem d_R_different_9 : decode b_R_different 9 = .ok (.if_icmp .ge 45, 3) := by decide +kernel
theorem d_R_different_12 : decode b_R_different 12 = .ok (.iconst 0, 1) := by decide +kernel
theorem d_R_different_13 : decode b_R_different 13 = .ok (.istore_n 3, 1) := by decide +kernel
theorem d_R_different_14 : decode b_R_different 14 = .ok (.aload_n 0, 1) := by decide +kernel
theorem d_R_different_15 : decode b_R_different 15 = .ok (.getfield 27, 3) := by decide +kernel
theorem d_R_different_18 : decode b_R_different 18 = .ok (.iload_n 3, 1) := by decide +kernel
theorem d_R_different_19 : decode b_R_different 19 = .ok (.iaload, 1) := by decide +kernel
theorem d_R_different_20 : decode b_R_different 20 = .ok (.aload_n 0, 1) := by decide +kernel
theorem d_R_different_21 : decode b_R_different 21 = .ok (.getfield 27, 3) := by decide +kernel
theorem d_R_different_24 : decode b_R_different 24 = .ok (.iload_n 2, 1) := by decide +kernel
theorem d_R_different_25 : decode b_R_different 25 = .ok (.iaload, 1) := by decide +kernel
theorem d_R_different_26 : decode b_R_different 26 = .ok (.if_icmp .eq 9, 3) := by decide +kernel
theorem d_R_different_29 : decode b_R_different 29 = .ok (.iinc 3 1, 3) := by decide +kernel
theorem d_R_different_32 : decode b_R_different 32 = .ok (.goto (-18), 3) := by decide +kernel
theorem d_R_different_35 : decode b_R_different 35 = .ok (.iload_n 1, 1) := by decide +kernel
theorem d_R_different_36 : decode b_R_different 36 = .ok (.iload_n 3, 1) := by decide +kernel
theorem d_R_different_37 : decode b_R_different 37 = .ok (.iload_n 2, 1) := by decide +kernel
theorem d_R_different_38 : decode b_R_different 38 = .ok (.if_icmp .ne 7, 3) := by decide +kernel
theorem d_R_different_41 : decode b_R_different 41 = .ok (.iconst 1, 1) := by decide +kernel
theorem d_R_different_42 : decode b_R_different 42 = .ok (.goto 4, 3) := by decide +kernel
theorem d_R_different_45 : decode b_R_different 45 = .ok (.iconst 0, 1) := by decide +kernel
theorem d_R_different_46 : decode b_R_different 46 = .ok (.iadd, 1) := by decide +kernel
theorem d_R_different_47 : decode b_R_different 47 = .ok (.istore_n 1, 1) := by decide +kernel
theorem d_R_different_48 : decode b_R_different 48 = .ok (.iinc 2 1, 3) := by decide +kernel
theorem d_R_different_51 : decode b_R_different 51 = .ok (.goto (-47), 3) := by decide +kernel
theorem d_R_different_54 : decode b_R_different 54 = .ok (.iload_n 1, 1) := by decide +kernel
theorem d_R_different_55 : decode b_R_different 55 = .ok (.ireturn, 1) := by decide +kernel
theorem d_R_count_0 : decode b_R_count 0 = .ok (.iload_n 1, 1) := by decide +kernel
theorem d_R_count_1 : decode b_R_count 1 = .ok (.ifCond .ne 10, 3) := by decide +kernel
theorem d_R_count_4 : decode b_R_count 4 = .ok (.aload_n 0, 1) := by decide +kernel
theorem d_R_count_5 : decode b_R_count 5 = .ok (.getfield 38, 3) := by decide +kernel
theorem d_R_count_8 : decode b_R_count 8 = .ok (.goto 28, 3) := by decide +kernel
theorem d_R_count_11 : decode b_R_count 11 = .ok (.iload_n 1, 1) := by decide +kernel
theorem d_R_count_12 : decode b_R_count 12 = .ok (.iconst 1, 1) := by decide +kernel
theorem d_R_count_13 : decode b_R_count 13 = .ok (.if_icmp .ne 10, 3) := by decide +kernel
theorem d_R_count_16 : decode b_R_count 16 = .ok (.aload_n 0, 1) := by decide +kernel
theorem d_R_count_17 : decode b_R_count 17 = .ok (.invokevirtual 112, 3) := by decide +kernel
theorem d_R_count_20 : decode b_R_count 20 = .ok (.goto 16, 3) := by decide +kernel
theorem d_R_count_23 : decode b_R_count 23 = .ok (.iload_n 1, 1) := by decide +kernel
theorem d_R_count_24 : decode b_R_count 24 = .ok (.iconst 2, 1) := by decide +kernel
theorem d_R_count_25 : decode b_R_count 25 = .ok (.if_icmp .ne 10, 3) := by decide +kernel
theorem d_R_count_28 : decode b_R_count 28 = .ok (.aload_n 0, 1) := by decide +kernel
theorem d_R_count_29 : decode b_R_count 29 = .ok (.invokevirtual 116, 3) := by decide +kernel
theorem d_R_count_32 : decode b_R_count 32 = .ok (.goto 4, 3) := by decide +kernel
theorem d_R_count_35 : decode b_R_count 35 = .ok (.iconst (-1), 1) := by decide +kernel
theorem d_R_count_36 : decode b_R_count 36 = .ok (.ireturn, 1) := by decide +kernel
theorem d_R_check_0 : decode b_R_check 0 = .ok (.aload_n 0, 1) := by decide +kernel
theorem d_R_check_1 : decode b_R_check 1 = .ok (.getfield 71, 3) := by decide +kernel
theorem d_R_check_4 : decode b_R_check 4 = .ok (.i2l, 1) := by decide +kernel
theorem d_R_check_5 : decode b_R_check 5 = .ok (.lstore_n 1, 1) := by decide +kernel
theorem d_R_check_6 : decode b_R_check 6 = .ok (.iconst 1, 1) := by decide +kernel
theorem d_R_check_7 : decode b_R_check 7 = .ok (.istore_n 3, 1) := by decide +kernel
theorem d_R_check_8 : decode b_R_check 8 = .ok (.lconst 1, 1) := by decide +kernel
theorem d_R_check_9 : decode b_R_check 9 = .ok (.iload_n 3, 1) := by decide +kernel
theorem d_R_check_10 : decode b_R_check 10 = .ok (.lshl, 1) := by decide +kernel
theorem d_R_check_11 : decode b_R_check 11 = .ok (.lload_n 1, 1) := by decide +kernel
theorem d_R_check_12 : decode b_R_check 12 = .ok (.lcmp, 1) := by decide +kernel
theorem d_R_check_13 : decode b_R_check 13 = .ok (.ifCond .ge 9, 3) := by decide +kernel
theorem d_R_check_16 : decode b_R_check 16 = .ok (.iinc 3 1, 3) := by decide +kernel
theorem d_R_check_19 : decode b_R_check 19 = .ok (.goto (-11), 3) := by decide +kernel
theorem d_R_check_22 : decode b_R_check 22 = .ok (.aload_n 0, 1) := by decide +kernel
theorem d_R_check_23 : decode b_R_check 23 = .ok (.getfield 63, 3) := by decide +kernel
theorem d_R_check_26 : decode b_R_check 26 = .ok (.ldc2_w 119, 3) := by decide +kernel
theorem d_R_check_29 : decode b_R_check 29 = .ok (.lload_n 1, 1) := by decide +kernel
theorem d_R_check_30 : decode b_R_check 30 = .ok (.lmul, 1) := by decide +kernel
theorem d_R_check_31 : decode b_R_check 31 = .ok (.iload_n 3, 1) := by decide +kernel
theorem d_R_check_32 : decode b_R_check 32 = .ok (.i2l, 1) := by decide +kernel
theorem d_R_check_33 : decode b_R_check 33 = .ok (.lmul, 1) := by decide +kernel
theorem d_R_check_34 : decode b_R_check 34 = .ok (.lcmp, 1) := by decide +kernel
theorem d_R_check_35 : decode b_R_check 35 = .ok (.ifCond .gt 23, 3) := by decide +kernel
theorem d_R_check_38 : decode b_R_check 38 = .ok (.aload_n 0, 1) := by decide +kernel
theorem d_R_check_39 : decode b_R_check 39 = .ok (.getfield 42, 3) := by decide +kernel
theorem d_R_check_42 : decode b_R_check 42 = .ok (.ldc2_w 121, 3) := by decide +kernel
theorem d_R_check_45 : decode b_R_check 45 = .ok (.lload_n 1, 1) := by decide +kernel
theorem d_R_check_46 : decode b_R_check 46 = .ok (.lmul, 1) := by decide +kernel
theorem d_R_check_47 : decode b_R_check 47 = .ok (.iload_n 3, 1) := by decide +kernel
theorem d_R_check_48 : decode b_R_check 48 = .ok (.i2l, 1) := by decide +kernel
theorem d_R_check_49 : decode b_R_check 49 = .ok (.lmul, 1) := by decide +kernel
theorem d_R_check_50 : decode b_R_check 50 = .ok (.lcmp, 1) := by decide +kernel
theorem d_R_check_51 : decode b_R_check 51 = .ok (.ifCond .gt 7, 3) := by decide +kernel
theorem d_R_check_54 : decode b_R_check 54 = .ok (.iconst 1, 1) := by decide +kernel
theorem d_R_check_55 : decode b_R_check 55 = .ok (.goto 4, 3) := by decide +kernel
theorem d_R_check_58 : decode b_R_check 58 = .ok (.iconst 0, 1) := by decide +kernel
theorem d_R_check_59 : decode b_R_check 59 = .ok (.ireturn, 1) := by decide +kernel
end
section
theorem d_M_init_0 : decode b_M_init 0 = .ok (.aload_n 0, 1) := by decide +kernel
theorem d_M_init_1 : decode b_M_init 1 = .ok (.invokespecial 1, 3) := by decide +kernel
theorem d_M_init_4 : decode b_M_init 4 = .ok (.aload_n 0, 1) := by decide +kernel
theorem d_M_init_5 : decode b_M_init 5 = .ok (.sipush 500, 3) := by decide +kernel
theorem d_M_init_8 : decode b_M_init 8 = .ok (.newarray .int, 2) := by decide +kernel
theorem d_M_init_10 : decode b_M_init 10 = .ok (.putfield 7, 3) := by decide +kernel
theorem d_M_init_13 : decode b_M_init 13 = .ok (.aload_n 0, 1) := by decide +kernel
theorem d_M_init_14 : decode b_M_init 14 = .ok (.sipush 500, 3) := by decide +kernel
theorem d_M_init_17 : decode b_M_init 17 = .ok (.newarray .int, 2) := by decide +kernel
theorem d_M_init_19 : decode b_M_init 19 = .ok (.putfield 13, 3) := by decide +kernel
theorem d_M_init_22 : decode b_M_init 22 = .ok (.aload_n 0, 1) := by decide +kernel
theorem d_M_init_23 : decode b_M_init 23 = .ok (.sipush 500, 3) := by decide +kernel
theorem d_M_init_26 : decode b_M_init 26 = .ok (.newarray .int, 2) := by decide +kernel
theorem d_M_init_28 : decode b_M_init 28 = .ok (.putfield 16, 3) := by decide +kernel
theorem d_M_init_31 : decode b_M_init 31 = .ok (.aload_n 0, 1) := by decide +kernel
theorem d_M_init_32 : decode b_M_init 32 = .ok (.sipush 500, 3) := by decide +kernel
theorem d_M_init_35 : decode b_M_init 35 = .ok (.newarray .int, 2) := by decide +kernel
theorem d_M_init_37 : decode b_M_init 37 = .ok (.putfield 19, 3) := by decide +kernel
theorem d_M_init_40 : decode b_M_init 40 = .ok (.aload_n 0, 1) := by decide +kernel
theorem d_M_init_41 : decode b_M_init 41 = .ok (.iconst 0, 1) := by decide +kernel
theorem d_M_init_42 : decode b_M_init 42 = .ok (.putfield 22, 3) := by decide +kernel
theorem d_M_init_45 : decode b_M_init 45 = .ok (.return_, 1) := by decide +kernel
theorem d_M_isOrder_0 : decode b_M_isOrder 0 = .ok (.iload_n 0, 1) := by decide +kernel
theorem d_M_isOrder_1 : decode b_M_isOrder 1 = .ok (.ifCond .lt 12, 3) := by decide +kernel
theorem d_M_isOrder_4 : decode b_M_isOrder 4 = .ok (.iload_n 0, 1) := by decide +kernel
theorem d_M_isOrder_5 : decode b_M_isOrder 5 = .ok (.iconst 3, 1) := by decide +kernel
theorem d_M_isOrder_6 : decode b_M_isOrder 6 = .ok (.if_icmp .gt 7, 3) := by decide +kernel
theorem d_M_isOrder_9 : decode b_M_isOrder 9 = .ok (.iconst 1, 1) := by decide +kernel
theorem d_M_isOrder_10 : decode b_M_isOrder 10 = .ok (.goto 4, 3) := by decide +kernel
theorem d_M_isOrder_13 : decode b_M_isOrder 13 = .ok (.iconst 0, 1) := by decide +kernel
theorem d_M_isOrder_14 : decode b_M_isOrder 14 = .ok (.ireturn, 1) := by decide +kernel
theorem d_M_isStretch_0 : decode b_M_isStretch 0 = .ok (.iload_n 1, 1) := by decide +kernel
theorem d_M_isStretch_1 : decode b_M_isStretch 1 = .ok (.ifCond .lt 20, 3) := by decide +kernel
theorem d_M_isStretch_4 : decode b_M_isStretch 4 = .ok (.iload_n 1, 1) := by decide +kernel
theorem d_M_isStretch_5 : decode b_M_isStretch 5 = .ok (.iload_n 2, 1) := by decide +kernel
theorem d_M_isStretch_6 : decode b_M_isStretch 6 = .ok (.if_icmp .gt 15, 3) := by decide +kernel
theorem d_M_isStretch_9 : decode b_M_isStretch 9 = .ok (.iload_n 2, 1) := by decide +kernel
theorem d_M_isStretch_10 : decode b_M_isStretch 10 = .ok (.aload_n 0, 1) := by decide +kernel
theorem d_M_isStretch_11 : decode b_M_isStretch 11 = .ok (.getfield 22, 3) := by decide +kernel
theorem d_M_isStretch_14 : decode b_M_isStretch 14 = .ok (.if_icmp .gt 7, 3) := by decide +kernel
theorem d_M_isStretch_17 : decode b_M_isStretch 17 = .ok (.iconst 1, 1) := by decide +kernel
theorem d_M_isStretch_18 : decode b_M_isStretch 18 = .ok (.goto 4, 3) := by decide +kernel
theorem d_M_isStretch_21 : decode b_M_isStretch 21 = .ok (.iconst 0, 1) := by decide +kernel
theorem d_M_isStretch_22 : decode b_M_isStretch 22 = .ok (.ireturn, 1) := by decide +kernel
theorem d_M_isLess_0 : decode b_M_isLess 0 = .ok (.iload_n 2, 1) := by decide +kernel
theorem d_M_isLess_1 : decode b_M_isLess 1 = .ok (.tableswitch 71 0 2 #[27, 38, 60], 27) := by decide +kernel
theorem d_M_isLess_28 : decode b_M_isLess 28 = .ok (.iload_n 0, 1) := by decide +kernel
theorem d_M_isLess_29 : decode b_M_isLess 29 = .ok (.iload_n 1, 1) := by decide +kernel
theorem d_M_isLess_30 : decode b_M_isLess 30 = .ok (.if_icmp .ge 7, 3) := by decide +kernel
theorem d_M_isLess_33 : decode b_M_isLess 33 = .ok (.iconst 1, 1) := by decide +kernel
theorem d_M_isLess_34 : decode b_M_isLess 34 = .ok (.goto 4, 3) := by decide +kernel
theorem d_M_isLess_37 : decode b_M_isLess 37 = .ok (.iconst 0, 1) := by decide +kernel
theorem d_M_isLess_38 : decode b_M_isLess 38 = .ok (.ireturn, 1) := by decide +kernel
theorem d_M_isLess_39 : decode b_M_isLess 39 = .ok (.iload_n 0, 1) := by decide +kernel
theorem d_M_isLess_40 : decode b_M_isLess 40 = .ok (.i2l, 1) := by decide +kernel
theorem d_M_isLess_41 : decode b_M_isLess 41 = .ok (.ldc2_w 26, 3) := by decide +kernel
theorem d_M_isLess_44 : decode b_M_isLess 44 = .ok (.land, 1) := by decide +kernel
theorem d_M_isLess_45 : decode b_M_isLess 45 = .ok (.iload_n 1, 1) := by decide +kernel
theorem d_M_isLess_46 : decode b_M_isLess 46 = .ok (.i2l, 1) := by decide +kernel
theorem d_M_isLess_47 : decode b_M_isLess 47 = .ok (.ldc2_w 26, 3) := by decide +kernel
theorem d_M_isLess_50 : decode b_M_isLess 50 = .ok (.land, 1) := by decide +kernel
theorem d_M_isLess_51 : decode b_M_isLess 51 = .ok (.lcmp, 1) := by decide +kernel
theorem d_M_isLess_52 : decode b_M_isLess 52 = .ok (.ifCond .ge 7, 3) := by decide +kernel
theorem d_M_isLess_55 : decode b_M_isLess 55 = .ok (.iconst 1, 1) := by decide +kernel
theorem d_M_isLess_56 : decode b_M_isLess 56 = .ok (.goto 4, 3) := by decide +kernel
theorem d_M_isLess_59 : decode b_M_isLess 59 = .ok (.iconst 0, 1) := by decide +kernel
theorem d_M_isLess_60 : decode b_M_isLess 60 = .ok (.ireturn, 1) := by decide +kernel
theorem d_M_isLess_61 : decode b_M_isLess 61 = .ok (.iload_n 1, 1) := by decide +kernel
theorem d_M_isLess_62 : decode b_M_isLess 62 = .ok (.iload_n 0, 1) := by decide +kernel
theorem d_M_isLess_63 : decode b_M_isLess 63 = .ok (.if_icmp .ge 7, 3) := by decide +kernel
theorem d_M_isLess_66 : decode b_M_isLess 66 = .ok (.iconst 1, 1) := by decide +kernel
theorem d_M_isLess_67 : decode b_M_isLess 67 = .ok (.goto 4, 3) := by decide +kernel
theorem d_M_isLess_70 : decode b_M_isLess 70 = .ok (.iconst 0, 1) := by decide +kernel
theorem d_M_isLess_71 : decode b_M_isLess 71 = .ok (.ireturn, 1) := by decide +kernel
theorem d_M_isLess_72 : decode b_M_isLess 72 = .ok (.iload_n 0, 1) := by decide +kernel
theorem d_M_isLess_73 : decode b_M_isLess 73 = .ok (.sipush 255, 3) := by decide +kernel
theorem d_M_isLess_76 : decode b_M_isLess 76 = .ok (.iand, 1) := by decide +kernel
theorem d_M_isLess_77 : decode b_M_isLess 77 = .ok (.iload_n 1, 1) := by decide +kernel
theorem d_M_isLess_78 : decode b_M_isLess 78 = .ok (.sipush 255, 3) := by decide +kernel
theorem d_M_isLess_81 : decode b_M_isLess 81 = .ok (.iand, 1) := by decide +kernel
theorem d_M_isLess_82 : decode b_M_isLess 82 = .ok (.if_icmp .ge 7, 3) := by decide +kernel
theorem d_M_isLess_85 : decode b_M_isLess 85 = .ok (.iconst 1, 1) := by decide +kernel
theorem d_M_isLess_86 : decode b_M_isLess 86 = .ok (.goto 4, 3) := by decide +kernel
theorem d_M_isLess_89 : decode b_M_isLess 89 = .ok (.iconst 0, 1) := by decide +kernel
theorem d_M_isLess_90 : decode b_M_isLess 90 = .ok (.ireturn, 1) := by decide +kernel
theorem d_M_isSorted_0 : decode b_M_isSorted 0 = .ok (.iload_n 1, 1) := by decide +kernel
theorem d_M_isSorted_1 : decode b_M_isSorted 1 = .ok (.iconst 1, 1) := by decide +kernel
theorem d_M_isSorted_2 : decode b_M_isSorted 2 = .ok (.iadd, 1) := by decide +kernel
theorem d_M_isSorted_3 : decode b_M_isSorted 3 = .ok (.istore 4, 2) := by decide +kernel
theorem d_M_isSorted_5 : decode b_M_isSorted 5 = .ok (.iload 4, 2) := by decide +kernel
theorem d_M_isSorted_7 : decode b_M_isSorted 7 = .ok (.iload_n 2, 1) := by decide +kernel
theorem d_M_isSorted_8 : decode b_M_isSorted 8 = .ok (.if_icmp .ge 34, 3) := by decide +kernel
theorem d_M_isSorted_11 : decode b_M_isSorted 11 = .ok (.aload_n 0, 1) := by decide +kernel
theorem d_M_isSorted_12 : decode b_M_isSorted 12 = .ok (.getfield 7, 3) := by decide +kernel
theorem d_M_isSorted_15 : decode b_M_isSorted 15 = .ok (.iload 4, 2) := by decide +kernel
theorem d_M_isSorted_17 : decode b_M_isSorted 17 = .ok (.iaload, 1) := by decide +kernel
theorem d_M_isSorted_18 : decode b_M_isSorted 18 = .ok (.aload_n 0, 1) := by decide +kernel
theorem d_M_isSorted_19 : decode b_M_isSorted 19 = .ok (.getfield 7, 3) := by decide +kernel
theorem d_M_isSorted_22 : decode b_M_isSorted 22 = .ok (.iload 4, 2) := by decide +kernel
theorem d_M_isSorted_24 : decode b_M_isSorted 24 = .ok (.iconst 1, 1) := by decide +kernel
theorem d_M_isSorted_25 : decode b_M_isSorted 25 = .ok (.isub, 1) := by decide +kernel
theorem d_M_isSorted_26 : decode b_M_isSorted 26 = .ok (.iaload, 1) := by decide +kernel
theorem d_M_isSorted_27 : decode b_M_isSorted 27 = .ok (.iload_n 3, 1) := by decide +kernel
theorem d_M_isSorted_28 : decode b_M_isSorted 28 = .ok (.invokestatic 28, 3) := by decide +kernel
theorem d_M_isSorted_31 : decode b_M_isSorted 31 = .ok (.ifCond .eq 5, 3) := by decide +kernel
theorem d_M_isSorted_34 : decode b_M_isSorted 34 = .ok (.iconst 0, 1) := by decide +kernel
theorem d_M_isSorted_35 : decode b_M_isSorted 35 = .ok (.ireturn, 1) := by decide +kernel
theorem d_M_isSorted_36 : decode b_M_isSorted 36 = .ok (.iinc 4 1, 3) := by decide +kernel
theorem d_M_isSorted_39 : decode b_M_isSorted 39 = .ok (.goto (-34), 3) := by decide +kernel
theorem d_M_isSorted_42 : decode b_M_isSorted 42 = .ok (.iconst 1, 1) := by decide +kernel
theorem d_M_isSorted_43 : decode b_M_isSorted 43 = .ok (.ireturn, 1) := by decide +kernel
theorem d_M_put_0 : decode b_M_put 0 = .ok (.aload_n 0, 1) := by decide +kernel
theorem d_M_put_1 : decode b_M_put 1 = .ok (.getfield 22, 3) := by decide +kernel
theorem d_M_put_4 : decode b_M_put 4 = .ok (.sipush 500, 3) := by decide +kernel
theorem d_M_put_7 : decode b_M_put 7 = .ok (.if_icmp .ne 5, 3) := by decide +kernel
theorem d_M_put_10 : decode b_M_put 10 = .ok (.iconst (-1), 1) := by decide +kernel
theorem d_M_put_11 : decode b_M_put 11 = .ok (.ireturn, 1) := by decide +kernel
theorem d_M_put_12 : decode b_M_put 12 = .ok (.aload_n 0, 1) := by decide +kernel
theorem d_M_put_13 : decode b_M_put 13 = .ok (.getfield 7, 3) := by decide +kernel
theorem d_M_put_16 : decode b_M_put 16 = .ok (.aload_n 0, 1) := by decide +kernel
theorem d_M_put_17 : decode b_M_put 17 = .ok (.getfield 22, 3) := by decide +kernel
theorem d_M_put_20 : decode b_M_put 20 = .ok (.iload_n 1, 1) := by decide +kernel
theorem d_M_put_21 : decode b_M_put 21 = .ok (.iastore, 1) := by decide +kernel
theorem d_M_put_22 : decode b_M_put 22 = .ok (.aload_n 0, 1) := by decide +kernel
theorem d_M_put_23 : decode b_M_put 23 = .ok (.getfield 13, 3) := by decide +kernel
theorem d_M_put_26 : decode b_M_put 26 = .ok (.aload_n 0, 1) := by decide +kernel
theorem d_M_put_27 : decode b_M_put 27 = .ok (.getfield 22, 3) := by decide +kernel
theorem d_M_put_30 : decode b_M_put 30 = .ok (.iload_n 2, 1) := by decide +kernel
theorem d_M_put_31 : decode b_M_put 31 = .ok (.iastore, 1) := by decide +kernel
theorem d_M_put_32 : decode b_M_put 32 = .ok (.aload_n 0, 1) := by decide +kernel
theorem d_M_put_33 : decode b_M_put 33 = .ok (.dup, 1) := by decide +kernel
theorem d_M_put_34 : decode b_M_put 34 = .ok (.getfield 22, 3) := by decide +kernel
theorem d_M_put_37 : decode b_M_put 37 = .ok (.iconst 1, 1) := by decide +kernel
theorem d_M_put_38 : decode b_M_put 38 = .ok (.iadd, 1) := by decide +kernel
theorem d_M_put_39 : decode b_M_put 39 = .ok (.putfield 22, 3) := by decide +kernel
theorem d_M_put_42 : decode b_M_put 42 = .ok (.aload_n 0, 1) := by decide +kernel
theorem d_M_put_43 : decode b_M_put 43 = .ok (.getfield 22, 3) := by decide +kernel
theorem d_M_put_46 : decode b_M_put 46 = .ok (.ireturn, 1) := by decide +kernel
theorem d_M_run_0 : decode b_M_run 0 = .ok (.iload_n 1, 1) := by decide +kernel
theorem d_M_run_1 : decode b_M_run 1 = .ok (.iconst 1, 1) := by decide +kernel
theorem d_M_run_2 : decode b_M_run 2 = .ok (.if_icmp .lt 22, 3) := by decide +kernel
theorem d_M_run_5 : decode b_M_run 5 = .ok (.iload_n 1, 1) := by decide +kernel
theorem d_M_run_6 : decode b_M_run 6 = .ok (.sipush 500, 3) := by decide +kernel
theorem d_M_run_9 : decode b_M_run 9 = .ok (.if_icmp .gt 15, 3) := by decide +kernel
theorem d_M_run_12 : decode b_M_run 12 = .ok (.aload_n 0, 1) := by decide +kernel
theorem d_M_run_13 : decode b_M_run 13 = .ok (.getfield 22, 3) := by decide +kernel
theorem d_M_run_16 : decode b_M_run 16 = .ok (.iload_n 1, 1) := by decide +kernel
theorem d_M_run_17 : decode b_M_run 17 = .ok (.iadd, 1) := by decide +kernel
theorem d_M_run_18 : decode b_M_run 18 = .ok (.sipush 500, 3) := by decide +kernel
theorem d_M_run_21 : decode b_M_run 21 = .ok (.if_icmp .le 5, 3) := by decide +kernel
theorem d_M_run_24 : decode b_M_run 24 = .ok (.iconst (-1), 1) := by decide +kernel
theorem d_M_run_25 : decode b_M_run 25 = .ok (.ireturn, 1) := by decide +kernel
theorem d_M_run_26 : decode b_M_run 26 = .ok (.iconst 0, 1) := by decide +kernel
theorem d_M_run_27 : decode b_M_run 27 = .ok (.istore 5, 2) := by decide +kernel
theorem d_M_run_29 : decode b_M_run 29 = .ok (.iload 5, 2) := by decide +kernel
theorem d_M_run_31 : decode b_M_run 31 = .ok (.iload_n 1, 1) := by decide +kernel
theorem d_M_run_32 : decode b_M_run 32 = .ok (.if_icmp .ge 44, 3) := by decide +kernel
theorem d_M_run_35 : decode b_M_run 35 = .ok (.aload_n 0, 1) := by decide +kernel
theorem d_M_run_36 : decode b_M_run 36 = .ok (.getfield 7, 3) := by decide +kernel
theorem d_M_run_39 : decode b_M_run 39 = .ok (.aload_n 0, 1) := by decide +kernel
theorem d_M_run_40 : decode b_M_run 40 = .ok (.getfield 22, 3) := by decide +kernel
theorem d_M_run_43 : decode b_M_run 43 = .ok (.iload 5, 2) := by decide +kernel
theorem d_M_run_45 : decode b_M_run 45 = .ok (.iadd, 1) := by decide +kernel
theorem d_M_run_46 : decode b_M_run 46 = .ok (.iload_n 2, 1) := by decide +kernel
theorem d_M_run_47 : decode b_M_run 47 = .ok (.iload 5, 2) := by decide +kernel
theorem d_M_run_49 : decode b_M_run 49 = .ok (.iload_n 3, 1) := by decide +kernel
theorem d_M_run_50 : decode b_M_run 50 = .ok (.imul, 1) := by decide +kernel
theorem d_M_run_51 : decode b_M_run 51 = .ok (.iadd, 1) := by decide +kernel
theorem d_M_run_52 : decode b_M_run 52 = .ok (.iastore, 1) := by decide +kernel
theorem d_M_run_53 : decode b_M_run 53 = .ok (.aload_n 0, 1) := by decide +kernel
theorem d_M_run_54 : decode b_M_run 54 = .ok (.getfield 13, 3) := by decide +kernel
theorem d_M_run_57 : decode b_M_run 57 = .ok (.aload_n 0, 1) := by decide +kernel
theorem d_M_run_58 : decode b_M_run 58 = .ok (.getfield 22, 3) := by decide +kernel
theorem d_M_run_61 : decode b_M_run 61 = .ok (.iload 5, 2) := by decide +kernel
theorem d_M_run_63 : decode b_M_run 63 = .ok (.iadd, 1) := by decide +kernel
theorem d_M_run_64 : decode b_M_run 64 = .ok (.iload 4, 2) := by decide +kernel
theorem d_M_run_66 : decode b_M_run 66 = .ok (.iload 5, 2) := by decide +kernel
theorem d_M_run_68 : decode b_M_run 68 = .ok (.iadd, 1) := by decide +kernel
theorem d_M_run_69 : decode b_M_run 69 = .ok (.iastore, 1) := by decide +kernel
theorem d_M_run_70 : decode b_M_run 70 = .ok (.iinc 5 1, 3) := by decide +kernel
theorem d_M_run_73 : decode b_M_run 73 = .ok (.goto (-44), 3) := by decide +kernel
theorem d_M_run_76 : decode b_M_run 76 = .ok (.aload_n 0, 1) := by decide +kernel
theorem d_M_run_77 : decode b_M_run 77 = .ok (.aload_n 0, 1) := by decide +kernel
theorem d_M_run_78 : decode b_M_run 78 = .ok (.getfield 22, 3) := by decide +kernel
theorem d_M_run_81 : decode b_M_run 81 = .ok (.iload_n 1, 1) := by decide +kernel
theorem d_M_run_82 : decode b_M_run 82 = .ok (.iadd, 1) := by decide +kernel
theorem d_M_run_83 : decode b_M_run 83 = .ok (.putfield 22, 3) := by decide +kernel
theorem d_M_run_86 : decode b_M_run 86 = .ok (.aload_n 0, 1) := by decide +kernel
theorem d_M_run_87 : decode b_M_run 87 = .ok (.getfield 22, 3) := by decide +kernel
theorem d_M_run_90 : decode b_M_run 90 = .ok (.ireturn, 1) := by decide +kernel
theorem d_M_clear_0 : decode b_M_clear 0 = .ok (.aload_n 0, 1) := by decide +kernel
theorem d_M_clear_1 : decode b_M_clear 1 = .ok (.getfield 22, 3) := by decide +kernel
theorem d_M_clear_4 : decode b_M_clear 4 = .ok (.istore_n 1, 1) := by decide +kernel
theorem d_M_clear_5 : decode b_M_clear 5 = .ok (.aload_n 0, 1) := by decide +kernel
theorem d_M_clear_6 : decode b_M_clear 6 = .ok (.iconst 0, 1) := by decide +kernel
theorem d_M_clear_7 : decode b_M_clear 7 = .ok (.putfield 22, 3) := by decide +kernel
theorem d_M_clear_10 : decode b_M_clear 10 = .ok (.iload_n 1, 1) := by decide +kernel
theorem d_M_clear_11 : decode b_M_clear 11 = .ok (.ireturn, 1) := by decide +kernel
theorem d_M_place_0 : decode b_M_place 0 = .ok (.iload_n 2, 1) := by decide +kernel
theorem d_M_place_1 : decode b_M_place 1 = .ok (.istore 5, 2) := by decide +kernel
theorem d_M_place_3 : decode b_M_place 3 = .ok (.iload_n 2, 1) := by decide +kernel
theorem d_M_place_4 : decode b_M_place 4 = .ok (.istore 6, 2) := by decide +kernel
theorem d_M_place_6 : decode b_M_place 6 = .ok (.iload 6, 2) := by decide +kernel
theorem d_M_place_8 : decode b_M_place 8 = .ok (.iload_n 3, 1) := by decide +kernel
theorem d_M_place_9 : decode b_M_place 9 = .ok (.if_icmp .ge 80, 3) := by decide +kernel
theorem d_M_place_12 : decode b_M_place 12 = .ok (.aload_n 0, 1) := by decide +kernel
theorem d_M_place_13 : decode b_M_place 13 = .ok (.getfield 7, 3) := by decide +kernel
theorem d_M_place_16 : decode b_M_place 16 = .ok (.iload 6, 2) := by decide +kernel
theorem d_M_place_18 : decode b_M_place 18 = .ok (.iaload, 1) := by decide +kernel
theorem d_M_place_19 : decode b_M_place 19 = .ok (.aload_n 0, 1) := by decide +kernel
theorem d_M_place_20 : decode b_M_place 20 = .ok (.getfield 7, 3) := by decide +kernel
theorem d_M_place_23 : decode b_M_place 23 = .ok (.iload_n 1, 1) := by decide +kernel
theorem d_M_place_24 : decode b_M_place 24 = .ok (.iaload, 1) := by decide +kernel
theorem d_M_place_25 : decode b_M_place 25 = .ok (.iload 4, 2) := by decide +kernel
theorem d_M_place_27 : decode b_M_place 27 = .ok (.invokestatic 28, 3) := by decide +kernel
theorem d_M_place_30 : decode b_M_place 30 = .ok (.ifCond .ne 30, 3) := by decide +kernel
theorem d_M_place_33 : decode b_M_place 33 = .ok (.iload 6, 2) := by decide +kernel
theorem d_M_place_35 : decode b_M_place 35 = .ok (.iload_n 1, 1) := by decide +kernel
theorem d_M_place_36 : decode b_M_place 36 = .ok (.if_icmp .ge 28, 3) := by decide +kernel
theorem d_M_place_39 : decode b_M_place 39 = .ok (.aload_n 0, 1) := by decide +kernel
theorem d_M_place_40 : decode b_M_place 40 = .ok (.getfield 7, 3) := by decide +kernel
theorem d_M_place_43 : decode b_M_place 43 = .ok (.iload_n 1, 1) := by decide +kernel
theorem d_M_place_44 : decode b_M_place 44 = .ok (.iaload, 1) := by decide +kernel
theorem d_M_place_45 : decode b_M_place 45 = .ok (.aload_n 0, 1) := by decide +kernel
theorem d_M_place_46 : decode b_M_place 46 = .ok (.getfield 7, 3) := by decide +kernel
theorem d_M_place_49 : decode b_M_place 49 = .ok (.iload 6, 2) := by decide +kernel
theorem d_M_place_51 : decode b_M_place 51 = .ok (.iaload, 1) := by decide +kernel
theorem d_M_place_52 : decode b_M_place 52 = .ok (.iload 4, 2) := by decide +kernel
theorem d_M_place_54 : decode b_M_place 54 = .ok (.invokestatic 28, 3) := by decide +kernel
theorem d_M_place_57 : decode b_M_place 57 = .ok (.ifCond .ne 7, 3) := by decide +kernel
theorem d_M_place_60 : decode b_M_place 60 = .ok (.iconst 1, 1) := by decide +kernel
theorem d_M_place_61 : decode b_M_place 61 = .ok (.goto 4, 3) := by decide +kernel
theorem d_M_place_64 : decode b_M_place 64 = .ok (.iconst 0, 1) := by decide +kernel
theorem d_M_place_65 : decode b_M_place 65 = .ok (.istore 7, 2) := by decide +kernel
theorem d_M_place_67 : decode b_M_place 67 = .ok (.iload 7, 2) := by decide +kernel
theorem d_M_place_69 : decode b_M_place 69 = .ok (.ifCond .eq 10, 3) := by decide +kernel
theorem d_M_place_72 : decode b_M_place 72 = .ok (.iload 5, 2) := by decide +kernel
theorem d_M_place_74 : decode b_M_place 74 = .ok (.iconst 1, 1) := by decide +kernel
theorem d_M_place_75 : decode b_M_place 75 = .ok (.iadd, 1) := by decide +kernel
theorem d_M_place_76 : decode b_M_place 76 = .ok (.goto 5, 3) := by decide +kernel
theorem d_M_place_79 : decode b_M_place 79 = .ok (.iload 5, 2) := by decide +kernel
theorem d_M_place_81 : decode b_M_place 81 = .ok (.istore 5, 2) := by decide +kernel
theorem d_M_place_83 : decode b_M_place 83 = .ok (.iinc 6 1, 3) := by decide +kernel
theorem d_M_place_86 : decode b_M_place 86 = .ok (.goto (-80), 3) := by decide +kernel
theorem d_M_place_89 : decode b_M_place 89 = .ok (.iload 5, 2) := by decide +kernel
theorem d_M_place_91 : decode b_M_place 91 = .ok (.ireturn, 1) := by decide +kernel
theorem d_M_move_0 : decode b_M_move 0 = .ok (.aload_n 0, 1) := by decide +kernel
theorem d_M_move_1 : decode b_M_move 1 = .ok (.getfield 16, 3) := by decide +kernel
theorem d_M_move_4 : decode b_M_move 4 = .ok (.iload_n 2, 1) := by decide +kernel
theorem d_M_move_5 : decode b_M_move 5 = .ok (.aload_n 0, 1) := by decide +kernel
theorem d_M_move_6 : decode b_M_move 6 = .ok (.getfield 7, 3) := by decide +kernel
theorem d_M_move_9 : decode b_M_move 9 = .ok (.iload_n 1, 1) := by decide +kernel
theorem d_M_move_10 : decode b_M_move 10 = .ok (.iaload, 1) := by decide +kernel
theorem d_M_move_11 : decode b_M_move 11 = .ok (.iastore, 1) := by decide +kernel
theorem d_M_move_12 : decode b_M_move 12 = .ok (.aload_n 0, 1) := by decide +kernel
theorem d_M_move_13 : decode b_M_move 13 = .ok (.getfield 19, 3) := by decide +kernel
theorem d_M_move_16 : decode b_M_move 16 = .ok (.iload_n 2, 1) := by decide +kernel
theorem d_M_move_17 : decode b_M_move 17 = .ok (.aload_n 0, 1) := by decide +kernel
theorem d_M_move_18 : decode b_M_move 18 = .ok (.getfield 13, 3) := by decide +kernel
theorem d_M_move_21 : decode b_M_move 21 = .ok (.iload_n 1, 1) := by decide +kernel
theorem d_M_move_22 : decode b_M_move 22 = .ok (.iaload, 1) := by decide +kernel
theorem d_M_move_23 : decode b_M_move 23 = .ok (.iastore, 1) := by decide +kernel
theorem d_M_move_24 : decode b_M_move 24 = .ok (.return_, 1) := by decide +kernel
theorem d_M_take_0 : decode b_M_take 0 = .ok (.iload_n 1, 1) := by decide +kernel
theorem d_M_take_1 : decode b_M_take 1 = .ok (.istore_n 3, 1) := by decide +kernel
theorem d_M_take_2 : decode b_M_take 2 = .ok (.iload_n 3, 1) := by decide +kernel
theorem d_M_take_3 : decode b_M_take 3 = .ok (.iload_n 2, 1) := by decide +kernel
theorem d_M_take_4 : decode b_M_take 4 = .ok (.if_icmp .ge 33, 3) := by decide +kernel
theorem d_M_take_7 : decode b_M_take 7 = .ok (.aload_n 0, 1) := by decide +kernel
theorem d_M_take_8 : decode b_M_take 8 = .ok (.getfield 7, 3) := by decide +kernel
theorem d_M_take_11 : decode b_M_take 11 = .ok (.iload_n 3, 1) := by decide +kernel
theorem d_M_take_12 : decode b_M_take 12 = .ok (.aload_n 0, 1) := by decide +kernel
theorem d_M_take_13 : decode b_M_take 13 = .ok (.getfield 16, 3) := by decide +kernel
theorem d_M_take_16 : decode b_M_take 16 = .ok (.iload_n 3, 1) := by decide +kernel
theorem d_M_take_17 : decode b_M_take 17 = .ok (.iaload, 1) := by decide +kernel
theorem d_M_take_18 : decode b_M_take 18 = .ok (.iastore, 1) := by decide +kernel
theorem d_M_take_19 : decode b_M_take 19 = .ok (.aload_n 0, 1) := by decide +kernel
theorem d_M_take_20 : decode b_M_take 20 = .ok (.getfield 13, 3) := by decide +kernel
theorem d_M_take_23 : decode b_M_take 23 = .ok (.iload_n 3, 1) := by decide +kernel
theorem d_M_take_24 : decode b_M_take 24 = .ok (.aload_n 0, 1) := by decide +kernel
theorem d_M_take_25 : decode b_M_take 25 = .ok (.getfield 19, 3) := by decide +kernel
theorem d_M_take_28 : decode b_M_take 28 = .ok (.iload_n 3, 1) := by decide +kernel
theorem d_M_take_29 : decode b_M_take 29 = .ok (.iaload, 1) := by decide +kernel
theorem d_M_take_30 : decode b_M_take 30 = .ok (.iastore, 1) := by decide +kernel
theorem d_M_take_31 : decode b_M_take 31 = .ok (.iinc 3 1, 3) := by decide +kernel
theorem d_M_take_34 : decode b_M_take 34 = .ok (.goto (-32), 3) := by decide +kernel
theorem d_M_take_37 : decode b_M_take 37 = .ok (.return_, 1) := by decide +kernel
theorem d_M_arrange_0 : decode b_M_arrange 0 = .ok (.iload_n 1, 1) := by decide +kernel
theorem d_M_arrange_1 : decode b_M_arrange 1 = .ok (.istore 4, 2) := by decide +kernel
theorem d_M_arrange_3 : decode b_M_arrange 3 = .ok (.iload 4, 2) := by decide +kernel
theorem d_M_arrange_5 : decode b_M_arrange 5 = .ok (.iload_n 2, 1) := by decide +kernel
theorem d_M_arrange_6 : decode b_M_arrange 6 = .ok (.if_icmp .ge 24, 3) := by decide +kernel
theorem d_M_arrange_9 : decode b_M_arrange 9 = .ok (.aload_n 0, 1) := by decide +kernel
theorem d_M_arrange_10 : decode b_M_arrange 10 = .ok (.iload 4, 2) := by decide +kernel
theorem d_M_arrange_12 : decode b_M_arrange 12 = .ok (.aload_n 0, 1) := by decide +kernel
theorem d_M_arrange_13 : decode b_M_arrange 13 = .ok (.iload 4, 2) := by decide +kernel
theorem d_M_arrange_15 : decode b_M_arrange 15 = .ok (.iload_n 1, 1) := by decide +kernel
theorem d_M_arrange_16 : decode b_M_arrange 16 = .ok (.iload_n 2, 1) := by decide +kernel
theorem d_M_arrange_17 : decode b_M_arrange 17 = .ok (.iload_n 3, 1) := by decide +kernel
theorem d_M_arrange_18 : decode b_M_arrange 18 = .ok (.invokevirtual 32, 3) := by decide +kernel
theorem d_M_arrange_21 : decode b_M_arrange 21 = .ok (.invokevirtual 36, 3) := by decide +kernel
theorem d_M_arrange_24 : decode b_M_arrange 24 = .ok (.iinc 4 1, 3) := by decide +kernel
theorem d_M_arrange_27 : decode b_M_arrange 27 = .ok (.goto (-24), 3) := by decide +kernel
theorem d_M_arrange_30 : decode b_M_arrange 30 = .ok (.aload_n 0, 1) := by decide +kernel
theorem d_M_arrange_31 : decode b_M_arrange 31 = .ok (.iload_n 1, 1) := by decide +kernel
theorem d_M_arrange_32 : decode b_M_arrange 32 = .ok (.iload_n 2, 1) := by decide +kernel
theorem d_M_arrange_33 : decode b_M_arrange 33 = .ok (.invokevirtual 40, 3) := by decide +kernel
theorem d_M_arrange_36 : decode b_M_arrange 36 = .ok (.return_, 1) := by decide +kernel
theorem d_M_sort_0 : decode b_M_sort 0 = .ok (.iload_n 1, 1) := by decide +kernel
theorem d_M_sort_1 : decode b_M_sort 1 = .ok (.invokestatic 43, 3) := by decide +kernel
theorem d_M_sort_4 : decode b_M_sort 4 = .ok (.ifCond .ne 5, 3) := by decide +kernel
theorem d_M_sort_7 : decode b_M_sort 7 = .ok (.iconst 0, 1) := by decide +kernel
theorem d_M_sort_8 : decode b_M_sort 8 = .ok (.ireturn, 1) := by decide +kernel
theorem d_M_sort_9 : decode b_M_sort 9 = .ok (.aload_n 0, 1) := by decide +kernel
theorem d_M_sort_10 : decode b_M_sort 10 = .ok (.iconst 0, 1) := by decide +kernel
theorem d_M_sort_11 : decode b_M_sort 11 = .ok (.aload_n 0, 1) := by decide +kernel
theorem d_M_sort_12 : decode b_M_sort 12 = .ok (.getfield 22, 3) := by decide +kernel
theorem d_M_sort_15 : decode b_M_sort 15 = .ok (.iload_n 1, 1) := by decide +kernel
theorem d_M_sort_16 : decode b_M_sort 16 = .ok (.invokevirtual 47, 3) := by decide +kernel
theorem d_M_sort_19 : decode b_M_sort 19 = .ok (.iconst 1, 1) := by decide +kernel
theorem d_M_sort_20 : decode b_M_sort 20 = .ok (.ireturn, 1) := by decide +kernel
theorem d_M_sortPart_0 : decode b_M_sortPart 0 = .ok (.aload_n 0, 1) := by decide +kernel
theorem d_M_sortPart_1 : decode b_M_sortPart 1 = .ok (.iload_n 1, 1) := by decide +kernel
theorem d_M_sortPart_2 : decode b_M_sortPart 2 = .ok (.iload_n 2, 1) := by decide +kernel
theorem d_M_sortPart_3 : decode b_M_sortPart 3 = .ok (.invokevirtual 51, 3) := by decide +kernel
theorem d_M_sortPart_6 : decode b_M_sortPart 6 = .ok (.ifCond .eq 10, 3) := by decide +kernel
theorem d_M_sortPart_9 : decode b_M_sortPart 9 = .ok (.iload_n 3, 1) := by decide +kernel
theorem d_M_sortPart_10 : decode b_M_sortPart 10 = .ok (.invokestatic 43, 3) := by decide +kernel
theorem d_M_sortPart_13 : decode b_M_sortPart 13 = .ok (.ifCond .ne 5, 3) := by decide +kernel
theorem d_M_sortPart_16 : decode b_M_sortPart 16 = .ok (.iconst 0, 1) := by decide +kernel
theorem d_M_sortPart_17 : decode b_M_sortPart 17 = .ok (.ireturn, 1) := by decide +kernel
theorem d_M_sortPart_18 : decode b_M_sortPart 18 = .ok (.aload_n 0, 1) := by decide +kernel
theorem d_M_sortPart_19 : decode b_M_sortPart 19 = .ok (.iload_n 1, 1) := by decide +kernel
theorem d_M_sortPart_20 : decode b_M_sortPart 20 = .ok (.iload_n 2, 1) := by decide +kernel
theorem d_M_sortPart_21 : decode b_M_sortPart 21 = .ok (.iload_n 3, 1) := by decide +kernel
theorem d_M_sortPart_22 : decode b_M_sortPart 22 = .ok (.invokevirtual 47, 3) := by decide +kernel
theorem d_M_sortPart_25 : decode b_M_sortPart 25 = .ok (.iconst 1, 1) := by decide +kernel
theorem d_M_sortPart_26 : decode b_M_sortPart 26 = .ok (.ireturn, 1) := by decide +kernel
theorem d_M_merge_0 : decode b_M_merge 0 = .ok (.aload_n 0, 1) := by decide +kernel
theorem d_M_merge_1 : decode b_M_merge 1 = .ok (.iload_n 1, 1) := by decide +kernel
theorem d_M_merge_2 : decode b_M_merge 2 = .ok (.iload_n 2, 1) := by decide +kernel
theorem d_M_merge_3 : decode b_M_merge 3 = .ok (.invokevirtual 51, 3) := by decide +kernel
theorem d_M_merge_6 : decode b_M_merge 6 = .ok (.ifCond .eq 24, 3) := by decide +kernel
theorem d_M_merge_9 : decode b_M_merge 9 = .ok (.aload_n 0, 1) := by decide +kernel
theorem d_M_merge_10 : decode b_M_merge 10 = .ok (.iload_n 2, 1) := by decide +kernel
theorem d_M_merge_11 : decode b_M_merge 11 = .ok (.iload_n 3, 1) := by decide +kernel
theorem d_M_merge_12 : decode b_M_merge 12 = .ok (.invokevirtual 51, 3) := by decide +kernel
theorem d_M_merge_15 : decode b_M_merge 15 = .ok (.ifCond .eq 15, 3) := by decide +kernel
theorem d_M_merge_18 : decode b_M_merge 18 = .ok (.iload 4, 2) := by decide +kernel
theorem d_M_merge_20 : decode b_M_merge 20 = .ok (.invokestatic 43, 3) := by decide +kernel
theorem d_M_merge_23 : decode b_M_merge 23 = .ok (.ifCond .eq 7, 3) := by decide +kernel
theorem d_M_merge_26 : decode b_M_merge 26 = .ok (.iconst 1, 1) := by decide +kernel
theorem d_M_merge_27 : decode b_M_merge 27 = .ok (.goto 4, 3) := by decide +kernel
theorem d_M_merge_30 : decode b_M_merge 30 = .ok (.iconst 0, 1) := by decide +kernel
theorem d_M_merge_31 : decode b_M_merge 31 = .ok (.istore 5, 2) := by decide +kernel
theorem d_M_merge_33 : decode b_M_merge 33 = .ok (.iload 5, 2) := by decide +kernel
theorem d_M_merge_35 : decode b_M_merge 35 = .ok (.ifCond .eq 25, 3) := by decide +kernel
theorem d_M_merge_38 : decode b_M_merge 38 = .ok (.aload_n 0, 1) := by decide +kernel
theorem d_M_merge_39 : decode b_M_merge 39 = .ok (.iload_n 1, 1) := by decide +kernel
theorem d_M_merge_40 : decode b_M_merge 40 = .ok (.iload_n 2, 1) := by decide +kernel
theorem d_M_merge_41 : decode b_M_merge 41 = .ok (.iload 4, 2) := by decide +kernel
theorem d_M_merge_43 : decode b_M_merge 43 = .ok (.invokevirtual 55, 3) := by decide +kernel
theorem d_M_merge_46 : decode b_M_merge 46 = .ok (.ifCond .eq 14, 3) := by decide +kernel
theorem d_M_merge_49 : decode b_M_merge 49 = .ok (.aload_n 0, 1) := by decide +kernel
theorem d_M_merge_50 : decode b_M_merge 50 = .ok (.iload_n 2, 1) := by decide +kernel
theorem d_M_merge_51 : decode b_M_merge 51 = .ok (.iload_n 3, 1) := by decide +kernel
theorem d_M_merge_52 : decode b_M_merge 52 = .ok (.iload 4, 2) := by decide +kernel
theorem d_M_merge_54 : decode b_M_merge 54 = .ok (.invokevirtual 55, 3) := by decide +kernel
theorem d_M_merge_57 : decode b_M_merge 57 = .ok (.ifCond .ne 5, 3) := by decide +kernel
theorem d_M_merge_60 : decode b_M_merge 60 = .ok (.iconst 0, 1) := by decide +kernel
theorem d_M_merge_61 : decode b_M_merge 61 = .ok (.ireturn, 1) := by decide +kernel
theorem d_M_merge_62 : decode b_M_merge 62 = .ok (.aload_n 0, 1) := by decide +kernel
theorem d_M_merge_63 : decode b_M_merge 63 = .ok (.iload_n 1, 1) := by decide +kernel
theorem d_M_merge_64 : decode b_M_merge 64 = .ok (.iload_n 3, 1) := by decide +kernel
theorem d_M_merge_65 : decode b_M_merge 65 = .ok (.iload 4, 2) := by decide +kernel
theorem d_M_merge_67 : decode b_M_merge 67 = .ok (.invokevirtual 47, 3) := by decide +kernel
theorem d_M_merge_70 : decode b_M_merge 70 = .ok (.iconst 1, 1) := by decide +kernel
theorem d_M_merge_71 : decode b_M_merge 71 = .ok (.ireturn, 1) := by decide +kernel
theorem d_M_rotate_0 : decode b_M_rotate 0 = .ok (.aload_n 0, 1) := by decide +kernel
theorem d_M_rotate_1 : decode b_M_rotate 1 = .ok (.iload_n 1, 1) := by decide +kernel
theorem d_M_rotate_2 : decode b_M_rotate 2 = .ok (.iload_n 2, 1) := by decide +kernel
theorem d_M_rotate_3 : decode b_M_rotate 3 = .ok (.invokevirtual 51, 3) := by decide +kernel
theorem d_M_rotate_6 : decode b_M_rotate 6 = .ok (.ifCond .eq 12, 3) := by decide +kernel
theorem d_M_rotate_9 : decode b_M_rotate 9 = .ok (.aload_n 0, 1) := by decide +kernel
theorem d_M_rotate_10 : decode b_M_rotate 10 = .ok (.iload_n 2, 1) := by decide +kernel
theorem d_M_rotate_11 : decode b_M_rotate 11 = .ok (.iload_n 3, 1) := by decide +kernel
theorem d_M_rotate_12 : decode b_M_rotate 12 = .ok (.invokevirtual 51, 3) := by decide +kernel
theorem d_M_rotate_15 : decode b_M_rotate 15 = .ok (.ifCond .ne 5, 3) := by decide +kernel
theorem d_M_rotate_18 : decode b_M_rotate 18 = .ok (.iconst 0, 1) := by decide +kernel
theorem d_M_rotate_19 : decode b_M_rotate 19 = .ok (.ireturn, 1) := by decide +kernel
theorem d_M_rotate_20 : decode b_M_rotate 20 = .ok (.iload_n 1, 1) := by decide +kernel
theorem d_M_rotate_21 : decode b_M_rotate 21 = .ok (.istore 4, 2) := by decide +kernel
theorem d_M_rotate_23 : decode b_M_rotate 23 = .ok (.iload 4, 2) := by decide +kernel
theorem d_M_rotate_25 : decode b_M_rotate 25 = .ok (.iload_n 2, 1) := by decide +kernel
theorem d_M_rotate_26 : decode b_M_rotate 26 = .ok (.if_icmp .ge 21, 3) := by decide +kernel
theorem d_M_rotate_29 : decode b_M_rotate 29 = .ok (.aload_n 0, 1) := by decide +kernel
theorem d_M_rotate_30 : decode b_M_rotate 30 = .ok (.iload 4, 2) := by decide +kernel
theorem d_M_rotate_32 : decode b_M_rotate 32 = .ok (.iload 4, 2) := by decide +kernel
theorem d_M_rotate_34 : decode b_M_rotate 34 = .ok (.iload_n 3, 1) := by decide +kernel
theorem d_M_rotate_35 : decode b_M_rotate 35 = .ok (.iadd, 1) := by decide +kernel
theorem d_M_rotate_36 : decode b_M_rotate 36 = .ok (.iload_n 2, 1) := by decide +kernel
theorem d_M_rotate_37 : decode b_M_rotate 37 = .ok (.isub, 1) := by decide +kernel
theorem d_M_rotate_38 : decode b_M_rotate 38 = .ok (.invokevirtual 36, 3) := by decide +kernel
theorem d_M_rotate_41 : decode b_M_rotate 41 = .ok (.iinc 4 1, 3) := by decide +kernel
theorem d_M_rotate_44 : decode b_M_rotate 44 = .ok (.goto (-21), 3) := by decide +kernel
theorem d_M_rotate_47 : decode b_M_rotate 47 = .ok (.iload_n 2, 1) := by decide +kernel
theorem d_M_rotate_48 : decode b_M_rotate 48 = .ok (.istore 4, 2) := by decide +kernel
theorem d_M_rotate_50 : decode b_M_rotate 50 = .ok (.iload 4, 2) := by decide +kernel
theorem d_M_rotate_52 : decode b_M_rotate 52 = .ok (.iload_n 3, 1) := by decide +kernel
theorem d_M_rotate_53 : decode b_M_rotate 53 = .ok (.if_icmp .ge 21, 3) := by decide +kernel
theorem d_M_rotate_56 : decode b_M_rotate 56 = .ok (.aload_n 0, 1) := by decide +kernel
theorem d_M_rotate_57 : decode b_M_rotate 57 = .ok (.iload 4, 2) := by decide +kernel
theorem d_M_rotate_59 : decode b_M_rotate 59 = .ok (.iload 4, 2) := by decide +kernel
theorem d_M_rotate_61 : decode b_M_rotate 61 = .ok (.iload_n 2, 1) := by decide +kernel
theorem d_M_rotate_62 : decode b_M_rotate 62 = .ok (.isub, 1) := by decide +kernel
theorem d_M_rotate_63 : decode b_M_rotate 63 = .ok (.iload_n 1, 1) := by decide +kernel
theorem d_M_rotate_64 : decode b_M_rotate 64 = .ok (.iadd, 1) := by decide +kernel
theorem d_M_rotate_65 : decode b_M_rotate 65 = .ok (.invokevirtual 36, 3) := by decide +kernel
theorem d_M_rotate_68 : decode b_M_rotate 68 = .ok (.iinc 4 1, 3) := by decide +kernel
theorem d_M_rotate_71 : decode b_M_rotate 71 = .ok (.goto (-21), 3) := by decide +kernel
theorem d_M_rotate_74 : decode b_M_rotate 74 = .ok (.aload_n 0, 1) := by decide +kernel
theorem d_M_rotate_75 : decode b_M_rotate 75 = .ok (.iload_n 1, 1) := by decide +kernel
theorem d_M_rotate_76 : decode b_M_rotate 76 = .ok (.iload_n 3, 1) := by decide +kernel
theorem d_M_rotate_77 : decode b_M_rotate 77 = .ok (.invokevirtual 40, 3) := by decide +kernel
theorem d_M_rotate_80 : decode b_M_rotate 80 = .ok (.iconst 1, 1) := by decide +kernel
theorem d_M_rotate_81 : decode b_M_rotate 81 = .ok (.ireturn, 1) := by decide +kernel
theorem d_M_turn_0 : decode b_M_turn 0 = .ok (.aload_n 0, 1) := by decide +kernel
theorem d_M_turn_1 : decode b_M_turn 1 = .ok (.iload_n 1, 1) := by decide +kernel
theorem d_M_turn_2 : decode b_M_turn 2 = .ok (.iload_n 2, 1) := by decide +kernel
theorem d_M_turn_3 : decode b_M_turn 3 = .ok (.invokevirtual 51, 3) := by decide +kernel
theorem d_M_turn_6 : decode b_M_turn 6 = .ok (.ifCond .ne 5, 3) := by decide +kernel
theorem d_M_turn_9 : decode b_M_turn 9 = .ok (.iconst 0, 1) := by decide +kernel
theorem d_M_turn_10 : decode b_M_turn 10 = .ok (.ireturn, 1) := by decide +kernel
theorem d_M_turn_11 : decode b_M_turn 11 = .ok (.iload_n 1, 1) := by decide +kernel
theorem d_M_turn_12 : decode b_M_turn 12 = .ok (.istore_n 3, 1) := by decide +kernel
theorem d_M_turn_13 : decode b_M_turn 13 = .ok (.iload_n 3, 1) := by decide +kernel
theorem d_M_turn_14 : decode b_M_turn 14 = .ok (.iload_n 2, 1) := by decide +kernel
theorem d_M_turn_15 : decode b_M_turn 15 = .ok (.if_icmp .ge 21, 3) := by decide +kernel
theorem d_M_turn_18 : decode b_M_turn 18 = .ok (.aload_n 0, 1) := by decide +kernel
theorem d_M_turn_19 : decode b_M_turn 19 = .ok (.iload_n 3, 1) := by decide +kernel
theorem d_M_turn_20 : decode b_M_turn 20 = .ok (.iload_n 1, 1) := by decide +kernel
theorem d_M_turn_21 : decode b_M_turn 21 = .ok (.iload_n 2, 1) := by decide +kernel
theorem d_M_turn_22 : decode b_M_turn 22 = .ok (.iadd, 1) := by decide +kernel
theorem d_M_turn_23 : decode b_M_turn 23 = .ok (.iconst 1, 1) := by decide +kernel
theorem d_M_turn_24 : decode b_M_turn 24 = .ok (.isub, 1) := by decide +kernel
theorem d_M_turn_25 : decode b_M_turn 25 = .ok (.iload_n 3, 1) := by decide +kernel
theorem d_M_turn_26 : decode b_M_turn 26 = .ok (.isub, 1) := by decide +kernel
theorem d_M_turn_27 : decode b_M_turn 27 = .ok (.invokevirtual 36, 3) := by decide +kernel
theorem d_M_turn_30 : decode b_M_turn 30 = .ok (.iinc 3 1, 3) := by decide +kernel
theorem d_M_turn_33 : decode b_M_turn 33 = .ok (.goto (-20), 3) := by decide +kernel
theorem d_M_turn_36 : decode b_M_turn 36 = .ok (.aload_n 0, 1) := by decide +kernel
theorem d_M_turn_37 : decode b_M_turn 37 = .ok (.iload_n 1, 1) := by decide +kernel
theorem d_M_turn_38 : decode b_M_turn 38 = .ok (.iload_n 2, 1) := by decide +kernel
theorem d_M_turn_39 : decode b_M_turn 39 = .ok (.invokevirtual 40, 3) := by decide +kernel
theorem d_M_turn_42 : decode b_M_turn 42 = .ok (.iconst 1, 1) := by decide +kernel
theorem d_M_turn_43 : decode b_M_turn 43 = .ok (.ireturn, 1) := by decide +kernel
theorem d_M_split_0 : decode b_M_split 0 = .ok (.aload_n 0, 1) := by decide +kernel
theorem d_M_split_1 : decode b_M_split 1 = .ok (.iload_n 1, 1) := by decide +kernel
theorem d_M_split_2 : decode b_M_split 2 = .ok (.iload_n 2, 1) := by decide +kernel
theorem d_M_split_3 : decode b_M_split 3 = .ok (.invokevirtual 51, 3) := by decide +kernel
theorem d_M_split_6 : decode b_M_split 6 = .ok (.ifCond .eq 11, 3) := by decide +kernel
theorem d_M_split_9 : decode b_M_split 9 = .ok (.iload 4, 2) := by decide +kernel
theorem d_M_split_11 : decode b_M_split 11 = .ok (.invokestatic 43, 3) := by decide +kernel
theorem d_M_split_14 : decode b_M_split 14 = .ok (.ifCond .ne 5, 3) := by decide +kernel
theorem d_M_split_17 : decode b_M_split 17 = .ok (.iconst (-1), 1) := by decide +kernel
theorem d_M_split_18 : decode b_M_split 18 = .ok (.ireturn, 1) := by decide +kernel
theorem d_M_split_19 : decode b_M_split 19 = .ok (.iconst 0, 1) := by decide +kernel
theorem d_M_split_20 : decode b_M_split 20 = .ok (.istore 5, 2) := by decide +kernel
theorem d_M_split_22 : decode b_M_split 22 = .ok (.iload_n 1, 1) := by decide +kernel
theorem d_M_split_23 : decode b_M_split 23 = .ok (.istore 6, 2) := by decide +kernel
theorem d_M_split_25 : decode b_M_split 25 = .ok (.iload 6, 2) := by decide +kernel
theorem d_M_split_27 : decode b_M_split 27 = .ok (.iload_n 2, 1) := by decide +kernel
theorem d_M_split_28 : decode b_M_split 28 = .ok (.if_icmp .ge 38, 3) := by decide +kernel
theorem d_M_split_31 : decode b_M_split 31 = .ok (.aload_n 0, 1) := by decide +kernel
theorem d_M_split_32 : decode b_M_split 32 = .ok (.getfield 7, 3) := by decide +kernel
theorem d_M_split_35 : decode b_M_split 35 = .ok (.iload 6, 2) := by decide +kernel
theorem d_M_split_37 : decode b_M_split 37 = .ok (.iaload, 1) := by decide +kernel
theorem d_M_split_38 : decode b_M_split 38 = .ok (.iload_n 3, 1) := by decide +kernel
theorem d_M_split_39 : decode b_M_split 39 = .ok (.iload 4, 2) := by decide +kernel
theorem d_M_split_41 : decode b_M_split 41 = .ok (.invokestatic 28, 3) := by decide +kernel
theorem d_M_split_44 : decode b_M_split 44 = .ok (.ifCond .eq 16, 3) := by decide +kernel
theorem d_M_split_47 : decode b_M_split 47 = .ok (.aload_n 0, 1) := by decide +kernel
theorem d_M_split_48 : decode b_M_split 48 = .ok (.iload 6, 2) := by decide +kernel
theorem d_M_split_50 : decode b_M_split 50 = .ok (.iload_n 1, 1) := by decide +kernel
theorem d_M_split_51 : decode b_M_split 51 = .ok (.iload 5, 2) := by decide +kernel
theorem d_M_split_53 : decode b_M_split 53 = .ok (.iadd, 1) := by decide +kernel
theorem d_M_split_54 : decode b_M_split 54 = .ok (.invokevirtual 36, 3) := by decide +kernel
theorem d_M_split_57 : decode b_M_split 57 = .ok (.iinc 5 1, 3) := by decide +kernel
theorem d_M_split_60 : decode b_M_split 60 = .ok (.iinc 6 1, 3) := by decide +kernel
theorem d_M_split_63 : decode b_M_split 63 = .ok (.goto (-38), 3) := by decide +kernel
theorem d_M_split_66 : decode b_M_split 66 = .ok (.iconst 0, 1) := by decide +kernel
theorem d_M_split_67 : decode b_M_split 67 = .ok (.istore 6, 2) := by decide +kernel
theorem d_M_split_69 : decode b_M_split 69 = .ok (.iload_n 1, 1) := by decide +kernel
theorem d_M_split_70 : decode b_M_split 70 = .ok (.istore 7, 2) := by decide +kernel
theorem d_M_split_72 : decode b_M_split 72 = .ok (.iload 7, 2) := by decide +kernel
theorem d_M_split_74 : decode b_M_split 74 = .ok (.iload_n 2, 1) := by decide +kernel
theorem d_M_split_75 : decode b_M_split 75 = .ok (.if_icmp .ge 41, 3) := by decide +kernel
theorem d_M_split_78 : decode b_M_split 78 = .ok (.aload_n 0, 1) := by decide +kernel
theorem d_M_split_79 : decode b_M_split 79 = .ok (.getfield 7, 3) := by decide +kernel
theorem d_M_split_82 : decode b_M_split 82 = .ok (.iload 7, 2) := by decide +kernel
theorem d_M_split_84 : decode b_M_split 84 = .ok (.iaload, 1) := by decide +kernel
theorem d_M_split_85 : decode b_M_split 85 = .ok (.iload_n 3, 1) := by decide +kernel
theorem d_M_split_86 : decode b_M_split 86 = .ok (.iload 4, 2) := by decide +kernel
theorem d_M_split_88 : decode b_M_split 88 = .ok (.invokestatic 28, 3) := by decide +kernel
theorem d_M_split_91 : decode b_M_split 91 = .ok (.ifCond .ne 19, 3) := by decide +kernel
theorem d_M_split_94 : decode b_M_split 94 = .ok (.aload_n 0, 1) := by decide +kernel
theorem d_M_split_95 : decode b_M_split 95 = .ok (.iload 7, 2) := by decide +kernel
theorem d_M_split_97 : decode b_M_split 97 = .ok (.iload_n 1, 1) := by decide +kernel
theorem d_M_split_98 : decode b_M_split 98 = .ok (.iload 5, 2) := by decide +kernel
theorem d_M_split_100 : decode b_M_split 100 = .ok (.iadd, 1) := by decide +kernel
theorem d_M_split_101 : decode b_M_split 101 = .ok (.iload 6, 2) := by decide +kernel
theorem d_M_split_103 : decode b_M_split 103 = .ok (.iadd, 1) := by decide +kernel
theorem d_M_split_104 : decode b_M_split 104 = .ok (.invokevirtual 36, 3) := by decide +kernel
theorem d_M_split_107 : decode b_M_split 107 = .ok (.iinc 6 1, 3) := by decide +kernel
theorem d_M_split_110 : decode b_M_split 110 = .ok (.iinc 7 1, 3) := by decide +kernel
theorem d_M_split_113 : decode b_M_split 113 = .ok (.goto (-41), 3) := by decide +kernel
theorem d_M_split_116 : decode b_M_split 116 = .ok (.aload_n 0, 1) := by decide +kernel
theorem d_M_split_117 : decode b_M_split 117 = .ok (.iload_n 1, 1) := by decide +kernel
theorem d_M_split_118 : decode b_M_split 118 = .ok (.iload_n 2, 1) := by decide +kernel
theorem d_M_split_119 : decode b_M_split 119 = .ok (.invokevirtual 40, 3) := by decide +kernel
theorem d_M_split_122 : decode b_M_split 122 = .ok (.iload 5, 2) := by decide +kernel
theorem d_M_split_124 : decode b_M_split 124 = .ok (.ireturn, 1) := by decide +kernel
theorem d_M_thin_0 : decode b_M_thin 0 = .ok (.iload_n 1, 1) := by decide +kernel
theorem d_M_thin_1 : decode b_M_thin 1 = .ok (.invokestatic 43, 3) := by decide +kernel
theorem d_M_thin_4 : decode b_M_thin 4 = .ok (.ifCond .eq 16, 3) := by decide +kernel
theorem d_M_thin_7 : decode b_M_thin 7 = .ok (.aload_n 0, 1) := by decide +kernel
theorem d_M_thin_8 : decode b_M_thin 8 = .ok (.iconst 0, 1) := by decide +kernel
theorem d_M_thin_9 : decode b_M_thin 9 = .ok (.aload_n 0, 1) := by decide +kernel
theorem d_M_thin_10 : decode b_M_thin 10 = .ok (.getfield 22, 3) := by decide +kernel
theorem d_M_thin_13 : decode b_M_thin 13 = .ok (.iload_n 1, 1) := by decide +kernel
theorem d_M_thin_14 : decode b_M_thin 14 = .ok (.invokevirtual 55, 3) := by decide +kernel
theorem d_M_thin_17 : decode b_M_thin 17 = .ok (.ifCond .ne 5, 3) := by decide +kernel
theorem d_M_thin_20 : decode b_M_thin 20 = .ok (.iconst (-1), 1) := by decide +kernel
theorem d_M_thin_21 : decode b_M_thin 21 = .ok (.ireturn, 1) := by decide +kernel
theorem d_M_thin_22 : decode b_M_thin 22 = .ok (.iconst 0, 1) := by decide +kernel
theorem d_M_thin_23 : decode b_M_thin 23 = .ok (.istore_n 2, 1) := by decide +kernel
theorem d_M_thin_24 : decode b_M_thin 24 = .ok (.iconst 0, 1) := by decide +kernel
theorem d_M_thin_25 : decode b_M_thin 25 = .ok (.istore_n 3, 1) := by decide +kernel
theorem d_M_thin_26 : decode b_M_thin 26 = .ok (.iload_n 3, 1) := by decide +kernel
theorem d_M_thin_27 : decode b_M_thin 27 = .ok (.aload_n 0, 1) := by decide +kernel
theorem d_M_thin_28 : decode b_M_thin 28 = .ok (.getfield 22, 3) := by decide +kernel
theorem d_M_thin_31 : decode b_M_thin 31 = .ok (.if_icmp .ge 43, 3) := by decide +kernel
theorem d_M_thin_34 : decode b_M_thin 34 = .ok (.iload_n 3, 1) := by decide +kernel
theorem d_M_thin_35 : decode b_M_thin 35 = .ok (.ifCond .eq 24, 3) := by decide +kernel
theorem d_M_thin_38 : decode b_M_thin 38 = .ok (.aload_n 0, 1) := by decide +kernel
theorem d_M_thin_39 : decode b_M_thin 39 = .ok (.getfield 7, 3) := by decide +kernel
theorem d_M_thin_42 : decode b_M_thin 42 = .ok (.iload_n 3, 1) := by decide +kernel
theorem d_M_thin_43 : decode b_M_thin 43 = .ok (.iconst 1, 1) := by decide +kernel
theorem d_M_thin_44 : decode b_M_thin 44 = .ok (.isub, 1) := by decide +kernel
theorem d_M_thin_45 : decode b_M_thin 45 = .ok (.iaload, 1) := by decide +kernel
theorem d_M_thin_46 : decode b_M_thin 46 = .ok (.aload_n 0, 1) := by decide +kernel
theorem d_M_thin_47 : decode b_M_thin 47 = .ok (.getfield 7, 3) := by decide +kernel
theorem d_M_thin_50 : decode b_M_thin 50 = .ok (.iload_n 3, 1) := by decide +kernel
theorem d_M_thin_51 : decode b_M_thin 51 = .ok (.iaload, 1) := by decide +kernel
theorem d_M_thin_52 : decode b_M_thin 52 = .ok (.iload_n 1, 1) := by decide +kernel
theorem d_M_thin_53 : decode b_M_thin 53 = .ok (.invokestatic 28, 3) := by decide +kernel
theorem d_M_thin_56 : decode b_M_thin 56 = .ok (.ifCond .eq 12, 3) := by decide +kernel
theorem d_M_thin_59 : decode b_M_thin 59 = .ok (.aload_n 0, 1) := by decide +kernel
theorem d_M_thin_60 : decode b_M_thin 60 = .ok (.iload_n 3, 1) := by decide +kernel
theorem d_M_thin_61 : decode b_M_thin 61 = .ok (.iload_n 2, 1) := by decide +kernel
theorem d_M_thin_62 : decode b_M_thin 62 = .ok (.invokevirtual 36, 3) := by decide +kernel
theorem d_M_thin_65 : decode b_M_thin 65 = .ok (.iinc 2 1, 3) := by decide +kernel
theorem d_M_thin_68 : decode b_M_thin 68 = .ok (.iinc 3 1, 3) := by decide +kernel
theorem d_M_thin_71 : decode b_M_thin 71 = .ok (.goto (-45), 3) := by decide +kernel
theorem d_M_thin_74 : decode b_M_thin 74 = .ok (.aload_n 0, 1) := by decide +kernel
theorem d_M_thin_75 : decode b_M_thin 75 = .ok (.iconst 0, 1) := by decide +kernel
theorem d_M_thin_76 : decode b_M_thin 76 = .ok (.iload_n 2, 1) := by decide +kernel
theorem d_M_thin_77 : decode b_M_thin 77 = .ok (.invokevirtual 40, 3) := by decide +kernel
theorem d_M_thin_80 : decode b_M_thin 80 = .ok (.aload_n 0, 1) := by decide +kernel
theorem d_M_thin_81 : decode b_M_thin 81 = .ok (.iload_n 2, 1) := by decide +kernel
theorem d_M_thin_82 : decode b_M_thin 82 = .ok (.putfield 22, 3) := by decide +kernel
theorem d_M_thin_85 : decode b_M_thin 85 = .ok (.iload_n 2, 1) := by decide +kernel
theorem d_M_thin_86 : decode b_M_thin 86 = .ok (.ireturn, 1) := by decide +kernel
theorem d_M_sorted_0 : decode b_M_sorted 0 = .ok (.aload_n 0, 1) := by decide +kernel
theorem d_M_sorted_1 : decode b_M_sorted 1 = .ok (.iload_n 1, 1) := by decide +kernel
theorem d_M_sorted_2 : decode b_M_sorted 2 = .ok (.iload_n 2, 1) := by decide +kernel
theorem d_M_sorted_3 : decode b_M_sorted 3 = .ok (.invokevirtual 51, 3) := by decide +kernel
theorem d_M_sorted_6 : decode b_M_sorted 6 = .ok (.ifCond .eq 10, 3) := by decide +kernel
theorem d_M_sorted_9 : decode b_M_sorted 9 = .ok (.iload_n 3, 1) := by decide +kernel
theorem d_M_sorted_10 : decode b_M_sorted 10 = .ok (.invokestatic 43, 3) := by decide +kernel
theorem d_M_sorted_13 : decode b_M_sorted 13 = .ok (.ifCond .ne 5, 3) := by decide +kernel
theorem d_M_sorted_16 : decode b_M_sorted 16 = .ok (.iconst (-1), 1) := by decide +kernel
theorem d_M_sorted_17 : decode b_M_sorted 17 = .ok (.ireturn, 1) := by decide +kernel
theorem d_M_sorted_18 : decode b_M_sorted 18 = .ok (.aload_n 0, 1) := by decide +kernel
theorem d_M_sorted_19 : decode b_M_sorted 19 = .ok (.iload_n 1, 1) := by decide +kernel
theorem d_M_sorted_20 : decode b_M_sorted 20 = .ok (.iload_n 2, 1) := by decide +kernel
theorem d_M_sorted_21 : decode b_M_sorted 21 = .ok (.iload_n 3, 1) := by decide +kernel
theorem d_M_sorted_22 : decode b_M_sorted 22 = .ok (.invokevirtual 55, 3) := by decide +kernel
theorem d_M_sorted_25 : decode b_M_sorted 25 = .ok (.ifCond .eq 7, 3) := by decide +kernel
theorem d_M_sorted_28 : decode b_M_sorted 28 = .ok (.iconst 1, 1) := by decide +kernel
theorem d_M_sorted_29 : decode b_M_sorted 29 = .ok (.goto 4, 3) := by decide +kernel
theorem d_M_sorted_32 : decode b_M_sorted 32 = .ok (.iconst 0, 1) := by decide +kernel
theorem d_M_sorted_33 : decode b_M_sorted 33 = .ok (.ireturn, 1) := by decide +kernel
theorem d_M_find_0 : decode b_M_find 0 = .ok (.iload_n 2, 1) := by decide +kernel
theorem d_M_find_1 : decode b_M_find 1 = .ok (.invokestatic 43, 3) := by decide +kernel
theorem d_M_find_4 : decode b_M_find 4 = .ok (.ifCond .eq 25, 3) := by decide +kernel
theorem d_M_find_7 : decode b_M_find 7 = .ok (.iload_n 3, 1) := by decide +kernel
theorem d_M_find_8 : decode b_M_find 8 = .ok (.ifCond .lt 21, 3) := by decide +kernel
theorem d_M_find_11 : decode b_M_find 11 = .ok (.iload_n 3, 1) := by decide +kernel
theorem d_M_find_12 : decode b_M_find 12 = .ok (.iconst 1, 1) := by decide +kernel
theorem d_M_find_13 : decode b_M_find 13 = .ok (.if_icmp .gt 16, 3) := by decide +kernel
theorem d_M_find_16 : decode b_M_find 16 = .ok (.aload_n 0, 1) := by decide +kernel
theorem d_M_find_17 : decode b_M_find 17 = .ok (.iconst 0, 1) := by decide +kernel
theorem d_M_find_18 : decode b_M_find 18 = .ok (.aload_n 0, 1) := by decide +kernel
theorem d_M_find_19 : decode b_M_find 19 = .ok (.getfield 22, 3) := by decide +kernel
theorem d_M_find_22 : decode b_M_find 22 = .ok (.iload_n 2, 1) := by decide +kernel
theorem d_M_find_23 : decode b_M_find 23 = .ok (.invokevirtual 55, 3) := by decide +kernel
theorem d_M_find_26 : decode b_M_find 26 = .ok (.ifCond .ne 5, 3) := by decide +kernel
theorem d_M_find_29 : decode b_M_find 29 = .ok (.iconst (-1), 1) := by decide +kernel
theorem d_M_find_30 : decode b_M_find 30 = .ok (.ireturn, 1) := by decide +kernel
theorem d_M_find_31 : decode b_M_find 31 = .ok (.iconst 0, 1) := by decide +kernel
theorem d_M_find_32 : decode b_M_find 32 = .ok (.istore 4, 2) := by decide +kernel
theorem d_M_find_34 : decode b_M_find 34 = .ok (.iconst 0, 1) := by decide +kernel
theorem d_M_find_35 : decode b_M_find 35 = .ok (.istore 5, 2) := by decide +kernel
theorem d_M_find_37 : decode b_M_find 37 = .ok (.iload 5, 2) := by decide +kernel
theorem d_M_find_39 : decode b_M_find 39 = .ok (.aload_n 0, 1) := by decide +kernel
theorem d_M_find_40 : decode b_M_find 40 = .ok (.getfield 22, 3) := by decide +kernel
theorem d_M_find_43 : decode b_M_find 43 = .ok (.if_icmp .ge 66, 3) := by decide +kernel
theorem d_M_find_46 : decode b_M_find 46 = .ok (.iload_n 3, 1) := by decide +kernel
theorem d_M_find_47 : decode b_M_find 47 = .ok (.ifCond .ne 18, 3) := by decide +kernel
theorem d_M_find_50 : decode b_M_find 50 = .ok (.aload_n 0, 1) := by decide +kernel
theorem d_M_find_51 : decode b_M_find 51 = .ok (.getfield 7, 3) := by decide +kernel
theorem d_M_find_54 : decode b_M_find 54 = .ok (.iload 5, 2) := by decide +kernel
theorem d_M_find_56 : decode b_M_find 56 = .ok (.iaload, 1) := by decide +kernel
theorem d_M_find_57 : decode b_M_find 57 = .ok (.iload_n 1, 1) := by decide +kernel
theorem d_M_find_58 : decode b_M_find 58 = .ok (.iload_n 2, 1) := by decide +kernel
theorem d_M_find_59 : decode b_M_find 59 = .ok (.invokestatic 28, 3) := by decide +kernel
theorem d_M_find_62 : decode b_M_find 62 = .ok (.goto 23, 3) := by decide +kernel
theorem d_M_find_65 : decode b_M_find 65 = .ok (.iload_n 1, 1) := by decide +kernel
theorem d_M_find_66 : decode b_M_find 66 = .ok (.aload_n 0, 1) := by decide +kernel
theorem d_M_find_67 : decode b_M_find 67 = .ok (.getfield 7, 3) := by decide +kernel
theorem d_M_find_70 : decode b_M_find 70 = .ok (.iload 5, 2) := by decide +kernel
theorem d_M_find_72 : decode b_M_find 72 = .ok (.iaload, 1) := by decide +kernel
theorem d_M_find_73 : decode b_M_find 73 = .ok (.iload_n 2, 1) := by decide +kernel
theorem d_M_find_74 : decode b_M_find 74 = .ok (.invokestatic 28, 3) := by decide +kernel
theorem d_M_find_77 : decode b_M_find 77 = .ok (.ifCond .ne 7, 3) := by decide +kernel
theorem d_M_find_80 : decode b_M_find 80 = .ok (.iconst 1, 1) := by decide +kernel
theorem d_M_find_81 : decode b_M_find 81 = .ok (.goto 4, 3) := by decide +kernel
theorem d_M_find_84 : decode b_M_find 84 = .ok (.iconst 0, 1) := by decide +kernel
theorem d_M_find_85 : decode b_M_find 85 = .ok (.istore 6, 2) := by decide +kernel
theorem d_M_find_87 : decode b_M_find 87 = .ok (.iload 6, 2) := by decide +kernel
theorem d_M_find_89 : decode b_M_find 89 = .ok (.ifCond .eq 10, 3) := by decide +kernel
theorem d_M_find_92 : decode b_M_find 92 = .ok (.iload 4, 2) := by decide +kernel
theorem d_M_find_94 : decode b_M_find 94 = .ok (.iconst 1, 1) := by decide +kernel
theorem d_M_find_95 : decode b_M_find 95 = .ok (.iadd, 1) := by decide +kernel
theorem d_M_find_96 : decode b_M_find 96 = .ok (.goto 5, 3) := by decide +kernel
theorem d_M_find_99 : decode b_M_find 99 = .ok (.iload 4, 2) := by decide +kernel
theorem d_M_find_101 : decode b_M_find 101 = .ok (.istore 4, 2) := by decide +kernel
theorem d_M_find_103 : decode b_M_find 103 = .ok (.iinc 5 1, 3) := by decide +kernel
theorem d_M_find_106 : decode b_M_find 106 = .ok (.goto (-69), 3) := by decide +kernel
theorem d_M_find_109 : decode b_M_find 109 = .ok (.iload 4, 2) := by decide +kernel
theorem d_M_find_111 : decode b_M_find 111 = .ok (.ireturn, 1) := by decide +kernel
theorem d_M_rank_0 : decode b_M_rank 0 = .ok (.iload_n 1, 1) := by decide +kernel
theorem d_M_rank_1 : decode b_M_rank 1 = .ok (.ifCond .lt 18, 3) := by decide +kernel
theorem d_M_rank_4 : decode b_M_rank 4 = .ok (.iload_n 1, 1) := by decide +kernel
theorem d_M_rank_5 : decode b_M_rank 5 = .ok (.aload_n 0, 1) := by decide +kernel
theorem d_M_rank_6 : decode b_M_rank 6 = .ok (.getfield 22, 3) := by decide +kernel
theorem d_M_rank_9 : decode b_M_rank 9 = .ok (.if_icmp .ge 10, 3) := by decide +kernel
theorem d_M_rank_12 : decode b_M_rank 12 = .ok (.iload_n 2, 1) := by decide +kernel
theorem d_M_rank_13 : decode b_M_rank 13 = .ok (.invokestatic 43, 3) := by decide +kernel
theorem d_M_rank_16 : decode b_M_rank 16 = .ok (.ifCond .ne 5, 3) := by decide +kernel
theorem d_M_rank_19 : decode b_M_rank 19 = .ok (.iconst (-1), 1) := by decide +kernel
theorem d_M_rank_20 : decode b_M_rank 20 = .ok (.ireturn, 1) := by decide +kernel
theorem d_M_rank_21 : decode b_M_rank 21 = .ok (.aload_n 0, 1) := by decide +kernel
theorem d_M_rank_22 : decode b_M_rank 22 = .ok (.iload_n 1, 1) := by decide +kernel
theorem d_M_rank_23 : decode b_M_rank 23 = .ok (.iconst 0, 1) := by decide +kernel
theorem d_M_rank_24 : decode b_M_rank 24 = .ok (.aload_n 0, 1) := by decide +kernel
theorem d_M_rank_25 : decode b_M_rank 25 = .ok (.getfield 22, 3) := by decide +kernel
theorem d_M_rank_28 : decode b_M_rank 28 = .ok (.iload_n 2, 1) := by decide +kernel
theorem d_M_rank_29 : decode b_M_rank 29 = .ok (.invokevirtual 32, 3) := by decide +kernel
theorem d_M_rank_32 : decode b_M_rank 32 = .ok (.ireturn, 1) := by decide +kernel
theorem d_M_key_0 : decode b_M_key 0 = .ok (.iload_n 1, 1) := by decide +kernel
theorem d_M_key_1 : decode b_M_key 1 = .ok (.ifCond .lt 20, 3) := by decide +kernel
theorem d_M_key_4 : decode b_M_key 4 = .ok (.iload_n 1, 1) := by decide +kernel
theorem d_M_key_5 : decode b_M_key 5 = .ok (.aload_n 0, 1) := by decide +kernel
theorem d_M_key_6 : decode b_M_key 6 = .ok (.getfield 22, 3) := by decide +kernel
theorem d_M_key_9 : decode b_M_key 9 = .ok (.if_icmp .ge 12, 3) := by decide +kernel
theorem d_M_key_12 : decode b_M_key 12 = .ok (.aload_n 0, 1) := by decide +kernel
theorem d_M_key_13 : decode b_M_key 13 = .ok (.getfield 7, 3) := by decide +kernel
theorem d_M_key_16 : decode b_M_key 16 = .ok (.iload_n 1, 1) := by decide +kernel
theorem d_M_key_17 : decode b_M_key 17 = .ok (.iaload, 1) := by decide +kernel
theorem d_M_key_18 : decode b_M_key 18 = .ok (.goto 4, 3) := by decide +kernel
theorem d_M_key_21 : decode b_M_key 21 = .ok (.iconst 0, 1) := by decide +kernel
theorem d_M_key_22 : decode b_M_key 22 = .ok (.ireturn, 1) := by decide +kernel
theorem d_M_tag_0 : decode b_M_tag 0 = .ok (.iload_n 1, 1) := by decide +kernel
theorem d_M_tag_1 : decode b_M_tag 1 = .ok (.ifCond .lt 20, 3) := by decide +kernel
theorem d_M_tag_4 : decode b_M_tag 4 = .ok (.iload_n 1, 1) := by decide +kernel
theorem d_M_tag_5 : decode b_M_tag 5 = .ok (.aload_n 0, 1) := by decide +kernel
theorem d_M_tag_6 : decode b_M_tag 6 = .ok (.getfield 22, 3) := by decide +kernel
theorem d_M_tag_9 : decode b_M_tag 9 = .ok (.if_icmp .ge 12, 3) := by decide +kernel
theorem d_M_tag_12 : decode b_M_tag 12 = .ok (.aload_n 0, 1) := by decide +kernel
theorem d_M_tag_13 : decode b_M_tag 13 = .ok (.getfield 13, 3) := by decide +kernel
theorem d_M_tag_16 : decode b_M_tag 16 = .ok (.iload_n 1, 1) := by decide +kernel
theorem d_M_tag_17 : decode b_M_tag 17 = .ok (.iaload, 1) := by decide +kernel
theorem d_M_tag_18 : decode b_M_tag 18 = .ok (.goto 4, 3) := by decide +kernel
theorem d_M_tag_21 : decode b_M_tag 21 = .ok (.iconst 0, 1) := by decide +kernel
theorem d_M_tag_22 : decode b_M_tag 22 = .ok (.ireturn, 1) := by decide +kernel
theorem d_M_stretches_0 : decode b_M_stretches 0 = .ok (.iconst 0, 1) := by decide +kernel
theorem d_M_stretches_1 : decode b_M_stretches 1 = .ok (.istore_n 1, 1) := by decide +kernel
theorem d_M_stretches_2 : decode b_M_stretches 2 = .ok (.iconst 0, 1) := by decide +kernel
theorem d_M_stretches_3 : decode b_M_stretches 3 = .ok (.istore_n 2, 1) := by decide +kernel
theorem d_M_stretches_4 : decode b_M_stretches 4 = .ok (.iload_n 2, 1) := by decide +kernel
theorem d_M_stretches_5 : decode b_M_stretches 5 = .ok (.aload_n 0, 1) := by decide +kernel
theorem d_M_stretches_6 : decode b_M_stretches 6 = .ok (.getfield 22, 3) := by decide +kernel
theorem d_M_stretches_9 : decode b_M_stretches 9 = .ok (.if_icmp .ge 38, 3) := by decide +kernel
theorem d_M_stretches_12 : decode b_M_stretches 12 = .ok (.iload_n 2, 1) := by decide +kernel
theorem d_M_stretches_13 : decode b_M_stretches 13 = .ok (.ifCond .eq 20, 3) := by decide +kernel
theorem d_M_stretches_16 : decode b_M_stretches 16 = .ok (.aload_n 0, 1) := by decide +kernel
theorem d_M_stretches_17 : decode b_M_stretches 17 = .ok (.getfield 7, 3) := by decide +kernel
theorem d_M_stretches_20 : decode b_M_stretches 20 = .ok (.iload_n 2, 1) := by decide +kernel
theorem d_M_stretches_21 : decode b_M_stretches 21 = .ok (.iaload, 1) := by decide +kernel
theorem d_M_stretches_22 : decode b_M_stretches 22 = .ok (.aload_n 0, 1) := by decide +kernel
theorem d_M_stretches_23 : decode b_M_stretches 23 = .ok (.getfield 7, 3) := by decide +kernel
theorem d_M_stretches_26 : decode b_M_stretches 26 = .ok (.iload_n 2, 1) := by decide +kernel
theorem d_M_stretches_27 : decode b_M_stretches 27 = .ok (.iconst 1, 1) := by decide +kernel
theorem d_M_stretches_28 : decode b_M_stretches 28 = .ok (.isub, 1) := by decide +kernel
theorem d_M_stretches_29 : decode b_M_stretches 29 = .ok (.iaload, 1) := by decide +kernel
theorem d_M_stretches_30 : decode b_M_stretches 30 = .ok (.if_icmp .ge 9, 3) := by decide +kernel
theorem d_M_stretches_33 : decode b_M_stretches 33 = .ok (.iload_n 1, 1) := by decide +kernel
theorem d_M_stretches_34 : decode b_M_stretches 34 = .ok (.iconst 1, 1) := by decide +kernel
theorem d_M_stretches_35 : decode b_M_stretches 35 = .ok (.iadd, 1) := by decide +kernel
theorem d_M_stretches_36 : decode b_M_stretches 36 = .ok (.goto 4, 3) := by decide +kernel
theorem d_M_stretches_39 : decode b_M_stretches 39 = .ok (.iload_n 1, 1) := by decide +kernel
theorem d_M_stretches_40 : decode b_M_stretches 40 = .ok (.istore_n 1, 1) := by decide +kernel
theorem d_M_stretches_41 : decode b_M_stretches 41 = .ok (.iinc 2 1, 3) := by decide +kernel
theorem d_M_stretches_44 : decode b_M_stretches 44 = .ok (.goto (-40), 3) := by decide +kernel
theorem d_M_stretches_47 : decode b_M_stretches 47 = .ok (.iload_n 1, 1) := by decide +kernel
theorem d_M_stretches_48 : decode b_M_stretches 48 = .ok (.ireturn, 1) := by decide +kernel
theorem d_M_different_0 : decode b_M_different 0 = .ok (.iconst 0, 1) := by decide +kernel
theorem d_M_different_1 : decode b_M_different 1 = .ok (.istore_n 1, 1) := by decide +kernel
theorem d_M_different_2 : decode b_M_different 2 = .ok (.iconst 0, 1) := by decide +kernel
theorem d_M_different_3 : decode b_M_different 3 = .ok (.istore_n 2, 1) := by decide +kernel
theorem d_M_different_4 : decode b_M_different 4 = .ok (.iload_n 2, 1) := by decide +kernel
theorem d_M_different_5 : decode b_M_different 5 = .ok (.aload_n 0, 1) := by decide +kernel
theorem d_M_different_6 : decode b_M_different 6 = .ok (.getfield 22, 3) := by decide +kernel
theorem d_M_different_9 : decode b_M_different 9 = .ok (.if_icmp .ge 64, 3) := by decide +kernel
theorem d_M_different_12 : decode b_M_different 12 = .ok (.iconst 1, 1) := by decide +kernel
theorem d_M_different_13 : decode b_M_different 13 = .ok (.istore_n 3, 1) := by decide +kernel
theorem d_M_different_14 : decode b_M_different 14 = .ok (.iconst 0, 1) := by decide +kernel
theorem d_M_different_15 : decode b_M_different 15 = .ok (.istore 4, 2) := by decide +kernel
theorem d_M_different_17 : decode b_M_different 17 = .ok (.iload 4, 2) := by decide +kernel
theorem d_M_different_19 : decode b_M_different 19 = .ok (.iload_n 2, 1) := by decide +kernel
theorem d_M_different_20 : decode b_M_different 20 = .ok (.if_icmp .ge 35, 3) := by decide +kernel
theorem d_M_different_23 : decode b_M_different 23 = .ok (.iload_n 3, 1) := by decide +kernel
theorem d_M_different_24 : decode b_M_different 24 = .ok (.ifCond .eq 23, 3) := by decide +kernel
theorem d_M_different_27 : decode b_M_different 27 = .ok (.aload_n 0, 1) := by decide +kernel
theorem d_M_different_28 : decode b_M_different 28 = .ok (.getfield 7, 3) := by decide +kernel
theorem d_M_different_31 : decode b_M_different 31 = .ok (.iload 4, 2) := by decide +kernel
theorem d_M_different_33 : decode b_M_different 33 = .ok (.iaload, 1) := by decide +kernel
theorem d_M_different_34 : decode b_M_different 34 = .ok (.aload_n 0, 1) := by decide +kernel
theorem d_M_different_35 : decode b_M_different 35 = .ok (.getfield 7, 3) := by decide +kernel
theorem d_M_different_38 : decode b_M_different 38 = .ok (.iload_n 2, 1) := by decide +kernel
theorem d_M_different_39 : decode b_M_different 39 = .ok (.iaload, 1) := by decide +kernel
theorem d_M_different_40 : decode b_M_different 40 = .ok (.if_icmp .eq 7, 3) := by decide +kernel
theorem d_M_different_43 : decode b_M_different 43 = .ok (.iconst 1, 1) := by decide +kernel
theorem d_M_different_44 : decode b_M_different 44 = .ok (.goto 4, 3) := by decide +kernel
theorem d_M_different_47 : decode b_M_different 47 = .ok (.iconst 0, 1) := by decide +kernel
theorem d_M_different_48 : decode b_M_different 48 = .ok (.istore_n 3, 1) := by decide +kernel
theorem d_M_different_49 : decode b_M_different 49 = .ok (.iinc 4 1, 3) := by decide +kernel
theorem d_M_different_52 : decode b_M_different 52 = .ok (.goto (-35), 3) := by decide +kernel
theorem d_M_different_55 : decode b_M_different 55 = .ok (.iload_n 3, 1) := by decide +kernel
theorem d_M_different_56 : decode b_M_different 56 = .ok (.ifCond .eq 9, 3) := by decide +kernel
theorem d_M_different_59 : decode b_M_different 59 = .ok (.iload_n 1, 1) := by decide +kernel
theorem d_M_different_60 : decode b_M_different 60 = .ok (.iconst 1, 1) := by decide +kernel
theorem d_M_different_61 : decode b_M_different 61 = .ok (.iadd, 1) := by decide +kernel
theorem d_M_different_62 : decode b_M_different 62 = .ok (.goto 4, 3) := by decide +kernel
theorem d_M_different_65 : decode b_M_different 65 = .ok (.iload_n 1, 1) := by decide +kernel
theorem d_M_different_66 : decode b_M_different 66 = .ok (.istore_n 1, 1) := by decide +kernel
theorem d_M_different_67 : decode b_M_different 67 = .ok (.iinc 2 1, 3) := by decide +kernel
theorem d_M_different_70 : decode b_M_different 70 = .ok (.goto (-66), 3) := by decide +kernel
theorem d_M_different_73 : decode b_M_different 73 = .ok (.iload_n 1, 1) := by decide +kernel
theorem d_M_different_74 : decode b_M_different 74 = .ok (.ireturn, 1) := by decide +kernel
theorem d_M_count_0 : decode b_M_count 0 = .ok (.iload_n 1, 1) := by decide +kernel
theorem d_M_count_1 : decode b_M_count 1 = .ok (.tableswitch 42 0 2 #[27, 32, 37], 27) := by decide +kernel
theorem d_M_count_28 : decode b_M_count 28 = .ok (.aload_n 0, 1) := by decide +kernel
theorem d_M_count_29 : decode b_M_count 29 = .ok (.getfield 22, 3) := by decide +kernel
theorem d_M_count_32 : decode b_M_count 32 = .ok (.ireturn, 1) := by decide +kernel
theorem d_M_count_33 : decode b_M_count 33 = .ok (.aload_n 0, 1) := by decide +kernel
theorem d_M_count_34 : decode b_M_count 34 = .ok (.invokevirtual 58, 3) := by decide +kernel
theorem d_M_count_37 : decode b_M_count 37 = .ok (.ireturn, 1) := by decide +kernel
theorem d_M_count_38 : decode b_M_count 38 = .ok (.aload_n 0, 1) := by decide +kernel
theorem d_M_count_39 : decode b_M_count 39 = .ok (.invokevirtual 62, 3) := by decide +kernel
theorem d_M_count_42 : decode b_M_count 42 = .ok (.ireturn, 1) := by decide +kernel
theorem d_M_count_43 : decode b_M_count 43 = .ok (.iconst (-1), 1) := by decide +kernel
theorem d_M_count_44 : decode b_M_count 44 = .ok (.ireturn, 1) := by decide +kernel
theorem d_M_check_0 : decode b_M_check 0 = .ok (.iconst 1, 1) := by decide +kernel
theorem d_M_check_1 : decode b_M_check 1 = .ok (.ireturn, 1) := by decide +kernel
end
section
theorem d_F_init_0 : decode b_F_init 0 = .ok (.aload_n 0, 1) := by decide +kernel
theorem d_F_init_1 : decode b_F_init 1 = .ok (.invokespecial 1, 3) := by decide +kernel
theorem d_F_init_4 : decode b_F_init 4 = .ok (.return_, 1) := by decide +kernel
theorem d_F_compare_0 : decode b_F_compare 0 = .ok (.iload_n 2, 1) := by decide +kernel
theorem d_F_compare_1 : decode b_F_compare 1 = .ok (.iload_n 1, 1) := by decide +kernel
theorem d_F_compare_2 : decode b_F_compare 2 = .ok (.invokestatic 7, 3) := by decide +kernel
theorem d_F_compare_5 : decode b_F_compare 5 = .ok (.ireturn, 1) := by decide +kernel
theorem d_L_init_0 : decode b_L_init 0 = .ok (.aload_n 0, 1) := by decide +kernel
theorem d_L_init_1 : decode b_L_init 1 = .ok (.invokespecial 1, 3) := by decide +kernel
theorem d_L_init_4 : decode b_L_init 4 = .ok (.return_, 1) := by decide +kernel
theorem d_L_compare_0 : decode b_L_compare 0 = .ok (.iload_n 1, 1) := by decide +kernel
theorem d_L_compare_1 : decode b_L_compare 1 = .ok (.sipush 255, 3) := by decide +kernel
theorem d_L_compare_4 : decode b_L_compare 4 = .ok (.iand, 1) := by decide +kernel
theorem d_L_compare_5 : decode b_L_compare 5 = .ok (.iload_n 2, 1) := by decide +kernel
theorem d_L_compare_6 : decode b_L_compare 6 = .ok (.sipush 255, 3) := by decide +kernel
theorem d_L_compare_9 : decode b_L_compare 9 = .ok (.iand, 1) := by decide +kernel
theorem d_L_compare_10 : decode b_L_compare 10 = .ok (.invokestatic 7, 3) := by decide +kernel
theorem d_L_compare_13 : decode b_L_compare 13 = .ok (.ireturn, 1) := by decide +kernel
theorem d_O_init_0 : decode b_O_init 0 = .ok (.aload_n 0, 1) := by decide +kernel
theorem d_O_init_1 : decode b_O_init 1 = .ok (.invokespecial 1, 3) := by decide +kernel
theorem d_O_init_4 : decode b_O_init 4 = .ok (.return_, 1) := by decide +kernel
theorem d_S_init_0 : decode b_S_init 0 = .ok (.aload_n 0, 1) := by decide +kernel
theorem d_S_init_1 : decode b_S_init 1 = .ok (.invokespecial 1, 3) := by decide +kernel
theorem d_S_init_4 : decode b_S_init 4 = .ok (.return_, 1) := by decide +kernel
theorem d_S_compare_0 : decode b_S_compare 0 = .ok (.iload_n 1, 1) := by decide +kernel
theorem d_S_compare_1 : decode b_S_compare 1 = .ok (.iload_n 2, 1) := by decide +kernel
theorem d_S_compare_2 : decode b_S_compare 2 = .ok (.invokestatic 7, 3) := by decide +kernel
theorem d_S_compare_5 : decode b_S_compare 5 = .ok (.ireturn, 1) := by decide +kernel
theorem d_U_init_0 : decode b_U_init 0 = .ok (.aload_n 0, 1) := by decide +kernel
theorem d_U_init_1 : decode b_U_init 1 = .ok (.invokespecial 1, 3) := by decide +kernel
theorem d_U_init_4 : decode b_U_init 4 = .ok (.return_, 1) := by decide +kernel
theorem d_U_compare_0 : decode b_U_compare 0 = .ok (.iload_n 1, 1) := by decide +kernel
theorem d_U_compare_1 : decode b_U_compare 1 = .ok (.iload_n 2, 1) := by decide +kernel
theorem d_U_compare_2 : decode b_U_compare 2 = .ok (.invokestatic 7, 3) := by decide +kernel
theorem d_U_compare_5 : decode b_U_compare 5 = .ok (.ireturn, 1) := by decide +kernel
theorem d_I_compare_0 : decode b_I_compare 0 = .ok (.iload_n 0, 1) := by decide +kernel
theorem d_I_compare_1 : decode b_I_compare 1 = .ok (.iload_n 1, 1) := by decide +kernel
theorem d_I_compare_2 : decode b_I_compare 2 = .ok (.if_icmp .ge 7, 3) := by decide +kernel
theorem d_I_compare_5 : decode b_I_compare 5 = .ok (.iconst (-1), 1) := by decide +kernel
theorem d_I_compare_6 : decode b_I_compare 6 = .ok (.goto 13, 3) := by decide +kernel
theorem d_I_compare_9 : decode b_I_compare 9 = .ok (.iload_n 0, 1) := by decide +kernel
theorem d_I_compare_10 : decode b_I_compare 10 = .ok (.iload_n 1, 1) := by decide +kernel
theorem d_I_compare_11 : decode b_I_compare 11 = .ok (.if_icmp .ne 7, 3) := by decide +kernel
theorem d_I_compare_14 : decode b_I_compare 14 = .ok (.iconst 0, 1) := by decide +kernel
theorem d_I_compare_15 : decode b_I_compare 15 = .ok (.goto 4, 3) := by decide +kernel
theorem d_I_compare_18 : decode b_I_compare 18 = .ok (.iconst 1, 1) := by decide +kernel
theorem d_I_compare_19 : decode b_I_compare 19 = .ok (.ireturn, 1) := by decide +kernel
theorem d_I_compareUnsigned_0 : decode b_I_compareUnsigned 0 = .ok (.iload_n 0, 1) := by decide +kernel
theorem d_I_compareUnsigned_1 : decode b_I_compareUnsigned 1 = .ok (.ldc 127, 2) := by decide +kernel
theorem d_I_compareUnsigned_3 : decode b_I_compareUnsigned 3 = .ok (.iadd, 1) := by decide +kernel
theorem d_I_compareUnsigned_4 : decode b_I_compareUnsigned 4 = .ok (.iload_n 1, 1) := by decide +kernel
theorem d_I_compareUnsigned_5 : decode b_I_compareUnsigned 5 = .ok (.ldc 127, 2) := by decide +kernel
theorem d_I_compareUnsigned_7 : decode b_I_compareUnsigned 7 = .ok (.iadd, 1) := by decide +kernel
theorem d_I_compareUnsigned_8 : decode b_I_compareUnsigned 8 = .ok (.invokestatic 259, 3) := by decide +kernel
theorem d_I_compareUnsigned_11 : decode b_I_compareUnsigned 11 = .ok (.ireturn, 1) := by decide +kernel
theorem d_X_min_0 : decode b_X_min 0 = .ok (.iload_n 0, 1) := by decide +kernel
theorem d_X_min_1 : decode b_X_min 1 = .ok (.iload_n 1, 1) := by decide +kernel
theorem d_X_min_2 : decode b_X_min 2 = .ok (.if_icmp .gt 7, 3) := by decide +kernel
theorem d_X_min_5 : decode b_X_min 5 = .ok (.iload_n 0, 1) := by decide +kernel
theorem d_X_min_6 : decode b_X_min 6 = .ok (.goto 4, 3) := by decide +kernel
theorem d_X_min_9 : decode b_X_min 9 = .ok (.iload_n 1, 1) := by decide +kernel
theorem d_X_min_10 : decode b_X_min 10 = .ok (.ireturn, 1) := by decide +kernel
end
section
theorem d_law_0 : decode code 0 = .ok (.new 7, 3) := by decide +kernel
theorem d_law_3 : decode code 3 = .ok (.dup, 1) := by decide +kernel
theorem d_law_4 : decode code 4 = .ok (.invokespecial 9, 3) := by decide +kernel
theorem d_law_7 : decode code 7 = .ok (.astore_n 1, 1) := by decide +kernel
theorem d_law_8 : decode code 8 = .ok (.new 10, 3) := by decide +kernel
theorem d_law_11 : decode code 11 = .ok (.dup, 1) := by decide +kernel
theorem d_law_12 : decode code 12 = .ok (.invokespecial 12, 3) := by decide +kernel
theorem d_law_15 : decode code 15 = .ok (.astore_n 2, 1) := by decide +kernel
theorem d_law_16 : decode code 16 = .ok (.iconst 0, 1) := by decide +kernel
theorem d_law_17 : decode code 17 = .ok (.istore_n 3, 1) := by decide +kernel
theorem d_law_18 : decode code 18 = .ok (.iload_n 3, 1) := by decide +kernel
theorem d_law_19 : decode code 19 = .ok (.aload_n 0, 1) := by decide +kernel
theorem d_law_20 : decode code 20 = .ok (.arraylength, 1) := by decide +kernel
theorem d_law_21 : decode code 21 = .ok (.iconst 5, 1) := by decide +kernel
theorem d_law_22 : decode code 22 = .ok (.isub, 1) := by decide +kernel
theorem d_law_23 : decode code 23 = .ok (.if_icmp .gt 670, 3) := by decide +kernel
theorem d_law_26 : decode code 26 = .ok (.aload_n 0, 1) := by decide +kernel
theorem d_law_27 : decode code 27 = .ok (.iload_n 3, 1) := by decide +kernel
theorem d_law_28 : decode code 28 = .ok (.iaload, 1) := by decide +kernel
theorem d_law_29 : decode code 29 = .ok (.bipush 31, 2) := by decide +kernel
theorem d_law_31 : decode code 31 = .ok (.iand, 1) := by decide +kernel
theorem d_law_32 : decode code 32 = .ok (.tableswitch 655 0 16 #[84, 117, 170, 183, 206, 249, 302, 345, 378, 431, 454, 497, 540, 573, 596, 619, 642], 84) := by decide +kernel
theorem d_law_116 : decode code 116 = .ok (.aload_n 1, 1) := by decide +kernel
theorem d_law_117 : decode code 117 = .ok (.aload_n 0, 1) := by decide +kernel
theorem d_law_118 : decode code 118 = .ok (.iload_n 3, 1) := by decide +kernel
theorem d_law_119 : decode code 119 = .ok (.iconst 1, 1) := by decide +kernel
theorem d_law_120 : decode code 120 = .ok (.iadd, 1) := by decide +kernel
theorem d_law_121 : decode code 121 = .ok (.iaload, 1) := by decide +kernel
theorem d_law_122 : decode code 122 = .ok (.aload_n 0, 1) := by decide +kernel
theorem d_law_123 : decode code 123 = .ok (.iload_n 3, 1) := by decide +kernel
theorem d_law_124 : decode code 124 = .ok (.iconst 2, 1) := by decide +kernel
theorem d_law_125 : decode code 125 = .ok (.iadd, 1) := by decide +kernel
theorem d_law_126 : decode code 126 = .ok (.iaload, 1) := by decide +kernel
theorem d_law_127 : decode code 127 = .ok (.invokevirtual 13, 3) := by decide +kernel
theorem d_law_130 : decode code 130 = .ok (.aload_n 2, 1) := by decide +kernel
theorem d_law_131 : decode code 131 = .ok (.aload_n 0, 1) := by decide +kernel
theorem d_law_132 : decode code 132 = .ok (.iload_n 3, 1) := by decide +kernel
theorem d_law_133 : decode code 133 = .ok (.iconst 1, 1) := by decide +kernel
theorem d_law_134 : decode code 134 = .ok (.iadd, 1) := by decide +kernel
theorem d_law_135 : decode code 135 = .ok (.iaload, 1) := by decide +kernel
theorem d_law_136 : decode code 136 = .ok (.aload_n 0, 1) := by decide +kernel
theorem d_law_137 : decode code 137 = .ok (.iload_n 3, 1) := by decide +kernel
theorem d_law_138 : decode code 138 = .ok (.iconst 2, 1) := by decide +kernel
theorem d_law_139 : decode code 139 = .ok (.iadd, 1) := by decide +kernel
theorem d_law_140 : decode code 140 = .ok (.iaload, 1) := by decide +kernel
theorem d_law_141 : decode code 141 = .ok (.invokevirtual 17, 3) := by decide +kernel
theorem d_law_144 : decode code 144 = .ok (.if_icmp .eq 543, 3) := by decide +kernel
theorem d_law_147 : decode code 147 = .ok (.iconst 0, 1) := by decide +kernel
theorem d_law_148 : decode code 148 = .ok (.ireturn, 1) := by decide +kernel
theorem d_law_149 : decode code 149 = .ok (.aload_n 1, 1) := by decide +kernel
theorem d_law_150 : decode code 150 = .ok (.aload_n 0, 1) := by decide +kernel
theorem d_law_151 : decode code 151 = .ok (.iload_n 3, 1) := by decide +kernel
theorem d_law_152 : decode code 152 = .ok (.iconst 1, 1) := by decide +kernel
theorem d_law_153 : decode code 153 = .ok (.iadd, 1) := by decide +kernel
theorem d_law_154 : decode code 154 = .ok (.iaload, 1) := by decide +kernel
theorem d_law_155 : decode code 155 = .ok (.aload_n 0, 1) := by decide +kernel
theorem d_law_156 : decode code 156 = .ok (.iload_n 3, 1) := by decide +kernel
theorem d_law_157 : decode code 157 = .ok (.iconst 2, 1) := by decide +kernel
theorem d_law_158 : decode code 158 = .ok (.iadd, 1) := by decide +kernel
theorem d_law_159 : decode code 159 = .ok (.iaload, 1) := by decide +kernel
theorem d_law_160 : decode code 160 = .ok (.aload_n 0, 1) := by decide +kernel
theorem d_law_161 : decode code 161 = .ok (.iload_n 3, 1) := by decide +kernel
end
section
theorem d_law_162 : decode code 162 = .ok (.iconst 3, 1) := by decide +kernel
theorem d_law_163 : decode code 163 = .ok (.iadd, 1) := by decide +kernel
theorem d_law_164 : decode code 164 = .ok (.iaload, 1) := by decide +kernel
theorem d_law_165 : decode code 165 = .ok (.aload_n 0, 1) := by decide +kernel
theorem d_law_166 : decode code 166 = .ok (.iload_n 3, 1) := by decide +kernel
theorem d_law_167 : decode code 167 = .ok (.iconst 4, 1) := by decide +kernel
theorem d_law_168 : decode code 168 = .ok (.iadd, 1) := by decide +kernel
theorem d_law_169 : decode code 169 = .ok (.iaload, 1) := by decide +kernel
theorem d_law_170 : decode code 170 = .ok (.invokevirtual 18, 3) := by decide +kernel
theorem d_law_173 : decode code 173 = .ok (.aload_n 2, 1) := by decide +kernel
theorem d_law_174 : decode code 174 = .ok (.aload_n 0, 1) := by decide +kernel
theorem d_law_175 : decode code 175 = .ok (.iload_n 3, 1) := by decide +kernel
theorem d_law_176 : decode code 176 = .ok (.iconst 1, 1) := by decide +kernel
theorem d_law_177 : decode code 177 = .ok (.iadd, 1) := by decide +kernel
theorem d_law_178 : decode code 178 = .ok (.iaload, 1) := by decide +kernel
theorem d_law_179 : decode code 179 = .ok (.aload_n 0, 1) := by decide +kernel
theorem d_law_180 : decode code 180 = .ok (.iload_n 3, 1) := by decide +kernel
theorem d_law_181 : decode code 181 = .ok (.iconst 2, 1) := by decide +kernel
theorem d_law_182 : decode code 182 = .ok (.iadd, 1) := by decide +kernel
theorem d_law_183 : decode code 183 = .ok (.iaload, 1) := by decide +kernel
theorem d_law_184 : decode code 184 = .ok (.aload_n 0, 1) := by decide +kernel
theorem d_law_185 : decode code 185 = .ok (.iload_n 3, 1) := by decide +kernel
theorem d_law_186 : decode code 186 = .ok (.iconst 3, 1) := by decide +kernel
theorem d_law_187 : decode code 187 = .ok (.iadd, 1) := by decide +kernel
theorem d_law_188 : decode code 188 = .ok (.iaload, 1) := by decide +kernel
theorem d_law_189 : decode code 189 = .ok (.aload_n 0, 1) := by decide +kernel
theorem d_law_190 : decode code 190 = .ok (.iload_n 3, 1) := by decide +kernel
theorem d_law_191 : decode code 191 = .ok (.iconst 4, 1) := by decide +kernel
theorem d_law_192 : decode code 192 = .ok (.iadd, 1) := by decide +kernel
theorem d_law_193 : decode code 193 = .ok (.iaload, 1) := by decide +kernel
theorem d_law_194 : decode code 194 = .ok (.invokevirtual 22, 3) := by decide +kernel
theorem d_law_197 : decode code 197 = .ok (.if_icmp .eq 490, 3) := by decide +kernel
theorem d_law_200 : decode code 200 = .ok (.iconst 0, 1) := by decide +kernel
theorem d_law_201 : decode code 201 = .ok (.ireturn, 1) := by decide +kernel
theorem d_law_202 : decode code 202 = .ok (.aload_n 1, 1) := by decide +kernel
theorem d_law_203 : decode code 203 = .ok (.invokevirtual 23, 3) := by decide +kernel
theorem d_law_206 : decode code 206 = .ok (.aload_n 2, 1) := by decide +kernel
theorem d_law_207 : decode code 207 = .ok (.invokevirtual 27, 3) := by decide +kernel
theorem d_law_210 : decode code 210 = .ok (.if_icmp .eq 477, 3) := by decide +kernel
theorem d_law_213 : decode code 213 = .ok (.iconst 0, 1) := by decide +kernel
theorem d_law_214 : decode code 214 = .ok (.ireturn, 1) := by decide +kernel
theorem d_law_215 : decode code 215 = .ok (.aload_n 1, 1) := by decide +kernel
theorem d_law_216 : decode code 216 = .ok (.aload_n 0, 1) := by decide +kernel
theorem d_law_217 : decode code 217 = .ok (.iload_n 3, 1) := by decide +kernel
theorem d_law_218 : decode code 218 = .ok (.iconst 1, 1) := by decide +kernel
theorem d_law_219 : decode code 219 = .ok (.iadd, 1) := by decide +kernel
theorem d_law_220 : decode code 220 = .ok (.iaload, 1) := by decide +kernel
theorem d_law_221 : decode code 221 = .ok (.invokevirtual 28, 3) := by decide +kernel
theorem d_law_224 : decode code 224 = .ok (.aload_n 2, 1) := by decide +kernel
theorem d_law_225 : decode code 225 = .ok (.aload_n 0, 1) := by decide +kernel
theorem d_law_226 : decode code 226 = .ok (.iload_n 3, 1) := by decide +kernel
theorem d_law_227 : decode code 227 = .ok (.iconst 1, 1) := by decide +kernel
theorem d_law_228 : decode code 228 = .ok (.iadd, 1) := by decide +kernel
theorem d_law_229 : decode code 229 = .ok (.iaload, 1) := by decide +kernel
theorem d_law_230 : decode code 230 = .ok (.invokevirtual 32, 3) := by decide +kernel
theorem d_law_233 : decode code 233 = .ok (.if_icmp .eq 454, 3) := by decide +kernel
theorem d_law_236 : decode code 236 = .ok (.iconst 0, 1) := by decide +kernel
theorem d_law_237 : decode code 237 = .ok (.ireturn, 1) := by decide +kernel
theorem d_law_238 : decode code 238 = .ok (.aload_n 1, 1) := by decide +kernel
theorem d_law_239 : decode code 239 = .ok (.aload_n 0, 1) := by decide +kernel
theorem d_law_240 : decode code 240 = .ok (.iload_n 3, 1) := by decide +kernel
theorem d_law_241 : decode code 241 = .ok (.iconst 1, 1) := by decide +kernel
end
section
theorem d_law_242 : decode code 242 = .ok (.iadd, 1) := by decide +kernel
theorem d_law_243 : decode code 243 = .ok (.iaload, 1) := by decide +kernel
theorem d_law_244 : decode code 244 = .ok (.aload_n 0, 1) := by decide +kernel
theorem d_law_245 : decode code 245 = .ok (.iload_n 3, 1) := by decide +kernel
theorem d_law_246 : decode code 246 = .ok (.iconst 2, 1) := by decide +kernel
theorem d_law_247 : decode code 247 = .ok (.iadd, 1) := by decide +kernel
theorem d_law_248 : decode code 248 = .ok (.iaload, 1) := by decide +kernel
theorem d_law_249 : decode code 249 = .ok (.aload_n 0, 1) := by decide +kernel
theorem d_law_250 : decode code 250 = .ok (.iload_n 3, 1) := by decide +kernel
theorem d_law_251 : decode code 251 = .ok (.iconst 3, 1) := by decide +kernel
theorem d_law_252 : decode code 252 = .ok (.iadd, 1) := by decide +kernel
theorem d_law_253 : decode code 253 = .ok (.iaload, 1) := by decide +kernel
theorem d_law_254 : decode code 254 = .ok (.invokevirtual 33, 3) := by decide +kernel
theorem d_law_257 : decode code 257 = .ok (.aload_n 2, 1) := by decide +kernel
theorem d_law_258 : decode code 258 = .ok (.aload_n 0, 1) := by decide +kernel
theorem d_law_259 : decode code 259 = .ok (.iload_n 3, 1) := by decide +kernel
theorem d_law_260 : decode code 260 = .ok (.iconst 1, 1) := by decide +kernel
theorem d_law_261 : decode code 261 = .ok (.iadd, 1) := by decide +kernel
theorem d_law_262 : decode code 262 = .ok (.iaload, 1) := by decide +kernel
theorem d_law_263 : decode code 263 = .ok (.aload_n 0, 1) := by decide +kernel
theorem d_law_264 : decode code 264 = .ok (.iload_n 3, 1) := by decide +kernel
theorem d_law_265 : decode code 265 = .ok (.iconst 2, 1) := by decide +kernel
theorem d_law_266 : decode code 266 = .ok (.iadd, 1) := by decide +kernel
theorem d_law_267 : decode code 267 = .ok (.iaload, 1) := by decide +kernel
theorem d_law_268 : decode code 268 = .ok (.aload_n 0, 1) := by decide +kernel
theorem d_law_269 : decode code 269 = .ok (.iload_n 3, 1) := by decide +kernel
theorem d_law_270 : decode code 270 = .ok (.iconst 3, 1) := by decide +kernel
theorem d_law_271 : decode code 271 = .ok (.iadd, 1) := by decide +kernel
theorem d_law_272 : decode code 272 = .ok (.iaload, 1) := by decide +kernel
theorem d_law_273 : decode code 273 = .ok (.invokevirtual 37, 3) := by decide +kernel
theorem d_law_276 : decode code 276 = .ok (.if_icmp .eq 411, 3) := by decide +kernel
theorem d_law_279 : decode code 279 = .ok (.iconst 0, 1) := by decide +kernel
theorem d_law_280 : decode code 280 = .ok (.ireturn, 1) := by decide +kernel
theorem d_law_281 : decode code 281 = .ok (.aload_n 1, 1) := by decide +kernel
theorem d_law_282 : decode code 282 = .ok (.aload_n 0, 1) := by decide +kernel
theorem d_law_283 : decode code 283 = .ok (.iload_n 3, 1) := by decide +kernel
theorem d_law_284 : decode code 284 = .ok (.iconst 1, 1) := by decide +kernel
theorem d_law_285 : decode code 285 = .ok (.iadd, 1) := by decide +kernel
theorem d_law_286 : decode code 286 = .ok (.iaload, 1) := by decide +kernel
theorem d_law_287 : decode code 287 = .ok (.aload_n 0, 1) := by decide +kernel
theorem d_law_288 : decode code 288 = .ok (.iload_n 3, 1) := by decide +kernel
theorem d_law_289 : decode code 289 = .ok (.iconst 2, 1) := by decide +kernel
theorem d_law_290 : decode code 290 = .ok (.iadd, 1) := by decide +kernel
theorem d_law_291 : decode code 291 = .ok (.iaload, 1) := by decide +kernel
theorem d_law_292 : decode code 292 = .ok (.aload_n 0, 1) := by decide +kernel
theorem d_law_293 : decode code 293 = .ok (.iload_n 3, 1) := by decide +kernel
theorem d_law_294 : decode code 294 = .ok (.iconst 3, 1) := by decide +kernel
theorem d_law_295 : decode code 295 = .ok (.iadd, 1) := by decide +kernel
theorem d_law_296 : decode code 296 = .ok (.iaload, 1) := by decide +kernel
theorem d_law_297 : decode code 297 = .ok (.aload_n 0, 1) := by decide +kernel
theorem d_law_298 : decode code 298 = .ok (.iload_n 3, 1) := by decide +kernel
theorem d_law_299 : decode code 299 = .ok (.iconst 4, 1) := by decide +kernel
theorem d_law_300 : decode code 300 = .ok (.iadd, 1) := by decide +kernel
theorem d_law_301 : decode code 301 = .ok (.iaload, 1) := by decide +kernel
theorem d_law_302 : decode code 302 = .ok (.invokevirtual 38, 3) := by decide +kernel
theorem d_law_305 : decode code 305 = .ok (.aload_n 2, 1) := by decide +kernel
theorem d_law_306 : decode code 306 = .ok (.aload_n 0, 1) := by decide +kernel
theorem d_law_307 : decode code 307 = .ok (.iload_n 3, 1) := by decide +kernel
theorem d_law_308 : decode code 308 = .ok (.iconst 1, 1) := by decide +kernel
theorem d_law_309 : decode code 309 = .ok (.iadd, 1) := by decide +kernel
theorem d_law_310 : decode code 310 = .ok (.iaload, 1) := by decide +kernel
theorem d_law_311 : decode code 311 = .ok (.aload_n 0, 1) := by decide +kernel
end
section
theorem d_law_312 : decode code 312 = .ok (.iload_n 3, 1) := by decide +kernel
theorem d_law_313 : decode code 313 = .ok (.iconst 2, 1) := by decide +kernel
theorem d_law_314 : decode code 314 = .ok (.iadd, 1) := by decide +kernel
theorem d_law_315 : decode code 315 = .ok (.iaload, 1) := by decide +kernel
theorem d_law_316 : decode code 316 = .ok (.aload_n 0, 1) := by decide +kernel
theorem d_law_317 : decode code 317 = .ok (.iload_n 3, 1) := by decide +kernel
theorem d_law_318 : decode code 318 = .ok (.iconst 3, 1) := by decide +kernel
theorem d_law_319 : decode code 319 = .ok (.iadd, 1) := by decide +kernel
theorem d_law_320 : decode code 320 = .ok (.iaload, 1) := by decide +kernel
theorem d_law_321 : decode code 321 = .ok (.aload_n 0, 1) := by decide +kernel
theorem d_law_322 : decode code 322 = .ok (.iload_n 3, 1) := by decide +kernel
theorem d_law_323 : decode code 323 = .ok (.iconst 4, 1) := by decide +kernel
theorem d_law_324 : decode code 324 = .ok (.iadd, 1) := by decide +kernel
theorem d_law_325 : decode code 325 = .ok (.iaload, 1) := by decide +kernel
theorem d_law_326 : decode code 326 = .ok (.invokevirtual 41, 3) := by decide +kernel
theorem d_law_329 : decode code 329 = .ok (.if_icmp .eq 358, 3) := by decide +kernel
theorem d_law_332 : decode code 332 = .ok (.iconst 0, 1) := by decide +kernel
theorem d_law_333 : decode code 333 = .ok (.ireturn, 1) := by decide +kernel
theorem d_law_334 : decode code 334 = .ok (.aload_n 1, 1) := by decide +kernel
theorem d_law_335 : decode code 335 = .ok (.aload_n 0, 1) := by decide +kernel
theorem d_law_336 : decode code 336 = .ok (.iload_n 3, 1) := by decide +kernel
theorem d_law_337 : decode code 337 = .ok (.iconst 1, 1) := by decide +kernel
theorem d_law_338 : decode code 338 = .ok (.iadd, 1) := by decide +kernel
theorem d_law_339 : decode code 339 = .ok (.iaload, 1) := by decide +kernel
theorem d_law_340 : decode code 340 = .ok (.aload_n 0, 1) := by decide +kernel
theorem d_law_341 : decode code 341 = .ok (.iload_n 3, 1) := by decide +kernel
theorem d_law_342 : decode code 342 = .ok (.iconst 2, 1) := by decide +kernel
theorem d_law_343 : decode code 343 = .ok (.iadd, 1) := by decide +kernel
theorem d_law_344 : decode code 344 = .ok (.iaload, 1) := by decide +kernel
theorem d_law_345 : decode code 345 = .ok (.aload_n 0, 1) := by decide +kernel
theorem d_law_346 : decode code 346 = .ok (.iload_n 3, 1) := by decide +kernel
theorem d_law_347 : decode code 347 = .ok (.iconst 3, 1) := by decide +kernel
theorem d_law_348 : decode code 348 = .ok (.iadd, 1) := by decide +kernel
theorem d_law_349 : decode code 349 = .ok (.iaload, 1) := by decide +kernel
theorem d_law_350 : decode code 350 = .ok (.invokevirtual 42, 3) := by decide +kernel
theorem d_law_353 : decode code 353 = .ok (.aload_n 2, 1) := by decide +kernel
theorem d_law_354 : decode code 354 = .ok (.aload_n 0, 1) := by decide +kernel
theorem d_law_355 : decode code 355 = .ok (.iload_n 3, 1) := by decide +kernel
theorem d_law_356 : decode code 356 = .ok (.iconst 1, 1) := by decide +kernel
theorem d_law_357 : decode code 357 = .ok (.iadd, 1) := by decide +kernel
theorem d_law_358 : decode code 358 = .ok (.iaload, 1) := by decide +kernel
theorem d_law_359 : decode code 359 = .ok (.aload_n 0, 1) := by decide +kernel
theorem d_law_360 : decode code 360 = .ok (.iload_n 3, 1) := by decide +kernel
theorem d_law_361 : decode code 361 = .ok (.iconst 2, 1) := by decide +kernel
theorem d_law_362 : decode code 362 = .ok (.iadd, 1) := by decide +kernel
theorem d_law_363 : decode code 363 = .ok (.iaload, 1) := by decide +kernel
theorem d_law_364 : decode code 364 = .ok (.aload_n 0, 1) := by decide +kernel
theorem d_law_365 : decode code 365 = .ok (.iload_n 3, 1) := by decide +kernel
theorem d_law_366 : decode code 366 = .ok (.iconst 3, 1) := by decide +kernel
theorem d_law_367 : decode code 367 = .ok (.iadd, 1) := by decide +kernel
theorem d_law_368 : decode code 368 = .ok (.iaload, 1) := by decide +kernel
theorem d_law_369 : decode code 369 = .ok (.invokevirtual 45, 3) := by decide +kernel
theorem d_law_372 : decode code 372 = .ok (.if_icmp .eq 315, 3) := by decide +kernel
theorem d_law_375 : decode code 375 = .ok (.iconst 0, 1) := by decide +kernel
theorem d_law_376 : decode code 376 = .ok (.ireturn, 1) := by decide +kernel
theorem d_law_377 : decode code 377 = .ok (.aload_n 1, 1) := by decide +kernel
theorem d_law_378 : decode code 378 = .ok (.aload_n 0, 1) := by decide +kernel
theorem d_law_379 : decode code 379 = .ok (.iload_n 3, 1) := by decide +kernel
theorem d_law_380 : decode code 380 = .ok (.iconst 1, 1) := by decide +kernel
theorem d_law_381 : decode code 381 = .ok (.iadd, 1) := by decide +kernel
theorem d_law_382 : decode code 382 = .ok (.iaload, 1) := by decide +kernel
theorem d_law_383 : decode code 383 = .ok (.aload_n 0, 1) := by decide +kernel
end
section
theorem d_law_384 : decode code 384 = .ok (.iload_n 3, 1) := by decide +kernel
theorem d_law_385 : decode code 385 = .ok (.iconst 2, 1) := by decide +kernel
theorem d_law_386 : decode code 386 = .ok (.iadd, 1) := by decide +kernel
theorem d_law_387 : decode code 387 = .ok (.iaload, 1) := by decide +kernel
theorem d_law_388 : decode code 388 = .ok (.invokevirtual 46, 3) := by decide +kernel
theorem d_law_391 : decode code 391 = .ok (.aload_n 2, 1) := by decide +kernel
theorem d_law_392 : decode code 392 = .ok (.aload_n 0, 1) := by decide +kernel
theorem d_law_393 : decode code 393 = .ok (.iload_n 3, 1) := by decide +kernel
theorem d_law_394 : decode code 394 = .ok (.iconst 1, 1) := by decide +kernel
theorem d_law_395 : decode code 395 = .ok (.iadd, 1) := by decide +kernel
theorem d_law_396 : decode code 396 = .ok (.iaload, 1) := by decide +kernel
theorem d_law_397 : decode code 397 = .ok (.aload_n 0, 1) := by decide +kernel
theorem d_law_398 : decode code 398 = .ok (.iload_n 3, 1) := by decide +kernel
theorem d_law_399 : decode code 399 = .ok (.iconst 2, 1) := by decide +kernel
theorem d_law_400 : decode code 400 = .ok (.iadd, 1) := by decide +kernel
theorem d_law_401 : decode code 401 = .ok (.iaload, 1) := by decide +kernel
theorem d_law_402 : decode code 402 = .ok (.invokevirtual 49, 3) := by decide +kernel
theorem d_law_405 : decode code 405 = .ok (.if_icmp .eq 282, 3) := by decide +kernel
theorem d_law_408 : decode code 408 = .ok (.iconst 0, 1) := by decide +kernel
theorem d_law_409 : decode code 409 = .ok (.ireturn, 1) := by decide +kernel
theorem d_law_410 : decode code 410 = .ok (.aload_n 1, 1) := by decide +kernel
theorem d_law_411 : decode code 411 = .ok (.aload_n 0, 1) := by decide +kernel
theorem d_law_412 : decode code 412 = .ok (.iload_n 3, 1) := by decide +kernel
theorem d_law_413 : decode code 413 = .ok (.iconst 1, 1) := by decide +kernel
theorem d_law_414 : decode code 414 = .ok (.iadd, 1) := by decide +kernel
theorem d_law_415 : decode code 415 = .ok (.iaload, 1) := by decide +kernel
theorem d_law_416 : decode code 416 = .ok (.aload_n 0, 1) := by decide +kernel
theorem d_law_417 : decode code 417 = .ok (.iload_n 3, 1) := by decide +kernel
theorem d_law_418 : decode code 418 = .ok (.iconst 2, 1) := by decide +kernel
theorem d_law_419 : decode code 419 = .ok (.iadd, 1) := by decide +kernel
theorem d_law_420 : decode code 420 = .ok (.iaload, 1) := by decide +kernel
theorem d_law_421 : decode code 421 = .ok (.aload_n 0, 1) := by decide +kernel
theorem d_law_422 : decode code 422 = .ok (.iload_n 3, 1) := by decide +kernel
theorem d_law_423 : decode code 423 = .ok (.iconst 3, 1) := by decide +kernel
theorem d_law_424 : decode code 424 = .ok (.iadd, 1) := by decide +kernel
theorem d_law_425 : decode code 425 = .ok (.iaload, 1) := by decide +kernel
theorem d_law_426 : decode code 426 = .ok (.aload_n 0, 1) := by decide +kernel
theorem d_law_427 : decode code 427 = .ok (.iload_n 3, 1) := by decide +kernel
theorem d_law_428 : decode code 428 = .ok (.iconst 4, 1) := by decide +kernel
theorem d_law_429 : decode code 429 = .ok (.iadd, 1) := by decide +kernel
theorem d_law_430 : decode code 430 = .ok (.iaload, 1) := by decide +kernel
theorem d_law_431 : decode code 431 = .ok (.invokevirtual 50, 3) := by decide +kernel
theorem d_law_434 : decode code 434 = .ok (.aload_n 2, 1) := by decide +kernel
theorem d_law_435 : decode code 435 = .ok (.aload_n 0, 1) := by decide +kernel
theorem d_law_436 : decode code 436 = .ok (.iload_n 3, 1) := by decide +kernel
theorem d_law_437 : decode code 437 = .ok (.iconst 1, 1) := by decide +kernel
theorem d_law_438 : decode code 438 = .ok (.iadd, 1) := by decide +kernel
theorem d_law_439 : decode code 439 = .ok (.iaload, 1) := by decide +kernel
theorem d_law_440 : decode code 440 = .ok (.aload_n 0, 1) := by decide +kernel
theorem d_law_441 : decode code 441 = .ok (.iload_n 3, 1) := by decide +kernel
theorem d_law_442 : decode code 442 = .ok (.iconst 2, 1) := by decide +kernel
theorem d_law_443 : decode code 443 = .ok (.iadd, 1) := by decide +kernel
theorem d_law_444 : decode code 444 = .ok (.iaload, 1) := by decide +kernel
theorem d_law_445 : decode code 445 = .ok (.aload_n 0, 1) := by decide +kernel
theorem d_law_446 : decode code 446 = .ok (.iload_n 3, 1) := by decide +kernel
theorem d_law_447 : decode code 447 = .ok (.iconst 3, 1) := by decide +kernel
theorem d_law_448 : decode code 448 = .ok (.iadd, 1) := by decide +kernel
theorem d_law_449 : decode code 449 = .ok (.iaload, 1) := by decide +kernel
theorem d_law_450 : decode code 450 = .ok (.aload_n 0, 1) := by decide +kernel
theorem d_law_451 : decode code 451 = .ok (.iload_n 3, 1) := by decide +kernel
theorem d_law_452 : decode code 452 = .ok (.iconst 4, 1) := by decide +kernel
theorem d_law_453 : decode code 453 = .ok (.iadd, 1) := by decide +kernel
end
section
theorem d_law_454 : decode code 454 = .ok (.iaload, 1) := by decide +kernel
theorem d_law_455 : decode code 455 = .ok (.invokevirtual 53, 3) := by decide +kernel
theorem d_law_458 : decode code 458 = .ok (.if_icmp .eq 229, 3) := by decide +kernel
theorem d_law_461 : decode code 461 = .ok (.iconst 0, 1) := by decide +kernel
theorem d_law_462 : decode code 462 = .ok (.ireturn, 1) := by decide +kernel
theorem d_law_463 : decode code 463 = .ok (.aload_n 1, 1) := by decide +kernel
theorem d_law_464 : decode code 464 = .ok (.aload_n 0, 1) := by decide +kernel
theorem d_law_465 : decode code 465 = .ok (.iload_n 3, 1) := by decide +kernel
theorem d_law_466 : decode code 466 = .ok (.iconst 1, 1) := by decide +kernel
theorem d_law_467 : decode code 467 = .ok (.iadd, 1) := by decide +kernel
theorem d_law_468 : decode code 468 = .ok (.iaload, 1) := by decide +kernel
theorem d_law_469 : decode code 469 = .ok (.invokevirtual 54, 3) := by decide +kernel
theorem d_law_472 : decode code 472 = .ok (.aload_n 2, 1) := by decide +kernel
theorem d_law_473 : decode code 473 = .ok (.aload_n 0, 1) := by decide +kernel
theorem d_law_474 : decode code 474 = .ok (.iload_n 3, 1) := by decide +kernel
theorem d_law_475 : decode code 475 = .ok (.iconst 1, 1) := by decide +kernel
theorem d_law_476 : decode code 476 = .ok (.iadd, 1) := by decide +kernel
theorem d_law_477 : decode code 477 = .ok (.iaload, 1) := by decide +kernel
theorem d_law_478 : decode code 478 = .ok (.invokevirtual 57, 3) := by decide +kernel
theorem d_law_481 : decode code 481 = .ok (.if_icmp .eq 206, 3) := by decide +kernel
theorem d_law_484 : decode code 484 = .ok (.iconst 0, 1) := by decide +kernel
theorem d_law_485 : decode code 485 = .ok (.ireturn, 1) := by decide +kernel
theorem d_law_486 : decode code 486 = .ok (.aload_n 1, 1) := by decide +kernel
theorem d_law_487 : decode code 487 = .ok (.aload_n 0, 1) := by decide +kernel
theorem d_law_488 : decode code 488 = .ok (.iload_n 3, 1) := by decide +kernel
theorem d_law_489 : decode code 489 = .ok (.iconst 1, 1) := by decide +kernel
theorem d_law_490 : decode code 490 = .ok (.iadd, 1) := by decide +kernel
theorem d_law_491 : decode code 491 = .ok (.iaload, 1) := by decide +kernel
theorem d_law_492 : decode code 492 = .ok (.aload_n 0, 1) := by decide +kernel
theorem d_law_493 : decode code 493 = .ok (.iload_n 3, 1) := by decide +kernel
theorem d_law_494 : decode code 494 = .ok (.iconst 2, 1) := by decide +kernel
theorem d_law_495 : decode code 495 = .ok (.iadd, 1) := by decide +kernel
theorem d_law_496 : decode code 496 = .ok (.iaload, 1) := by decide +kernel
theorem d_law_497 : decode code 497 = .ok (.aload_n 0, 1) := by decide +kernel
theorem d_law_498 : decode code 498 = .ok (.iload_n 3, 1) := by decide +kernel
theorem d_law_499 : decode code 499 = .ok (.iconst 3, 1) := by decide +kernel
theorem d_law_500 : decode code 500 = .ok (.iadd, 1) := by decide +kernel
theorem d_law_501 : decode code 501 = .ok (.iaload, 1) := by decide +kernel
theorem d_law_502 : decode code 502 = .ok (.invokevirtual 58, 3) := by decide +kernel
theorem d_law_505 : decode code 505 = .ok (.aload_n 2, 1) := by decide +kernel
theorem d_law_506 : decode code 506 = .ok (.aload_n 0, 1) := by decide +kernel
theorem d_law_507 : decode code 507 = .ok (.iload_n 3, 1) := by decide +kernel
theorem d_law_508 : decode code 508 = .ok (.iconst 1, 1) := by decide +kernel
theorem d_law_509 : decode code 509 = .ok (.iadd, 1) := by decide +kernel
theorem d_law_510 : decode code 510 = .ok (.iaload, 1) := by decide +kernel
theorem d_law_511 : decode code 511 = .ok (.aload_n 0, 1) := by decide +kernel
theorem d_law_512 : decode code 512 = .ok (.iload_n 3, 1) := by decide +kernel
theorem d_law_513 : decode code 513 = .ok (.iconst 2, 1) := by decide +kernel
theorem d_law_514 : decode code 514 = .ok (.iadd, 1) := by decide +kernel
theorem d_law_515 : decode code 515 = .ok (.iaload, 1) := by decide +kernel
theorem d_law_516 : decode code 516 = .ok (.aload_n 0, 1) := by decide +kernel
theorem d_law_517 : decode code 517 = .ok (.iload_n 3, 1) := by decide +kernel
theorem d_law_518 : decode code 518 = .ok (.iconst 3, 1) := by decide +kernel
theorem d_law_519 : decode code 519 = .ok (.iadd, 1) := by decide +kernel
theorem d_law_520 : decode code 520 = .ok (.iaload, 1) := by decide +kernel
theorem d_law_521 : decode code 521 = .ok (.invokevirtual 61, 3) := by decide +kernel
theorem d_law_524 : decode code 524 = .ok (.if_icmp .eq 163, 3) := by decide +kernel
theorem d_law_527 : decode code 527 = .ok (.iconst 0, 1) := by decide +kernel
theorem d_law_528 : decode code 528 = .ok (.ireturn, 1) := by decide +kernel
theorem d_law_529 : decode code 529 = .ok (.aload_n 1, 1) := by decide +kernel
theorem d_law_530 : decode code 530 = .ok (.aload_n 0, 1) := by decide +kernel
theorem d_law_531 : decode code 531 = .ok (.iload_n 3, 1) := by decide +kernel
end
section
theorem d_law_532 : decode code 532 = .ok (.iconst 1, 1) := by decide +kernel
theorem d_law_533 : decode code 533 = .ok (.iadd, 1) := by decide +kernel
theorem d_law_534 : decode code 534 = .ok (.iaload, 1) := by decide +kernel
theorem d_law_535 : decode code 535 = .ok (.aload_n 0, 1) := by decide +kernel
theorem d_law_536 : decode code 536 = .ok (.iload_n 3, 1) := by decide +kernel
theorem d_law_537 : decode code 537 = .ok (.iconst 2, 1) := by decide +kernel
theorem d_law_538 : decode code 538 = .ok (.iadd, 1) := by decide +kernel
theorem d_law_539 : decode code 539 = .ok (.iaload, 1) := by decide +kernel
theorem d_law_540 : decode code 540 = .ok (.aload_n 0, 1) := by decide +kernel
theorem d_law_541 : decode code 541 = .ok (.iload_n 3, 1) := by decide +kernel
theorem d_law_542 : decode code 542 = .ok (.iconst 3, 1) := by decide +kernel
theorem d_law_543 : decode code 543 = .ok (.iadd, 1) := by decide +kernel
theorem d_law_544 : decode code 544 = .ok (.iaload, 1) := by decide +kernel
theorem d_law_545 : decode code 545 = .ok (.invokevirtual 62, 3) := by decide +kernel
theorem d_law_548 : decode code 548 = .ok (.aload_n 2, 1) := by decide +kernel
theorem d_law_549 : decode code 549 = .ok (.aload_n 0, 1) := by decide +kernel
theorem d_law_550 : decode code 550 = .ok (.iload_n 3, 1) := by decide +kernel
theorem d_law_551 : decode code 551 = .ok (.iconst 1, 1) := by decide +kernel
theorem d_law_552 : decode code 552 = .ok (.iadd, 1) := by decide +kernel
theorem d_law_553 : decode code 553 = .ok (.iaload, 1) := by decide +kernel
theorem d_law_554 : decode code 554 = .ok (.aload_n 0, 1) := by decide +kernel
theorem d_law_555 : decode code 555 = .ok (.iload_n 3, 1) := by decide +kernel
theorem d_law_556 : decode code 556 = .ok (.iconst 2, 1) := by decide +kernel
theorem d_law_557 : decode code 557 = .ok (.iadd, 1) := by decide +kernel
theorem d_law_558 : decode code 558 = .ok (.iaload, 1) := by decide +kernel
theorem d_law_559 : decode code 559 = .ok (.aload_n 0, 1) := by decide +kernel
theorem d_law_560 : decode code 560 = .ok (.iload_n 3, 1) := by decide +kernel
theorem d_law_561 : decode code 561 = .ok (.iconst 3, 1) := by decide +kernel
theorem d_law_562 : decode code 562 = .ok (.iadd, 1) := by decide +kernel
theorem d_law_563 : decode code 563 = .ok (.iaload, 1) := by decide +kernel
theorem d_law_564 : decode code 564 = .ok (.invokevirtual 65, 3) := by decide +kernel
theorem d_law_567 : decode code 567 = .ok (.if_icmp .eq 120, 3) := by decide +kernel
theorem d_law_570 : decode code 570 = .ok (.iconst 0, 1) := by decide +kernel
theorem d_law_571 : decode code 571 = .ok (.ireturn, 1) := by decide +kernel
theorem d_law_572 : decode code 572 = .ok (.aload_n 1, 1) := by decide +kernel
theorem d_law_573 : decode code 573 = .ok (.aload_n 0, 1) := by decide +kernel
theorem d_law_574 : decode code 574 = .ok (.iload_n 3, 1) := by decide +kernel
theorem d_law_575 : decode code 575 = .ok (.iconst 1, 1) := by decide +kernel
theorem d_law_576 : decode code 576 = .ok (.iadd, 1) := by decide +kernel
theorem d_law_577 : decode code 577 = .ok (.iaload, 1) := by decide +kernel
theorem d_law_578 : decode code 578 = .ok (.aload_n 0, 1) := by decide +kernel
theorem d_law_579 : decode code 579 = .ok (.iload_n 3, 1) := by decide +kernel
theorem d_law_580 : decode code 580 = .ok (.iconst 2, 1) := by decide +kernel
theorem d_law_581 : decode code 581 = .ok (.iadd, 1) := by decide +kernel
theorem d_law_582 : decode code 582 = .ok (.iaload, 1) := by decide +kernel
theorem d_law_583 : decode code 583 = .ok (.invokevirtual 66, 3) := by decide +kernel
theorem d_law_586 : decode code 586 = .ok (.aload_n 2, 1) := by decide +kernel
theorem d_law_587 : decode code 587 = .ok (.aload_n 0, 1) := by decide +kernel
theorem d_law_588 : decode code 588 = .ok (.iload_n 3, 1) := by decide +kernel
theorem d_law_589 : decode code 589 = .ok (.iconst 1, 1) := by decide +kernel
theorem d_law_590 : decode code 590 = .ok (.iadd, 1) := by decide +kernel
theorem d_law_591 : decode code 591 = .ok (.iaload, 1) := by decide +kernel
theorem d_law_592 : decode code 592 = .ok (.aload_n 0, 1) := by decide +kernel
theorem d_law_593 : decode code 593 = .ok (.iload_n 3, 1) := by decide +kernel
theorem d_law_594 : decode code 594 = .ok (.iconst 2, 1) := by decide +kernel
theorem d_law_595 : decode code 595 = .ok (.iadd, 1) := by decide +kernel
theorem d_law_596 : decode code 596 = .ok (.iaload, 1) := by decide +kernel
theorem d_law_597 : decode code 597 = .ok (.invokevirtual 69, 3) := by decide +kernel
theorem d_law_600 : decode code 600 = .ok (.if_icmp .eq 87, 3) := by decide +kernel
theorem d_law_603 : decode code 603 = .ok (.iconst 0, 1) := by decide +kernel
theorem d_law_604 : decode code 604 = .ok (.ireturn, 1) := by decide +kernel
theorem d_law_605 : decode code 605 = .ok (.aload_n 1, 1) := by decide +kernel
end
section
theorem d_law_606 : decode code 606 = .ok (.aload_n 0, 1) := by decide +kernel
theorem d_law_607 : decode code 607 = .ok (.iload_n 3, 1) := by decide +kernel
theorem d_law_608 : decode code 608 = .ok (.iconst 1, 1) := by decide +kernel
theorem d_law_609 : decode code 609 = .ok (.iadd, 1) := by decide +kernel
theorem d_law_610 : decode code 610 = .ok (.iaload, 1) := by decide +kernel
theorem d_law_611 : decode code 611 = .ok (.invokevirtual 70, 3) := by decide +kernel
theorem d_law_614 : decode code 614 = .ok (.aload_n 2, 1) := by decide +kernel
theorem d_law_615 : decode code 615 = .ok (.aload_n 0, 1) := by decide +kernel
theorem d_law_616 : decode code 616 = .ok (.iload_n 3, 1) := by decide +kernel
theorem d_law_617 : decode code 617 = .ok (.iconst 1, 1) := by decide +kernel
theorem d_law_618 : decode code 618 = .ok (.iadd, 1) := by decide +kernel
theorem d_law_619 : decode code 619 = .ok (.iaload, 1) := by decide +kernel
theorem d_law_620 : decode code 620 = .ok (.invokevirtual 73, 3) := by decide +kernel
theorem d_law_623 : decode code 623 = .ok (.if_icmp .eq 64, 3) := by decide +kernel
theorem d_law_626 : decode code 626 = .ok (.iconst 0, 1) := by decide +kernel
theorem d_law_627 : decode code 627 = .ok (.ireturn, 1) := by decide +kernel
theorem d_law_628 : decode code 628 = .ok (.aload_n 1, 1) := by decide +kernel
theorem d_law_629 : decode code 629 = .ok (.aload_n 0, 1) := by decide +kernel
theorem d_law_630 : decode code 630 = .ok (.iload_n 3, 1) := by decide +kernel
theorem d_law_631 : decode code 631 = .ok (.iconst 1, 1) := by decide +kernel
theorem d_law_632 : decode code 632 = .ok (.iadd, 1) := by decide +kernel
theorem d_law_633 : decode code 633 = .ok (.iaload, 1) := by decide +kernel
theorem d_law_634 : decode code 634 = .ok (.invokevirtual 74, 3) := by decide +kernel
theorem d_law_637 : decode code 637 = .ok (.aload_n 2, 1) := by decide +kernel
theorem d_law_638 : decode code 638 = .ok (.aload_n 0, 1) := by decide +kernel
theorem d_law_639 : decode code 639 = .ok (.iload_n 3, 1) := by decide +kernel
theorem d_law_640 : decode code 640 = .ok (.iconst 1, 1) := by decide +kernel
theorem d_law_641 : decode code 641 = .ok (.iadd, 1) := by decide +kernel
theorem d_law_642 : decode code 642 = .ok (.iaload, 1) := by decide +kernel
theorem d_law_643 : decode code 643 = .ok (.invokevirtual 77, 3) := by decide +kernel
theorem d_law_646 : decode code 646 = .ok (.if_icmp .eq 41, 3) := by decide +kernel
theorem d_law_649 : decode code 649 = .ok (.iconst 0, 1) := by decide +kernel
theorem d_law_650 : decode code 650 = .ok (.ireturn, 1) := by decide +kernel
theorem d_law_651 : decode code 651 = .ok (.aload_n 1, 1) := by decide +kernel
theorem d_law_652 : decode code 652 = .ok (.aload_n 0, 1) := by decide +kernel
theorem d_law_653 : decode code 653 = .ok (.iload_n 3, 1) := by decide +kernel
theorem d_law_654 : decode code 654 = .ok (.iconst 1, 1) := by decide +kernel
theorem d_law_655 : decode code 655 = .ok (.iadd, 1) := by decide +kernel
theorem d_law_656 : decode code 656 = .ok (.iaload, 1) := by decide +kernel
theorem d_law_657 : decode code 657 = .ok (.invokevirtual 78, 3) := by decide +kernel
theorem d_law_660 : decode code 660 = .ok (.aload_n 2, 1) := by decide +kernel
theorem d_law_661 : decode code 661 = .ok (.aload_n 0, 1) := by decide +kernel
theorem d_law_662 : decode code 662 = .ok (.iload_n 3, 1) := by decide +kernel
theorem d_law_663 : decode code 663 = .ok (.iconst 1, 1) := by decide +kernel
theorem d_law_664 : decode code 664 = .ok (.iadd, 1) := by decide +kernel
theorem d_law_665 : decode code 665 = .ok (.iaload, 1) := by decide +kernel
theorem d_law_666 : decode code 666 = .ok (.invokevirtual 81, 3) := by decide +kernel
theorem d_law_669 : decode code 669 = .ok (.if_icmp .eq 18, 3) := by decide +kernel
theorem d_law_672 : decode code 672 = .ok (.iconst 0, 1) := by decide +kernel
theorem d_law_673 : decode code 673 = .ok (.ireturn, 1) := by decide +kernel
theorem d_law_674 : decode code 674 = .ok (.aload_n 1, 1) := by decide +kernel
theorem d_law_675 : decode code 675 = .ok (.invokevirtual 82, 3) := by decide +kernel
theorem d_law_678 : decode code 678 = .ok (.aload_n 2, 1) := by decide +kernel
theorem d_law_679 : decode code 679 = .ok (.invokevirtual 85, 3) := by decide +kernel
theorem d_law_682 : decode code 682 = .ok (.if_icmp .eq 5, 3) := by decide +kernel
theorem d_law_685 : decode code 685 = .ok (.iconst 0, 1) := by decide +kernel
theorem d_law_686 : decode code 686 = .ok (.ireturn, 1) := by decide +kernel
theorem d_law_687 : decode code 687 = .ok (.iinc 3 5, 3) := by decide +kernel
theorem d_law_690 : decode code 690 = .ok (.goto (-672), 3) := by decide +kernel
theorem d_law_693 : decode code 693 = .ok (.iconst 1, 1) := by decide +kernel
theorem d_law_694 : decode code 694 = .ok (.ireturn, 1) := by decide +kernel
end
section
/-! CONTRACTS over a RowPress' world (xr_Mi, xr_Mv) and a model's (xm_Mi, xm_Mv); the numbers of the world by name -/
abbrev xS : Type := Nat × Nat × Nat × Nat × Nat × (Nat → xE)
def wR (a : Nat → Nat) (cI cO : ClassId) (u : xS) : va_W := xw a cI cO u.1 u.2.1 u.2.2.1 u.2.2.2.1 u.2.2.2.2.1 u.2.2.2.2.2
abbrev mS : Type := Nat × (Nat → xE) × (Nat → xE)
def wM (a : Nat → Nat) (cI : ClassId) (u : mS) : va_W := mw a cI u.1 u.2.1 u.2.2
abbrev xPi : Type := Int32 → Nat → Nat → Nat → Nat → Nat → (Nat → xE) → Prop
abbrev xPv : Type := Nat → Nat → Nat → Nat → Nat → (Nat → xE) → Prop
abbrev mPi : Type := Int32 → Nat → (Nat → xE) → (Nat → xE) → Prop
abbrev mPv : Type := Nat → (Nat → xE) → (Nat → xE) → Prop
def xr_Mi (l : Launch) (y : MethodName) (b : ByteArray) (maxL : Nat) (ret : Option FieldType) (r : Nat) (As : List Value) (n o c w ms : Nat) (f : Nat → xE) (post : xPi) : Prop :=
  ∀ (a : Nat → Nat) (cI cO : ClassId), xa_Mi l y b maxL ret r (yR cI cO) (.ref (a 0) :: As) (xw a cI cO n o c w ms f) (wR a cI cO) (fun v u => post v u.1 u.2.1 u.2.2.1 u.2.2.2.1 u.2.2.2.2.1 u.2.2.2.2.2)
def xr_Mv (l : Launch) (y : MethodName) (b : ByteArray) (maxL : Nat) (r : Nat) (As : List Value) (n o c w ms : Nat) (f : Nat → xE) (post : xPv) : Prop :=
  ∀ (a : Nat → Nat) (cI cO : ClassId), xa_Mv l y b maxL r (yR cI cO) (.ref (a 0) :: As) (xw a cI cO n o c w ms f) (wR a cI cO) (fun u => post u.1 u.2.1 u.2.2.1 u.2.2.2.1 u.2.2.2.2.1 u.2.2.2.2.2)
def xm_Mi (l : Launch) (y : MethodName) (b : ByteArray) (maxL : Nat) (ret : Option FieldType) (r : Nat) (As : List Value) (n : Nat) (f g : Nat → xE) (post : mPi) : Prop :=
  ∀ (a : Nat → Nat) (cI cO : ClassId), xa_Mi l y b maxL ret r (yR cI cO) (.ref (a 0) :: As) (mw a cI n f g) (wM a cI) (fun v u => post v u.1 u.2.1 u.2.2)
def xm_Mv (l : Launch) (y : MethodName) (b : ByteArray) (maxL : Nat) (r : Nat) (As : List Value) (n : Nat) (f g : Nat → xE) (post : mPv) : Prop :=
  ∀ (a : Nat → Nat) (cI cO : ClassId), xa_Mv l y b maxL r (yR cI cO) (.ref (a 0) :: As) (mw a cI n f g) (wM a cI) (fun u => post u.1 u.2.1 u.2.2)
theorem xr_Mi.of {l : Launch} {y : MethodName} {b : ByteArray} {maxL : Nat} {ty : FieldType} {r : Nat} {As : List Value} {n o c w ms : Nat} {f : Nat → xE} {post : xPi} (lt : List (Option Value)) (hy : plainName y.cls = true) (hav : As.all (fun v => v.category == 1) = true) (hlen : Nat.ble (As.length + 1) maxL = true) (hlv : As.map some ++ List.replicate (maxL - (As.length + 1)) none = lt)
    (body : ∀ (Γ : xa_C) (a : Nat → Nat) (cI cO : ClassId), xa_G Γ y.cls b r → va_K (xD Γ) classes (yR cI cO) (xs Γ) → (∀ (pc : Nat) (lv : List (Option Value)) (v : Int32) (n' o' c' w' ms' : Nat) (f' : Nat → xE), decode b pc = .ok (.ireturn, 1) → narrow ty (.int v) = .int v → post v n' o' c' w' ms' f' → xa_At Γ (xw a cI cO n' o' c' w' ms' f') pc lv [.int v]) → xa_At Γ (xw a cI cO n o c w ms f) 0 (some (.ref (a 0)) :: lt) []) : xr_Mi l y b maxL (some ty) r As n o c w ms f post := by
  intro a cI cO
  exact xa_Mi.of (some (.ref (a 0)) :: lt) hy hav hlen (by rw [← hlv]; rfl) (fun Γ G K rt => body Γ a cI cO G K (fun pc lv v n' o' c' w' ms' f' hd hn hp => rt pc lv v (n', o', c', w', ms', f') hd hn hp))
theorem xr_Mv.of {l : Launch} {y : MethodName} {b : ByteArray} {maxL : Nat} {r : Nat} {As : List Value} {n o c w ms : Nat} {f : Nat → xE} {post : xPv} (lt : List (Option Value)) (hy : plainName y.cls = true) (hav : As.all (fun v => v.category == 1) = true) (hlen : Nat.ble (As.length + 1) maxL = true) (hlv : As.map some ++ List.replicate (maxL - (As.length + 1)) none = lt)
    (body : ∀ (Γ : xa_C) (a : Nat → Nat) (cI cO : ClassId), xa_G Γ y.cls b r → va_K (xD Γ) classes (yR cI cO) (xs Γ) → (∀ (pc : Nat) (lv : List (Option Value)) (n' o' c' w' ms' : Nat) (f' : Nat → xE), decode b pc = .ok (.return_, 1) → post n' o' c' w' ms' f' → xa_At Γ (xw a cI cO n' o' c' w' ms' f') pc lv []) → xa_At Γ (xw a cI cO n o c w ms f) 0 (some (.ref (a 0)) :: lt) []) : xr_Mv l y b maxL r As n o c w ms f post := by
  intro a cI cO
  exact xa_Mv.of (some (.ref (a 0)) :: lt) hy hav hlen (by rw [← hlv]; rfl) (fun Γ G K rt => body Γ a cI cO G K (fun pc lv n' o' c' w' ms' f' hd hp => rt pc lv (n', o', c', w', ms', f') hd hp))
theorem xm_Mi.of {l : Launch} {y : MethodName} {b : ByteArray} {maxL : Nat} {ty : FieldType} {r : Nat} {As : List Value} {n : Nat} {f g : Nat → xE} {post : mPi} (lt : List (Option Value)) (hy : plainName y.cls = true) (hav : As.all (fun v => v.category == 1) = true) (hlen : Nat.ble (As.length + 1) maxL = true) (hlv : As.map some ++ List.replicate (maxL - (As.length + 1)) none = lt)
    (body : ∀ (Γ : xa_C) (a : Nat → Nat) (cI cO : ClassId), xa_G Γ y.cls b r → va_K (xD Γ) classes (yR cI cO) (xs Γ) → (∀ (pc : Nat) (lv : List (Option Value)) (v : Int32) (n' : Nat) (f' g' : Nat → xE), decode b pc = .ok (.ireturn, 1) → narrow ty (.int v) = .int v → post v n' f' g' → xa_At Γ (mw a cI n' f' g') pc lv [.int v]) → xa_At Γ (mw a cI n f g) 0 (some (.ref (a 0)) :: lt) []) : xm_Mi l y b maxL (some ty) r As n f g post := by
  intro a cI cO
  exact xa_Mi.of (some (.ref (a 0)) :: lt) hy hav hlen (by rw [← hlv]; rfl) (fun Γ G K rt => body Γ a cI cO G K (fun pc lv v n' f' g' hd hn hp => rt pc lv v (n', f', g') hd hn hp))
theorem xm_Mv.of {l : Launch} {y : MethodName} {b : ByteArray} {maxL : Nat} {r : Nat} {As : List Value} {n : Nat} {f g : Nat → xE} {post : mPv} (lt : List (Option Value)) (hy : plainName y.cls = true) (hav : As.all (fun v => v.category == 1) = true) (hlen : Nat.ble (As.length + 1) maxL = true) (hlv : As.map some ++ List.replicate (maxL - (As.length + 1)) none = lt)
    (body : ∀ (Γ : xa_C) (a : Nat → Nat) (cI cO : ClassId), xa_G Γ y.cls b r → va_K (xD Γ) classes (yR cI cO) (xs Γ) → (∀ (pc : Nat) (lv : List (Option Value)) (n' : Nat) (f' g' : Nat → xE), decode b pc = .ok (.return_, 1) → post n' f' g' → xa_At Γ (mw a cI n' f' g') pc lv []) → xa_At Γ (mw a cI n f g) 0 (some (.ref (a 0)) :: lt) []) : xm_Mv l y b maxL r As n f g post := by
  intro a cI cO
  exact xa_Mv.of (some (.ref (a 0)) :: lt) hy hav hlen (by rw [← hlv]; rfl) (fun Γ G K rt => body Γ a cI cO G K (fun pc lv n' f' g' hd hp => rt pc lv (n', f', g') hd hp))
section XRC
variable {Γ : xa_C} {cc : ByteArray} {r0 : Nat} {a : Nat → Nat} {cI cO : ClassId} {n o c w ms : Nat} {f g : Nat → xE} {pc : Nat} {lv : List (Option Value)} {st0 st As : List Value} {y : MethodName} {b : ByteArray} {maxL r k ix : Nat} {ret : Option FieldType}
theorem xr_calli {post : xPi} (G : xa_G Γ "RowPress" cc r0) (K : va_K (xD Γ) classes (yR cI cO) (xs Γ)) (kv : ck_v "RowPress" ix y b maxL ret k) (M : xr_Mi (xl Γ) y b maxL ret r As n o c w ms f post) (hr : r + 1 ≤ r0) (hm : maxL ≤ 45) (hn : As.length = k) (hst : st0 = As.reverse ++ .ref (a 0) :: st) (hcat : (st.map fun v => v.category).sum ≤ 8) (hdg : decode cc pc = .ok (.invokevirtual ix, 3))
    (kk : ∀ (v : Int32) (n' o' c' w' ms' : Nat) (f' : Nat → xE), post v n' o' c' w' ms' f' → xa_At Γ (xw a cI cO n' o' c' w' ms' f') (pc + 3) lv (.int v :: st)) (hcy : R_R = y.cls := by rfl) : xa_At Γ (xw a cI cO n o c w ms f) pc lv st0 :=
  xa_calli (tys := yR cI cO) G K xa_J.own kv (M a cI cO) (qc := (R_R, F_R, 8)) rfl rfl hcy hr hm hn hst hcat hdg (fun v u hu => kk v u.1 u.2.1 u.2.2.1 u.2.2.2.1 u.2.2.2.2.1 u.2.2.2.2.2 hu)
theorem xr_callv {post : xPv} (G : xa_G Γ "RowPress" cc r0) (K : va_K (xD Γ) classes (yR cI cO) (xs Γ)) (kv : ck_v "RowPress" ix y b maxL none k) (M : xr_Mv (xl Γ) y b maxL r As n o c w ms f post) (hr : r + 1 ≤ r0) (hm : maxL ≤ 45) (hn : As.length = k) (hst : st0 = As.reverse ++ .ref (a 0) :: st) (hcat : (st.map fun v => v.category).sum ≤ 8) (hdg : decode cc pc = .ok (.invokevirtual ix, 3))
    (kk : ∀ (n' o' c' w' ms' : Nat) (f' : Nat → xE), post n' o' c' w' ms' f' → xa_At Γ (xw a cI cO n' o' c' w' ms' f') (pc + 3) lv st) (hcy : R_R = y.cls := by rfl) : xa_At Γ (xw a cI cO n o c w ms f) pc lv st0 :=
  xa_callv (tys := yR cI cO) G K xa_J.own kv (M a cI cO) (qc := (R_R, F_R, 8)) rfl rfl hcy hr hm hn hst hcat hdg (fun u hu => kk u.1 u.2.1 u.2.2.1 u.2.2.2.1 u.2.2.2.2.1 u.2.2.2.2.2 hu)
theorem xm_calli {post : mPi} (G : xa_G Γ "RowPressModel" cc r0) (K : va_K (xD Γ) classes (yR cI cO) (xs Γ)) (kv : ck_v "RowPressModel" ix y b maxL ret k) (M : xm_Mi (xl Γ) y b maxL ret r As n f g post) (hr : r + 1 ≤ r0) (hm : maxL ≤ 45) (hn : As.length = k) (hst : st0 = As.reverse ++ .ref (a 0) :: st) (hcat : (st.map fun v => v.category).sum ≤ 8) (hdg : decode cc pc = .ok (.invokevirtual ix, 3))
    (kk : ∀ (v : Int32) (n' : Nat) (f' g' : Nat → xE), post v n' f' g' → xa_At Γ (mw a cI n' f' g') (pc + 3) lv (.int v :: st)) (hcy : R_M = y.cls := by rfl) : xa_At Γ (mw a cI n f g) pc lv st0 :=
  xa_calli (tys := yR cI cO) G K xa_J.own kv (M a cI cO) (qc := (R_M, F_M, 5)) rfl rfl hcy hr hm hn hst hcat hdg (fun v u hu => kk v u.1 u.2.1 u.2.2 hu)
theorem xm_callv {post : mPv} (G : xa_G Γ "RowPressModel" cc r0) (K : va_K (xD Γ) classes (yR cI cO) (xs Γ)) (kv : ck_v "RowPressModel" ix y b maxL none k) (M : xm_Mv (xl Γ) y b maxL r As n f g post) (hr : r + 1 ≤ r0) (hm : maxL ≤ 45) (hn : As.length = k) (hst : st0 = As.reverse ++ .ref (a 0) :: st) (hcat : (st.map fun v => v.category).sum ≤ 8) (hdg : decode cc pc = .ok (.invokevirtual ix, 3))
    (kk : ∀ (n' : Nat) (f' g' : Nat → xE), post n' f' g' → xa_At Γ (mw a cI n' f' g') (pc + 3) lv st) (hcy : R_M = y.cls := by rfl) : xa_At Γ (mw a cI n f g) pc lv st0 :=
  xa_callv (tys := yR cI cO) G K xa_J.own kv (M a cI cO) (qc := (R_M, F_M, 5)) rfl rfl hcy hr hm hn hst hcat hdg (fun u hu => kk u.1 u.2.1 u.2.2 hu)
end XRC
end
section
/-! Integer.compare, compareUnsigned, Math.min, the four orders, the model's isLess and isOrder: functions without a world -/
def xcv (x y : Int32) : Int32 := if x < y then -1 else if x = y then 0 else 1
/-- the orders as numbers -/
def xK (o : Nat) (x : Int32) : Int := match o with
  | 0 => x.toInt
  | 1 => (x.toBitVec.toNat : Int)
  | 2 => - x.toInt
  | _ => ((x &&& 255).toBitVec.toNat : Int)
def xcm (o : Nat) (x y v : Int32) : Prop := (v < 0 ↔ xK o x < xK o y) ∧ (v = 0 ↔ xK o x = xK o y)
theorem xcv_lt (x y : Int32) : xcv x y < 0 ↔ x < y := by
  unfold xcv
  by_cases h : x < y
  · simp [h]
  · by_cases h2 : x = y
    · simp [h2]
    · rw [if_neg h, if_neg h2]
      constructor
      · intro q; exact absurd q (by decide)
      · intro q; exact absurd q h
theorem xcv_eq (x y : Int32) : xcv x y = 0 ↔ x = y := by
  unfold xcv
  by_cases h : x < y
  · rw [if_pos h]
    constructor
    · intro q; exact absurd q (by decide)
    · intro q; subst q; exact absurd h (Int32.lt_irrefl)
  · by_cases h2 : x = y
    · simp [h2]
    · rw [if_neg h, if_neg h2]
      constructor
      · intro q; exact absurd q (by decide)
      · intro q; exact absurd q h2
theorem xk_and (x : Int32) : (x &&& 255) = nI ((x &&& 255).toBitVec.toNat) ∧ (x &&& 255).toBitVec.toNat < 256 := by
  have h := pk_and x (m := 255) 8 (by decide +kernel)
  have h1 : x.toBitVec.toNat % 2 ^ 8 < 256 := Nat.mod_lt _ (by decide)
  rw [h, pk_tn (by omega)]
  exact ⟨rfl, h1⟩
theorem xk_uns (x : Int32) : (x + (-2147483648)).toInt = (x.toBitVec.toNat : Int) - 2147483648 := by
  have h : (x + (-2147483648)).toBitVec = x.toBitVec + 2147483648#32 := rfl
  show (x + (-2147483648)).toBitVec.toInt = _
  rw [h, BitVec.toInt_eq_toNat_cond, BitVec.toNat_add]
  have h2 := x.toBitVec.isLt
  have h3 : (2147483648#32).toNat = 2147483648 := by decide
  rw [h3]
  split <;> omega
set_option maxHeartbeats 1000000 in
theorem c_I_compare (l : Launch) (x y : Int32) : xa_Mi l y_I_compare b_I_compare 2 (some .int) 0 [] [.int x, .int y] [] (fun _ : Unit => []) (fun v _ => v = xcv x y) := by
  refine xa_Mi.of [some (.int x), some (.int y)] (by decide +kernel) rfl rfl rfl ?_
  intro Γ G K rt
  refine xa_iload_n G (i := 0) d_I_compare_0 rfl rfl ?_
  refine xa_iload_n G (i := 1) d_I_compare_1 rfl rfl ?_
  refine xa_icmp_ge G (tgt := 9) d_I_compare_2 (by decide) (fun h1 => ?_) (fun h1 => ?_)
  · have h1' : ¬ x < y := Int32.not_lt.mpr h1
    refine xa_iload_n G (i := 0) d_I_compare_9 rfl rfl ?_
    refine xa_iload_n G (i := 1) d_I_compare_10 rfl rfl ?_
    refine xa_icmp_ne G (tgt := 18) d_I_compare_11 (by decide) (fun h2 => ?_) (fun h2 => ?_)
    · refine xa_iconst G (v := (1 : Int32)) d_I_compare_18 (by decide +kernel) ?_
      exact rt _ _ _ () d_I_compare_19 rfl (by unfold xcv; rw [if_neg h1', if_neg h2])
    · refine xa_iconst G (v := (0 : Int32)) d_I_compare_14 (by decide +kernel) ?_
      refine xa_goto G (tgt := 19) d_I_compare_15 (by decide) ?_
      exact rt _ _ _ () d_I_compare_19 rfl (by unfold xcv; rw [if_neg h1', if_pos h2])
  · refine xa_iconst G (v := (-1 : Int32)) d_I_compare_5 (by decide +kernel) ?_
    refine xa_goto G (tgt := 19) d_I_compare_6 (by decide) ?_
    exact rt _ _ _ () d_I_compare_19 rfl (by unfold xcv; rw [if_pos (Int32.not_le.mp h1)])
set_option maxHeartbeats 1000000 in
theorem c_I_compareUnsigned (l : Launch) (x y : Int32) : xa_Mi l y_I_compareUnsigned b_I_compareUnsigned 2 (some .int) 1 [] [.int x, .int y] [] (fun _ : Unit => []) (fun v _ => v = xcv (x + (-2147483648)) (y + (-2147483648))) := by
  refine xa_Mi.of [some (.int x), some (.int y)] (by decide +kernel) rfl rfl rfl ?_
  intro Γ G K rt
  refine xa_iload_n G (i := 0) d_I_compareUnsigned_0 rfl rfl ?_
  refine xa_ldc G qi_I_127 d_I_compareUnsigned_1 ?_
  refine xa_iadd G d_I_compareUnsigned_3 ?_
  refine xa_iload_n G (i := 1) d_I_compareUnsigned_4 rfl rfl ?_
  refine xa_ldc G qi_I_127 d_I_compareUnsigned_5 ?_
  refine xa_iadd G d_I_compareUnsigned_7 ?_
  refine xa_calls G K k_I_259 (c_I_compare (xl Γ) _ _) (by omega) (by decide) rfl rfl (Nat.le_of_ble_eq_true rfl) d_I_compareUnsigned_8 (fun v hv => ?_)
  exact rt _ _ _ () d_I_compareUnsigned_11 rfl hv
theorem xr_min {Γ : xa_C} {cc : ByteArray} {r : Nat} {ws : va_W} {pc : Nat} {lv : List (Option Value)} {st : List Value} (G : xa_G Γ "RowPress" cc r) (hr : 1 ≤ r) {x y : Nat} (hx : x < 2 ^ 31) (hy : y < 2 ^ 31) (hcat : (st.map fun v => v.category).sum ≤ 8) (hdg : decode cc pc = .ok (.invokestatic 81, 3)) (k : xa_At Γ ws (pc + 3) lv (.int (nI (min x y)) :: st)) : xa_At Γ ws pc lv (.int (nI y) :: .int (nI x) :: st) := by
  intro H locs ls hP hD hS hL
  have hR := G.rm
  refine va_mmin G.ex G.by (by rw [G.ml, hL.1]) G.ow (G.ts _ ml_R_81) (G.ts _ st_X_min) (G.ts _ in_X) (G.ts _ cd_X_min) (by omega) (by omega) G.cs.1 G.cs.2 hdg ?_
  have e : (if nI y < nI x then nI y else nI x) = nI (min x y) := by
    by_cases h : y < x
    · rw [if_pos ((nI_ltI hy hx).mpr h), Nat.min_eq_right (by omega)]
    · rw [if_neg (fun q => h ((nI_ltI hy hx).mp q)), Nat.min_eq_left (by omega)]
  rw [e]
  exact k H locs ls hP hD hS hL
set_option maxHeartbeats 1000000 in
theorem c_S_compare (l : Launch) (q : Nat) (x y : Int32) : xa_Mi l y_S_compare b_S_compare 3 (some .int) 1 [] [.ref q, .int x, .int y] [] (fun _ : Unit => []) (fun v _ => xcm 0 x y v) := by
  refine xa_Mi.of [some (.ref q), some (.int x), some (.int y)] (by decide +kernel) rfl rfl rfl ?_
  intro Γ G K rt
  refine xa_iload_n G (i := 1) d_S_compare_0 rfl rfl ?_
  refine xa_iload_n G (i := 2) d_S_compare_1 rfl rfl ?_
  refine xa_calls G K k_S_7 (c_I_compare (xl Γ) _ _) (by omega) (by decide) rfl rfl (Nat.le_of_ble_eq_true rfl) d_S_compare_2 (fun v hv => ?_)
  refine rt _ _ _ () d_S_compare_5 rfl ?_
  rw [hv]
  exact ⟨(xcv_lt x y).trans Int32.lt_iff_toInt_lt, (xcv_eq x y).trans Int32.toInt_inj.symm⟩
set_option maxHeartbeats 1000000 in
theorem c_U_compare (l : Launch) (q : Nat) (x y : Int32) : xa_Mi l y_U_compare b_U_compare 3 (some .int) 2 [] [.ref q, .int x, .int y] [] (fun _ : Unit => []) (fun v _ => xcm 1 x y v) := by
  refine xa_Mi.of [some (.ref q), some (.int x), some (.int y)] (by decide +kernel) rfl rfl rfl ?_
  intro Γ G K rt
  refine xa_iload_n G (i := 1) d_U_compare_0 rfl rfl ?_
  refine xa_iload_n G (i := 2) d_U_compare_1 rfl rfl ?_
  refine xa_calls G K k_U_7 (c_I_compareUnsigned (xl Γ) _ _) (by omega) (by decide) rfl rfl (Nat.le_of_ble_eq_true rfl) d_U_compare_2 (fun v hv => ?_)
  refine rt _ _ _ () d_U_compare_5 rfl ?_
  rw [hv]
  refine ⟨(xcv_lt _ _).trans ?_, (xcv_eq _ _).trans ?_⟩
  · rw [Int32.lt_iff_toInt_lt, xk_uns, xk_uns]
    show _ ↔ (x.toBitVec.toNat : Int) < (y.toBitVec.toNat : Int)
    omega
  · rw [← Int32.toInt_inj, xk_uns, xk_uns]
    show _ ↔ (x.toBitVec.toNat : Int) = (y.toBitVec.toNat : Int)
    omega
set_option maxHeartbeats 1000000 in
theorem c_F_compare (l : Launch) (q : Nat) (x y : Int32) : xa_Mi l y_F_compare b_F_compare 3 (some .int) 1 [] [.ref q, .int x, .int y] [] (fun _ : Unit => []) (fun v _ => xcm 2 x y v) := by
  refine xa_Mi.of [some (.ref q), some (.int x), some (.int y)] (by decide +kernel) rfl rfl rfl ?_
  intro Γ G K rt
  refine xa_iload_n G (i := 2) d_F_compare_0 rfl rfl ?_
  refine xa_iload_n G (i := 1) d_F_compare_1 rfl rfl ?_
  refine xa_calls G K k_F_7 (c_I_compare (xl Γ) _ _) (by omega) (by decide) rfl rfl (Nat.le_of_ble_eq_true rfl) d_F_compare_2 (fun v hv => ?_)
  refine rt _ _ _ () d_F_compare_5 rfl ?_
  rw [hv]
  refine ⟨(xcv_lt _ _).trans ?_, (xcv_eq _ _).trans ?_⟩
  · rw [Int32.lt_iff_toInt_lt]
    show _ ↔ - x.toInt < - y.toInt
    omega
  · rw [← Int32.toInt_inj]
    show _ ↔ - x.toInt = - y.toInt
    omega
set_option maxHeartbeats 1000000 in
theorem c_L_compare (l : Launch) (q : Nat) (x y : Int32) : xa_Mi l y_L_compare b_L_compare 3 (some .int) 1 [] [.ref q, .int x, .int y] [] (fun _ : Unit => []) (fun v _ => xcm 3 x y v) := by
  refine xa_Mi.of [some (.ref q), some (.int x), some (.int y)] (by decide +kernel) rfl rfl rfl ?_
  intro Γ G K rt
  refine xa_iload_n G (i := 1) d_L_compare_0 rfl rfl ?_
  refine xa_sipush G (v := (255 : Int32)) d_L_compare_1 (by decide +kernel) ?_
  refine xa_iand G d_L_compare_4 ?_
  refine xa_iload_n G (i := 2) d_L_compare_5 rfl rfl ?_
  refine xa_sipush G (v := (255 : Int32)) d_L_compare_6 (by decide +kernel) ?_
  refine xa_iand G d_L_compare_9 ?_
  refine xa_calls G K k_L_7 (c_I_compare (xl Γ) _ _) (by omega) (by decide) rfl rfl (Nat.le_of_ble_eq_true rfl) d_L_compare_10 (fun v hv => ?_)
  refine rt _ _ _ () d_L_compare_13 rfl ?_
  rw [hv]
  obtain ⟨x1, x2⟩ := xk_and x
  obtain ⟨y1, y2⟩ := xk_and y
  refine ⟨(xcv_lt _ _).trans ?_, (xcv_eq _ _).trans ?_⟩
  · show _ ↔ ((x &&& 255).toBitVec.toNat : Int) < ((y &&& 255).toBitVec.toNat : Int)
    rw [x1, y1, nI_ltI (by omega) (by omega), pk_tn (by omega), pk_tn (by omega)]
    omega
  · show _ ↔ ((x &&& 255).toBitVec.toNat : Int) = ((y &&& 255).toBitVec.toNat : Int)
    rw [x1, y1, nI_eq (by omega) (by omega), pk_tn (by omega), pk_tn (by omega)]
    omega
section XCMP
variable {Γ : xa_C} {cc : ByteArray} {r0 : Nat} {a : Nat → Nat} {cI cO : ClassId} {n o c w ms : Nat} {f : Nat → xE} {pc : Nat} {lv : List (Option Value)} {st : List Value}
set_option maxHeartbeats 1000000 in
/-- order.compare of a RowPress -/
theorem xr_cmp {x y : Int32} {o1 : Nat} (G : xa_G Γ "RowPress" cc r0) (K : va_K (xD Γ) classes (yR cI cO) (xs Γ)) (ho : o1 < 4) (hr : 3 ≤ r0) (hcat : (st.map fun v => v.category).sum ≤ 8) (hdg : decode cc pc = .ok (.invokevirtual 66, 3))
    (kk : ∀ v : Int32, xcm o1 x y v → xa_At Γ (xw a cI cO n o c w ms f) (pc + 3) lv (.int v :: st)) : xa_At Γ (xw a cI cO n o c w ms f) pc lv (.int y :: .int x :: .ref (a (4 + o1)) :: st) := by
  match o1, ho, kk with
  | 0, _, kk => exact xa_callu (tys := yR cI cO) (As := [.int x, .int y]) (C := R_S) G K cd_S_compare in_S se_S_compare im_S_compare (c_S_compare (xl Γ) (a 4) x y) 4 (ci := 2) (qc := (R_S, F_0, 0)) rfl rfl rfl (by omega) (by decide) rfl rfl hcat hdg kk
  | 1, _, kk => exact xa_callu (tys := yR cI cO) (As := [.int x, .int y]) (C := R_U) G K cd_U_compare in_U se_U_compare im_U_compare (c_U_compare (xl Γ) (a 5) x y) 5 (ci := 3) (qc := (R_U, F_0, 0)) rfl rfl rfl (by omega) (by decide) rfl rfl hcat hdg kk
  | 2, _, kk => exact xa_callu (tys := yR cI cO) (As := [.int x, .int y]) (C := R_F) G K cd_F_compare in_F se_F_compare im_F_compare (c_F_compare (xl Γ) (a 6) x y) 6 (ci := 4) (qc := (R_F, F_0, 0)) rfl rfl rfl (by omega) (by decide) rfl rfl hcat hdg kk
  | 3, _, kk => exact xa_callu (tys := yR cI cO) (As := [.int x, .int y]) (C := R_L) G K cd_L_compare in_L se_L_compare im_L_compare (c_L_compare (xl Γ) (a 7) x y) 7 (ci := 5) (qc := (R_L, F_0, 0)) rfl rfl rfl (by omega) (by decide) rfl rfl hcat hdg kk
end XCMP
section XCB
variable {Γ : xa_C} {own : String} {cc : ByteArray} {r : Nat} {ws : va_W} {pc : Nat} {lv : List (Option Value)} {st : List Value} {o : Nat} {x y v : Int32}
theorem xa_cge (G : xa_G Γ own cc r) (hv : xcm o x y v) {off : Int} {tgt : Nat} (hdg : decode cc pc = .ok (.ifCond .ge off, 3)) (ht : (pc : Int) + off = (tgt : Int)) (kt : xK o y ≤ xK o x → xa_At Γ ws tgt lv st) (kf : xK o x < xK o y → xa_At Γ ws (pc + 3) lv st) : xa_At Γ ws pc lv (.int v :: st) :=
  xa_if_ge G hdg ht (fun h => kt (Int.not_lt.mp (fun q => Int32.not_lt.mpr h (hv.1.mpr q)))) (fun h => kf (hv.1.mp (Int32.not_le.mp h)))
theorem xa_clt (G : xa_G Γ own cc r) (hv : xcm o x y v) {off : Int} {tgt : Nat} (hdg : decode cc pc = .ok (.ifCond .lt off, 3)) (ht : (pc : Int) + off = (tgt : Int)) (kt : xK o x < xK o y → xa_At Γ ws tgt lv st) (kf : xK o y ≤ xK o x → xa_At Γ ws (pc + 3) lv st) : xa_At Γ ws pc lv (.int v :: st) :=
  xa_if_lt G hdg ht (fun h => kt (hv.1.mp h)) (fun h => kf (Int.not_lt.mp (fun q => h (hv.1.mpr q))))
theorem xa_ceq (G : xa_G Γ own cc r) (hv : xcm o x y v) {off : Int} {tgt : Nat} (hdg : decode cc pc = .ok (.ifCond .eq off, 3)) (ht : (pc : Int) + off = (tgt : Int)) (kt : xK o x = xK o y → xa_At Γ ws tgt lv st) (kf : xK o x ≠ xK o y → xa_At Γ ws (pc + 3) lv st) : xa_At Γ ws pc lv (.int v :: st) :=
  xa_if_eq G hdg ht (fun h => kt (hv.2.mp h)) (fun h => kf (fun q => h (hv.2.mpr q)))
theorem xa_cne (G : xa_G Γ own cc r) (hv : xcm o x y v) {off : Int} {tgt : Nat} (hdg : decode cc pc = .ok (.ifCond .ne off, 3)) (ht : (pc : Int) + off = (tgt : Int)) (kt : xK o x ≠ xK o y → xa_At Γ ws tgt lv st) (kf : xK o x = xK o y → xa_At Γ ws (pc + 3) lv st) : xa_At Γ ws pc lv (.int v :: st) :=
  xa_if_ne G hdg ht (fun h => kt (fun q => h (hv.2.mpr q))) (fun h => kf (hv.2.mp h))
end XCB
/-- a boolean answer -/
def xb1 (P : Prop) (v : Int32) : Prop := (v = 1 ∧ P) ∨ (v = 0 ∧ ¬ P)
set_option maxHeartbeats 1000000 in
theorem c_M_isOrder (l : Launch) (x : Int32) : xa_Mi l y_M_isOrder b_M_isOrder 1 (some .boolean) 0 [] [.int x] [] (fun _ : Unit => []) (fun v _ => xb1 (∃ o, o < 4 ∧ x = nI o) v) := by
  refine xa_Mi.of [some (.int x)] (by decide +kernel) rfl rfl rfl ?_
  intro Γ G K rt
  have key : ∀ o, o < 4 → ¬ nI o < 0 ∧ nI o ≤ nI 3 := fun o h => ⟨nI_pos (by omega), nI_le (by omega) (by decide)⟩
  refine xa_iload_n G (i := 0) d_M_isOrder_0 rfl rfl ?_
  refine xa_if_lt G (tgt := 13) d_M_isOrder_1 (by decide) (fun h1 => ?_) (fun h1 => ?_)
  · refine xa_iconst G (v := (0 : Int32)) d_M_isOrder_13 (by decide +kernel) ?_
    exact rt _ _ _ () d_M_isOrder_14 (by decide +kernel) (Or.inr ⟨rfl, fun ⟨o, h, e⟩ => (key o h).1 (e ▸ h1)⟩)
  · refine xa_iload_n G (i := 0) d_M_isOrder_4 rfl rfl ?_
    refine xa_iconst G (v := nI 3) d_M_isOrder_5 (by decide +kernel) ?_
    refine xa_icmp_gt G (tgt := 13) d_M_isOrder_6 (by decide) (fun h2 => ?_) (fun h2 => ?_)
    · refine xa_iconst G (v := (0 : Int32)) d_M_isOrder_13 (by decide +kernel) ?_
      exact rt _ _ _ () d_M_isOrder_14 (by decide +kernel) (Or.inr ⟨rfl, fun ⟨o, h, e⟩ => Int32.not_lt.mpr (key o h).2 (e ▸ h2)⟩)
    · refine xa_iconst G (v := (1 : Int32)) d_M_isOrder_9 (by decide +kernel) ?_
      refine xa_goto G (tgt := 14) d_M_isOrder_10 (by decide) ?_
      obtain ⟨j, hj, e⟩ := nI_of2 (M := nI 3) (n := 3) (by decide +kernel) h1 (Int32.not_lt.mp h2)
      exact rt _ _ _ () d_M_isOrder_14 (by decide +kernel) (Or.inl ⟨rfl, j, by omega, e⟩)
theorem xk_long (x : Int32) : x.toInt64 &&& 4294967295 = lN x.toBitVec.toNat := by
  have h0 : ∀ y : BitVec 32, (y.signExtend 64 &&& 4294967295#64) = BitVec.ofNat 64 y.toNat := by
    intro y
    apply BitVec.eq_of_toNat_eq
    simp only [BitVec.toNat_and, BitVec.toNat_ofNat]
    have h3 : 4294967295 % 2 ^ 64 = 2 ^ 32 - 1 := by decide
    rw [h3, Nat.and_two_pow_sub_one_eq_mod]
    have h4 := y.isLt
    rw [Nat.mod_eq_of_lt (a := y.toNat) (by omega), BitVec.toNat_signExtend]
    rw [BitVec.toNat_setWidth]
    split <;> omega
  apply Int64.toBitVec_inj.mp
  exact h0 x.toBitVec
set_option maxHeartbeats 1000000 in
theorem c_M_isLess (l : Launch) (x y : Int32) (o : Nat) (ho : o < 4) : xa_Mi l y_M_isLess b_M_isLess 3 (some .boolean) 0 [] [.int x, .int y, .int (nI o)] [] (fun _ : Unit => []) (fun v _ => xb1 (xK o x < xK o y) v) := by
  refine xa_Mi.of [some (.int x), some (.int y), some (.int (nI o))] (by decide +kernel) rfl rfl rfl ?_
  intro Γ G K rt
  refine xa_iload_n G (i := 2) d_M_isLess_0 rfl rfl ?_
  match o, ho with
  | 0, _ =>
    refine xa_swIn G (tgt := 28) d_M_isLess_1 (by decide +kernel) (by decide +kernel) (off := 27) (by decide +kernel) (by decide) ?_
    refine xa_iload_n G (i := 0) d_M_isLess_28 rfl rfl ?_
    refine xa_iload_n G (i := 1) d_M_isLess_29 rfl rfl ?_
    refine xa_icmp_ge G (tgt := 37) d_M_isLess_30 (by decide) (fun h => ?_) (fun h => ?_)
    · refine xa_iconst G (v := (0 : Int32)) d_M_isLess_37 (by decide +kernel) ?_
      exact rt _ _ _ () d_M_isLess_38 (by decide +kernel) (Or.inr ⟨rfl, fun q => Int32.not_lt.mpr h (Int32.lt_iff_toInt_lt.mpr q)⟩)
    · refine xa_iconst G (v := (1 : Int32)) d_M_isLess_33 (by decide +kernel) ?_
      refine xa_goto G (tgt := 38) d_M_isLess_34 (by decide) ?_
      exact rt _ _ _ () d_M_isLess_38 (by decide +kernel) (Or.inl ⟨rfl, Int32.lt_iff_toInt_lt.mp (Int32.not_le.mp h)⟩)
  | 1, _ =>
    refine xa_swIn G (tgt := 39) d_M_isLess_1 (by decide +kernel) (by decide +kernel) (off := 38) (by decide +kernel) (by decide) ?_
    have hx := x.toBitVec.isLt
    have hy := y.toBitVec.isLt
    refine xa_iload_n G (i := 0) d_M_isLess_39 rfl rfl ?_
    refine xa_i2l G d_M_isLess_40 rfl ?_
    refine xa_ldc2 G ql_M_26 d_M_isLess_41 ?_
    refine xa_land G d_M_isLess_44 ?_
    refine xa_iload_n G (i := 1) d_M_isLess_45 rfl rfl ?_
    refine xa_i2l G d_M_isLess_46 rfl ?_
    refine xa_ldc2 G ql_M_26 d_M_isLess_47 ?_
    refine xa_land G d_M_isLess_50 ?_
    refine xa_lcmp G d_M_isLess_51 ?_
    rw [xk_long, xk_long]
    refine xa_if_ge G (tgt := 59) d_M_isLess_52 (by decide) (fun h => ?_) (fun h => ?_)
    · refine xa_iconst G (v := (0 : Int32)) d_M_isLess_59 (by decide +kernel) ?_
      rw [lg_cmp_ge, pk_lLE (by omega) (by omega)] at h
      exact rt _ _ _ () d_M_isLess_60 (by decide +kernel) (Or.inr ⟨rfl, fun q => by
        have q : (x.toBitVec.toNat : Int) < (y.toBitVec.toNat : Int) := q
        omega⟩)
    · refine xa_iconst G (v := (1 : Int32)) d_M_isLess_55 (by decide +kernel) ?_
      refine xa_goto G (tgt := 60) d_M_isLess_56 (by decide) ?_
      rw [lg_cmp_ge, pk_lLE (by omega) (by omega)] at h
      exact rt _ _ _ () d_M_isLess_60 (by decide +kernel) (Or.inl ⟨rfl, by
        show (x.toBitVec.toNat : Int) < (y.toBitVec.toNat : Int)
        omega⟩)
  | 2, _ =>
    refine xa_swIn G (tgt := 61) d_M_isLess_1 (by decide +kernel) (by decide +kernel) (off := 60) (by decide +kernel) (by decide) ?_
    refine xa_iload_n G (i := 1) d_M_isLess_61 rfl rfl ?_
    refine xa_iload_n G (i := 0) d_M_isLess_62 rfl rfl ?_
    refine xa_icmp_ge G (tgt := 70) d_M_isLess_63 (by decide) (fun h => ?_) (fun h => ?_)
    · refine xa_iconst G (v := (0 : Int32)) d_M_isLess_70 (by decide +kernel) ?_
      exact rt _ _ _ () d_M_isLess_71 (by decide +kernel) (Or.inr ⟨rfl, fun q => by
        have q : - x.toInt < - y.toInt := q
        rw [Int32.le_iff_toInt_le] at h
        omega⟩)
    · refine xa_iconst G (v := (1 : Int32)) d_M_isLess_66 (by decide +kernel) ?_
      refine xa_goto G (tgt := 71) d_M_isLess_67 (by decide) ?_
      exact rt _ _ _ () d_M_isLess_71 (by decide +kernel) (Or.inl ⟨rfl, by
        show - x.toInt < - y.toInt
        rw [Int32.le_iff_toInt_le] at h
        omega⟩)
  | 3, _ =>
    refine xa_swOut G (tgt := 72) d_M_isLess_1 (by decide +kernel) (by decide) ?_
    obtain ⟨x1, x2⟩ := xk_and x
    obtain ⟨y1, y2⟩ := xk_and y
    refine xa_iload_n G (i := 0) d_M_isLess_72 rfl rfl ?_
    refine xa_sipush G (v := (255 : Int32)) d_M_isLess_73 (by decide +kernel) ?_
    refine xa_iand G d_M_isLess_76 ?_
    refine xa_iload_n G (i := 1) d_M_isLess_77 rfl rfl ?_
    refine xa_sipush G (v := (255 : Int32)) d_M_isLess_78 (by decide +kernel) ?_
    refine xa_iand G d_M_isLess_81 ?_
    refine xa_icmp_ge G (tgt := 89) d_M_isLess_82 (by decide) (fun h => ?_) (fun h => ?_)
    · refine xa_iconst G (v := (0 : Int32)) d_M_isLess_89 (by decide +kernel) ?_
      rw [x1, y1, nI_leI (by omega) (by omega)] at h
      exact rt _ _ _ () d_M_isLess_90 (by decide +kernel) (Or.inr ⟨rfl, fun q => by
        have q : ((x &&& 255).toBitVec.toNat : Int) < ((y &&& 255).toBitVec.toNat : Int) := q
        omega⟩)
    · refine xa_iconst G (v := (1 : Int32)) d_M_isLess_85 (by decide +kernel) ?_
      refine xa_goto G (tgt := 90) d_M_isLess_86 (by decide) ?_
      rw [x1, y1, nI_leI (by omega) (by omega)] at h
      exact rt _ _ _ () d_M_isLess_90 (by decide +kernel) (Or.inl ⟨rfl, by
        show ((x &&& 255).toBitVec.toNat : Int) < ((y &&& 255).toBitVec.toNat : Int)
        omega⟩)
end
section
/-! RowPress, the base: isOrder, isStretch, put, run, clear, swap, reverse, bring, rotate, turn, compare -/
def xsw (f : Nat → xE) (i j : Nat) : Nat → xE := fun k => if k = i then f j else if k = j then f i else f k
def xrv (f : Nat → xE) (lo hi : Nat) : Nat → xE := fun k => if lo ≤ k ∧ k < hi then f (lo + hi - 1 - k) else f k
def xrt (f : Nat → xE) (lo mid hi : Nat) : Nat → xE := fun k => if lo ≤ k ∧ k < hi then (if k < lo + (hi - mid) then f (k - lo + mid) else f (k - (hi - mid))) else f k
def xpt (f : Nat → xE) (n : Nat) (x y : Int32) : Nat → xE := fun k => if k = n then (x, y) else f k
theorem xsw_eq (f : Nat → xE) (i j : Nat) : xuT (xuK (xuT (xuK f i (f j).1) i (xuK f i (f j).1 j).2) j (f i).1) j (f i).2 = xsw f i j := by
  funext k
  unfold xuT xuK xsw
  by_cases h1 : k = i
  · subst h1
    by_cases h2 : k = j
    · subst h2; simp
    · have h3 : ¬ j = k := fun q => h2 q.symm
      simp [h2, h3]
  · by_cases h2 : k = j
    · subst h2; simp [h1]
    · simp [h1, h2]
theorem xpt_eq (f : Nat → xE) (n : Nat) (x y : Int32) : xuT (xuK f n x) n y = xpt f n x y := by
  funext k
  unfold xuT xuK xpt
  by_cases h : k = n <;> simp [h]
/-- reversed at its two ends, t pairs -/
def xrp (f : Nat → xE) (lo hi t : Nat) : Nat → xE := fun k => if lo ≤ k ∧ k < hi ∧ (k < lo + t ∨ hi ≤ k + t) then f (lo + hi - 1 - k) else f k
theorem xrp_0 (f : Nat → xE) (lo hi : Nat) : xrp f lo hi 0 = f := by
  funext k
  unfold xrp
  rw [if_neg (by omega)]
theorem xrp_s (f : Nat → xE) (lo hi t : Nat) (h : lo + t + 1 + t < hi) : xsw (xrp f lo hi t) (lo + t) (hi - 1 - t) = xrp f lo hi (t + 1) := by
  funext k
  unfold xsw xrp
  by_cases h1 : k = lo + t
  · rw [if_pos h1, if_neg (by omega), if_pos (by omega)]
    congr 1; omega
  · rw [if_neg h1]
    by_cases h2 : k = hi - 1 - t
    · rw [if_pos h2, if_neg (by omega), if_pos (by omega)]
      congr 1; omega
    · rw [if_neg h2]
      by_cases h3 : lo ≤ k ∧ k < hi ∧ (k < lo + t ∨ hi ≤ k + t)
      · rw [if_pos h3, if_pos (by omega)]
      · rw [if_neg h3, if_neg (by omega)]
theorem xrp_e (f : Nat → xE) (lo hi t : Nat) (h : hi ≤ lo + t + 1 + t) (h2 : lo + t + t ≤ hi) : xrp f lo hi t = xrv f lo hi := by
  funext k
  unfold xrp xrv
  by_cases h1 : lo ≤ k ∧ k < hi
  · rw [if_pos h1]
    by_cases h3 : k < lo + t ∨ hi ≤ k + t
    · rw [if_pos ⟨h1.1, h1.2, h3⟩]
    · rw [if_neg (by omega)]
      congr 1; omega
  · rw [if_neg h1, if_neg (by omega)]
theorem xrt_eq (f : Nat → xE) (lo mid hi : Nat) (h1 : lo ≤ mid) (h2 : mid ≤ hi) : xrv (xrv (xrv f lo mid) mid hi) lo hi = xrt f lo mid hi := by
  funext k
  unfold xrv xrt
  by_cases h : lo ≤ k ∧ k < hi
  · rw [if_pos h, if_pos h]
    by_cases h3 : k < lo + (hi - mid)
    · rw [if_pos h3, if_pos (by omega), if_neg (by omega)]
      congr 1; omega
    · rw [if_neg h3, if_neg (by omega), if_pos (by omega)]
      congr 1; omega
  · rw [if_neg h, if_neg h]
    by_cases h3 : mid ≤ k ∧ k < hi
    · omega
    · rw [if_neg h3, if_neg (by omega)]
theorem xrt_id (f : Nat → xE) (lo mid hi : Nat) (h1 : lo ≤ mid) (h2 : mid ≤ hi) (h : mid ≤ lo ∨ hi ≤ mid) : f = xrt f lo mid hi := by
  funext k
  unfold xrt
  by_cases h3 : lo ≤ k ∧ k < hi
  · rw [if_pos h3]
    by_cases h4 : k < lo + (hi - mid)
    · rw [if_pos h4]; congr 1; omega
    · rw [if_neg h4]; congr 1; omega
  · rw [if_neg h3]
set_option maxHeartbeats 1000000 in
theorem c_R_isOrder (l : Launch) {n o c w ms : Nat} {f : Nat → xE} (x : Int32) : xr_Mi l y_R_isOrder b_R_isOrder 2 (some .boolean) 0 [.int x] n o c w ms f (fun v n' o' c' w' ms' f' => xb1 (∃ q, q < 4 ∧ x = nI q) v ∧ n = n' ∧ o = o' ∧ c = c' ∧ w = w' ∧ ms = ms' ∧ f = f') := by
  refine xr_Mi.of [some (.int x)] (by decide +kernel) rfl rfl rfl ?_
  intro Γ a cI cO G K rt
  have key : ∀ q, q < 4 → ¬ nI q < 0 ∧ ¬ nI 4 ≤ nI q := fun q h => ⟨nI_pos (by omega), nI_ge (by omega) (by decide)⟩
  refine xa_iload_n G (i := 1) d_R_isOrder_0 rfl rfl ?_
  refine xa_if_lt G (tgt := 17) d_R_isOrder_1 (by decide) (fun h1 => ?_) (fun h1 => ?_)
  · refine xa_iconst G (v := (0 : Int32)) d_R_isOrder_17 (by decide +kernel) ?_
    exact rt _ _ _ _ _ _ _ _ _ d_R_isOrder_18 (by decide +kernel) ⟨Or.inr ⟨rfl, fun ⟨q, h, e⟩ => (key q h).1 (e ▸ h1)⟩, rfl, rfl, rfl, rfl, rfl, rfl⟩
  · refine xa_iload_n G (i := 1) d_R_isOrder_4 rfl rfl ?_
    refine xa_aload_n G (i := 0) d_R_isOrder_5 rfl rfl ?_
    refine xr_gO G K d_R_isOrder_6 ?_
    refine xr_len G K d_R_isOrder_9 ?_
    refine xa_icmp_ge G (tgt := 17) d_R_isOrder_10 (by decide) (fun h2 => ?_) (fun h2 => ?_)
    · refine xa_iconst G (v := (0 : Int32)) d_R_isOrder_17 (by decide +kernel) ?_
      exact rt _ _ _ _ _ _ _ _ _ d_R_isOrder_18 (by decide +kernel) ⟨Or.inr ⟨rfl, fun ⟨q, h, e⟩ => (key q h).2 (e ▸ h2)⟩, rfl, rfl, rfl, rfl, rfl, rfl⟩
    · refine xa_iconst G (v := (1 : Int32)) d_R_isOrder_13 (by decide +kernel) ?_
      refine xa_goto G (tgt := 18) d_R_isOrder_14 (by decide) ?_
      obtain ⟨j, hj, e, -⟩ := pk_mu h1 h2 (by decide)
      exact rt _ _ _ _ _ _ _ _ _ d_R_isOrder_18 (by decide +kernel) ⟨Or.inl ⟨rfl, j, hj, e⟩, rfl, rfl, rfl, rfl, rfl, rfl⟩
set_option maxHeartbeats 1000000 in
theorem c_R_isStretch (l : Launch) {n o c w ms : Nat} {f : Nat → xE} (hn : n ≤ 500) (x y : Int32) : xr_Mi l y_R_isStretch b_R_isStretch 3 (some .boolean) 0 [.int x, .int y] n o c w ms f (fun v n' o' c' w' ms' f' => xb1 (∃ i j, i ≤ j ∧ j ≤ n ∧ x = nI i ∧ y = nI j) v ∧ n = n' ∧ o = o' ∧ c = c' ∧ w = w' ∧ ms = ms' ∧ f = f') := by
  refine xr_Mi.of [some (.int x), some (.int y)] (by decide +kernel) rfl rfl rfl ?_
  intro Γ a cI cO G K rt
  refine xa_iload_n G (i := 1) d_R_isStretch_0 rfl rfl ?_
  refine xa_if_lt G (tgt := 21) d_R_isStretch_1 (by decide) (fun h1 => ?_) (fun h1 => ?_)
  · refine xa_iconst G (v := (0 : Int32)) d_R_isStretch_21 (by decide +kernel) ?_
    exact rt _ _ _ _ _ _ _ _ _ d_R_isStretch_22 (by decide +kernel) ⟨Or.inr ⟨rfl, fun ⟨i, j, h, h', e, e'⟩ => nI_pos (n := i) (by omega) (e ▸ h1)⟩, rfl, rfl, rfl, rfl, rfl, rfl⟩
  · refine xa_iload_n G (i := 1) d_R_isStretch_4 rfl rfl ?_
    refine xa_iload_n G (i := 2) d_R_isStretch_5 rfl rfl ?_
    refine xa_icmp_gt G (tgt := 21) d_R_isStretch_6 (by decide) (fun h2 => ?_) (fun h2 => ?_)
    · refine xa_iconst G (v := (0 : Int32)) d_R_isStretch_21 (by decide +kernel) ?_
      exact rt _ _ _ _ _ _ _ _ _ d_R_isStretch_22 (by decide +kernel) ⟨Or.inr ⟨rfl, fun ⟨i, j, h, h', e, e'⟩ => by
        rw [e, e', nI_ltI (by omega) (by omega)] at h2
        omega⟩, rfl, rfl, rfl, rfl, rfl, rfl⟩
    · refine xa_iload_n G (i := 2) d_R_isStretch_9 rfl rfl ?_
      refine xa_aload_n G (i := 0) d_R_isStretch_10 rfl rfl ?_
      refine xr_gn G K d_R_isStretch_11 ?_
      refine xa_icmp_gt G (tgt := 21) d_R_isStretch_14 (by decide) (fun h3 => ?_) (fun h3 => ?_)
      · refine xa_iconst G (v := (0 : Int32)) d_R_isStretch_21 (by decide +kernel) ?_
        exact rt _ _ _ _ _ _ _ _ _ d_R_isStretch_22 (by decide +kernel) ⟨Or.inr ⟨rfl, fun ⟨i, j, h, h', e, e'⟩ => by
          rw [e', nI_ltI (by omega) (by omega)] at h3
          omega⟩, rfl, rfl, rfl, rfl, rfl, rfl⟩
      · refine xa_iconst G (v := (1 : Int32)) d_R_isStretch_17 (by decide +kernel) ?_
        refine xa_goto G (tgt := 22) d_R_isStretch_18 (by decide) ?_
        obtain ⟨i, hi, e⟩ := nI_of h1
        have h2' : x ≤ y := Int32.not_lt.mp h2
        have hy0 : ¬ y < 0 := fun q => h1 (Int32.lt_of_le_of_lt h2' q)
        obtain ⟨j, hj, e'⟩ := nI_of hy0
        subst e e'
        rw [nI_ltI (by omega) (by omega)] at h2 h3
        exact rt _ _ _ _ _ _ _ _ _ d_R_isStretch_22 (by decide +kernel) ⟨Or.inl ⟨rfl, i, j, by omega, by omega, rfl, rfl⟩, rfl, rfl, rfl, rfl, rfl, rfl⟩
set_option maxHeartbeats 1000000 in
theorem c_R_put (l : Launch) {n o c w ms : Nat} {f : Nat → xE} (hn : n ≤ 500) (x y : Int32) : xr_Mi l y_R_put b_R_put 3 (some .int) 0 [.int x, .int y] n o c w ms f (fun v n' o' c' w' ms' f' => ((n = 500 ∧ v = -1 ∧ n = n' ∧ f = f') ∨ (n < 500 ∧ v = nI (n + 1) ∧ n + 1 = n' ∧ xpt f n x y = f')) ∧ o = o' ∧ c = c' ∧ w = w' ∧ ms = ms') := by
  refine xr_Mi.of [some (.int x), some (.int y)] (by decide +kernel) rfl rfl rfl ?_
  intro Γ a cI cO G K rt
  refine xa_aload_n G (i := 0) d_R_put_0 rfl rfl ?_
  refine xr_gn G K d_R_put_1 ?_
  refine xa_sipush G (v := nI 500) d_R_put_4 (by decide +kernel) ?_
  refine xa_neN G (tgt := 12) d_R_put_7 (by decide) (by omega) (by omega) (fun h1 => ?_) (fun h1 => ?_)
  · refine xa_aload_n G (i := 0) d_R_put_12 rfl rfl ?_
    refine xr_gK G K d_R_put_13 ?_
    refine xa_aload_n G (i := 0) d_R_put_16 rfl rfl ?_
    refine xr_gn G K d_R_put_17 ?_
    refine xa_iload_n G (i := 1) d_R_put_20 rfl rfl ?_
    first | refine xr_stK G K d_R_put_21 ?_ ?_ | refine xr_stT G K d_R_put_21 ?_ ?_
    · omega
    refine xa_aload_n G (i := 0) d_R_put_22 rfl rfl ?_
    refine xr_gT G K d_R_put_23 ?_
    refine xa_aload_n G (i := 0) d_R_put_26 rfl rfl ?_
    refine xr_gn G K d_R_put_27 ?_
    refine xa_iload_n G (i := 2) d_R_put_30 rfl rfl ?_
    first | refine xr_stK G K d_R_put_31 ?_ ?_ | refine xr_stT G K d_R_put_31 ?_ ?_
    · omega
    refine xa_aload_n G (i := 0) d_R_put_32 rfl rfl ?_
    refine xa_dup G d_R_put_33 rfl ?_
    refine xr_gn G K d_R_put_34 ?_
    refine xa_iconst G (v := nI 1) d_R_put_37 (by decide +kernel) ?_
    refine xa_addN G d_R_put_38 ?_
    refine xr_pn G K d_R_put_39 ?_
    refine xa_aload_n G (i := 0) d_R_put_42 rfl rfl ?_
    refine xr_gn G K d_R_put_43 ?_
    exact rt _ _ _ _ _ _ _ _ _ d_R_put_46 rfl ⟨Or.inr ⟨by omega, rfl, rfl, (xpt_eq _ _ _ _).symm⟩, rfl, rfl, rfl, rfl⟩
  · refine xa_iconst G (v := (-1 : Int32)) d_R_put_10 (by decide +kernel) ?_
    exact rt _ _ _ _ _ _ _ _ _ d_R_put_11 rfl ⟨Or.inl ⟨h1, rfl, rfl, rfl⟩, rfl, rfl, rfl, rfl⟩
/-- run: k more pairs from place m on -/
def xrn (f : Nat → xE) (m k : Nat) (key step tag : Int32) : Nat → xE := fun j => if m ≤ j ∧ j < m + k then (key + nI (j - m) * step, tag + nI (j - m)) else f j
theorem xrn_0 (f : Nat → xE) (m : Nat) (key step tag : Int32) : xrn f m 0 key step tag = f := by
  funext j; unfold xrn; rw [if_neg (by omega)]
theorem xrn_s (f : Nat → xE) (m k : Nat) (key step tag : Int32) : xuT (xuK (xrn f m k key step tag) (m + k) (key + nI k * step)) (m + k) (tag + nI k) = xrn f m (k + 1) key step tag := by
  rw [xpt_eq]
  funext j
  unfold xpt xrn
  by_cases h : j = m + k
  · rw [if_pos h, if_pos (by omega), show j - m = k by omega]
  · rw [if_neg h]
    by_cases h2 : m ≤ j ∧ j < m + k
    · rw [if_pos h2, if_pos (by omega)]
    · rw [if_neg h2, if_neg (by omega)]
set_option maxHeartbeats 1000000 in
theorem c_R_run (l : Launch) {n o c w ms : Nat} {f : Nat → xE} (hn : n ≤ 500) (x key step tag : Int32) : xr_Mi l y_R_run b_R_run 6 (some .int) 0 [.int x, .int key, .int step, .int tag] n o c w ms f (fun v n' o' c' w' ms' f' => (((¬ ∃ k, 1 ≤ k ∧ n + k ≤ 500 ∧ x = nI k) ∧ v = -1 ∧ n = n' ∧ f = f') ∨ (∃ k, 1 ≤ k ∧ n + k ≤ 500 ∧ x = nI k ∧ v = nI (n + k) ∧ n + k = n' ∧ xrn f n k key step tag = f')) ∧ o = o' ∧ c = c' ∧ w = w' ∧ ms = ms') := by
  refine xr_Mi.of [some (.int x), some (.int key), some (.int step), some (.int tag), none] (by decide +kernel) rfl rfl rfl ?_
  intro Γ a cI cO G K rt
  have G : xa_G Γ "RowPress" b_R_run 0 := G
  refine xa_iload_n G (i := 1) d_R_run_0 rfl rfl ?_
  refine xa_iconst G (v := nI 1) d_R_run_1 (by decide +kernel) ?_
  refine xa_icmp_lt G (tgt := 17) d_R_run_2 (by decide) (fun h1 => ?_) (fun h1 => ?_)
  · refine xa_iconst G (v := (-1 : Int32)) d_R_run_17 (by decide +kernel) ?_
    refine rt _ _ _ _ _ _ _ _ _ d_R_run_18 rfl ⟨Or.inl ⟨?_, rfl, rfl, rfl⟩, rfl, rfl, rfl, rfl⟩
    rintro ⟨k, h, h', e⟩
    rw [e, nI_ltI (by omega) (by omega)] at h1
    omega
  · refine xa_iload_n G (i := 1) d_R_run_5 rfl rfl ?_
    refine xa_sipush G (v := nI 500) d_R_run_6 (by decide +kernel) ?_
    refine xa_aload_n G (i := 0) d_R_run_9 rfl rfl ?_
    refine xr_gn G K d_R_run_10 ?_
    refine xa_subN G d_R_run_13 (by omega) ?_
    refine xa_icmp_le G (tgt := 19) d_R_run_14 (by decide) (fun h2 => ?_) (fun h2 => ?_)
    · obtain ⟨k, hk, e⟩ := nI_of (x := x) (fun q => h1 (Int32.lt_trans q (by decide +kernel)))
      subst e
      rw [nI_ltI (by omega) (by omega)] at h1
      rw [nI_leI (by omega) (by omega)] at h2
      refine xa_iconst G (v := nI 0) d_R_run_19 (by decide +kernel) ?_
      refine xa_istore G d_R_run_20 rfl ?_
      have loop : ∀ (t i : Nat), i ≤ k → k - i = t → xa_At Γ (xw a cI cO (n + i) o c w ms (xrn f n i key step tag)) 22 [some (.ref (a 0)), some (.int (nI k)), some (.int key), some (.int step), some (.int tag), some (.int (nI i))] [] := by
        intro t
        induction t with
        | zero =>
          intro i hi ht
          refine xa_iload G d_R_run_22 rfl ?_
          refine xa_iload_n G (i := 1) d_R_run_24 rfl rfl ?_
          refine xa_geN G (tgt := 73) d_R_run_25 (by decide) (by omega) (by omega) (fun h3 => ?_) (fun h3 => ?_)
          · refine xa_aload_n G (i := 0) d_R_run_73 rfl rfl ?_
            refine xr_gn G K d_R_run_74 ?_
            exact rt _ _ _ _ _ _ _ _ _ d_R_run_77 rfl ⟨Or.inr ⟨k, by omega, by omega, rfl, by rw [show i = k by omega], by omega, by rw [show i = k by omega]⟩, rfl, rfl, rfl, rfl⟩
          · omega
        | succ t ih =>
          intro i hi ht
          refine xa_iload G d_R_run_22 rfl ?_
          refine xa_iload_n G (i := 1) d_R_run_24 rfl rfl ?_
          refine xa_geN G (tgt := 73) d_R_run_25 (by decide) (by omega) (by omega) (fun h3 => ?_) (fun h3 => ?_)
          · omega
          · refine xa_aload_n G (i := 0) d_R_run_28 rfl rfl ?_
            refine xr_gK G K d_R_run_29 ?_
            refine xa_aload_n G (i := 0) d_R_run_32 rfl rfl ?_
            refine xr_gn G K d_R_run_33 ?_
            refine xa_iload_n G (i := 2) d_R_run_36 rfl rfl ?_
            refine xa_iload G d_R_run_37 rfl ?_
            refine xa_iload_n G (i := 3) d_R_run_39 rfl rfl ?_
            refine xa_imul G d_R_run_40 ?_
            refine xa_iadd G d_R_run_41 ?_
            first | refine xr_stK G K d_R_run_42 ?_ ?_ | refine xr_stT G K d_R_run_42 ?_ ?_
            · omega
            refine xa_aload_n G (i := 0) d_R_run_43 rfl rfl ?_
            refine xr_gT G K d_R_run_44 ?_
            refine xa_aload_n G (i := 0) d_R_run_47 rfl rfl ?_
            refine xr_gn G K d_R_run_48 ?_
            refine xa_iload G d_R_run_51 rfl ?_
            refine xa_iload G d_R_run_53 rfl ?_
            refine xa_iadd G d_R_run_55 ?_
            first | refine xr_stK G K d_R_run_56 ?_ ?_ | refine xr_stT G K d_R_run_56 ?_ ?_
            · omega
            refine xa_aload_n G (i := 0) d_R_run_57 rfl rfl ?_
            refine xa_dup G d_R_run_58 rfl ?_
            refine xr_gn G K d_R_run_59 ?_
            refine xa_iconst G (v := nI 1) d_R_run_62 (by decide +kernel) ?_
            refine xa_addN G d_R_run_63 ?_
            refine xr_pn G K d_R_run_64 ?_
            rw [xrn_s]
            refine xa_inc1 G d_R_run_67 rfl rfl ?_
            refine xa_goto G (tgt := 22) d_R_run_70 (by decide) ?_
            exact ih (i + 1) (by omega) (by omega)
      exact xa_wf (by rw [xrn_0]; rfl) (loop k 0 (by omega) (by omega))
    · refine xa_iconst G (v := (-1 : Int32)) d_R_run_17 (by decide +kernel) ?_
      refine rt _ _ _ _ _ _ _ _ _ d_R_run_18 rfl ⟨Or.inl ⟨?_, rfl, rfl, rfl⟩, rfl, rfl, rfl, rfl⟩
      rintro ⟨k, h, h', e⟩
      rw [e, nI_leI (by omega) (by omega)] at h2
      omega
set_option maxHeartbeats 1000000 in
theorem c_R_clear (l : Launch) {n o c w ms : Nat} {f : Nat → xE} : xr_Mi l y_R_clear b_R_clear 2 (some .int) 0 [] n o c w ms f (fun v n' o' c' w' ms' f' => v = nI n ∧ 0 = n' ∧ o = o' ∧ c = c' ∧ w = w' ∧ ms = ms' ∧ f = f') := by
  refine xr_Mi.of [none] (by decide +kernel) rfl rfl rfl ?_
  intro Γ a cI cO G K rt
  refine xa_aload_n G (i := 0) d_R_clear_0 rfl rfl ?_
  refine xr_gn G K d_R_clear_1 ?_
  refine xa_istore_n G (i := 1) d_R_clear_4 rfl rfl ?_
  refine xa_aload_n G (i := 0) d_R_clear_5 rfl rfl ?_
  refine xa_iconst G (v := nI 0) d_R_clear_6 (by decide +kernel) ?_
  refine xr_pn G K d_R_clear_7 ?_
  refine xa_iload_n G (i := 1) d_R_clear_10 rfl rfl ?_
  exact rt _ _ _ _ _ _ _ _ _ d_R_clear_11 rfl ⟨rfl, rfl, rfl, rfl, rfl, rfl, rfl⟩
set_option maxHeartbeats 1000000 in
theorem c_R_swap (l : Launch) {n o c w ms : Nat} {f : Nat → xE} {i j : Nat} (hi : i < 500) (hj : j < 500) : xr_Mv l y_R_swap b_R_swap 5 0 [.int (nI i), .int (nI j)] n o c w ms f (fun n' o' c' w' ms' f' => n = n' ∧ o = o' ∧ c = c' ∧ w + 2 = w' ∧ ms = ms' ∧ xsw f i j = f') := by
  refine xr_Mv.of [some (.int (nI i)), some (.int (nI j)), none, none] (by decide +kernel) rfl rfl rfl ?_
  intro Γ a cI cO G K rt
  refine xa_aload_n G (i := 0) d_R_swap_0 rfl rfl ?_
  refine xr_gK G K d_R_swap_1 ?_
  refine xa_iload_n G (i := 1) d_R_swap_4 rfl rfl ?_
  first | refine xr_ldK G K d_R_swap_5 ?_ ?_ | refine xr_ldT G K d_R_swap_5 ?_ ?_
  · omega
  refine xa_istore_n G (i := 3) d_R_swap_6 rfl rfl ?_
  refine xa_aload_n G (i := 0) d_R_swap_7 rfl rfl ?_
  refine xr_gT G K d_R_swap_8 ?_
  refine xa_iload_n G (i := 1) d_R_swap_11 rfl rfl ?_
  first | refine xr_ldK G K d_R_swap_12 ?_ ?_ | refine xr_ldT G K d_R_swap_12 ?_ ?_
  · omega
  refine xa_istore G d_R_swap_13 rfl ?_
  refine xa_aload_n G (i := 0) d_R_swap_15 rfl rfl ?_
  refine xr_gK G K d_R_swap_16 ?_
  refine xa_iload_n G (i := 1) d_R_swap_19 rfl rfl ?_
  refine xa_aload_n G (i := 0) d_R_swap_20 rfl rfl ?_
  refine xr_gK G K d_R_swap_21 ?_
  refine xa_iload_n G (i := 2) d_R_swap_24 rfl rfl ?_
  first | refine xr_ldK G K d_R_swap_25 ?_ ?_ | refine xr_ldT G K d_R_swap_25 ?_ ?_
  · omega
  first | refine xr_stK G K d_R_swap_26 ?_ ?_ | refine xr_stT G K d_R_swap_26 ?_ ?_
  · omega
  refine xa_aload_n G (i := 0) d_R_swap_27 rfl rfl ?_
  refine xr_gT G K d_R_swap_28 ?_
  refine xa_iload_n G (i := 1) d_R_swap_31 rfl rfl ?_
  refine xa_aload_n G (i := 0) d_R_swap_32 rfl rfl ?_
  refine xr_gT G K d_R_swap_33 ?_
  refine xa_iload_n G (i := 2) d_R_swap_36 rfl rfl ?_
  first | refine xr_ldK G K d_R_swap_37 ?_ ?_ | refine xr_ldT G K d_R_swap_37 ?_ ?_
  · omega
  first | refine xr_stK G K d_R_swap_38 ?_ ?_ | refine xr_stT G K d_R_swap_38 ?_ ?_
  · omega
  refine xa_aload_n G (i := 0) d_R_swap_39 rfl rfl ?_
  refine xr_gK G K d_R_swap_40 ?_
  refine xa_iload_n G (i := 2) d_R_swap_43 rfl rfl ?_
  refine xa_iload_n G (i := 3) d_R_swap_44 rfl rfl ?_
  first | refine xr_stK G K d_R_swap_45 ?_ ?_ | refine xr_stT G K d_R_swap_45 ?_ ?_
  · omega
  refine xa_aload_n G (i := 0) d_R_swap_46 rfl rfl ?_
  refine xr_gT G K d_R_swap_47 ?_
  refine xa_iload_n G (i := 2) d_R_swap_50 rfl rfl ?_
  refine xa_iload G d_R_swap_51 rfl ?_
  first | refine xr_stK G K d_R_swap_53 ?_ ?_ | refine xr_stT G K d_R_swap_53 ?_ ?_
  · omega
  refine xa_aload_n G (i := 0) d_R_swap_54 rfl rfl ?_
  refine xa_dup G d_R_swap_55 rfl ?_
  refine xr_gw G K d_R_swap_56 ?_
  refine xa_ldc2 G (v := lN 2) ql_R_46 d_R_swap_59 ?_
  refine xa_laddN G d_R_swap_62 ?_
  refine xr_pw G K d_R_swap_63 ?_
  exact rt _ _ _ _ _ _ _ _ d_R_swap_66 ⟨rfl, rfl, rfl, rfl, rfl, (xsw_eq f i j).symm⟩
set_option maxHeartbeats 1000000 in
theorem c_R_reverse (l : Launch) {n o c w ms : Nat} {f : Nat → xE} {lo hi : Nat} (h1 : lo ≤ hi) (h2 : hi ≤ 500) : xr_Mv l y_R_reverse b_R_reverse 5 1 [.int (nI lo), .int (nI hi)] n o c w ms f (fun n' o' c' w' ms' f' => n = n' ∧ o = o' ∧ c = c' ∧ w + 2 * ((hi - lo) / 2) = w' ∧ ms = ms' ∧ xrv f lo hi = f') := by
  refine xr_Mv.of [some (.int (nI lo)), some (.int (nI hi)), none, none] (by decide +kernel) rfl rfl rfl ?_
  intro Γ a cI cO G K rt
  have G : xa_G Γ "RowPress" b_R_reverse 1 := G
  rcases Nat.eq_zero_or_pos hi with h0 | h0
  · subst h0
    obtain rfl : lo = 0 := by omega
    refine xa_iload_n G (i := 1) d_R_reverse_0 rfl rfl ?_
    refine xa_istore_n G (i := 3) d_R_reverse_1 rfl rfl ?_
    refine xa_iload_n G (i := 2) d_R_reverse_2 rfl rfl ?_
    refine xa_iconst G (v := nI 1) d_R_reverse_3 (by decide +kernel) ?_
    refine xa_isub G d_R_reverse_4 ?_
    refine xa_istore G d_R_reverse_5 rfl ?_
    refine xa_iload_n G (i := 3) d_R_reverse_7 rfl rfl ?_
    refine xa_iload G d_R_reverse_8 rfl ?_
    refine xa_icmp_ge G (tgt := 29) d_R_reverse_10 (by decide) (fun h3 => ?_) (fun h3 => ?_)
    · exact rt _ _ _ _ _ _ _ _ d_R_reverse_29 ⟨rfl, rfl, rfl, rfl, rfl, by funext k; unfold xrv; rw [if_neg (by omega)]⟩
    · exact absurd (by decide +kernel) h3
  · have loop : ∀ (m t : Nat), hi - lo - t - t = m → lo + t + t ≤ hi → xa_At Γ (xw a cI cO n o c (w + 2 * t) ms (xrp f lo hi t)) 7 [some (.ref (a 0)), some (.int (nI lo)), some (.int (nI hi)), some (.int (nI (lo + t))), some (.int (nI (hi - 1 - t)))] [] := by
      intro m
      induction m using Nat.strongRecOn with
      | _ m ih =>
        intro t hm ht
        refine xa_iload_n G (i := 3) d_R_reverse_7 rfl rfl ?_
        refine xa_iload G d_R_reverse_8 rfl ?_
        refine xa_geN G (tgt := 29) d_R_reverse_10 (by decide) (by omega) (by omega) (fun h3 => ?_) (fun h3 => ?_)
        · refine rt _ _ _ _ _ _ _ _ d_R_reverse_29 ⟨rfl, rfl, rfl, ?_, rfl, (xrp_e f lo hi t (by omega) (by omega)).symm⟩
          rw [show (hi - lo) / 2 = t by omega]
        · refine xa_aload_n G (i := 0) d_R_reverse_13 rfl rfl ?_
          refine xa_iload_n G (i := 3) d_R_reverse_14 rfl rfl ?_
          refine xa_inc1 G d_R_reverse_15 rfl rfl ?_
          refine xa_iload G d_R_reverse_18 rfl ?_
          refine xa_iinc G d_R_reverse_20 rfl rfl (xi_m1 (by omega)) ?_
          refine xr_callv G K k_R_48 (c_R_swap (xl Γ) (i := lo + t) (j := hi - 1 - t) (by omega) (by omega)) (by omega) (by decide) rfl rfl (Nat.le_of_ble_eq_true rfl) d_R_reverse_23 (fun n' o' c' w' ms' f' hu => ?_)
          obtain ⟨rfl, rfl, rfl, rfl, rfl, rfl⟩ := hu
          rw [xrp_s f lo hi t (by omega)]
          refine xa_goto G (tgt := 7) d_R_reverse_26 (by decide) ?_
          exact xa_eq (ih (hi - lo - (t + 1) - (t + 1)) (by omega) (t + 1) rfl (by omega)) rfl (by rw [show hi - 1 - (t + 1) = hi - 1 - t - 1 by omega]; rfl) rfl
    refine xa_iload_n G (i := 1) d_R_reverse_0 rfl rfl ?_
    refine xa_istore_n G (i := 3) d_R_reverse_1 rfl rfl ?_
    refine xa_iload_n G (i := 2) d_R_reverse_2 rfl rfl ?_
    refine xa_iconst G (v := nI 1) d_R_reverse_3 (by decide +kernel) ?_
    refine xa_subN G d_R_reverse_4 (by omega) ?_
    refine xa_istore G d_R_reverse_5 rfl ?_
    have h4 := loop (hi - lo - 0 - 0) 0 rfl (by omega)
    rw [xrp_0] at h4
    exact h4
set_option maxHeartbeats 1000000 in
theorem c_R_bring (l : Launch) {n o c w ms : Nat} {f : Nat → xE} {lo mid hi : Nat} (h1 : lo ≤ mid) (h2 : mid ≤ hi) (h3 : hi ≤ 500) : xr_Mv l y_R_bring b_R_bring 4 2 [.int (nI lo), .int (nI mid), .int (nI hi)] n o c w ms f (fun n' o' c' w' ms' f' => n = n' ∧ o = o' ∧ c = c' ∧ (w ≤ w' ∧ w' ≤ w + 2 * (hi - lo)) ∧ ms = ms' ∧ xrt f lo mid hi = f') := by
  refine xr_Mv.of [some (.int (nI lo)), some (.int (nI mid)), some (.int (nI hi))] (by decide +kernel) rfl rfl rfl ?_
  intro Γ a cI cO G K rt
  have G : xa_G Γ "RowPress" b_R_bring 2 := G
  refine xa_iload_n G (i := 1) d_R_bring_0 rfl rfl ?_
  refine xa_iload_n G (i := 2) d_R_bring_1 rfl rfl ?_
  refine xa_geN G (tgt := 28) d_R_bring_2 (by decide) (by omega) (by omega) (fun h4 => ?_) (fun h4 => ?_)
  · exact rt _ _ _ _ _ _ _ _ d_R_bring_28 ⟨rfl, rfl, rfl, ⟨by omega, by omega⟩, rfl, (xrt_id f lo mid hi h1 h2 (by omega)).symm⟩
  · refine xa_iload_n G (i := 2) d_R_bring_5 rfl rfl ?_
    refine xa_iload_n G (i := 3) d_R_bring_6 rfl rfl ?_
    refine xa_geN G (tgt := 28) d_R_bring_7 (by decide) (by omega) (by omega) (fun h5 => ?_) (fun h5 => ?_)
    · exact rt _ _ _ _ _ _ _ _ d_R_bring_28 ⟨rfl, rfl, rfl, ⟨by omega, by omega⟩, rfl, (xrt_id f lo mid hi h1 h2 (by omega)).symm⟩
    · refine xa_aload_n G (i := 0) d_R_bring_10 rfl rfl ?_
      refine xa_iload_n G (i := 1) d_R_bring_11 rfl rfl ?_
      refine xa_iload_n G (i := 2) d_R_bring_12 rfl rfl ?_
      refine xr_callv G K k_R_52 (c_R_reverse (xl Γ) (lo := lo) (hi := mid) (by omega) (by omega)) (by omega) (by decide) rfl rfl (Nat.le_of_ble_eq_true rfl) d_R_bring_13 (fun n' o' c' w' ms' f' hu => ?_)
      obtain ⟨rfl, rfl, rfl, rfl, rfl, rfl⟩ := hu
      refine xa_aload_n G (i := 0) d_R_bring_16 rfl rfl ?_
      refine xa_iload_n G (i := 2) d_R_bring_17 rfl rfl ?_
      refine xa_iload_n G (i := 3) d_R_bring_18 rfl rfl ?_
      refine xr_callv G K k_R_52 (c_R_reverse (xl Γ) (lo := mid) (hi := hi) (by omega) (by omega)) (by omega) (by decide) rfl rfl (Nat.le_of_ble_eq_true rfl) d_R_bring_19 (fun n' o' c' w' ms' f' hu => ?_)
      obtain ⟨rfl, rfl, rfl, rfl, rfl, rfl⟩ := hu
      refine xa_aload_n G (i := 0) d_R_bring_22 rfl rfl ?_
      refine xa_iload_n G (i := 1) d_R_bring_23 rfl rfl ?_
      refine xa_iload_n G (i := 3) d_R_bring_24 rfl rfl ?_
      refine xr_callv G K k_R_52 (c_R_reverse (xl Γ) (lo := lo) (hi := hi) (by omega) (by omega)) (by omega) (by decide) rfl rfl (Nat.le_of_ble_eq_true rfl) d_R_bring_25 (fun n' o' c' w' ms' f' hu => ?_)
      obtain ⟨rfl, rfl, rfl, rfl, rfl, rfl⟩ := hu
      exact rt _ _ _ _ _ _ _ _ d_R_bring_28 ⟨rfl, rfl, rfl, ⟨by omega, by omega⟩, rfl, (xrt_eq f lo mid hi h1 h2).symm⟩
end
section
/-! PURE: stable permutations within a stretch (xPm), sorted stretches (xSo), over a key κ of pairs -/
def xPm (κ : xE → Int) (lo hi : Nat) (f g : Nat → xE) : Prop := ∃ σ : Nat → Nat, (∀ i, lo ≤ i → i < hi → lo ≤ σ i ∧ σ i < hi ∧ g i = f (σ i)) ∧ (∀ i j, lo ≤ i → i < j → j < hi → κ (f (σ i)) = κ (f (σ j)) → σ i < σ j) ∧ ∀ i, ¬ (lo ≤ i ∧ i < hi) → g i = f i
def xSo (κ : xE → Int) (lo hi : Nat) (f : Nat → xE) : Prop := ∀ i j, lo ≤ i → i < j → j < hi → κ (f i) ≤ κ (f j)
theorem xPm.rf {κ : xE → Int} {lo hi : Nat} {f : Nat → xE} : xPm κ lo hi f f := ⟨fun i => i, fun i h1 h2 => ⟨h1, h2, rfl⟩, fun i j _ h _ _ => h, fun i _ => rfl⟩
theorem xPm.tr {κ : xE → Int} {lo hi : Nat} {f g h : Nat → xE} (a : xPm κ lo hi f g) (b : xPm κ lo hi g h) : xPm κ lo hi f h := by
  obtain ⟨σ, a1, a2, a3⟩ := a
  obtain ⟨τ, b1, b2, b3⟩ := b
  refine ⟨fun i => σ (τ i), fun i h1 h2 => ?_, fun i j h1 h2 h3 h4 => ?_, fun i hi => ?_⟩
  · obtain ⟨c1, c2, c3⟩ := b1 i h1 h2
    obtain ⟨d1, d2, d3⟩ := a1 (τ i) c1 c2
    exact ⟨d1, d2, by rw [c3, d3]⟩
  · obtain ⟨c1, c2, c3⟩ := b1 i h1 (by omega)
    obtain ⟨d1, d2, d3⟩ := a1 (τ i) c1 c2
    obtain ⟨c4, c5, c6⟩ := b1 j (by omega) h3
    obtain ⟨d4, d5, d6⟩ := a1 (τ j) c4 c5
    exact a2 (τ i) (τ j) c1 (b2 i j h1 h2 h3 (by rw [d3, d6]; exact h4)) c5 h4
  · rw [b3 i hi, a3 i hi]
theorem xPm.mono {κ : xE → Int} {lo hi lo' hi' : Nat} {f g : Nat → xE} (a : xPm κ lo hi f g) (h1 : lo' ≤ lo) (h2 : hi ≤ hi') : xPm κ lo' hi' f g := by
  obtain ⟨σ, a1, a2, a3⟩ := a
  refine ⟨fun i => if lo ≤ i ∧ i < hi then σ i else i, fun i g1 g2 => ?_, fun i j g1 g2 g3 g4 => ?_, fun i hi => a3 i (by omega)⟩
  · dsimp only
    by_cases h : lo ≤ i ∧ i < hi
    · rw [if_pos h]
      obtain ⟨c1, c2, c3⟩ := a1 i h.1 h.2
      exact ⟨by omega, by omega, c3⟩
    · rw [if_neg h]
      exact ⟨g1, g2, a3 i h⟩
  · dsimp only at g4 ⊢
    by_cases h : lo ≤ i ∧ i < hi
    · rw [if_pos h] at g4 ⊢
      obtain ⟨c1, c2, c3⟩ := a1 i h.1 h.2
      by_cases h' : lo ≤ j ∧ j < hi
      · rw [if_pos h'] at g4 ⊢
        exact a2 i j h.1 g2 h'.2 g4
      · rw [if_neg h']; omega
    · rw [if_neg h] at g4 ⊢
      by_cases h' : lo ≤ j ∧ j < hi
      · rw [if_pos h']
        obtain ⟨c1, c2, c3⟩ := a1 j h'.1 h'.2
        omega
      · rw [if_neg h']; exact g2
/-- what holds of all of a stretch holds of it behind a permutation -/
theorem xPm.all {κ : xE → Int} {lo hi : Nat} {f g : Nat → xE} (a : xPm κ lo hi f g) {P : xE → Prop} (h : ∀ i, lo ≤ i → i < hi → P (f i)) : ∀ i, lo ≤ i → i < hi → P (g i) := by
  obtain ⟨σ, a1, a2, a3⟩ := a
  intro i h1 h2
  obtain ⟨c1, c2, c3⟩ := a1 i h1 h2
  rw [c3]
  exact h _ c1 c2
theorem xPm.out {κ : xE → Int} {lo hi : Nat} {f g : Nat → xE} (a : xPm κ lo hi f g) {i : Nat} (h : ¬ (lo ≤ i ∧ i < hi)) : g i = f i := by
  obtain ⟨σ, a1, a2, a3⟩ := a
  exact a3 i h
/-- a rotation whose second part is less than its first -/
theorem xPm.rot {κ : xE → Int} {lo mid hi : Nat} {f : Nat → xE} (h1 : lo ≤ mid) (h2 : mid ≤ hi) (h : ∀ i j, lo ≤ i → i < mid → mid ≤ j → j < hi → κ (f j) < κ (f i)) : xPm κ lo hi f (xrt f lo mid hi) := by
  refine ⟨fun k => if k < lo + (hi - mid) then k - lo + mid else k - (hi - mid), fun i g1 g2 => ?_, fun i j g1 g2 g3 g4 => ?_, fun i g => ?_⟩
  · dsimp only
    unfold xrt
    have g : lo ≤ i ∧ i < hi := ⟨g1, g2⟩
    by_cases q : i < lo + (hi - mid)
    · rw [if_pos q, if_pos g, if_pos q]; exact ⟨by omega, by omega, rfl⟩
    · rw [if_neg q, if_pos g, if_neg q]; exact ⟨by omega, by omega, rfl⟩
  · dsimp only at g4 ⊢
    by_cases q : i < lo + (hi - mid)
    · rw [if_pos q] at g4 ⊢
      by_cases q' : j < lo + (hi - mid)
      · rw [if_pos q']; omega
      · rw [if_neg q'] at g4
        have := h (j - (hi - mid)) (i - lo + mid) (by omega) (by omega) (by omega) (by omega)
        omega
    · rw [if_neg q, if_neg (by omega)]; omega
  · unfold xrt
    rw [if_neg g]
theorem xSo.adj {κ : xE → Int} {lo hi : Nat} {f : Nat → xE} (h : ∀ k, lo < k → k < hi → κ (f (k - 1)) ≤ κ (f k)) : xSo κ lo hi f := by
  intro i j h1 h2 h3
  have key : ∀ t, i + t < hi → κ (f i) ≤ κ (f (i + t)) := by
    intro t
    induction t with
    | zero => intro _; exact Int.le_refl _
    | succ t ih =>
      intro h4
      have a := ih (by omega)
      have b := h (i + (t + 1)) (by omega) h4
      rw [show i + (t + 1) - 1 = i + t by omega] at b
      omega
  have := key (j - i) (by omega)
  rw [show i + (j - i) = j by omega] at this
  exact this
theorem xSo.sub {κ : xE → Int} {lo hi lo' hi' : Nat} {f : Nat → xE} (h : xSo κ lo hi f) (h1 : lo ≤ lo') (h2 : hi' ≤ hi) : xSo κ lo' hi' f := fun i j a b c => h i j (by omega) b (by omega)
theorem xSo.eqv {κ : xE → Int} {lo hi : Nat} {f g : Nat → xE} (h : xSo κ lo hi f) (e : ∀ i, lo ≤ i → i < hi → g i = f i) : xSo κ lo hi g := fun i j a b c => by
  rw [e i a (by omega), e j (by omega) c]
  exact h i j a b c
/-- two sorted stretches, the first not above the second -/
theorem xSo.app {κ : xE → Int} {lo mid hi : Nat} {f : Nat → xE} (h1 : xSo κ lo mid f) (h2 : xSo κ mid hi f) (h : ∀ i j, lo ≤ i → i < mid → mid ≤ j → j < hi → κ (f i) ≤ κ (f j)) : xSo κ lo hi f := by
  intro i j a b c
  by_cases p : j < mid
  · exact h1 i j a b p
  · by_cases q : i < mid
    · exact h i j a q (by omega) c
    · exact h2 i j (by omega) b c
theorem xSo.le {κ : xE → Int} {lo hi : Nat} {f : Nat → xE} (h : xSo κ lo hi f) {i j : Nat} (a : lo ≤ i) (b : i ≤ j) (c : j < hi) : κ (f i) ≤ κ (f j) := by
  rcases Nat.eq_or_lt_of_le b with q | q
  · subst q; exact Int.le_refl _
  · exact h i j a q c
/-- a strictly growing map of a stretch into itself is the identity -/
theorem xinc {lo hi : Nat} {h : Nat → Nat} (h1 : ∀ i, lo ≤ i → i < hi → lo ≤ h i ∧ h i < hi) (h2 : ∀ i j, lo ≤ i → i < j → j < hi → h i < h j) : ∀ i, lo ≤ i → i < hi → h i = i := by
  have up : ∀ t, lo + t < hi → lo + t ≤ h (lo + t) := by
    intro t
    induction t with
    | zero => intro a; exact (h1 lo (Nat.le_refl _) a).1
    | succ t ih =>
      intro a
      have := ih (by omega)
      have := h2 (lo + t) (lo + (t + 1)) (by omega) (by omega) a
      omega
  have dn : ∀ t, lo + t < hi → h (hi - 1 - t) ≤ hi - 1 - t := by
    intro t
    induction t with
    | zero => intro a; have := (h1 (hi - 1 - 0) (by omega) (by omega)).2; omega
    | succ t ih =>
      intro a
      have := ih (by omega)
      have := h2 (hi - 1 - (t + 1)) (hi - 1 - t) (by omega) (by omega) (by omega)
      omega
  intro i a b
  have c := up (i - lo) (by omega)
  rw [show lo + (i - lo) = i by omega] at c
  have d := dn (hi - 1 - i) (by omega)
  rw [show hi - 1 - (hi - 1 - i) = i by omega] at d
  omega
def xlx (κ : xE → Int) (f : Nat → xE) (p q : Nat) : Prop := κ (f p) < κ (f q) ∨ (κ (f p) = κ (f q) ∧ p < q)
/-- the sorted stable permutation is the one by places -/
theorem xuniq {κ : xE → Int} {lo hi : Nat} {f g g' : Nat → xE} (a : xPm κ lo hi f g) (s : xSo κ lo hi g) (π : Nat → Nat) (p1 : ∀ i, lo ≤ i → i < hi → lo ≤ π i ∧ π i < hi ∧ g' (π i) = f i) (p2 : ∀ i j, lo ≤ i → i < hi → lo ≤ j → j < hi → xlx κ f i j → π i < π j) (p3 : ∀ i, ¬ (lo ≤ i ∧ i < hi) → g' i = f i) : g = g' := by
  obtain ⟨σ, a1, a2, a3⟩ := a
  have id := xinc (lo := lo) (hi := hi) (h := fun i => π (σ i)) (fun i h1 h2 => by
    obtain ⟨c1, c2, c3⟩ := a1 i h1 h2
    obtain ⟨d1, d2, d3⟩ := p1 _ c1 c2
    exact ⟨d1, d2⟩) (fun i j h1 h2 h3 => by
    obtain ⟨c1, c2, c3⟩ := a1 i h1 (by omega)
    obtain ⟨c4, c5, c6⟩ := a1 j (by omega) h3
    refine p2 _ _ c1 c2 c4 c5 ?_
    have h5 := s i j h1 h2 h3
    rw [c3, c6] at h5
    by_cases e : κ (f (σ i)) = κ (f (σ j))
    · exact Or.inr ⟨e, a2 i j h1 h2 h3 e⟩
    · exact Or.inl (by omega))
  funext i
  by_cases h : lo ≤ i ∧ i < hi
  · obtain ⟨c1, c2, c3⟩ := a1 i h.1 h.2
    have e : π (σ i) = i := id i h.1 h.2
    have d := (p1 _ c1 c2).2.2
    rw [e] at d
    rw [c3, d]
  · rw [a3 i h, p3 i h]
/-- behind a rotation about p: the halves are stretches of two sorted parts; the first half isn't above the second -/
theorem xrt_at {f : Nat → xE} {lo mid hi i : Nat} : (lo ≤ i → i < lo + (hi - mid) → lo ≤ mid → mid ≤ hi → xrt f lo mid hi i = f (i - lo + mid)) ∧ (lo + (hi - mid) ≤ i → i < hi → lo ≤ mid → mid ≤ hi → xrt f lo mid hi i = f (i - (hi - mid))) ∧ (¬ (lo ≤ i ∧ i < hi) → xrt f lo mid hi i = f i) := by
  refine ⟨fun h1 h2 h3 h4 => ?_, fun h1 h2 h3 h4 => ?_, fun h => ?_⟩
  · unfold xrt; rw [if_pos (by omega), if_pos h2]
  · unfold xrt; rw [if_pos (by omega), if_neg (by omega)]
  · unfold xrt; rw [if_neg h]
theorem xmg {κ : xE → Int} {lo p mid e half hi : Nat} {f : Nat → xE} (h1 : lo ≤ p) (h2 : p ≤ mid) (h3 : mid ≤ e) (h4 : e ≤ hi) (h5 : p + (e - mid) = half) (sA : xSo κ lo mid f) (sB : xSo κ mid hi f) (c1 : ∀ i j, p ≤ i → i < mid → mid ≤ j → j < e → κ (f j) < κ (f i)) (c2 : ∀ i j, lo ≤ i → i < p → e ≤ j → j < hi → κ (f i) ≤ κ (f j)) :
    xPm κ lo hi f (xrt f p mid e) ∧ xSo κ lo p (xrt f p mid e) ∧ xSo κ p half (xrt f p mid e) ∧ xSo κ half e (xrt f p mid e) ∧ xSo κ e hi (xrt f p mid e) ∧ ∀ i j, lo ≤ i → i < half → half ≤ j → j < hi → κ (xrt f p mid e i) ≤ κ (xrt f p mid e j) := by
  have r1 : ∀ i, lo ≤ i → i < p → xrt f p mid e i = f i := fun i a b => xrt_at.2.2 (by omega)
  have r2 : ∀ i, p ≤ i → i < half → xrt f p mid e i = f (i - p + mid) := fun i a b => xrt_at.1 a (by omega) h2 h3
  have r3 : ∀ i, half ≤ i → i < e → xrt f p mid e i = f (i - (e - mid)) := fun i a b => xrt_at.2.1 (by omega) b h2 h3
  have r4 : ∀ i, e ≤ i → i < hi → xrt f p mid e i = f i := fun i a b => xrt_at.2.2 (by omega)
  refine ⟨(xPm.rot h2 h3 c1).mono h1 h4, ?_, ?_, ?_, ?_, ?_⟩
  · intro i j a b c
    rw [r1 i a (by omega), r1 j (by omega) c]; exact sA i j a b (by omega)
  · intro i j a b c
    rw [r2 i a (by omega), r2 j (by omega) c]; exact sB _ _ (by omega) (by omega) (by omega)
  · intro i j a b c
    rw [r3 i a (by omega), r3 j (by omega) c]; exact sA _ _ (by omega) (by omega) (by omega)
  · intro i j a b c
    rw [r4 i a (by omega), r4 j (by omega) c]; exact sB i j (by omega) b c
  · intro i j a b c d
    by_cases q1 : i < p
    · rw [r1 i a q1]
      by_cases q2 : j < e
      · rw [r3 j c q2]; exact sA.le a (by omega) (by omega)
      · rw [r4 j (by omega) d]; exact c2 i j a q1 (by omega) d
    · rw [r2 i (by omega) b]
      by_cases q2 : j < e
      · rw [r3 j c q2]
        have := c1 (j - (e - mid)) (i - p + mid) (by omega) (by omega) (by omega) (by omega)
        omega
      · rw [r4 j (by omega) d]; exact sB.le (by omega) (by omega) (by omega)
/-- the halves sorted by themselves: the whole is -/
theorem xmg2 {κ : xE → Int} {lo half hi : Nat} {g h k : Nat → xE} (a : lo ≤ half) (b : half ≤ hi) (c : ∀ i j, lo ≤ i → i < half → half ≤ j → j < hi → κ (g i) ≤ κ (g j)) (q1 : xPm κ lo half g h) (s1 : xSo κ lo half h) (q2 : xPm κ half hi h k) (s2 : xSo κ half hi k) : xPm κ lo hi g k ∧ xSo κ lo hi k := by
  refine ⟨(q1.mono (Nat.le_refl _) b).tr (q2.mono a (Nat.le_refl _)), xSo.app (s1.eqv (fun i h1 h2 => q2.out (by omega))) s2 (fun i j h1 h2 h3 h4 => ?_)⟩
  rw [q2.out (i := i) (by omega)]
  have e1 : ∀ j, half ≤ j → j < hi → ∀ i, lo ≤ i → i < half → κ (h i) ≤ κ (g j) := fun j h3 h4 => q1.all (P := fun z => κ z ≤ κ (g j)) (fun i h1 h2 => c i j h1 h2 h3 h4)
  refine q2.all (P := fun z => κ (h i) ≤ κ z) (fun j h3 h4 => ?_) j h3 h4
  rw [q1.out (i := j) (by omega)]
  exact e1 j h3 h4 i h1 h2
end
section
/-! RowPress: compare, search, isSorted, begin, sortShort, mergeAt -/
def xkx (o : Nat) (e : xE) : Int := xK o e.1
def xLs (ps : Nat) (x y : Int) : Prop := x < y ∨ (ps = 1 ∧ x = y)
set_option maxHeartbeats 1000000 in
theorem c_R_compare (l : Launch) {n o c w ms : Nat} {f : Nat → xE} (ho : o < 4) (x y : Int32) : xr_Mi l y_R_compare b_R_compare 3 (some .int) 3 [.int x, .int y] n o c w ms f (fun v n' o' c' w' ms' f' => xcm o x y v ∧ n = n' ∧ o = o' ∧ c + 1 = c' ∧ w = w' ∧ ms = ms' ∧ f = f') := by
  refine xr_Mi.of [some (.int x), some (.int y)] (by decide +kernel) rfl rfl rfl ?_
  intro Γ a cI cO G K rt
  have G : xa_G Γ "RowPress" b_R_compare 3 := G
  refine xa_aload_n G (i := 0) d_R_compare_0 rfl rfl ?_
  refine xa_dup G d_R_compare_1 rfl ?_
  refine xr_gc G K d_R_compare_2 ?_
  refine xa_lconst G (v := lN 1) d_R_compare_5 (by decide +kernel) ?_
  refine xa_laddN G d_R_compare_6 ?_
  refine xr_pc G K d_R_compare_7 ?_
  refine xa_aload_n G (i := 0) d_R_compare_10 rfl rfl ?_
  refine xr_go G K d_R_compare_11 ?_
  refine xa_iload_n G (i := 1) d_R_compare_14 rfl rfl ?_
  refine xa_iload_n G (i := 2) d_R_compare_15 rfl rfl ?_
  refine xr_cmp G K (by omega) (by omega) (Nat.le_of_ble_eq_true rfl) d_R_compare_16 (fun v hv => ?_)
  exact rt _ _ _ _ _ _ _ _ _ d_R_compare_19 rfl ⟨hv, rfl, rfl, rfl, rfl, rfl, rfl⟩
set_option maxHeartbeats 2000000 in
theorem c_R_search (l : Launch) {n o c w ms : Nat} {f : Nat → xE} (ho : o < 4) {lo hi : Nat} (h1 : lo ≤ hi) (h2 : hi ≤ 500) {key : Int32} {ps : Nat} (hps : ps ≤ 1) (e : Nat) (he : hi - lo < 2 ^ e) (hs : xSo (xkx o) lo hi f) : xr_Mi l y_R_search b_R_search 9 (some .int) 4 [.int (nI lo), .int (nI hi), .int key, .int (nI ps)] n o c w ms f (fun v n' o' c' w' ms' f' => (∃ p, v = nI p ∧ lo ≤ p ∧ p ≤ hi ∧ (∀ i, lo ≤ i → i < p → xLs ps (xkx o (f i)) (xK o key)) ∧ ∀ i, p ≤ i → i < hi → ¬ xLs ps (xkx o (f i)) (xK o key)) ∧ n = n' ∧ o = o' ∧ (c ≤ c' ∧ c' ≤ c + e) ∧ w = w' ∧ ms = ms' ∧ f = f') := by
  refine xr_Mi.of [some (.int (nI lo)), some (.int (nI hi)), some (.int key), some (.int (nI ps)), none, none, none, none] (by decide +kernel) rfl rfl rfl ?_
  intro Γ a cI cO G K rt
  have G : xa_G Γ "RowPress" b_R_search 4 := G
  have ex : ∀ (p c1 : Nat) (z7 z8 : Option Value), lo ≤ p → p ≤ hi → c ≤ c1 → c1 ≤ c + e → (∀ i, lo ≤ i → i < p → xLs ps (xkx o (f i)) (xK o key)) → (∀ i, p ≤ i → i < hi → ¬ xLs ps (xkx o (f i)) (xK o key)) → xa_At Γ (xw a cI cO n o c1 w ms f) 67 [some (.ref (a 0)), some (.int (nI lo)), some (.int (nI hi)), some (.int key), some (.int (nI ps)), some (.int (nI p)), some (.int (nI p)), z7, z8] [] := by
    intro p c1 z7 z8 q1 q2 q3 q4 q5 q6
    refine xa_iload G d_R_search_67 rfl ?_
    exact rt _ _ _ _ _ _ _ _ _ d_R_search_69 rfl ⟨⟨p, rfl, q1, q2, q5, q6⟩, rfl, rfl, ⟨q3, q4⟩, rfl, rfl, rfl⟩
  have loop : ∀ (m lw hg c1 : Nat) (z7 z8 : Option Value), lo ≤ lw → lw ≤ hg → hg ≤ hi → hg - lw < 2 ^ m → c ≤ c1 → c1 + m ≤ c + e → (∀ i, lo ≤ i → i < lw → xLs ps (xkx o (f i)) (xK o key)) → (∀ i, hg ≤ i → i < hi → ¬ xLs ps (xkx o (f i)) (xK o key)) → xa_At Γ (xw a cI cO n o c1 w ms f) 6 [some (.ref (a 0)), some (.int (nI lo)), some (.int (nI hi)), some (.int key), some (.int (nI ps)), some (.int (nI lw)), some (.int (nI hg)), z7, z8] [] := by
    intro m
    induction m with
    | zero =>
      intro lw hg c1 z7 z8 q1 q2 q3 q4 q5 q6 q7 q8
      obtain rfl : lw = hg := by omega
      refine xa_iload G d_R_search_6 rfl ?_
      refine xa_iload G d_R_search_8 rfl ?_
      refine xa_geN G (tgt := 67) d_R_search_10 (by decide) (by omega) (by omega) (fun h3 => ?_) (fun h3 => ?_)
      · exact ex lw c1 z7 z8 q1 q3 q5 (by omega) q7 q8
      · omega
    | succ m ih =>
      intro lw hg c1 z7 z8 q1 q2 q3 q4 q5 q6 q7 q8
      refine xa_iload G d_R_search_6 rfl ?_
      refine xa_iload G d_R_search_8 rfl ?_
      refine xa_geN G (tgt := 67) d_R_search_10 (by decide) (by omega) (by omega) (fun h3 => ?_) (fun h3 => ?_)
      · obtain rfl : lw = hg := by omega
        exact ex lw c1 z7 z8 q1 q3 q5 (by omega) q7 q8
      · have p2 : 2 ^ (m + 1) = 2 * 2 ^ m := Nat.pow_succ'
        refine xa_iload G d_R_search_13 rfl ?_
        refine xa_iload G d_R_search_15 rfl ?_
        refine xa_addN G d_R_search_17 ?_
        refine xa_iconst G (v := nI 1) d_R_search_18 (by decide +kernel) ?_
        refine xa_shrN G d_R_search_19 (by omega) ?_
        refine xa_istore G d_R_search_20 rfl ?_
        refine xa_aload_n G (i := 0) d_R_search_22 rfl rfl ?_
        refine xa_aload_n G (i := 0) d_R_search_23 rfl rfl ?_
        refine xr_gK G K d_R_search_24 ?_
        refine xa_iload G d_R_search_27 rfl ?_
        first | refine xr_ldK G K d_R_search_29 ?_ ?_ | refine xr_ldT G K d_R_search_29 ?_ ?_
        · omega
        refine xa_iload_n G (i := 3) d_R_search_30 rfl rfl ?_
        refine xr_calli G K k_R_70 (c_R_compare (xl Γ) ho _ _) (by omega) (by decide) rfl rfl (Nat.le_of_ble_eq_true rfl) d_R_search_31 (fun v n' o' c' w' ms' f' hu => ?_)
        obtain ⟨hv, rfl, rfl, rfl, rfl, rfl, rfl⟩ := hu
        generalize hmid : (lw + hg) / 2 = mid at hv ⊢
        refine xa_istore G d_R_search_34 rfl ?_
        refine xa_iload G d_R_search_36 rfl ?_
        have k51 : xLs ps (xkx o (f mid)) (xK o key) → xa_At Γ (xw a cI cO n o (c1 + 1) w ms f) 51 [some (.ref (a 0)), some (.int (nI lo)), some (.int (nI hi)), some (.int key), some (.int (nI ps)), some (.int (nI lw)), some (.int (nI hg)), some (.int (nI mid)), some (.int v)] [] := by
          intro hA
          refine xa_iload G d_R_search_51 rfl ?_
          refine xa_iconst G (v := nI 1) d_R_search_53 (by decide +kernel) ?_
          refine xa_addN G d_R_search_54 ?_
          refine xa_istore G d_R_search_55 rfl ?_
          refine xa_goto G (tgt := 64) d_R_search_57 (by decide) ?_
          refine xa_goto G (tgt := 6) d_R_search_64 (by decide) ?_
          refine ih (mid + 1) hg (c1 + 1) _ _ (by omega) (by omega) q3 (by omega) (by omega) (by omega) (fun i g1 g2 => ?_) q8
          rcases Nat.lt_or_ge i lw with g3 | g3
          · exact q7 i g1 g3
          · have := hs.le (i := i) (j := mid) g1 (by omega) (by omega)
            unfold xLs at hA ⊢
            omega
        have k60 : ¬ xLs ps (xkx o (f mid)) (xK o key) → xa_At Γ (xw a cI cO n o (c1 + 1) w ms f) 60 [some (.ref (a 0)), some (.int (nI lo)), some (.int (nI hi)), some (.int key), some (.int (nI ps)), some (.int (nI lw)), some (.int (nI hg)), some (.int (nI mid)), some (.int v)] [] := by
          intro hA
          refine xa_iload G d_R_search_60 rfl ?_
          refine xa_istore G d_R_search_62 rfl ?_
          refine xa_goto G (tgt := 6) d_R_search_64 (by decide) ?_
          refine ih lw mid (c1 + 1) _ _ q1 (by omega) (by omega) (by omega) (by omega) (by omega) q7 (fun i g1 g2 => ?_)
          rcases Nat.lt_or_ge i hg with g3 | g3
          · have := hs.le (i := mid) (j := i) (by omega) g1 g2
            unfold xLs at hA ⊢
            omega
          · exact q8 i g3 g2
        refine xa_clt G hv (tgt := 51) d_R_search_38 (by decide) (fun h5 => k51 (Or.inl h5)) (fun h5 => ?_)
        refine xa_iload G d_R_search_41 rfl ?_
        refine xa_ifeqN G (tgt := 60) d_R_search_43 (by decide) (by omega) (fun h6 => ?_) (fun h6 => ?_)
        · exact k60 (fun q => by
            have h5' : xK o key ≤ xkx o (f mid) := h5
            unfold xLs at q
            omega)
        · refine xa_iload G d_R_search_46 rfl ?_
          refine xa_cne G hv (tgt := 60) d_R_search_48 (by decide) (fun h7 => k60 (fun q => ?_)) (fun h7 => k51 (Or.inr ⟨by omega, h7⟩))
          have h5' : xK o key ≤ xkx o (f mid) := h5
          have h7' : xkx o (f mid) ≠ xK o key := h7
          unfold xLs at q
          omega
  refine xa_iload_n G (i := 1) d_R_search_0 rfl rfl ?_
  refine xa_istore G d_R_search_1 rfl ?_
  refine xa_iload_n G (i := 2) d_R_search_3 rfl rfl ?_
  refine xa_istore G d_R_search_4 rfl ?_
  exact loop e lo hi c none none (by omega) h1 (by omega) he (by omega) (by omega) (fun i _ _ => by omega) (fun i _ _ => by omega)
set_option maxHeartbeats 1000000 in
theorem c_R_isSorted (l : Launch) {n o c w ms : Nat} {f : Nat → xE} (ho : o < 4) {lo hi : Nat} (h1 : lo ≤ hi) (h2 : hi ≤ 500) : xr_Mi l y_R_isSorted b_R_isSorted 4 (some .boolean) 3 [.int (nI lo), .int (nI hi)] n o c w ms f (fun v n' o' c' w' ms' f' => xb1 (xSo (xkx o) lo hi f) v ∧ n = n' ∧ o = o' ∧ c = c' ∧ w = w' ∧ ms = ms' ∧ f = f') := by
  refine xr_Mi.of [some (.int (nI lo)), some (.int (nI hi)), none] (by decide +kernel) rfl rfl rfl ?_
  intro Γ a cI cO G K rt
  have G : xa_G Γ "RowPress" b_R_isSorted 3 := G
  have loop : ∀ (t k : Nat), lo < k → (k ≤ hi ∨ k = lo + 1) → hi - k = t → (∀ j, lo < j → j < k → j < hi → xkx o (f (j - 1)) ≤ xkx o (f j)) → xa_At Γ (xw a cI cO n o c w ms f) 4 [some (.ref (a 0)), some (.int (nI lo)), some (.int (nI hi)), some (.int (nI k))] [] := by
    intro t
    induction t with
    | zero =>
      intro k q1 q2 q3 q4
      refine xa_iload_n G (i := 3) d_R_isSorted_4 rfl rfl ?_
      refine xa_iload_n G (i := 2) d_R_isSorted_5 rfl rfl ?_
      refine xa_geN G (tgt := 41) d_R_isSorted_6 (by decide) (by omega) (by omega) (fun h3 => ?_) (fun h3 => ?_)
      · refine xa_iconst G (v := (1 : Int32)) d_R_isSorted_41 (by decide +kernel) ?_
        exact rt _ _ _ _ _ _ _ _ _ d_R_isSorted_42 (by decide +kernel) ⟨Or.inl ⟨rfl, xSo.adj (fun j g1 g2 => q4 j g1 (by omega) g2)⟩, rfl, rfl, rfl, rfl, rfl, rfl⟩
      · omega
    | succ t ih =>
      intro k q1 q2 q3 q4
      refine xa_iload_n G (i := 3) d_R_isSorted_4 rfl rfl ?_
      refine xa_iload_n G (i := 2) d_R_isSorted_5 rfl rfl ?_
      refine xa_geN G (tgt := 41) d_R_isSorted_6 (by decide) (by omega) (by omega) (fun h3 => ?_) (fun h3 => ?_)
      · omega
      · refine xa_aload_n G (i := 0) d_R_isSorted_9 rfl rfl ?_
        refine xr_go G K d_R_isSorted_10 ?_
        refine xa_aload_n G (i := 0) d_R_isSorted_13 rfl rfl ?_
        refine xr_gK G K d_R_isSorted_14 ?_
        refine xa_iload_n G (i := 3) d_R_isSorted_17 rfl rfl ?_
        first | refine xr_ldK G K d_R_isSorted_18 ?_ ?_ | refine xr_ldT G K d_R_isSorted_18 ?_ ?_
        · omega
        refine xa_aload_n G (i := 0) d_R_isSorted_19 rfl rfl ?_
        refine xr_gK G K d_R_isSorted_20 ?_
        refine xa_iload_n G (i := 3) d_R_isSorted_23 rfl rfl ?_
        refine xa_iconst G (v := nI 1) d_R_isSorted_24 (by decide +kernel) ?_
        refine xa_subN G d_R_isSorted_25 (by omega) ?_
        first | refine xr_ldK G K d_R_isSorted_26 ?_ ?_ | refine xr_ldT G K d_R_isSorted_26 ?_ ?_
        · omega
        refine xr_cmp G K (by omega) (by omega) (Nat.le_of_ble_eq_true rfl) d_R_isSorted_27 (fun v hv => ?_)
        refine xa_cge G hv (tgt := 35) d_R_isSorted_30 (by decide) (fun h5 => ?_) (fun h5 => ?_)
        · refine xa_inc1 G d_R_isSorted_35 rfl rfl ?_
          refine xa_goto G (tgt := 4) d_R_isSorted_38 (by decide) ?_
          refine ih (k + 1) (by omega) (by omega) (by omega) (fun j g1 g2 g3 => ?_)
          rcases Nat.lt_or_ge j k with g4 | g4
          · exact q4 j g1 g4 g3
          · obtain rfl : j = k := by omega
            exact h5
        · refine xa_iconst G (v := (0 : Int32)) d_R_isSorted_33 (by decide +kernel) ?_
          refine rt _ _ _ _ _ _ _ _ _ d_R_isSorted_34 (by decide +kernel) ⟨Or.inr ⟨rfl, fun q => ?_⟩, rfl, rfl, rfl, rfl, rfl, rfl⟩
          have q5 := q (k - 1) k (by omega) (by omega) (by omega)
          have h5' : xkx o (f k) < xkx o (f (k - 1)) := h5
          omega
  refine xa_iload_n G (i := 1) d_R_isSorted_0 rfl rfl ?_
  refine xa_iconst G (v := nI 1) d_R_isSorted_1 (by decide +kernel) ?_
  refine xa_addN G d_R_isSorted_2 ?_
  refine xa_istore_n G (i := 3) d_R_isSorted_3 rfl rfl ?_
  exact loop (hi - (lo + 1)) (lo + 1) (by omega) (by omega) rfl (fun j _ _ _ => by omega)
set_option maxHeartbeats 1000000 in
theorem c_R_begin (l : Launch) {n o c w ms : Nat} {f : Nat → xE} {m q : Nat} (hq : q < 4) : xr_Mv l y_R_begin b_R_begin 3 0 [.int (nI m), .int (nI q)] n o c w ms f (fun n' o' c' w' ms' f' => n = n' ∧ q = o' ∧ 0 = c' ∧ 0 = w' ∧ m = ms' ∧ f = f') := by
  refine xr_Mv.of [some (.int (nI m)), some (.int (nI q))] (by decide +kernel) rfl rfl rfl ?_
  intro Γ a cI cO G K rt
  refine xa_aload_n G (i := 0) d_R_begin_0 rfl rfl ?_
  refine xa_aload_n G (i := 0) d_R_begin_1 rfl rfl ?_
  refine xr_gO G K d_R_begin_2 ?_
  refine xa_iload_n G (i := 2) d_R_begin_5 rfl rfl ?_
  refine xr_ldO G K d_R_begin_6 (by omega) ?_
  refine xr_po G K d_R_begin_7 ?_
  refine xa_aload_n G (i := 0) d_R_begin_10 rfl rfl ?_
  refine xa_lconst G (v := lN 0) d_R_begin_11 (by decide +kernel) ?_
  refine xr_pc G K d_R_begin_12 ?_
  refine xa_aload_n G (i := 0) d_R_begin_15 rfl rfl ?_
  refine xa_lconst G (v := lN 0) d_R_begin_16 (by decide +kernel) ?_
  refine xr_pw G K d_R_begin_17 ?_
  refine xa_aload_n G (i := 0) d_R_begin_20 rfl rfl ?_
  refine xa_iload_n G (i := 1) d_R_begin_21 rfl rfl ?_
  refine xr_pm G K d_R_begin_22 ?_
  exact rt _ _ _ _ _ _ _ _ d_R_begin_25 ⟨rfl, rfl, rfl, rfl, rfl, rfl⟩
set_option maxHeartbeats 2000000 in
theorem c_R_sortShort (l : Launch) {n o c w ms : Nat} {f : Nat → xE} (ho : o < 4) {lo hi : Nat} (h1 : lo ≤ hi) (h2 : hi ≤ 500) (h8 : hi - lo ≤ 8) : xr_Mv l y_R_sortShort b_R_sortShort 5 5 [.int (nI lo), .int (nI hi)] n o c w ms f (fun n' o' c' w' ms' f' => n = n' ∧ o = o' ∧ ms = ms' ∧ xPm (xkx o) lo hi f f' ∧ xSo (xkx o) lo hi f' ∧ c' ≤ c + 3 * (hi - lo) ∧ w' ≤ w + 16 * (hi - lo)) := by
  refine xr_Mv.of [some (.int (nI lo)), some (.int (nI hi)), none, none] (by decide +kernel) rfl rfl rfl ?_
  intro Γ a cI cO G K rt
  have G : xa_G Γ "RowPress" b_R_sortShort 5 := G
  have loop : ∀ (t k c1 w1 : Nat) (f1 : Nat → xE) (z : Option Value), lo < k → (k ≤ hi ∨ k = lo + 1) → hi - k = t → c1 ≤ c + 3 * (k - lo - 1) → w1 ≤ w + 16 * (k - lo - 1) → xPm (xkx o) lo hi f f1 → xSo (xkx o) lo k f1 → xa_At Γ (xw a cI cO n o c1 w1 ms f1) 4 [some (.ref (a 0)), some (.int (nI lo)), some (.int (nI hi)), some (.int (nI k)), z] [] := by
    intro t
    induction t with
    | zero =>
      intro k c1 w1 f1 z q1 q2 q3 q4 q5 q6 q7
      refine xa_iload_n G (i := 3) d_R_sortShort_4 rfl rfl ?_
      refine xa_iload_n G (i := 2) d_R_sortShort_5 rfl rfl ?_
      refine xa_geN G (tgt := 40) d_R_sortShort_6 (by decide) (by omega) (by omega) (fun h3 => ?_) (fun h3 => ?_)
      · exact rt _ _ _ _ _ _ _ _ d_R_sortShort_40 ⟨rfl, rfl, rfl, q6, q7.sub (by omega) (by omega), by omega, by omega⟩
      · omega
    | succ t ih =>
      intro k c1 w1 f1 z q1 q2 q3 q4 q5 q6 q7
      refine xa_iload_n G (i := 3) d_R_sortShort_4 rfl rfl ?_
      refine xa_iload_n G (i := 2) d_R_sortShort_5 rfl rfl ?_
      refine xa_geN G (tgt := 40) d_R_sortShort_6 (by decide) (by omega) (by omega) (fun h3 => ?_) (fun h3 => ?_)
      · omega
      · refine xa_aload_n G (i := 0) d_R_sortShort_9 rfl rfl ?_
        refine xa_iload_n G (i := 1) d_R_sortShort_10 rfl rfl ?_
        refine xa_iload_n G (i := 3) d_R_sortShort_11 rfl rfl ?_
        refine xa_aload_n G (i := 0) d_R_sortShort_12 rfl rfl ?_
        refine xr_gK G K d_R_sortShort_13 ?_
        refine xa_iload_n G (i := 3) d_R_sortShort_16 rfl rfl ?_
        first | refine xr_ldK G K d_R_sortShort_17 ?_ ?_ | refine xr_ldT G K d_R_sortShort_17 ?_ ?_
        · omega
        refine xa_iconst G (v := nI 1) d_R_sortShort_18 (by decide +kernel) ?_
        refine xr_calli G K k_R_74 (c_R_search (xl Γ) ho (lo := lo) (hi := k) (ps := 1) (by omega) (by omega) (by omega) 3 (by omega) q7) (by omega) (by decide) rfl rfl (Nat.le_of_ble_eq_true rfl) d_R_sortShort_19 (fun v n' o' c' w' ms' f' hu => ?_)
        obtain ⟨⟨p, rfl, p1, p2, p3, p4⟩, rfl, rfl, hc, rfl, rfl, rfl⟩ := hu
        refine xa_istore G d_R_sortShort_22 rfl ?_
        refine xa_aload_n G (i := 0) d_R_sortShort_24 rfl rfl ?_
        refine xa_iload G d_R_sortShort_25 rfl ?_
        refine xa_iload_n G (i := 3) d_R_sortShort_27 rfl rfl ?_
        refine xa_iload_n G (i := 3) d_R_sortShort_28 rfl rfl ?_
        refine xa_iconst G (v := nI 1) d_R_sortShort_29 (by decide +kernel) ?_
        refine xa_addN G d_R_sortShort_30 ?_
        refine xr_callv G K k_R_59 (c_R_bring (xl Γ) (lo := p) (mid := k) (hi := k + 1) p2 (by omega) (by omega)) (by omega) (by decide) rfl rfl (Nat.le_of_ble_eq_true rfl) d_R_sortShort_31 (fun n' o' c' w' ms' f' hu => ?_)
        obtain ⟨rfl, rfl, rfl, hw, rfl, rfl⟩ := hu
        refine xa_inc1 G d_R_sortShort_34 rfl rfl ?_
        refine xa_goto G (tgt := 4) d_R_sortShort_37 (by decide) ?_
        have c1' : ∀ i j, p ≤ i → i < k → k ≤ j → j < k + 1 → xkx o (f1 j) < xkx o (f1 i) := fun i j g1 g2 g3 g4 => by
          obtain rfl : j = k := by omega
          have := p4 i g1 g2
          unfold xLs at this
          show xK o (f1 j).1 < _
          omega
        obtain ⟨m1, m2, m3, m4, m5, m6⟩ := xmg (κ := xkx o) (lo := lo) (p := p) (mid := k) (e := k + 1) (half := p + 1) (hi := k + 1) (f := f1) p1 p2 (by omega) (by omega) (by omega) q7 (fun i j _ _ _ => by omega) c1' (fun i j _ _ _ _ => by omega)
        have s1 : xSo (xkx o) lo (p + 1) (xrt f1 p k (k + 1)) := xSo.app m2 m3 (fun i j g1 g2 g3 g4 => by
          obtain rfl : j = p := by omega
          rw [(xrt_at (i := i)).2.2 (by omega), (xrt_at (i := j)).1 (by omega) (by omega) p2 (by omega), show j - j + k = k by omega]
          have := p3 i g1 g2
          unfold xLs at this
          show _ ≤ xK o (f1 k).1
          omega)
        exact ih (k + 1) _ _ _ _ (by omega) (by omega) (by omega) (by omega) (by omega) (q6.tr (m1.mono (Nat.le_refl _) (by omega))) (xSo.app s1 m4 m6)
  refine xa_iload_n G (i := 1) d_R_sortShort_0 rfl rfl ?_
  refine xa_iconst G (v := nI 1) d_R_sortShort_1 (by decide +kernel) ?_
  refine xa_addN G d_R_sortShort_2 ?_
  refine xa_istore_n G (i := 3) d_R_sortShort_3 rfl rfl ?_
  exact loop (hi - (lo + 1)) (lo + 1) c w f none (by omega) (by omega) rfl (by omega) (by omega) xPm.rf (fun i j _ _ _ => by omega)
theorem xp2 (d : Nat) : d + 2 ≤ 2 ^ (d + 1) := by
  induction d with
  | zero => decide
  | succ d ih => rw [Nat.pow_succ]; omega
theorem xsw_rot (f : Nat → xE) (k : Nat) : xsw f k (k + 1) = xrt f k (k + 1) (k + 2) := by
  funext i
  unfold xsw xrt
  by_cases h : i = k
  · rw [if_pos h, if_pos (by omega), if_pos (by omega), show i - k + (k + 1) = k + 1 by omega]
  · rw [if_neg h]
    by_cases h' : i = k + 1
    · rw [if_pos h', if_pos (by omega), if_neg (by omega), show i - (k + 2 - (k + 1)) = k by omega]
    · rw [if_neg h', if_neg (by omega)]
set_option maxHeartbeats 4000000 in
theorem c_R_mergeAt (d : Nat) : ∀ (l : Launch) {n o c w ms : Nat} {f : Nat → xE} (_ : o < 4) {lo mid hi : Nat} (_ : lo ≤ mid) (_ : mid ≤ hi) (_ : hi ≤ 500) (_ : hi - lo ≤ 2 ^ d) (_ : xSo (xkx o) lo mid f) (_ : xSo (xkx o) mid hi f), xr_Mv l y_R_mergeAt b_R_mergeAt 9 (d + 4) [.int (nI lo), .int (nI mid), .int (nI hi)] n o c w ms f (fun n' o' c' w' ms' f' => n = n' ∧ o = o' ∧ ms = ms' ∧ xPm (xkx o) lo hi f f' ∧ xSo (xkx o) lo hi f' ∧ c' + d + 2 ≤ c + 2 ^ (d + 1) ∧ w' ≤ w + 2 * (d * (hi - lo))) := by
  induction d with
  | zero =>
    intro l n o c w ms f ho lo mid hi h1 h2 h3 h4 sA sB
    refine xr_Mv.of [some (.int (nI lo)), some (.int (nI mid)), some (.int (nI hi)), none, none, none, none, none] (by decide +kernel) rfl rfl rfl ?_
    intro Γ a cI cO G K rt
    refine xa_iload_n G (i := 1) d_R_mergeAt_0 rfl rfl ?_
    refine xa_iload_n G (i := 2) d_R_mergeAt_1 rfl rfl ?_
    refine xa_eqN G (tgt := 10) d_R_mergeAt_2 (by decide) (by omega) (by omega) (fun h5 => ?_) (fun h5 => ?_)
    · exact rt _ _ _ _ _ _ _ _ d_R_mergeAt_10 ⟨rfl, rfl, rfl, xPm.rf, by rw [h5]; exact sB, by omega, by omega⟩
    · refine xa_iload_n G (i := 2) d_R_mergeAt_5 rfl rfl ?_
      refine xa_iload_n G (i := 3) d_R_mergeAt_6 rfl rfl ?_
      refine xa_neN G (tgt := 11) d_R_mergeAt_7 (by decide) (by omega) (by omega) (fun h6 => ?_) (fun h6 => ?_)
      · omega
      · exact rt _ _ _ _ _ _ _ _ d_R_mergeAt_10 ⟨rfl, rfl, rfl, xPm.rf, by rw [← h6]; exact sA, by omega, by omega⟩
  | succ d IH =>
    intro l n o c w ms f ho lo mid hi h1 h2 h3 h4 sA sB
    have p2 : 2 ^ (d + 1) = 2 * 2 ^ d := Nat.pow_succ'
    have p3 : 2 ^ (d + 1 + 1) = 2 * 2 ^ (d + 1) := Nat.pow_succ'
    have p4 := xp2 d
    refine xr_Mv.of [some (.int (nI lo)), some (.int (nI mid)), some (.int (nI hi)), none, none, none, none, none] (by decide +kernel) rfl rfl rfl ?_
    intro Γ a cI cO G K rt
    have G : xa_G Γ "RowPress" b_R_mergeAt (d + 1 + 4) := G
    refine xa_iload_n G (i := 1) d_R_mergeAt_0 rfl rfl ?_
    refine xa_iload_n G (i := 2) d_R_mergeAt_1 rfl rfl ?_
    refine xa_eqN G (tgt := 10) d_R_mergeAt_2 (by decide) (by omega) (by omega) (fun h5 => ?_) (fun h5 => ?_)
    · exact rt _ _ _ _ _ _ _ _ d_R_mergeAt_10 ⟨rfl, rfl, rfl, xPm.rf, by rw [h5]; exact sB, by omega, by omega⟩
    · refine xa_iload_n G (i := 2) d_R_mergeAt_5 rfl rfl ?_
      refine xa_iload_n G (i := 3) d_R_mergeAt_6 rfl rfl ?_
      refine xa_neN G (tgt := 11) d_R_mergeAt_7 (by decide) (by omega) (by omega) (fun h6 => ?_) (fun h6 => ?_)
      · refine xa_iload_n G (i := 3) d_R_mergeAt_11 rfl rfl ?_
        refine xa_iload_n G (i := 1) d_R_mergeAt_12 rfl rfl ?_
        refine xa_subN G d_R_mergeAt_13 (by omega) ?_
        refine xa_iconst G (v := nI 2) d_R_mergeAt_14 (by decide +kernel) ?_
        refine xa_neN G (tgt := 44) d_R_mergeAt_15 (by decide) (by omega) (by omega) (fun h7 => ?_) (fun h7 => ?_)
        · refine xa_iload_n G (i := 1) d_R_mergeAt_44 rfl rfl ?_
          refine xa_iload_n G (i := 3) d_R_mergeAt_45 rfl rfl ?_
          refine xa_addN G d_R_mergeAt_46 ?_
          refine xa_iconst G (v := nI 1) d_R_mergeAt_47 (by decide +kernel) ?_
          refine xa_shrN G d_R_mergeAt_48 (by omega) ?_
          refine xa_istore G d_R_mergeAt_49 rfl ?_
          refine xa_iload G d_R_mergeAt_51 rfl ?_
          refine xa_iload_n G (i := 2) d_R_mergeAt_53 rfl rfl ?_
          refine xa_addN G d_R_mergeAt_54 ?_
          refine xa_istore G d_R_mergeAt_55 rfl ?_
          generalize hhalf : (lo + hi) / 2 = half
          have main : ∀ lw0 hg0 : Nat, ((half < mid ∧ lw0 = half + mid - hi ∧ hg0 = half) ∨ (mid ≤ half ∧ lw0 = lo ∧ hg0 = mid)) → xa_At Γ (xw a cI cO n o c w ms f) 87 [some (.ref (a 0)), some (.int (nI lo)), some (.int (nI mid)), some (.int (nI hi)), some (.int (nI half)), some (.int (nI (half + mid))), some (.int (nI lw0)), some (.int (nI hg0)), none] [] := by
            intro lw0 hg0 h8
            have ex : ∀ (p c1 : Nat) (z : Option Value), lw0 ≤ p → p ≤ hg0 → c1 ≤ c + (d + 1) → (p = lw0 ∨ xkx o (f (p - 1)) ≤ xkx o (f (half + mid - p))) → (p = hg0 ∨ xkx o (f (half + mid - p - 1)) < xkx o (f p)) → xa_At Γ (xw a cI cO n o c1 w ms f) 145 [some (.ref (a 0)), some (.int (nI lo)), some (.int (nI mid)), some (.int (nI hi)), some (.int (nI half)), some (.int (nI (half + mid))), some (.int (nI p)), some (.int (nI p)), z] [] := by
              intro p c1 z q1 q2 q3 q4 q5
              refine xa_iload G d_R_mergeAt_145 rfl ?_
              refine xa_iload G d_R_mergeAt_147 rfl ?_
              refine xa_subN G d_R_mergeAt_149 (by omega) ?_
              refine xa_istore G d_R_mergeAt_150 rfl ?_
              refine xa_aload_n G (i := 0) d_R_mergeAt_152 rfl rfl ?_
              refine xa_iload G d_R_mergeAt_153 rfl ?_
              refine xa_iload_n G (i := 2) d_R_mergeAt_155 rfl rfl ?_
              refine xa_iload G d_R_mergeAt_156 rfl ?_
              obtain ⟨e, he⟩ : ∃ e, e = half + mid - p := ⟨_, rfl⟩
              rw [← he] at q4 q5 ⊢
              obtain ⟨m1, m2, m3, m4, m5, m6⟩ := xmg (κ := xkx o) (lo := lo) (p := p) (mid := mid) (e := e) (half := half) (hi := hi) (f := f) (by omega) (by omega) (by omega) (by omega) (by omega) sA sB (fun i j g1 g2 g3 g4 => by
                have a1 := sA.le (i := p) (j := i) (by omega) g1 g2
                have a2 := sB.le (i := j) (j := e - 1) g3 (by omega) (by omega)
                omega) (fun i j g1 g2 g3 g4 => by
                have a1 := sA.le (i := i) (j := p - 1) g1 (by omega) (by omega)
                have a2 := sB.le (i := e) (j := j) (by omega) g3 g4
                omega)
              refine xr_callv G K k_R_59 (c_R_bring (xl Γ) (lo := p) (mid := mid) (hi := e) (by omega) (by omega) (by omega)) (by omega) (by decide) rfl rfl (Nat.le_of_ble_eq_true rfl) d_R_mergeAt_158 (fun n' o' c' w' ms' f' hu => ?_)
              obtain ⟨rfl, rfl, rfl, hw, rfl, rfl⟩ := hu
              refine xa_aload_n G (i := 0) d_R_mergeAt_161 rfl rfl ?_
              refine xa_iload_n G (i := 1) d_R_mergeAt_162 rfl rfl ?_
              refine xa_iload G d_R_mergeAt_163 rfl ?_
              refine xa_iload G d_R_mergeAt_165 rfl ?_
              refine xr_callv G K k_R_78 (IH (xl Γ) ho (lo := lo) (mid := p) (hi := half) (by omega) (by omega) (by omega) (by omega) m2 m3) (by omega) (by decide) rfl rfl (Nat.le_of_ble_eq_true rfl) d_R_mergeAt_167 (fun n' o' c' w' ms' f' hu => ?_)
              obtain ⟨rfl, rfl, rfl, u1, u2, u3, u4⟩ := hu
              refine xa_aload_n G (i := 0) d_R_mergeAt_170 rfl rfl ?_
              refine xa_iload G d_R_mergeAt_171 rfl ?_
              refine xa_iload G d_R_mergeAt_173 rfl ?_
              refine xa_iload_n G (i := 3) d_R_mergeAt_175 rfl rfl ?_
              refine xr_callv G K k_R_78 (IH (xl Γ) ho (lo := half) (mid := e) (hi := hi) (by omega) (by omega) (by omega) (by omega) (m4.eqv (fun i g1 g2 => u1.out (by omega))) (m5.eqv (fun i g1 g2 => u1.out (by omega)))) (by omega) (by decide) rfl rfl (Nat.le_of_ble_eq_true rfl) d_R_mergeAt_176 (fun n' o' c' w' ms' f' hu => ?_)
              obtain ⟨rfl, rfl, rfl, u5, u6, u7, u8⟩ := hu
              obtain ⟨t1, t2⟩ := xmg2 (by omega) (by omega) m6 u1 u2 u5 u6
              refine rt _ _ _ _ _ _ _ _ d_R_mergeAt_179 ⟨rfl, rfl, rfl, m1.tr t1, t2, by omega, ?_⟩
              have e1 : d * (hi - lo) = d * (half - lo) + d * (hi - half) := by rw [← Nat.mul_add]; congr 1; omega
              have e2 : (d + 1) * (hi - lo) = d * (hi - lo) + (hi - lo) := Nat.succ_mul _ _
              omega
            have loop : ∀ (m lw hg c1 : Nat) (z : Option Value), lw0 ≤ lw → lw ≤ hg → hg ≤ hg0 → hg - lw < 2 ^ m → c1 + m ≤ c + (d + 1) → (lw = lw0 ∨ xkx o (f (lw - 1)) ≤ xkx o (f (half + mid - lw))) → (hg = hg0 ∨ xkx o (f (half + mid - hg - 1)) < xkx o (f hg)) → xa_At Γ (xw a cI cO n o c1 w ms f) 87 [some (.ref (a 0)), some (.int (nI lo)), some (.int (nI mid)), some (.int (nI hi)), some (.int (nI half)), some (.int (nI (half + mid))), some (.int (nI lw)), some (.int (nI hg)), z] [] := by
              intro m
              induction m with
              | zero =>
                intro lw hg c1 z q1 q2 q3 q4 q5 q6 q7
                obtain rfl : lw = hg := by omega
                refine xa_iload G d_R_mergeAt_87 rfl ?_
                refine xa_iload G d_R_mergeAt_89 rfl ?_
                refine xa_geN G (tgt := 145) d_R_mergeAt_91 (by decide) (by omega) (by omega) (fun h9 => ?_) (fun h9 => ?_)
                · exact ex lw c1 z q1 q3 (by omega) q6 q7
                · omega
              | succ m ih =>
                intro lw hg c1 z q1 q2 q3 q4 q5 q6 q7
                have p5 : 2 ^ (m + 1) = 2 * 2 ^ m := Nat.pow_succ'
                refine xa_iload G d_R_mergeAt_87 rfl ?_
                refine xa_iload G d_R_mergeAt_89 rfl ?_
                refine xa_geN G (tgt := 145) d_R_mergeAt_91 (by decide) (by omega) (by omega) (fun h9 => ?_) (fun h9 => ?_)
                · obtain rfl : lw = hg := by omega
                  exact ex lw c1 z q1 q3 (by omega) q6 q7
                · refine xa_iload G d_R_mergeAt_94 rfl ?_
                  refine xa_iload G d_R_mergeAt_96 rfl ?_
                  refine xa_addN G d_R_mergeAt_98 ?_
                  refine xa_iconst G (v := nI 1) d_R_mergeAt_99 (by decide +kernel) ?_
                  refine xa_shrN G d_R_mergeAt_100 (by omega) ?_
                  refine xa_istore G d_R_mergeAt_101 rfl ?_
                  refine xa_aload_n G (i := 0) d_R_mergeAt_103 rfl rfl ?_
                  refine xa_aload_n G (i := 0) d_R_mergeAt_104 rfl rfl ?_
                  refine xr_gK G K d_R_mergeAt_105 ?_
                  refine xa_iload G d_R_mergeAt_108 rfl ?_
                  refine xa_iload G d_R_mergeAt_110 rfl ?_
                  refine xa_subN G d_R_mergeAt_112 (by omega) ?_
                  refine xa_iconst G (v := nI 1) d_R_mergeAt_113 (by decide +kernel) ?_
                  refine xa_subN G d_R_mergeAt_114 (by omega) ?_
                  first | refine xr_ldK G K d_R_mergeAt_115 ?_ ?_ | refine xr_ldT G K d_R_mergeAt_115 ?_ ?_
                  · omega
                  refine xa_aload_n G (i := 0) d_R_mergeAt_116 rfl rfl ?_
                  refine xr_gK G K d_R_mergeAt_117 ?_
                  refine xa_iload G d_R_mergeAt_120 rfl ?_
                  first | refine xr_ldK G K d_R_mergeAt_122 ?_ ?_ | refine xr_ldT G K d_R_mergeAt_122 ?_ ?_
                  · omega
                  refine xr_calli G K k_R_70 (c_R_compare (xl Γ) ho _ _) (by omega) (by decide) rfl rfl (Nat.le_of_ble_eq_true rfl) d_R_mergeAt_123 (fun v n' o' c' w' ms' f' hu => ?_)
                  obtain ⟨hv, rfl, rfl, rfl, rfl, rfl, rfl⟩ := hu
                  generalize hat : (lw + hg) / 2 = at1 at hv ⊢
                  refine xa_cge G hv (tgt := 136) d_R_mergeAt_126 (by decide) (fun h10 => ?_) (fun h10 => ?_)
                  · refine xa_iload G d_R_mergeAt_136 rfl ?_
                    refine xa_iconst G (v := nI 1) d_R_mergeAt_138 (by decide +kernel) ?_
                    refine xa_addN G d_R_mergeAt_139 ?_
                    refine xa_istore G d_R_mergeAt_140 rfl ?_
                    refine xa_goto G (tgt := 87) d_R_mergeAt_142 (by decide) ?_
                    refine ih (at1 + 1) hg (c1 + 1) _ (by omega) (by omega) q3 (by omega) (by omega) (Or.inr ?_) q7
                    rw [show at1 + 1 - 1 = at1 by omega, show half + mid - (at1 + 1) = half + mid - at1 - 1 by omega]
                    exact h10
                  · refine xa_iload G d_R_mergeAt_129 rfl ?_
                    refine xa_istore G d_R_mergeAt_131 rfl ?_
                    refine xa_goto G (tgt := 142) d_R_mergeAt_133 (by decide) ?_
                    refine xa_goto G (tgt := 87) d_R_mergeAt_142 (by decide) ?_
                    exact ih lw at1 (c1 + 1) _ q1 (by omega) (by omega) (by omega) (by omega) q6 (Or.inr h10)
            exact loop (d + 1) lw0 hg0 c none (by omega) (by omega) (by omega) (by omega) (by omega) (Or.inl rfl) (Or.inl rfl)
          refine xa_iload_n G (i := 2) d_R_mergeAt_57 rfl rfl ?_
          refine xa_iload G d_R_mergeAt_58 rfl ?_
          refine xa_leN G (tgt := 70) d_R_mergeAt_60 (by decide) (by omega) (by omega) (fun h8 => ?_) (fun h8 => ?_)
          · refine xa_iload_n G (i := 1) d_R_mergeAt_70 rfl rfl ?_
            refine xa_istore G d_R_mergeAt_71 rfl ?_
            refine xa_iload_n G (i := 2) d_R_mergeAt_73 rfl rfl ?_
            refine xa_iload G d_R_mergeAt_74 rfl ?_
            refine xa_leN G (tgt := 84) d_R_mergeAt_76 (by decide) (by omega) (by omega) (fun h9 => ?_) (fun h9 => ?_)
            · refine xa_iload_n G (i := 2) d_R_mergeAt_84 rfl rfl ?_
              refine xa_istore G d_R_mergeAt_85 rfl ?_
              exact main lo mid (Or.inr ⟨h8, rfl, rfl⟩)
            · omega
          · refine xa_iload G d_R_mergeAt_63 rfl ?_
            refine xa_iload_n G (i := 3) d_R_mergeAt_65 rfl rfl ?_
            refine xa_subN G d_R_mergeAt_66 (by omega) ?_
            refine xa_goto G (tgt := 71) d_R_mergeAt_67 (by decide) ?_
            refine xa_istore G d_R_mergeAt_71 rfl ?_
            refine xa_iload_n G (i := 2) d_R_mergeAt_73 rfl rfl ?_
            refine xa_iload G d_R_mergeAt_74 rfl ?_
            refine xa_leN G (tgt := 84) d_R_mergeAt_76 (by decide) (by omega) (by omega) (fun h9 => ?_) (fun h9 => ?_)
            · omega
            · refine xa_iload G d_R_mergeAt_79 rfl ?_
              refine xa_goto G (tgt := 85) d_R_mergeAt_81 (by decide) ?_
              refine xa_istore G d_R_mergeAt_85 rfl ?_
              exact main (half + mid - hi) half (Or.inl ⟨h8, rfl, rfl⟩)
        · obtain rfl : mid = lo + 1 := by omega
          obtain rfl : hi = lo + 2 := by omega
          refine xa_aload_n G (i := 0) d_R_mergeAt_18 rfl rfl ?_
          refine xa_aload_n G (i := 0) d_R_mergeAt_19 rfl rfl ?_
          refine xr_gK G K d_R_mergeAt_20 ?_
          refine xa_iload_n G (i := 2) d_R_mergeAt_23 rfl rfl ?_
          first | refine xr_ldK G K d_R_mergeAt_24 ?_ ?_ | refine xr_ldT G K d_R_mergeAt_24 ?_ ?_
          · omega
          refine xa_aload_n G (i := 0) d_R_mergeAt_25 rfl rfl ?_
          refine xr_gK G K d_R_mergeAt_26 ?_
          refine xa_iload_n G (i := 1) d_R_mergeAt_29 rfl rfl ?_
          first | refine xr_ldK G K d_R_mergeAt_30 ?_ ?_ | refine xr_ldT G K d_R_mergeAt_30 ?_ ?_
          · omega
          refine xr_calli G K k_R_70 (c_R_compare (xl Γ) ho _ _) (by omega) (by decide) rfl rfl (Nat.le_of_ble_eq_true rfl) d_R_mergeAt_31 (fun v n' o' c' w' ms' f' hu => ?_)
          obtain ⟨hv, rfl, rfl, rfl, rfl, rfl, rfl⟩ := hu
          have e2 : (d + 1) * (lo + 2 - lo) = d * (lo + 2 - lo) + (lo + 2 - lo) := Nat.succ_mul _ _
          refine xa_cge G hv (tgt := 43) d_R_mergeAt_34 (by decide) (fun h10 => ?_) (fun h10 => ?_)
          · refine rt _ _ _ _ _ _ _ _ d_R_mergeAt_43 ⟨rfl, rfl, rfl, xPm.rf, ?_, by omega, by omega⟩
            intro i j g1 g2 g3
            obtain rfl : i = lo := by omega
            obtain rfl : j = i + 1 := by omega
            exact h10
          · refine xa_aload_n G (i := 0) d_R_mergeAt_37 rfl rfl ?_
            refine xa_iload_n G (i := 1) d_R_mergeAt_38 rfl rfl ?_
            refine xa_iload_n G (i := 2) d_R_mergeAt_39 rfl rfl ?_
            refine xr_callv G K k_R_48 (c_R_swap (xl Γ) (i := lo) (j := lo + 1) (by omega) (by omega)) (by omega) (by decide) rfl rfl (Nat.le_of_ble_eq_true rfl) d_R_mergeAt_40 (fun n' o' c' w' ms' f' hu => ?_)
            obtain ⟨rfl, rfl, rfl, rfl, rfl, rfl⟩ := hu
            rw [xsw_rot]
            have hlt : xkx o (f (lo + 1)) < xkx o (f lo) := h10
            refine rt _ _ _ _ _ _ _ _ d_R_mergeAt_43 ⟨rfl, rfl, rfl, xPm.rot (by omega) (by omega) (fun i j g1 g2 g3 g4 => ?_), ?_, by omega, by omega⟩
            · obtain rfl : i = lo := by omega
              obtain rfl : j = i + 1 := by omega
              exact hlt
            · intro i j g1 g2 g3
              obtain rfl : i = lo := by omega
              obtain rfl : j = i + 1 := by omega
              rw [(xrt_at (i := i)).1 (by omega) (by omega) (by omega) (by omega), (xrt_at (i := i + 1)).2.1 (by omega) (by omega) (by omega) (by omega), show i - i + (i + 1) = i + 1 by omega, show i + 1 - (i + 2 - (i + 1)) = i by omega]
              omega
      · exact rt _ _ _ _ _ _ _ _ d_R_mergeAt_10 ⟨rfl, rfl, rfl, xPm.rf, by rw [← h6]; exact sA, by omega, by omega⟩
end
section
/-! RowPress: sortAt, splitAt -/
def xBk (κ : xE → Int) (lo hi L : Nat) (f : Nat → xE) : Prop := ∀ s, xSo κ (lo + L * s) (min (lo + L * s + L) hi) f
set_option maxHeartbeats 2000000 in
/-- one level: blocks of L become blocks of 2 L -/
theorem c_R_sortAt (l : Launch) {n o c w ms : Nat} {f : Nat → xE} (ho : o < 4) {lo hi : Nat} (h1 : lo ≤ hi) (h2 : hi ≤ 500) : xr_Mv l y_R_sortAt b_R_sortAt 5 14 [.int (nI lo), .int (nI hi)] n o c w ms f (fun n' o' c' w' ms' f' => n = n' ∧ o = o' ∧ ms = ms' ∧ xPm (xkx o) lo hi f f' ∧ xSo (xkx o) lo hi f' ∧ ∃ T, (T = 0 ∨ 2 ^ (2 + T) < hi - lo) ∧ c' ≤ c + 3 * (hi - lo) + 4 * ((hi - lo) * T) ∧ w' ≤ w + 16 * (hi - lo) + 18 * ((hi - lo) * T)) := by
  refine xr_Mv.of [some (.int (nI lo)), some (.int (nI hi)), none, none] (by decide +kernel) rfl rfl rfl ?_
  intro Γ a cI cO G K rt
  have G : xa_G Γ "RowPress" b_R_sortAt 14 := G
  obtain ⟨N, hN⟩ : ∃ N, N = hi - lo := ⟨_, rfl⟩
  rw [← hN] at rt
  -- a level's merges
  have inner : ∀ (d L : Nat), L = 2 ^ d → d ≤ 8 → L < N → ∀ (c1 w1 : Nat), (∀ (c2 w2 : Nat) (f2 : Nat → xE) (z : Option Value), xPm (xkx o) lo hi f f2 → xBk (xkx o) lo hi (2 * L) f2 → c2 ≤ c1 + 4 * N → w2 ≤ w1 + 18 * N → xa_At Γ (xw a cI cO n o c2 w2 ms f2) 78 [some (.ref (a 0)), some (.int (nI lo)), some (.int (nI hi)), some (.int (nI L)), z] []) → ∀ (t u c2 w2 : Nat) (f2 : Nat → xE), lo + 2 * (L * u) + t = hi + 2 * L → 0 < t → xPm (xkx o) lo hi f f2 → (∀ s, s < u → xSo (xkx o) (lo + 2 * (L * s)) (min (lo + 2 * (L * s) + 2 * L) hi) f2) → (∀ s, 2 * u ≤ s → xSo (xkx o) (lo + L * s) (min (lo + L * s + L) hi) f2) → c2 ≤ c1 + 4 * (min (lo + 2 * (L * u)) hi - lo) → w2 ≤ w1 + 18 * (min (lo + 2 * (L * u)) hi - lo) → xa_At Γ (xw a cI cO n o c2 w2 ms f2) 39 [some (.ref (a 0)), some (.int (nI lo)), some (.int (nI hi)), some (.int (nI L)), some (.int (nI (lo + 2 * (L * u))))] [] := by
    intro d L hL hd hLN c1 w1 out t
    have hL0 : 0 < L := by rw [hL]; exact Nat.two_pow_pos d
    have hL9 : 2 * L = 2 ^ (d + 1) := by rw [hL, Nat.pow_succ']
    induction t using Nat.strongRecOn with
    | _ t ih =>
      intro u c2 w2 f2 q1 q2 q3 q4 q5 q6 q7
      have e0 : L * (2 * u) = 2 * (L * u) := by rw [Nat.mul_left_comm]
      have e1 : L * (2 * u + 1) = 2 * (L * u) + L := by rw [Nat.mul_succ, e0]
      have e2 : L * (u + 1) = L * u + L := Nat.mul_succ _ _
      generalize hk : lo + 2 * (L * u) = k at q1 q6 q7 ⊢
      refine xa_iload G d_R_sortAt_39 rfl ?_
      refine xa_iload_n G (i := 3) d_R_sortAt_41 rfl rfl ?_
      refine xa_addN G d_R_sortAt_42 ?_
      refine xa_iload_n G (i := 2) d_R_sortAt_43 rfl rfl ?_
      refine xa_geN G (tgt := 78) d_R_sortAt_44 (by decide) (by omega) (by omega) (fun h3 => ?_) (fun h3 => ?_)
      · refine out c2 w2 f2 _ q3 (fun s => ?_) (by omega) (by omega)
        have e3 : 2 * L * s = 2 * (L * s) := Nat.mul_assoc _ _ _
        rcases Nat.lt_or_ge s u with g | g
        · rw [e3]; exact q4 s g
        · rcases Nat.eq_or_lt_of_le g with g1 | g1
          · subst g1
            rw [e3]
            have := q5 (2 * u) (Nat.le_refl _)
            rw [e0, hk] at this
            rw [hk]
            exact this.sub (Nat.le_refl _) (by omega)
          · have e4 : L * (u + 1) ≤ L * s := Nat.mul_le_mul_left L g1
            intro i j g2 g3 g4
            omega
      · refine xa_aload_n G (i := 0) d_R_sortAt_47 rfl rfl ?_
        refine xa_iload G d_R_sortAt_48 rfl ?_
        refine xa_iload G d_R_sortAt_50 rfl ?_
        refine xa_iload_n G (i := 3) d_R_sortAt_52 rfl rfl ?_
        refine xa_addN G d_R_sortAt_53 ?_
        refine xa_iload G d_R_sortAt_54 rfl ?_
        refine xa_iconst G (v := nI 2) d_R_sortAt_56 (by decide +kernel) ?_
        refine xa_iload_n G (i := 3) d_R_sortAt_57 rfl rfl ?_
        refine xa_mulN G d_R_sortAt_58 ?_
        refine xa_addN G d_R_sortAt_59 ?_
        refine xa_iload_n G (i := 2) d_R_sortAt_60 rfl rfl ?_
        refine xr_min G (by omega) (by omega) (by omega) (Nat.le_of_ble_eq_true rfl) d_R_sortAt_61 ?_
        have b1 := q5 (2 * u) (Nat.le_refl _)
        have b2 := q5 (2 * u + 1) (by omega)
        rw [e0, hk] at b1
        rw [e1, ← Nat.add_assoc, hk] at b2
        generalize hE : min (k + 2 * L) hi = E at b1 b2 ⊢
        refine xr_callv G K k_R_78 (c_R_mergeAt (d + 1) (xl Γ) ho (lo := k) (mid := k + L) (hi := E) (by omega) (by omega) (by omega) (by omega) (b1.sub (Nat.le_refl _) (by omega)) (b2.sub (Nat.le_refl _) (by omega))) (by omega) (by decide) rfl rfl (Nat.le_of_ble_eq_true rfl) d_R_sortAt_64 (fun n' o' c' w' ms' f' hu => ?_)
        obtain ⟨rfl, rfl, rfl, u1, u2, u3, u4⟩ := hu
        have e5 : (d + 1) * (E - k) ≤ 9 * (E - k) := Nat.mul_le_mul_right _ (by omega)
        have e6 : 2 ^ (d + 1 + 1) = 2 * 2 ^ (d + 1) := Nat.pow_succ'
        refine xa_iload G d_R_sortAt_67 rfl ?_
        refine xa_iconst G (v := nI 2) d_R_sortAt_69 (by decide +kernel) ?_
        refine xa_iload_n G (i := 3) d_R_sortAt_70 rfl rfl ?_
        refine xa_mulN G d_R_sortAt_71 ?_
        refine xa_addN G d_R_sortAt_72 ?_
        refine xa_istore G d_R_sortAt_73 rfl ?_
        refine xa_goto G (tgt := 39) d_R_sortAt_75 (by decide) ?_
        rw [show k + 2 * L = lo + 2 * (L * (u + 1)) by omega]
        refine ih (t - 2 * L) (by omega) (u + 1) _ _ _ (by omega) (by omega) (q3.tr (u1.mono (by omega) (by omega))) (fun s g => ?_) (fun s g => ?_) (by omega) (by omega)
        · rcases Nat.lt_or_ge s u with g1 | g1
          · have e7 : L * (s + 1) ≤ L * u := Nat.mul_le_mul_left L g1
            have e8 : L * (s + 1) = L * s + L := Nat.mul_succ _ _
            exact (q4 s g1).eqv (fun i g2 g3 => u1.out (by omega))
          · obtain rfl : s = u := by omega
            rw [hk, hE]
            exact u2
        · have e7 : L * (2 * u + 1 + 1) ≤ L * s := Nat.mul_le_mul_left L (by omega)
          have e8 : L * (2 * u + 1 + 1) = L * (2 * u + 1) + L := Nat.mul_succ _ _
          exact (q5 s (by omega)).eqv (fun i g2 g3 => u1.out (by omega))
  -- the levels
  have level : ∀ (m T c1 w1 : Nat) (f1 : Nat → xE) (z : Option Value), T + m = 7 → (T = 0 ∨ 2 ^ (2 + T) < N) → xPm (xkx o) lo hi f f1 → xBk (xkx o) lo hi (2 ^ (3 + T)) f1 → c1 ≤ c + 3 * N + 4 * (N * T) → w1 ≤ w + 16 * N + 18 * (N * T) → xa_At Γ (xw a cI cO n o c1 w1 ms f1) 29 [some (.ref (a 0)), some (.int (nI lo)), some (.int (nI hi)), some (.int (nI (2 ^ (3 + T)))), z] [] := by
    intro m
    induction m with
    | zero =>
      intro T c1 w1 f1 z q1 q2 q3 q4 q5 q6
      obtain rfl : T = 7 := by omega
      rcases q2 with q2 | q2
      · omega
      · have : 2 ^ (2 + 7) = 512 := by decide
        omega
    | succ m ih =>
      intro T c1 w1 f1 z q1 q2 q3 q4 q5 q6
      have hT : 2 ^ (3 + T) ≤ 2 ^ 9 := Nat.pow_le_pow_right (by decide) (by omega)
      have h512 : (2 : Nat) ^ 9 = 512 := by decide
      have hpos : 0 < 2 ^ (3 + T) := Nat.two_pow_pos _
      have hT1 : 2 ^ (3 + (T + 1)) = 2 ^ (3 + T) * 2 := Nat.pow_succ 2 (3 + T)
      have hT2 : 2 ^ (2 + (T + 1)) = 2 ^ (3 + T) := by congr 1; omega
      have hNT : N * (T + 1) = N * T + N := Nat.mul_succ _ _
      generalize hL : 2 ^ (3 + T) = L at hT hpos hT1 hT2 q4 ⊢
      refine xa_iload_n G (i := 3) d_R_sortAt_29 rfl rfl ?_
      refine xa_iload_n G (i := 2) d_R_sortAt_30 rfl rfl ?_
      refine xa_iload_n G (i := 1) d_R_sortAt_31 rfl rfl ?_
      refine xa_subN G d_R_sortAt_32 (by omega) ?_
      rw [← hN]
      refine xa_geN G (tgt := 85) d_R_sortAt_33 (by decide) (by omega) (by omega) (fun h3 => ?_) (fun h3 => ?_)
      · refine rt _ _ _ _ _ _ _ _ d_R_sortAt_85 ⟨rfl, rfl, rfl, q3, ?_, T, q2, q5, q6⟩
        have := q4 0
        rw [Nat.mul_zero, Nat.add_zero] at this
        exact this.sub (Nat.le_refl _) (by omega)
      · have hT5 : 3 + T ≤ 8 := by
          rcases Nat.lt_or_ge T 6 with g | g
          · omega
          · obtain rfl : T = 6 := by omega
            have : (2 : Nat) ^ (3 + 6) = 512 := by decide
            omega
        refine xa_iload_n G (i := 1) d_R_sortAt_36 rfl rfl ?_
        refine xa_istore G d_R_sortAt_37 rfl ?_
        refine xa_eq (inner (3 + T) L hL.symm hT5 h3 c1 w1 (fun c2 w2 f2 z2 g1 g2 g3 g4 => ?_) (hi + 2 * L - lo) 0 c1 w1 f1 (by omega) (by omega) q3 (fun s g => absurd g (Nat.not_lt_zero s)) (fun s _ => q4 s) (by omega) (by omega)) rfl rfl rfl
        refine xa_iload_n G (i := 3) d_R_sortAt_78 rfl rfl ?_
        refine xa_iconst G (v := nI 2) d_R_sortAt_79 (by decide +kernel) ?_
        refine xa_mulN G d_R_sortAt_80 ?_
        refine xa_istore_n G (i := 3) d_R_sortAt_81 rfl rfl ?_
        refine xa_goto G (tgt := 29) d_R_sortAt_82 (by decide) ?_
        have h5 := ih (T + 1) c2 w2 f2 z2 (by omega) (Or.inr (by omega)) g1 (by rw [hT1, Nat.mul_comm]; exact g2) (by omega) (by omega)
        rw [hT1] at h5
        exact h5
  -- the short ones
  have short : ∀ (t u c1 w1 : Nat) (f1 : Nat → xE), lo + 8 * u + t = hi + 8 → 0 < t → xPm (xkx o) lo hi f f1 → (∀ s, s < u → xSo (xkx o) (lo + 8 * s) (min (lo + 8 * s + 8) hi) f1) → c1 ≤ c + 3 * (min (lo + 8 * u) hi - lo) → w1 ≤ w + 16 * (min (lo + 8 * u) hi - lo) → xa_At Γ (xw a cI cO n o c1 w1 ms f1) 2 [some (.ref (a 0)), some (.int (nI lo)), some (.int (nI hi)), some (.int (nI (lo + 8 * u))), none] [] := by
    intro t
    induction t using Nat.strongRecOn with
    | _ t ih =>
      intro u c1 w1 f1 q1 q2 q3 q4 q5 q6
      refine xa_iload_n G (i := 3) d_R_sortAt_2 rfl rfl ?_
      refine xa_iload_n G (i := 2) d_R_sortAt_3 rfl rfl ?_
      refine xa_geN G (tgt := 26) d_R_sortAt_4 (by decide) (by omega) (by omega) (fun h3 => ?_) (fun h3 => ?_)
      · refine xa_bipush G (v := nI 8) d_R_sortAt_26 (by decide +kernel) ?_
        refine xa_istore_n G (i := 3) d_R_sortAt_28 rfl rfl ?_
        refine xa_eq (level 7 0 c1 w1 f1 none rfl (Or.inl rfl) q3 (fun s => ?_) (by omega) (by omega)) rfl rfl rfl
        show xSo (xkx o) (lo + 8 * s) (min (lo + 8 * s + 8) hi) f1
        rcases Nat.lt_or_ge s u with g | g
        · exact q4 s g
        · intro i j g1 g2 g3
          omega
      · refine xa_aload_n G (i := 0) d_R_sortAt_7 rfl rfl ?_
        refine xa_iload_n G (i := 3) d_R_sortAt_8 rfl rfl ?_
        refine xa_iload_n G (i := 3) d_R_sortAt_9 rfl rfl ?_
        refine xa_bipush G (v := nI 8) d_R_sortAt_10 (by decide +kernel) ?_
        refine xa_addN G d_R_sortAt_12 ?_
        refine xa_iload_n G (i := 2) d_R_sortAt_13 rfl rfl ?_
        refine xr_min G (by omega) (by omega) (by omega) (Nat.le_of_ble_eq_true rfl) d_R_sortAt_14 ?_
        generalize hE : min (lo + 8 * u + 8) hi = E
        refine xr_callv G K k_R_86 (c_R_sortShort (xl Γ) ho (lo := lo + 8 * u) (hi := E) (by omega) (by omega) (by omega)) (by omega) (by decide) rfl rfl (Nat.le_of_ble_eq_true rfl) d_R_sortAt_17 (fun n' o' c' w' ms' f' hu => ?_)
        obtain ⟨rfl, rfl, rfl, u1, u2, u3, u4⟩ := hu
        refine xa_iinc G d_R_sortAt_20 rfl rfl (xi_8 _) ?_
        refine xa_goto G (tgt := 2) d_R_sortAt_23 (by decide) ?_
        rw [show lo + 8 * u + 8 = lo + 8 * (u + 1) by omega]
        refine ih (t - 8) (by omega) (u + 1) _ _ _ (by omega) (by omega) (q3.tr (u1.mono (by omega) (by omega))) (fun s g => ?_) (by omega) (by omega)
        rcases Nat.lt_or_ge s u with g1 | g1
        · exact (q4 s g1).eqv (fun i g2 g3 => u1.out (by omega))
        · obtain rfl : s = u := by omega
          rw [hE]
          exact u2
  refine xa_iload_n G (i := 1) d_R_sortAt_0 rfl rfl ?_
  refine xa_istore_n G (i := 3) d_R_sortAt_1 rfl rfl ?_
  exact short (hi + 8 - lo) 0 c w f (by omega) (by omega) xPm.rf (fun s g => absurd g (Nat.not_lt_zero s)) (by omega) (by omega)
def xk2 (o : Nat) (key : Int32) (e : xE) : Int := if xK o e.1 < xK o key then 0 else 1
set_option maxHeartbeats 2000000 in
theorem c_R_splitAt (d : Nat) : ∀ (l : Launch) {n o c w ms : Nat} {f : Nat → xE} (_ : o < 4) {lo hi : Nat} {key : Int32} (_ : lo ≤ hi) (_ : hi ≤ 500) (_ : hi - lo ≤ 2 ^ d), xr_Mi l y_R_splitAt b_R_splitAt 7 (some .int) (d + 3) [.int (nI lo), .int (nI hi), .int key] n o c w ms f (fun v n' o' c' w' ms' f' => (∃ p, v = nI p ∧ lo ≤ p ∧ p ≤ hi ∧ (∀ i, lo ≤ i → i < p → xk2 o key (f' i) = 0) ∧ (∀ i, p ≤ i → i < hi → xk2 o key (f' i) = 1)) ∧ n = n' ∧ o = o' ∧ c = c' ∧ ms = ms' ∧ xPm (xk2 o key) lo hi f f') := by
  induction d with
  | zero =>
    intro l n o c w ms f ho lo hi key h1 h2 h4
    refine xr_Mi.of [some (.int (nI lo)), some (.int (nI hi)), some (.int key), none, none, none] (by decide +kernel) rfl rfl rfl ?_
    intro Γ a cI cO G K rt
    have G : xa_G Γ "RowPress" b_R_splitAt (0 + 3) := G
    refine xa_iload_n G (i := 1) d_R_splitAt_0 rfl rfl ?_
    refine xa_iload_n G (i := 2) d_R_splitAt_1 rfl rfl ?_
    refine xa_neN G (tgt := 7) d_R_splitAt_2 (by decide) (by omega) (by omega) (fun h5 => ?_) (fun h5 => ?_)
    · obtain rfl : hi = lo + 1 := by omega
      refine xa_iload_n G (i := 1) d_R_splitAt_7 rfl rfl ?_
      refine xa_iconst G (v := nI 1) d_R_splitAt_8 (by decide +kernel) ?_
      refine xa_addN G d_R_splitAt_9 ?_
      refine xa_iload_n G (i := 2) d_R_splitAt_10 rfl rfl ?_
      refine xa_neN G (tgt := 37) d_R_splitAt_11 (by decide) (by omega) (by omega) (fun h6 => ?_) (fun h6 => ?_)
      · omega
      · refine xa_aload_n G (i := 0) d_R_splitAt_14 rfl rfl ?_
        refine xr_go G K d_R_splitAt_15 ?_
        refine xa_aload_n G (i := 0) d_R_splitAt_18 rfl rfl ?_
        refine xr_gK G K d_R_splitAt_19 ?_
        refine xa_iload_n G (i := 1) d_R_splitAt_22 rfl rfl ?_
        first | refine xr_ldK G K d_R_splitAt_23 ?_ ?_ | refine xr_ldT G K d_R_splitAt_23 ?_ ?_
        · omega
        refine xa_iload_n G (i := 3) d_R_splitAt_24 rfl rfl ?_
        refine xr_cmp G K (by omega) (by omega) (Nat.le_of_ble_eq_true rfl) d_R_splitAt_25 (fun v hv => ?_)
        refine xa_cge G hv (tgt := 35) d_R_splitAt_28 (by decide) (fun h10 => ?_) (fun h10 => ?_)
        · refine xa_iload_n G (i := 1) d_R_splitAt_35 rfl rfl ?_
          refine rt _ _ _ _ _ _ _ _ _ d_R_splitAt_36 rfl ⟨⟨lo, rfl, by omega, by omega, fun i g1 g2 => by omega, fun i g1 g2 => ?_⟩, rfl, rfl, rfl, rfl, xPm.rf⟩
          obtain rfl : i = lo := by omega
          unfold xk2
          rw [if_neg (by omega)]
        · refine xa_iload_n G (i := 2) d_R_splitAt_31 rfl rfl ?_
          refine xa_goto G (tgt := 36) d_R_splitAt_32 (by decide) ?_
          refine rt _ _ _ _ _ _ _ _ _ d_R_splitAt_36 rfl ⟨⟨lo + 1, rfl, by omega, by omega, fun i g1 g2 => ?_, fun i g1 g2 => by omega⟩, rfl, rfl, rfl, rfl, xPm.rf⟩
          obtain rfl : i = lo := by omega
          unfold xk2
          rw [if_pos h10]
    · subst h5
      refine xa_iload_n G (i := 1) d_R_splitAt_5 rfl rfl ?_
      exact rt _ _ _ _ _ _ _ _ _ d_R_splitAt_6 rfl ⟨⟨lo, rfl, by omega, by omega, fun i g1 g2 => by omega, fun i g1 g2 => by omega⟩, rfl, rfl, rfl, rfl, xPm.rf⟩
  | succ d IH =>
    intro l n o c w ms f ho lo hi key h1 h2 h4
    have p2 : 2 ^ (d + 1) = 2 * 2 ^ d := Nat.pow_succ'
    refine xr_Mi.of [some (.int (nI lo)), some (.int (nI hi)), some (.int key), none, none, none] (by decide +kernel) rfl rfl rfl ?_
    intro Γ a cI cO G K rt
    have G : xa_G Γ "RowPress" b_R_splitAt (d + 1 + 3) := G
    refine xa_iload_n G (i := 1) d_R_splitAt_0 rfl rfl ?_
    refine xa_iload_n G (i := 2) d_R_splitAt_1 rfl rfl ?_
    refine xa_neN G (tgt := 7) d_R_splitAt_2 (by decide) (by omega) (by omega) (fun h5 => ?_) (fun h5 => ?_)
    · refine xa_iload_n G (i := 1) d_R_splitAt_7 rfl rfl ?_
      refine xa_iconst G (v := nI 1) d_R_splitAt_8 (by decide +kernel) ?_
      refine xa_addN G d_R_splitAt_9 ?_
      refine xa_iload_n G (i := 2) d_R_splitAt_10 rfl rfl ?_
      refine xa_neN G (tgt := 37) d_R_splitAt_11 (by decide) (by omega) (by omega) (fun h6 => ?_) (fun h6 => ?_)
      · refine xa_iload_n G (i := 1) d_R_splitAt_37 rfl rfl ?_
        refine xa_iload_n G (i := 2) d_R_splitAt_38 rfl rfl ?_
        refine xa_addN G d_R_splitAt_39 ?_
        refine xa_iconst G (v := nI 1) d_R_splitAt_40 (by decide +kernel) ?_
        refine xa_shrN G d_R_splitAt_41 (by omega) ?_
        refine xa_istore G d_R_splitAt_42 rfl ?_
        generalize hmid : (lo + hi) / 2 = mid
        refine xa_aload_n G (i := 0) d_R_splitAt_44 rfl rfl ?_
        refine xa_iload_n G (i := 1) d_R_splitAt_45 rfl rfl ?_
        refine xa_iload G d_R_splitAt_46 rfl ?_
        refine xa_iload_n G (i := 3) d_R_splitAt_48 rfl rfl ?_
        refine xr_calli G K k_R_106 (IH (xl Γ) ho (lo := lo) (hi := mid) (key := key) (by omega) (by omega) (by omega)) (by omega) (by decide) rfl rfl (Nat.le_of_ble_eq_true rfl) d_R_splitAt_49 (fun v n' o' c' w1 ms' f1 hu => ?_)
        obtain ⟨⟨p1, rfl, a1, a2, a3, a4⟩, rfl, rfl, rfl, rfl, a5⟩ := hu
        refine xa_istore G d_R_splitAt_52 rfl ?_
        refine xa_aload_n G (i := 0) d_R_splitAt_54 rfl rfl ?_
        refine xa_iload G d_R_splitAt_55 rfl ?_
        refine xa_iload_n G (i := 2) d_R_splitAt_57 rfl rfl ?_
        refine xa_iload_n G (i := 3) d_R_splitAt_58 rfl rfl ?_
        refine xr_calli G K k_R_106 (IH (xl Γ) ho (lo := mid) (hi := hi) (key := key) (by omega) (by omega) (by omega)) (by omega) (by decide) rfl rfl (Nat.le_of_ble_eq_true rfl) d_R_splitAt_59 (fun v n' o' c' w2 ms' f2 hu => ?_)
        obtain ⟨⟨p2', rfl, b1, b2, b3, b4⟩, rfl, rfl, rfl, rfl, b5⟩ := hu
        refine xa_istore G d_R_splitAt_62 rfl ?_
        refine xa_aload_n G (i := 0) d_R_splitAt_64 rfl rfl ?_
        refine xa_iload G d_R_splitAt_65 rfl ?_
        refine xa_iload G d_R_splitAt_67 rfl ?_
        refine xa_iload G d_R_splitAt_69 rfl ?_
        refine xr_callv G K k_R_59 (c_R_bring (xl Γ) (lo := p1) (mid := mid) (hi := p2') (by omega) (by omega) (by omega)) (by omega) (by decide) rfl rfl (Nat.le_of_ble_eq_true rfl) d_R_splitAt_71 (fun n' o' c' w' ms' f' hu => ?_)
        obtain ⟨rfl, rfl, rfl, hw, rfl, rfl⟩ := hu
        have r0 : ∀ i, ¬ (mid ≤ i ∧ i < hi) → f2 i = f1 i := fun i g => b5.out g
        refine xa_iload G d_R_splitAt_74 rfl ?_
        refine xa_iload G d_R_splitAt_76 rfl ?_
        refine xa_addN G d_R_splitAt_78 ?_
        refine xa_iload G d_R_splitAt_79 rfl ?_
        refine xa_subN G d_R_splitAt_81 (by omega) ?_
        refine rt _ _ _ _ _ _ _ _ _ d_R_splitAt_82 rfl ⟨⟨p1 + p2' - mid, rfl, by omega, by omega, fun i g1 g2 => ?_, fun i g1 g2 => ?_⟩, rfl, rfl, rfl, rfl, ?_⟩
        · rcases Nat.lt_or_ge i p1 with g | g
          · rw [(xrt_at (i := i)).2.2 (by omega), r0 i (by omega)]
            exact a3 i g1 g
          · rw [(xrt_at (i := i)).1 g (by omega) a2 b1]
            exact b3 _ (by omega) (by omega)
        · rcases Nat.lt_or_ge i p2' with g | g
          · rw [(xrt_at (i := i)).2.1 (by omega) g a2 b1, r0 _ (by omega)]
            exact a4 _ (by omega) (by omega)
          · rw [(xrt_at (i := i)).2.2 (by omega)]
            exact b4 i g g2
        · refine (a5.mono (Nat.le_refl _) (by omega)).tr ((b5.mono (by omega) (Nat.le_refl _)).tr ((xPm.rot a2 b1 (fun i j g1 g2 g3 g4 => ?_)).mono (by omega) (by omega)))
          rw [b3 j g3 g4, r0 i (by omega), a4 i g1 g2]
          decide
      · obtain rfl : hi = lo + 1 := by omega
        refine xa_aload_n G (i := 0) d_R_splitAt_14 rfl rfl ?_
        refine xr_go G K d_R_splitAt_15 ?_
        refine xa_aload_n G (i := 0) d_R_splitAt_18 rfl rfl ?_
        refine xr_gK G K d_R_splitAt_19 ?_
        refine xa_iload_n G (i := 1) d_R_splitAt_22 rfl rfl ?_
        first | refine xr_ldK G K d_R_splitAt_23 ?_ ?_ | refine xr_ldT G K d_R_splitAt_23 ?_ ?_
        · omega
        refine xa_iload_n G (i := 3) d_R_splitAt_24 rfl rfl ?_
        refine xr_cmp G K (by omega) (by omega) (Nat.le_of_ble_eq_true rfl) d_R_splitAt_25 (fun v hv => ?_)
        refine xa_cge G hv (tgt := 35) d_R_splitAt_28 (by decide) (fun h10 => ?_) (fun h10 => ?_)
        · refine xa_iload_n G (i := 1) d_R_splitAt_35 rfl rfl ?_
          refine rt _ _ _ _ _ _ _ _ _ d_R_splitAt_36 rfl ⟨⟨lo, rfl, by omega, by omega, fun i g1 g2 => by omega, fun i g1 g2 => ?_⟩, rfl, rfl, rfl, rfl, xPm.rf⟩
          obtain rfl : i = lo := by omega
          unfold xk2
          rw [if_neg (by omega)]
        · refine xa_iload_n G (i := 2) d_R_splitAt_31 rfl rfl ?_
          refine xa_goto G (tgt := 36) d_R_splitAt_32 (by decide) ?_
          refine rt _ _ _ _ _ _ _ _ _ d_R_splitAt_36 rfl ⟨⟨lo + 1, rfl, by omega, by omega, fun i g1 g2 => ?_, fun i g1 g2 => by omega⟩, rfl, rfl, rfl, rfl, xPm.rf⟩
          obtain rfl : i = lo := by omega
          unfold xk2
          rw [if_pos h10]
    · subst h5
      refine xa_iload_n G (i := 1) d_R_splitAt_5 rfl rfl ?_
      exact rt _ _ _ _ _ _ _ _ _ d_R_splitAt_6 rfl ⟨⟨lo, rfl, by omega, by omega, fun i g1 g2 => by omega, fun i g1 g2 => by omega⟩, rfl, rfl, rfl, rfl, xPm.rf⟩
end
section
/-! SPECS of the public methods (pure), the meters' law -/
noncomputable def xcnt (P : Nat → Prop) : Nat → Nat
  | 0 => 0
  | k + 1 => xcnt P k + @ite Nat (P k) (Classical.propDecidable _) 1 0
theorem xcnt_1 {P : Nat → Prop} {k : Nat} (h : P k) : xcnt P (k + 1) = xcnt P k + 1 := by
  show xcnt P k + _ = _
  rw [if_pos h]
theorem xcnt_n {P : Nat → Prop} {k : Nat} (h : ¬ P k) : xcnt P (k + 1) = xcnt P k := by
  show xcnt P k + _ = _
  rw [if_neg h]; rfl
theorem xcnt_le (P : Nat → Prop) (k : Nat) : xcnt P k ≤ k := by
  induction k with
  | zero => exact Nat.le_refl _
  | succ k ih =>
    by_cases h : P k
    · rw [xcnt_1 h]; omega
    · rw [xcnt_n h]; omega
theorem xcnt_thr {P : Nat → Prop} {p : Nat} : ∀ n, p ≤ n → (∀ i, i < p → P i) → (∀ i, p ≤ i → i < n → ¬ P i) → xcnt P n = p := by
  intro n
  induction n with
  | zero => intro h _ _; show 0 = p; omega
  | succ n ih =>
    intro h h1 h2
    rcases Nat.eq_or_lt_of_le h with g | g
    · subst g
      have all : ∀ m, m ≤ n + 1 → xcnt P m = m := by
        intro m
        induction m with
        | zero => intro _; rfl
        | succ m ihm => intro hm; rw [xcnt_1 (h1 m (by omega)), ihm (by omega)]
      exact all (n + 1) (Nat.le_refl _)
    · rw [xcnt_n (h2 n (by omega) (by omega)), ih (by omega) h1 (fun i a b => h2 i a (by omega))]
def xup (g : Nat → xE) (m : Nat) (e : xE) : Nat → xE := fun j => if j = m then e else g j
theorem xup_eq (g : Nat → xE) (m k : Nat) : xuT (xuK g m (g k).1) m (xuK g m (g k).1 k).2 = xup g m (g k) := by
  have h : (xuK g m (g k).1 k).2 = (g k).2 := by
    unfold xuK
    by_cases h : k = m
    · rw [if_pos h]
    · rw [if_neg h]
  rw [h, xpt_eq]
  rfl
/-- thin: of each run of alike keys the first is kept -/
noncomputable def xth (κ : xE → Int) (f : Nat → xE) : Nat → Nat × (Nat → xE)
  | 0 => (0, f)
  | k + 1 => @ite _ (k = 0 ∨ κ (f (k - 1)) < κ (f k)) (Classical.propDecidable _) ((xth κ f k).1 + 1, xup (xth κ f k).2 (xth κ f k).1 (f k)) (xth κ f k)
theorem xth_1 {κ : xE → Int} {f : Nat → xE} {k : Nat} (h : k = 0 ∨ κ (f (k - 1)) < κ (f k)) : xth κ f (k + 1) = ((xth κ f k).1 + 1, xup (xth κ f k).2 (xth κ f k).1 (f k)) := if_pos h
theorem xth_n {κ : xE → Int} {f : Nat → xE} {k : Nat} (h : ¬ (k = 0 ∨ κ (f (k - 1)) < κ (f k))) : xth κ f (k + 1) = xth κ f k := if_neg h
theorem xth_inv {κ : xE → Int} {f : Nat → xE} {n : Nat} (s : xSo κ 0 n f) : ∀ k, k ≤ n → (xth κ f k).1 ≤ k ∧ (∀ j, (xth κ f k).1 ≤ j → (xth κ f k).2 j = f j) ∧ (0 < k → 0 < (xth κ f k).1 ∧ κ ((xth κ f k).2 ((xth κ f k).1 - 1)) = κ (f (k - 1))) := by
  intro k
  induction k with
  | zero => intro _; exact ⟨Nat.le_refl _, fun j _ => rfl, fun h => absurd h (Nat.lt_irrefl 0)⟩
  | succ k ih =>
    intro hk
    obtain ⟨i1, i2, i3⟩ := ih (by omega)
    by_cases h : k = 0 ∨ κ (f (k - 1)) < κ (f k)
    · rw [xth_1 h]
      refine ⟨by show (xth κ f k).1 + 1 ≤ k + 1; omega, fun j hj => ?_, fun _ => ⟨Nat.succ_pos _, ?_⟩⟩
      · show xup _ _ _ j = f j
        have hj : (xth κ f k).1 + 1 ≤ j := hj
        unfold xup
        rw [if_neg (by omega)]
        exact i2 j (by omega)
      · show κ (xup _ _ _ ((xth κ f k).1 + 1 - 1)) = κ (f (k + 1 - 1))
        unfold xup
        rw [if_pos (by omega), Nat.add_sub_cancel]
    · rw [xth_n h]
      refine ⟨by omega, i2, fun _ => ?_⟩
      obtain ⟨j1, j2⟩ := i3 (by omega)
      refine ⟨j1, ?_⟩
      rw [j2, Nat.add_sub_cancel]
      have := s (k - 1) k (by omega) (by omega) (by omega)
      omega
-- conditions
def xC2 (n : Nat) (x y : Int32) (i j : Nat) : Prop := i ≤ j ∧ j ≤ n ∧ x = nI i ∧ y = nI j
def xC3 (n : Nat) (x y z : Int32) (i j q : Nat) : Prop := i ≤ j ∧ j ≤ n ∧ x = nI i ∧ y = nI j ∧ q < 4 ∧ z = nI q
def xCm (n : Nat) (x y z : Int32) (i m j : Nat) : Prop := i ≤ m ∧ m ≤ j ∧ j ≤ n ∧ x = nI i ∧ y = nI m ∧ z = nI j
-- specs
def sp_put (n : Nat) (f : Nat → xE) (x y : Int32) (v : Int32) (n' : Nat) (f' : Nat → xE) : Prop := (n = 500 ∧ v = -1 ∧ n = n' ∧ f = f') ∨ (n < 500 ∧ v = nI (n + 1) ∧ n + 1 = n' ∧ xpt f n x y = f')
def sp_run (n : Nat) (f : Nat → xE) (x key step tag : Int32) (v : Int32) (n' : Nat) (f' : Nat → xE) : Prop := ((¬ ∃ k, 1 ≤ k ∧ n + k ≤ 500 ∧ x = nI k) ∧ v = -1 ∧ n = n' ∧ f = f') ∨ (∃ k, 1 ≤ k ∧ n + k ≤ 500 ∧ x = nI k ∧ v = nI (n + k) ∧ n + k = n' ∧ xrn f n k key step tag = f')
def sp_clear (n : Nat) (f : Nat → xE) (v : Int32) (n' : Nat) (f' : Nat → xE) : Prop := v = nI n ∧ 0 = n' ∧ f = f'
def sp_rotate (n : Nat) (f : Nat → xE) (x y z : Int32) (v : Int32) (n' : Nat) (f' : Nat → xE) : Prop := ((¬ ∃ i m j, xCm n x y z i m j) ∧ v = 0 ∧ n = n' ∧ f = f') ∨ ∃ i m j, xCm n x y z i m j ∧ v = 1 ∧ n = n' ∧ xrt f i m j = f'
def sp_turn (n : Nat) (f : Nat → xE) (x y : Int32) (v : Int32) (n' : Nat) (f' : Nat → xE) : Prop := ((¬ ∃ i j, xC2 n x y i j) ∧ v = 0 ∧ n = n' ∧ f = f') ∨ ∃ i j, xC2 n x y i j ∧ v = 1 ∧ n = n' ∧ xrv f i j = f'
def sp_sortPart (n : Nat) (f : Nat → xE) (x y z : Int32) (v : Int32) (n' : Nat) (f' : Nat → xE) : Prop := ((¬ ∃ i j q, xC3 n x y z i j q) ∧ v = 0 ∧ n = n' ∧ f = f') ∨ ∃ i j q, xC3 n x y z i j q ∧ v = 1 ∧ n = n' ∧ xPm (xkx q) i j f f' ∧ xSo (xkx q) i j f'
def sp_merge (n : Nat) (f : Nat → xE) (x y z t : Int32) (v : Int32) (n' : Nat) (f' : Nat → xE) : Prop := ((¬ ∃ i m j q, xCm n x y z i m j ∧ q < 4 ∧ t = nI q ∧ xSo (xkx q) i m f ∧ xSo (xkx q) m j f) ∧ v = 0 ∧ n = n' ∧ f = f') ∨ ∃ i m j q, xCm n x y z i m j ∧ (q < 4 ∧ t = nI q ∧ xSo (xkx q) i m f ∧ xSo (xkx q) m j f) ∧ v = 1 ∧ n = n' ∧ xPm (xkx q) i j f f' ∧ xSo (xkx q) i j f'
def sp_split (n : Nat) (f : Nat → xE) (x y key t : Int32) (v : Int32) (n' : Nat) (f' : Nat → xE) : Prop := ((¬ ∃ i j q, xC3 n x y t i j q) ∧ v = -1 ∧ n = n' ∧ f = f') ∨ ∃ i j q, xC3 n x y t i j q ∧ n = n' ∧ (∃ p, v = nI (p - i) ∧ i ≤ p ∧ p ≤ j ∧ (∀ k, i ≤ k → k < p → xk2 q key (f' k) = 0) ∧ (∀ k, p ≤ k → k < j → xk2 q key (f' k) = 1)) ∧ xPm (xk2 q key) i j f f'
def sp_thin (n : Nat) (f : Nat → xE) (x : Int32) (v : Int32) (n' : Nat) (f' : Nat → xE) : Prop := ((¬ ∃ q, q < 4 ∧ x = nI q ∧ xSo (xkx q) 0 n f) ∧ v = -1 ∧ n = n' ∧ f = f') ∨ ∃ q, (q < 4 ∧ x = nI q ∧ xSo (xkx q) 0 n f) ∧ v = nI (xth (xkx q) f n).1 ∧ (xth (xkx q) f n).1 = n' ∧ (xth (xkx q) f n).2 = f'
def sp_sorted (n : Nat) (f : Nat → xE) (x y z : Int32) (v : Int32) (n' : Nat) (f' : Nat → xE) : Prop := ((¬ ∃ i j q, xC3 n x y z i j q) ∧ v = -1 ∧ n = n' ∧ f = f') ∨ ∃ i j q, xC3 n x y z i j q ∧ xb1 (xSo (xkx q) i j f) v ∧ n = n' ∧ f = f'
def sp_find (n : Nat) (f : Nat → xE) (key y z : Int32) (v : Int32) (n' : Nat) (f' : Nat → xE) : Prop := ((¬ ∃ q ps, q < 4 ∧ y = nI q ∧ ps ≤ 1 ∧ z = nI ps ∧ xSo (xkx q) 0 n f) ∧ v = -1 ∧ n = n' ∧ f = f') ∨ ∃ q ps, (q < 4 ∧ y = nI q ∧ ps ≤ 1 ∧ z = nI ps ∧ xSo (xkx q) 0 n f) ∧ v = nI (xcnt (fun k => xLs ps (xkx q (f k)) (xK q key)) n) ∧ n = n' ∧ f = f'
def sp_rank (n : Nat) (f : Nat → xE) (x y : Int32) (v : Int32) (n' : Nat) (f' : Nat → xE) : Prop := ((¬ ∃ p q, p < n ∧ x = nI p ∧ q < 4 ∧ y = nI q) ∧ v = -1 ∧ n = n' ∧ f = f') ∨ ∃ p q, (p < n ∧ x = nI p ∧ q < 4 ∧ y = nI q) ∧ v = nI (xcnt (fun k => xlx (xkx q) f k p) n) ∧ n = n' ∧ f = f'
def sp_key (n : Nat) (f : Nat → xE) (x : Int32) (v : Int32) (n' : Nat) (f' : Nat → xE) : Prop := (((¬ ∃ p, p < n ∧ x = nI p) ∧ v = 0) ∨ ∃ p, (p < n ∧ x = nI p) ∧ v = (f p).1) ∧ n = n' ∧ f = f'
def sp_tag (n : Nat) (f : Nat → xE) (x : Int32) (v : Int32) (n' : Nat) (f' : Nat → xE) : Prop := (((¬ ∃ p, p < n ∧ x = nI p) ∧ v = 0) ∨ ∃ p, (p < n ∧ x = nI p) ∧ v = (f p).2) ∧ n = n' ∧ f = f'
def xP1 (f : Nat → xE) (k : Nat) : Prop := k = 0 ∨ (f k).1 < (f (k - 1)).1
def xP2 (f : Nat → xE) (k : Nat) : Prop := ∀ j, j < k → (f j).1 ≠ (f k).1
def sp_count (n : Nat) (f : Nat → xE) (x : Int32) (v : Int32) (n' : Nat) (f' : Nat → xE) : Prop := ((x = 0 ∧ v = nI n) ∨ (x = 1 ∧ v = nI (xcnt (xP1 f) n)) ∨ (x = 2 ∧ v = nI (xcnt (xP2 f) n)) ∨ (x ≠ 0 ∧ x ≠ 1 ∧ x ≠ 2 ∧ v = -1)) ∧ n = n' ∧ f = f'
def sp_check (n : Nat) (f : Nat → xE) (v : Int32) (n' : Nat) (f' : Nat → xE) : Prop := v = 1 ∧ n = n' ∧ f = f'
-- the meters
def xMt (c w ms : Nat) : Prop := ms ≤ 500 ∧ ∀ h, 1 ≤ h → ms ≤ 2 ^ h → c ≤ 8 * ms * h ∧ w ≤ 40 * ms * h
def xI (n o c w ms : Nat) : Prop := n ≤ 500 ∧ o < 4 ∧ xMt c w ms
theorem xlog (N : Nat) : ∃ d, N ≤ 2 ^ d ∧ (d = 0 ∨ 2 ^ (d - 1) < N) := by
  obtain ⟨d, h1, h2⟩ := pk_least (fun d => N ≤ 2 ^ d) ⟨N, Nat.le_of_lt Nat.lt_two_pow_self⟩
  refine ⟨d, h1, ?_⟩
  rcases Nat.eq_zero_or_pos d with h | h
  · exact Or.inl h
  · exact Or.inr (Nat.lt_of_not_le (h2 (d - 1) (by omega)))
theorem xlog9 {N d : Nat} (hN : N ≤ 500) (h : d = 0 ∨ 2 ^ (d - 1) < N) : d ≤ 9 := by
  rcases Nat.lt_or_ge d 10 with g | g
  · omega
  · have : 2 ^ 9 ≤ 2 ^ (d - 1) := Nat.pow_le_pow_right (by decide) (by omega)
    have : (2 : Nat) ^ 9 = 512 := by decide
    omega
theorem xlogh {N d h : Nat} (hd : 2 ^ (d - 1) < N) (hh : N ≤ 2 ^ h) : d - 1 < h := by
  rcases Nat.lt_or_ge (d - 1) h with g | g
  · exact g
  · have : 2 ^ h ≤ 2 ^ (d - 1) := Nat.pow_le_pow_right (by decide) g
    omega
theorem xMt_merge {c w N d : Nat} (hN : N ≤ 500) (hd : d = 0 ∨ 2 ^ (d - 1) < N) (hc : c + d + 2 ≤ 0 + 2 ^ (d + 1)) (hw : w ≤ 0 + 2 * (d * N)) : xMt c w N := by
  refine ⟨hN, fun h h1 h2 => ?_⟩
  have e1 : N ≤ N * h := Nat.le_mul_of_pos_right N h1
  have e2 : 8 * N * h = 8 * (N * h) := Nat.mul_assoc _ _ _
  have e3 : 40 * N * h = 40 * (N * h) := Nat.mul_assoc _ _ _
  rcases hd with rfl | hd
  · rw [Nat.zero_mul] at hw
    have : (2 : Nat) ^ (0 + 1) = 2 := by decide
    omega
  · have g := xlogh hd h2
    rcases Nat.eq_zero_or_pos d with rfl | hpos
    · rw [Nat.zero_mul] at hw
      have : (2 : Nat) ^ (0 + 1) = 2 := by decide
      omega
    · have p1 : 2 ^ (d + 1) = 4 * 2 ^ (d - 1) := by
        obtain ⟨d', rfl⟩ : ∃ d', d = d' + 1 := ⟨d - 1, by omega⟩
        rw [Nat.add_sub_cancel, Nat.pow_succ, Nat.pow_succ]; omega
      have e4 : d * N ≤ h * N := Nat.mul_le_mul_right N (by omega)
      rw [Nat.mul_comm h N] at e4
      omega
theorem xMt_sort {c w N T : Nat} (hN : N ≤ 500) (hT : T = 0 ∨ 2 ^ (2 + T) < N) (hc : c ≤ 0 + 3 * N + 4 * (N * T)) (hw : w ≤ 0 + 16 * N + 18 * (N * T)) : xMt c w N := by
  refine ⟨hN, fun h h1 h2 => ?_⟩
  have e1 : N ≤ N * h := Nat.le_mul_of_pos_right N h1
  have e2 : 8 * N * h = 8 * (N * h) := Nat.mul_assoc _ _ _
  have e3 : 40 * N * h = 40 * (N * h) := Nat.mul_assoc _ _ _
  have hTh : T ≤ h := by
    rcases hT with rfl | hT
    · omega
    · have := xlogh (d := 2 + T + 1) (by rw [Nat.add_sub_cancel]; exact hT) h2
      omega
  have e4 : N * T ≤ N * h := Nat.mul_le_mul_left N hTh
  omega
end
section
/-! RowPress: rotate, turn, sortPart, sort, merge, split, sorted -/
set_option maxHeartbeats 1000000 in
theorem c_R_rotate (l : Launch) {n o c w ms : Nat} {f : Nat → xE} (hI : xI n o c w ms) (x y z : Int32) : xr_Mi l y_R_rotate b_R_rotate 6 (some .int) 3 [.int x, .int y, .int z] n o c w ms f (fun v n' o' c' w' ms' f' => sp_rotate n f x y z v n' f' ∧ xI n' o' c' w' ms') := by
  have hn := hI.1
  refine xr_Mi.of [some (.int x), some (.int y), some (.int z), none, none] (by decide +kernel) rfl rfl rfl ?_
  intro Γ a cI cO G K rt
  have G : xa_G Γ "RowPress" b_R_rotate 3 := G
  refine xa_aload_n G (i := 0) d_R_rotate_0 rfl rfl ?_
  refine xa_iload_n G (i := 1) d_R_rotate_1 rfl rfl ?_
  refine xa_iload_n G (i := 2) d_R_rotate_2 rfl rfl ?_
  refine xr_calli G K k_R_55 (c_R_isStretch (xl Γ) hn x y) (by omega) (by decide) rfl rfl (Nat.le_of_ble_eq_true rfl) d_R_rotate_3 (fun v n' o' c' w' ms' f' hu => ?_)
  obtain ⟨hb, rfl, rfl, rfl, rfl, rfl, rfl⟩ := hu
  rcases hb with ⟨rfl, i, m, h1, h2, rfl, rfl⟩ | ⟨rfl, hno⟩
  · refine xa_ifeq1 G (tgt := 18) d_R_rotate_6 (by decide) ?_
    refine xa_aload_n G (i := 0) d_R_rotate_9 rfl rfl ?_
    refine xa_iload_n G (i := 2) d_R_rotate_10 rfl rfl ?_
    refine xa_iload_n G (i := 3) d_R_rotate_11 rfl rfl ?_
    refine xr_calli G K k_R_55 (c_R_isStretch (xl Γ) hn (nI m) z) (by omega) (by decide) rfl rfl (Nat.le_of_ble_eq_true rfl) d_R_rotate_12 (fun v n' o' c' w' ms' f' hu => ?_)
    obtain ⟨hb, rfl, rfl, rfl, rfl, rfl, rfl⟩ := hu
    rcases hb with ⟨rfl, m', j, h3, h4, h5, rfl⟩ | ⟨rfl, hno⟩
    · rw [nI_eq (by omega) (by omega)] at h5
      subst h5
      refine xa_ifne1 G (tgt := 20) d_R_rotate_15 (by decide) ?_
      refine xa_aload_n G (i := 0) d_R_rotate_20 rfl rfl ?_
      refine xr_gw G K d_R_rotate_21 ?_
      refine xa_lstore G d_R_rotate_24 rfl rfl ?_
      refine xa_aload_n G (i := 0) d_R_rotate_26 rfl rfl ?_
      refine xa_iload_n G (i := 1) d_R_rotate_27 rfl rfl ?_
      refine xa_iload_n G (i := 2) d_R_rotate_28 rfl rfl ?_
      refine xa_iload_n G (i := 3) d_R_rotate_29 rfl rfl ?_
      refine xr_callv G K k_R_59 (c_R_bring (xl Γ) (lo := i) (mid := m) (hi := j) h1 h3 (by omega)) (by omega) (by decide) rfl rfl (Nat.le_of_ble_eq_true rfl) d_R_rotate_30 (fun n' o' c' w' ms' f' hu => ?_)
      obtain ⟨rfl, rfl, rfl, hw, rfl, rfl⟩ := hu
      refine xa_aload_n G (i := 0) d_R_rotate_33 rfl rfl ?_
      refine xa_lload G d_R_rotate_34 rfl ?_
      refine xr_pw G K d_R_rotate_36 ?_
      refine xa_iconst G (v := (1 : Int32)) d_R_rotate_39 (by decide +kernel) ?_
      exact rt _ _ _ _ _ _ _ _ _ d_R_rotate_40 rfl ⟨Or.inr ⟨i, m, j, ⟨h1, h3, h4, rfl, rfl, rfl⟩, rfl, rfl, rfl⟩, hI⟩
    · refine xa_ifne0 G (tgt := 20) d_R_rotate_15 (by decide) ?_
      refine xa_iconst G (v := (0 : Int32)) d_R_rotate_18 (by decide +kernel) ?_
      exact rt _ _ _ _ _ _ _ _ _ d_R_rotate_19 rfl ⟨Or.inl ⟨fun ⟨i0, m0, j0, g1, g2, g3, g4, g5, g6⟩ => hno ⟨m0, j0, g2, g3, g5, g6⟩, rfl, rfl, rfl⟩, hI⟩
  · refine xa_ifeq0 G (tgt := 18) d_R_rotate_6 (by decide) ?_
    refine xa_iconst G (v := (0 : Int32)) d_R_rotate_18 (by decide +kernel) ?_
    exact rt _ _ _ _ _ _ _ _ _ d_R_rotate_19 rfl ⟨Or.inl ⟨fun ⟨i0, m0, j0, g1, g2, g3, g4, g5, g6⟩ => hno ⟨i0, m0, g1, by omega, g4, g5⟩, rfl, rfl, rfl⟩, hI⟩
set_option maxHeartbeats 1000000 in
theorem c_R_turn (l : Launch) {n o c w ms : Nat} {f : Nat → xE} (hI : xI n o c w ms) (x y : Int32) : xr_Mi l y_R_turn b_R_turn 5 (some .int) 3 [.int x, .int y] n o c w ms f (fun v n' o' c' w' ms' f' => sp_turn n f x y v n' f' ∧ xI n' o' c' w' ms') := by
  have hn := hI.1
  refine xr_Mi.of [some (.int x), some (.int y), none, none] (by decide +kernel) rfl rfl rfl ?_
  intro Γ a cI cO G K rt
  have G : xa_G Γ "RowPress" b_R_turn 3 := G
  refine xa_aload_n G (i := 0) d_R_turn_0 rfl rfl ?_
  refine xa_iload_n G (i := 1) d_R_turn_1 rfl rfl ?_
  refine xa_iload_n G (i := 2) d_R_turn_2 rfl rfl ?_
  refine xr_calli G K k_R_55 (c_R_isStretch (xl Γ) hn x y) (by omega) (by decide) rfl rfl (Nat.le_of_ble_eq_true rfl) d_R_turn_3 (fun v n' o' c' w' ms' f' hu => ?_)
  obtain ⟨hb, rfl, rfl, rfl, rfl, rfl, rfl⟩ := hu
  rcases hb with ⟨rfl, i, j, h1, h2, rfl, rfl⟩ | ⟨rfl, hno⟩
  · refine xa_ifne1 G (tgt := 11) d_R_turn_6 (by decide) ?_
    refine xa_aload_n G (i := 0) d_R_turn_11 rfl rfl ?_
    refine xr_gw G K d_R_turn_12 ?_
    refine xa_lstore_n G (i := 3) d_R_turn_15 rfl rfl rfl ?_
    refine xa_aload_n G (i := 0) d_R_turn_16 rfl rfl ?_
    refine xa_iload_n G (i := 1) d_R_turn_17 rfl rfl ?_
    refine xa_iload_n G (i := 2) d_R_turn_18 rfl rfl ?_
    refine xr_callv G K k_R_52 (c_R_reverse (xl Γ) (lo := i) (hi := j) h1 (by omega)) (by omega) (by decide) rfl rfl (Nat.le_of_ble_eq_true rfl) d_R_turn_19 (fun n' o' c' w' ms' f' hu => ?_)
    obtain ⟨rfl, rfl, rfl, rfl, rfl, rfl⟩ := hu
    refine xa_aload_n G (i := 0) d_R_turn_22 rfl rfl ?_
    refine xa_lload_n G (i := 3) d_R_turn_23 rfl rfl ?_
    refine xr_pw G K d_R_turn_24 ?_
    refine xa_iconst G (v := (1 : Int32)) d_R_turn_27 (by decide +kernel) ?_
    exact rt _ _ _ _ _ _ _ _ _ d_R_turn_28 rfl ⟨Or.inr ⟨i, j, ⟨h1, h2, rfl, rfl⟩, rfl, rfl, rfl⟩, hI⟩
  · refine xa_ifne0 G (tgt := 11) d_R_turn_6 (by decide) ?_
    refine xa_iconst G (v := (0 : Int32)) d_R_turn_9 (by decide +kernel) ?_
    exact rt _ _ _ _ _ _ _ _ _ d_R_turn_10 rfl ⟨Or.inl ⟨fun ⟨i0, j0, g⟩ => hno ⟨i0, j0, g⟩, rfl, rfl, rfl⟩, hI⟩
set_option maxHeartbeats 1000000 in
theorem c_R_sortPart (l : Launch) {n o c w ms : Nat} {f : Nat → xE} (hI : xI n o c w ms) (x y z : Int32) : xr_Mi l y_R_sortPart b_R_sortPart 4 (some .int) 15 [.int x, .int y, .int z] n o c w ms f (fun v n' o' c' w' ms' f' => sp_sortPart n f x y z v n' f' ∧ xI n' o' c' w' ms') := by
  have hn := hI.1
  refine xr_Mi.of [some (.int x), some (.int y), some (.int z)] (by decide +kernel) rfl rfl rfl ?_
  intro Γ a cI cO G K rt
  have G : xa_G Γ "RowPress" b_R_sortPart 15 := G
  refine xa_aload_n G (i := 0) d_R_sortPart_0 rfl rfl ?_
  refine xa_iload_n G (i := 1) d_R_sortPart_1 rfl rfl ?_
  refine xa_iload_n G (i := 2) d_R_sortPart_2 rfl rfl ?_
  refine xr_calli G K k_R_55 (c_R_isStretch (xl Γ) hn x y) (by omega) (by decide) rfl rfl (Nat.le_of_ble_eq_true rfl) d_R_sortPart_3 (fun v n' o' c' w' ms' f' hu => ?_)
  obtain ⟨hb, rfl, rfl, rfl, rfl, rfl, rfl⟩ := hu
  rcases hb with ⟨rfl, i, j, h1, h2, rfl, rfl⟩ | ⟨rfl, hno⟩
  · refine xa_ifeq1 G (tgt := 17) d_R_sortPart_6 (by decide) ?_
    refine xa_aload_n G (i := 0) d_R_sortPart_9 rfl rfl ?_
    refine xa_iload_n G (i := 3) d_R_sortPart_10 rfl rfl ?_
    refine xr_calli G K k_R_93 (c_R_isOrder (xl Γ) z) (by omega) (by decide) rfl rfl (Nat.le_of_ble_eq_true rfl) d_R_sortPart_11 (fun v n' o' c' w' ms' f' hu => ?_)
    obtain ⟨hb, rfl, rfl, rfl, rfl, rfl, rfl⟩ := hu
    rcases hb with ⟨rfl, q, hq, rfl⟩ | ⟨rfl, hno⟩
    · refine xa_ifne1 G (tgt := 19) d_R_sortPart_14 (by decide) ?_
      refine xa_aload_n G (i := 0) d_R_sortPart_19 rfl rfl ?_
      refine xa_iload_n G (i := 2) d_R_sortPart_20 rfl rfl ?_
      refine xa_iload_n G (i := 1) d_R_sortPart_21 rfl rfl ?_
      refine xa_subN G d_R_sortPart_22 (by omega) ?_
      refine xa_iload_n G (i := 3) d_R_sortPart_23 rfl rfl ?_
      refine xr_callv G K k_R_97 (c_R_begin (xl Γ) (m := j - i) (q := q) hq) (by omega) (by decide) rfl rfl (Nat.le_of_ble_eq_true rfl) d_R_sortPart_24 (fun n' o' c' w' ms' f' hu => ?_)
      obtain ⟨rfl, rfl, rfl, rfl, rfl, rfl⟩ := hu
      refine xa_aload_n G (i := 0) d_R_sortPart_27 rfl rfl ?_
      refine xa_iload_n G (i := 1) d_R_sortPart_28 rfl rfl ?_
      refine xa_iload_n G (i := 2) d_R_sortPart_29 rfl rfl ?_
      refine xr_callv G K k_R_100 (c_R_sortAt (xl Γ) hq (lo := i) (hi := j) h1 (by omega)) (by omega) (by decide) rfl rfl (Nat.le_of_ble_eq_true rfl) d_R_sortPart_30 (fun n' o' c' w' ms' f' hu => ?_)
      obtain ⟨rfl, rfl, rfl, u1, u2, T, u3, u4, u5⟩ := hu
      refine xa_iconst G (v := (1 : Int32)) d_R_sortPart_33 (by decide +kernel) ?_
      exact rt _ _ _ _ _ _ _ _ _ d_R_sortPart_34 rfl ⟨Or.inr ⟨i, j, q, ⟨h1, h2, rfl, rfl, hq, rfl⟩, rfl, rfl, u1, u2⟩, hn, hq, xMt_sort (by omega) u3 u4 u5⟩
    · refine xa_ifne0 G (tgt := 19) d_R_sortPart_14 (by decide) ?_
      refine xa_iconst G (v := (0 : Int32)) d_R_sortPart_17 (by decide +kernel) ?_
      exact rt _ _ _ _ _ _ _ _ _ d_R_sortPart_18 rfl ⟨Or.inl ⟨fun ⟨i0, j0, q0, g1, g2, g3, g4, g5, g6⟩ => hno ⟨q0, g5, g6⟩, rfl, rfl, rfl⟩, hI⟩
  · refine xa_ifeq0 G (tgt := 17) d_R_sortPart_6 (by decide) ?_
    refine xa_iconst G (v := (0 : Int32)) d_R_sortPart_17 (by decide +kernel) ?_
    exact rt _ _ _ _ _ _ _ _ _ d_R_sortPart_18 rfl ⟨Or.inl ⟨fun ⟨i0, j0, q0, g1, g2, g3, g4, g5, g6⟩ => hno ⟨i0, j0, g1, g2, g3, g4⟩, rfl, rfl, rfl⟩, hI⟩
set_option maxHeartbeats 1000000 in
theorem c_R_sort (l : Launch) {n o c w ms : Nat} {f : Nat → xE} (hI : xI n o c w ms) (z : Int32) : xr_Mi l y_R_sort b_R_sort 2 (some .int) 16 [.int z] n o c w ms f (fun v n' o' c' w' ms' f' => sp_sortPart n f (nI 0) (nI n) z v n' f' ∧ xI n' o' c' w' ms') := by
  refine xr_Mi.of [some (.int z)] (by decide +kernel) rfl rfl rfl ?_
  intro Γ a cI cO G K rt
  have G : xa_G Γ "RowPress" b_R_sort 16 := G
  refine xa_aload_n G (i := 0) d_R_sort_0 rfl rfl ?_
  refine xa_iconst G (v := nI 0) d_R_sort_1 (by decide +kernel) ?_
  refine xa_aload_n G (i := 0) d_R_sort_2 rfl rfl ?_
  refine xr_gn G K d_R_sort_3 ?_
  refine xa_iload_n G (i := 1) d_R_sort_6 rfl rfl ?_
  refine xr_calli G K k_R_89 (c_R_sortPart (xl Γ) hI (nI 0) (nI n) z) (by omega) (by decide) rfl rfl (Nat.le_of_ble_eq_true rfl) d_R_sort_7 (fun v n' o' c' w' ms' f' hu => ?_)
  exact rt _ _ _ _ _ _ _ _ _ d_R_sort_10 rfl hu
set_option maxHeartbeats 1000000 in
theorem c_R_merge (l : Launch) {n o c w ms : Nat} {f : Nat → xE} (hI : xI n o c w ms) (x y z t : Int32) : xr_Mi l y_R_merge b_R_merge 5 (some .int) 15 [.int x, .int y, .int z, .int t] n o c w ms f (fun v n' o' c' w' ms' f' => sp_merge n f x y z t v n' f' ∧ xI n' o' c' w' ms') := by
  have hn := hI.1
  refine xr_Mi.of [some (.int x), some (.int y), some (.int z), some (.int t)] (by decide +kernel) rfl rfl rfl ?_
  intro Γ a cI cO G K rt
  have G : xa_G Γ "RowPress" b_R_merge 15 := G
  refine xa_aload_n G (i := 0) d_R_merge_0 rfl rfl ?_
  refine xa_iload_n G (i := 1) d_R_merge_1 rfl rfl ?_
  refine xa_iload_n G (i := 2) d_R_merge_2 rfl rfl ?_
  refine xr_calli G K k_R_55 (c_R_isStretch (xl Γ) hn x y) (by omega) (by decide) rfl rfl (Nat.le_of_ble_eq_true rfl) d_R_merge_3 (fun v n' o' c' w' ms' f' hu => ?_)
  obtain ⟨hb, rfl, rfl, rfl, rfl, rfl, rfl⟩ := hu
  rcases hb with ⟨rfl, i, m, h1, h2, rfl, rfl⟩ | ⟨rfl, hno⟩
  · refine xa_ifeq1 G (tgt := 27) d_R_merge_6 (by decide) ?_
    refine xa_aload_n G (i := 0) d_R_merge_9 rfl rfl ?_
    refine xa_iload_n G (i := 2) d_R_merge_10 rfl rfl ?_
    refine xa_iload_n G (i := 3) d_R_merge_11 rfl rfl ?_
    refine xr_calli G K k_R_55 (c_R_isStretch (xl Γ) hn (nI m) z) (by omega) (by decide) rfl rfl (Nat.le_of_ble_eq_true rfl) d_R_merge_12 (fun v n' o' c' w' ms' f' hu => ?_)
    obtain ⟨hb, rfl, rfl, rfl, rfl, rfl, rfl⟩ := hu
    rcases hb with ⟨rfl, m', j, h3, h4, h5, rfl⟩ | ⟨rfl, hno⟩
    · rw [nI_eq (by omega) (by omega)] at h5
      subst h5
      refine xa_ifeq1 G (tgt := 27) d_R_merge_15 (by decide) ?_
      refine xa_aload_n G (i := 0) d_R_merge_18 rfl rfl ?_
      refine xa_iload G d_R_merge_19 rfl ?_
      refine xr_calli G K k_R_93 (c_R_isOrder (xl Γ) t) (by omega) (by decide) rfl rfl (Nat.le_of_ble_eq_true rfl) d_R_merge_21 (fun v n' o' c' w' ms' f' hu => ?_)
      obtain ⟨hb, rfl, rfl, rfl, rfl, rfl, rfl⟩ := hu
      rcases hb with ⟨rfl, q, hq, rfl⟩ | ⟨rfl, hno⟩
      · have hI' : xI n q c w ms := ⟨hn, hq, hI.2.2⟩
        have uni : ∀ i0 m0 j0 q0, xCm n (nI i) (nI m) (nI j) i0 m0 j0 → q0 < 4 → nI q = nI q0 → i = i0 ∧ m = m0 ∧ j = j0 ∧ q = q0 := by
          intro i0 m0 j0 q0 g g7 g8
          obtain ⟨g1, g2, g3, g4, g5, g6⟩ := g
          rw [nI_eq (by omega) (by omega)] at g4 g5 g6 g8
          exact ⟨g4, g5, g6, g8⟩
        refine xa_ifne1 G (tgt := 29) d_R_merge_24 (by decide) ?_
        refine xa_aload_n G (i := 0) d_R_merge_29 rfl rfl ?_
        refine xa_aload_n G (i := 0) d_R_merge_30 rfl rfl ?_
        refine xr_gO G K d_R_merge_31 ?_
        refine xa_iload G d_R_merge_34 rfl ?_
        refine xr_ldO G K d_R_merge_36 (by omega) ?_
        refine xr_po G K d_R_merge_37 ?_
        refine xa_aload_n G (i := 0) d_R_merge_40 rfl rfl ?_
        refine xa_iload_n G (i := 1) d_R_merge_41 rfl rfl ?_
        refine xa_iload_n G (i := 2) d_R_merge_42 rfl rfl ?_
        refine xr_calli G K k_R_103 (c_R_isSorted (xl Γ) hq (lo := i) (hi := m) h1 (by omega)) (by omega) (by decide) rfl rfl (Nat.le_of_ble_eq_true rfl) d_R_merge_43 (fun v n' o' c' w' ms' f' hu => ?_)
        obtain ⟨hb, rfl, rfl, rfl, rfl, rfl, rfl⟩ := hu
        rcases hb with ⟨rfl, sA⟩ | ⟨rfl, sA⟩
        · refine xa_ifeq1 G (tgt := 58) d_R_merge_46 (by decide) ?_
          refine xa_aload_n G (i := 0) d_R_merge_49 rfl rfl ?_
          refine xa_iload_n G (i := 2) d_R_merge_50 rfl rfl ?_
          refine xa_iload_n G (i := 3) d_R_merge_51 rfl rfl ?_
          refine xr_calli G K k_R_103 (c_R_isSorted (xl Γ) hq (lo := m) (hi := j) h3 (by omega)) (by omega) (by decide) rfl rfl (Nat.le_of_ble_eq_true rfl) d_R_merge_52 (fun v n' o' c' w' ms' f' hu => ?_)
          obtain ⟨hb, rfl, rfl, rfl, rfl, rfl, rfl⟩ := hu
          rcases hb with ⟨rfl, sB⟩ | ⟨rfl, sB⟩
          · refine xa_ifne1 G (tgt := 60) d_R_merge_55 (by decide) ?_
            refine xa_aload_n G (i := 0) d_R_merge_60 rfl rfl ?_
            refine xa_iload_n G (i := 3) d_R_merge_61 rfl rfl ?_
            refine xa_iload_n G (i := 1) d_R_merge_62 rfl rfl ?_
            refine xa_subN G d_R_merge_63 (by omega) ?_
            refine xa_iload G d_R_merge_64 rfl ?_
            refine xr_callv G K k_R_97 (c_R_begin (xl Γ) (m := j - i) (q := q) hq) (by omega) (by decide) rfl rfl (Nat.le_of_ble_eq_true rfl) d_R_merge_66 (fun n' o' c' w' ms' f' hu => ?_)
            obtain ⟨rfl, rfl, rfl, rfl, rfl, rfl⟩ := hu
            obtain ⟨d, d1, d2⟩ := xlog (j - i)
            have d3 := xlog9 (N := j - i) (by omega) d2
            refine xa_aload_n G (i := 0) d_R_merge_69 rfl rfl ?_
            refine xa_iload_n G (i := 1) d_R_merge_70 rfl rfl ?_
            refine xa_iload_n G (i := 2) d_R_merge_71 rfl rfl ?_
            refine xa_iload_n G (i := 3) d_R_merge_72 rfl rfl ?_
            refine xr_callv G K k_R_78 (c_R_mergeAt d (xl Γ) hq (lo := i) (mid := m) (hi := j) h1 h3 (by omega) d1 sA sB) (by omega) (by decide) rfl rfl (Nat.le_of_ble_eq_true rfl) d_R_merge_73 (fun n' o' c' w' ms' f' hu => ?_)
            obtain ⟨rfl, rfl, rfl, u1, u2, u3, u4⟩ := hu
            refine xa_iconst G (v := (1 : Int32)) d_R_merge_76 (by decide +kernel) ?_
            exact rt _ _ _ _ _ _ _ _ _ d_R_merge_77 rfl ⟨Or.inr ⟨i, m, j, q, ⟨h1, h3, h4, rfl, rfl, rfl⟩, ⟨hq, rfl, sA, sB⟩, rfl, rfl, u1, u2⟩, hn, hq, xMt_merge (by omega) d2 u3 u4⟩
          · refine xa_ifne0 G (tgt := 60) d_R_merge_55 (by decide) ?_
            refine xa_iconst G (v := (0 : Int32)) d_R_merge_58 (by decide +kernel) ?_
            exact rt _ _ _ _ _ _ _ _ _ d_R_merge_59 rfl ⟨Or.inl ⟨fun ⟨i0, m0, j0, q0, g1, g2, g3, g4, g5⟩ => by
              obtain ⟨rfl, rfl, rfl, rfl⟩ := uni i0 m0 j0 q0 g1 g2 g3
              exact sB g5, rfl, rfl, rfl⟩, hI'⟩
        · refine xa_ifeq0 G (tgt := 58) d_R_merge_46 (by decide) ?_
          refine xa_iconst G (v := (0 : Int32)) d_R_merge_58 (by decide +kernel) ?_
          exact rt _ _ _ _ _ _ _ _ _ d_R_merge_59 rfl ⟨Or.inl ⟨fun ⟨i0, m0, j0, q0, g1, g2, g3, g4, g5⟩ => by
            obtain ⟨rfl, rfl, rfl, rfl⟩ := uni i0 m0 j0 q0 g1 g2 g3
            exact sA g4, rfl, rfl, rfl⟩, hI'⟩
      · refine xa_ifne0 G (tgt := 29) d_R_merge_24 (by decide) ?_
        refine xa_iconst G (v := (0 : Int32)) d_R_merge_27 (by decide +kernel) ?_
        exact rt _ _ _ _ _ _ _ _ _ d_R_merge_28 rfl ⟨Or.inl ⟨fun ⟨i0, m0, j0, q0, g1, g2, g3, g4, g5⟩ => hno ⟨q0, g2, g3⟩, rfl, rfl, rfl⟩, hI⟩
    · refine xa_ifeq0 G (tgt := 27) d_R_merge_15 (by decide) ?_
      refine xa_iconst G (v := (0 : Int32)) d_R_merge_27 (by decide +kernel) ?_
      exact rt _ _ _ _ _ _ _ _ _ d_R_merge_28 rfl ⟨Or.inl ⟨fun ⟨i0, m0, j0, q0, ⟨g1, g2, g3, g4, g5, g6⟩, _⟩ => hno ⟨m0, j0, g2, g3, g5, g6⟩, rfl, rfl, rfl⟩, hI⟩
  · refine xa_ifeq0 G (tgt := 27) d_R_merge_6 (by decide) ?_
    refine xa_iconst G (v := (0 : Int32)) d_R_merge_27 (by decide +kernel) ?_
    exact rt _ _ _ _ _ _ _ _ _ d_R_merge_28 rfl ⟨Or.inl ⟨fun ⟨i0, m0, j0, q0, ⟨g1, g2, g3, g4, g5, g6⟩, _⟩ => hno ⟨i0, m0, g1, by omega, g4, g5⟩, rfl, rfl, rfl⟩, hI⟩
set_option maxHeartbeats 1000000 in
theorem c_R_split (l : Launch) {n o c w ms : Nat} {f : Nat → xE} (hI : xI n o c w ms) (x y key t : Int32) : xr_Mi l y_R_split b_R_split 8 (some .int) 13 [.int x, .int y, .int key, .int t] n o c w ms f (fun v n' o' c' w' ms' f' => sp_split n f x y key t v n' f' ∧ xI n' o' c' w' ms') := by
  have hn := hI.1
  refine xr_Mi.of [some (.int x), some (.int y), some (.int key), some (.int t), none, none, none] (by decide +kernel) rfl rfl rfl ?_
  intro Γ a cI cO G K rt
  have G : xa_G Γ "RowPress" b_R_split 13 := G
  refine xa_aload_n G (i := 0) d_R_split_0 rfl rfl ?_
  refine xa_iload_n G (i := 1) d_R_split_1 rfl rfl ?_
  refine xa_iload_n G (i := 2) d_R_split_2 rfl rfl ?_
  refine xr_calli G K k_R_55 (c_R_isStretch (xl Γ) hn x y) (by omega) (by decide) rfl rfl (Nat.le_of_ble_eq_true rfl) d_R_split_3 (fun v n' o' c' w' ms' f' hu => ?_)
  obtain ⟨hb, rfl, rfl, rfl, rfl, rfl, rfl⟩ := hu
  rcases hb with ⟨rfl, i, j, h1, h2, rfl, rfl⟩ | ⟨rfl, hno⟩
  · refine xa_ifeq1 G (tgt := 18) d_R_split_6 (by decide) ?_
    refine xa_aload_n G (i := 0) d_R_split_9 rfl rfl ?_
    refine xa_iload G d_R_split_10 rfl ?_
    refine xr_calli G K k_R_93 (c_R_isOrder (xl Γ) t) (by omega) (by decide) rfl rfl (Nat.le_of_ble_eq_true rfl) d_R_split_12 (fun v n' o' c' w' ms' f' hu => ?_)
    obtain ⟨hb, rfl, rfl, rfl, rfl, rfl, rfl⟩ := hu
    rcases hb with ⟨rfl, q, hq, rfl⟩ | ⟨rfl, hno⟩
    · refine xa_ifne1 G (tgt := 20) d_R_split_15 (by decide) ?_
      refine xa_aload_n G (i := 0) d_R_split_20 rfl rfl ?_
      refine xa_aload_n G (i := 0) d_R_split_21 rfl rfl ?_
      refine xr_gO G K d_R_split_22 ?_
      refine xa_iload G d_R_split_25 rfl ?_
      refine xr_ldO G K d_R_split_27 (by omega) ?_
      refine xr_po G K d_R_split_28 ?_
      refine xa_aload_n G (i := 0) d_R_split_31 rfl rfl ?_
      refine xr_gw G K d_R_split_32 ?_
      refine xa_lstore G d_R_split_35 rfl rfl ?_
      refine xa_aload_n G (i := 0) d_R_split_37 rfl rfl ?_
      refine xa_iload_n G (i := 1) d_R_split_38 rfl rfl ?_
      refine xa_iload_n G (i := 2) d_R_split_39 rfl rfl ?_
      refine xa_iload_n G (i := 3) d_R_split_40 rfl rfl ?_
      obtain ⟨d, d1, d2⟩ := xlog (j - i)
      have d3 := xlog9 (N := j - i) (by omega) d2
      refine xr_calli G K k_R_106 (c_R_splitAt d (xl Γ) hq (lo := i) (hi := j) (key := key) h1 (by omega) d1) (by omega) (by decide) rfl rfl (Nat.le_of_ble_eq_true rfl) d_R_split_41 (fun v n' o' c' w' ms' f' hu => ?_)
      obtain ⟨⟨p, rfl, u1, u2, u3, u4⟩, rfl, rfl, rfl, rfl, u5⟩ := hu
      refine xa_istore G d_R_split_44 rfl ?_
      refine xa_aload_n G (i := 0) d_R_split_46 rfl rfl ?_
      refine xa_lload G d_R_split_47 rfl ?_
      refine xr_pw G K d_R_split_49 ?_
      refine xa_iload G d_R_split_52 rfl ?_
      refine xa_iload_n G (i := 1) d_R_split_54 rfl rfl ?_
      refine xa_subN G d_R_split_55 (by omega) ?_
      exact rt _ _ _ _ _ _ _ _ _ d_R_split_56 rfl ⟨Or.inr ⟨i, j, q, ⟨h1, h2, rfl, rfl, hq, rfl⟩, rfl, ⟨p, rfl, u1, u2, u3, u4⟩, u5⟩, hn, hq, hI.2.2⟩
    · refine xa_ifne0 G (tgt := 20) d_R_split_15 (by decide) ?_
      refine xa_iconst G (v := (-1 : Int32)) d_R_split_18 (by decide +kernel) ?_
      exact rt _ _ _ _ _ _ _ _ _ d_R_split_19 rfl ⟨Or.inl ⟨fun ⟨i0, j0, q0, g1, g2, g3, g4, g5, g6⟩ => hno ⟨q0, g5, g6⟩, rfl, rfl, rfl⟩, hI⟩
  · refine xa_ifeq0 G (tgt := 18) d_R_split_6 (by decide) ?_
    refine xa_iconst G (v := (-1 : Int32)) d_R_split_18 (by decide +kernel) ?_
    exact rt _ _ _ _ _ _ _ _ _ d_R_split_19 rfl ⟨Or.inl ⟨fun ⟨i0, j0, q0, g1, g2, g3, g4, g5, g6⟩ => hno ⟨i0, j0, g1, g2, g3, g4⟩, rfl, rfl, rfl⟩, hI⟩
set_option maxHeartbeats 1000000 in
theorem c_R_sorted (l : Launch) {n o c w ms : Nat} {f : Nat → xE} (hn : n ≤ 500) (x y z : Int32) : xr_Mi l y_R_sorted b_R_sorted 4 (some .int) 4 [.int x, .int y, .int z] n o c w ms f (fun v n' o' c' w' ms' f' => ((¬ ∃ i j q, xC3 n x y z i j q) ∧ v = -1 ∧ n = n' ∧ o = o' ∧ c = c' ∧ w = w' ∧ ms = ms' ∧ f = f') ∨ ∃ i j q, xC3 n x y z i j q ∧ xb1 (xSo (xkx q) i j f) v ∧ n = n' ∧ q = o' ∧ c = c' ∧ w = w' ∧ ms = ms' ∧ f = f') := by
  refine xr_Mi.of [some (.int x), some (.int y), some (.int z)] (by decide +kernel) rfl rfl rfl ?_
  intro Γ a cI cO G K rt
  have G : xa_G Γ "RowPress" b_R_sorted 4 := G
  refine xa_aload_n G (i := 0) d_R_sorted_0 rfl rfl ?_
  refine xa_iload_n G (i := 1) d_R_sorted_1 rfl rfl ?_
  refine xa_iload_n G (i := 2) d_R_sorted_2 rfl rfl ?_
  refine xr_calli G K k_R_55 (c_R_isStretch (xl Γ) hn x y) (by omega) (by decide) rfl rfl (Nat.le_of_ble_eq_true rfl) d_R_sorted_3 (fun v n' o' c' w' ms' f' hu => ?_)
  obtain ⟨hb, rfl, rfl, rfl, rfl, rfl, rfl⟩ := hu
  rcases hb with ⟨rfl, i, j, h1, h2, rfl, rfl⟩ | ⟨rfl, hno⟩
  · refine xa_ifeq1 G (tgt := 17) d_R_sorted_6 (by decide) ?_
    refine xa_aload_n G (i := 0) d_R_sorted_9 rfl rfl ?_
    refine xa_iload_n G (i := 3) d_R_sorted_10 rfl rfl ?_
    refine xr_calli G K k_R_93 (c_R_isOrder (xl Γ) z) (by omega) (by decide) rfl rfl (Nat.le_of_ble_eq_true rfl) d_R_sorted_11 (fun v n' o' c' w' ms' f' hu => ?_)
    obtain ⟨hb, rfl, rfl, rfl, rfl, rfl, rfl⟩ := hu
    rcases hb with ⟨rfl, q, hq, rfl⟩ | ⟨rfl, hno⟩
    · refine xa_ifne1 G (tgt := 19) d_R_sorted_14 (by decide) ?_
      refine xa_aload_n G (i := 0) d_R_sorted_19 rfl rfl ?_
      refine xa_aload_n G (i := 0) d_R_sorted_20 rfl rfl ?_
      refine xr_gO G K d_R_sorted_21 ?_
      refine xa_iload_n G (i := 3) d_R_sorted_24 rfl rfl ?_
      refine xr_ldO G K d_R_sorted_25 (by omega) ?_
      refine xr_po G K d_R_sorted_26 ?_
      refine xa_aload_n G (i := 0) d_R_sorted_29 rfl rfl ?_
      refine xa_iload_n G (i := 1) d_R_sorted_30 rfl rfl ?_
      refine xa_iload_n G (i := 2) d_R_sorted_31 rfl rfl ?_
      refine xr_calli G K k_R_103 (c_R_isSorted (xl Γ) hq (lo := i) (hi := j) h1 (by omega)) (by omega) (by decide) rfl rfl (Nat.le_of_ble_eq_true rfl) d_R_sorted_32 (fun v n' o' c' w' ms' f' hu => ?_)
      obtain ⟨hb, rfl, rfl, rfl, rfl, rfl, rfl⟩ := hu
      rcases hb with ⟨rfl, sA⟩ | ⟨rfl, sA⟩
      · refine xa_ifeq1 G (tgt := 42) d_R_sorted_35 (by decide) ?_
        refine xa_iconst G (v := (1 : Int32)) d_R_sorted_38 (by decide +kernel) ?_
        refine xa_goto G (tgt := 43) d_R_sorted_39 (by decide) ?_
        exact rt _ _ _ _ _ _ _ _ _ d_R_sorted_43 rfl (Or.inr ⟨i, j, q, ⟨h1, h2, rfl, rfl, hq, rfl⟩, Or.inl ⟨rfl, sA⟩, rfl, rfl, rfl, rfl, rfl, rfl⟩)
      · refine xa_ifeq0 G (tgt := 42) d_R_sorted_35 (by decide) ?_
        refine xa_iconst G (v := (0 : Int32)) d_R_sorted_42 (by decide +kernel) ?_
        exact rt _ _ _ _ _ _ _ _ _ d_R_sorted_43 rfl (Or.inr ⟨i, j, q, ⟨h1, h2, rfl, rfl, hq, rfl⟩, Or.inr ⟨rfl, sA⟩, rfl, rfl, rfl, rfl, rfl, rfl⟩)
    · refine xa_ifne0 G (tgt := 19) d_R_sorted_14 (by decide) ?_
      refine xa_iconst G (v := (-1 : Int32)) d_R_sorted_17 (by decide +kernel) ?_
      exact rt _ _ _ _ _ _ _ _ _ d_R_sorted_18 rfl (Or.inl ⟨fun ⟨i0, j0, q0, g1, g2, g3, g4, g5, g6⟩ => hno ⟨q0, g5, g6⟩, rfl, rfl, rfl, rfl, rfl, rfl, rfl⟩)
  · refine xa_ifeq0 G (tgt := 17) d_R_sorted_6 (by decide) ?_
    refine xa_iconst G (v := (-1 : Int32)) d_R_sorted_17 (by decide +kernel) ?_
    exact rt _ _ _ _ _ _ _ _ _ d_R_sorted_18 rfl (Or.inl ⟨fun ⟨i0, j0, q0, g1, g2, g3, g4, g5, g6⟩ => hno ⟨i0, j0, g1, g2, g3, g4⟩, rfl, rfl, rfl, rfl, rfl, rfl, rfl⟩)
end
section
/-! RowPress: thin, find, rank, key, tag, runs, different, count, check -/
set_option maxHeartbeats 1000000 in
theorem c_R_sorted2 (l : Launch) {n o c w ms : Nat} {f : Nat → xE} (hI : xI n o c w ms) (x y z : Int32) : xr_Mi l y_R_sorted b_R_sorted 4 (some .int) 4 [.int x, .int y, .int z] n o c w ms f (fun v n' o' c' w' ms' f' => sp_sorted n f x y z v n' f' ∧ xI n' o' c' w' ms') := by
  refine xr_Mi.of [some (.int x), some (.int y), some (.int z)] (by decide +kernel) rfl rfl rfl ?_
  have hn := hI.1
  intro Γ a cI cO G K rt
  have G : xa_G Γ "RowPress" b_R_sorted 4 := G
  refine xa_aload_n G (i := 0) d_R_sorted_0 rfl rfl ?_
  refine xa_iload_n G (i := 1) d_R_sorted_1 rfl rfl ?_
  refine xa_iload_n G (i := 2) d_R_sorted_2 rfl rfl ?_
  refine xr_calli G K k_R_55 (c_R_isStretch (xl Γ) hn x y) (by omega) (by decide) rfl rfl (Nat.le_of_ble_eq_true rfl) d_R_sorted_3 (fun v n' o' c' w' ms' f' hu => ?_)
  obtain ⟨hb, rfl, rfl, rfl, rfl, rfl, rfl⟩ := hu
  rcases hb with ⟨rfl, i, j, h1, h2, rfl, rfl⟩ | ⟨rfl, hno⟩
  · refine xa_ifeq1 G (tgt := 17) d_R_sorted_6 (by decide) ?_
    refine xa_aload_n G (i := 0) d_R_sorted_9 rfl rfl ?_
    refine xa_iload_n G (i := 3) d_R_sorted_10 rfl rfl ?_
    refine xr_calli G K k_R_93 (c_R_isOrder (xl Γ) z) (by omega) (by decide) rfl rfl (Nat.le_of_ble_eq_true rfl) d_R_sorted_11 (fun v n' o' c' w' ms' f' hu => ?_)
    obtain ⟨hb, rfl, rfl, rfl, rfl, rfl, rfl⟩ := hu
    rcases hb with ⟨rfl, q, hq, rfl⟩ | ⟨rfl, hno⟩
    · have hI' : xI n q c w ms := ⟨hn, hq, hI.2.2⟩
      refine xa_ifne1 G (tgt := 19) d_R_sorted_14 (by decide) ?_
      refine xa_aload_n G (i := 0) d_R_sorted_19 rfl rfl ?_
      refine xa_aload_n G (i := 0) d_R_sorted_20 rfl rfl ?_
      refine xr_gO G K d_R_sorted_21 ?_
      refine xa_iload_n G (i := 3) d_R_sorted_24 rfl rfl ?_
      refine xr_ldO G K d_R_sorted_25 (by omega) ?_
      refine xr_po G K d_R_sorted_26 ?_
      refine xa_aload_n G (i := 0) d_R_sorted_29 rfl rfl ?_
      refine xa_iload_n G (i := 1) d_R_sorted_30 rfl rfl ?_
      refine xa_iload_n G (i := 2) d_R_sorted_31 rfl rfl ?_
      refine xr_calli G K k_R_103 (c_R_isSorted (xl Γ) hq (lo := i) (hi := j) h1 (by omega)) (by omega) (by decide) rfl rfl (Nat.le_of_ble_eq_true rfl) d_R_sorted_32 (fun v n' o' c' w' ms' f' hu => ?_)
      obtain ⟨hb, rfl, rfl, rfl, rfl, rfl, rfl⟩ := hu
      rcases hb with ⟨rfl, sA⟩ | ⟨rfl, sA⟩
      · refine xa_ifeq1 G (tgt := 42) d_R_sorted_35 (by decide) ?_
        refine xa_iconst G (v := (1 : Int32)) d_R_sorted_38 (by decide +kernel) ?_
        refine xa_goto G (tgt := 43) d_R_sorted_39 (by decide) ?_
        exact rt _ _ _ _ _ _ _ _ _ d_R_sorted_43 rfl ⟨Or.inr ⟨i, j, q, ⟨h1, h2, rfl, rfl, hq, rfl⟩, Or.inl ⟨rfl, sA⟩, rfl, rfl⟩, hI'⟩
      · refine xa_ifeq0 G (tgt := 42) d_R_sorted_35 (by decide) ?_
        refine xa_iconst G (v := (0 : Int32)) d_R_sorted_42 (by decide +kernel) ?_
        exact rt _ _ _ _ _ _ _ _ _ d_R_sorted_43 rfl ⟨Or.inr ⟨i, j, q, ⟨h1, h2, rfl, rfl, hq, rfl⟩, Or.inr ⟨rfl, sA⟩, rfl, rfl⟩, hI'⟩
    · refine xa_ifne0 G (tgt := 19) d_R_sorted_14 (by decide) ?_
      refine xa_iconst G (v := (-1 : Int32)) d_R_sorted_17 (by decide +kernel) ?_
      exact rt _ _ _ _ _ _ _ _ _ d_R_sorted_18 rfl ⟨Or.inl ⟨fun ⟨i0, j0, q0, g1, g2, g3, g4, g5, g6⟩ => hno ⟨q0, g5, g6⟩, rfl, rfl, rfl⟩, hI⟩
  · refine xa_ifeq0 G (tgt := 17) d_R_sorted_6 (by decide) ?_
    refine xa_iconst G (v := (-1 : Int32)) d_R_sorted_17 (by decide +kernel) ?_
    exact rt _ _ _ _ _ _ _ _ _ d_R_sorted_18 rfl ⟨Or.inl ⟨fun ⟨i0, j0, q0, g1, g2, g3, g4, g5, g6⟩ => hno ⟨i0, j0, g1, g2, g3, g4⟩, rfl, rfl, rfl⟩, hI⟩
set_option maxHeartbeats 1000000 in
theorem c_R_thin (l : Launch) {n o c w ms : Nat} {f : Nat → xE} (hI : xI n o c w ms) (x : Int32) : xr_Mi l y_R_thin b_R_thin 4 (some .int) 5 [.int x] n o c w ms f (fun v n' o' c' w' ms' f' => sp_thin n f x v n' f' ∧ xI n' o' c' w' ms') := by
  have hn := hI.1
  refine xr_Mi.of [some (.int x), none, none] (by decide +kernel) rfl rfl rfl ?_
  intro Γ a cI cO G K rt
  have G : xa_G Γ "RowPress" b_R_thin 5 := G
  refine xa_aload_n G (i := 0) d_R_thin_0 rfl rfl ?_
  refine xa_iconst G (v := nI 0) d_R_thin_1 (by decide +kernel) ?_
  refine xa_aload_n G (i := 0) d_R_thin_2 rfl rfl ?_
  refine xr_gn G K d_R_thin_3 ?_
  refine xa_iload_n G (i := 1) d_R_thin_6 rfl rfl ?_
  refine xr_calli G K k_R_109 (c_R_sorted (xl Γ) hn (nI 0) (nI n) x) (by omega) (by decide) rfl rfl (Nat.le_of_ble_eq_true rfl) d_R_thin_7 (fun v n' o' c' w' ms' f' hu => ?_)
  have bad : ∀ (v : Int32) (o1 : Nat) (lv : List (Option Value)), o1 < 4 → lv = [some (.ref (a 0)), some (.int x), none, none] → (v = -1 ∨ v = 0) → (¬ ∃ q, q < 4 ∧ x = nI q ∧ xSo (xkx q) 0 n f) → xa_At Γ (xw a cI cO n o1 c w ms f) 10 lv [.int v] := by
    intro v o1 lv ho1 hlv hv hno
    subst hlv
    refine xa_iconst G (v := nI 1) d_R_thin_10 (by decide +kernel) ?_
    refine xa_icmp_eq G (tgt := 16) d_R_thin_11 (by decide) (fun h3 => ?_) (fun h3 => ?_)
    · rcases hv with rfl | rfl
      · exact absurd h3 (by decide +kernel)
      · exact absurd h3 (by decide +kernel)
    · refine xa_iconst G (v := (-1 : Int32)) d_R_thin_14 (by decide +kernel) ?_
      exact rt _ _ _ _ _ _ _ _ _ d_R_thin_15 rfl ⟨Or.inl ⟨hno, rfl, rfl, rfl⟩, hn, ho1, hI.2.2⟩
  rcases hu with ⟨hno, rfl, rfl, rfl, rfl, rfl, rfl, rfl⟩ | ⟨i, j, q, ⟨h1, h2, h3, h4, hq, rfl⟩, hb, rfl, rfl, rfl, rfl, rfl, rfl⟩
  · exact bad _ _ _ hI.2.1 rfl (Or.inl rfl) (fun ⟨q, g1, g2, g3⟩ => hno ⟨0, n, q, by omega, by omega, rfl, rfl, g1, g2⟩)
  · rw [nI_eq (by omega) (by omega)] at h3 h4
    subst h3 h4
    rcases hb with ⟨rfl, sA⟩ | ⟨rfl, sA⟩
    · have inv := xth_inv sA
      have loop : ∀ (t k : Nat), k + t = n → xa_At Γ (xw a cI cO n q c w ms (xth (xkx q) f k).2) 20 [some (.ref (a 0)), some (.int (nI q)), some (.int (nI (xth (xkx q) f k).1)), some (.int (nI k))] [] := by
        intro t
        induction t with
        | zero =>
          intro k hk
          obtain rfl : k = n := by omega
          obtain ⟨i1, i2, i3⟩ := inv k (by omega)
          refine xa_iload_n G (i := 3) d_R_thin_20 rfl rfl ?_
          refine xa_aload_n G (i := 0) d_R_thin_21 rfl rfl ?_
          refine xr_gn G K d_R_thin_22 ?_
          refine xa_geN G (tgt := 89) d_R_thin_25 (by decide) (by omega) (by omega) (fun h5 => ?_) (fun h5 => ?_)
          · refine xa_aload_n G (i := 0) d_R_thin_89 rfl rfl ?_
            refine xa_iload_n G (i := 2) d_R_thin_90 rfl rfl ?_
            refine xr_pn G K d_R_thin_91 ?_
            refine xa_aload_n G (i := 0) d_R_thin_94 rfl rfl ?_
            refine xr_gn G K d_R_thin_95 ?_
            exact rt _ _ _ _ _ _ _ _ _ d_R_thin_98 rfl ⟨Or.inr ⟨q, ⟨hq, rfl, sA⟩, rfl, rfl, rfl⟩, by omega, hq, hI.2.2⟩
          · omega
        | succ t ih =>
          intro k hk
          obtain ⟨i1, i2, i3⟩ := inv k (by omega)
          have ih' := ih (k + 1) (by omega)
          have hgk := i2 k i1
          refine xa_iload_n G (i := 3) d_R_thin_20 rfl rfl ?_
          refine xa_aload_n G (i := 0) d_R_thin_21 rfl rfl ?_
          refine xr_gn G K d_R_thin_22 ?_
          refine xa_geN G (tgt := 89) d_R_thin_25 (by decide) (by omega) (by omega) (fun h5 => ?_) (fun h5 => ?_)
          · omega
          · generalize hm : (xth (xkx q) f k).1 = m at i1 i2 i3 ⊢
            generalize hg : (xth (xkx q) f k).2 = g at i2 i3 hgk ⊢
            have k56 : (k = 0 ∨ xkx q (f (k - 1)) < xkx q (f k)) → xa_At Γ (xw a cI cO n q c w ms g) 56 [some (.ref (a 0)), some (.int (nI q)), some (.int (nI m)), some (.int (nI k))] [] := by
              intro hA
              rw [xth_1 hA, hm, hg] at ih'
              refine xa_aload_n G (i := 0) d_R_thin_56 rfl rfl ?_
              refine xr_gK G K d_R_thin_57 ?_
              refine xa_iload_n G (i := 2) d_R_thin_60 rfl rfl ?_
              refine xa_aload_n G (i := 0) d_R_thin_61 rfl rfl ?_
              refine xr_gK G K d_R_thin_62 ?_
              refine xa_iload_n G (i := 3) d_R_thin_65 rfl rfl ?_
              first | refine xr_ldK G K d_R_thin_66 ?_ ?_ | refine xr_ldT G K d_R_thin_66 ?_ ?_
              · omega
              first | refine xr_stK G K d_R_thin_67 ?_ ?_ | refine xr_stT G K d_R_thin_67 ?_ ?_
              · omega
              refine xa_aload_n G (i := 0) d_R_thin_68 rfl rfl ?_
              refine xr_gT G K d_R_thin_69 ?_
              refine xa_iload_n G (i := 2) d_R_thin_72 rfl rfl ?_
              refine xa_aload_n G (i := 0) d_R_thin_73 rfl rfl ?_
              refine xr_gT G K d_R_thin_74 ?_
              refine xa_iload_n G (i := 3) d_R_thin_77 rfl rfl ?_
              first | refine xr_ldK G K d_R_thin_78 ?_ ?_ | refine xr_ldT G K d_R_thin_78 ?_ ?_
              · omega
              first | refine xr_stK G K d_R_thin_79 ?_ ?_ | refine xr_stT G K d_R_thin_79 ?_ ?_
              · omega
              rw [xup_eq, hgk]
              refine xa_inc1 G d_R_thin_80 rfl rfl ?_
              refine xa_inc1 G d_R_thin_83 rfl rfl ?_
              refine xa_goto G (tgt := 20) d_R_thin_86 (by decide) ?_
              exact ih'
            have k83 : ¬ (k = 0 ∨ xkx q (f (k - 1)) < xkx q (f k)) → xa_At Γ (xw a cI cO n q c w ms g) 83 [some (.ref (a 0)), some (.int (nI q)), some (.int (nI m)), some (.int (nI k))] [] := by
              intro hA
              rw [xth_n hA, hm, hg] at ih'
              refine xa_inc1 G d_R_thin_83 rfl rfl ?_
              refine xa_goto G (tgt := 20) d_R_thin_86 (by decide) ?_
              exact ih'
            refine xa_iload_n G (i := 2) d_R_thin_28 rfl rfl ?_
            refine xa_ifeqN G (tgt := 56) d_R_thin_29 (by decide) (by omega) (fun h6 => ?_) (fun h6 => ?_)
            · refine k56 (Or.inl ?_)
              rcases Nat.eq_zero_or_pos k with g0 | g0
              · exact g0
              · have := (i3 g0).1; omega
            · have hk0 : 0 < k := by omega
              obtain ⟨j1, j2⟩ := i3 hk0
              have le := sA (k - 1) k (by omega) (by omega) (by omega)
              refine xa_aload_n G (i := 0) d_R_thin_32 rfl rfl ?_
              refine xr_go G K d_R_thin_33 ?_
              refine xa_aload_n G (i := 0) d_R_thin_36 rfl rfl ?_
              refine xr_gK G K d_R_thin_37 ?_
              refine xa_iload_n G (i := 2) d_R_thin_40 rfl rfl ?_
              refine xa_iconst G (v := nI 1) d_R_thin_41 (by decide +kernel) ?_
              refine xa_subN G d_R_thin_42 (by omega) ?_
              first | refine xr_ldK G K d_R_thin_43 ?_ ?_ | refine xr_ldT G K d_R_thin_43 ?_ ?_
              · omega
              refine xa_aload_n G (i := 0) d_R_thin_44 rfl rfl ?_
              refine xr_gK G K d_R_thin_45 ?_
              refine xa_iload_n G (i := 3) d_R_thin_48 rfl rfl ?_
              first | refine xr_ldK G K d_R_thin_49 ?_ ?_ | refine xr_ldT G K d_R_thin_49 ?_ ?_
              · omega
              refine xr_cmp G K (by omega) (by omega) (Nat.le_of_ble_eq_true rfl) d_R_thin_50 (fun v hv => ?_)
              rw [hgk] at hv
              have j2' : xK q (g (m - 1)).1 = xkx q (f (k - 1)) := j2
              refine xa_ceq G hv (tgt := 83) d_R_thin_53 (by decide) (fun h7 => k83 ?_) (fun h7 => k56 (Or.inr ?_))
              · have h7' : xK q (g (m - 1)).1 = xkx q (f k) := h7
                omega
              · have h7' : xK q (g (m - 1)).1 ≠ xkx q (f k) := h7
                omega
      refine xa_iconst G (v := nI 1) d_R_thin_10 (by decide +kernel) ?_
      refine xa_icmp_eq G (tgt := 16) d_R_thin_11 (by decide) (fun h3 => ?_) (fun h3 => ?_)
      · refine xa_iconst G (v := nI 0) d_R_thin_16 (by decide +kernel) ?_
        refine xa_istore_n G (i := 2) d_R_thin_17 rfl rfl ?_
        refine xa_iconst G (v := nI 0) d_R_thin_18 (by decide +kernel) ?_
        refine xa_istore_n G (i := 3) d_R_thin_19 rfl rfl ?_
        exact loop n 0 (by omega)
      · exact absurd (by decide +kernel) h3
    · refine bad _ _ _ hq rfl (Or.inr rfl) (fun ⟨q0, g1, g2, g3⟩ => ?_)
      rw [nI_eq (by omega) (by omega)] at g2
      subst g2
      exact sA g3
set_option maxHeartbeats 1000000 in
theorem c_R_find (l : Launch) {n o c w ms : Nat} {f : Nat → xE} (hI : xI n o c w ms) (key y z : Int32) : xr_Mi l y_R_find b_R_find 7 (some .int) 5 [.int key, .int y, .int z] n o c w ms f (fun v n' o' c' w' ms' f' => sp_find n f key y z v n' f' ∧ xI n' o' c' w' ms') := by
  have hn := hI.1
  refine xr_Mi.of [some (.int key), some (.int y), some (.int z), none, none, none] (by decide +kernel) rfl rfl rfl ?_
  intro Γ a cI cO G K rt
  have G : xa_G Γ "RowPress" b_R_find 5 := G
  have bad : ∀ (o1 : Nat) (lv : List (Option Value)), o1 < 4 → (¬ ∃ q ps, q < 4 ∧ y = nI q ∧ ps ≤ 1 ∧ z = nI ps ∧ xSo (xkx q) 0 n f) → xa_At Γ (xw a cI cO n o1 c w ms f) 23 lv [] := by
    intro o1 lv ho1 hno
    refine xa_iconst G (v := (-1 : Int32)) d_R_find_23 (by decide +kernel) ?_
    exact rt _ _ _ _ _ _ _ _ _ d_R_find_24 rfl ⟨Or.inl ⟨hno, rfl, rfl, rfl⟩, hn, ho1, hI.2.2⟩
  refine xa_iload_n G (i := 3) d_R_find_0 rfl rfl ?_
  refine xa_if_lt G (tgt := 23) d_R_find_1 (by decide) (fun h1 => ?_) (fun h1 => ?_)
  · refine bad o _ hI.2.1 (fun ⟨q, ps, g1, g2, g3, g4, g5⟩ => ?_)
    subst g4
    exact nI_pos (by omega) h1
  · refine xa_iload_n G (i := 3) d_R_find_4 rfl rfl ?_
    refine xa_iconst G (v := nI 1) d_R_find_5 (by decide +kernel) ?_
    refine xa_icmp_gt G (tgt := 23) d_R_find_6 (by decide) (fun h2 => ?_) (fun h2 => ?_)
    · refine bad o _ hI.2.1 (fun ⟨q, ps, g1, g2, g3, g4, g5⟩ => ?_)
      subst g4
      rw [nI_ltI (by omega) (by omega)] at h2
      omega
    · obtain ⟨ps, hps, rfl⟩ := nI_of2 (M := nI 1) (n := 1) (by decide +kernel) h1 (Int32.not_lt.mp h2)
      refine xa_aload_n G (i := 0) d_R_find_9 rfl rfl ?_
      refine xa_iconst G (v := nI 0) d_R_find_10 (by decide +kernel) ?_
      refine xa_aload_n G (i := 0) d_R_find_11 rfl rfl ?_
      refine xr_gn G K d_R_find_12 ?_
      refine xa_iload_n G (i := 2) d_R_find_15 rfl rfl ?_
      refine xr_calli G K k_R_109 (c_R_sorted (xl Γ) hn (nI 0) (nI n) y) (by omega) (by decide) rfl rfl (Nat.le_of_ble_eq_true rfl) d_R_find_16 (fun v n' o' c' w' ms' f' hu => ?_)
      rcases hu with ⟨hno, rfl, rfl, rfl, rfl, rfl, rfl, rfl⟩ | ⟨i, j, q, ⟨g1, g2, g3, g4, hq, rfl⟩, hb, rfl, rfl, rfl, rfl, rfl, rfl⟩
      · refine xa_iconst G (v := nI 1) d_R_find_19 (by decide +kernel) ?_
        refine xa_icmp_eq G (tgt := 25) d_R_find_20 (by decide) (fun h3 => ?_) (fun h3 => ?_)
        · exact absurd h3 (by decide +kernel)
        · exact bad o _ hI.2.1 (fun ⟨q, ps, g1, g2, g3, g4, g5⟩ => hno ⟨0, n, q, by omega, by omega, rfl, rfl, g1, g2⟩)
      · rw [nI_eq (by omega) (by omega)] at g3 g4
        subst g3 g4
        rcases hb with ⟨rfl, sA⟩ | ⟨rfl, sA⟩
        · refine xa_iconst G (v := nI 1) d_R_find_19 (by decide +kernel) ?_
          refine xa_icmp_eq G (tgt := 25) d_R_find_20 (by decide) (fun h3 => ?_) (fun h3 => ?_)
          · have fin : ∀ p1 : Nat, p1 = ps → xa_At Γ (xw a cI cO n q c w ms f) 48 [some (.ref (a 0)), some (.int key), some (.int (nI q)), some (.int (nI ps)), some (.long (lN c)), none, none] [.int (nI p1), .int key, .int (nI n), .int (nI 0), .ref (a 0)] := by
              rintro p1 rfl
              refine xr_calli G K k_R_74 (c_R_search (xl Γ) hq (lo := 0) (hi := n) (key := key) (ps := p1) (by omega) hn hps 9 (by omega) sA) (by omega) (by decide) rfl rfl (Nat.le_of_ble_eq_true rfl) d_R_find_48 (fun v n' o' c' w' ms' f' hu => ?_)
              obtain ⟨⟨p, rfl, u1, u2, u3, u4⟩, rfl, rfl, hc, rfl, rfl, rfl⟩ := hu
              refine xa_istore G d_R_find_51 rfl ?_
              refine xa_aload_n G (i := 0) d_R_find_53 rfl rfl ?_
              refine xa_lload G d_R_find_54 rfl ?_
              refine xr_pc G K d_R_find_56 ?_
              refine xa_iload G d_R_find_59 rfl ?_
              refine rt _ _ _ _ _ _ _ _ _ d_R_find_61 rfl ⟨Or.inr ⟨q, p1, ⟨hq, rfl, hps, rfl, sA⟩, ?_, rfl, rfl⟩, hn, hq, hI.2.2⟩
              rw [xcnt_thr (p := p) n u2 (fun i g => u3 i (by omega) g) u4]
            refine xa_aload_n G (i := 0) d_R_find_25 rfl rfl ?_
            refine xr_gc G K d_R_find_26 ?_
            refine xa_lstore G d_R_find_29 rfl rfl ?_
            refine xa_aload_n G (i := 0) d_R_find_31 rfl rfl ?_
            refine xa_iconst G (v := nI 0) d_R_find_32 (by decide +kernel) ?_
            refine xa_aload_n G (i := 0) d_R_find_33 rfl rfl ?_
            refine xr_gn G K d_R_find_34 ?_
            refine xa_iload_n G (i := 1) d_R_find_37 rfl rfl ?_
            refine xa_iload_n G (i := 3) d_R_find_38 rfl rfl ?_
            refine xa_iconst G (v := nI 1) d_R_find_39 (by decide +kernel) ?_
            refine xa_neN G (tgt := 47) d_R_find_40 (by decide) (by omega) (by omega) (fun h4 => ?_) (fun h4 => ?_)
            · refine xa_iconst G (v := nI 0) d_R_find_47 (by decide +kernel) ?_
              exact fin 0 (by omega)
            · refine xa_iconst G (v := nI 1) d_R_find_43 (by decide +kernel) ?_
              refine xa_goto G (tgt := 48) d_R_find_44 (by decide) ?_
              exact fin 1 (by omega)
          · exact absurd (by decide +kernel) h3
        · refine xa_iconst G (v := nI 1) d_R_find_19 (by decide +kernel) ?_
          refine xa_icmp_eq G (tgt := 25) d_R_find_20 (by decide) (fun h3 => ?_) (fun h3 => ?_)
          · exact absurd h3 (by decide +kernel)
          · refine bad q _ hq (fun ⟨q0, ps, g1, g2, g3, g4, g5⟩ => ?_)
            rw [nI_eq (by omega) (by omega)] at g2
            subst g2
            exact sA g5
set_option maxHeartbeats 1000000 in
theorem c_R_rank (l : Launch) {n o c w ms : Nat} {f : Nat → xE} (hI : xI n o c w ms) (x y : Int32) : xr_Mi l y_R_rank b_R_rank 6 (some .int) 4 [.int x, .int y] n o c w ms f (fun v n' o' c' w' ms' f' => sp_rank n f x y v n' f' ∧ xI n' o' c' w' ms') := by
  have hn := hI.1
  refine xr_Mi.of [some (.int x), some (.int y), none, none, none] (by decide +kernel) rfl rfl rfl ?_
  intro Γ a cI cO G K rt
  have G : xa_G Γ "RowPress" b_R_rank 4 := G
  have bad : ∀ (lv : List (Option Value)), (¬ ∃ p q, p < n ∧ x = nI p ∧ q < 4 ∧ y = nI q) → xa_At Γ (xw a cI cO n o c w ms f) 20 lv [] := by
    intro lv hno
    refine xa_iconst G (v := (-1 : Int32)) d_R_rank_20 (by decide +kernel) ?_
    exact rt _ _ _ _ _ _ _ _ _ d_R_rank_21 rfl ⟨Or.inl ⟨hno, rfl, rfl, rfl⟩, hI⟩
  refine xa_iload_n G (i := 1) d_R_rank_0 rfl rfl ?_
  refine xa_if_lt G (tgt := 20) d_R_rank_1 (by decide) (fun h1 => ?_) (fun h1 => ?_)
  · refine bad _ (fun ⟨p, q, g1, g2, g3, g4⟩ => ?_)
    subst g2
    exact nI_pos (by omega) h1
  · refine xa_iload_n G (i := 1) d_R_rank_4 rfl rfl ?_
    refine xa_aload_n G (i := 0) d_R_rank_5 rfl rfl ?_
    refine xr_gn G K d_R_rank_6 ?_
    refine xa_icmp_ge G (tgt := 20) d_R_rank_9 (by decide) (fun h2 => ?_) (fun h2 => ?_)
    · refine bad _ (fun ⟨p, q, g1, g2, g3, g4⟩ => ?_)
      subst g2
      rw [nI_leI (by omega) (by omega)] at h2
      omega
    · obtain ⟨p, hp, rfl, -⟩ := pk_mu h1 h2 (by omega)
      refine xa_aload_n G (i := 0) d_R_rank_12 rfl rfl ?_
      refine xa_iload_n G (i := 2) d_R_rank_13 rfl rfl ?_
      refine xr_calli G K k_R_93 (c_R_isOrder (xl Γ) y) (by omega) (by decide) rfl rfl (Nat.le_of_ble_eq_true rfl) d_R_rank_14 (fun v n' o' c' w' ms' f' hu => ?_)
      obtain ⟨hb, rfl, rfl, rfl, rfl, rfl, rfl⟩ := hu
      rcases hb with ⟨rfl, q, hq, rfl⟩ | ⟨rfl, hno⟩
      · refine xa_ifne1 G (tgt := 22) d_R_rank_17 (by decide) ?_
        have loop : ∀ (t k : Nat) (z : Option Value), k + t = n → xa_At Γ (xw a cI cO n o c w ms f) 27 [some (.ref (a 0)), some (.int (nI p)), some (.int (nI q)), some (.int (nI (xcnt (fun k => xlx (xkx q) f k p) k))), some (.int (nI k)), z] [] := by
          intro t
          induction t with
          | zero =>
            intro k z hk
            obtain rfl : k = n := by omega
            refine xa_iload G d_R_rank_27 rfl ?_
            refine xa_aload_n G (i := 0) d_R_rank_29 rfl rfl ?_
            refine xr_gn G K d_R_rank_30 ?_
            refine xa_geN G (tgt := 90) d_R_rank_33 (by decide) (by omega) (by omega) (fun h5 => ?_) (fun h5 => ?_)
            · refine xa_iload_n G (i := 3) d_R_rank_90 rfl rfl ?_
              exact rt _ _ _ _ _ _ _ _ _ d_R_rank_91 rfl ⟨Or.inr ⟨p, q, ⟨hp, rfl, hq, rfl⟩, rfl, rfl, rfl⟩, hI⟩
            · omega
          | succ t ih =>
            intro k z hk
            have hc := xcnt_le (fun k => xlx (xkx q) f k p) k
            refine xa_iload G d_R_rank_27 rfl ?_
            refine xa_aload_n G (i := 0) d_R_rank_29 rfl rfl ?_
            refine xr_gn G K d_R_rank_30 ?_
            refine xa_geN G (tgt := 90) d_R_rank_33 (by decide) (by omega) (by omega) (fun h5 => ?_) (fun h5 => ?_)
            · omega
            · refine xa_aload_n G (i := 0) d_R_rank_36 rfl rfl ?_
              refine xr_gO G K d_R_rank_37 ?_
              refine xa_iload_n G (i := 2) d_R_rank_40 rfl rfl ?_
              refine xr_ldO G K d_R_rank_41 (by omega) ?_
              refine xa_aload_n G (i := 0) d_R_rank_42 rfl rfl ?_
              refine xr_gK G K d_R_rank_43 ?_
              refine xa_iload G d_R_rank_46 rfl ?_
              first | refine xr_ldK G K d_R_rank_48 ?_ ?_ | refine xr_ldT G K d_R_rank_48 ?_ ?_
              · omega
              refine xa_aload_n G (i := 0) d_R_rank_49 rfl rfl ?_
              refine xr_gK G K d_R_rank_50 ?_
              refine xa_iload_n G (i := 1) d_R_rank_53 rfl rfl ?_
              first | refine xr_ldK G K d_R_rank_54 ?_ ?_ | refine xr_ldT G K d_R_rank_54 ?_ ?_
              · omega
              refine xr_cmp G K hq (by omega) (Nat.le_of_ble_eq_true rfl) d_R_rank_55 (fun v hv => ?_)
              refine xa_istore G d_R_rank_58 rfl ?_
              refine xa_iload_n G (i := 3) d_R_rank_60 rfl rfl ?_
              refine xa_iload G d_R_rank_61 rfl ?_
              have k77 : xlx (xkx q) f k p → xa_At Γ (xw a cI cO n o c w ms f) 77 [some (.ref (a 0)), some (.int (nI p)), some (.int (nI q)), some (.int (nI (xcnt (fun k => xlx (xkx q) f k p) k))), some (.int (nI k)), some (.int v)] [.int (nI (xcnt (fun k => xlx (xkx q) f k p) k))] := by
                intro hA
                refine xa_iconst G (v := nI 1) d_R_rank_77 (by decide +kernel) ?_
                refine xa_goto G (tgt := 82) d_R_rank_78 (by decide) ?_
                refine xa_addN G d_R_rank_82 ?_
                refine xa_istore_n G (i := 3) d_R_rank_83 rfl rfl ?_
                refine xa_inc1 G d_R_rank_84 rfl rfl ?_
                refine xa_goto G (tgt := 27) d_R_rank_87 (by decide) ?_
                have h6 := ih (k + 1) (some (.int v)) (by omega)
                rw [xcnt_1 (P := fun k => xlx (xkx q) f k p) hA] at h6
                exact h6
              have k81 : ¬ xlx (xkx q) f k p → xa_At Γ (xw a cI cO n o c w ms f) 81 [some (.ref (a 0)), some (.int (nI p)), some (.int (nI q)), some (.int (nI (xcnt (fun k => xlx (xkx q) f k p) k))), some (.int (nI k)), some (.int v)] [.int (nI (xcnt (fun k => xlx (xkx q) f k p) k))] := by
                intro hA
                refine xa_iconst G (v := nI 0) d_R_rank_81 (by decide +kernel) ?_
                refine xa_addN G d_R_rank_82 ?_
                refine xa_istore_n G (i := 3) d_R_rank_83 rfl rfl ?_
                refine xa_inc1 G d_R_rank_84 rfl rfl ?_
                refine xa_goto G (tgt := 27) d_R_rank_87 (by decide) ?_
                have h6 := ih (k + 1) (some (.int v)) (by omega)
                rw [xcnt_n (P := fun k => xlx (xkx q) f k p) hA] at h6
                exact h6
              refine xa_clt G hv (tgt := 77) d_R_rank_63 (by decide) (fun h6 => k77 (Or.inl h6)) (fun h6 => ?_)
              have h6' : xkx q (f p) ≤ xkx q (f k) := h6
              refine xa_iload G d_R_rank_66 rfl ?_
              refine xa_cne G hv (tgt := 81) d_R_rank_68 (by decide) (fun h7 => k81 ?_) (fun h7 => ?_)
              · have h7' : xkx q (f k) ≠ xkx q (f p) := h7
                intro g
                unfold xlx at g
                omega
              · have h7' : xkx q (f k) = xkx q (f p) := h7
                refine xa_iload G d_R_rank_71 rfl ?_
                refine xa_iload_n G (i := 1) d_R_rank_73 rfl rfl ?_
                refine xa_geN G (tgt := 81) d_R_rank_74 (by decide) (by omega) (by omega) (fun h8 => ?_) (fun h8 => ?_)
                · refine k81 (fun g => ?_)
                  unfold xlx at g
                  omega
                · exact k77 (Or.inr ⟨h7', h8⟩)
        refine xa_iconst G (v := nI 0) d_R_rank_22 (by decide +kernel) ?_
        refine xa_istore_n G (i := 3) d_R_rank_23 rfl rfl ?_
        refine xa_iconst G (v := nI 0) d_R_rank_24 (by decide +kernel) ?_
        refine xa_istore G d_R_rank_25 rfl ?_
        exact loop n 0 none (by omega)
      · refine xa_ifne0 G (tgt := 22) d_R_rank_17 (by decide) ?_
        exact bad _ (fun ⟨p0, q0, g1, g2, g3, g4⟩ => hno ⟨q0, g3, g4⟩)
set_option maxHeartbeats 1000000 in
theorem c_R_key (l : Launch) {n o c w ms : Nat} {f : Nat → xE} (hI : xI n o c w ms) (x : Int32) : xr_Mi l y_R_key b_R_key 2 (some .int) 0 [.int x] n o c w ms f (fun v n' o' c' w' ms' f' => sp_key n f x v n' f' ∧ xI n' o' c' w' ms') := by
  have hn := hI.1
  refine xr_Mi.of [some (.int x)] (by decide +kernel) rfl rfl rfl ?_
  intro Γ a cI cO G K rt
  have G : xa_G Γ "RowPress" b_R_key 0 := G
  refine xa_iload_n G (i := 1) d_R_key_0 rfl rfl ?_
  refine xa_if_lt G (tgt := 21) d_R_key_1 (by decide) (fun h1 => ?_) (fun h1 => ?_)
  · refine xa_iconst G (v := (0 : Int32)) d_R_key_21 (by decide +kernel) ?_
    exact rt _ _ _ _ _ _ _ _ _ d_R_key_22 rfl ⟨⟨Or.inl ⟨fun ⟨p, g1, g2⟩ => nI_pos (n := p) (by omega) (g2 ▸ h1), rfl⟩, rfl, rfl⟩, hI⟩
  · refine xa_iload_n G (i := 1) d_R_key_4 rfl rfl ?_
    refine xa_aload_n G (i := 0) d_R_key_5 rfl rfl ?_
    refine xr_gn G K d_R_key_6 ?_
    refine xa_icmp_ge G (tgt := 21) d_R_key_9 (by decide) (fun h2 => ?_) (fun h2 => ?_)
    · refine xa_iconst G (v := (0 : Int32)) d_R_key_21 (by decide +kernel) ?_
      exact rt _ _ _ _ _ _ _ _ _ d_R_key_22 rfl ⟨⟨Or.inl ⟨fun ⟨p, g1, g2⟩ => nI_ge (a := p) g1 (by omega) (g2 ▸ h2), rfl⟩, rfl, rfl⟩, hI⟩
    · obtain ⟨p, hp, rfl, -⟩ := pk_mu h1 h2 (by omega)
      refine xa_aload_n G (i := 0) d_R_key_12 rfl rfl ?_
      refine xr_gK G K d_R_key_13 ?_
      refine xa_iload_n G (i := 1) d_R_key_16 rfl rfl ?_
      first | refine xr_ldK G K d_R_key_17 ?_ ?_ | refine xr_ldT G K d_R_key_17 ?_ ?_
      · omega
      refine xa_goto G (tgt := 22) d_R_key_18 (by decide) ?_
      exact rt _ _ _ _ _ _ _ _ _ d_R_key_22 rfl ⟨⟨Or.inr ⟨p, ⟨hp, rfl⟩, rfl⟩, rfl, rfl⟩, hI⟩
set_option maxHeartbeats 1000000 in
theorem c_R_tag (l : Launch) {n o c w ms : Nat} {f : Nat → xE} (hI : xI n o c w ms) (x : Int32) : xr_Mi l y_R_tag b_R_tag 2 (some .int) 0 [.int x] n o c w ms f (fun v n' o' c' w' ms' f' => sp_tag n f x v n' f' ∧ xI n' o' c' w' ms') := by
  have hn := hI.1
  refine xr_Mi.of [some (.int x)] (by decide +kernel) rfl rfl rfl ?_
  intro Γ a cI cO G K rt
  have G : xa_G Γ "RowPress" b_R_tag 0 := G
  refine xa_iload_n G (i := 1) d_R_tag_0 rfl rfl ?_
  refine xa_if_lt G (tgt := 21) d_R_tag_1 (by decide) (fun h1 => ?_) (fun h1 => ?_)
  · refine xa_iconst G (v := (0 : Int32)) d_R_tag_21 (by decide +kernel) ?_
    exact rt _ _ _ _ _ _ _ _ _ d_R_tag_22 rfl ⟨⟨Or.inl ⟨fun ⟨p, g1, g2⟩ => nI_pos (n := p) (by omega) (g2 ▸ h1), rfl⟩, rfl, rfl⟩, hI⟩
  · refine xa_iload_n G (i := 1) d_R_tag_4 rfl rfl ?_
    refine xa_aload_n G (i := 0) d_R_tag_5 rfl rfl ?_
    refine xr_gn G K d_R_tag_6 ?_
    refine xa_icmp_ge G (tgt := 21) d_R_tag_9 (by decide) (fun h2 => ?_) (fun h2 => ?_)
    · refine xa_iconst G (v := (0 : Int32)) d_R_tag_21 (by decide +kernel) ?_
      exact rt _ _ _ _ _ _ _ _ _ d_R_tag_22 rfl ⟨⟨Or.inl ⟨fun ⟨p, g1, g2⟩ => nI_ge (a := p) g1 (by omega) (g2 ▸ h2), rfl⟩, rfl, rfl⟩, hI⟩
    · obtain ⟨p, hp, rfl, -⟩ := pk_mu h1 h2 (by omega)
      refine xa_aload_n G (i := 0) d_R_tag_12 rfl rfl ?_
      refine xr_gT G K d_R_tag_13 ?_
      refine xa_iload_n G (i := 1) d_R_tag_16 rfl rfl ?_
      first | refine xr_ldK G K d_R_tag_17 ?_ ?_ | refine xr_ldT G K d_R_tag_17 ?_ ?_
      · omega
      refine xa_goto G (tgt := 22) d_R_tag_18 (by decide) ?_
      exact rt _ _ _ _ _ _ _ _ _ d_R_tag_22 rfl ⟨⟨Or.inr ⟨p, ⟨hp, rfl⟩, rfl⟩, rfl, rfl⟩, hI⟩
set_option maxHeartbeats 1000000 in
theorem c_R_runs (l : Launch) {n o c w ms : Nat} {f : Nat → xE} (hn : n ≤ 500) : xr_Mi l y_R_runs b_R_runs 3 (some .int) 0 [] n o c w ms f (fun v n' o' c' w' ms' f' => v = nI (xcnt (xP1 f) n) ∧ n = n' ∧ o = o' ∧ c = c' ∧ w = w' ∧ ms = ms' ∧ f = f') := by
  refine xr_Mi.of [none, none] (by decide +kernel) rfl rfl rfl ?_
  intro Γ a cI cO G K rt
  have G : xa_G Γ "RowPress" b_R_runs 0 := G
  have loop : ∀ (t k m : Nat), k + t = n + 1 → 1 ≤ k → m = xcnt (xP1 f) (min k n) → xa_At Γ (xw a cI cO n o c w ms f) 15 [some (.ref (a 0)), some (.int (nI m)), some (.int (nI k))] [] := by
    intro t
    induction t with
    | zero =>
      intro k m h1 h2 h3
      refine xa_iload_n G (i := 2) d_R_runs_15 rfl rfl ?_
      refine xa_aload_n G (i := 0) d_R_runs_16 rfl rfl ?_
      refine xr_gn G K d_R_runs_17 ?_
      refine xa_geN G (tgt := 54) d_R_runs_20 (by decide) (by omega) (by omega) (fun h5 => ?_) (fun h5 => ?_)
      · refine xa_iload_n G (i := 1) d_R_runs_54 rfl rfl ?_
        exact rt _ _ _ _ _ _ _ _ _ d_R_runs_55 rfl ⟨by rw [h3, Nat.min_eq_right (by omega)], rfl, rfl, rfl, rfl, rfl, rfl⟩
      · omega
    | succ t ih =>
      intro k m h1 h2 h3
      refine xa_iload_n G (i := 2) d_R_runs_15 rfl rfl ?_
      refine xa_aload_n G (i := 0) d_R_runs_16 rfl rfl ?_
      refine xr_gn G K d_R_runs_17 ?_
      refine xa_geN G (tgt := 54) d_R_runs_20 (by decide) (by omega) (by omega) (fun h5 => ?_) (fun h5 => ?_)
      · refine xa_iload_n G (i := 1) d_R_runs_54 rfl rfl ?_
        exact rt _ _ _ _ _ _ _ _ _ d_R_runs_55 rfl ⟨by rw [h3, Nat.min_eq_right (by omega)], rfl, rfl, rfl, rfl, rfl, rfl⟩
      · rw [Nat.min_eq_left (by omega)] at h3
        have hc := xcnt_le (xP1 f) k
        refine xa_iload_n G (i := 1) d_R_runs_23 rfl rfl ?_
        refine xa_aload_n G (i := 0) d_R_runs_24 rfl rfl ?_
        refine xr_gK G K d_R_runs_25 ?_
        refine xa_iload_n G (i := 2) d_R_runs_28 rfl rfl ?_
        first | refine xr_ldK G K d_R_runs_29 ?_ ?_ | refine xr_ldT G K d_R_runs_29 ?_ ?_
        · omega
        refine xa_aload_n G (i := 0) d_R_runs_30 rfl rfl ?_
        refine xr_gK G K d_R_runs_31 ?_
        refine xa_iload_n G (i := 2) d_R_runs_34 rfl rfl ?_
        refine xa_iconst G (v := nI 1) d_R_runs_35 (by decide +kernel) ?_
        refine xa_subN G d_R_runs_36 (by omega) ?_
        first | refine xr_ldK G K d_R_runs_37 ?_ ?_ | refine xr_ldT G K d_R_runs_37 ?_ ?_
        · omega
        refine xa_icmp_ge G (tgt := 45) d_R_runs_38 (by decide) (fun h6 => ?_) (fun h6 => ?_)
        · refine xa_iconst G (v := nI 0) d_R_runs_45 (by decide +kernel) ?_
          refine xa_addN G d_R_runs_46 ?_
          refine xa_istore_n G (i := 1) d_R_runs_47 rfl rfl ?_
          refine xa_inc1 G d_R_runs_48 rfl rfl ?_
          refine xa_goto G (tgt := 15) d_R_runs_51 (by decide) ?_
          refine ih (k + 1) (m + 0) (by omega) (by omega) ?_
          rw [Nat.min_eq_left (by omega), xcnt_n, h3]; rfl
          intro g
          rcases g with g | g
          · omega
          · exact Int32.not_lt.mpr h6 g
        · refine xa_iconst G (v := nI 1) d_R_runs_41 (by decide +kernel) ?_
          refine xa_goto G (tgt := 46) d_R_runs_42 (by decide) ?_
          refine xa_addN G d_R_runs_46 ?_
          refine xa_istore_n G (i := 1) d_R_runs_47 rfl rfl ?_
          refine xa_inc1 G d_R_runs_48 rfl rfl ?_
          refine xa_goto G (tgt := 15) d_R_runs_51 (by decide) ?_
          refine ih (k + 1) (m + 1) (by omega) (by omega) ?_
          rw [Nat.min_eq_left (by omega), xcnt_1 (Or.inr (Int32.not_le.mp h6)), h3]
  refine xa_aload_n G (i := 0) d_R_runs_0 rfl rfl ?_
  refine xr_gn G K d_R_runs_1 ?_
  refine xa_ifleN G (tgt := 11) d_R_runs_4 (by decide) (by omega) (fun h1 => ?_) (fun h1 => ?_)
  · subst h1
    refine xa_iconst G (v := nI 0) d_R_runs_11 (by decide +kernel) ?_
    refine xa_istore_n G (i := 1) d_R_runs_12 rfl rfl ?_
    refine xa_iconst G (v := nI 1) d_R_runs_13 (by decide +kernel) ?_
    refine xa_istore_n G (i := 2) d_R_runs_14 rfl rfl ?_
    exact loop 0 1 0 (by omega) (by omega) rfl
  · refine xa_iconst G (v := nI 1) d_R_runs_7 (by decide +kernel) ?_
    refine xa_goto G (tgt := 12) d_R_runs_8 (by decide) ?_
    refine xa_istore_n G (i := 1) d_R_runs_12 rfl rfl ?_
    refine xa_iconst G (v := nI 1) d_R_runs_13 (by decide +kernel) ?_
    refine xa_istore_n G (i := 2) d_R_runs_14 rfl rfl ?_
    refine loop n 1 1 (by omega) (by omega) ?_
    rw [Nat.min_eq_left (by omega), xcnt_1 (Or.inl rfl)]; rfl
set_option maxHeartbeats 1000000 in
theorem c_R_different (l : Launch) {n o c w ms : Nat} {f : Nat → xE} (hn : n ≤ 500) : xr_Mi l y_R_different b_R_different 4 (some .int) 0 [] n o c w ms f (fun v n' o' c' w' ms' f' => v = nI (xcnt (xP2 f) n) ∧ n = n' ∧ o = o' ∧ c = c' ∧ w = w' ∧ ms = ms' ∧ f = f') := by
  refine xr_Mi.of [none, none, none] (by decide +kernel) rfl rfl rfl ?_
  intro Γ a cI cO G K rt
  have G : xa_G Γ "RowPress" b_R_different 0 := G
  have loop : ∀ (t k m : Nat) (z : Option Value), k + t = n → m = xcnt (xP2 f) k → xa_At Γ (xw a cI cO n o c w ms f) 4 [some (.ref (a 0)), some (.int (nI m)), some (.int (nI k)), z] [] := by
    intro t
    induction t with
    | zero =>
      intro k m z h1 h3
      obtain rfl : k = n := by omega
      refine xa_iload_n G (i := 2) d_R_different_4 rfl rfl ?_
      refine xa_aload_n G (i := 0) d_R_different_5 rfl rfl ?_
      refine xr_gn G K d_R_different_6 ?_
      refine xa_geN G (tgt := 54) d_R_different_9 (by decide) (by omega) (by omega) (fun h5 => ?_) (fun h5 => ?_)
      · refine xa_iload_n G (i := 1) d_R_different_54 rfl rfl ?_
        exact rt _ _ _ _ _ _ _ _ _ d_R_different_55 rfl ⟨by rw [h3], rfl, rfl, rfl, rfl, rfl, rfl⟩
      · omega
    | succ t ih =>
      intro k m z h1 h3
      have hc := xcnt_le (xP2 f) k
      refine xa_iload_n G (i := 2) d_R_different_4 rfl rfl ?_
      refine xa_aload_n G (i := 0) d_R_different_5 rfl rfl ?_
      refine xr_gn G K d_R_different_6 ?_
      refine xa_geN G (tgt := 54) d_R_different_9 (by decide) (by omega) (by omega) (fun h5 => ?_) (fun h5 => ?_)
      · omega
      · have inner : ∀ (u e : Nat), e + u = k → (∀ j, j < e → (f j).1 ≠ (f k).1) → xa_At Γ (xw a cI cO n o c w ms f) 14 [some (.ref (a 0)), some (.int (nI m)), some (.int (nI k)), some (.int (nI e))] [] := by
          intro u
          induction u with
          | zero =>
            intro e g1 g2
            obtain rfl : e = k := by omega
            refine xa_aload_n G (i := 0) d_R_different_14 rfl rfl ?_
            refine xr_gK G K d_R_different_15 ?_
            refine xa_iload_n G (i := 3) d_R_different_18 rfl rfl ?_
            first | refine xr_ldK G K d_R_different_19 ?_ ?_ | refine xr_ldT G K d_R_different_19 ?_ ?_
            · omega
            refine xa_aload_n G (i := 0) d_R_different_20 rfl rfl ?_
            refine xr_gK G K d_R_different_21 ?_
            refine xa_iload_n G (i := 2) d_R_different_24 rfl rfl ?_
            first | refine xr_ldK G K d_R_different_25 ?_ ?_ | refine xr_ldT G K d_R_different_25 ?_ ?_
            · omega
            refine xa_icmp_eq G (tgt := 35) d_R_different_26 (by decide) (fun h6 => ?_) (fun h6 => ?_)
            · refine xa_iload_n G (i := 1) d_R_different_35 rfl rfl ?_
              refine xa_iload_n G (i := 3) d_R_different_36 rfl rfl ?_
              refine xa_iload_n G (i := 2) d_R_different_37 rfl rfl ?_
              refine xa_neN G (tgt := 45) d_R_different_38 (by decide) (by omega) (by omega) (fun h7 => ?_) (fun h7 => ?_)
              · omega
              · refine xa_iconst G (v := nI 1) d_R_different_41 (by decide +kernel) ?_
                refine xa_goto G (tgt := 46) d_R_different_42 (by decide) ?_
                refine xa_addN G d_R_different_46 ?_
                refine xa_istore_n G (i := 1) d_R_different_47 rfl rfl ?_
                refine xa_inc1 G d_R_different_48 rfl rfl ?_
                refine xa_goto G (tgt := 4) d_R_different_51 (by decide) ?_
                refine ih (e + 1) (m + 1) _ (by omega) ?_
                rw [xcnt_1 g2, h3]
            · exact absurd rfl h6
          | succ u ihu =>
            intro e g1 g2
            refine xa_aload_n G (i := 0) d_R_different_14 rfl rfl ?_
            refine xr_gK G K d_R_different_15 ?_
            refine xa_iload_n G (i := 3) d_R_different_18 rfl rfl ?_
            first | refine xr_ldK G K d_R_different_19 ?_ ?_ | refine xr_ldT G K d_R_different_19 ?_ ?_
            · omega
            refine xa_aload_n G (i := 0) d_R_different_20 rfl rfl ?_
            refine xr_gK G K d_R_different_21 ?_
            refine xa_iload_n G (i := 2) d_R_different_24 rfl rfl ?_
            first | refine xr_ldK G K d_R_different_25 ?_ ?_ | refine xr_ldT G K d_R_different_25 ?_ ?_
            · omega
            refine xa_icmp_eq G (tgt := 35) d_R_different_26 (by decide) (fun h6 => ?_) (fun h6 => ?_)
            · refine xa_iload_n G (i := 1) d_R_different_35 rfl rfl ?_
              refine xa_iload_n G (i := 3) d_R_different_36 rfl rfl ?_
              refine xa_iload_n G (i := 2) d_R_different_37 rfl rfl ?_
              refine xa_neN G (tgt := 45) d_R_different_38 (by decide) (by omega) (by omega) (fun h7 => ?_) (fun h7 => ?_)
              · refine xa_iconst G (v := nI 0) d_R_different_45 (by decide +kernel) ?_
                refine xa_addN G d_R_different_46 ?_
                refine xa_istore_n G (i := 1) d_R_different_47 rfl rfl ?_
                refine xa_inc1 G d_R_different_48 rfl rfl ?_
                refine xa_goto G (tgt := 4) d_R_different_51 (by decide) ?_
                refine ih (k + 1) (m + 0) _ (by omega) ?_
                rw [xcnt_n (fun g => g e (by omega) h6), h3]; rfl
              · omega
            · refine xa_inc1 G d_R_different_29 rfl rfl ?_
              refine xa_goto G (tgt := 14) d_R_different_32 (by decide) ?_
              refine ihu (e + 1) (by omega) (fun j g3 => ?_)
              rcases Nat.lt_or_ge j e with g4 | g4
              · exact g2 j g4
              · obtain rfl : j = e := by omega
                exact h6
        refine xa_iconst G (v := nI 0) d_R_different_12 (by decide +kernel) ?_
        refine xa_istore_n G (i := 3) d_R_different_13 rfl rfl ?_
        exact inner k 0 (by omega) (fun j g => absurd g (Nat.not_lt_zero j))
  refine xa_iconst G (v := nI 0) d_R_different_0 (by decide +kernel) ?_
  refine xa_istore_n G (i := 1) d_R_different_1 rfl rfl ?_
  refine xa_iconst G (v := nI 0) d_R_different_2 (by decide +kernel) ?_
  refine xa_istore_n G (i := 2) d_R_different_3 rfl rfl ?_
  exact loop n 0 0 none (by omega) rfl
set_option maxHeartbeats 1000000 in
theorem c_R_count (l : Launch) {n o c w ms : Nat} {f : Nat → xE} (hI : xI n o c w ms) (x : Int32) : xr_Mi l y_R_count b_R_count 2 (some .int) 1 [.int x] n o c w ms f (fun v n' o' c' w' ms' f' => sp_count n f x v n' f' ∧ xI n' o' c' w' ms') := by
  have hn := hI.1
  refine xr_Mi.of [some (.int x)] (by decide +kernel) rfl rfl rfl ?_
  intro Γ a cI cO G K rt
  have G : xa_G Γ "RowPress" b_R_count 1 := G
  refine xa_iload_n G (i := 1) d_R_count_0 rfl rfl ?_
  refine xa_if_ne G (tgt := 11) d_R_count_1 (by decide) (fun h1 => ?_) (fun h1 => ?_)
  · refine xa_iload_n G (i := 1) d_R_count_11 rfl rfl ?_
    refine xa_iconst G (v := (1 : Int32)) d_R_count_12 (by decide +kernel) ?_
    refine xa_icmp_ne G (tgt := 23) d_R_count_13 (by decide) (fun h2 => ?_) (fun h2 => ?_)
    · refine xa_iload_n G (i := 1) d_R_count_23 rfl rfl ?_
      refine xa_iconst G (v := (2 : Int32)) d_R_count_24 (by decide +kernel) ?_
      refine xa_icmp_ne G (tgt := 35) d_R_count_25 (by decide) (fun h3 => ?_) (fun h3 => ?_)
      · refine xa_iconst G (v := (-1 : Int32)) d_R_count_35 (by decide +kernel) ?_
        exact rt _ _ _ _ _ _ _ _ _ d_R_count_36 rfl ⟨⟨Or.inr (Or.inr (Or.inr ⟨h1, h2, h3, rfl⟩)), rfl, rfl⟩, hI⟩
      · refine xa_aload_n G (i := 0) d_R_count_28 rfl rfl ?_
        refine xr_calli G K k_R_116 (c_R_different (xl Γ) hn) (by omega) (by decide) rfl rfl (Nat.le_of_ble_eq_true rfl) d_R_count_29 (fun v n' o' c' w' ms' f' hu => ?_)
        obtain ⟨rfl, rfl, rfl, rfl, rfl, rfl, rfl⟩ := hu
        refine xa_goto G (tgt := 36) d_R_count_32 (by decide) ?_
        exact rt _ _ _ _ _ _ _ _ _ d_R_count_36 rfl ⟨⟨Or.inr (Or.inr (Or.inl ⟨h3, rfl⟩)), rfl, rfl⟩, hI⟩
    · refine xa_aload_n G (i := 0) d_R_count_16 rfl rfl ?_
      refine xr_calli G K k_R_112 (c_R_runs (xl Γ) hn) (by omega) (by decide) rfl rfl (Nat.le_of_ble_eq_true rfl) d_R_count_17 (fun v n' o' c' w' ms' f' hu => ?_)
      obtain ⟨rfl, rfl, rfl, rfl, rfl, rfl, rfl⟩ := hu
      refine xa_goto G (tgt := 36) d_R_count_20 (by decide) ?_
      exact rt _ _ _ _ _ _ _ _ _ d_R_count_36 rfl ⟨⟨Or.inr (Or.inl ⟨h2, rfl⟩), rfl, rfl⟩, hI⟩
  · refine xa_aload_n G (i := 0) d_R_count_4 rfl rfl ?_
    refine xr_gn G K d_R_count_5 ?_
    refine xa_goto G (tgt := 36) d_R_count_8 (by decide) ?_
    exact rt _ _ _ _ _ _ _ _ _ d_R_count_36 rfl ⟨⟨Or.inl ⟨h1, rfl⟩, rfl, rfl⟩, hI⟩
theorem xsh1 : ∀ h, h < 12 → (lN 1) <<< ((nI h).toInt64 &&& 63) = lN (2 ^ h) := by decide +kernel
set_option maxHeartbeats 1000000 in
theorem c_R_check (l : Launch) {n o c w ms : Nat} {f : Nat → xE} (hI : xI n o c w ms) : xr_Mi l y_R_check b_R_check 4 (some .int) 0 [] n o c w ms f (fun v n' o' c' w' ms' f' => sp_check n f v n' f' ∧ xI n' o' c' w' ms') := by
  have hn := hI.1
  obtain ⟨hms, hmt⟩ := hI.2.2
  refine xr_Mi.of [none, none, none] (by decide +kernel) rfl rfl rfl ?_
  intro Γ a cI cO G K rt
  have G : xa_G Γ "RowPress" b_R_check 0 := G
  have loop : ∀ (t h : Nat), h + t = 10 → 1 ≤ h → (h = 1 ∨ 2 ^ (h - 1) < ms) → xa_At Γ (xw a cI cO n o c w ms f) 8 [some (.ref (a 0)), some (.long (lN ms)), none, some (.int (nI h))] [] := by
    intro t
    induction t with
    | zero =>
      intro h h1 h2 h3
      have := xlog9 hms (d := h) (by omega)
      omega
    | succ t ih =>
      intro h h1 h2 h3
      have hp : 2 ^ h ≤ 2 ^ 9 := Nat.pow_le_pow_right (by decide) (by omega)
      have h512 : (2 : Nat) ^ 9 = 512 := by decide
      refine xa_lconst G (v := lN 1) d_R_check_8 (by decide +kernel) ?_
      refine xa_iload_n G (i := 3) d_R_check_9 rfl rfl ?_
      refine xa_lshl G d_R_check_10 (xsh1 h (by omega)) ?_
      refine xa_lload_n G (i := 1) d_R_check_11 rfl rfl ?_
      refine xa_lcmp G d_R_check_12 ?_
      refine xa_if_ge G (tgt := 22) d_R_check_13 (by decide) (fun h5 => ?_) (fun h5 => ?_)
      · rw [lg_cmp_ge, pk_lLE (by omega) (by omega)] at h5
        obtain ⟨m1, m2⟩ := hmt h h2 h5
        have b0 : ms * h ≤ 500 * 9 := Nat.mul_le_mul hms (by omega)
        have b1 : 8 * ms * h = 8 * (ms * h) := Nat.mul_assoc _ _ _
        have b2 : 40 * ms * h = 40 * (ms * h) := Nat.mul_assoc _ _ _
        refine xa_aload_n G (i := 0) d_R_check_22 rfl rfl ?_
        refine xr_gc G K d_R_check_23 ?_
        refine xa_ldc2 G (v := lN 8) ql_R_119 d_R_check_26 ?_
        refine xa_lload_n G (i := 1) d_R_check_29 rfl rfl ?_
        refine xa_lmulN G d_R_check_30 ?_
        refine xa_iload_n G (i := 3) d_R_check_31 rfl rfl ?_
        refine xa_i2lN G d_R_check_32 (by omega) ?_
        refine xa_lmulN G d_R_check_33 ?_
        refine xa_lcmp G d_R_check_34 ?_
        refine xa_if_gt G (tgt := 58) d_R_check_35 (by decide) (fun h6 => ?_) (fun h6 => ?_)
        · rw [lg_cmp_gt, pk_lLT (by omega) (by omega)] at h6
          omega
        · refine xa_aload_n G (i := 0) d_R_check_38 rfl rfl ?_
          refine xr_gw G K d_R_check_39 ?_
          refine xa_ldc2 G (v := lN 40) ql_R_121 d_R_check_42 ?_
          refine xa_lload_n G (i := 1) d_R_check_45 rfl rfl ?_
          refine xa_lmulN G d_R_check_46 ?_
          refine xa_iload_n G (i := 3) d_R_check_47 rfl rfl ?_
          refine xa_i2lN G d_R_check_48 (by omega) ?_
          refine xa_lmulN G d_R_check_49 ?_
          refine xa_lcmp G d_R_check_50 ?_
          refine xa_if_gt G (tgt := 58) d_R_check_51 (by decide) (fun h7 => ?_) (fun h7 => ?_)
          · rw [lg_cmp_gt, pk_lLT (by omega) (by omega)] at h7
            omega
          · refine xa_iconst G (v := (1 : Int32)) d_R_check_54 (by decide +kernel) ?_
            refine xa_goto G (tgt := 59) d_R_check_55 (by decide) ?_
            exact rt _ _ _ _ _ _ _ _ _ d_R_check_59 rfl ⟨⟨rfl, rfl, rfl⟩, hI⟩
      · rw [lg_cmp_ge, pk_lLE (by omega) (by omega)] at h5
        refine xa_inc1 G d_R_check_16 rfl rfl ?_
        refine xa_goto G (tgt := 8) d_R_check_19 (by decide) ?_
        exact ih (h + 1) (by omega) (by omega) (Or.inr (by rw [Nat.add_sub_cancel]; omega))
  refine xa_aload_n G (i := 0) d_R_check_0 rfl rfl ?_
  refine xr_gm G K d_R_check_1 ?_
  refine xa_i2lN G d_R_check_4 (by omega) ?_
  refine xa_lstore_n G (i := 1) d_R_check_5 rfl rfl rfl ?_
  refine xa_iconst G (v := nI 1) d_R_check_6 (by decide +kernel) ?_
  refine xa_istore_n G (i := 3) d_R_check_7 rfl rfl ?_
  exact loop 9 1 rfl (by omega) (Or.inl rfl)
end
section
/-! PURE: places by counting (the model's side) -/
theorem xcnt_mono {P P' : Nat → Prop} : ∀ m, (∀ t, t < m → P t → P' t) → xcnt P m ≤ xcnt P' m := by
  intro m
  induction m with
  | zero => intro _; exact Nat.le_refl _
  | succ m ih =>
    intro h
    have := ih (fun t ht => h t (by omega))
    by_cases p : P m
    · rw [xcnt_1 p, xcnt_1 (h m (by omega) p)]; omega
    · rw [xcnt_n p]
      by_cases p' : P' m
      · rw [xcnt_1 p']; omega
      · rw [xcnt_n p']; exact this
theorem xcnt_lt {P P' : Nat → Prop} {t0 : Nat} : ∀ m, (∀ t, t < m → P t → P' t) → t0 < m → P' t0 → ¬ P t0 → xcnt P m < xcnt P' m := by
  intro m
  induction m with
  | zero => intro _ h; exact absurd h (Nat.not_lt_zero _)
  | succ m ih =>
    intro h ht h1 h2
    by_cases e : t0 = m
    · subst e
      rw [xcnt_n h2, xcnt_1 h1]
      have := xcnt_mono (P := P) (P' := P') t0 (fun t g => h t (by omega))
      omega
    · have := ih (fun t g => h t (by omega)) (by omega) h1 h2
      by_cases p : P m
      · rw [xcnt_1 p, xcnt_1 (h m (by omega) p)]; omega
      · rw [xcnt_n p]
        by_cases p' : P' m
        · rw [xcnt_1 p']; omega
        · rw [xcnt_n p']; exact this
theorem xcnt_ltm {P : Nat → Prop} {t0 : Nat} : ∀ m, t0 < m → ¬ P t0 → xcnt P m < m := by
  intro m
  induction m with
  | zero => intro h; exact absurd h (Nat.not_lt_zero _)
  | succ m ih =>
    intro ht h
    by_cases e : t0 = m
    · subst e
      rw [xcnt_n h]
      have := xcnt_le P t0
      omega
    · have := ih (by omega) h
      by_cases p : P m
      · rw [xcnt_1 p]; omega
      · rw [xcnt_n p]; omega
theorem xlx_tr {κ : xE → Int} {f : Nat → xE} {a b c : Nat} (h1 : xlx κ f a b) (h2 : xlx κ f b c) : xlx κ f a c := by
  unfold xlx at h1 h2 ⊢; omega
theorem xlx_ir {κ : xE → Int} {f : Nat → xE} {a : Nat} : ¬ xlx κ f a a := by
  unfold xlx; omega
theorem xlx_tot {κ : xE → Int} {f : Nat → xE} {a b : Nat} (h : a ≠ b) : xlx κ f a b ∨ xlx κ f b a := by
  unfold xlx; omega
/-- the place of k in the stretch -/
noncomputable def xpl (κ : xE → Int) (f : Nat → xE) (lo hi k : Nat) : Nat := lo + xcnt (fun t => xlx κ f (lo + t) k) (hi - lo)
theorem xpl_in {κ : xE → Int} {f : Nat → xE} {lo hi k : Nat} (h1 : lo ≤ k) (h2 : k < hi) : lo ≤ xpl κ f lo hi k ∧ xpl κ f lo hi k < hi := by
  unfold xpl
  have := xcnt_ltm (P := fun t => xlx κ f (lo + t) k) (t0 := k - lo) (hi - lo) (by omega) (by rw [show lo + (k - lo) = k by omega]; exact xlx_ir)
  omega
theorem xpl_lt {κ : xE → Int} {f : Nat → xE} {lo hi i j : Nat} (h1 : lo ≤ i) (h2 : i < hi) (h : xlx κ f i j) : xpl κ f lo hi i < xpl κ f lo hi j := by
  unfold xpl
  have := xcnt_lt (P := fun t => xlx κ f (lo + t) i) (P' := fun t => xlx κ f (lo + t) j) (t0 := i - lo) (hi - lo) (fun t _ g => xlx_tr g h) (by omega) (by rw [show lo + (i - lo) = i by omega]; exact h) (by rw [show lo + (i - lo) = i by omega]; exact xlx_ir)
  omega
theorem xpl_ne {κ : xE → Int} {f : Nat → xE} {lo hi i j : Nat} (h1 : lo ≤ i) (h2 : i < hi) (h3 : lo ≤ j) (h4 : j < hi) (h : i ≠ j) : xpl κ f lo hi i ≠ xpl κ f lo hi j := by
  rcases xlx_tot (κ := κ) (f := f) h with g | g
  · have := xpl_lt (hi := hi) h1 h2 g; omega
  · have := xpl_lt (hi := hi) h3 h4 g; omega
/-- take: the stretch as it came to be -/
def xtk (f g : Nat → xE) (lo hi : Nat) : Nat → xE := fun j => if lo ≤ j ∧ j < hi then g j else f j
/-- put in order by places -/
def xAr (κ : xE → Int) (lo hi : Nat) (f f' : Nat → xE) : Prop := ∃ π : Nat → Nat, (∀ i, lo ≤ i → i < hi → lo ≤ π i ∧ π i < hi ∧ f' (π i) = f i) ∧ (∀ i j, lo ≤ i → i < hi → lo ≤ j → j < hi → xlx κ f i j → π i < π j) ∧ ∀ i, ¬ (lo ≤ i ∧ i < hi) → f' i = f i
theorem xAr.eq {κ : xE → Int} {lo hi : Nat} {f g g' : Nat → xE} (a : xPm κ lo hi f g) (s : xSo κ lo hi g) (b : xAr κ lo hi f g') : g = g' := by
  obtain ⟨π, p1, p2, p3⟩ := b
  exact xuniq a s π p1 p2 p3
/-- split by places: L of them are less -/
def xAs (κ : xE → Int) (lo hi L : Nat) (f f' : Nat → xE) : Prop := lo + L ≤ hi ∧ ∃ π : Nat → Nat, (∀ i, lo ≤ i → i < hi → lo ≤ π i ∧ π i < hi ∧ f' (π i) = f i) ∧ (∀ i j, lo ≤ i → i < hi → lo ≤ j → j < hi → xlx κ f i j → π i < π j) ∧ (∀ i, ¬ (lo ≤ i ∧ i < hi) → f' i = f i) ∧ ∀ i, lo ≤ i → i < hi → (κ (f i) = 0 → π i < lo + L) ∧ (κ (f i) = 1 → lo + L ≤ π i)
theorem xAs.eq {κ : xE → Int} {lo hi L p : Nat} {f g g' : Nat → xE} (h1 : lo ≤ p) (h2 : p ≤ hi) (a : xPm κ lo hi f g) (g0 : ∀ i, lo ≤ i → i < p → κ (g i) = 0) (g1 : ∀ i, p ≤ i → i < hi → κ (g i) = 1) (b : xAs κ lo hi L f g') : g = g' ∧ p - lo = L := by
  obtain ⟨b0, π, p1, p2, p3, p4⟩ := b
  have s : xSo κ lo hi g := fun i j q1 q2 q3 => by
    rcases Nat.lt_or_ge i p with r | r
    · rw [g0 i q1 r]
      rcases Nat.lt_or_ge j p with r' | r'
      · rw [g0 j (by omega) r']; omega
      · rw [g1 j r' q3]; omega
    · rw [g1 i r (by omega), g1 j (by omega) q3]; omega
  refine ⟨xuniq a s π p1 p2 p3, ?_⟩
  obtain ⟨σ, a1, a2, a3⟩ := a
  have id := xinc (lo := lo) (hi := hi) (h := fun i => π (σ i)) (fun i h1 h2 => by
    obtain ⟨c1, c2, c3⟩ := a1 i h1 h2
    obtain ⟨d1, d2, d3⟩ := p1 _ c1 c2
    exact ⟨d1, d2⟩) (fun i j h1 h2 h3 => by
    obtain ⟨c1, c2, c3⟩ := a1 i h1 (by omega)
    obtain ⟨c4, c5, c6⟩ := a1 j (by omega) h3
    refine p2 _ _ c1 c2 c4 c5 ?_
    have h5 := s i j h1 h2 h3
    rw [c3, c6] at h5
    by_cases e : κ (f (σ i)) = κ (f (σ j))
    · exact Or.inr ⟨e, a2 i j h1 h2 h3 e⟩
    · exact Or.inl (by omega))
  rcases Nat.lt_trichotomy p (lo + L) with q | q | q
  · obtain ⟨c1, c2, c3⟩ := a1 p h1 (by omega)
    have e : π (σ p) = p := id p h1 (by omega)
    have := g1 p (Nat.le_refl _) (by omega)
    rw [c3] at this
    have := (p4 _ c1 c2).2 this
    omega
  · omega
  · obtain ⟨c1, c2, c3⟩ := a1 (lo + L) (by omega) (by omega)
    have e : π (σ (lo + L)) = lo + L := id (lo + L) (by omega) (by omega)
    have := g0 (lo + L) (by omega) q
    rw [c3] at this
    have := (p4 _ c1 c2).1 this
    omega
end
section
/-! RowPressModel: isStretch, isSorted, put, run, clear, place, move, take, arrange, sort, sortPart, merge -/
set_option maxHeartbeats 1000000 in
theorem c_M_isStretch (l : Launch) {n : Nat} {f g : Nat → xE} (hn : n ≤ 500) (x y : Int32) : xm_Mi l y_M_isStretch b_M_isStretch 3 (some .boolean) 0 [.int x, .int y] n f g (fun v n' f' g' => xb1 (∃ i j, i ≤ j ∧ j ≤ n ∧ x = nI i ∧ y = nI j) v ∧ n = n' ∧ f = f' ∧ g = g') := by
  refine xm_Mi.of [some (.int x), some (.int y)] (by decide +kernel) rfl rfl rfl ?_
  intro Γ a cI cO G K rt
  refine xa_iload_n G (i := 1) d_M_isStretch_0 rfl rfl ?_
  refine xa_if_lt G (tgt := 21) d_M_isStretch_1 (by decide) (fun h1 => ?_) (fun h1 => ?_)
  · refine xa_iconst G (v := (0 : Int32)) d_M_isStretch_21 (by decide +kernel) ?_
    exact rt _ _ _ _ _ _ d_M_isStretch_22 (by decide +kernel) ⟨Or.inr ⟨rfl, fun ⟨i, j, h, h', e, e'⟩ => nI_pos (n := i) (by omega) (e ▸ h1)⟩, rfl, rfl, rfl⟩
  · refine xa_iload_n G (i := 1) d_M_isStretch_4 rfl rfl ?_
    refine xa_iload_n G (i := 2) d_M_isStretch_5 rfl rfl ?_
    refine xa_icmp_gt G (tgt := 21) d_M_isStretch_6 (by decide) (fun h2 => ?_) (fun h2 => ?_)
    · refine xa_iconst G (v := (0 : Int32)) d_M_isStretch_21 (by decide +kernel) ?_
      exact rt _ _ _ _ _ _ d_M_isStretch_22 (by decide +kernel) ⟨Or.inr ⟨rfl, fun ⟨i, j, h, h', e, e'⟩ => by
        rw [e, e', nI_ltI (by omega) (by omega)] at h2
        omega⟩, rfl, rfl, rfl⟩
    · refine xa_iload_n G (i := 2) d_M_isStretch_9 rfl rfl ?_
      refine xa_aload_n G (i := 0) d_M_isStretch_10 rfl rfl ?_
      refine xm_gn G K d_M_isStretch_11 ?_
      refine xa_icmp_gt G (tgt := 21) d_M_isStretch_14 (by decide) (fun h3 => ?_) (fun h3 => ?_)
      · refine xa_iconst G (v := (0 : Int32)) d_M_isStretch_21 (by decide +kernel) ?_
        exact rt _ _ _ _ _ _ d_M_isStretch_22 (by decide +kernel) ⟨Or.inr ⟨rfl, fun ⟨i, j, h, h', e, e'⟩ => by
          rw [e', nI_ltI (by omega) (by omega)] at h3
          omega⟩, rfl, rfl, rfl⟩
      · refine xa_iconst G (v := (1 : Int32)) d_M_isStretch_17 (by decide +kernel) ?_
        refine xa_goto G (tgt := 22) d_M_isStretch_18 (by decide) ?_
        obtain ⟨i, hi, e⟩ := nI_of h1
        have h2' : x ≤ y := Int32.not_lt.mp h2
        have hy0 : ¬ y < 0 := fun q => h1 (Int32.lt_of_le_of_lt h2' q)
        obtain ⟨j, hj, e'⟩ := nI_of hy0
        subst e e'
        rw [nI_ltI (by omega) (by omega)] at h2 h3
        exact rt _ _ _ _ _ _ d_M_isStretch_22 (by decide +kernel) ⟨Or.inl ⟨rfl, i, j, by omega, by omega, rfl, rfl⟩, rfl, rfl, rfl⟩
set_option maxHeartbeats 1000000 in
theorem c_M_isSorted (l : Launch) {n : Nat} {f g : Nat → xE} {q : Nat} (hq : q < 4) {lo hi : Nat} (h1 : lo ≤ hi) (h2 : hi ≤ 500) : xm_Mi l y_M_isSorted b_M_isSorted 5 (some .boolean) 1 [.int (nI lo), .int (nI hi), .int (nI q)] n f g (fun v n' f' g' => xb1 (xSo (xkx q) lo hi f) v ∧ n = n' ∧ f = f' ∧ g = g') := by
  refine xm_Mi.of [some (.int (nI lo)), some (.int (nI hi)), some (.int (nI q)), none] (by decide +kernel) rfl rfl rfl ?_
  intro Γ a cI cO G K rt
  have G : xa_G Γ "RowPressModel" b_M_isSorted 1 := G
  have loop : ∀ (t k : Nat), lo < k → (k ≤ hi ∨ k = lo + 1) → hi - k = t → (∀ j, lo < j → j < k → j < hi → xkx q (f (j - 1)) ≤ xkx q (f j)) → xa_At Γ (mw a cI n f g) 5 [some (.ref (a 0)), some (.int (nI lo)), some (.int (nI hi)), some (.int (nI q)), some (.int (nI k))] [] := by
    intro t
    induction t with
    | zero =>
      intro k q1 q2 q3 q4
      refine xa_iload G d_M_isSorted_5 rfl ?_
      refine xa_iload_n G (i := 2) d_M_isSorted_7 rfl rfl ?_
      refine xa_geN G (tgt := 42) d_M_isSorted_8 (by decide) (by omega) (by omega) (fun h3 => ?_) (fun h3 => ?_)
      · refine xa_iconst G (v := (1 : Int32)) d_M_isSorted_42 (by decide +kernel) ?_
        exact rt _ _ _ _ _ _ d_M_isSorted_43 (by decide +kernel) ⟨Or.inl ⟨rfl, xSo.adj (fun j g1 g2 => q4 j g1 (by omega) g2)⟩, rfl, rfl, rfl⟩
      · omega
    | succ t ih =>
      intro k q1 q2 q3 q4
      refine xa_iload G d_M_isSorted_5 rfl ?_
      refine xa_iload_n G (i := 2) d_M_isSorted_7 rfl rfl ?_
      refine xa_geN G (tgt := 42) d_M_isSorted_8 (by decide) (by omega) (by omega) (fun h3 => ?_) (fun h3 => ?_)
      · omega
      · refine xa_aload_n G (i := 0) d_M_isSorted_11 rfl rfl ?_
        refine xm_gK G K d_M_isSorted_12 ?_
        refine xa_iload G d_M_isSorted_15 rfl ?_
        first | refine xm_ldK G K d_M_isSorted_17 ?_ ?_ | refine xm_ldT G K d_M_isSorted_17 ?_ ?_ | refine xm_ldA G K d_M_isSorted_17 ?_ ?_ | refine xm_ldB G K d_M_isSorted_17 ?_ ?_
        · omega
        refine xa_aload_n G (i := 0) d_M_isSorted_18 rfl rfl ?_
        refine xm_gK G K d_M_isSorted_19 ?_
        refine xa_iload G d_M_isSorted_22 rfl ?_
        refine xa_iconst G (v := nI 1) d_M_isSorted_24 (by decide +kernel) ?_
        refine xa_subN G d_M_isSorted_25 (by omega) ?_
        first | refine xm_ldK G K d_M_isSorted_26 ?_ ?_ | refine xm_ldT G K d_M_isSorted_26 ?_ ?_ | refine xm_ldA G K d_M_isSorted_26 ?_ ?_ | refine xm_ldB G K d_M_isSorted_26 ?_ ?_
        · omega
        refine xa_iload_n G (i := 3) d_M_isSorted_27 rfl rfl ?_
        refine xa_calls G K k_M_28 (c_M_isLess (xl Γ) _ _ q hq) (by omega) (by decide) rfl rfl (Nat.le_of_ble_eq_true rfl) d_M_isSorted_28 (fun v hv => ?_)
        rcases hv with ⟨rfl, hv⟩ | ⟨rfl, hv⟩
        · refine xa_ifeq1 G (tgt := 36) d_M_isSorted_31 (by decide) ?_
          refine xa_iconst G (v := (0 : Int32)) d_M_isSorted_34 (by decide +kernel) ?_
          refine rt _ _ _ _ _ _ d_M_isSorted_35 (by decide +kernel) ⟨Or.inr ⟨rfl, fun qq => ?_⟩, rfl, rfl, rfl⟩
          have q5 := qq (k - 1) k (by omega) (by omega) (by omega)
          have h5' : xkx q (f k) < xkx q (f (k - 1)) := hv
          omega
        · refine xa_ifeq0 G (tgt := 36) d_M_isSorted_31 (by decide) ?_
          refine xa_inc1 G d_M_isSorted_36 rfl rfl ?_
          refine xa_goto G (tgt := 5) d_M_isSorted_39 (by decide) ?_
          refine ih (k + 1) (by omega) (by omega) (by omega) (fun j g1 g2 g3 => ?_)
          rcases Nat.lt_or_ge j k with g4 | g4
          · exact q4 j g1 g4 g3
          · obtain rfl : j = k := by omega
            exact Int.not_lt.mp hv
  refine xa_iload_n G (i := 1) d_M_isSorted_0 rfl rfl ?_
  refine xa_iconst G (v := nI 1) d_M_isSorted_1 (by decide +kernel) ?_
  refine xa_addN G d_M_isSorted_2 ?_
  refine xa_istore G d_M_isSorted_3 rfl ?_
  exact loop (hi - (lo + 1)) (lo + 1) (by omega) (by omega) rfl (fun j _ _ _ => by omega)
set_option maxHeartbeats 1000000 in
theorem c_M_put (l : Launch) {n : Nat} {f g : Nat → xE} (hn : n ≤ 500) (x y : Int32) : xm_Mi l y_M_put b_M_put 3 (some .int) 0 [.int x, .int y] n f g (fun v n' f' g' => sp_put n f x y v n' f') := by
  refine xm_Mi.of [some (.int x), some (.int y)] (by decide +kernel) rfl rfl rfl ?_
  intro Γ a cI cO G K rt
  refine xa_aload_n G (i := 0) d_M_put_0 rfl rfl ?_
  refine xm_gn G K d_M_put_1 ?_
  refine xa_sipush G (v := nI 500) d_M_put_4 (by decide +kernel) ?_
  refine xa_neN G (tgt := 12) d_M_put_7 (by decide) (by omega) (by omega) (fun h1 => ?_) (fun h1 => ?_)
  · refine xa_aload_n G (i := 0) d_M_put_12 rfl rfl ?_
    refine xm_gK G K d_M_put_13 ?_
    refine xa_aload_n G (i := 0) d_M_put_16 rfl rfl ?_
    refine xm_gn G K d_M_put_17 ?_
    refine xa_iload_n G (i := 1) d_M_put_20 rfl rfl ?_
    first | refine xm_stK G K d_M_put_21 ?_ ?_ | refine xm_stT G K d_M_put_21 ?_ ?_ | refine xm_stA G K d_M_put_21 ?_ ?_ | refine xm_stB G K d_M_put_21 ?_ ?_
    · omega
    refine xa_aload_n G (i := 0) d_M_put_22 rfl rfl ?_
    refine xm_gT G K d_M_put_23 ?_
    refine xa_aload_n G (i := 0) d_M_put_26 rfl rfl ?_
    refine xm_gn G K d_M_put_27 ?_
    refine xa_iload_n G (i := 2) d_M_put_30 rfl rfl ?_
    first | refine xm_stK G K d_M_put_31 ?_ ?_ | refine xm_stT G K d_M_put_31 ?_ ?_ | refine xm_stA G K d_M_put_31 ?_ ?_ | refine xm_stB G K d_M_put_31 ?_ ?_
    · omega
    refine xa_aload_n G (i := 0) d_M_put_32 rfl rfl ?_
    refine xa_dup G d_M_put_33 rfl ?_
    refine xm_gn G K d_M_put_34 ?_
    refine xa_iconst G (v := nI 1) d_M_put_37 (by decide +kernel) ?_
    refine xa_addN G d_M_put_38 ?_
    refine xm_pn G K d_M_put_39 ?_
    refine xa_aload_n G (i := 0) d_M_put_42 rfl rfl ?_
    refine xm_gn G K d_M_put_43 ?_
    exact rt _ _ _ _ _ _ d_M_put_46 rfl (Or.inr ⟨by omega, rfl, rfl, (xpt_eq _ _ _ _).symm⟩)
  · refine xa_iconst G (v := (-1 : Int32)) d_M_put_10 (by decide +kernel) ?_
    exact rt _ _ _ _ _ _ d_M_put_11 rfl (Or.inl ⟨h1, rfl, rfl, rfl⟩)
set_option maxHeartbeats 1000000 in
theorem c_M_run (l : Launch) {n : Nat} {f g : Nat → xE} (hn : n ≤ 500) (x key step tag : Int32) : xm_Mi l y_M_run b_M_run 6 (some .int) 0 [.int x, .int key, .int step, .int tag] n f g (fun v n' f' g' => sp_run n f x key step tag v n' f') := by
  refine xm_Mi.of [some (.int x), some (.int key), some (.int step), some (.int tag), none] (by decide +kernel) rfl rfl rfl ?_
  intro Γ a cI cO G K rt
  have G : xa_G Γ "RowPressModel" b_M_run 0 := G
  have bad : ∀ lv : List (Option Value), (¬ ∃ k, 1 ≤ k ∧ n + k ≤ 500 ∧ x = nI k) → xa_At Γ (mw a cI n f g) 24 lv [] := by
    intro lv hno
    refine xa_iconst G (v := (-1 : Int32)) d_M_run_24 (by decide +kernel) ?_
    exact rt _ _ _ _ _ _ d_M_run_25 rfl (Or.inl ⟨hno, rfl, rfl, rfl⟩)
  refine xa_iload_n G (i := 1) d_M_run_0 rfl rfl ?_
  refine xa_iconst G (v := nI 1) d_M_run_1 (by decide +kernel) ?_
  refine xa_icmp_lt G (tgt := 24) d_M_run_2 (by decide) (fun h1 => ?_) (fun h1 => ?_)
  · refine bad _ ?_
    rintro ⟨k, h, h', e⟩
    rw [e, nI_ltI (by omega) (by omega)] at h1
    omega
  · refine xa_iload_n G (i := 1) d_M_run_5 rfl rfl ?_
    refine xa_sipush G (v := nI 500) d_M_run_6 (by decide +kernel) ?_
    refine xa_icmp_gt G (tgt := 24) d_M_run_9 (by decide) (fun h2 => ?_) (fun h2 => ?_)
    · refine bad _ ?_
      rintro ⟨k, h, h', e⟩
      rw [e, nI_ltI (by omega) (by omega)] at h2
      omega
    · obtain ⟨k, hk, e⟩ := nI_of (x := x) (fun q => h1 (Int32.lt_trans q (by decide +kernel)))
      subst e
      rw [nI_ltI (by omega) (by omega)] at h1 h2
      refine xa_aload_n G (i := 0) d_M_run_12 rfl rfl ?_
      refine xm_gn G K d_M_run_13 ?_
      refine xa_iload_n G (i := 1) d_M_run_16 rfl rfl ?_
      refine xa_addN G d_M_run_17 ?_
      refine xa_sipush G (v := nI 500) d_M_run_18 (by decide +kernel) ?_
      refine xa_leN G (tgt := 26) d_M_run_21 (by decide) (by omega) (by omega) (fun h3 => ?_) (fun h3 => ?_)
      · have loop : ∀ (t i : Nat), i ≤ k → k - i = t → xa_At Γ (mw a cI n (xrn f n i key step tag) g) 29 [some (.ref (a 0)), some (.int (nI k)), some (.int key), some (.int step), some (.int tag), some (.int (nI i))] [] := by
          intro t
          induction t with
          | zero =>
            intro i hi ht
            refine xa_iload G d_M_run_29 rfl ?_
            refine xa_iload_n G (i := 1) d_M_run_31 rfl rfl ?_
            refine xa_geN G (tgt := 76) d_M_run_32 (by decide) (by omega) (by omega) (fun h5 => ?_) (fun h5 => ?_)
            · refine xa_aload_n G (i := 0) d_M_run_76 rfl rfl ?_
              refine xa_aload_n G (i := 0) d_M_run_77 rfl rfl ?_
              refine xm_gn G K d_M_run_78 ?_
              refine xa_iload_n G (i := 1) d_M_run_81 rfl rfl ?_
              refine xa_addN G d_M_run_82 ?_
              refine xm_pn G K d_M_run_83 ?_
              refine xa_aload_n G (i := 0) d_M_run_86 rfl rfl ?_
              refine xm_gn G K d_M_run_87 ?_
              exact rt _ _ _ _ _ _ d_M_run_90 rfl (Or.inr ⟨k, by omega, by omega, rfl, rfl, rfl, by rw [show i = k by omega]⟩)
            · omega
          | succ t ih =>
            intro i hi ht
            refine xa_iload G d_M_run_29 rfl ?_
            refine xa_iload_n G (i := 1) d_M_run_31 rfl rfl ?_
            refine xa_geN G (tgt := 76) d_M_run_32 (by decide) (by omega) (by omega) (fun h5 => ?_) (fun h5 => ?_)
            · omega
            · refine xa_aload_n G (i := 0) d_M_run_35 rfl rfl ?_
              refine xm_gK G K d_M_run_36 ?_
              refine xa_aload_n G (i := 0) d_M_run_39 rfl rfl ?_
              refine xm_gn G K d_M_run_40 ?_
              refine xa_iload G d_M_run_43 rfl ?_
              refine xa_addN G d_M_run_45 ?_
              refine xa_iload_n G (i := 2) d_M_run_46 rfl rfl ?_
              refine xa_iload G d_M_run_47 rfl ?_
              refine xa_iload_n G (i := 3) d_M_run_49 rfl rfl ?_
              refine xa_imul G d_M_run_50 ?_
              refine xa_iadd G d_M_run_51 ?_
              first | refine xm_stK G K d_M_run_52 ?_ ?_ | refine xm_stT G K d_M_run_52 ?_ ?_ | refine xm_stA G K d_M_run_52 ?_ ?_ | refine xm_stB G K d_M_run_52 ?_ ?_
              · omega
              refine xa_aload_n G (i := 0) d_M_run_53 rfl rfl ?_
              refine xm_gT G K d_M_run_54 ?_
              refine xa_aload_n G (i := 0) d_M_run_57 rfl rfl ?_
              refine xm_gn G K d_M_run_58 ?_
              refine xa_iload G d_M_run_61 rfl ?_
              refine xa_addN G d_M_run_63 ?_
              refine xa_iload G d_M_run_64 rfl ?_
              refine xa_iload G d_M_run_66 rfl ?_
              refine xa_iadd G d_M_run_68 ?_
              first | refine xm_stK G K d_M_run_69 ?_ ?_ | refine xm_stT G K d_M_run_69 ?_ ?_ | refine xm_stA G K d_M_run_69 ?_ ?_ | refine xm_stB G K d_M_run_69 ?_ ?_
              · omega
              rw [xrn_s]
              refine xa_inc1 G d_M_run_70 rfl rfl ?_
              refine xa_goto G (tgt := 29) d_M_run_73 (by decide) ?_
              exact ih (i + 1) (by omega) (by omega)
        refine xa_iconst G (v := nI 0) d_M_run_26 (by decide +kernel) ?_
        refine xa_istore G d_M_run_27 rfl ?_
        have h6 := loop k 0 (by omega) (by omega)
        rw [xrn_0] at h6
        exact h6
      · refine bad _ ?_
        rintro ⟨k', h, h', e⟩
        rw [nI_eq (by omega) (by omega)] at e
        omega
set_option maxHeartbeats 1000000 in
theorem c_M_clear (l : Launch) {n : Nat} {f g : Nat → xE} : xm_Mi l y_M_clear b_M_clear 2 (some .int) 0 [] n f g (fun v n' f' g' => sp_clear n f v n' f') := by
  refine xm_Mi.of [none] (by decide +kernel) rfl rfl rfl ?_
  intro Γ a cI cO G K rt
  refine xa_aload_n G (i := 0) d_M_clear_0 rfl rfl ?_
  refine xm_gn G K d_M_clear_1 ?_
  refine xa_istore_n G (i := 1) d_M_clear_4 rfl rfl ?_
  refine xa_aload_n G (i := 0) d_M_clear_5 rfl rfl ?_
  refine xa_iconst G (v := nI 0) d_M_clear_6 (by decide +kernel) ?_
  refine xm_pn G K d_M_clear_7 ?_
  refine xa_iload_n G (i := 1) d_M_clear_10 rfl rfl ?_
  exact rt _ _ _ _ _ _ d_M_clear_11 rfl ⟨rfl, rfl, rfl⟩
set_option maxHeartbeats 1000000 in
theorem c_M_place (l : Launch) {n : Nat} {f g : Nat → xE} {q : Nat} (hq : q < 4) {k lo hi : Nat} (hk : k < 500) (h1 : lo ≤ hi) (h2 : hi ≤ 500) : xm_Mi l y_M_place b_M_place 8 (some .int) 1 [.int (nI k), .int (nI lo), .int (nI hi), .int (nI q)] n f g (fun v n' f' g' => v = nI (xpl (xkx q) f lo hi k) ∧ n = n' ∧ f = f' ∧ g = g') := by
  refine xm_Mi.of [some (.int (nI k)), some (.int (nI lo)), some (.int (nI hi)), some (.int (nI q)), none, none, none] (by decide +kernel) rfl rfl rfl ?_
  intro Γ a cI cO G K rt
  have G : xa_G Γ "RowPressModel" b_M_place 1 := G
  have loop : ∀ (u t m : Nat) (z : Option Value), lo + t + u = hi → m = xcnt (fun t => xlx (xkx q) f (lo + t) k) t → xa_At Γ (mw a cI n f g) 6 [some (.ref (a 0)), some (.int (nI k)), some (.int (nI lo)), some (.int (nI hi)), some (.int (nI q)), some (.int (nI (lo + m))), some (.int (nI (lo + t))), z] [] := by
    intro u
    induction u with
    | zero =>
      intro t m z q1 q2
      refine xa_iload G d_M_place_6 rfl ?_
      refine xa_iload_n G (i := 3) d_M_place_8 rfl rfl ?_
      refine xa_geN G (tgt := 89) d_M_place_9 (by decide) (by omega) (by omega) (fun h3 => ?_) (fun h3 => ?_)
      · refine xa_iload G d_M_place_89 rfl ?_
        exact rt _ _ _ _ _ _ d_M_place_91 rfl ⟨by unfold xpl; rw [q2, show hi - lo = t by omega], rfl, rfl, rfl⟩
      · omega
    | succ u ih =>
      intro t m z q1 q2
      have hc := xcnt_le (fun t => xlx (xkx q) f (lo + t) k) t
      have k60 : xlx (xkx q) f (lo + t) k → xa_At Γ (mw a cI n f g) 60 [some (.ref (a 0)), some (.int (nI k)), some (.int (nI lo)), some (.int (nI hi)), some (.int (nI q)), some (.int (nI (lo + m))), some (.int (nI (lo + t))), z] [] := by
        intro hA
        refine xa_iconst G (v := nI 1) d_M_place_60 (by decide +kernel) ?_
        refine xa_goto G (tgt := 65) d_M_place_61 (by decide) ?_
        refine xa_istore G d_M_place_65 rfl ?_
        refine xa_iload G d_M_place_67 rfl ?_
        refine xa_ifeqN G (tgt := 79) d_M_place_69 (by decide) (by omega) (fun h4 => ?_) (fun h4 => ?_)
        · omega
        · refine xa_iload G d_M_place_72 rfl ?_
          refine xa_iconst G (v := nI 1) d_M_place_74 (by decide +kernel) ?_
          refine xa_addN G d_M_place_75 ?_
          refine xa_goto G (tgt := 81) d_M_place_76 (by decide) ?_
          refine xa_istore G d_M_place_81 rfl ?_
          refine xa_inc1 G d_M_place_83 rfl rfl ?_
          refine xa_goto G (tgt := 6) d_M_place_86 (by decide) ?_
          exact ih (t + 1) (m + 1) _ (by omega) (by rw [xcnt_1 (P := fun t => xlx (xkx q) f (lo + t) k) hA, q2])
      have k64 : ¬ xlx (xkx q) f (lo + t) k → xa_At Γ (mw a cI n f g) 64 [some (.ref (a 0)), some (.int (nI k)), some (.int (nI lo)), some (.int (nI hi)), some (.int (nI q)), some (.int (nI (lo + m))), some (.int (nI (lo + t))), z] [] := by
        intro hA
        refine xa_iconst G (v := nI 0) d_M_place_64 (by decide +kernel) ?_
        refine xa_istore G d_M_place_65 rfl ?_
        refine xa_iload G d_M_place_67 rfl ?_
        refine xa_ifeqN G (tgt := 79) d_M_place_69 (by decide) (by omega) (fun h4 => ?_) (fun h4 => ?_)
        · refine xa_iload G d_M_place_79 rfl ?_
          refine xa_istore G d_M_place_81 rfl ?_
          refine xa_inc1 G d_M_place_83 rfl rfl ?_
          refine xa_goto G (tgt := 6) d_M_place_86 (by decide) ?_
          exact ih (t + 1) m _ (by omega) (by rw [xcnt_n (P := fun t => xlx (xkx q) f (lo + t) k) hA, q2])
        · omega
      refine xa_iload G d_M_place_6 rfl ?_
      refine xa_iload_n G (i := 3) d_M_place_8 rfl rfl ?_
      refine xa_geN G (tgt := 89) d_M_place_9 (by decide) (by omega) (by omega) (fun h3 => ?_) (fun h3 => ?_)
      · omega
      · refine xa_aload_n G (i := 0) d_M_place_12 rfl rfl ?_
        refine xm_gK G K d_M_place_13 ?_
        refine xa_iload G d_M_place_16 rfl ?_
        first | refine xm_ldK G K d_M_place_18 ?_ ?_ | refine xm_ldT G K d_M_place_18 ?_ ?_ | refine xm_ldA G K d_M_place_18 ?_ ?_ | refine xm_ldB G K d_M_place_18 ?_ ?_
        · omega
        refine xa_aload_n G (i := 0) d_M_place_19 rfl rfl ?_
        refine xm_gK G K d_M_place_20 ?_
        refine xa_iload_n G (i := 1) d_M_place_23 rfl rfl ?_
        first | refine xm_ldK G K d_M_place_24 ?_ ?_ | refine xm_ldT G K d_M_place_24 ?_ ?_ | refine xm_ldA G K d_M_place_24 ?_ ?_ | refine xm_ldB G K d_M_place_24 ?_ ?_
        · omega
        refine xa_iload G d_M_place_25 rfl ?_
        refine xa_calls G K k_M_28 (c_M_isLess (xl Γ) _ _ q hq) (by omega) (by decide) rfl rfl (Nat.le_of_ble_eq_true rfl) d_M_place_27 (fun v hv => ?_)
        rcases hv with ⟨rfl, hv⟩ | ⟨rfl, hv⟩
        · refine xa_ifne1 G (tgt := 60) d_M_place_30 (by decide) ?_
          exact k60 (Or.inl hv)
        · have hv' : ¬ xkx q (f (lo + t)) < xkx q (f k) := hv
          refine xa_ifne0 G (tgt := 60) d_M_place_30 (by decide) ?_
          refine xa_iload G d_M_place_33 rfl ?_
          refine xa_iload_n G (i := 1) d_M_place_35 rfl rfl ?_
          refine xa_geN G (tgt := 64) d_M_place_36 (by decide) (by omega) (by omega) (fun h4 => ?_) (fun h4 => ?_)
          · exact k64 (fun g => by unfold xlx at g; omega)
          · refine xa_aload_n G (i := 0) d_M_place_39 rfl rfl ?_
            refine xm_gK G K d_M_place_40 ?_
            refine xa_iload_n G (i := 1) d_M_place_43 rfl rfl ?_
            first | refine xm_ldK G K d_M_place_44 ?_ ?_ | refine xm_ldT G K d_M_place_44 ?_ ?_ | refine xm_ldA G K d_M_place_44 ?_ ?_ | refine xm_ldB G K d_M_place_44 ?_ ?_
            · omega
            refine xa_aload_n G (i := 0) d_M_place_45 rfl rfl ?_
            refine xm_gK G K d_M_place_46 ?_
            refine xa_iload G d_M_place_49 rfl ?_
            first | refine xm_ldK G K d_M_place_51 ?_ ?_ | refine xm_ldT G K d_M_place_51 ?_ ?_ | refine xm_ldA G K d_M_place_51 ?_ ?_ | refine xm_ldB G K d_M_place_51 ?_ ?_
            · omega
            refine xa_iload G d_M_place_52 rfl ?_
            refine xa_calls G K k_M_28 (c_M_isLess (xl Γ) _ _ q hq) (by omega) (by decide) rfl rfl (Nat.le_of_ble_eq_true rfl) d_M_place_54 (fun v hw => ?_)
            rcases hw with ⟨rfl, hw⟩ | ⟨rfl, hw⟩
            · have hw' : xkx q (f k) < xkx q (f (lo + t)) := hw
              refine xa_ifne1 G (tgt := 64) d_M_place_57 (by decide) ?_
              exact k64 (fun g => by unfold xlx at g; omega)
            · have hw' : ¬ xkx q (f k) < xkx q (f (lo + t)) := hw
              refine xa_ifne0 G (tgt := 64) d_M_place_57 (by decide) ?_
              exact k60 (Or.inr ⟨by omega, h4⟩)
  refine xa_iload_n G (i := 2) d_M_place_0 rfl rfl ?_
  refine xa_istore G d_M_place_1 rfl ?_
  refine xa_iload_n G (i := 2) d_M_place_3 rfl rfl ?_
  refine xa_istore G d_M_place_4 rfl ?_
  exact loop (hi - lo) 0 0 none (by omega) rfl
set_option maxHeartbeats 1000000 in
theorem c_M_move (l : Launch) {n : Nat} {f g : Nat → xE} {k to : Nat} (hk : k < 500) (ht : to < 500) : xm_Mv l y_M_move b_M_move 3 0 [.int (nI k), .int (nI to)] n f g (fun n' f' g' => n = n' ∧ f = f' ∧ xup g to (f k) = g') := by
  refine xm_Mv.of [some (.int (nI k)), some (.int (nI to))] (by decide +kernel) rfl rfl rfl ?_
  intro Γ a cI cO G K rt
  refine xa_aload_n G (i := 0) d_M_move_0 rfl rfl ?_
  refine xm_gA G K d_M_move_1 ?_
  refine xa_iload_n G (i := 2) d_M_move_4 rfl rfl ?_
  refine xa_aload_n G (i := 0) d_M_move_5 rfl rfl ?_
  refine xm_gK G K d_M_move_6 ?_
  refine xa_iload_n G (i := 1) d_M_move_9 rfl rfl ?_
  first | refine xm_ldK G K d_M_move_10 ?_ ?_ | refine xm_ldT G K d_M_move_10 ?_ ?_ | refine xm_ldA G K d_M_move_10 ?_ ?_ | refine xm_ldB G K d_M_move_10 ?_ ?_
  · omega
  first | refine xm_stK G K d_M_move_11 ?_ ?_ | refine xm_stT G K d_M_move_11 ?_ ?_ | refine xm_stA G K d_M_move_11 ?_ ?_ | refine xm_stB G K d_M_move_11 ?_ ?_
  · omega
  refine xa_aload_n G (i := 0) d_M_move_12 rfl rfl ?_
  refine xm_gB G K d_M_move_13 ?_
  refine xa_iload_n G (i := 2) d_M_move_16 rfl rfl ?_
  refine xa_aload_n G (i := 0) d_M_move_17 rfl rfl ?_
  refine xm_gT G K d_M_move_18 ?_
  refine xa_iload_n G (i := 1) d_M_move_21 rfl rfl ?_
  first | refine xm_ldK G K d_M_move_22 ?_ ?_ | refine xm_ldT G K d_M_move_22 ?_ ?_ | refine xm_ldA G K d_M_move_22 ?_ ?_ | refine xm_ldB G K d_M_move_22 ?_ ?_
  · omega
  first | refine xm_stK G K d_M_move_23 ?_ ?_ | refine xm_stT G K d_M_move_23 ?_ ?_ | refine xm_stA G K d_M_move_23 ?_ ?_ | refine xm_stB G K d_M_move_23 ?_ ?_
  · omega
  exact rt _ _ _ _ _ d_M_move_24 ⟨rfl, rfl, (xpt_eq _ _ _ _).symm⟩
theorem xtk_0 (f g : Nat → xE) (lo : Nat) : xtk f g lo lo = f := by
  funext j; unfold xtk; rw [if_neg (by omega)]
theorem xtk_s (f g : Nat → xE) (lo k : Nat) (h : lo ≤ k) : xuT (xuK (xtk f g lo k) k (g k).1) k (g k).2 = xtk f g lo (k + 1) := by
  rw [xpt_eq]
  funext j
  unfold xpt xtk
  by_cases e : j = k
  · subst e
    rw [if_pos rfl, if_pos (by omega)]
  · rw [if_neg e]
    by_cases e2 : lo ≤ j ∧ j < k
    · rw [if_pos e2, if_pos (by omega)]
    · rw [if_neg e2, if_neg (by omega)]
set_option maxHeartbeats 1000000 in
theorem c_M_take (l : Launch) {n : Nat} {f g : Nat → xE} {lo hi : Nat} (h1 : lo ≤ hi) (h2 : hi ≤ 500) : xm_Mv l y_M_take b_M_take 4 0 [.int (nI lo), .int (nI hi)] n f g (fun n' f' g' => n = n' ∧ xtk f g lo hi = f' ∧ g = g') := by
  refine xm_Mv.of [some (.int (nI lo)), some (.int (nI hi)), none] (by decide +kernel) rfl rfl rfl ?_
  intro Γ a cI cO G K rt
  have G : xa_G Γ "RowPressModel" b_M_take 0 := G
  have loop : ∀ (t k : Nat), lo ≤ k → k + t = hi → xa_At Γ (mw a cI n (xtk f g lo k) g) 2 [some (.ref (a 0)), some (.int (nI lo)), some (.int (nI hi)), some (.int (nI k))] [] := by
    intro t
    induction t with
    | zero =>
      intro k q1 q2
      obtain rfl : k = hi := by omega
      refine xa_iload_n G (i := 3) d_M_take_2 rfl rfl ?_
      refine xa_iload_n G (i := 2) d_M_take_3 rfl rfl ?_
      refine xa_geN G (tgt := 37) d_M_take_4 (by decide) (by omega) (by omega) (fun h3 => ?_) (fun h3 => ?_)
      · exact rt _ _ _ _ _ d_M_take_37 ⟨rfl, rfl, rfl⟩
      · omega
    | succ t ih =>
      intro k q1 q2
      refine xa_iload_n G (i := 3) d_M_take_2 rfl rfl ?_
      refine xa_iload_n G (i := 2) d_M_take_3 rfl rfl ?_
      refine xa_geN G (tgt := 37) d_M_take_4 (by decide) (by omega) (by omega) (fun h3 => ?_) (fun h3 => ?_)
      · omega
      · refine xa_aload_n G (i := 0) d_M_take_7 rfl rfl ?_
        refine xm_gK G K d_M_take_8 ?_
        refine xa_iload_n G (i := 3) d_M_take_11 rfl rfl ?_
        refine xa_aload_n G (i := 0) d_M_take_12 rfl rfl ?_
        refine xm_gA G K d_M_take_13 ?_
        refine xa_iload_n G (i := 3) d_M_take_16 rfl rfl ?_
        first | refine xm_ldK G K d_M_take_17 ?_ ?_ | refine xm_ldT G K d_M_take_17 ?_ ?_ | refine xm_ldA G K d_M_take_17 ?_ ?_ | refine xm_ldB G K d_M_take_17 ?_ ?_
        · omega
        first | refine xm_stK G K d_M_take_18 ?_ ?_ | refine xm_stT G K d_M_take_18 ?_ ?_ | refine xm_stA G K d_M_take_18 ?_ ?_ | refine xm_stB G K d_M_take_18 ?_ ?_
        · omega
        refine xa_aload_n G (i := 0) d_M_take_19 rfl rfl ?_
        refine xm_gT G K d_M_take_20 ?_
        refine xa_iload_n G (i := 3) d_M_take_23 rfl rfl ?_
        refine xa_aload_n G (i := 0) d_M_take_24 rfl rfl ?_
        refine xm_gB G K d_M_take_25 ?_
        refine xa_iload_n G (i := 3) d_M_take_28 rfl rfl ?_
        first | refine xm_ldK G K d_M_take_29 ?_ ?_ | refine xm_ldT G K d_M_take_29 ?_ ?_ | refine xm_ldA G K d_M_take_29 ?_ ?_ | refine xm_ldB G K d_M_take_29 ?_ ?_
        · omega
        first | refine xm_stK G K d_M_take_30 ?_ ?_ | refine xm_stT G K d_M_take_30 ?_ ?_ | refine xm_stA G K d_M_take_30 ?_ ?_ | refine xm_stB G K d_M_take_30 ?_ ?_
        · omega
        rw [xtk_s f g lo k q1]
        refine xa_inc1 G d_M_take_31 rfl rfl ?_
        refine xa_goto G (tgt := 2) d_M_take_34 (by decide) ?_
        exact ih (k + 1) (by omega) (by omega)
  refine xa_iload_n G (i := 1) d_M_take_0 rfl rfl ?_
  refine xa_istore_n G (i := 3) d_M_take_1 rfl rfl ?_
  have h3 := loop (hi - lo) lo (by omega) (by omega)
  rw [xtk_0] at h3
  exact h3
theorem xup_s (g : Nat → xE) (m : Nat) (e : xE) : xup g m e m = e := by unfold xup; rw [if_pos rfl]
theorem xup_n (g : Nat → xE) (m : Nat) (e : xE) {j : Nat} (h : j ≠ m) : xup g m e j = g j := by unfold xup; rw [if_neg h]
theorem xtk_in (f g : Nat → xE) {lo hi j : Nat} (h1 : lo ≤ j) (h2 : j < hi) : xtk f g lo hi j = g j := by unfold xtk; rw [if_pos ⟨h1, h2⟩]
theorem xtk_out (f g : Nat → xE) {lo hi j : Nat} (h : ¬ (lo ≤ j ∧ j < hi)) : xtk f g lo hi j = f j := by unfold xtk; rw [if_neg h]
set_option maxHeartbeats 1000000 in
theorem c_M_arrange (l : Launch) {n : Nat} {f g : Nat → xE} {q : Nat} (hq : q < 4) {lo hi : Nat} (h1 : lo ≤ hi) (h2 : hi ≤ 500) : xm_Mv l y_M_arrange b_M_arrange 5 2 [.int (nI lo), .int (nI hi), .int (nI q)] n f g (fun n' f' g' => n = n' ∧ xAr (xkx q) lo hi f f') := by
  refine xm_Mv.of [some (.int (nI lo)), some (.int (nI hi)), some (.int (nI q)), none] (by decide +kernel) rfl rfl rfl ?_
  intro Γ a cI cO G K rt
  have G : xa_G Γ "RowPressModel" b_M_arrange 2 := G
  have loop : ∀ (t k : Nat) (g : Nat → xE), lo ≤ k → k + t = hi → (∀ i, lo ≤ i → i < k → g (xpl (xkx q) f lo hi i) = f i) → xa_At Γ (mw a cI n f g) 3 [some (.ref (a 0)), some (.int (nI lo)), some (.int (nI hi)), some (.int (nI q)), some (.int (nI k))] [] := by
    intro t
    induction t with
    | zero =>
      intro k g q1 q2 q3
      obtain rfl : k = hi := by omega
      refine xa_iload G d_M_arrange_3 rfl ?_
      refine xa_iload_n G (i := 2) d_M_arrange_5 rfl rfl ?_
      refine xa_geN G (tgt := 30) d_M_arrange_6 (by decide) (by omega) (by omega) (fun h3 => ?_) (fun h3 => ?_)
      · refine xa_aload_n G (i := 0) d_M_arrange_30 rfl rfl ?_
        refine xa_iload_n G (i := 1) d_M_arrange_31 rfl rfl ?_
        refine xa_iload_n G (i := 2) d_M_arrange_32 rfl rfl ?_
        refine xm_callv G K k_M_40 (c_M_take (xl Γ) (lo := lo) (hi := k) h1 h2) (by omega) (by decide) rfl rfl (Nat.le_of_ble_eq_true rfl) d_M_arrange_33 (fun n' f' g' hu => ?_)
        obtain ⟨rfl, rfl, rfl⟩ := hu
        refine rt _ _ _ _ _ d_M_arrange_36 ⟨rfl, xpl (xkx q) f lo k, fun i g1 g2 => ?_, fun i j g1 g2 g3 g4 g5 => xpl_lt g1 g2 g5, fun i g1 => xtk_out _ _ g1⟩
        obtain ⟨e1, e2⟩ := xpl_in (κ := xkx q) (f := f) g1 g2
        exact ⟨e1, e2, by rw [xtk_in _ _ e1 e2, q3 i g1 g2]⟩
      · omega
    | succ t ih =>
      intro k g q1 q2 q3
      refine xa_iload G d_M_arrange_3 rfl ?_
      refine xa_iload_n G (i := 2) d_M_arrange_5 rfl rfl ?_
      refine xa_geN G (tgt := 30) d_M_arrange_6 (by decide) (by omega) (by omega) (fun h3 => ?_) (fun h3 => ?_)
      · omega
      · obtain ⟨e1, e2⟩ := xpl_in (κ := xkx q) (f := f) q1 h3
        refine xa_aload_n G (i := 0) d_M_arrange_9 rfl rfl ?_
        refine xa_iload G d_M_arrange_10 rfl ?_
        refine xa_aload_n G (i := 0) d_M_arrange_12 rfl rfl ?_
        refine xa_iload G d_M_arrange_13 rfl ?_
        refine xa_iload_n G (i := 1) d_M_arrange_15 rfl rfl ?_
        refine xa_iload_n G (i := 2) d_M_arrange_16 rfl rfl ?_
        refine xa_iload_n G (i := 3) d_M_arrange_17 rfl rfl ?_
        refine xm_calli G K k_M_32 (c_M_place (xl Γ) hq (k := k) (lo := lo) (hi := hi) (by omega) h1 h2) (by omega) (by decide) rfl rfl (Nat.le_of_ble_eq_true rfl) d_M_arrange_18 (fun v n' f' g' hu => ?_)
        obtain ⟨rfl, rfl, rfl, rfl⟩ := hu
        refine xm_callv G K k_M_36 (c_M_move (xl Γ) (k := k) (to := xpl (xkx q) f lo hi k) (by omega) (by omega)) (by omega) (by decide) rfl rfl (Nat.le_of_ble_eq_true rfl) d_M_arrange_21 (fun n' f' g' hu => ?_)
        obtain ⟨rfl, rfl, rfl⟩ := hu
        refine xa_inc1 G d_M_arrange_24 rfl rfl ?_
        refine xa_goto G (tgt := 3) d_M_arrange_27 (by decide) ?_
        refine ih (k + 1) _ (by omega) (by omega) (fun i g1 g2 => ?_)
        rcases Nat.lt_or_ge i k with g3 | g3
        · rw [xup_n _ _ _ (xpl_ne g1 (by omega) q1 h3 (by omega)), q3 i g1 g3]
        · obtain rfl : i = k := by omega
          rw [xup_s]
  refine xa_iload_n G (i := 1) d_M_arrange_0 rfl rfl ?_
  refine xa_istore G d_M_arrange_1 rfl ?_
  exact loop (hi - lo) lo g (by omega) (by omega) (fun i g1 g2 => by omega)
-- the model's side of the sorts
def sm_sortPart (n : Nat) (f : Nat → xE) (x y z : Int32) (v : Int32) (n' : Nat) (f' : Nat → xE) : Prop := ((¬ ∃ i j q, xC3 n x y z i j q) ∧ v = 0 ∧ n = n' ∧ f = f') ∨ ∃ i j q, xC3 n x y z i j q ∧ v = 1 ∧ n = n' ∧ xAr (xkx q) i j f f'
def sm_merge (n : Nat) (f : Nat → xE) (x y z t : Int32) (v : Int32) (n' : Nat) (f' : Nat → xE) : Prop := ((¬ ∃ i m j q, xCm n x y z i m j ∧ q < 4 ∧ t = nI q ∧ xSo (xkx q) i m f ∧ xSo (xkx q) m j f) ∧ v = 0 ∧ n = n' ∧ f = f') ∨ ∃ i m j q, xCm n x y z i m j ∧ (q < 4 ∧ t = nI q ∧ xSo (xkx q) i m f ∧ xSo (xkx q) m j f) ∧ v = 1 ∧ n = n' ∧ xAr (xkx q) i j f f'
def sm_split (n : Nat) (f : Nat → xE) (x y key t : Int32) (v : Int32) (n' : Nat) (f' : Nat → xE) : Prop := ((¬ ∃ i j q, xC3 n x y t i j q) ∧ v = -1 ∧ n = n' ∧ f = f') ∨ ∃ i j q, xC3 n x y t i j q ∧ n = n' ∧ ∃ L, v = nI L ∧ xAs (xk2 q key) i j L f f'
set_option maxHeartbeats 1000000 in
theorem c_M_sort (l : Launch) {n : Nat} {f g : Nat → xE} (hn : n ≤ 500) (z : Int32) : xm_Mi l y_M_sort b_M_sort 2 (some .int) 3 [.int z] n f g (fun v n' f' g' => sm_sortPart n f (nI 0) (nI n) z v n' f') := by
  refine xm_Mi.of [some (.int z)] (by decide +kernel) rfl rfl rfl ?_
  intro Γ a cI cO G K rt
  have G : xa_G Γ "RowPressModel" b_M_sort 3 := G
  refine xa_iload_n G (i := 1) d_M_sort_0 rfl rfl ?_
  refine xa_calls G K k_M_43 (c_M_isOrder (xl Γ) z) (by omega) (by decide) rfl rfl (Nat.le_of_ble_eq_true rfl) d_M_sort_1 (fun v hv => ?_)
  rcases hv with ⟨rfl, q, hq, rfl⟩ | ⟨rfl, hno⟩
  · refine xa_ifne1 G (tgt := 9) d_M_sort_4 (by decide) ?_
    refine xa_aload_n G (i := 0) d_M_sort_9 rfl rfl ?_
    refine xa_iconst G (v := nI 0) d_M_sort_10 (by decide +kernel) ?_
    refine xa_aload_n G (i := 0) d_M_sort_11 rfl rfl ?_
    refine xm_gn G K d_M_sort_12 ?_
    refine xa_iload_n G (i := 1) d_M_sort_15 rfl rfl ?_
    refine xm_callv G K k_M_47 (c_M_arrange (xl Γ) hq (lo := 0) (hi := n) (by omega) hn) (by omega) (by decide) rfl rfl (Nat.le_of_ble_eq_true rfl) d_M_sort_16 (fun n' f' g' hu => ?_)
    obtain ⟨rfl, hu⟩ := hu
    refine xa_iconst G (v := (1 : Int32)) d_M_sort_19 (by decide +kernel) ?_
    exact rt _ _ _ _ _ _ d_M_sort_20 rfl (Or.inr ⟨0, n, q, ⟨by omega, by omega, rfl, rfl, hq, rfl⟩, rfl, rfl, hu⟩)
  · refine xa_ifne0 G (tgt := 9) d_M_sort_4 (by decide) ?_
    refine xa_iconst G (v := (0 : Int32)) d_M_sort_7 (by decide +kernel) ?_
    exact rt _ _ _ _ _ _ d_M_sort_8 rfl (Or.inl ⟨fun ⟨i0, j0, q0, g1, g2, g3, g4, g5, g6⟩ => hno ⟨q0, g5, g6⟩, rfl, rfl, rfl⟩)
set_option maxHeartbeats 1000000 in
theorem c_M_sortPart (l : Launch) {n : Nat} {f g : Nat → xE} (hn : n ≤ 500) (x y z : Int32) : xm_Mi l y_M_sortPart b_M_sortPart 4 (some .int) 3 [.int x, .int y, .int z] n f g (fun v n' f' g' => sm_sortPart n f x y z v n' f') := by
  refine xm_Mi.of [some (.int x), some (.int y), some (.int z)] (by decide +kernel) rfl rfl rfl ?_
  intro Γ a cI cO G K rt
  have G : xa_G Γ "RowPressModel" b_M_sortPart 3 := G
  refine xa_aload_n G (i := 0) d_M_sortPart_0 rfl rfl ?_
  refine xa_iload_n G (i := 1) d_M_sortPart_1 rfl rfl ?_
  refine xa_iload_n G (i := 2) d_M_sortPart_2 rfl rfl ?_
  refine xm_calli G K k_M_51 (c_M_isStretch (xl Γ) hn x y) (by omega) (by decide) rfl rfl (Nat.le_of_ble_eq_true rfl) d_M_sortPart_3 (fun v n' f' g' hu => ?_)
  obtain ⟨hb, rfl, rfl, rfl⟩ := hu
  rcases hb with ⟨rfl, i, j, h1, h2, rfl, rfl⟩ | ⟨rfl, hno⟩
  · refine xa_ifeq1 G (tgt := 16) d_M_sortPart_6 (by decide) ?_
    refine xa_iload_n G (i := 3) d_M_sortPart_9 rfl rfl ?_
    refine xa_calls G K k_M_43 (c_M_isOrder (xl Γ) z) (by omega) (by decide) rfl rfl (Nat.le_of_ble_eq_true rfl) d_M_sortPart_10 (fun v hv => ?_)
    rcases hv with ⟨rfl, q, hq, rfl⟩ | ⟨rfl, hno⟩
    · refine xa_ifne1 G (tgt := 18) d_M_sortPart_13 (by decide) ?_
      refine xa_aload_n G (i := 0) d_M_sortPart_18 rfl rfl ?_
      refine xa_iload_n G (i := 1) d_M_sortPart_19 rfl rfl ?_
      refine xa_iload_n G (i := 2) d_M_sortPart_20 rfl rfl ?_
      refine xa_iload_n G (i := 3) d_M_sortPart_21 rfl rfl ?_
      refine xm_callv G K k_M_47 (c_M_arrange (xl Γ) hq (lo := i) (hi := j) h1 (by omega)) (by omega) (by decide) rfl rfl (Nat.le_of_ble_eq_true rfl) d_M_sortPart_22 (fun n' f' g' hu => ?_)
      obtain ⟨rfl, hu⟩ := hu
      refine xa_iconst G (v := (1 : Int32)) d_M_sortPart_25 (by decide +kernel) ?_
      exact rt _ _ _ _ _ _ d_M_sortPart_26 rfl (Or.inr ⟨i, j, q, ⟨h1, h2, rfl, rfl, hq, rfl⟩, rfl, rfl, hu⟩)
    · refine xa_ifne0 G (tgt := 18) d_M_sortPart_13 (by decide) ?_
      refine xa_iconst G (v := (0 : Int32)) d_M_sortPart_16 (by decide +kernel) ?_
      exact rt _ _ _ _ _ _ d_M_sortPart_17 rfl (Or.inl ⟨fun ⟨i0, j0, q0, g1, g2, g3, g4, g5, g6⟩ => hno ⟨q0, g5, g6⟩, rfl, rfl, rfl⟩)
  · refine xa_ifeq0 G (tgt := 16) d_M_sortPart_6 (by decide) ?_
    refine xa_iconst G (v := (0 : Int32)) d_M_sortPart_16 (by decide +kernel) ?_
    exact rt _ _ _ _ _ _ d_M_sortPart_17 rfl (Or.inl ⟨fun ⟨i0, j0, q0, g1, g2, g3, g4, g5, g6⟩ => hno ⟨i0, j0, g1, g2, g3, g4⟩, rfl, rfl, rfl⟩)
set_option maxHeartbeats 1000000 in
theorem c_M_merge (l : Launch) {n : Nat} {f g : Nat → xE} (hn : n ≤ 500) (x y z t : Int32) : xm_Mi l y_M_merge b_M_merge 6 (some .int) 3 [.int x, .int y, .int z, .int t] n f g (fun v n' f' g' => sm_merge n f x y z t v n' f') := by
  refine xm_Mi.of [some (.int x), some (.int y), some (.int z), some (.int t), none] (by decide +kernel) rfl rfl rfl ?_
  intro Γ a cI cO G K rt
  have G : xa_G Γ "RowPressModel" b_M_merge 3 := G
  have bad : ∀ lv : List (Option Value), (¬ ∃ i m j q, xCm n x y z i m j ∧ q < 4 ∧ t = nI q ∧ xSo (xkx q) i m f ∧ xSo (xkx q) m j f) → xa_At Γ (mw a cI n f g) 60 lv [] := by
    intro lv hno
    refine xa_iconst G (v := (0 : Int32)) d_M_merge_60 (by decide +kernel) ?_
    exact rt _ _ _ _ _ _ d_M_merge_61 rfl (Or.inl ⟨hno, rfl, rfl, rfl⟩)
  have bad2 : (¬ ∃ i m j q, xCm n x y z i m j ∧ q < 4 ∧ t = nI q ∧ xSo (xkx q) i m f ∧ xSo (xkx q) m j f) → xa_At Γ (mw a cI n f g) 30 [some (.ref (a 0)), some (.int x), some (.int y), some (.int z), some (.int t), none] [] := by
    intro hno
    refine xa_iconst G (v := nI 0) d_M_merge_30 (by decide +kernel) ?_
    refine xa_istore G d_M_merge_31 rfl ?_
    refine xa_iload G d_M_merge_33 rfl ?_
    refine xa_ifeqN G (tgt := 60) d_M_merge_35 (by decide) (by omega) (fun h9 => ?_) (fun h9 => ?_)
    · exact bad _ hno
    · omega
  refine xa_aload_n G (i := 0) d_M_merge_0 rfl rfl ?_
  refine xa_iload_n G (i := 1) d_M_merge_1 rfl rfl ?_
  refine xa_iload_n G (i := 2) d_M_merge_2 rfl rfl ?_
  refine xm_calli G K k_M_51 (c_M_isStretch (xl Γ) hn x y) (by omega) (by decide) rfl rfl (Nat.le_of_ble_eq_true rfl) d_M_merge_3 (fun v n' f' g' hu => ?_)
  obtain ⟨hb, rfl, rfl, rfl⟩ := hu
  rcases hb with ⟨rfl, i, m, h1, h2, rfl, rfl⟩ | ⟨rfl, hno⟩
  · refine xa_ifeq1 G (tgt := 30) d_M_merge_6 (by decide) ?_
    refine xa_aload_n G (i := 0) d_M_merge_9 rfl rfl ?_
    refine xa_iload_n G (i := 2) d_M_merge_10 rfl rfl ?_
    refine xa_iload_n G (i := 3) d_M_merge_11 rfl rfl ?_
    refine xm_calli G K k_M_51 (c_M_isStretch (xl Γ) hn (nI m) z) (by omega) (by decide) rfl rfl (Nat.le_of_ble_eq_true rfl) d_M_merge_12 (fun v n' f' g' hu => ?_)
    obtain ⟨hb, rfl, rfl, rfl⟩ := hu
    rcases hb with ⟨rfl, m', j, h3, h4, h5, rfl⟩ | ⟨rfl, hno⟩
    · rw [nI_eq (by omega) (by omega)] at h5
      subst h5
      refine xa_ifeq1 G (tgt := 30) d_M_merge_15 (by decide) ?_
      refine xa_iload G d_M_merge_18 rfl ?_
      refine xa_calls G K k_M_43 (c_M_isOrder (xl Γ) t) (by omega) (by decide) rfl rfl (Nat.le_of_ble_eq_true rfl) d_M_merge_20 (fun v hv => ?_)
      rcases hv with ⟨rfl, q, hq, rfl⟩ | ⟨rfl, hno⟩
      · have uni : ∀ i0 m0 j0 q0, xCm n (nI i) (nI m) (nI j) i0 m0 j0 → q0 < 4 → nI q = nI q0 → i = i0 ∧ m = m0 ∧ j = j0 ∧ q = q0 := by
          intro i0 m0 j0 q0 g g7 g8
          obtain ⟨g1, g2, g3, g4, g5, g6⟩ := g
          rw [nI_eq (by omega) (by omega)] at g4 g5 g6 g8
          exact ⟨g4, g5, g6, g8⟩
        refine xa_ifeq1 G (tgt := 30) d_M_merge_23 (by decide) ?_
        refine xa_iconst G (v := nI 1) d_M_merge_26 (by decide +kernel) ?_
        refine xa_goto G (tgt := 31) d_M_merge_27 (by decide) ?_
        refine xa_istore G d_M_merge_31 rfl ?_
        refine xa_iload G d_M_merge_33 rfl ?_
        refine xa_ifeqN G (tgt := 60) d_M_merge_35 (by decide) (by omega) (fun h9 => ?_) (fun h9 => ?_)
        · omega
        · refine xa_aload_n G (i := 0) d_M_merge_38 rfl rfl ?_
          refine xa_iload_n G (i := 1) d_M_merge_39 rfl rfl ?_
          refine xa_iload_n G (i := 2) d_M_merge_40 rfl rfl ?_
          refine xa_iload G d_M_merge_41 rfl ?_
          refine xm_calli G K k_M_55 (c_M_isSorted (xl Γ) hq (lo := i) (hi := m) h1 (by omega)) (by omega) (by decide) rfl rfl (Nat.le_of_ble_eq_true rfl) d_M_merge_43 (fun v n' f' g' hu => ?_)
          obtain ⟨hb, rfl, rfl, rfl⟩ := hu
          rcases hb with ⟨rfl, sA⟩ | ⟨rfl, sA⟩
          · refine xa_ifeq1 G (tgt := 60) d_M_merge_46 (by decide) ?_
            refine xa_aload_n G (i := 0) d_M_merge_49 rfl rfl ?_
            refine xa_iload_n G (i := 2) d_M_merge_50 rfl rfl ?_
            refine xa_iload_n G (i := 3) d_M_merge_51 rfl rfl ?_
            refine xa_iload G d_M_merge_52 rfl ?_
            refine xm_calli G K k_M_55 (c_M_isSorted (xl Γ) hq (lo := m) (hi := j) h3 (by omega)) (by omega) (by decide) rfl rfl (Nat.le_of_ble_eq_true rfl) d_M_merge_54 (fun v n' f' g' hu => ?_)
            obtain ⟨hb, rfl, rfl, rfl⟩ := hu
            rcases hb with ⟨rfl, sB⟩ | ⟨rfl, sB⟩
            · refine xa_ifne1 G (tgt := 62) d_M_merge_57 (by decide) ?_
              refine xa_aload_n G (i := 0) d_M_merge_62 rfl rfl ?_
              refine xa_iload_n G (i := 1) d_M_merge_63 rfl rfl ?_
              refine xa_iload_n G (i := 3) d_M_merge_64 rfl rfl ?_
              refine xa_iload G d_M_merge_65 rfl ?_
              refine xm_callv G K k_M_47 (c_M_arrange (xl Γ) hq (lo := i) (hi := j) (by omega) (by omega)) (by omega) (by decide) rfl rfl (Nat.le_of_ble_eq_true rfl) d_M_merge_67 (fun n' f' g' hu => ?_)
              obtain ⟨rfl, hu⟩ := hu
              refine xa_iconst G (v := (1 : Int32)) d_M_merge_70 (by decide +kernel) ?_
              exact rt _ _ _ _ _ _ d_M_merge_71 rfl (Or.inr ⟨i, m, j, q, ⟨h1, h3, h4, rfl, rfl, rfl⟩, ⟨hq, rfl, sA, sB⟩, rfl, rfl, hu⟩)
            · refine xa_ifne0 G (tgt := 62) d_M_merge_57 (by decide) ?_
              refine bad _ (fun ⟨i0, m0, j0, q0, g1, g2, g3, g4, g5⟩ => ?_)
              obtain ⟨rfl, rfl, rfl, rfl⟩ := uni i0 m0 j0 q0 g1 g2 g3
              exact sB g5
          · refine xa_ifeq0 G (tgt := 60) d_M_merge_46 (by decide) ?_
            refine bad _ (fun ⟨i0, m0, j0, q0, g1, g2, g3, g4, g5⟩ => ?_)
            obtain ⟨rfl, rfl, rfl, rfl⟩ := uni i0 m0 j0 q0 g1 g2 g3
            exact sA g4
      · refine xa_ifeq0 G (tgt := 30) d_M_merge_23 (by decide) ?_
        exact bad2 (fun ⟨i0, m0, j0, q0, g1, g2, g3, g4, g5⟩ => hno ⟨q0, g2, g3⟩)
    · refine xa_ifeq0 G (tgt := 30) d_M_merge_15 (by decide) ?_
      exact bad2 (fun ⟨i0, m0, j0, q0, ⟨g1, g2, g3, g4, g5, g6⟩, _⟩ => hno ⟨m0, j0, g2, g3, g5, g6⟩)
  · refine xa_ifeq0 G (tgt := 30) d_M_merge_6 (by decide) ?_
    exact bad2 (fun ⟨i0, m0, j0, q0, ⟨g1, g2, g3, g4, g5, g6⟩, _⟩ => hno ⟨i0, m0, g1, by omega, g4, g5⟩)
end
section
/-! RowPressModel: rotate, turn, split, thin, sorted, find, rank, key, tag, stretches, different, count, check -/
set_option maxHeartbeats 1000000 in
theorem c_M_rotate (l : Launch) {n : Nat} {f g : Nat → xE} (hn : n ≤ 500) (x y z : Int32) : xm_Mi l y_M_rotate b_M_rotate 5 (some .int) 3 [.int x, .int y, .int z] n f g (fun v n' f' g' => sp_rotate n f x y z v n' f') := by
  refine xm_Mi.of [some (.int x), some (.int y), some (.int z), none] (by decide +kernel) rfl rfl rfl ?_
  intro Γ a cI cO G K rt
  have G : xa_G Γ "RowPressModel" b_M_rotate 3 := G
  refine xa_aload_n G (i := 0) d_M_rotate_0 rfl rfl ?_
  refine xa_iload_n G (i := 1) d_M_rotate_1 rfl rfl ?_
  refine xa_iload_n G (i := 2) d_M_rotate_2 rfl rfl ?_
  refine xm_calli G K k_M_51 (c_M_isStretch (xl Γ) hn x y) (by omega) (by decide) rfl rfl (Nat.le_of_ble_eq_true rfl) d_M_rotate_3 (fun v n' f' g' hu => ?_)
  obtain ⟨hb, rfl, rfl, rfl⟩ := hu
  rcases hb with ⟨rfl, lo, mid, h1, h2, rfl, rfl⟩ | ⟨rfl, hno⟩
  · refine xa_ifeq1 G (tgt := 18) d_M_rotate_6 (by decide) ?_
    refine xa_aload_n G (i := 0) d_M_rotate_9 rfl rfl ?_
    refine xa_iload_n G (i := 2) d_M_rotate_10 rfl rfl ?_
    refine xa_iload_n G (i := 3) d_M_rotate_11 rfl rfl ?_
    refine xm_calli G K k_M_51 (c_M_isStretch (xl Γ) hn (nI mid) z) (by omega) (by decide) rfl rfl (Nat.le_of_ble_eq_true rfl) d_M_rotate_12 (fun v n' f' g' hu => ?_)
    obtain ⟨hb, rfl, rfl, rfl⟩ := hu
    rcases hb with ⟨rfl, m', hi, h3, h4, h5, rfl⟩ | ⟨rfl, hno⟩
    · rw [nI_eq (by omega) (by omega)] at h5
      subst h5
      refine xa_ifne1 G (tgt := 20) d_M_rotate_15 (by decide) ?_
      have second : ∀ (t k : Nat) (g : Nat → xE), mid ≤ k → k + t = hi → (∀ i, lo ≤ i → i < mid → g (i + hi - mid) = f i) → (∀ i, mid ≤ i → i < k → g (i - mid + lo) = f i) → xa_At Γ (mw a cI n f g) 50 [some (.ref (a 0)), some (.int (nI lo)), some (.int (nI mid)), some (.int (nI hi)), some (.int (nI k))] [] := by
        intro t
        induction t with
        | zero =>
          intro k g q1 q2 q3 q4
          obtain rfl : k = hi := by omega
          refine xa_iload G d_M_rotate_50 rfl ?_
          refine xa_iload_n G (i := 3) d_M_rotate_52 rfl rfl ?_
          refine xa_geN G (tgt := 74) d_M_rotate_53 (by decide) (by omega) (by omega) (fun h6 => ?_) (fun h6 => ?_)
          · refine xa_aload_n G (i := 0) d_M_rotate_74 rfl rfl ?_
            refine xa_iload_n G (i := 1) d_M_rotate_75 rfl rfl ?_
            refine xa_iload_n G (i := 3) d_M_rotate_76 rfl rfl ?_
            refine xm_callv G K k_M_40 (c_M_take (xl Γ) (lo := lo) (hi := k) (by omega) (by omega)) (by omega) (by decide) rfl rfl (Nat.le_of_ble_eq_true rfl) d_M_rotate_77 (fun n' f' g' hu => ?_)
            obtain ⟨rfl, rfl, rfl⟩ := hu
            refine xa_iconst G (v := (1 : Int32)) d_M_rotate_80 (by decide +kernel) ?_
            refine rt _ _ _ _ _ _ d_M_rotate_81 rfl (Or.inr ⟨lo, mid, k, ⟨h1, h3, h4, rfl, rfl, rfl⟩, rfl, rfl, ?_⟩)
            funext j
            by_cases g1 : lo ≤ j ∧ j < k
            · rw [xtk_in _ _ g1.1 g1.2]
              by_cases g2 : j < lo + (k - mid)
              · rw [(xrt_at (i := j)).1 g1.1 g2 h1 h3]
                have := q4 (j - lo + mid) (by omega) (by omega)
                rw [show j - lo + mid - mid + lo = j by omega] at this
                exact this.symm
              · rw [(xrt_at (i := j)).2.1 (by omega) g1.2 h1 h3]
                have := q3 (j - (k - mid)) (by omega) (by omega)
                rw [show j - (k - mid) + k - mid = j by omega] at this
                exact this.symm
            · rw [xtk_out _ _ g1, (xrt_at (i := j)).2.2 g1]
          · omega
        | succ t ih =>
          intro k g q1 q2 q3 q4
          refine xa_iload G d_M_rotate_50 rfl ?_
          refine xa_iload_n G (i := 3) d_M_rotate_52 rfl rfl ?_
          refine xa_geN G (tgt := 74) d_M_rotate_53 (by decide) (by omega) (by omega) (fun h6 => ?_) (fun h6 => ?_)
          · omega
          · refine xa_aload_n G (i := 0) d_M_rotate_56 rfl rfl ?_
            refine xa_iload G d_M_rotate_57 rfl ?_
            refine xa_iload G d_M_rotate_59 rfl ?_
            refine xa_iload_n G (i := 2) d_M_rotate_61 rfl rfl ?_
            refine xa_subN G d_M_rotate_62 (by omega) ?_
            refine xa_iload_n G (i := 1) d_M_rotate_63 rfl rfl ?_
            refine xa_addN G d_M_rotate_64 ?_
            refine xm_callv G K k_M_36 (c_M_move (xl Γ) (k := k) (to := k - mid + lo) (by omega) (by omega)) (by omega) (by decide) rfl rfl (Nat.le_of_ble_eq_true rfl) d_M_rotate_65 (fun n' f' g' hu => ?_)
            obtain ⟨rfl, rfl, rfl⟩ := hu
            refine xa_inc1 G d_M_rotate_68 rfl rfl ?_
            refine xa_goto G (tgt := 50) d_M_rotate_71 (by decide) ?_
            refine ih (k + 1) _ (by omega) (by omega) (fun i g1 g2 => ?_) (fun i g1 g2 => ?_)
            · rw [xup_n _ _ _ (by omega), q3 i g1 g2]
            · rcases Nat.lt_or_ge i k with g3 | g3
              · rw [xup_n _ _ _ (by omega), q4 i g1 g3]
              · obtain rfl : i = k := by omega
                rw [xup_s]
      have first : ∀ (t k : Nat) (g : Nat → xE), lo ≤ k → k + t = mid → (∀ i, lo ≤ i → i < k → g (i + hi - mid) = f i) → xa_At Γ (mw a cI n f g) 23 [some (.ref (a 0)), some (.int (nI lo)), some (.int (nI mid)), some (.int (nI hi)), some (.int (nI k))] [] := by
        intro t
        induction t with
        | zero =>
          intro k g q1 q2 q3
          obtain rfl : k = mid := by omega
          refine xa_iload G d_M_rotate_23 rfl ?_
          refine xa_iload_n G (i := 2) d_M_rotate_25 rfl rfl ?_
          refine xa_geN G (tgt := 47) d_M_rotate_26 (by decide) (by omega) (by omega) (fun h6 => ?_) (fun h6 => ?_)
          · refine xa_iload_n G (i := 2) d_M_rotate_47 rfl rfl ?_
            refine xa_istore G d_M_rotate_48 rfl ?_
            exact second (hi - k) k g (by omega) (by omega) q3 (fun i g1 g2 => by omega)
          · omega
        | succ t ih =>
          intro k g q1 q2 q3
          refine xa_iload G d_M_rotate_23 rfl ?_
          refine xa_iload_n G (i := 2) d_M_rotate_25 rfl rfl ?_
          refine xa_geN G (tgt := 47) d_M_rotate_26 (by decide) (by omega) (by omega) (fun h6 => ?_) (fun h6 => ?_)
          · omega
          · refine xa_aload_n G (i := 0) d_M_rotate_29 rfl rfl ?_
            refine xa_iload G d_M_rotate_30 rfl ?_
            refine xa_iload G d_M_rotate_32 rfl ?_
            refine xa_iload_n G (i := 3) d_M_rotate_34 rfl rfl ?_
            refine xa_addN G d_M_rotate_35 ?_
            refine xa_iload_n G (i := 2) d_M_rotate_36 rfl rfl ?_
            refine xa_subN G d_M_rotate_37 (by omega) ?_
            refine xm_callv G K k_M_36 (c_M_move (xl Γ) (k := k) (to := k + hi - mid) (by omega) (by omega)) (by omega) (by decide) rfl rfl (Nat.le_of_ble_eq_true rfl) d_M_rotate_38 (fun n' f' g' hu => ?_)
            obtain ⟨rfl, rfl, rfl⟩ := hu
            refine xa_inc1 G d_M_rotate_41 rfl rfl ?_
            refine xa_goto G (tgt := 23) d_M_rotate_44 (by decide) ?_
            refine ih (k + 1) _ (by omega) (by omega) (fun i g1 g2 => ?_)
            rcases Nat.lt_or_ge i k with g3 | g3
            · rw [xup_n _ _ _ (by omega), q3 i g1 g3]
            · obtain rfl : i = k := by omega
              rw [xup_s]
      refine xa_iload_n G (i := 1) d_M_rotate_20 rfl rfl ?_
      refine xa_istore G d_M_rotate_21 rfl ?_
      exact first (mid - lo) lo g (by omega) (by omega) (fun i g1 g2 => by omega)
    · refine xa_ifne0 G (tgt := 20) d_M_rotate_15 (by decide) ?_
      refine xa_iconst G (v := (0 : Int32)) d_M_rotate_18 (by decide +kernel) ?_
      exact rt _ _ _ _ _ _ d_M_rotate_19 rfl (Or.inl ⟨fun ⟨i0, m0, j0, g1, g2, g3, g4, g5, g6⟩ => hno ⟨m0, j0, g2, g3, g5, g6⟩, rfl, rfl, rfl⟩)
  · refine xa_ifeq0 G (tgt := 18) d_M_rotate_6 (by decide) ?_
    refine xa_iconst G (v := (0 : Int32)) d_M_rotate_18 (by decide +kernel) ?_
    exact rt _ _ _ _ _ _ d_M_rotate_19 rfl (Or.inl ⟨fun ⟨i0, m0, j0, g1, g2, g3, g4, g5, g6⟩ => hno ⟨i0, m0, g1, by omega, g4, g5⟩, rfl, rfl, rfl⟩)
set_option maxHeartbeats 1000000 in
theorem c_M_turn (l : Launch) {n : Nat} {f g : Nat → xE} (hn : n ≤ 500) (x y : Int32) : xm_Mi l y_M_turn b_M_turn 4 (some .int) 3 [.int x, .int y] n f g (fun v n' f' g' => sp_turn n f x y v n' f') := by
  refine xm_Mi.of [some (.int x), some (.int y), none] (by decide +kernel) rfl rfl rfl ?_
  intro Γ a cI cO G K rt
  have G : xa_G Γ "RowPressModel" b_M_turn 3 := G
  refine xa_aload_n G (i := 0) d_M_turn_0 rfl rfl ?_
  refine xa_iload_n G (i := 1) d_M_turn_1 rfl rfl ?_
  refine xa_iload_n G (i := 2) d_M_turn_2 rfl rfl ?_
  refine xm_calli G K k_M_51 (c_M_isStretch (xl Γ) hn x y) (by omega) (by decide) rfl rfl (Nat.le_of_ble_eq_true rfl) d_M_turn_3 (fun v n' f' g' hu => ?_)
  obtain ⟨hb, rfl, rfl, rfl⟩ := hu
  rcases hb with ⟨rfl, lo, hi, h1, h2, rfl, rfl⟩ | ⟨rfl, hno⟩
  · refine xa_ifne1 G (tgt := 11) d_M_turn_6 (by decide) ?_
    have loop : ∀ (t k : Nat) (g : Nat → xE), lo ≤ k → k + t = hi → (∀ i, lo ≤ i → i < k → g (lo + hi - 1 - i) = f i) → xa_At Γ (mw a cI n f g) 13 [some (.ref (a 0)), some (.int (nI lo)), some (.int (nI hi)), some (.int (nI k))] [] := by
      intro t
      induction t with
      | zero =>
        intro k g q1 q2 q3
        obtain rfl : k = hi := by omega
        refine xa_iload_n G (i := 3) d_M_turn_13 rfl rfl ?_
        refine xa_iload_n G (i := 2) d_M_turn_14 rfl rfl ?_
        refine xa_geN G (tgt := 36) d_M_turn_15 (by decide) (by omega) (by omega) (fun h6 => ?_) (fun h6 => ?_)
        · refine xa_aload_n G (i := 0) d_M_turn_36 rfl rfl ?_
          refine xa_iload_n G (i := 1) d_M_turn_37 rfl rfl ?_
          refine xa_iload_n G (i := 2) d_M_turn_38 rfl rfl ?_
          refine xm_callv G K k_M_40 (c_M_take (xl Γ) (lo := lo) (hi := k) (by omega) (by omega)) (by omega) (by decide) rfl rfl (Nat.le_of_ble_eq_true rfl) d_M_turn_39 (fun n' f' g' hu => ?_)
          obtain ⟨rfl, rfl, rfl⟩ := hu
          refine xa_iconst G (v := (1 : Int32)) d_M_turn_42 (by decide +kernel) ?_
          refine rt _ _ _ _ _ _ d_M_turn_43 rfl (Or.inr ⟨lo, k, ⟨h1, h2, rfl, rfl⟩, rfl, rfl, ?_⟩)
          funext j
          unfold xrv
          by_cases g1 : lo ≤ j ∧ j < k
          · rw [xtk_in _ _ g1.1 g1.2, if_pos g1]
            have := q3 (lo + k - 1 - j) (by omega) (by omega)
            rw [show lo + k - 1 - (lo + k - 1 - j) = j by omega] at this
            exact this.symm
          · rw [xtk_out _ _ g1, if_neg g1]
        · omega
      | succ t ih =>
        intro k g q1 q2 q3
        refine xa_iload_n G (i := 3) d_M_turn_13 rfl rfl ?_
        refine xa_iload_n G (i := 2) d_M_turn_14 rfl rfl ?_
        refine xa_geN G (tgt := 36) d_M_turn_15 (by decide) (by omega) (by omega) (fun h6 => ?_) (fun h6 => ?_)
        · omega
        · refine xa_aload_n G (i := 0) d_M_turn_18 rfl rfl ?_
          refine xa_iload_n G (i := 3) d_M_turn_19 rfl rfl ?_
          refine xa_iload_n G (i := 1) d_M_turn_20 rfl rfl ?_
          refine xa_iload_n G (i := 2) d_M_turn_21 rfl rfl ?_
          refine xa_addN G d_M_turn_22 ?_
          refine xa_iconst G (v := nI 1) d_M_turn_23 (by decide +kernel) ?_
          refine xa_subN G d_M_turn_24 (by omega) ?_
          refine xa_iload_n G (i := 3) d_M_turn_25 rfl rfl ?_
          refine xa_subN G d_M_turn_26 (by omega) ?_
          refine xm_callv G K k_M_36 (c_M_move (xl Γ) (k := k) (to := lo + hi - 1 - k) (by omega) (by omega)) (by omega) (by decide) rfl rfl (Nat.le_of_ble_eq_true rfl) d_M_turn_27 (fun n' f' g' hu => ?_)
          obtain ⟨rfl, rfl, rfl⟩ := hu
          refine xa_inc1 G d_M_turn_30 rfl rfl ?_
          refine xa_goto G (tgt := 13) d_M_turn_33 (by decide) ?_
          refine ih (k + 1) _ (by omega) (by omega) (fun i g1 g2 => ?_)
          rcases Nat.lt_or_ge i k with g3 | g3
          · rw [xup_n _ _ _ (by omega), q3 i g1 g3]
          · obtain rfl : i = k := by omega
            rw [xup_s]
    refine xa_iload_n G (i := 1) d_M_turn_11 rfl rfl ?_
    refine xa_istore_n G (i := 3) d_M_turn_12 rfl rfl ?_
    exact loop (hi - lo) lo g (by omega) (by omega) (fun i g1 g2 => by omega)
  · refine xa_ifne0 G (tgt := 11) d_M_turn_6 (by decide) ?_
    refine xa_iconst G (v := (0 : Int32)) d_M_turn_9 (by decide +kernel) ?_
    exact rt _ _ _ _ _ _ d_M_turn_10 rfl (Or.inl ⟨fun ⟨i0, j0, gg⟩ => hno ⟨i0, j0, gg⟩, rfl, rfl, rfl⟩)
theorem xcnt_up {P : Nat → Prop} {s : Nat} : ∀ t, s ≤ t → xcnt P s ≤ xcnt P t := by
  intro t
  induction t with
  | zero => intro h; obtain rfl : s = 0 := by omega
            exact Nat.le_refl _
  | succ t ih =>
    intro h
    rcases Nat.eq_or_lt_of_le h with g | g
    · subst g; exact Nat.le_refl _
    · have := ih (by omega)
      by_cases p : P t
      · rw [xcnt_1 p]; omega
      · rw [xcnt_n p]; exact this
theorem xcnt_ups {P : Nat → Prop} {s t : Nat} (h : s < t) (p : P s) : xcnt P s < xcnt P t := by
  have := xcnt_up (P := P) (s := s + 1) t h
  rw [xcnt_1 p] at this
  omega
theorem xcnt_cp (P : Nat → Prop) : ∀ t, xcnt P t + xcnt (fun i => ¬ P i) t = t := by
  intro t
  induction t with
  | zero => rfl
  | succ t ih =>
    by_cases p : P t
    · rw [xcnt_1 p, xcnt_n (P := fun i => ¬ P i) (fun q => q p)]; omega
    · rw [xcnt_n p, xcnt_1 (P := fun i => ¬ P i) p]; omega
theorem xk2_or (q : Nat) (key : Int32) (e : xE) : (xk2 q key e = 0 ∧ xK q e.1 < xK q key) ∨ (xk2 q key e = 1 ∧ ¬ xK q e.1 < xK q key) := by
  unfold xk2
  by_cases h : xK q e.1 < xK q key
  · rw [if_pos h]; exact Or.inl ⟨rfl, h⟩
  · rw [if_neg h]; exact Or.inr ⟨rfl, h⟩
set_option maxHeartbeats 2000000 in
theorem c_M_split (l : Launch) {n : Nat} {f g : Nat → xE} (hn : n ≤ 500) (x y key z : Int32) : xm_Mi l y_M_split b_M_split 8 (some .int) 3 [.int x, .int y, .int key, .int z] n f g (fun v n' f' g' => sm_split n f x y key z v n' f') := by
  refine xm_Mi.of [some (.int x), some (.int y), some (.int key), some (.int z), none, none, none] (by decide +kernel) rfl rfl rfl ?_
  intro Γ a cI cO G K rt
  have G : xa_G Γ "RowPressModel" b_M_split 3 := G
  refine xa_aload_n G (i := 0) d_M_split_0 rfl rfl ?_
  refine xa_iload_n G (i := 1) d_M_split_1 rfl rfl ?_
  refine xa_iload_n G (i := 2) d_M_split_2 rfl rfl ?_
  refine xm_calli G K k_M_51 (c_M_isStretch (xl Γ) hn x y) (by omega) (by decide) rfl rfl (Nat.le_of_ble_eq_true rfl) d_M_split_3 (fun v n' f' g' hu => ?_)
  obtain ⟨hb, rfl, rfl, rfl⟩ := hu
  rcases hb with ⟨rfl, lo, hi, h1, h2, rfl, rfl⟩ | ⟨rfl, hno⟩
  · refine xa_ifeq1 G (tgt := 17) d_M_split_6 (by decide) ?_
    refine xa_iload G d_M_split_9 rfl ?_
    refine xa_calls G K k_M_43 (c_M_isOrder (xl Γ) z) (by omega) (by decide) rfl rfl (Nat.le_of_ble_eq_true rfl) d_M_split_11 (fun v hv => ?_)
    rcases hv with ⟨rfl, q, hq, rfl⟩ | ⟨rfl, hno⟩
    · refine xa_ifne1 G (tgt := 19) d_M_split_14 (by decide) ?_
      obtain ⟨P, hP⟩ : ∃ P : Nat → Prop, P = fun t => xk2 q key (f (lo + t)) = 0 := ⟨_, rfl⟩
      have Pi : ∀ t, P t ↔ xk2 q key (f (lo + t)) = 0 := fun t => by rw [hP]
      have Pl : ∀ t, P t ↔ xK q (f (lo + t)).1 < xK q key := fun t => by
        rw [Pi]
        rcases xk2_or q key (f (lo + t)) with ⟨e1, e2⟩ | ⟨e1, e2⟩
        · rw [e1]; exact ⟨fun _ => e2, fun _ => rfl⟩
        · rw [e1]; exact ⟨fun h => absurd h (by decide), fun h => absurd h e2⟩
      obtain ⟨L, hL⟩ : ∃ L, L = xcnt P (hi - lo) := ⟨_, rfl⟩
      have hLc := xcnt_cp P (hi - lo)
      have second : ∀ (u t m : Nat) (g : Nat → xE), lo + t + u = hi → m = xcnt (fun i => ¬ P i) t → (∀ s, s < hi - lo → P s → g (lo + xcnt P s) = f (lo + s)) → (∀ s, s < t → ¬ P s → g (lo + L + xcnt (fun i => ¬ P i) s) = f (lo + s)) → xa_At Γ (mw a cI n f g) 72 [some (.ref (a 0)), some (.int (nI lo)), some (.int (nI hi)), some (.int key), some (.int (nI q)), some (.int (nI L)), some (.int (nI m)), some (.int (nI (lo + t)))] [] := by
        intro u
        induction u with
        | zero =>
          intro t m g q1 q2 q3 q4
          obtain rfl : t = hi - lo := by omega
          refine xa_iload G d_M_split_72 rfl ?_
          refine xa_iload_n G (i := 2) d_M_split_74 rfl rfl ?_
          refine xa_geN G (tgt := 116) d_M_split_75 (by decide) (by omega) (by omega) (fun h6 => ?_) (fun h6 => ?_)
          · refine xa_aload_n G (i := 0) d_M_split_116 rfl rfl ?_
            refine xa_iload_n G (i := 1) d_M_split_117 rfl rfl ?_
            refine xa_iload_n G (i := 2) d_M_split_118 rfl rfl ?_
            refine xm_callv G K k_M_40 (c_M_take (xl Γ) (lo := lo) (hi := hi) h1 (by omega)) (by omega) (by decide) rfl rfl (Nat.le_of_ble_eq_true rfl) d_M_split_119 (fun n' f' g' hu => ?_)
            obtain ⟨rfl, rfl, rfl⟩ := hu
            refine xa_iload G d_M_split_122 rfl ?_
            refine rt _ _ _ _ _ _ d_M_split_124 rfl (Or.inr ⟨lo, hi, q, ⟨h1, h2, rfl, rfl, hq, rfl⟩, rfl, L, rfl, by omega, fun k => @ite Nat (P (k - lo)) (Classical.propDecidable _) (lo + xcnt P (k - lo)) (lo + L + xcnt (fun i => ¬ P i) (k - lo)), fun i g1 g2 => ?_, fun i j g1 g2 g3 g4 g5 => ?_, fun i g1 => xtk_out _ _ g1, fun i g1 g2 => ?_⟩)
            · dsimp only
              by_cases p : P (i - lo)
              · rw [if_pos p]
                have e1 := xcnt_ups (t := hi - lo) (by omega) p
                refine ⟨by omega, by omega, ?_⟩
                rw [xtk_in _ _ (by omega) (by omega), q3 (i - lo) (by omega) p, show lo + (i - lo) = i by omega]
              · rw [if_neg p]
                have e1 := xcnt_ups (P := fun i => ¬ P i) (t := hi - lo) (by omega) p
                refine ⟨by omega, by omega, ?_⟩
                rw [xtk_in _ _ (by omega) (by omega), q4 (i - lo) (by omega) p, show lo + (i - lo) = i by omega]
            · dsimp only
              have pi := Pi (i - lo)
              have pj := Pi (j - lo)
              rw [show lo + (i - lo) = i by omega] at pi
              rw [show lo + (j - lo) = j by omega] at pj
              have oi := xk2_or q key (f i)
              have oj := xk2_or q key (f j)
              unfold xlx at g5
              by_cases p : P (i - lo)
              · rw [if_pos p]
                have e1 := xcnt_ups (t := hi - lo) (by omega) p
                by_cases p' : P (j - lo)
                · rw [if_pos p']
                  have p1 := pi.mp p
                  have p2 := pj.mp p'
                  have e2 := xcnt_ups (s := i - lo) (t := j - lo) (by omega) p
                  omega
                · rw [if_neg p']; omega
              · rw [if_neg p]
                have n1 : xk2 q key (f i) = 1 := by
                  rcases oi with oi | oi
                  · exact absurd (pi.mpr oi.1) p
                  · exact oi.1
                by_cases p' : P (j - lo)
                · have p2 := pj.mp p'
                  omega
                · rw [if_neg p']
                  have n2 : xk2 q key (f j) = 1 := by
                    rcases oj with oj | oj
                    · exact absurd (pj.mpr oj.1) p'
                    · exact oj.1
                  have e2 := xcnt_ups (P := fun i => ¬ P i) (s := i - lo) (t := j - lo) (by omega) p
                  omega
            · dsimp only
              have pi := Pi (i - lo)
              rw [show lo + (i - lo) = i by omega] at pi
              by_cases p : P (i - lo)
              · rw [if_pos p]
                have e1 := xcnt_ups (t := hi - lo) (by omega) p
                have p1 := pi.mp p
                exact ⟨fun _ => by omega, fun h => by omega⟩
              · rw [if_neg p]
                exact ⟨fun h => absurd (pi.mpr h) p, fun _ => by omega⟩
          · omega
        | succ u ih =>
          intro t m g q1 q2 q3 q4
          have hm := xcnt_up (P := fun i => ¬ P i) (s := t) (hi - lo) (by omega)
          refine xa_iload G d_M_split_72 rfl ?_
          refine xa_iload_n G (i := 2) d_M_split_74 rfl rfl ?_
          refine xa_geN G (tgt := 116) d_M_split_75 (by decide) (by omega) (by omega) (fun h6 => ?_) (fun h6 => ?_)
          · omega
          · refine xa_aload_n G (i := 0) d_M_split_78 rfl rfl ?_
            refine xm_gK G K d_M_split_79 ?_
            refine xa_iload G d_M_split_82 rfl ?_
            first | refine xm_ldK G K d_M_split_84 ?_ ?_ | refine xm_ldT G K d_M_split_84 ?_ ?_ | refine xm_ldA G K d_M_split_84 ?_ ?_ | refine xm_ldB G K d_M_split_84 ?_ ?_
            · omega
            refine xa_iload_n G (i := 3) d_M_split_85 rfl rfl ?_
            refine xa_iload G d_M_split_86 rfl ?_
            refine xa_calls G K k_M_28 (c_M_isLess (xl Γ) _ _ q hq) (by omega) (by decide) rfl rfl (Nat.le_of_ble_eq_true rfl) d_M_split_88 (fun v hv => ?_)
            rcases hv with ⟨rfl, hv⟩ | ⟨rfl, hv⟩
            · have p := (Pl t).mpr hv
              refine xa_ifne1 G (tgt := 110) d_M_split_91 (by decide) ?_
              refine xa_inc1 G d_M_split_110 rfl rfl ?_
              refine xa_goto G (tgt := 72) d_M_split_113 (by decide) ?_
              refine ih (t + 1) m g (by omega) (by rw [xcnt_n (P := fun i => ¬ P i) (fun q => q p), q2]) q3 (fun s g1 g2 => ?_)
              rcases Nat.lt_or_ge s t with g3 | g3
              · exact q4 s g3 g2
              · obtain rfl : s = t := by omega
                exact absurd p g2
            · have p : ¬ P t := fun g => hv ((Pl t).mp g)
              have e1 := xcnt_ups (P := fun i => ¬ P i) (s := t) (t := hi - lo) (by omega) p
              refine xa_ifne0 G (tgt := 110) d_M_split_91 (by decide) ?_
              refine xa_aload_n G (i := 0) d_M_split_94 rfl rfl ?_
              refine xa_iload G d_M_split_95 rfl ?_
              refine xa_iload_n G (i := 1) d_M_split_97 rfl rfl ?_
              refine xa_iload G d_M_split_98 rfl ?_
              refine xa_addN G d_M_split_100 ?_
              refine xa_iload G d_M_split_101 rfl ?_
              refine xa_addN G d_M_split_103 ?_
              refine xm_callv G K k_M_36 (c_M_move (xl Γ) (k := lo + t) (to := lo + L + m) (by omega) (by omega)) (by omega) (by decide) rfl rfl (Nat.le_of_ble_eq_true rfl) d_M_split_104 (fun n' f' g' hu => ?_)
              obtain ⟨rfl, rfl, rfl⟩ := hu
              refine xa_inc1 G d_M_split_107 rfl rfl ?_
              refine xa_inc1 G d_M_split_110 rfl rfl ?_
              refine xa_goto G (tgt := 72) d_M_split_113 (by decide) ?_
              refine ih (t + 1) (m + 1) _ (by omega) (by rw [xcnt_1 (P := fun i => ¬ P i) p, q2]) (fun s g1 g2 => ?_) (fun s g1 g2 => ?_)
              · have e2 := xcnt_ups (s := s) (t := hi - lo) g1 g2
                rw [xup_n _ _ _ (by omega)]
                exact q3 s g1 g2
              · rcases Nat.lt_or_ge s t with g3 | g3
                · have e2 := xcnt_ups (P := fun i => ¬ P i) (s := s) (t := t) g3 g2
                  rw [xup_n _ _ _ (by omega)]
                  exact q4 s g3 g2
                · obtain rfl : s = t := by omega
                  rw [q2, xup_s]
      have first : ∀ (u t m : Nat) (g : Nat → xE), lo + t + u = hi → m = xcnt P t → (∀ s, s < t → P s → g (lo + xcnt P s) = f (lo + s)) → xa_At Γ (mw a cI n f g) 25 [some (.ref (a 0)), some (.int (nI lo)), some (.int (nI hi)), some (.int key), some (.int (nI q)), some (.int (nI m)), some (.int (nI (lo + t))), none] [] := by
        intro u
        induction u with
        | zero =>
          intro t m g q1 q2 q3
          obtain rfl : t = hi - lo := by omega
          refine xa_iload G d_M_split_25 rfl ?_
          refine xa_iload_n G (i := 2) d_M_split_27 rfl rfl ?_
          refine xa_geN G (tgt := 66) d_M_split_28 (by decide) (by omega) (by omega) (fun h6 => ?_) (fun h6 => ?_)
          · refine xa_iconst G (v := nI 0) d_M_split_66 (by decide +kernel) ?_
            refine xa_istore G d_M_split_67 rfl ?_
            refine xa_iload_n G (i := 1) d_M_split_69 rfl rfl ?_
            refine xa_istore G d_M_split_70 rfl ?_
            rw [q2, ← hL]
            exact second (hi - lo) 0 0 g (by omega) rfl q3 (fun s g1 => absurd g1 (Nat.not_lt_zero s))
          · omega
        | succ u ih =>
          intro t m g q1 q2 q3
          have hm := xcnt_le P t
          refine xa_iload G d_M_split_25 rfl ?_
          refine xa_iload_n G (i := 2) d_M_split_27 rfl rfl ?_
          refine xa_geN G (tgt := 66) d_M_split_28 (by decide) (by omega) (by omega) (fun h6 => ?_) (fun h6 => ?_)
          · omega
          · refine xa_aload_n G (i := 0) d_M_split_31 rfl rfl ?_
            refine xm_gK G K d_M_split_32 ?_
            refine xa_iload G d_M_split_35 rfl ?_
            first | refine xm_ldK G K d_M_split_37 ?_ ?_ | refine xm_ldT G K d_M_split_37 ?_ ?_ | refine xm_ldA G K d_M_split_37 ?_ ?_ | refine xm_ldB G K d_M_split_37 ?_ ?_
            · omega
            refine xa_iload_n G (i := 3) d_M_split_38 rfl rfl ?_
            refine xa_iload G d_M_split_39 rfl ?_
            refine xa_calls G K k_M_28 (c_M_isLess (xl Γ) _ _ q hq) (by omega) (by decide) rfl rfl (Nat.le_of_ble_eq_true rfl) d_M_split_41 (fun v hv => ?_)
            rcases hv with ⟨rfl, hv⟩ | ⟨rfl, hv⟩
            · have p := (Pl t).mpr hv
              refine xa_ifeq1 G (tgt := 60) d_M_split_44 (by decide) ?_
              refine xa_aload_n G (i := 0) d_M_split_47 rfl rfl ?_
              refine xa_iload G d_M_split_48 rfl ?_
              refine xa_iload_n G (i := 1) d_M_split_50 rfl rfl ?_
              refine xa_iload G d_M_split_51 rfl ?_
              refine xa_addN G d_M_split_53 ?_
              refine xm_callv G K k_M_36 (c_M_move (xl Γ) (k := lo + t) (to := lo + m) (by omega) (by omega)) (by omega) (by decide) rfl rfl (Nat.le_of_ble_eq_true rfl) d_M_split_54 (fun n' f' g' hu => ?_)
              obtain ⟨rfl, rfl, rfl⟩ := hu
              refine xa_inc1 G d_M_split_57 rfl rfl ?_
              refine xa_inc1 G d_M_split_60 rfl rfl ?_
              refine xa_goto G (tgt := 25) d_M_split_63 (by decide) ?_
              refine ih (t + 1) (m + 1) _ (by omega) (by rw [xcnt_1 p, q2]) (fun s g1 g2 => ?_)
              rcases Nat.lt_or_ge s t with g3 | g3
              · have e2 := xcnt_ups (s := s) (t := t) g3 g2
                rw [xup_n _ _ _ (by omega)]
                exact q3 s g3 g2
              · obtain rfl : s = t := by omega
                rw [q2, xup_s]
            · have p : ¬ P t := fun g => hv ((Pl t).mp g)
              refine xa_ifeq0 G (tgt := 60) d_M_split_44 (by decide) ?_
              refine xa_inc1 G d_M_split_60 rfl rfl ?_
              refine xa_goto G (tgt := 25) d_M_split_63 (by decide) ?_
              refine ih (t + 1) m g (by omega) (by rw [xcnt_n p, q2]) (fun s g1 g2 => ?_)
              rcases Nat.lt_or_ge s t with g3 | g3
              · exact q3 s g3 g2
              · obtain rfl : s = t := by omega
                exact absurd g2 p
      refine xa_iconst G (v := nI 0) d_M_split_19 (by decide +kernel) ?_
      refine xa_istore G d_M_split_20 rfl ?_
      refine xa_iload_n G (i := 1) d_M_split_22 rfl rfl ?_
      refine xa_istore G d_M_split_23 rfl ?_
      exact first (hi - lo) 0 0 g (by omega) rfl (fun s g1 => absurd g1 (Nat.not_lt_zero s))
    · refine xa_ifne0 G (tgt := 19) d_M_split_14 (by decide) ?_
      refine xa_iconst G (v := (-1 : Int32)) d_M_split_17 (by decide +kernel) ?_
      exact rt _ _ _ _ _ _ d_M_split_18 rfl (Or.inl ⟨fun ⟨i0, j0, q0, g1, g2, g3, g4, g5, g6⟩ => hno ⟨q0, g5, g6⟩, rfl, rfl, rfl⟩)
  · refine xa_ifeq0 G (tgt := 17) d_M_split_6 (by decide) ?_
    refine xa_iconst G (v := (-1 : Int32)) d_M_split_17 (by decide +kernel) ?_
    exact rt _ _ _ _ _ _ d_M_split_18 rfl (Or.inl ⟨fun ⟨i0, j0, q0, g1, g2, g3, g4, g5, g6⟩ => hno ⟨i0, j0, g1, g2, g3, g4⟩, rfl, rfl, rfl⟩)
set_option maxHeartbeats 1000000 in
theorem c_M_thin (l : Launch) {n : Nat} {f g : Nat → xE} (hn : n ≤ 500) (x : Int32) : xm_Mi l y_M_thin b_M_thin 4 (some .int) 3 [.int x] n f g (fun v n' f' g' => sp_thin n f x v n' f') := by
  refine xm_Mi.of [some (.int x), none, none] (by decide +kernel) rfl rfl rfl ?_
  intro Γ a cI cO G K rt
  have G : xa_G Γ "RowPressModel" b_M_thin 3 := G
  have bad : ∀ lv : List (Option Value), (¬ ∃ q, q < 4 ∧ x = nI q ∧ xSo (xkx q) 0 n f) → xa_At Γ (mw a cI n f g) 20 lv [] := by
    intro lv hno
    refine xa_iconst G (v := (-1 : Int32)) d_M_thin_20 (by decide +kernel) ?_
    exact rt _ _ _ _ _ _ d_M_thin_21 rfl (Or.inl ⟨hno, rfl, rfl, rfl⟩)
  refine xa_iload_n G (i := 1) d_M_thin_0 rfl rfl ?_
  refine xa_calls G K k_M_43 (c_M_isOrder (xl Γ) x) (by omega) (by decide) rfl rfl (Nat.le_of_ble_eq_true rfl) d_M_thin_1 (fun v hv => ?_)
  rcases hv with ⟨rfl, q, hq, rfl⟩ | ⟨rfl, hno⟩
  · refine xa_ifeq1 G (tgt := 20) d_M_thin_4 (by decide) ?_
    refine xa_aload_n G (i := 0) d_M_thin_7 rfl rfl ?_
    refine xa_iconst G (v := nI 0) d_M_thin_8 (by decide +kernel) ?_
    refine xa_aload_n G (i := 0) d_M_thin_9 rfl rfl ?_
    refine xm_gn G K d_M_thin_10 ?_
    refine xa_iload_n G (i := 1) d_M_thin_13 rfl rfl ?_
    refine xm_calli G K k_M_55 (c_M_isSorted (xl Γ) hq (lo := 0) (hi := n) (by omega) hn) (by omega) (by decide) rfl rfl (Nat.le_of_ble_eq_true rfl) d_M_thin_14 (fun v n' f' g' hu => ?_)
    obtain ⟨hb, rfl, rfl, rfl⟩ := hu
    rcases hb with ⟨rfl, sA⟩ | ⟨rfl, sA⟩
    · refine xa_ifne1 G (tgt := 22) d_M_thin_17 (by decide) ?_
      have inv := xth_inv sA
      have loop : ∀ (t k : Nat) (g : Nat → xE), k + t = n → (∀ j, j < (xth (xkx q) f k).1 → g j = (xth (xkx q) f k).2 j) → xa_At Γ (mw a cI n f g) 26 [some (.ref (a 0)), some (.int (nI q)), some (.int (nI (xth (xkx q) f k).1)), some (.int (nI k))] [] := by
        intro t
        induction t with
        | zero =>
          intro k g hk hg
          obtain rfl : k = n := by omega
          obtain ⟨i1, i2, i3⟩ := inv k (by omega)
          refine xa_iload_n G (i := 3) d_M_thin_26 rfl rfl ?_
          refine xa_aload_n G (i := 0) d_M_thin_27 rfl rfl ?_
          refine xm_gn G K d_M_thin_28 ?_
          refine xa_geN G (tgt := 74) d_M_thin_31 (by decide) (by omega) (by omega) (fun h5 => ?_) (fun h5 => ?_)
          · refine xa_aload_n G (i := 0) d_M_thin_74 rfl rfl ?_
            refine xa_iconst G (v := nI 0) d_M_thin_75 (by decide +kernel) ?_
            refine xa_iload_n G (i := 2) d_M_thin_76 rfl rfl ?_
            refine xm_callv G K k_M_40 (c_M_take (xl Γ) (lo := 0) (hi := (xth (xkx q) f k).1) (by omega) (by omega)) (by omega) (by decide) rfl rfl (Nat.le_of_ble_eq_true rfl) d_M_thin_77 (fun n' f' g' hu => ?_)
            obtain ⟨rfl, rfl, rfl⟩ := hu
            refine xa_aload_n G (i := 0) d_M_thin_80 rfl rfl ?_
            refine xa_iload_n G (i := 2) d_M_thin_81 rfl rfl ?_
            refine xm_pn G K d_M_thin_82 ?_
            refine xa_iload_n G (i := 2) d_M_thin_85 rfl rfl ?_
            refine rt _ _ _ _ _ _ d_M_thin_86 rfl (Or.inr ⟨q, ⟨hq, rfl, sA⟩, rfl, rfl, ?_⟩)
            funext j
            rcases Nat.lt_or_ge j (xth (xkx q) f k).1 with g1 | g1
            · rw [xtk_in _ _ (by omega) g1, hg j g1]
            · rw [xtk_out _ _ (by omega), i2 j g1]
          · omega
        | succ t ih =>
          intro k g hk hg
          obtain ⟨i1, i2, i3⟩ := inv k (by omega)
          have ih' := fun g => ih (k + 1) g (by omega)
          refine xa_iload_n G (i := 3) d_M_thin_26 rfl rfl ?_
          refine xa_aload_n G (i := 0) d_M_thin_27 rfl rfl ?_
          refine xm_gn G K d_M_thin_28 ?_
          refine xa_geN G (tgt := 74) d_M_thin_31 (by decide) (by omega) (by omega) (fun h5 => ?_) (fun h5 => ?_)
          · omega
          · generalize hm : (xth (xkx q) f k).1 = m at i1 i2 i3 hg ⊢
            have k59 : (k = 0 ∨ xkx q (f (k - 1)) < xkx q (f k)) → xa_At Γ (mw a cI n f g) 59 [some (.ref (a 0)), some (.int (nI q)), some (.int (nI m)), some (.int (nI k))] [] := by
              intro hA
              refine xa_aload_n G (i := 0) d_M_thin_59 rfl rfl ?_
              refine xa_iload_n G (i := 3) d_M_thin_60 rfl rfl ?_
              refine xa_iload_n G (i := 2) d_M_thin_61 rfl rfl ?_
              refine xm_callv G K k_M_36 (c_M_move (xl Γ) (k := k) (to := m) (by omega) (by omega)) (by omega) (by decide) rfl rfl (Nat.le_of_ble_eq_true rfl) d_M_thin_62 (fun n' f' g' hu => ?_)
              obtain ⟨rfl, rfl, rfl⟩ := hu
              refine xa_inc1 G d_M_thin_65 rfl rfl ?_
              refine xa_inc1 G d_M_thin_68 rfl rfl ?_
              refine xa_goto G (tgt := 26) d_M_thin_71 (by decide) ?_
              have h7 := ih' (xup g m (f k)) (by
                rw [xth_1 hA, hm]
                intro j hj
                have hj : j < m + 1 := hj
                show _ = xup _ m (f k) j
                rcases Nat.lt_or_ge j m with g1 | g1
                · rw [xup_n _ _ _ (by omega), xup_n _ _ _ (by omega), hg j g1]
                · obtain rfl : j = m := by omega
                  rw [xup_s, xup_s])
              rw [xth_1 hA, hm] at h7
              exact h7
            have k68 : ¬ (k = 0 ∨ xkx q (f (k - 1)) < xkx q (f k)) → xa_At Γ (mw a cI n f g) 68 [some (.ref (a 0)), some (.int (nI q)), some (.int (nI m)), some (.int (nI k))] [] := by
              intro hA
              refine xa_inc1 G d_M_thin_68 rfl rfl ?_
              refine xa_goto G (tgt := 26) d_M_thin_71 (by decide) ?_
              have h7 := ih' g (by rw [xth_n hA, hm]; exact hg)
              rw [xth_n hA, hm] at h7
              exact h7
            refine xa_iload_n G (i := 3) d_M_thin_34 rfl rfl ?_
            refine xa_ifeqN G (tgt := 59) d_M_thin_35 (by decide) (by omega) (fun h6 => ?_) (fun h6 => ?_)
            · exact k59 (Or.inl h6)
            · refine xa_aload_n G (i := 0) d_M_thin_38 rfl rfl ?_
              refine xm_gK G K d_M_thin_39 ?_
              refine xa_iload_n G (i := 3) d_M_thin_42 rfl rfl ?_
              refine xa_iconst G (v := nI 1) d_M_thin_43 (by decide +kernel) ?_
              refine xa_subN G d_M_thin_44 (by omega) ?_
              first | refine xm_ldK G K d_M_thin_45 ?_ ?_ | refine xm_ldT G K d_M_thin_45 ?_ ?_ | refine xm_ldA G K d_M_thin_45 ?_ ?_ | refine xm_ldB G K d_M_thin_45 ?_ ?_
              · omega
              refine xa_aload_n G (i := 0) d_M_thin_46 rfl rfl ?_
              refine xm_gK G K d_M_thin_47 ?_
              refine xa_iload_n G (i := 3) d_M_thin_50 rfl rfl ?_
              first | refine xm_ldK G K d_M_thin_51 ?_ ?_ | refine xm_ldT G K d_M_thin_51 ?_ ?_ | refine xm_ldA G K d_M_thin_51 ?_ ?_ | refine xm_ldB G K d_M_thin_51 ?_ ?_
              · omega
              refine xa_iload_n G (i := 1) d_M_thin_52 rfl rfl ?_
              refine xa_calls G K k_M_28 (c_M_isLess (xl Γ) _ _ q hq) (by omega) (by decide) rfl rfl (Nat.le_of_ble_eq_true rfl) d_M_thin_53 (fun v hv => ?_)
              rcases hv with ⟨rfl, hv⟩ | ⟨rfl, hv⟩
              · refine xa_ifeq1 G (tgt := 68) d_M_thin_56 (by decide) ?_
                exact k59 (Or.inr hv)
              · refine xa_ifeq0 G (tgt := 68) d_M_thin_56 (by decide) ?_
                refine k68 (fun g => ?_)
                rcases g with g | g
                · omega
                · exact hv g
      refine xa_iconst G (v := nI 0) d_M_thin_22 (by decide +kernel) ?_
      refine xa_istore_n G (i := 2) d_M_thin_23 rfl rfl ?_
      refine xa_iconst G (v := nI 0) d_M_thin_24 (by decide +kernel) ?_
      refine xa_istore_n G (i := 3) d_M_thin_25 rfl rfl ?_
      exact loop n 0 g (by omega) (fun j hj => absurd hj (Nat.not_lt_zero j))
    · refine xa_ifne0 G (tgt := 22) d_M_thin_17 (by decide) ?_
      refine bad _ (fun ⟨q0, g1, g2, g3⟩ => ?_)
      rw [nI_eq (by omega) (by omega)] at g2
      subst g2
      exact sA g3
  · refine xa_ifeq0 G (tgt := 20) d_M_thin_4 (by decide) ?_
    exact bad _ (fun ⟨q0, g1, g2, g3⟩ => hno ⟨q0, g1, g2⟩)
set_option maxHeartbeats 1000000 in
theorem c_M_sorted (l : Launch) {n : Nat} {f g : Nat → xE} (hn : n ≤ 500) (x y z : Int32) : xm_Mi l y_M_sorted b_M_sorted 4 (some .int) 3 [.int x, .int y, .int z] n f g (fun v n' f' g' => sp_sorted n f x y z v n' f') := by
  refine xm_Mi.of [some (.int x), some (.int y), some (.int z)] (by decide +kernel) rfl rfl rfl ?_
  intro Γ a cI cO G K rt
  have G : xa_G Γ "RowPressModel" b_M_sorted 3 := G
  refine xa_aload_n G (i := 0) d_M_sorted_0 rfl rfl ?_
  refine xa_iload_n G (i := 1) d_M_sorted_1 rfl rfl ?_
  refine xa_iload_n G (i := 2) d_M_sorted_2 rfl rfl ?_
  refine xm_calli G K k_M_51 (c_M_isStretch (xl Γ) hn x y) (by omega) (by decide) rfl rfl (Nat.le_of_ble_eq_true rfl) d_M_sorted_3 (fun v n' f' g' hu => ?_)
  obtain ⟨hb, rfl, rfl, rfl⟩ := hu
  rcases hb with ⟨rfl, i, j, h1, h2, rfl, rfl⟩ | ⟨rfl, hno⟩
  · refine xa_ifeq1 G (tgt := 16) d_M_sorted_6 (by decide) ?_
    refine xa_iload_n G (i := 3) d_M_sorted_9 rfl rfl ?_
    refine xa_calls G K k_M_43 (c_M_isOrder (xl Γ) z) (by omega) (by decide) rfl rfl (Nat.le_of_ble_eq_true rfl) d_M_sorted_10 (fun v hv => ?_)
    rcases hv with ⟨rfl, q, hq, rfl⟩ | ⟨rfl, hno⟩
    · refine xa_ifne1 G (tgt := 18) d_M_sorted_13 (by decide) ?_
      refine xa_aload_n G (i := 0) d_M_sorted_18 rfl rfl ?_
      refine xa_iload_n G (i := 1) d_M_sorted_19 rfl rfl ?_
      refine xa_iload_n G (i := 2) d_M_sorted_20 rfl rfl ?_
      refine xa_iload_n G (i := 3) d_M_sorted_21 rfl rfl ?_
      refine xm_calli G K k_M_55 (c_M_isSorted (xl Γ) hq (lo := i) (hi := j) h1 (by omega)) (by omega) (by decide) rfl rfl (Nat.le_of_ble_eq_true rfl) d_M_sorted_22 (fun v n' f' g' hu => ?_)
      obtain ⟨hb, rfl, rfl, rfl⟩ := hu
      rcases hb with ⟨rfl, sA⟩ | ⟨rfl, sA⟩
      · refine xa_ifeq1 G (tgt := 32) d_M_sorted_25 (by decide) ?_
        refine xa_iconst G (v := (1 : Int32)) d_M_sorted_28 (by decide +kernel) ?_
        refine xa_goto G (tgt := 33) d_M_sorted_29 (by decide) ?_
        exact rt _ _ _ _ _ _ d_M_sorted_33 rfl (Or.inr ⟨i, j, q, ⟨h1, h2, rfl, rfl, hq, rfl⟩, Or.inl ⟨rfl, sA⟩, rfl, rfl⟩)
      · refine xa_ifeq0 G (tgt := 32) d_M_sorted_25 (by decide) ?_
        refine xa_iconst G (v := (0 : Int32)) d_M_sorted_32 (by decide +kernel) ?_
        exact rt _ _ _ _ _ _ d_M_sorted_33 rfl (Or.inr ⟨i, j, q, ⟨h1, h2, rfl, rfl, hq, rfl⟩, Or.inr ⟨rfl, sA⟩, rfl, rfl⟩)
    · refine xa_ifne0 G (tgt := 18) d_M_sorted_13 (by decide) ?_
      refine xa_iconst G (v := (-1 : Int32)) d_M_sorted_16 (by decide +kernel) ?_
      exact rt _ _ _ _ _ _ d_M_sorted_17 rfl (Or.inl ⟨fun ⟨i0, j0, q0, g1, g2, g3, g4, g5, g6⟩ => hno ⟨q0, g5, g6⟩, rfl, rfl, rfl⟩)
  · refine xa_ifeq0 G (tgt := 16) d_M_sorted_6 (by decide) ?_
    refine xa_iconst G (v := (-1 : Int32)) d_M_sorted_16 (by decide +kernel) ?_
    exact rt _ _ _ _ _ _ d_M_sorted_17 rfl (Or.inl ⟨fun ⟨i0, j0, q0, g1, g2, g3, g4, g5, g6⟩ => hno ⟨i0, j0, g1, g2, g3, g4⟩, rfl, rfl, rfl⟩)
set_option maxHeartbeats 1000000 in
theorem c_M_find (l : Launch) {n : Nat} {f g : Nat → xE} (hn : n ≤ 500) (key y z : Int32) : xm_Mi l y_M_find b_M_find 7 (some .int) 3 [.int key, .int y, .int z] n f g (fun v n' f' g' => sp_find n f key y z v n' f') := by
  refine xm_Mi.of [some (.int key), some (.int y), some (.int z), none, none, none] (by decide +kernel) rfl rfl rfl ?_
  intro Γ a cI cO G K rt
  have G : xa_G Γ "RowPressModel" b_M_find 3 := G
  have bad : ∀ lv : List (Option Value), (¬ ∃ q ps, q < 4 ∧ y = nI q ∧ ps ≤ 1 ∧ z = nI ps ∧ xSo (xkx q) 0 n f) → xa_At Γ (mw a cI n f g) 29 lv [] := by
    intro lv hno
    refine xa_iconst G (v := (-1 : Int32)) d_M_find_29 (by decide +kernel) ?_
    exact rt _ _ _ _ _ _ d_M_find_30 rfl (Or.inl ⟨hno, rfl, rfl, rfl⟩)
  refine xa_iload_n G (i := 2) d_M_find_0 rfl rfl ?_
  refine xa_calls G K k_M_43 (c_M_isOrder (xl Γ) y) (by omega) (by decide) rfl rfl (Nat.le_of_ble_eq_true rfl) d_M_find_1 (fun v hv => ?_)
  rcases hv with ⟨rfl, q, hq, rfl⟩ | ⟨rfl, hno⟩
  · refine xa_ifeq1 G (tgt := 29) d_M_find_4 (by decide) ?_
    refine xa_iload_n G (i := 3) d_M_find_7 rfl rfl ?_
    refine xa_if_lt G (tgt := 29) d_M_find_8 (by decide) (fun h1 => ?_) (fun h1 => ?_)
    · refine bad _ (fun ⟨q0, ps, g1, g2, g3, g4, g5⟩ => ?_)
      subst g4
      exact nI_pos (by omega) h1
    · refine xa_iload_n G (i := 3) d_M_find_11 rfl rfl ?_
      refine xa_iconst G (v := nI 1) d_M_find_12 (by decide +kernel) ?_
      refine xa_icmp_gt G (tgt := 29) d_M_find_13 (by decide) (fun h2 => ?_) (fun h2 => ?_)
      · refine bad _ (fun ⟨q0, ps, g1, g2, g3, g4, g5⟩ => ?_)
        subst g4
        rw [nI_ltI (by omega) (by omega)] at h2
        omega
      · obtain ⟨ps, hps, rfl⟩ := nI_of2 (M := nI 1) (n := 1) (by decide +kernel) h1 (Int32.not_lt.mp h2)
        refine xa_aload_n G (i := 0) d_M_find_16 rfl rfl ?_
        refine xa_iconst G (v := nI 0) d_M_find_17 (by decide +kernel) ?_
        refine xa_aload_n G (i := 0) d_M_find_18 rfl rfl ?_
        refine xm_gn G K d_M_find_19 ?_
        refine xa_iload_n G (i := 2) d_M_find_22 rfl rfl ?_
        refine xm_calli G K k_M_55 (c_M_isSorted (xl Γ) hq (lo := 0) (hi := n) (by omega) hn) (by omega) (by decide) rfl rfl (Nat.le_of_ble_eq_true rfl) d_M_find_23 (fun v n' f' g' hu => ?_)
        obtain ⟨hb, rfl, rfl, rfl⟩ := hu
        rcases hb with ⟨rfl, sA⟩ | ⟨rfl, sA⟩
        · refine xa_ifne1 G (tgt := 31) d_M_find_26 (by decide) ?_
          obtain ⟨P, hP⟩ : ∃ P : Nat → Prop, P = fun k => xLs ps (xkx q (f k)) (xK q key) := ⟨_, rfl⟩
          have Pi : ∀ k, P k ↔ xLs ps (xkx q (f k)) (xK q key) := fun k => by rw [hP]
          have loop : ∀ (t k m : Nat) (w : Option Value), k + t = n → m = xcnt P k → xa_At Γ (mw a cI n f g) 37 [some (.ref (a 0)), some (.int key), some (.int (nI q)), some (.int (nI ps)), some (.int (nI m)), some (.int (nI k)), w] [] := by
            intro t
            induction t with
            | zero =>
              intro k m w q1 q2
              obtain rfl : k = n := by omega
              refine xa_iload G d_M_find_37 rfl ?_
              refine xa_aload_n G (i := 0) d_M_find_39 rfl rfl ?_
              refine xm_gn G K d_M_find_40 ?_
              refine xa_geN G (tgt := 109) d_M_find_43 (by decide) (by omega) (by omega) (fun h5 => ?_) (fun h5 => ?_)
              · refine xa_iload G d_M_find_109 rfl ?_
                exact rt _ _ _ _ _ _ d_M_find_111 rfl (Or.inr ⟨q, ps, ⟨hq, rfl, hps, rfl, sA⟩, by rw [q2, hP], rfl, rfl⟩)
              · omega
            | succ t ih =>
              intro k m w q1 q2
              have hm := xcnt_le P k
              have k85 : ∀ b : Nat, ((b = 1 ∧ P k) ∨ (b = 0 ∧ ¬ P k)) → xa_At Γ (mw a cI n f g) 85 [some (.ref (a 0)), some (.int key), some (.int (nI q)), some (.int (nI ps)), some (.int (nI m)), some (.int (nI k)), w] [.int (nI b)] := by
                intro b hb
                refine xa_istore G d_M_find_85 rfl ?_
                refine xa_iload G d_M_find_87 rfl ?_
                refine xa_ifeqN G (tgt := 99) d_M_find_89 (by decide) (by omega) (fun h6 => ?_) (fun h6 => ?_)
                · have p : ¬ P k := by
                    rcases hb with hb | hb
                    · omega
                    · exact hb.2
                  refine xa_iload G d_M_find_99 rfl ?_
                  refine xa_istore G d_M_find_101 rfl ?_
                  refine xa_inc1 G d_M_find_103 rfl rfl ?_
                  refine xa_goto G (tgt := 37) d_M_find_106 (by decide) ?_
                  exact ih (k + 1) m _ (by omega) (by rw [xcnt_n p, q2])
                · have p : P k := by
                    rcases hb with hb | hb
                    · exact hb.2
                    · omega
                  refine xa_iload G d_M_find_92 rfl ?_
                  refine xa_iconst G (v := nI 1) d_M_find_94 (by decide +kernel) ?_
                  refine xa_addN G d_M_find_95 ?_
                  refine xa_goto G (tgt := 101) d_M_find_96 (by decide) ?_
                  refine xa_istore G d_M_find_101 rfl ?_
                  refine xa_inc1 G d_M_find_103 rfl rfl ?_
                  refine xa_goto G (tgt := 37) d_M_find_106 (by decide) ?_
                  exact ih (k + 1) (m + 1) _ (by omega) (by rw [xcnt_1 p, q2])
              refine xa_iload G d_M_find_37 rfl ?_
              refine xa_aload_n G (i := 0) d_M_find_39 rfl rfl ?_
              refine xm_gn G K d_M_find_40 ?_
              refine xa_geN G (tgt := 109) d_M_find_43 (by decide) (by omega) (by omega) (fun h5 => ?_) (fun h5 => ?_)
              · omega
              · refine xa_iload_n G (i := 3) d_M_find_46 rfl rfl ?_
                refine xa_ifneN G (tgt := 65) d_M_find_47 (by decide) (by omega) (fun h6 => ?_) (fun h6 => ?_)
                · refine xa_iload_n G (i := 1) d_M_find_65 rfl rfl ?_
                  refine xa_aload_n G (i := 0) d_M_find_66 rfl rfl ?_
                  refine xm_gK G K d_M_find_67 ?_
                  refine xa_iload G d_M_find_70 rfl ?_
                  first | refine xm_ldK G K d_M_find_72 ?_ ?_ | refine xm_ldT G K d_M_find_72 ?_ ?_ | refine xm_ldA G K d_M_find_72 ?_ ?_ | refine xm_ldB G K d_M_find_72 ?_ ?_
                  · omega
                  refine xa_iload_n G (i := 2) d_M_find_73 rfl rfl ?_
                  refine xa_calls G K k_M_28 (c_M_isLess (xl Γ) _ _ q hq) (by omega) (by decide) rfl rfl (Nat.le_of_ble_eq_true rfl) d_M_find_74 (fun v hv => ?_)
                  rcases hv with ⟨rfl, hv⟩ | ⟨rfl, hv⟩
                  · have hv' : xK q key < xkx q (f k) := hv
                    refine xa_ifne1 G (tgt := 84) d_M_find_77 (by decide) ?_
                    refine xa_iconst G (v := nI 0) d_M_find_84 (by decide +kernel) ?_
                    exact k85 0 (Or.inr ⟨rfl, fun g => by rw [Pi] at g; unfold xLs at g; omega⟩)
                  · have hv' : ¬ xK q key < xkx q (f k) := hv
                    refine xa_ifne0 G (tgt := 84) d_M_find_77 (by decide) ?_
                    refine xa_iconst G (v := nI 1) d_M_find_80 (by decide +kernel) ?_
                    refine xa_goto G (tgt := 85) d_M_find_81 (by decide) ?_
                    exact k85 1 (Or.inl ⟨rfl, by rw [Pi]; unfold xLs; omega⟩)
                · refine xa_aload_n G (i := 0) d_M_find_50 rfl rfl ?_
                  refine xm_gK G K d_M_find_51 ?_
                  refine xa_iload G d_M_find_54 rfl ?_
                  first | refine xm_ldK G K d_M_find_56 ?_ ?_ | refine xm_ldT G K d_M_find_56 ?_ ?_ | refine xm_ldA G K d_M_find_56 ?_ ?_ | refine xm_ldB G K d_M_find_56 ?_ ?_
                  · omega
                  refine xa_iload_n G (i := 1) d_M_find_57 rfl rfl ?_
                  refine xa_iload_n G (i := 2) d_M_find_58 rfl rfl ?_
                  refine xa_calls G K k_M_28 (c_M_isLess (xl Γ) _ _ q hq) (by omega) (by decide) rfl rfl (Nat.le_of_ble_eq_true rfl) d_M_find_59 (fun v hv => ?_)
                  rcases hv with ⟨rfl, hv⟩ | ⟨rfl, hv⟩
                  · have hv' : xkx q (f k) < xK q key := hv
                    refine xa_goto G (tgt := 85) d_M_find_62 (by decide) ?_
                    exact k85 1 (Or.inl ⟨rfl, by rw [Pi]; unfold xLs; omega⟩)
                  · have hv' : ¬ xkx q (f k) < xK q key := hv
                    refine xa_goto G (tgt := 85) d_M_find_62 (by decide) ?_
                    exact k85 0 (Or.inr ⟨rfl, fun g => by rw [Pi] at g; unfold xLs at g; omega⟩)
          refine xa_iconst G (v := nI 0) d_M_find_31 (by decide +kernel) ?_
          refine xa_istore G d_M_find_32 rfl ?_
          refine xa_iconst G (v := nI 0) d_M_find_34 (by decide +kernel) ?_
          refine xa_istore G d_M_find_35 rfl ?_
          exact loop n 0 0 none (by omega) rfl
        · refine xa_ifne0 G (tgt := 31) d_M_find_26 (by decide) ?_
          refine bad _ (fun ⟨q0, ps, g1, g2, g3, g4, g5⟩ => ?_)
          rw [nI_eq (by omega) (by omega)] at g2
          subst g2
          exact sA g5
  · refine xa_ifeq0 G (tgt := 29) d_M_find_4 (by decide) ?_
    exact bad _ (fun ⟨q0, ps, g1, g2, g3, g4, g5⟩ => hno ⟨q0, g1, g2⟩)
set_option maxHeartbeats 1000000 in
theorem c_M_rank (l : Launch) {n : Nat} {f g : Nat → xE} (hn : n ≤ 500) (x y : Int32) : xm_Mi l y_M_rank b_M_rank 3 (some .int) 3 [.int x, .int y] n f g (fun v n' f' g' => sp_rank n f x y v n' f') := by
  refine xm_Mi.of [some (.int x), some (.int y)] (by decide +kernel) rfl rfl rfl ?_
  intro Γ a cI cO G K rt
  have G : xa_G Γ "RowPressModel" b_M_rank 3 := G
  have bad : ∀ lv : List (Option Value), (¬ ∃ p q, p < n ∧ x = nI p ∧ q < 4 ∧ y = nI q) → xa_At Γ (mw a cI n f g) 19 lv [] := by
    intro lv hno
    refine xa_iconst G (v := (-1 : Int32)) d_M_rank_19 (by decide +kernel) ?_
    exact rt _ _ _ _ _ _ d_M_rank_20 rfl (Or.inl ⟨hno, rfl, rfl, rfl⟩)
  refine xa_iload_n G (i := 1) d_M_rank_0 rfl rfl ?_
  refine xa_if_lt G (tgt := 19) d_M_rank_1 (by decide) (fun h1 => ?_) (fun h1 => ?_)
  · refine bad _ (fun ⟨p, q, g1, g2, g3, g4⟩ => ?_)
    subst g2
    exact nI_pos (by omega) h1
  · refine xa_iload_n G (i := 1) d_M_rank_4 rfl rfl ?_
    refine xa_aload_n G (i := 0) d_M_rank_5 rfl rfl ?_
    refine xm_gn G K d_M_rank_6 ?_
    refine xa_icmp_ge G (tgt := 19) d_M_rank_9 (by decide) (fun h2 => ?_) (fun h2 => ?_)
    · refine bad _ (fun ⟨p, q, g1, g2, g3, g4⟩ => ?_)
      subst g2
      rw [nI_leI (by omega) (by omega)] at h2
      omega
    · obtain ⟨p, hp, rfl, -⟩ := pk_mu h1 h2 (by omega)
      refine xa_iload_n G (i := 2) d_M_rank_12 rfl rfl ?_
      refine xa_calls G K k_M_43 (c_M_isOrder (xl Γ) y) (by omega) (by decide) rfl rfl (Nat.le_of_ble_eq_true rfl) d_M_rank_13 (fun v hv => ?_)
      rcases hv with ⟨rfl, q, hq, rfl⟩ | ⟨rfl, hno⟩
      · refine xa_ifne1 G (tgt := 21) d_M_rank_16 (by decide) ?_
        refine xa_aload_n G (i := 0) d_M_rank_21 rfl rfl ?_
        refine xa_iload_n G (i := 1) d_M_rank_22 rfl rfl ?_
        refine xa_iconst G (v := nI 0) d_M_rank_23 (by decide +kernel) ?_
        refine xa_aload_n G (i := 0) d_M_rank_24 rfl rfl ?_
        refine xm_gn G K d_M_rank_25 ?_
        refine xa_iload_n G (i := 2) d_M_rank_28 rfl rfl ?_
        refine xm_calli G K k_M_32 (c_M_place (xl Γ) hq (k := p) (lo := 0) (hi := n) (by omega) (by omega) hn) (by omega) (by decide) rfl rfl (Nat.le_of_ble_eq_true rfl) d_M_rank_29 (fun v n' f' g' hu => ?_)
        obtain ⟨rfl, rfl, rfl, rfl⟩ := hu
        refine rt _ _ _ _ _ _ d_M_rank_32 rfl (Or.inr ⟨p, q, ⟨hp, rfl, hq, rfl⟩, ?_, rfl, rfl⟩)
        unfold xpl
        rw [Nat.zero_add, Nat.sub_zero]
        congr 2
        funext t
        rw [Nat.zero_add]
      · refine xa_ifne0 G (tgt := 21) d_M_rank_16 (by decide) ?_
        exact bad _ (fun ⟨p0, q0, g1, g2, g3, g4⟩ => hno ⟨q0, g3, g4⟩)
set_option maxHeartbeats 1000000 in
theorem c_M_key (l : Launch) {n : Nat} {f g : Nat → xE} (hn : n ≤ 500) (x : Int32) : xm_Mi l y_M_key b_M_key 2 (some .int) 0 [.int x] n f g (fun v n' f' g' => sp_key n f x v n' f') := by
  refine xm_Mi.of [some (.int x)] (by decide +kernel) rfl rfl rfl ?_
  intro Γ a cI cO G K rt
  have G : xa_G Γ "RowPressModel" b_M_key 0 := G
  refine xa_iload_n G (i := 1) d_M_key_0 rfl rfl ?_
  refine xa_if_lt G (tgt := 21) d_M_key_1 (by decide) (fun h1 => ?_) (fun h1 => ?_)
  · refine xa_iconst G (v := (0 : Int32)) d_M_key_21 (by decide +kernel) ?_
    exact rt _ _ _ _ _ _ d_M_key_22 rfl ⟨Or.inl ⟨fun ⟨p, g1, g2⟩ => nI_pos (n := p) (by omega) (g2 ▸ h1), rfl⟩, rfl, rfl⟩
  · refine xa_iload_n G (i := 1) d_M_key_4 rfl rfl ?_
    refine xa_aload_n G (i := 0) d_M_key_5 rfl rfl ?_
    refine xm_gn G K d_M_key_6 ?_
    refine xa_icmp_ge G (tgt := 21) d_M_key_9 (by decide) (fun h2 => ?_) (fun h2 => ?_)
    · refine xa_iconst G (v := (0 : Int32)) d_M_key_21 (by decide +kernel) ?_
      exact rt _ _ _ _ _ _ d_M_key_22 rfl ⟨Or.inl ⟨fun ⟨p, g1, g2⟩ => nI_ge (a := p) g1 (by omega) (g2 ▸ h2), rfl⟩, rfl, rfl⟩
    · obtain ⟨p, hp, rfl, -⟩ := pk_mu h1 h2 (by omega)
      refine xa_aload_n G (i := 0) d_M_key_12 rfl rfl ?_
      refine xm_gK G K d_M_key_13 ?_
      refine xa_iload_n G (i := 1) d_M_key_16 rfl rfl ?_
      first | refine xm_ldK G K d_M_key_17 ?_ ?_ | refine xm_ldT G K d_M_key_17 ?_ ?_ | refine xm_ldA G K d_M_key_17 ?_ ?_ | refine xm_ldB G K d_M_key_17 ?_ ?_
      · omega
      refine xa_goto G (tgt := 22) d_M_key_18 (by decide) ?_
      exact rt _ _ _ _ _ _ d_M_key_22 rfl ⟨Or.inr ⟨p, ⟨hp, rfl⟩, rfl⟩, rfl, rfl⟩
set_option maxHeartbeats 1000000 in
theorem c_M_tag (l : Launch) {n : Nat} {f g : Nat → xE} (hn : n ≤ 500) (x : Int32) : xm_Mi l y_M_tag b_M_tag 2 (some .int) 0 [.int x] n f g (fun v n' f' g' => sp_tag n f x v n' f') := by
  refine xm_Mi.of [some (.int x)] (by decide +kernel) rfl rfl rfl ?_
  intro Γ a cI cO G K rt
  have G : xa_G Γ "RowPressModel" b_M_tag 0 := G
  refine xa_iload_n G (i := 1) d_M_tag_0 rfl rfl ?_
  refine xa_if_lt G (tgt := 21) d_M_tag_1 (by decide) (fun h1 => ?_) (fun h1 => ?_)
  · refine xa_iconst G (v := (0 : Int32)) d_M_tag_21 (by decide +kernel) ?_
    exact rt _ _ _ _ _ _ d_M_tag_22 rfl ⟨Or.inl ⟨fun ⟨p, g1, g2⟩ => nI_pos (n := p) (by omega) (g2 ▸ h1), rfl⟩, rfl, rfl⟩
  · refine xa_iload_n G (i := 1) d_M_tag_4 rfl rfl ?_
    refine xa_aload_n G (i := 0) d_M_tag_5 rfl rfl ?_
    refine xm_gn G K d_M_tag_6 ?_
    refine xa_icmp_ge G (tgt := 21) d_M_tag_9 (by decide) (fun h2 => ?_) (fun h2 => ?_)
    · refine xa_iconst G (v := (0 : Int32)) d_M_tag_21 (by decide +kernel) ?_
      exact rt _ _ _ _ _ _ d_M_tag_22 rfl ⟨Or.inl ⟨fun ⟨p, g1, g2⟩ => nI_ge (a := p) g1 (by omega) (g2 ▸ h2), rfl⟩, rfl, rfl⟩
    · obtain ⟨p, hp, rfl, -⟩ := pk_mu h1 h2 (by omega)
      refine xa_aload_n G (i := 0) d_M_tag_12 rfl rfl ?_
      refine xm_gT G K d_M_tag_13 ?_
      refine xa_iload_n G (i := 1) d_M_tag_16 rfl rfl ?_
      first | refine xm_ldK G K d_M_tag_17 ?_ ?_ | refine xm_ldT G K d_M_tag_17 ?_ ?_ | refine xm_ldA G K d_M_tag_17 ?_ ?_ | refine xm_ldB G K d_M_tag_17 ?_ ?_
      · omega
      refine xa_goto G (tgt := 22) d_M_tag_18 (by decide) ?_
      exact rt _ _ _ _ _ _ d_M_tag_22 rfl ⟨Or.inr ⟨p, ⟨hp, rfl⟩, rfl⟩, rfl, rfl⟩
set_option maxHeartbeats 1000000 in
theorem c_M_stretches (l : Launch) {n : Nat} {f g : Nat → xE} (hn : n ≤ 500) : xm_Mi l y_M_stretches b_M_stretches 3 (some .int) 0 [] n f g (fun v n' f' g' => v = nI (xcnt (xP1 f) n) ∧ n = n' ∧ f = f' ∧ g = g') := by
  refine xm_Mi.of [none, none] (by decide +kernel) rfl rfl rfl ?_
  intro Γ a cI cO G K rt
  have G : xa_G Γ "RowPressModel" b_M_stretches 0 := G
  have loop : ∀ (t k m : Nat), k + t = n → m = xcnt (xP1 f) k → xa_At Γ (mw a cI n f g) 4 [some (.ref (a 0)), some (.int (nI m)), some (.int (nI k))] [] := by
    intro t
    induction t with
    | zero =>
      intro k m h1 h3
      obtain rfl : k = n := by omega
      refine xa_iload_n G (i := 2) d_M_stretches_4 rfl rfl ?_
      refine xa_aload_n G (i := 0) d_M_stretches_5 rfl rfl ?_
      refine xm_gn G K d_M_stretches_6 ?_
      refine xa_geN G (tgt := 47) d_M_stretches_9 (by decide) (by omega) (by omega) (fun h5 => ?_) (fun h5 => ?_)
      · refine xa_iload_n G (i := 1) d_M_stretches_47 rfl rfl ?_
        exact rt _ _ _ _ _ _ d_M_stretches_48 rfl ⟨by rw [h3], rfl, rfl, rfl⟩
      · omega
    | succ t ih =>
      intro k m h1 h3
      have hc := xcnt_le (xP1 f) k
      have k33 : xP1 f k → xa_At Γ (mw a cI n f g) 33 [some (.ref (a 0)), some (.int (nI m)), some (.int (nI k))] [] := by
        intro hA
        refine xa_iload_n G (i := 1) d_M_stretches_33 rfl rfl ?_
        refine xa_iconst G (v := nI 1) d_M_stretches_34 (by decide +kernel) ?_
        refine xa_addN G d_M_stretches_35 ?_
        refine xa_goto G (tgt := 40) d_M_stretches_36 (by decide) ?_
        refine xa_istore_n G (i := 1) d_M_stretches_40 rfl rfl ?_
        refine xa_inc1 G d_M_stretches_41 rfl rfl ?_
        refine xa_goto G (tgt := 4) d_M_stretches_44 (by decide) ?_
        exact ih (k + 1) (m + 1) (by omega) (by rw [xcnt_1 hA, h3])
      refine xa_iload_n G (i := 2) d_M_stretches_4 rfl rfl ?_
      refine xa_aload_n G (i := 0) d_M_stretches_5 rfl rfl ?_
      refine xm_gn G K d_M_stretches_6 ?_
      refine xa_geN G (tgt := 47) d_M_stretches_9 (by decide) (by omega) (by omega) (fun h5 => ?_) (fun h5 => ?_)
      · omega
      · refine xa_iload_n G (i := 2) d_M_stretches_12 rfl rfl ?_
        refine xa_ifeqN G (tgt := 33) d_M_stretches_13 (by decide) (by omega) (fun h6 => ?_) (fun h6 => ?_)
        · exact k33 (Or.inl h6)
        · refine xa_aload_n G (i := 0) d_M_stretches_16 rfl rfl ?_
          refine xm_gK G K d_M_stretches_17 ?_
          refine xa_iload_n G (i := 2) d_M_stretches_20 rfl rfl ?_
          first | refine xm_ldK G K d_M_stretches_21 ?_ ?_ | refine xm_ldT G K d_M_stretches_21 ?_ ?_ | refine xm_ldA G K d_M_stretches_21 ?_ ?_ | refine xm_ldB G K d_M_stretches_21 ?_ ?_
          · omega
          refine xa_aload_n G (i := 0) d_M_stretches_22 rfl rfl ?_
          refine xm_gK G K d_M_stretches_23 ?_
          refine xa_iload_n G (i := 2) d_M_stretches_26 rfl rfl ?_
          refine xa_iconst G (v := nI 1) d_M_stretches_27 (by decide +kernel) ?_
          refine xa_subN G d_M_stretches_28 (by omega) ?_
          first | refine xm_ldK G K d_M_stretches_29 ?_ ?_ | refine xm_ldT G K d_M_stretches_29 ?_ ?_ | refine xm_ldA G K d_M_stretches_29 ?_ ?_ | refine xm_ldB G K d_M_stretches_29 ?_ ?_
          · omega
          refine xa_icmp_ge G (tgt := 39) d_M_stretches_30 (by decide) (fun h7 => ?_) (fun h7 => ?_)
          · refine xa_iload_n G (i := 1) d_M_stretches_39 rfl rfl ?_
            refine xa_istore_n G (i := 1) d_M_stretches_40 rfl rfl ?_
            refine xa_inc1 G d_M_stretches_41 rfl rfl ?_
            refine xa_goto G (tgt := 4) d_M_stretches_44 (by decide) ?_
            refine ih (k + 1) m (by omega) ?_
            rw [xcnt_n, h3]
            intro g
            rcases g with g | g
            · omega
            · exact Int32.not_lt.mpr h7 g
          · exact k33 (Or.inr (Int32.not_le.mp h7))
  refine xa_iconst G (v := nI 0) d_M_stretches_0 (by decide +kernel) ?_
  refine xa_istore_n G (i := 1) d_M_stretches_1 rfl rfl ?_
  refine xa_iconst G (v := nI 0) d_M_stretches_2 (by decide +kernel) ?_
  refine xa_istore_n G (i := 2) d_M_stretches_3 rfl rfl ?_
  exact loop n 0 0 (by omega) rfl
set_option maxHeartbeats 1000000 in
theorem c_M_different (l : Launch) {n : Nat} {f g : Nat → xE} (hn : n ≤ 500) : xm_Mi l y_M_different b_M_different 5 (some .int) 0 [] n f g (fun v n' f' g' => v = nI (xcnt (xP2 f) n) ∧ n = n' ∧ f = f' ∧ g = g') := by
  refine xm_Mi.of [none, none, none, none] (by decide +kernel) rfl rfl rfl ?_
  intro Γ a cI cO G K rt
  have G : xa_G Γ "RowPressModel" b_M_different 0 := G
  have loop : ∀ (t k m : Nat) (z3 z4 : Option Value), k + t = n → m = xcnt (xP2 f) k → xa_At Γ (mw a cI n f g) 4 [some (.ref (a 0)), some (.int (nI m)), some (.int (nI k)), z3, z4] [] := by
    intro t
    induction t with
    | zero =>
      intro k m z3 z4 h1 h3
      obtain rfl : k = n := by omega
      refine xa_iload_n G (i := 2) d_M_different_4 rfl rfl ?_
      refine xa_aload_n G (i := 0) d_M_different_5 rfl rfl ?_
      refine xm_gn G K d_M_different_6 ?_
      refine xa_geN G (tgt := 73) d_M_different_9 (by decide) (by omega) (by omega) (fun h5 => ?_) (fun h5 => ?_)
      · refine xa_iload_n G (i := 1) d_M_different_73 rfl rfl ?_
        exact rt _ _ _ _ _ _ d_M_different_74 rfl ⟨by rw [h3], rfl, rfl, rfl⟩
      · omega
    | succ t ih =>
      intro k m z3 z4 h1 h3
      have hc := xcnt_le (xP2 f) k
      refine xa_iload_n G (i := 2) d_M_different_4 rfl rfl ?_
      refine xa_aload_n G (i := 0) d_M_different_5 rfl rfl ?_
      refine xm_gn G K d_M_different_6 ?_
      refine xa_geN G (tgt := 73) d_M_different_9 (by decide) (by omega) (by omega) (fun h5 => ?_) (fun h5 => ?_)
      · omega
      · have inner : ∀ (u e b : Nat), e + u = k → ((b = 1 ∧ ∀ j, j < e → (f j).1 ≠ (f k).1) ∨ (b = 0 ∧ ¬ ∀ j, j < e → (f j).1 ≠ (f k).1)) → xa_At Γ (mw a cI n f g) 17 [some (.ref (a 0)), some (.int (nI m)), some (.int (nI k)), some (.int (nI b)), some (.int (nI e))] [] := by
          intro u
          induction u with
          | zero =>
            intro e b g1 g2
            obtain rfl : e = k := by omega
            refine xa_iload G d_M_different_17 rfl ?_
            refine xa_iload_n G (i := 2) d_M_different_19 rfl rfl ?_
            refine xa_geN G (tgt := 55) d_M_different_20 (by decide) (by omega) (by omega) (fun h6 => ?_) (fun h6 => ?_)
            · refine xa_iload_n G (i := 3) d_M_different_55 rfl rfl ?_
              refine xa_ifeqN G (tgt := 65) d_M_different_56 (by decide) (by omega) (fun h7 => ?_) (fun h7 => ?_)
              · refine xa_iload_n G (i := 1) d_M_different_65 rfl rfl ?_
                refine xa_istore_n G (i := 1) d_M_different_66 rfl rfl ?_
                refine xa_inc1 G d_M_different_67 rfl rfl ?_
                refine xa_goto G (tgt := 4) d_M_different_70 (by decide) ?_
                refine ih (e + 1) m _ _ (by omega) ?_
                rw [xcnt_n, h3]
                rcases g2 with g2 | g2
                · omega
                · exact g2.2
              · refine xa_iload_n G (i := 1) d_M_different_59 rfl rfl ?_
                refine xa_iconst G (v := nI 1) d_M_different_60 (by decide +kernel) ?_
                refine xa_addN G d_M_different_61 ?_
                refine xa_goto G (tgt := 66) d_M_different_62 (by decide) ?_
                refine xa_istore_n G (i := 1) d_M_different_66 rfl rfl ?_
                refine xa_inc1 G d_M_different_67 rfl rfl ?_
                refine xa_goto G (tgt := 4) d_M_different_70 (by decide) ?_
                refine ih (e + 1) (m + 1) _ _ (by omega) ?_
                rw [xcnt_1, h3]
                rcases g2 with g2 | g2
                · exact g2.2
                · omega
            · omega
          | succ u ihu =>
            intro e b g1 g2
            have k47 : (¬ ∀ j, j < e + 1 → (f j).1 ≠ (f k).1) → xa_At Γ (mw a cI n f g) 47 [some (.ref (a 0)), some (.int (nI m)), some (.int (nI k)), some (.int (nI b)), some (.int (nI e))] [] := by
              intro hA
              refine xa_iconst G (v := nI 0) d_M_different_47 (by decide +kernel) ?_
              refine xa_istore_n G (i := 3) d_M_different_48 rfl rfl ?_
              refine xa_inc1 G d_M_different_49 rfl rfl ?_
              refine xa_goto G (tgt := 17) d_M_different_52 (by decide) ?_
              exact ihu (e + 1) 0 (by omega) (Or.inr ⟨rfl, hA⟩)
            refine xa_iload G d_M_different_17 rfl ?_
            refine xa_iload_n G (i := 2) d_M_different_19 rfl rfl ?_
            refine xa_geN G (tgt := 55) d_M_different_20 (by decide) (by omega) (by omega) (fun h6 => ?_) (fun h6 => ?_)
            · omega
            · refine xa_iload_n G (i := 3) d_M_different_23 rfl rfl ?_
              refine xa_ifeqN G (tgt := 47) d_M_different_24 (by decide) (by omega) (fun h7 => ?_) (fun h7 => ?_)
              · refine k47 (fun g => ?_)
                rcases g2 with g2 | g2
                · omega
                · exact g2.2 (fun j hj => g j (by omega))
              · have g3 : ∀ j, j < e → (f j).1 ≠ (f k).1 := by
                  rcases g2 with g2 | g2
                  · exact g2.2
                  · omega
                refine xa_aload_n G (i := 0) d_M_different_27 rfl rfl ?_
                refine xm_gK G K d_M_different_28 ?_
                refine xa_iload G d_M_different_31 rfl ?_
                first | refine xm_ldK G K d_M_different_33 ?_ ?_ | refine xm_ldT G K d_M_different_33 ?_ ?_ | refine xm_ldA G K d_M_different_33 ?_ ?_ | refine xm_ldB G K d_M_different_33 ?_ ?_
                · omega
                refine xa_aload_n G (i := 0) d_M_different_34 rfl rfl ?_
                refine xm_gK G K d_M_different_35 ?_
                refine xa_iload_n G (i := 2) d_M_different_38 rfl rfl ?_
                first | refine xm_ldK G K d_M_different_39 ?_ ?_ | refine xm_ldT G K d_M_different_39 ?_ ?_ | refine xm_ldA G K d_M_different_39 ?_ ?_ | refine xm_ldB G K d_M_different_39 ?_ ?_
                · omega
                refine xa_icmp_eq G (tgt := 47) d_M_different_40 (by decide) (fun h8 => ?_) (fun h8 => ?_)
                · exact k47 (fun g => g e (by omega) h8)
                · refine xa_iconst G (v := nI 1) d_M_different_43 (by decide +kernel) ?_
                  refine xa_goto G (tgt := 48) d_M_different_44 (by decide) ?_
                  refine xa_istore_n G (i := 3) d_M_different_48 rfl rfl ?_
                  refine xa_inc1 G d_M_different_49 rfl rfl ?_
                  refine xa_goto G (tgt := 17) d_M_different_52 (by decide) ?_
                  refine ihu (e + 1) 1 (by omega) (Or.inl ⟨rfl, fun j hj => ?_⟩)
                  rcases Nat.lt_or_ge j e with g4 | g4
                  · exact g3 j g4
                  · obtain rfl : j = e := by omega
                    exact h8
        refine xa_iconst G (v := nI 1) d_M_different_12 (by decide +kernel) ?_
        refine xa_istore_n G (i := 3) d_M_different_13 rfl rfl ?_
        refine xa_iconst G (v := nI 0) d_M_different_14 (by decide +kernel) ?_
        refine xa_istore G d_M_different_15 rfl ?_
        exact inner k 0 1 (by omega) (Or.inl ⟨rfl, fun j g => absurd g (Nat.not_lt_zero j)⟩)
  refine xa_iconst G (v := nI 0) d_M_different_0 (by decide +kernel) ?_
  refine xa_istore_n G (i := 1) d_M_different_1 rfl rfl ?_
  refine xa_iconst G (v := nI 0) d_M_different_2 (by decide +kernel) ?_
  refine xa_istore_n G (i := 2) d_M_different_3 rfl rfl ?_
  exact loop n 0 0 none none (by omega) rfl
set_option maxHeartbeats 1000000 in
theorem c_M_count (l : Launch) {n : Nat} {f g : Nat → xE} (hn : n ≤ 500) (x : Int32) : xm_Mi l y_M_count b_M_count 2 (some .int) 1 [.int x] n f g (fun v n' f' g' => sp_count n f x v n' f') := by
  refine xm_Mi.of [some (.int x)] (by decide +kernel) rfl rfl rfl ?_
  intro Γ a cI cO G K rt
  have G : xa_G Γ "RowPressModel" b_M_count 1 := G
  refine xa_iload_n G (i := 1) d_M_count_0 rfl rfl ?_
  by_cases h0 : x = 0
  · subst h0
    refine xa_swIn G (tgt := 28) d_M_count_1 (by decide +kernel) (by decide +kernel) (off := 27) (by decide +kernel) (by decide) ?_
    refine xa_aload_n G (i := 0) d_M_count_28 rfl rfl ?_
    refine xm_gn G K d_M_count_29 ?_
    exact rt _ _ _ _ _ _ d_M_count_32 rfl ⟨Or.inl ⟨rfl, rfl⟩, rfl, rfl⟩
  · by_cases h1 : x = 1
    · subst h1
      refine xa_swIn G (tgt := 33) d_M_count_1 (by decide +kernel) (by decide +kernel) (off := 32) (by decide +kernel) (by decide) ?_
      refine xa_aload_n G (i := 0) d_M_count_33 rfl rfl ?_
      refine xm_calli G K k_M_58 (c_M_stretches (xl Γ) hn) (by omega) (by decide) rfl rfl (Nat.le_of_ble_eq_true rfl) d_M_count_34 (fun v n' f' g' hu => ?_)
      obtain ⟨rfl, rfl, rfl, rfl⟩ := hu
      exact rt _ _ _ _ _ _ d_M_count_37 rfl ⟨Or.inr (Or.inl ⟨rfl, rfl⟩), rfl, rfl⟩
    · by_cases h2 : x = 2
      · subst h2
        refine xa_swIn G (tgt := 38) d_M_count_1 (by decide +kernel) (by decide +kernel) (off := 37) (by decide +kernel) (by decide) ?_
        refine xa_aload_n G (i := 0) d_M_count_38 rfl rfl ?_
        refine xm_calli G K k_M_62 (c_M_different (xl Γ) hn) (by omega) (by decide) rfl rfl (Nat.le_of_ble_eq_true rfl) d_M_count_39 (fun v n' f' g' hu => ?_)
        obtain ⟨rfl, rfl, rfl, rfl⟩ := hu
        exact rt _ _ _ _ _ _ d_M_count_42 rfl ⟨Or.inr (Or.inr (Or.inl ⟨rfl, rfl⟩)), rfl, rfl⟩
      · have n0 := lv_neT h0 (a := 0) (by decide)
        have n1 := lv_neT h1 (a := 1) (by decide)
        have n2 := lv_neT h2 (a := 2) (by decide)
        refine xa_swOut G (tgt := 43) d_M_count_1 (by omega) (by decide) ?_
        refine xa_iconst G (v := (-1 : Int32)) d_M_count_43 (by decide +kernel) ?_
        exact rt _ _ _ _ _ _ d_M_count_44 rfl ⟨Or.inr (Or.inr (Or.inr ⟨h0, h1, h2, rfl⟩)), rfl, rfl⟩
set_option maxHeartbeats 1000000 in
theorem c_M_check (l : Launch) {n : Nat} {f g : Nat → xE} : xm_Mi l y_M_check b_M_check 1 (some .int) 0 [] n f g (fun v n' f' g' => sp_check n f v n' f') := by
  refine xm_Mi.of [] (by decide +kernel) rfl rfl rfl ?_
  intro Γ a cI cO G K rt
  refine xa_iconst G (v := (1 : Int32)) d_M_check_0 (by decide +kernel) ?_
  exact rt _ _ _ _ _ _ d_M_check_1 rfl ⟨rfl, rfl, rfl⟩
end
section
/-! THE CONSTRUCTORS: of the orders (xa_Mv), of a RowPress and of a RowPressModel (they make cells) -/
section XINI
variable {Γ : xa_C} {own : String} {cc : ByteArray} {r0 : Nat} {ws wc : va_W} {out : va_W → va_W} {pc : Nat} {lv : List (Option Value)} {st : List Value} {S : Type} {y : MethodName} {b : ByteArray} {maxL r ix q : Nat} {tys : List (ClassId × FieldType)} {wf : S → va_W}
theorem xa_oi (G : xa_G Γ own cc r0) (hr : 1 ≤ r0) (hw : Cond.methodLink own ix y_J_init ∈ w0) (hcat : (st.map fun v => v.category).sum ≤ 8) (hdg : decode cc pc = .ok (.invokespecial ix, 3)) (k : xa_At Γ ws (pc + 3) lv st) : xa_At Γ ws pc lv (.ref q :: st) := by
  intro H locs ls hP hD hS hL
  have hR := G.rm
  refine W.objInit (a := q) (rest := st) G.ex G.by G.ow (G.ts _ hw) (G.ts _ im_J_init) (G.ts _ cd_J_init) rfl (by rw [G.ml]; exact hL.1) rfl hdg (by omega) (by show 2 * 0 + _ + 12 ≤ _; omega) ?_
  exact k H locs ls hP hD hS hL
set_option maxHeartbeats 1000000 in
theorem xa_calln {post : S → Prop} (G : xa_G Γ own cc r0) (K : va_K (xD Γ) classes tys (xs Γ)) (J : xa_J (xD Γ) (xA Γ) ws wc out) (k1 : Cond.code y b maxL none ∈ w0) (k2 : Cond.initialized y.cls ∈ w0) (k3 : (own, ix, y) ∈ nw_l) (k4 : Cond.instanceMethod y ∈ w0) (hy : y.name = "<init>") (hd : y.cls ≠ "java/lang/invoke/MethodHandle" ∧ y.cls ≠ "java/lang/invoke/VarHandle" ∧ (parseMethodDescriptor y.desc).map (fun d => d.parameters.length) = some 0) (M : xa_Mv (xl Γ) y b maxL r tys [.ref q] wc wf post)
    (hr : r + 1 ≤ r0) (hm : maxL ≤ 45) (hcat : (st.map fun v => v.category).sum ≤ 8) (hdg : decode cc pc = .ok (.invokespecial ix, 3)) (kk : ∀ (u : S), post u → xa_At Γ (out (wf u)) (pc + 3) lv st) : xa_At Γ ws pc lv (.ref q :: st) := by
  intro H locs ls hP hD hS hL
  have hPc := J.1 H hP
  have hDc := J.2.1 hD
  have hFc := xa_Fc G hDc hS
  have hR := G.rm
  refine va_callv (va_runIN (As := []) (rest := st) (host := "RowPress") ⟨G.ex, G.by, G.ml, G.ow, G.ts⟩ (M (xD Γ) H.size) ⟨va_cnB 0 G.ts (w0_good k1) rfl rfl rfl (G.nw.1 _ k3) (G.ts _ k2) hd ⟨by show r + 1 ≤ _; omega, by show 8 + (maxL + 11) + 64 * r ≤ _; omega⟩, hy, G.ts _ k4⟩ ⟨xa_P.blind, fun U hU hW => ⟨rfl, by rw [hU], by rw [hU]; exact hPc, va_K.moved hW.alike K, hDc.weaken (fun _ _ _ _ => trivial), G.nw.warm hW⟩⟩ rfl rfl hL.1 rfl (lv_room hcat) hdg ⟨G.cs.1, G.cs.2⟩) hS (fun q _ h => hFc q h) hFc (fun u t H1 locs1 ht hvm hw hB hz1 hk1 hS1 => ?_)
  obtain ⟨hP1, hK1, hD1⟩ := hB
  rw [ht] at hP1
  obtain ⟨hP2, hD2⟩ := J.2.2 H H1 _ hP hD hk1 hFc hP1 hD1
  exact kk u hw H1 locs1 ls hP2 hD2 hS1 hL
end XINI
set_option maxHeartbeats 1000000 in
theorem c_O_init (l : Launch) (q ci : Nat) : xa_Mv l y_O_init b_O_init 1 1 [] [.ref q] [(q, .inr (ci, []))] (fun _ : Unit => [(q, .inr (ci, []))]) (fun _ => True) := by
  refine xa_Mv.of [some (.ref q)] (by decide +kernel) rfl rfl rfl ?_
  intro Γ G K rt
  have G : xa_G Γ "RowPress$Order" b_O_init 1 := G
  refine xa_aload_n G (i := 0) d_O_init_0 rfl rfl ?_
  refine xa_oi G (by omega) ml_O_1 (Nat.le_of_ble_eq_true rfl) d_O_init_1 ?_
  exact rt _ _ () d_O_init_4 trivial
set_option maxHeartbeats 1000000 in
theorem c_S_init (l : Launch) (q : Nat) : xa_Mv l y_S_init b_S_init 1 2 [] [.ref q] [(q, .inr (2, []))] (fun _ : Unit => [(q, .inr (2, []))]) (fun _ => True) := by
  refine xa_Mv.of [some (.ref q)] (by decide +kernel) rfl rfl rfl ?_
  intro Γ G K rt
  have G : xa_G Γ "RowPress$Signed" b_S_init 2 := G
  refine xa_aload_n G (i := 0) d_S_init_0 rfl rfl ?_
  refine xa_calln G K xa_J.own cd_O_init in_O (List.mem_of_getElem? (i := 1) rfl) im_O_init rfl (by decide +kernel) (c_O_init (xl Γ) q 2) (by omega) (by decide) (Nat.le_of_ble_eq_true rfl) d_S_init_1 (fun u _ => ?_)
  exact rt _ _ () d_S_init_4 trivial
set_option maxHeartbeats 1000000 in
theorem c_U_init (l : Launch) (q : Nat) : xa_Mv l y_U_init b_U_init 1 2 [] [.ref q] [(q, .inr (3, []))] (fun _ : Unit => [(q, .inr (3, []))]) (fun _ => True) := by
  refine xa_Mv.of [some (.ref q)] (by decide +kernel) rfl rfl rfl ?_
  intro Γ G K rt
  have G : xa_G Γ "RowPress$Unsigned" b_U_init 2 := G
  refine xa_aload_n G (i := 0) d_U_init_0 rfl rfl ?_
  refine xa_calln G K xa_J.own cd_O_init in_O (List.mem_of_getElem? (i := 3) rfl) im_O_init rfl (by decide +kernel) (c_O_init (xl Γ) q 3) (by omega) (by decide) (Nat.le_of_ble_eq_true rfl) d_U_init_1 (fun u _ => ?_)
  exact rt _ _ () d_U_init_4 trivial
set_option maxHeartbeats 1000000 in
theorem c_F_init (l : Launch) (q : Nat) : xa_Mv l y_F_init b_F_init 1 2 [] [.ref q] [(q, .inr (4, []))] (fun _ : Unit => [(q, .inr (4, []))]) (fun _ => True) := by
  refine xa_Mv.of [some (.ref q)] (by decide +kernel) rfl rfl rfl ?_
  intro Γ G K rt
  have G : xa_G Γ "RowPress$Falling" b_F_init 2 := G
  refine xa_aload_n G (i := 0) d_F_init_0 rfl rfl ?_
  refine xa_calln G K xa_J.own cd_O_init in_O (List.mem_of_getElem? (i := 5) rfl) im_O_init rfl (by decide +kernel) (c_O_init (xl Γ) q 4) (by omega) (by decide) (Nat.le_of_ble_eq_true rfl) d_F_init_1 (fun u _ => ?_)
  exact rt _ _ () d_F_init_4 trivial
set_option maxHeartbeats 1000000 in
theorem c_L_init (l : Launch) (q : Nat) : xa_Mv l y_L_init b_L_init 1 2 [] [.ref q] [(q, .inr (5, []))] (fun _ : Unit => [(q, .inr (5, []))]) (fun _ => True) := by
  refine xa_Mv.of [some (.ref q)] (by decide +kernel) rfl rfl rfl ?_
  intro Γ G K rt
  have G : xa_G Γ "RowPress$Lowest" b_L_init 2 := G
  refine xa_aload_n G (i := 0) d_L_init_0 rfl rfl ?_
  refine xa_calln G K xa_J.own cd_O_init in_O (List.mem_of_getElem? (i := 7) rfl) im_O_init rfl (by decide +kernel) (c_O_init (xl Γ) q 5) (by omega) (by decide) (Nat.le_of_ble_eq_true rfl) d_L_init_1 (fun u _ => ?_)
  exact rt _ _ () d_L_init_4 trivial
theorem xq_cg {cA : ClassId} {n : Nat} {f f' : Nat → Option Nat} (h : ∀ j, j < n → f j = f' j) : vp_cell cA (n, .inr (.inr (.inr (.inr f)))) = vp_cell cA (n, .inr (.inr (.inr (.inr f')))) := by
  rw [vp_cell_q, vp_cell_q]
  unfold arrV
  congr 1
  apply congrArg
  funext j
  show va_rf (f j.val) = va_rf (f' j.val)
  rw [h j.val j.isLt]
abbrev xR0 : List Value := [.null, .null, .null, .int (nI 0), .null, .long (lN 0), .long (lN 0), .int (nI 0)]
def xad (h0 qO qK qT q4 q5 q6 q7 : Nat) : Nat → Nat := fun k => match k with
  | 0 => h0
  | 1 => qO
  | 2 => qK
  | 3 => qT
  | 4 => q4
  | 5 => q5
  | 6 => q6
  | _ => q7
set_option maxHeartbeats 4000000 in
set_option maxRecDepth 100000 in
theorem c_R_init (l : Launch) (D : va_G) (h0 sz : Nat) : Met l y_R_init (Cond.code y_R_init b_R_init 1 none :: w0) { frames := 4, cells := 7, slots := 1004, locals := 256 } (va_Pc [.ref h0] (xa_P D sz [] [(h0, .inr (0, xR0))])) (va_Qv (fun u : (Nat → Nat) × ClassId × ClassId => u.1 0 = h0) (fun u t => va_P D classes (xw u.1 u.2.1 u.2.2 0 0 0 0 0 (fun _ => (0, 0))) t.heap ∧ va_K D classes (yR u.2.1 u.2.2) t ∧ va_D (va_A [(h0, .inr (0, xR0))] sz) (xw u.1 u.2.1 u.2.2 0 0 0 0 0 (fun _ => (0, 0)))) (va_A [(h0, .inr (0, xR0))] sz)) 7 1004 (va_A [(h0, .inr (0, xR0))] sz) := by
  refine Met.ofW (cc := b_R_init) (maxL := 1) (ret := none) (by decide +kernel) rfl ?_
  intro p e s m args below meth c s₁ B hml hv
  obtain ⟨rfl, hsz, hP, hK, hD0, hN⟩ := hv
  have hx := B.exec
  have hb := B.bytes
  have hr := B.returns
  have hts : ∀ w ∈ w0, w.before _ s = true := fun w hw => atoms_spec (ws := Cond.code y_R_init b_R_init 1 none :: w0) B.pre w (List.mem_cons_of_mem _ hw)
  have hown : s.vm.findClass "RowPress" = some m.cls := findClass_of_methodNamed B.named
  have hlocks := B.notSynchronized
  have hin : meth.name = "<init>" := (name_of_methodNamed B.named B.method).1
  subst hsz
  have hD := hD0.self (sz := s.heap.size)
  generalize hAe : va_A [(h0, .inr (0, xR0))] s.heap.size = A at hD ⊢
  have hA : ∀ q : Nat, s.heap.size ≤ q → A q := fun q h => by rw [← hAe]; exact Or.inr h
  have hS : va_S A s.heap s.heap [] := va_S.rf
  have hl := lv_entry ([.ref h0]) (n := 1) (Nat.le_of_ble_eq_true rfl)
  rw [lg_entry_eq]
  generalize (lg_sl ([.ref h0]) ++ List.replicate (1 - (lg_sl ([.ref h0])).length) Slot.unset).toArray = ls at hl ⊢
  have hl : lv_has ls 1 [(0, .ref h0)] := hl
  refine lv_aload_n hx hb d_R_init_0 rfl (lv_at hl 0 rfl) ?_
  refine W.objInit hx hb hown (hts _ ml_R_1) (hts _ im_J_init) (hts _ cd_J_init) rfl (by rw [hml]; exact hl.1) rfl d_R_init_1 (Nat.le_of_ble_eq_true rfl) (Nat.le_of_ble_eq_true rfl) ?_
  refine W.eq (g2 := F0 m 4 ls []) rfl ?_
  refine lv_aload_n hx hb d_R_init_4 rfl (lv_at hl 0 rfl) ?_
  refine lv_iconst (v := nI 4) hx hb d_R_init_5 (by decide +kernel) ?_
  refine va_newq (C := "RowPress$Order") (N' := 4) hx hb hown (hts _ cl_R_7) hN.2.2.2 hK hP hD hS hA (by decide +kernel) (by decide +kernel) (by decide) (Nat.le_of_ble_eq_true rfl) (Nat.le_of_ble_eq_true rfl) d_R_init_6 (fun qO cO H hK hP hD hS => ?_)
  have hP : va_P D classes [(h0, .inr (0, xR0)), (qO, .inl (cO, 4, .inr (.inr (.inr (.inr (fun _ => none))))))] H := hP
  have hD : va_D A [(h0, .inr (0, xR0)), (qO, .inl (cO, 4, .inr (.inr (.inr (.inr (fun _ => none))))))] := hD
  have hK : va_K D classes [(cO, .object "RowPress$Order")] s := hK
  refine lv_dup hx hb d_R_init_9 rfl ?_
  refine lv_iconst (v := nI 0) hx hb d_R_init_10 (by decide +kernel) ?_
  refine va_new (ci := 2) (fs := []) (C := R_S) (T := F_0) (N := 0) hx hb hts (i_0 R_S) t_0 t_0_ok hown (hts _ cl_R_9) (hts _ it_S) (hts _ in_S) hK hP hD hS hA rfl (fun j hj => absurd hj (Nat.not_lt_zero j)) (Nat.le_of_ble_eq_true rfl) (Nat.le_of_ble_eq_true rfl) d_R_init_11 (fun q4 H hP hD hS => ?_)
  have hP : va_P D classes [(h0, .inr (0, xR0)), (qO, .inl (cO, 4, .inr (.inr (.inr (.inr (fun _ => none)))))), (q4, .inr (2, []))] H := hP
  have hD : va_D A [(h0, .inr (0, xR0)), (qO, .inl (cO, 4, .inr (.inr (.inr (.inr (fun _ => none)))))), (q4, .inr (2, []))] := hD
  refine lv_dup hx hb d_R_init_14 rfl ?_
  have hPc := hP.sub (ws' := [(q4, .inr (2, []))]) [2] rfl
  have hDc := hD.sub (ws' := [(q4, .inr (2, []))]) [2] (by decide) rfl
  have hKc := hK.sub (tys' := []) [] rfl
  have hFc := va_free (wc := [(q4, .inr (2, []))]) hD hS hA [2] rfl
  refine va_callv (va_runIN (As := []) (rest := [.ref q4, .int (nI 0), .ref qO, .ref qO, .ref h0]) (host := "RowPress") ⟨hx, hb, hml, hown, hts⟩ (c_S_init l q4 D H.size) ⟨va_cnB 0 hts (w0_good cd_S_init) rfl rfl rfl (hN.1 _ (List.mem_of_getElem? (i := 0) rfl)) (hts _ in_S) (by decide +kernel) ⟨(Nat.le_of_ble_eq_true rfl), (Nat.le_of_ble_eq_true rfl)⟩, rfl, hts _ im_S_init⟩ ⟨xa_P.blind, fun U hU hW => ⟨rfl, by rw [hU], by rw [hU]; exact hPc, va_K.moved hW.alike hKc, hDc.weaken (fun _ _ _ _ => trivial), hN.warm hW⟩⟩ rfl rfl hl.1 rfl (lv_room (Nat.le_of_ble_eq_true rfl)) d_R_init_15 ⟨(Nat.le_of_ble_eq_true rfl), (Nat.le_of_ble_eq_true rfl)⟩) hS (fun q _ h => hFc q h) hFc (fun u t H1 locs ht hvm hw hB hz1 hk1 hS => ?_)
  obtain ⟨hP1, hK1, hD1⟩ := hB
  rw [ht] at hP1
  obtain ⟨hP, hD⟩ := va_join (wr := [(h0, .inr (0, xR0)), (qO, .inl (cO, 4, .inr (.inr (.inr (.inr (fun _ => none))))))]) (w1 := [(q4, .inr (2, []))]) hP hD [2] [0, 1] rfl rfl (by decide) (by decide) hk1 hFc hP1 hD1
  generalize H1 = H at hP hS ⊢
  have hP : va_P D classes [(h0, .inr (0, xR0)), (qO, .inl (cO, 4, .inr (.inr (.inr (.inr (fun _ => none)))))), (q4, .inr (2, []))] H := hP
  have hD : va_D A [(h0, .inr (0, xR0)), (qO, .inl (cO, 4, .inr (.inr (.inr (.inr (fun _ => none)))))), (q4, .inr (2, []))] := hD
  refine va_astqO (E := "RowPress$Order") hx hb hK hP hD hS 1 0 2 2 rfl rfl (hN.2.2.1 R_S (List.mem_of_getElem? (i := 0) rfl)) rfl rfl (vp_in_nI (by decide) (by decide)) d_R_init_18 (fun H locs hP hD hS => ?_)
  have hP : va_P D classes [(h0, .inr (0, xR0)), (qO, .inl (cO, 4, .inr (.inr (.inr (.inr (va_up (fun _ => none) (nI 0).toNatClampNeg (some q4))))))), (q4, .inr (2, []))] H := hP
  have hD : va_D A [(h0, .inr (0, xR0)), (qO, .inl (cO, 4, .inr (.inr (.inr (.inr (va_up (fun _ => none) (nI 0).toNatClampNeg (some q4))))))), (q4, .inr (2, []))] := hD
  refine lv_dup hx hb d_R_init_19 rfl ?_
  refine lv_iconst (v := nI 1) hx hb d_R_init_20 (by decide +kernel) ?_
  refine va_new (ci := 3) (fs := []) (C := R_U) (T := F_0) (N := 0) hx hb hts (i_0 R_U) t_0 t_0_ok hown (hts _ cl_R_12) (hts _ it_U) (hts _ in_U) hK hP hD hS hA rfl (fun j hj => absurd hj (Nat.not_lt_zero j)) (Nat.le_of_ble_eq_true rfl) (Nat.le_of_ble_eq_true rfl) d_R_init_21 (fun q5 H hP hD hS => ?_)
  have hP : va_P D classes [(h0, .inr (0, xR0)), (qO, .inl (cO, 4, .inr (.inr (.inr (.inr (va_up (fun _ => none) (nI 0).toNatClampNeg (some q4))))))), (q4, .inr (2, [])), (q5, .inr (3, []))] H := hP
  have hD : va_D A [(h0, .inr (0, xR0)), (qO, .inl (cO, 4, .inr (.inr (.inr (.inr (va_up (fun _ => none) (nI 0).toNatClampNeg (some q4))))))), (q4, .inr (2, [])), (q5, .inr (3, []))] := hD
  refine lv_dup hx hb d_R_init_24 rfl ?_
  have hPc := hP.sub (ws' := [(q5, .inr (3, []))]) [3] rfl
  have hDc := hD.sub (ws' := [(q5, .inr (3, []))]) [3] (by decide) rfl
  have hKc := hK.sub (tys' := []) [] rfl
  have hFc := va_free (wc := [(q5, .inr (3, []))]) hD hS hA [3] rfl
  refine va_callv (va_runIN (As := []) (rest := [.ref q5, .int (nI 1), .ref qO, .ref qO, .ref h0]) (host := "RowPress") ⟨hx, hb, hml, hown, hts⟩ (c_U_init l q5 D H.size) ⟨va_cnB 0 hts (w0_good cd_U_init) rfl rfl rfl (hN.1 _ (List.mem_of_getElem? (i := 2) rfl)) (hts _ in_U) (by decide +kernel) ⟨(Nat.le_of_ble_eq_true rfl), (Nat.le_of_ble_eq_true rfl)⟩, rfl, hts _ im_U_init⟩ ⟨xa_P.blind, fun U hU hW => ⟨rfl, by rw [hU], by rw [hU]; exact hPc, va_K.moved hW.alike hKc, hDc.weaken (fun _ _ _ _ => trivial), hN.warm hW⟩⟩ rfl rfl hl.1 rfl (lv_room (Nat.le_of_ble_eq_true rfl)) d_R_init_25 ⟨(Nat.le_of_ble_eq_true rfl), (Nat.le_of_ble_eq_true rfl)⟩) hS (fun q _ h => hFc q h) hFc (fun u t H1 locs ht hvm hw hB hz1 hk1 hS => ?_)
  obtain ⟨hP1, hK1, hD1⟩ := hB
  rw [ht] at hP1
  obtain ⟨hP, hD⟩ := va_join (wr := [(h0, .inr (0, xR0)), (qO, .inl (cO, 4, .inr (.inr (.inr (.inr (va_up (fun _ => none) (nI 0).toNatClampNeg (some q4))))))), (q4, .inr (2, []))]) (w1 := [(q5, .inr (3, []))]) hP hD [3] [0, 1, 2] rfl rfl (by decide) (by decide) hk1 hFc hP1 hD1
  generalize H1 = H at hP hS ⊢
  have hP : va_P D classes [(h0, .inr (0, xR0)), (qO, .inl (cO, 4, .inr (.inr (.inr (.inr (va_up (fun _ => none) (nI 0).toNatClampNeg (some q4))))))), (q4, .inr (2, [])), (q5, .inr (3, []))] H := hP
  have hD : va_D A [(h0, .inr (0, xR0)), (qO, .inl (cO, 4, .inr (.inr (.inr (.inr (va_up (fun _ => none) (nI 0).toNatClampNeg (some q4))))))), (q4, .inr (2, [])), (q5, .inr (3, []))] := hD
  refine va_astqO (E := "RowPress$Order") hx hb hK hP hD hS 1 0 3 3 rfl rfl (hN.2.2.1 R_U (List.mem_of_getElem? (i := 1) rfl)) rfl rfl (vp_in_nI (by decide) (by decide)) d_R_init_28 (fun H locs hP hD hS => ?_)
  have hP : va_P D classes [(h0, .inr (0, xR0)), (qO, .inl (cO, 4, .inr (.inr (.inr (.inr (va_up (va_up (fun _ => none) (nI 0).toNatClampNeg (some q4)) (nI 1).toNatClampNeg (some q5))))))), (q4, .inr (2, [])), (q5, .inr (3, []))] H := hP
  have hD : va_D A [(h0, .inr (0, xR0)), (qO, .inl (cO, 4, .inr (.inr (.inr (.inr (va_up (va_up (fun _ => none) (nI 0).toNatClampNeg (some q4)) (nI 1).toNatClampNeg (some q5))))))), (q4, .inr (2, [])), (q5, .inr (3, []))] := hD
  refine lv_dup hx hb d_R_init_29 rfl ?_
  refine lv_iconst (v := nI 2) hx hb d_R_init_30 (by decide +kernel) ?_
  refine va_new (ci := 4) (fs := []) (C := R_F) (T := F_0) (N := 0) hx hb hts (i_0 R_F) t_0 t_0_ok hown (hts _ cl_R_15) (hts _ it_F) (hts _ in_F) hK hP hD hS hA rfl (fun j hj => absurd hj (Nat.not_lt_zero j)) (Nat.le_of_ble_eq_true rfl) (Nat.le_of_ble_eq_true rfl) d_R_init_31 (fun q6 H hP hD hS => ?_)
  have hP : va_P D classes [(h0, .inr (0, xR0)), (qO, .inl (cO, 4, .inr (.inr (.inr (.inr (va_up (va_up (fun _ => none) (nI 0).toNatClampNeg (some q4)) (nI 1).toNatClampNeg (some q5))))))), (q4, .inr (2, [])), (q5, .inr (3, [])), (q6, .inr (4, []))] H := hP
  have hD : va_D A [(h0, .inr (0, xR0)), (qO, .inl (cO, 4, .inr (.inr (.inr (.inr (va_up (va_up (fun _ => none) (nI 0).toNatClampNeg (some q4)) (nI 1).toNatClampNeg (some q5))))))), (q4, .inr (2, [])), (q5, .inr (3, [])), (q6, .inr (4, []))] := hD
  refine lv_dup hx hb d_R_init_34 rfl ?_
  have hPc := hP.sub (ws' := [(q6, .inr (4, []))]) [4] rfl
  have hDc := hD.sub (ws' := [(q6, .inr (4, []))]) [4] (by decide) rfl
  have hKc := hK.sub (tys' := []) [] rfl
  have hFc := va_free (wc := [(q6, .inr (4, []))]) hD hS hA [4] rfl
  refine va_callv (va_runIN (As := []) (rest := [.ref q6, .int (nI 2), .ref qO, .ref qO, .ref h0]) (host := "RowPress") ⟨hx, hb, hml, hown, hts⟩ (c_F_init l q6 D H.size) ⟨va_cnB 0 hts (w0_good cd_F_init) rfl rfl rfl (hN.1 _ (List.mem_of_getElem? (i := 4) rfl)) (hts _ in_F) (by decide +kernel) ⟨(Nat.le_of_ble_eq_true rfl), (Nat.le_of_ble_eq_true rfl)⟩, rfl, hts _ im_F_init⟩ ⟨xa_P.blind, fun U hU hW => ⟨rfl, by rw [hU], by rw [hU]; exact hPc, va_K.moved hW.alike hKc, hDc.weaken (fun _ _ _ _ => trivial), hN.warm hW⟩⟩ rfl rfl hl.1 rfl (lv_room (Nat.le_of_ble_eq_true rfl)) d_R_init_35 ⟨(Nat.le_of_ble_eq_true rfl), (Nat.le_of_ble_eq_true rfl)⟩) hS (fun q _ h => hFc q h) hFc (fun u t H1 locs ht hvm hw hB hz1 hk1 hS => ?_)
  obtain ⟨hP1, hK1, hD1⟩ := hB
  rw [ht] at hP1
  obtain ⟨hP, hD⟩ := va_join (wr := [(h0, .inr (0, xR0)), (qO, .inl (cO, 4, .inr (.inr (.inr (.inr (va_up (va_up (fun _ => none) (nI 0).toNatClampNeg (some q4)) (nI 1).toNatClampNeg (some q5))))))), (q4, .inr (2, [])), (q5, .inr (3, []))]) (w1 := [(q6, .inr (4, []))]) hP hD [4] [0, 1, 2, 3] rfl rfl (by decide) (by decide) hk1 hFc hP1 hD1
  generalize H1 = H at hP hS ⊢
  have hP : va_P D classes [(h0, .inr (0, xR0)), (qO, .inl (cO, 4, .inr (.inr (.inr (.inr (va_up (va_up (fun _ => none) (nI 0).toNatClampNeg (some q4)) (nI 1).toNatClampNeg (some q5))))))), (q4, .inr (2, [])), (q5, .inr (3, [])), (q6, .inr (4, []))] H := hP
  have hD : va_D A [(h0, .inr (0, xR0)), (qO, .inl (cO, 4, .inr (.inr (.inr (.inr (va_up (va_up (fun _ => none) (nI 0).toNatClampNeg (some q4)) (nI 1).toNatClampNeg (some q5))))))), (q4, .inr (2, [])), (q5, .inr (3, [])), (q6, .inr (4, []))] := hD
  refine va_astqO (E := "RowPress$Order") hx hb hK hP hD hS 1 0 4 4 rfl rfl (hN.2.2.1 R_F (List.mem_of_getElem? (i := 2) rfl)) rfl rfl (vp_in_nI (by decide) (by decide)) d_R_init_38 (fun H locs hP hD hS => ?_)
  have hP : va_P D classes [(h0, .inr (0, xR0)), (qO, .inl (cO, 4, .inr (.inr (.inr (.inr (va_up (va_up (va_up (fun _ => none) (nI 0).toNatClampNeg (some q4)) (nI 1).toNatClampNeg (some q5)) (nI 2).toNatClampNeg (some q6))))))), (q4, .inr (2, [])), (q5, .inr (3, [])), (q6, .inr (4, []))] H := hP
  have hD : va_D A [(h0, .inr (0, xR0)), (qO, .inl (cO, 4, .inr (.inr (.inr (.inr (va_up (va_up (va_up (fun _ => none) (nI 0).toNatClampNeg (some q4)) (nI 1).toNatClampNeg (some q5)) (nI 2).toNatClampNeg (some q6))))))), (q4, .inr (2, [])), (q5, .inr (3, [])), (q6, .inr (4, []))] := hD
  refine lv_dup hx hb d_R_init_39 rfl ?_
  refine lv_iconst (v := nI 3) hx hb d_R_init_40 (by decide +kernel) ?_
  refine va_new (ci := 5) (fs := []) (C := R_L) (T := F_0) (N := 0) hx hb hts (i_0 R_L) t_0 t_0_ok hown (hts _ cl_R_18) (hts _ it_L) (hts _ in_L) hK hP hD hS hA rfl (fun j hj => absurd hj (Nat.not_lt_zero j)) (Nat.le_of_ble_eq_true rfl) (Nat.le_of_ble_eq_true rfl) d_R_init_41 (fun q7 H hP hD hS => ?_)
  have hP : va_P D classes [(h0, .inr (0, xR0)), (qO, .inl (cO, 4, .inr (.inr (.inr (.inr (va_up (va_up (va_up (fun _ => none) (nI 0).toNatClampNeg (some q4)) (nI 1).toNatClampNeg (some q5)) (nI 2).toNatClampNeg (some q6))))))), (q4, .inr (2, [])), (q5, .inr (3, [])), (q6, .inr (4, [])), (q7, .inr (5, []))] H := hP
  have hD : va_D A [(h0, .inr (0, xR0)), (qO, .inl (cO, 4, .inr (.inr (.inr (.inr (va_up (va_up (va_up (fun _ => none) (nI 0).toNatClampNeg (some q4)) (nI 1).toNatClampNeg (some q5)) (nI 2).toNatClampNeg (some q6))))))), (q4, .inr (2, [])), (q5, .inr (3, [])), (q6, .inr (4, [])), (q7, .inr (5, []))] := hD
  refine lv_dup hx hb d_R_init_44 rfl ?_
  have hPc := hP.sub (ws' := [(q7, .inr (5, []))]) [5] rfl
  have hDc := hD.sub (ws' := [(q7, .inr (5, []))]) [5] (by decide) rfl
  have hKc := hK.sub (tys' := []) [] rfl
  have hFc := va_free (wc := [(q7, .inr (5, []))]) hD hS hA [5] rfl
  refine va_callv (va_runIN (As := []) (rest := [.ref q7, .int (nI 3), .ref qO, .ref qO, .ref h0]) (host := "RowPress") ⟨hx, hb, hml, hown, hts⟩ (c_L_init l q7 D H.size) ⟨va_cnB 0 hts (w0_good cd_L_init) rfl rfl rfl (hN.1 _ (List.mem_of_getElem? (i := 6) rfl)) (hts _ in_L) (by decide +kernel) ⟨(Nat.le_of_ble_eq_true rfl), (Nat.le_of_ble_eq_true rfl)⟩, rfl, hts _ im_L_init⟩ ⟨xa_P.blind, fun U hU hW => ⟨rfl, by rw [hU], by rw [hU]; exact hPc, va_K.moved hW.alike hKc, hDc.weaken (fun _ _ _ _ => trivial), hN.warm hW⟩⟩ rfl rfl hl.1 rfl (lv_room (Nat.le_of_ble_eq_true rfl)) d_R_init_45 ⟨(Nat.le_of_ble_eq_true rfl), (Nat.le_of_ble_eq_true rfl)⟩) hS (fun q _ h => hFc q h) hFc (fun u t H1 locs ht hvm hw hB hz1 hk1 hS => ?_)
  obtain ⟨hP1, hK1, hD1⟩ := hB
  rw [ht] at hP1
  obtain ⟨hP, hD⟩ := va_join (wr := [(h0, .inr (0, xR0)), (qO, .inl (cO, 4, .inr (.inr (.inr (.inr (va_up (va_up (va_up (fun _ => none) (nI 0).toNatClampNeg (some q4)) (nI 1).toNatClampNeg (some q5)) (nI 2).toNatClampNeg (some q6))))))), (q4, .inr (2, [])), (q5, .inr (3, [])), (q6, .inr (4, []))]) (w1 := [(q7, .inr (5, []))]) hP hD [5] [0, 1, 2, 3, 4] rfl rfl (by decide) (by decide) hk1 hFc hP1 hD1
  generalize H1 = H at hP hS ⊢
  have hP : va_P D classes [(h0, .inr (0, xR0)), (qO, .inl (cO, 4, .inr (.inr (.inr (.inr (va_up (va_up (va_up (fun _ => none) (nI 0).toNatClampNeg (some q4)) (nI 1).toNatClampNeg (some q5)) (nI 2).toNatClampNeg (some q6))))))), (q4, .inr (2, [])), (q5, .inr (3, [])), (q6, .inr (4, [])), (q7, .inr (5, []))] H := hP
  have hD : va_D A [(h0, .inr (0, xR0)), (qO, .inl (cO, 4, .inr (.inr (.inr (.inr (va_up (va_up (va_up (fun _ => none) (nI 0).toNatClampNeg (some q4)) (nI 1).toNatClampNeg (some q5)) (nI 2).toNatClampNeg (some q6))))))), (q4, .inr (2, [])), (q5, .inr (3, [])), (q6, .inr (4, [])), (q7, .inr (5, []))] := hD
  refine va_astqO (E := "RowPress$Order") hx hb hK hP hD hS 1 0 5 5 rfl rfl (hN.2.2.1 R_L (List.mem_of_getElem? (i := 3) rfl)) rfl rfl (vp_in_nI (by decide) (by decide)) d_R_init_48 (fun H locs hP hD hS => ?_)
  have hP : va_P D classes [(h0, .inr (0, xR0)), (qO, .inl (cO, 4, .inr (.inr (.inr (.inr (va_up (va_up (va_up (va_up (fun _ => none) (nI 0).toNatClampNeg (some q4)) (nI 1).toNatClampNeg (some q5)) (nI 2).toNatClampNeg (some q6)) (nI 3).toNatClampNeg (some q7))))))), (q4, .inr (2, [])), (q5, .inr (3, [])), (q6, .inr (4, [])), (q7, .inr (5, []))] H := hP
  have hD : va_D A [(h0, .inr (0, xR0)), (qO, .inl (cO, 4, .inr (.inr (.inr (.inr (va_up (va_up (va_up (va_up (fun _ => none) (nI 0).toNatClampNeg (some q4)) (nI 1).toNatClampNeg (some q5)) (nI 2).toNatClampNeg (some q6)) (nI 3).toNatClampNeg (some q7))))))), (q4, .inr (2, [])), (q5, .inr (3, [])), (q6, .inr (4, [])), (q7, .inr (5, []))] := hD
  refine va_putF (D := D) (ci := 0) (v := .ref qO) (ty := .array (.object "RowPress$Order")) (C := R_R) (T := F_R) (N := 8) hx hb hts i_R t_R t_R_ok n_R hown hK hP hD hS 0 rfl rfl 0 (by decide) (hts _ fl_R_21) (fun _ h9 => h9) rfl hin rfl (by decide +kernel) rfl rfl (Nat.le_of_ble_eq_true rfl) d_R_init_49 (fun H locs hP hD hS => ?_)
  have hP : va_P D classes [(h0, .inr (0, [.ref qO, .null, .null, .int (nI 0), .null, .long (lN 0), .long (lN 0), .int (nI 0)])), (qO, .inl (cO, 4, .inr (.inr (.inr (.inr (va_up (va_up (va_up (va_up (fun _ => none) (nI 0).toNatClampNeg (some q4)) (nI 1).toNatClampNeg (some q5)) (nI 2).toNatClampNeg (some q6)) (nI 3).toNatClampNeg (some q7))))))), (q4, .inr (2, [])), (q5, .inr (3, [])), (q6, .inr (4, [])), (q7, .inr (5, []))] H := hP
  have hD : va_D A [(h0, .inr (0, [.ref qO, .null, .null, .int (nI 0), .null, .long (lN 0), .long (lN 0), .int (nI 0)])), (qO, .inl (cO, 4, .inr (.inr (.inr (.inr (va_up (va_up (va_up (va_up (fun _ => none) (nI 0).toNatClampNeg (some q4)) (nI 1).toNatClampNeg (some q5)) (nI 2).toNatClampNeg (some q6)) (nI 3).toNatClampNeg (some q7))))))), (q4, .inr (2, [])), (q5, .inr (3, [])), (q6, .inr (4, [])), (q7, .inr (5, []))] := hD
  refine lv_aload_n hx hb d_R_init_52 rfl (lv_at hl 0 rfl) ?_
  refine lv_sipush (v := nI 500) hx hb d_R_init_53 (by decide +kernel) ?_
  refine va_newa (atype := .int) (ty := .int) (N' := 500) (a0 := (500, .inl (fun _ => 0))) hx hb (hts _ ac_int) rfl hK hP hD hS hA (fun _ => rfl) (by decide +kernel) (by decide +kernel) (by decide) (Nat.le_of_ble_eq_true rfl) (Nat.le_of_ble_eq_true rfl) d_R_init_56 (fun qK cK H hK hP hD hS => ?_)
  have hP : va_P D classes [(h0, .inr (0, [.ref qO, .null, .null, .int (nI 0), .null, .long (lN 0), .long (lN 0), .int (nI 0)])), (qO, .inl (cO, 4, .inr (.inr (.inr (.inr (va_up (va_up (va_up (va_up (fun _ => none) (nI 0).toNatClampNeg (some q4)) (nI 1).toNatClampNeg (some q5)) (nI 2).toNatClampNeg (some q6)) (nI 3).toNatClampNeg (some q7))))))), (q4, .inr (2, [])), (q5, .inr (3, [])), (q6, .inr (4, [])), (q7, .inr (5, [])), (qK, .inl (cK, 500, .inl (fun _ => 0)))] H := hP
  have hD : va_D A [(h0, .inr (0, [.ref qO, .null, .null, .int (nI 0), .null, .long (lN 0), .long (lN 0), .int (nI 0)])), (qO, .inl (cO, 4, .inr (.inr (.inr (.inr (va_up (va_up (va_up (va_up (fun _ => none) (nI 0).toNatClampNeg (some q4)) (nI 1).toNatClampNeg (some q5)) (nI 2).toNatClampNeg (some q6)) (nI 3).toNatClampNeg (some q7))))))), (q4, .inr (2, [])), (q5, .inr (3, [])), (q6, .inr (4, [])), (q7, .inr (5, [])), (qK, .inl (cK, 500, .inl (fun _ => 0)))] := hD
  have hK : va_K D classes [(cO, .object "RowPress$Order"), (cK, .int)] s := hK
  refine va_putF (D := D) (ci := 0) (v := .ref qK) (ty := .array .int) (C := R_R) (T := F_R) (N := 8) hx hb hts i_R t_R t_R_ok n_R hown hK hP hD hS 0 rfl rfl 1 (by decide) (hts _ fl_R_27) (fun _ h9 => h9) rfl hin rfl (by decide +kernel) rfl rfl (Nat.le_of_ble_eq_true rfl) d_R_init_58 (fun H locs hP hD hS => ?_)
  have hP : va_P D classes [(h0, .inr (0, [.ref qO, .ref qK, .null, .int (nI 0), .null, .long (lN 0), .long (lN 0), .int (nI 0)])), (qO, .inl (cO, 4, .inr (.inr (.inr (.inr (va_up (va_up (va_up (va_up (fun _ => none) (nI 0).toNatClampNeg (some q4)) (nI 1).toNatClampNeg (some q5)) (nI 2).toNatClampNeg (some q6)) (nI 3).toNatClampNeg (some q7))))))), (q4, .inr (2, [])), (q5, .inr (3, [])), (q6, .inr (4, [])), (q7, .inr (5, [])), (qK, .inl (cK, 500, .inl (fun _ => 0)))] H := hP
  have hD : va_D A [(h0, .inr (0, [.ref qO, .ref qK, .null, .int (nI 0), .null, .long (lN 0), .long (lN 0), .int (nI 0)])), (qO, .inl (cO, 4, .inr (.inr (.inr (.inr (va_up (va_up (va_up (va_up (fun _ => none) (nI 0).toNatClampNeg (some q4)) (nI 1).toNatClampNeg (some q5)) (nI 2).toNatClampNeg (some q6)) (nI 3).toNatClampNeg (some q7))))))), (q4, .inr (2, [])), (q5, .inr (3, [])), (q6, .inr (4, [])), (q7, .inr (5, [])), (qK, .inl (cK, 500, .inl (fun _ => 0)))] := hD
  refine lv_aload_n hx hb d_R_init_61 rfl (lv_at hl 0 rfl) ?_
  refine lv_sipush (v := nI 500) hx hb d_R_init_62 (by decide +kernel) ?_
  refine va_newa (atype := .int) (ty := .int) (N' := 500) (a0 := (500, .inl (fun _ => 0))) hx hb (hts _ ac_int) rfl hK hP hD hS hA (fun _ => rfl) (by decide +kernel) (by decide +kernel) (by decide) (Nat.le_of_ble_eq_true rfl) (Nat.le_of_ble_eq_true rfl) d_R_init_65 (fun qT cT H hK hP hD hS => ?_)
  have hP : va_P D classes [(h0, .inr (0, [.ref qO, .ref qK, .null, .int (nI 0), .null, .long (lN 0), .long (lN 0), .int (nI 0)])), (qO, .inl (cO, 4, .inr (.inr (.inr (.inr (va_up (va_up (va_up (va_up (fun _ => none) (nI 0).toNatClampNeg (some q4)) (nI 1).toNatClampNeg (some q5)) (nI 2).toNatClampNeg (some q6)) (nI 3).toNatClampNeg (some q7))))))), (q4, .inr (2, [])), (q5, .inr (3, [])), (q6, .inr (4, [])), (q7, .inr (5, [])), (qK, .inl (cK, 500, .inl (fun _ => 0))), (qT, .inl (cT, 500, .inl (fun _ => 0)))] H := hP
  have hD : va_D A [(h0, .inr (0, [.ref qO, .ref qK, .null, .int (nI 0), .null, .long (lN 0), .long (lN 0), .int (nI 0)])), (qO, .inl (cO, 4, .inr (.inr (.inr (.inr (va_up (va_up (va_up (va_up (fun _ => none) (nI 0).toNatClampNeg (some q4)) (nI 1).toNatClampNeg (some q5)) (nI 2).toNatClampNeg (some q6)) (nI 3).toNatClampNeg (some q7))))))), (q4, .inr (2, [])), (q5, .inr (3, [])), (q6, .inr (4, [])), (q7, .inr (5, [])), (qK, .inl (cK, 500, .inl (fun _ => 0))), (qT, .inl (cT, 500, .inl (fun _ => 0)))] := hD
  have hK : va_K D classes [(cO, .object "RowPress$Order"), (cK, .int), (cT, .int)] s := hK
  refine va_putF (D := D) (ci := 0) (v := .ref qT) (ty := .array .int) (C := R_R) (T := F_R) (N := 8) hx hb hts i_R t_R t_R_ok n_R hown hK hP hD hS 0 rfl rfl 2 (by decide) (hts _ fl_R_31) (fun _ h9 => h9) rfl hin rfl (by decide +kernel) rfl rfl (Nat.le_of_ble_eq_true rfl) d_R_init_67 (fun H locs hP hD hS => ?_)
  have hP : va_P D classes [(h0, .inr (0, [.ref qO, .ref qK, .ref qT, .int (nI 0), .null, .long (lN 0), .long (lN 0), .int (nI 0)])), (qO, .inl (cO, 4, .inr (.inr (.inr (.inr (va_up (va_up (va_up (va_up (fun _ => none) (nI 0).toNatClampNeg (some q4)) (nI 1).toNatClampNeg (some q5)) (nI 2).toNatClampNeg (some q6)) (nI 3).toNatClampNeg (some q7))))))), (q4, .inr (2, [])), (q5, .inr (3, [])), (q6, .inr (4, [])), (q7, .inr (5, [])), (qK, .inl (cK, 500, .inl (fun _ => 0))), (qT, .inl (cT, 500, .inl (fun _ => 0)))] H := hP
  have hD : va_D A [(h0, .inr (0, [.ref qO, .ref qK, .ref qT, .int (nI 0), .null, .long (lN 0), .long (lN 0), .int (nI 0)])), (qO, .inl (cO, 4, .inr (.inr (.inr (.inr (va_up (va_up (va_up (va_up (fun _ => none) (nI 0).toNatClampNeg (some q4)) (nI 1).toNatClampNeg (some q5)) (nI 2).toNatClampNeg (some q6)) (nI 3).toNatClampNeg (some q7))))))), (q4, .inr (2, [])), (q5, .inr (3, [])), (q6, .inr (4, [])), (q7, .inr (5, [])), (qK, .inl (cK, 500, .inl (fun _ => 0))), (qT, .inl (cT, 500, .inl (fun _ => 0)))] := hD
  refine lv_aload_n hx hb d_R_init_70 rfl (lv_at hl 0 rfl) ?_
  refine lv_aload_n hx hb d_R_init_71 rfl (lv_at hl 0 rfl) ?_
  refine va_get (D := D) (ci := 0) (v := .ref qO) (C := R_R) (T := F_R) (N := 8) hx hb hts i_R hown hK hP 0 rfl rfl 0 (by decide) (hts _ fl_R_21) (fun _ h9 => h9) rfl d_R_init_72 ?_
  refine lv_iconst (v := nI 0) hx hb d_R_init_75 (by decide +kernel) ?_
  refine va_aldq hx hb hK hP 1 0 rfl rfl (vp_in_nI (by decide) (by decide)) d_R_init_76 ?_
  have e0 : (nI 0).toNatClampNeg = 0 := nI_clamp (by decide)
  have e1 : (nI 1).toNatClampNeg = 1 := nI_clamp (by decide)
  have e2 : (nI 2).toNatClampNeg = 2 := nI_clamp (by decide)
  have e3 : (nI 3).toNatClampNeg = 3 := nI_clamp (by decide)
  have hv4 : va_rf ((va_up (va_up (va_up (va_up (fun _ => none) (nI 0).toNatClampNeg (some q4)) (nI 1).toNatClampNeg (some q5)) (nI 2).toNatClampNeg (some q6)) (nI 3).toNatClampNeg (some q7)) (nI 0).toNatClampNeg) = .ref q4 := by rw [e0, e1, e2, e3]; rfl
  rw [hv4]
  refine va_put (D := D) (ci := 0) (v := .ref q4) (ty := .object "RowPress$Order") (C := R_R) (T := F_R) (N := 8) hx hb hts i_R t_R t_R_ok n_R hown hK hP hD hS 0 rfl rfl 4 (by decide) (hts _ fl_R_34) (fun _ h9 => h9) rfl (by decide +kernel) rfl rfl (Nat.le_of_ble_eq_true rfl) d_R_init_77 (fun H locs hP hD hS => ?_)
  have hP : va_P D classes [(h0, .inr (0, [.ref qO, .ref qK, .ref qT, .int (nI 0), .ref q4, .long (lN 0), .long (lN 0), .int (nI 0)])), (qO, .inl (cO, 4, .inr (.inr (.inr (.inr (va_up (va_up (va_up (va_up (fun _ => none) (nI 0).toNatClampNeg (some q4)) (nI 1).toNatClampNeg (some q5)) (nI 2).toNatClampNeg (some q6)) (nI 3).toNatClampNeg (some q7))))))), (q4, .inr (2, [])), (q5, .inr (3, [])), (q6, .inr (4, [])), (q7, .inr (5, [])), (qK, .inl (cK, 500, .inl (fun _ => 0))), (qT, .inl (cT, 500, .inl (fun _ => 0)))] H := hP
  have hD : va_D A [(h0, .inr (0, [.ref qO, .ref qK, .ref qT, .int (nI 0), .ref q4, .long (lN 0), .long (lN 0), .int (nI 0)])), (qO, .inl (cO, 4, .inr (.inr (.inr (.inr (va_up (va_up (va_up (va_up (fun _ => none) (nI 0).toNatClampNeg (some q4)) (nI 1).toNatClampNeg (some q5)) (nI 2).toNatClampNeg (some q6)) (nI 3).toNatClampNeg (some q7))))))), (q4, .inr (2, [])), (q5, .inr (3, [])), (q6, .inr (4, [])), (q7, .inr (5, [])), (qK, .inl (cK, 500, .inl (fun _ => 0))), (qT, .inl (cT, 500, .inl (fun _ => 0)))] := hD
  have hc : cK = cT := Option.some.inj ((hK.2 1 _ rfl).2.symm.trans (hK.2 2 _ rfl).2)
  subst hc
  have hP8 := hP.sub (ws' := [(h0, .inr (0, [.ref qO, .ref qK, .ref qT, .int (nI 0), .ref q4, .long (lN 0), .long (lN 0), .int (nI 0)])), (qO, .inl (cO, 4, .inr (.inr (.inr (.inr (va_up (va_up (va_up (va_up (fun _ => none) (nI 0).toNatClampNeg (some q4)) (nI 1).toNatClampNeg (some q5)) (nI 2).toNatClampNeg (some q6)) (nI 3).toNatClampNeg (some q7))))))), (qK, .inl (cK, 500, .inl (fun _ => 0))), (qT, .inl (cK, 500, .inl (fun _ => 0))), (q4, .inr (2, [])), (q5, .inr (3, [])), (q6, .inr (4, [])), (q7, .inr (5, []))]) [0, 1, 6, 7, 2, 3, 4, 5] rfl
  have hD8 := hD.sub (ws' := [(h0, .inr (0, [.ref qO, .ref qK, .ref qT, .int (nI 0), .ref q4, .long (lN 0), .long (lN 0), .int (nI 0)])), (qO, .inl (cO, 4, .inr (.inr (.inr (.inr (va_up (va_up (va_up (va_up (fun _ => none) (nI 0).toNatClampNeg (some q4)) (nI 1).toNatClampNeg (some q5)) (nI 2).toNatClampNeg (some q6)) (nI 3).toNatClampNeg (some q7))))))), (qK, .inl (cK, 500, .inl (fun _ => 0))), (qT, .inl (cK, 500, .inl (fun _ => 0))), (q4, .inr (2, [])), (q5, .inr (3, [])), (q6, .inr (4, [])), (q7, .inr (5, []))]) [0, 1, 6, 7, 2, 3, 4, 5] (by decide) rfl
  have hP9 : va_P D classes (xw (xad h0 qO qK qT q4 q5 q6 q7) cK cO 0 0 0 0 0 (fun _ => (0, 0))) H := by
    intro k q hk
    match k, hk with
    | 0, hk => exact hP8 0 q hk
    | 1, hk =>
      cases hk
      have h1 := hP8 1 _ rfl
      refine Eq.trans h1 (congrArg some (xq_cg (fun j hj => ?_)))
      rw [e0, e1, e2, e3]
      match j, hj with
      | 0, _ => rfl
      | 1, _ => rfl
      | 2, _ => rfl
      | 3, _ => rfl
    | 2, hk => exact hP8 2 q hk
    | 3, hk => exact hP8 3 q hk
    | 4, hk => exact hP8 4 q hk
    | 5, hk => exact hP8 5 q hk
    | 6, hk => exact hP8 6 q hk
    | 7, hk => exact hP8 7 q hk
  have hD9 : va_D A (xw (xad h0 qO qK qT q4 q5 q6 q7) cK cO 0 0 0 0 0 (fun _ => (0, 0))) := by
    have ad : ∀ (k : Nat) (q : Nat × va_E), (xw (xad h0 qO qK qT q4 q5 q6 q7) cK cO 0 0 0 0 0 (fun _ => (0, 0)))[k]? = some q → ∃ q2, ([(h0, .inr (0, [.ref qO, .ref qK, .ref qT, .int (nI 0), .ref q4, .long (lN 0), .long (lN 0), .int (nI 0)])), (qO, .inl (cO, 4, .inr (.inr (.inr (.inr (va_up (va_up (va_up (va_up (fun _ => none) (nI 0).toNatClampNeg (some q4)) (nI 1).toNatClampNeg (some q5)) (nI 2).toNatClampNeg (some q6)) (nI 3).toNatClampNeg (some q7))))))), (qK, .inl (cK, 500, .inl (fun _ => 0))), (qT, .inl (cK, 500, .inl (fun _ => 0))), (q4, .inr (2, [])), (q5, .inr (3, [])), (q6, .inr (4, [])), (q7, .inr (5, []))] : va_W)[k]? = some q2 ∧ q2.1 = q.1 := by
      intro k q hk
      match k, hk with
      | 0, hk => cases hk; exact ⟨_, rfl, rfl⟩
      | 1, hk => cases hk; exact ⟨_, rfl, rfl⟩
      | 2, hk => cases hk; exact ⟨_, rfl, rfl⟩
      | 3, hk => cases hk; exact ⟨_, rfl, rfl⟩
      | 4, hk => cases hk; exact ⟨_, rfl, rfl⟩
      | 5, hk => cases hk; exact ⟨_, rfl, rfl⟩
      | 6, hk => cases hk; exact ⟨_, rfl, rfl⟩
      | 7, hk => cases hk; exact ⟨_, rfl, rfl⟩
    refine ⟨fun i j x y hx hy h => ?_, fun k q hk => ?_⟩
    · obtain ⟨x2, a1, a2⟩ := ad i x hx
      obtain ⟨y2, a3, a4⟩ := ad j y hy
      exact hD8.1 i j x2 y2 a1 a3 (by rw [a2, a4]; exact h)
    · obtain ⟨q2, a1, a2⟩ := ad k q hk
      rw [← a2]
      exact hD8.2 k q2 a1
  have hK9 := hK.sub (tys' := yR cK cO) [1, 0] rfl
  refine W.widen (k := 7) (n := 1004) (Nat.le_of_ble_eq_true rfl) (Nat.le_of_ble_eq_true rfl) ?_
  exact W.vret hx hb hr (fun t ht hW => ⟨⟨(xad h0 qO qK qT q4 q5 q6 q7, cK, cO), rfl, rfl, by rw [ht]; exact hP9, va_K.moved hW.alike hK9, hD9⟩, hS.F ht⟩) hS.2.2 d_R_init_80
abbrev xM0 : List Value := [.null, .null, .int (nI 0), .null, .null]
def xae (h0 q1 q2 q3 q4 : Nat) : Nat → Nat := fun k => match k with
  | 0 => h0
  | 1 => q1
  | 2 => q2
  | 3 => q3
  | _ => q4
set_option maxHeartbeats 4000000 in
set_option maxRecDepth 100000 in
theorem c_M_init (l : Launch) (D : va_G) (h0 sz : Nat) : Met l y_M_init (Cond.code y_M_init b_M_init 1 none :: w0) { frames := 4, cells := 4, slots := 2000, locals := 256 } (va_Pc [.ref h0] (xa_P D sz [] [(h0, .inr (1, xM0))])) (va_Qv (fun u : (Nat → Nat) × ClassId => u.1 0 = h0) (fun u t => va_P D classes (mw u.1 u.2 0 (fun _ => (0, 0)) (fun _ => (0, 0))) t.heap ∧ va_K D classes [(u.2, .int)] t ∧ va_D (va_A [(h0, .inr (1, xM0))] sz) (mw u.1 u.2 0 (fun _ => (0, 0)) (fun _ => (0, 0)))) (va_A [(h0, .inr (1, xM0))] sz)) 4 2000 (va_A [(h0, .inr (1, xM0))] sz) := by
  refine Met.ofW (cc := b_M_init) (maxL := 1) (ret := none) (by decide +kernel) rfl ?_
  intro p e s m args below meth c s₁ B hml hv
  obtain ⟨rfl, hsz, hP, hK, hD0, hN⟩ := hv
  have hx := B.exec
  have hb := B.bytes
  have hr := B.returns
  have hts : ∀ w ∈ w0, w.before _ s = true := fun w hw => atoms_spec (ws := Cond.code y_M_init b_M_init 1 none :: w0) B.pre w (List.mem_cons_of_mem _ hw)
  have hown : s.vm.findClass "RowPressModel" = some m.cls := findClass_of_methodNamed B.named
  have hlocks := B.notSynchronized
  have hin : meth.name = "<init>" := (name_of_methodNamed B.named B.method).1
  subst hsz
  have hD := hD0.self (sz := s.heap.size)
  generalize hAe : va_A [(h0, .inr (1, xM0))] s.heap.size = A at hD ⊢
  have hA : ∀ q : Nat, s.heap.size ≤ q → A q := fun q h => by rw [← hAe]; exact Or.inr h
  have hS : va_S A s.heap s.heap [] := va_S.rf
  have hl := lv_entry ([.ref h0]) (n := 1) (Nat.le_of_ble_eq_true rfl)
  rw [lg_entry_eq]
  generalize (lg_sl ([.ref h0]) ++ List.replicate (1 - (lg_sl ([.ref h0])).length) Slot.unset).toArray = ls at hl ⊢
  have hl : lv_has ls 1 [(0, .ref h0)] := hl
  refine lv_aload_n hx hb d_M_init_0 rfl (lv_at hl 0 rfl) ?_
  refine W.objInit hx hb hown (hts _ ml_M_1) (hts _ im_J_init) (hts _ cd_J_init) rfl (by rw [hml]; exact hl.1) rfl d_M_init_1 (Nat.le_of_ble_eq_true rfl) (Nat.le_of_ble_eq_true rfl) ?_
  refine W.eq (g2 := F0 m 4 ls []) rfl ?_
  refine lv_aload_n hx hb d_M_init_4 rfl (lv_at hl 0 rfl) ?_
  refine lv_sipush (v := nI 500) hx hb d_M_init_5 (by decide +kernel) ?_
  refine va_newa (atype := .int) (ty := .int) (N' := 500) (a0 := (500, .inl (fun _ => 0))) hx hb (hts _ ac_int) rfl hK hP hD hS hA (fun _ => rfl) (by decide +kernel) (by decide +kernel) (by decide) (Nat.le_of_ble_eq_true rfl) (Nat.le_of_ble_eq_true rfl) d_M_init_8 (fun q1 c1 H hK hP hD hS => ?_)
  have hP : va_P D classes [(h0, .inr (1, [.null, .null, .int (nI 0), .null, .null])), (q1, .inl (c1, 500, .inl (fun _ => 0)))] H := hP
  have hD : va_D A [(h0, .inr (1, [.null, .null, .int (nI 0), .null, .null])), (q1, .inl (c1, 500, .inl (fun _ => 0)))] := hD
  have hK : va_K D classes [(c1, .int)] s := hK
  refine va_putF (D := D) (ci := 1) (v := .ref q1) (ty := .array .int) (C := R_M) (T := F_M) (N := 5) hx hb hts i_M t_M t_M_ok n_M hown hK hP hD hS 0 rfl rfl 0 (by decide) (hts _ fl_M_7) (fun _ h9 => h9) rfl hin rfl (by decide +kernel) rfl rfl (Nat.le_of_ble_eq_true rfl) d_M_init_10 (fun H locs hP hD hS => ?_)
  have hP : va_P D classes [(h0, .inr (1, [.ref q1, .null, .int (nI 0), .null, .null])), (q1, .inl (c1, 500, .inl (fun _ => 0)))] H := hP
  have hD : va_D A [(h0, .inr (1, [.ref q1, .null, .int (nI 0), .null, .null])), (q1, .inl (c1, 500, .inl (fun _ => 0)))] := hD
  refine lv_aload_n hx hb d_M_init_13 rfl (lv_at hl 0 rfl) ?_
  refine lv_sipush (v := nI 500) hx hb d_M_init_14 (by decide +kernel) ?_
  refine va_newa (atype := .int) (ty := .int) (N' := 500) (a0 := (500, .inl (fun _ => 0))) hx hb (hts _ ac_int) rfl hK hP hD hS hA (fun _ => rfl) (by decide +kernel) (by decide +kernel) (by decide) (Nat.le_of_ble_eq_true rfl) (Nat.le_of_ble_eq_true rfl) d_M_init_17 (fun q2 c2 H hK hP hD hS => ?_)
  have hP : va_P D classes [(h0, .inr (1, [.ref q1, .null, .int (nI 0), .null, .null])), (q1, .inl (c1, 500, .inl (fun _ => 0))), (q2, .inl (c2, 500, .inl (fun _ => 0)))] H := hP
  have hD : va_D A [(h0, .inr (1, [.ref q1, .null, .int (nI 0), .null, .null])), (q1, .inl (c1, 500, .inl (fun _ => 0))), (q2, .inl (c2, 500, .inl (fun _ => 0)))] := hD
  have hK : va_K D classes [(c1, .int), (c2, .int)] s := hK
  refine va_putF (D := D) (ci := 1) (v := .ref q2) (ty := .array .int) (C := R_M) (T := F_M) (N := 5) hx hb hts i_M t_M t_M_ok n_M hown hK hP hD hS 0 rfl rfl 1 (by decide) (hts _ fl_M_13) (fun _ h9 => h9) rfl hin rfl (by decide +kernel) rfl rfl (Nat.le_of_ble_eq_true rfl) d_M_init_19 (fun H locs hP hD hS => ?_)
  have hP : va_P D classes [(h0, .inr (1, [.ref q1, .ref q2, .int (nI 0), .null, .null])), (q1, .inl (c1, 500, .inl (fun _ => 0))), (q2, .inl (c2, 500, .inl (fun _ => 0)))] H := hP
  have hD : va_D A [(h0, .inr (1, [.ref q1, .ref q2, .int (nI 0), .null, .null])), (q1, .inl (c1, 500, .inl (fun _ => 0))), (q2, .inl (c2, 500, .inl (fun _ => 0)))] := hD
  refine lv_aload_n hx hb d_M_init_22 rfl (lv_at hl 0 rfl) ?_
  refine lv_sipush (v := nI 500) hx hb d_M_init_23 (by decide +kernel) ?_
  refine va_newa (atype := .int) (ty := .int) (N' := 500) (a0 := (500, .inl (fun _ => 0))) hx hb (hts _ ac_int) rfl hK hP hD hS hA (fun _ => rfl) (by decide +kernel) (by decide +kernel) (by decide) (Nat.le_of_ble_eq_true rfl) (Nat.le_of_ble_eq_true rfl) d_M_init_26 (fun q3 c3 H hK hP hD hS => ?_)
  have hP : va_P D classes [(h0, .inr (1, [.ref q1, .ref q2, .int (nI 0), .null, .null])), (q1, .inl (c1, 500, .inl (fun _ => 0))), (q2, .inl (c2, 500, .inl (fun _ => 0))), (q3, .inl (c3, 500, .inl (fun _ => 0)))] H := hP
  have hD : va_D A [(h0, .inr (1, [.ref q1, .ref q2, .int (nI 0), .null, .null])), (q1, .inl (c1, 500, .inl (fun _ => 0))), (q2, .inl (c2, 500, .inl (fun _ => 0))), (q3, .inl (c3, 500, .inl (fun _ => 0)))] := hD
  have hK : va_K D classes [(c1, .int), (c2, .int), (c3, .int)] s := hK
  refine va_putF (D := D) (ci := 1) (v := .ref q3) (ty := .array .int) (C := R_M) (T := F_M) (N := 5) hx hb hts i_M t_M t_M_ok n_M hown hK hP hD hS 0 rfl rfl 3 (by decide) (hts _ fl_M_16) (fun _ h9 => h9) rfl hin rfl (by decide +kernel) rfl rfl (Nat.le_of_ble_eq_true rfl) d_M_init_28 (fun H locs hP hD hS => ?_)
  have hP : va_P D classes [(h0, .inr (1, [.ref q1, .ref q2, .int (nI 0), .ref q3, .null])), (q1, .inl (c1, 500, .inl (fun _ => 0))), (q2, .inl (c2, 500, .inl (fun _ => 0))), (q3, .inl (c3, 500, .inl (fun _ => 0)))] H := hP
  have hD : va_D A [(h0, .inr (1, [.ref q1, .ref q2, .int (nI 0), .ref q3, .null])), (q1, .inl (c1, 500, .inl (fun _ => 0))), (q2, .inl (c2, 500, .inl (fun _ => 0))), (q3, .inl (c3, 500, .inl (fun _ => 0)))] := hD
  refine lv_aload_n hx hb d_M_init_31 rfl (lv_at hl 0 rfl) ?_
  refine lv_sipush (v := nI 500) hx hb d_M_init_32 (by decide +kernel) ?_
  refine va_newa (atype := .int) (ty := .int) (N' := 500) (a0 := (500, .inl (fun _ => 0))) hx hb (hts _ ac_int) rfl hK hP hD hS hA (fun _ => rfl) (by decide +kernel) (by decide +kernel) (by decide) (Nat.le_of_ble_eq_true rfl) (Nat.le_of_ble_eq_true rfl) d_M_init_35 (fun q4 c4 H hK hP hD hS => ?_)
  have hP : va_P D classes [(h0, .inr (1, [.ref q1, .ref q2, .int (nI 0), .ref q3, .null])), (q1, .inl (c1, 500, .inl (fun _ => 0))), (q2, .inl (c2, 500, .inl (fun _ => 0))), (q3, .inl (c3, 500, .inl (fun _ => 0))), (q4, .inl (c4, 500, .inl (fun _ => 0)))] H := hP
  have hD : va_D A [(h0, .inr (1, [.ref q1, .ref q2, .int (nI 0), .ref q3, .null])), (q1, .inl (c1, 500, .inl (fun _ => 0))), (q2, .inl (c2, 500, .inl (fun _ => 0))), (q3, .inl (c3, 500, .inl (fun _ => 0))), (q4, .inl (c4, 500, .inl (fun _ => 0)))] := hD
  have hK : va_K D classes [(c1, .int), (c2, .int), (c3, .int), (c4, .int)] s := hK
  refine va_putF (D := D) (ci := 1) (v := .ref q4) (ty := .array .int) (C := R_M) (T := F_M) (N := 5) hx hb hts i_M t_M t_M_ok n_M hown hK hP hD hS 0 rfl rfl 4 (by decide) (hts _ fl_M_19) (fun _ h9 => h9) rfl hin rfl (by decide +kernel) rfl rfl (Nat.le_of_ble_eq_true rfl) d_M_init_37 (fun H locs hP hD hS => ?_)
  have hP : va_P D classes [(h0, .inr (1, [.ref q1, .ref q2, .int (nI 0), .ref q3, .ref q4])), (q1, .inl (c1, 500, .inl (fun _ => 0))), (q2, .inl (c2, 500, .inl (fun _ => 0))), (q3, .inl (c3, 500, .inl (fun _ => 0))), (q4, .inl (c4, 500, .inl (fun _ => 0)))] H := hP
  have hD : va_D A [(h0, .inr (1, [.ref q1, .ref q2, .int (nI 0), .ref q3, .ref q4])), (q1, .inl (c1, 500, .inl (fun _ => 0))), (q2, .inl (c2, 500, .inl (fun _ => 0))), (q3, .inl (c3, 500, .inl (fun _ => 0))), (q4, .inl (c4, 500, .inl (fun _ => 0)))] := hD
  refine lv_aload_n hx hb d_M_init_40 rfl (lv_at hl 0 rfl) ?_
  refine lv_iconst (v := nI 0) hx hb d_M_init_41 (by decide +kernel) ?_
  refine va_put (D := D) (ci := 1) (v := .int (nI 0)) (ty := .int) (C := R_M) (T := F_M) (N := 5) hx hb hts i_M t_M t_M_ok n_M hown hK hP hD hS 0 rfl rfl 2 (by decide) (hts _ fl_M_22) (fun _ h9 => h9) rfl (by decide +kernel) rfl rfl (Nat.le_of_ble_eq_true rfl) d_M_init_42 (fun H locs hP hD hS => ?_)
  have hP : va_P D classes [(h0, .inr (1, [.ref q1, .ref q2, .int (nI 0), .ref q3, .ref q4])), (q1, .inl (c1, 500, .inl (fun _ => 0))), (q2, .inl (c2, 500, .inl (fun _ => 0))), (q3, .inl (c3, 500, .inl (fun _ => 0))), (q4, .inl (c4, 500, .inl (fun _ => 0)))] H := hP
  have hD : va_D A [(h0, .inr (1, [.ref q1, .ref q2, .int (nI 0), .ref q3, .ref q4])), (q1, .inl (c1, 500, .inl (fun _ => 0))), (q2, .inl (c2, 500, .inl (fun _ => 0))), (q3, .inl (c3, 500, .inl (fun _ => 0))), (q4, .inl (c4, 500, .inl (fun _ => 0)))] := hD
  have hc1 : c1 = c2 := Option.some.inj ((hK.2 0 _ rfl).2.symm.trans (hK.2 1 _ rfl).2)
  have hc2 : c1 = c3 := Option.some.inj ((hK.2 0 _ rfl).2.symm.trans (hK.2 2 _ rfl).2)
  have hc3 : c1 = c4 := Option.some.inj ((hK.2 0 _ rfl).2.symm.trans (hK.2 3 _ rfl).2)
  subst hc1; subst hc2; subst hc3
  have hP9 := hP.sub (ws' := mw (xae h0 q1 q2 q3 q4) c1 0 (fun _ => (0, 0)) (fun _ => (0, 0))) [0, 1, 2, 3, 4] rfl
  have hD9 := hD.sub (ws' := mw (xae h0 q1 q2 q3 q4) c1 0 (fun _ => (0, 0)) (fun _ => (0, 0))) [0, 1, 2, 3, 4] (by decide) rfl
  have hK9 := hK.sub (tys' := [(c1, .int)]) [0] rfl
  refine W.widen (k := 4) (n := 2000) (Nat.le_of_ble_eq_true rfl) (Nat.le_of_ble_eq_true rfl) ?_
  exact W.vret hx hb hr (fun t ht hW => ⟨⟨(xae h0 q1 q2 q3 q4, c1), rfl, rfl, by rw [ht]; exact hP9, va_K.moved hW.alike hK9, hD9⟩, hS.F ht⟩) hS.2.2 d_M_init_45
end
section
/-! AGREEMENT: the class' answer and row are the model's -/
theorem xCm_u {n : Nat} {x y z : Int32} {i m j i' m' j' : Nat} (hn : n ≤ 500) (a : xCm n x y z i m j) (b : xCm n x y z i' m' j') : i = i' ∧ m = m' ∧ j = j' := by
  obtain ⟨a1, a2, a3, a4, a5, a6⟩ := a
  obtain ⟨b1, b2, b3, b4, b5, b6⟩ := b
  have e1 := a4.symm.trans b4
  have e2 := a5.symm.trans b5
  have e3 := a6.symm.trans b6
  rw [nI_eq (by omega) (by omega)] at e1 e2 e3
  exact ⟨e1, e2, e3⟩
theorem xC3_u {n : Nat} {x y z : Int32} {i j q i' j' q' : Nat} (hn : n ≤ 500) (a : xC3 n x y z i j q) (b : xC3 n x y z i' j' q') : i = i' ∧ j = j' ∧ q = q' := by
  obtain ⟨a1, a2, a3, a4, a5, a6⟩ := a
  obtain ⟨b1, b2, b3, b4, b5, b6⟩ := b
  have e1 := a3.symm.trans b3
  have e2 := a4.symm.trans b4
  have e3 := a6.symm.trans b6
  rw [nI_eq (by omega) (by omega)] at e1 e2 e3
  exact ⟨e1, e2, e3⟩
theorem xC2_u {n : Nat} {x y : Int32} {i j i' j' : Nat} (hn : n ≤ 500) (a : xC2 n x y i j) (b : xC2 n x y i' j') : i = i' ∧ j = j' := by
  obtain ⟨a1, a2, a3, a4⟩ := a
  obtain ⟨b1, b2, b3, b4⟩ := b
  have e1 := a3.symm.trans b3
  have e2 := a4.symm.trans b4
  rw [nI_eq (by omega) (by omega)] at e1 e2
  exact ⟨e1, e2⟩
theorem xnu {x : Int32} {p q : Nat} (hp : p ≤ 500) (hq : q ≤ 500) (a : x = nI p) (b : x = nI q) : p = q := by
  have e := a.symm.trans b
  rw [nI_eq (by omega) (by omega)] at e
  exact e
theorem xb1_u {P : Prop} {v v' : Int32} (a : xb1 P v) (b : xb1 P v') : v = v' := by
  rcases a with ⟨rfl, a⟩ | ⟨rfl, a⟩ <;> rcases b with ⟨rfl, b⟩ | ⟨rfl, b⟩
  · rfl
  · exact absurd a b
  · exact absurd b a
  · rfl
section AGREE
variable {n : Nat} {f : Nat → xE} {x y z t : Int32} {v v2 : Int32} {n1 n2 : Nat} {f1 f2 : Nat → xE}
theorem ag_put (hn : n ≤ 500) (a : sp_put n f x y v n1 f1) (b : sp_put n f x y v2 n2 f2) : v = v2 ∧ n1 = n2 ∧ f1 = f2 := by
  rcases a with ⟨a1, rfl, rfl, rfl⟩ | ⟨a1, rfl, rfl, rfl⟩ <;> rcases b with ⟨b1, rfl, rfl, rfl⟩ | ⟨b1, rfl, rfl, rfl⟩
  · exact ⟨rfl, rfl, rfl⟩
  · omega
  · omega
  · exact ⟨rfl, rfl, rfl⟩
theorem ag_run (hn : n ≤ 500) (a : sp_run n f x y z t v n1 f1) (b : sp_run n f x y z t v2 n2 f2) : v = v2 ∧ n1 = n2 ∧ f1 = f2 := by
  rcases a with ⟨a1, rfl, rfl, rfl⟩ | ⟨k, a1, a2, a3, rfl, rfl, rfl⟩ <;> rcases b with ⟨b1, rfl, rfl, rfl⟩ | ⟨k', b1, b2, b3, rfl, rfl, rfl⟩
  · exact ⟨rfl, rfl, rfl⟩
  · exact absurd ⟨k', b1, b2, b3⟩ a1
  · exact absurd ⟨k, a1, a2, a3⟩ b1
  · obtain rfl := xnu (by omega) (by omega) a3 b3
    exact ⟨rfl, rfl, rfl⟩
theorem ag_clear (hn : n ≤ 500) (a : sp_clear n f v n1 f1) (b : sp_clear n f v2 n2 f2) : v = v2 ∧ n1 = n2 ∧ f1 = f2 := by
  obtain ⟨rfl, rfl, rfl⟩ := a
  obtain ⟨rfl, rfl, rfl⟩ := b
  exact ⟨rfl, rfl, rfl⟩
theorem ag_sortPart (hn : n ≤ 500) (a : sp_sortPart n f x y z v n1 f1) (b : sm_sortPart n f x y z v2 n2 f2) : v = v2 ∧ n1 = n2 ∧ f1 = f2 := by
  rcases a with ⟨a1, rfl, rfl, rfl⟩ | ⟨i, j, q, a1, rfl, rfl, a2, a3⟩ <;> rcases b with ⟨b1, rfl, rfl, rfl⟩ | ⟨i', j', q', b1, rfl, rfl, b2⟩
  · exact ⟨rfl, rfl, rfl⟩
  · exact absurd ⟨i', j', q', b1⟩ a1
  · exact absurd ⟨i, j, q, a1⟩ b1
  · obtain ⟨rfl, rfl, rfl⟩ := xC3_u hn a1 b1
    exact ⟨rfl, rfl, xAr.eq a2 a3 b2⟩
theorem ag_merge (hn : n ≤ 500) (a : sp_merge n f x y z t v n1 f1) (b : sm_merge n f x y z t v2 n2 f2) : v = v2 ∧ n1 = n2 ∧ f1 = f2 := by
  rcases a with ⟨a1, rfl, rfl, rfl⟩ | ⟨i, m, j, q, a1, ⟨a4, a5, a6, a7⟩, rfl, rfl, a2, a3⟩ <;> rcases b with ⟨b1, rfl, rfl, rfl⟩ | ⟨i', m', j', q', b1, ⟨b4, b5, b6, b7⟩, rfl, rfl, b2⟩
  · exact ⟨rfl, rfl, rfl⟩
  · exact absurd ⟨i', m', j', q', b1, b4, b5, b6, b7⟩ a1
  · exact absurd ⟨i, m, j, q, a1, a4, a5, a6, a7⟩ b1
  · obtain ⟨rfl, rfl, rfl⟩ := xCm_u hn a1 b1
    obtain rfl := xnu (by omega) (by omega) a5 b5
    exact ⟨rfl, rfl, xAr.eq a2 a3 b2⟩
theorem ag_rotate (hn : n ≤ 500) (a : sp_rotate n f x y z v n1 f1) (b : sp_rotate n f x y z v2 n2 f2) : v = v2 ∧ n1 = n2 ∧ f1 = f2 := by
  rcases a with ⟨a1, rfl, rfl, rfl⟩ | ⟨i, m, j, a1, rfl, rfl, rfl⟩ <;> rcases b with ⟨b1, rfl, rfl, rfl⟩ | ⟨i', m', j', b1, rfl, rfl, rfl⟩
  · exact ⟨rfl, rfl, rfl⟩
  · exact absurd ⟨i', m', j', b1⟩ a1
  · exact absurd ⟨i, m, j, a1⟩ b1
  · obtain ⟨rfl, rfl, rfl⟩ := xCm_u hn a1 b1
    exact ⟨rfl, rfl, rfl⟩
theorem ag_turn (hn : n ≤ 500) (a : sp_turn n f x y v n1 f1) (b : sp_turn n f x y v2 n2 f2) : v = v2 ∧ n1 = n2 ∧ f1 = f2 := by
  rcases a with ⟨a1, rfl, rfl, rfl⟩ | ⟨i, j, a1, rfl, rfl, rfl⟩ <;> rcases b with ⟨b1, rfl, rfl, rfl⟩ | ⟨i', j', b1, rfl, rfl, rfl⟩
  · exact ⟨rfl, rfl, rfl⟩
  · exact absurd ⟨i', j', b1⟩ a1
  · exact absurd ⟨i, j, a1⟩ b1
  · obtain ⟨rfl, rfl⟩ := xC2_u hn a1 b1
    exact ⟨rfl, rfl, rfl⟩
theorem ag_split (hn : n ≤ 500) (a : sp_split n f x y z t v n1 f1) (b : sm_split n f x y z t v2 n2 f2) : v = v2 ∧ n1 = n2 ∧ f1 = f2 := by
  rcases a with ⟨a1, rfl, rfl, rfl⟩ | ⟨i, j, q, a1, rfl, ⟨p, rfl, a2, a3, a4, a5⟩, a6⟩ <;> rcases b with ⟨b1, rfl, rfl, rfl⟩ | ⟨i', j', q', b1, rfl, L, rfl, b2⟩
  · exact ⟨rfl, rfl, rfl⟩
  · exact absurd ⟨i', j', q', b1⟩ a1
  · exact absurd ⟨i, j, q, a1⟩ b1
  · obtain ⟨rfl, rfl, rfl⟩ := xC3_u hn a1 b1
    obtain ⟨rfl, rfl⟩ := xAs.eq a2 a3 a6 a4 a5 b2
    exact ⟨rfl, rfl, rfl⟩
theorem ag_thin (hn : n ≤ 500) (a : sp_thin n f x v n1 f1) (b : sp_thin n f x v2 n2 f2) : v = v2 ∧ n1 = n2 ∧ f1 = f2 := by
  rcases a with ⟨a1, rfl, rfl, rfl⟩ | ⟨q, ⟨a1, a2, a3⟩, rfl, rfl, rfl⟩ <;> rcases b with ⟨b1, rfl, rfl, rfl⟩ | ⟨q', ⟨b1, b2, b3⟩, rfl, rfl, rfl⟩
  · exact ⟨rfl, rfl, rfl⟩
  · exact absurd ⟨q', b1, b2, b3⟩ a1
  · exact absurd ⟨q, a1, a2, a3⟩ b1
  · obtain rfl := xnu (by omega) (by omega) a2 b2
    exact ⟨rfl, rfl, rfl⟩
theorem ag_sorted (hn : n ≤ 500) (a : sp_sorted n f x y z v n1 f1) (b : sp_sorted n f x y z v2 n2 f2) : v = v2 ∧ n1 = n2 ∧ f1 = f2 := by
  rcases a with ⟨a1, rfl, rfl, rfl⟩ | ⟨i, j, q, a1, a2, rfl, rfl⟩ <;> rcases b with ⟨b1, rfl, rfl, rfl⟩ | ⟨i', j', q', b1, b2, rfl, rfl⟩
  · exact ⟨rfl, rfl, rfl⟩
  · exact absurd ⟨i', j', q', b1⟩ a1
  · exact absurd ⟨i, j, q, a1⟩ b1
  · obtain ⟨rfl, rfl, rfl⟩ := xC3_u hn a1 b1
    exact ⟨xb1_u a2 b2, rfl, rfl⟩
theorem ag_find (hn : n ≤ 500) (a : sp_find n f x y z v n1 f1) (b : sp_find n f x y z v2 n2 f2) : v = v2 ∧ n1 = n2 ∧ f1 = f2 := by
  rcases a with ⟨a1, rfl, rfl, rfl⟩ | ⟨q, ps, ⟨a1, a2, a3, a4, a5⟩, rfl, rfl, rfl⟩ <;> rcases b with ⟨b1, rfl, rfl, rfl⟩ | ⟨q', ps', ⟨b1, b2, b3, b4, b5⟩, rfl, rfl, rfl⟩
  · exact ⟨rfl, rfl, rfl⟩
  · exact absurd ⟨q', ps', b1, b2, b3, b4, b5⟩ a1
  · exact absurd ⟨q, ps, a1, a2, a3, a4, a5⟩ b1
  · obtain rfl := xnu (by omega) (by omega) a2 b2
    obtain rfl := xnu (by omega) (by omega) a4 b4
    exact ⟨rfl, rfl, rfl⟩
theorem ag_rank (hn : n ≤ 500) (a : sp_rank n f x y v n1 f1) (b : sp_rank n f x y v2 n2 f2) : v = v2 ∧ n1 = n2 ∧ f1 = f2 := by
  rcases a with ⟨a1, rfl, rfl, rfl⟩ | ⟨p, q, ⟨a1, a2, a3, a4⟩, rfl, rfl, rfl⟩ <;> rcases b with ⟨b1, rfl, rfl, rfl⟩ | ⟨p', q', ⟨b1, b2, b3, b4⟩, rfl, rfl, rfl⟩
  · exact ⟨rfl, rfl, rfl⟩
  · exact absurd ⟨p', q', b1, b2, b3, b4⟩ a1
  · exact absurd ⟨p, q, a1, a2, a3, a4⟩ b1
  · obtain rfl := xnu (by omega) (by omega) a2 b2
    obtain rfl := xnu (by omega) (by omega) a4 b4
    exact ⟨rfl, rfl, rfl⟩
theorem ag_key (hn : n ≤ 500) (a : sp_key n f x v n1 f1) (b : sp_key n f x v2 n2 f2) : v = v2 ∧ n1 = n2 ∧ f1 = f2 := by
  obtain ⟨a, rfl, rfl⟩ := a
  obtain ⟨b, rfl, rfl⟩ := b
  refine ⟨?_, rfl, rfl⟩
  rcases a with ⟨a1, rfl⟩ | ⟨p, ⟨a1, a2⟩, rfl⟩ <;> rcases b with ⟨b1, rfl⟩ | ⟨p', ⟨b1, b2⟩, rfl⟩
  · rfl
  · exact absurd ⟨p', b1, b2⟩ a1
  · exact absurd ⟨p, a1, a2⟩ b1
  · obtain rfl := xnu (by omega) (by omega) a2 b2
    rfl
theorem ag_tag (hn : n ≤ 500) (a : sp_tag n f x v n1 f1) (b : sp_tag n f x v2 n2 f2) : v = v2 ∧ n1 = n2 ∧ f1 = f2 := by
  obtain ⟨a, rfl, rfl⟩ := a
  obtain ⟨b, rfl, rfl⟩ := b
  refine ⟨?_, rfl, rfl⟩
  rcases a with ⟨a1, rfl⟩ | ⟨p, ⟨a1, a2⟩, rfl⟩ <;> rcases b with ⟨b1, rfl⟩ | ⟨p', ⟨b1, b2⟩, rfl⟩
  · rfl
  · exact absurd ⟨p', b1, b2⟩ a1
  · exact absurd ⟨p, a1, a2⟩ b1
  · obtain rfl := xnu (by omega) (by omega) a2 b2
    rfl
theorem ag_count (hn : n ≤ 500) (a : sp_count n f x v n1 f1) (b : sp_count n f x v2 n2 f2) : v = v2 ∧ n1 = n2 ∧ f1 = f2 := by
  obtain ⟨a, rfl, rfl⟩ := a
  obtain ⟨b, rfl, rfl⟩ := b
  refine ⟨?_, rfl, rfl⟩
  have d01 : (0 : Int32) ≠ 1 := by decide
  have d02 : (0 : Int32) ≠ 2 := by decide
  have d12 : (1 : Int32) ≠ 2 := by decide
  rcases a with ⟨a1, rfl⟩ | ⟨a1, rfl⟩ | ⟨a1, rfl⟩ | ⟨a1, a2, a3, rfl⟩ <;> rcases b with ⟨b1, rfl⟩ | ⟨b1, rfl⟩ | ⟨b1, rfl⟩ | ⟨b1, b2, b3, rfl⟩ <;> first | rfl | (exfalso; simp_all; done)
theorem ag_check (hn : n ≤ 500) (a : sp_check n f v n1 f1) (b : sp_check n f v2 n2 f2) : v = v2 ∧ n1 = n2 ∧ f1 = f2 := by
  obtain ⟨rfl, rfl, rfl⟩ := a
  obtain ⟨rfl, rfl, rfl⟩ := b
  exact ⟨rfl, rfl, rfl⟩
end AGREE
end
section
/-! THE LAW: its rows, and its seventeen cases -/
section XLAW
variable {Γ : xa_C} {cc : ByteArray} {r0 : Nat} {a d : Nat → Nat} {cI cO : ClassId} {n o c w ms n2 : Nat} {f f2 g : Nat → xE} {pc : Nat} {lv : List (Option Value)} {st0 st As : List Value} {y : MethodName} {b : ByteArray} {maxL r k ix : Nat} {ret : Option FieldType} {ws : va_W} {bs L i : Nat} {sc : Nat → Int32}
theorem xl_ld (G : xa_G Γ "RowPressLaw" cc r0) (X : va_X bs L sc (xs Γ) (xs Γ).heap ∧ bs < (xs Γ).heap.size ∧ ¬ xA Γ bs ∧ L ≤ 2560) (hdg : decode cc pc = .ok (.iaload, 1)) (hi : i < L) (kk : xa_At Γ ws (pc + 1) lv (.int (sc i) :: st)) : xa_At Γ ws pc lv (.int (nI i) :: .ref bs :: st) := by
  intro H locs ls hP hD hS hL
  obtain ⟨X1, X2, X3, X4⟩ := X
  refine va_sld G.ex G.by X1 X2 X3 hS (vp_in_nI hi (by omega)) hdg ?_
  rw [nI_clamp (by omega)]
  exact kk H locs ls hP hD hS hL
theorem xl_len (G : xa_G Γ "RowPressLaw" cc r0) (X : va_X bs L sc (xs Γ) (xs Γ).heap ∧ bs < (xs Γ).heap.size ∧ ¬ xA Γ bs ∧ L ≤ 2560) (hdg : decode cc pc = .ok (.arraylength, 1)) (kk : xa_At Γ ws (pc + 1) lv (.int (nI L) :: st)) : xa_At Γ ws pc lv (.ref bs :: st) := fun H locs ls hP hD hS hL => va_slen G.ex G.by X.1 X.2.1 X.2.2.1 hS hdg (kk H locs ls hP hD hS hL)
theorem xl_callR {post : xPi} (G : xa_G Γ "RowPressLaw" cc r0) (K : va_K (xD Γ) classes (yR cI cO) (xs Γ)) (kv : ck_v "RowPressLaw" ix y b maxL ret k) (M : xr_Mi (xl Γ) y b maxL ret r As n o c w ms f post) (hr : r + 1 ≤ r0) (hm : maxL ≤ 45) (hn : As.length = k) (hst : st0 = As.reverse ++ .ref (a 0) :: st) (hcat : (st.map fun v => v.category).sum ≤ 8) (hdg : decode cc pc = .ok (.invokevirtual ix, 3))
    (kk : ∀ (v : Int32) (n' o' c' w' ms' : Nat) (f' : Nat → xE), post v n' o' c' w' ms' f' → xa_At Γ (xw a cI cO n' o' c' w' ms' f' ++ mw d cI n2 f2 g) (pc + 3) lv (.int v :: st)) (hcy : R_R = y.cls := by rfl) : xa_At Γ (xw a cI cO n o c w ms f ++ mw d cI n2 f2 g) pc lv st0 :=
  xa_calli (tys := yR cI cO) G K xa_J.left kv (M a cI cO) (qc := (R_R, F_R, 8)) rfl rfl hcy hr hm hn hst hcat hdg (fun v u hu => kk v u.1 u.2.1 u.2.2.1 u.2.2.2.1 u.2.2.2.2.1 u.2.2.2.2.2 hu)
theorem xl_callM {post : mPi} (G : xa_G Γ "RowPressLaw" cc r0) (K : va_K (xD Γ) classes (yR cI cO) (xs Γ)) (kv : ck_v "RowPressLaw" ix y b maxL ret k) (M : xm_Mi (xl Γ) y b maxL ret r As n2 f2 g post) (hr : r + 1 ≤ r0) (hm : maxL ≤ 45) (hn : As.length = k) (hst : st0 = As.reverse ++ .ref (d 0) :: st) (hcat : (st.map fun v => v.category).sum ≤ 8) (hdg : decode cc pc = .ok (.invokevirtual ix, 3))
    (kk : ∀ (v : Int32) (n' : Nat) (f' g' : Nat → xE), post v n' f' g' → xa_At Γ (xw a cI cO n o c w ms f ++ mw d cI n' f' g') (pc + 3) lv (.int v :: st)) (hcy : R_M = y.cls := by rfl) : xa_At Γ (xw a cI cO n o c w ms f ++ mw d cI n2 f2 g) pc lv st0 :=
  xa_calli (tys := yR cI cO) G K xa_J.right kv (M d cI cO) (qc := (R_M, F_M, 5)) rfl rfl hcy hr hm hn hst hcat hdg (fun v u hu => kk v u.1 u.2.1 u.2.2 hu)
end XLAW
set_option maxHeartbeats 1000000 in
theorem law_c0 {Γ : xa_C} {a d : Nat → Nat} {cI cO : ClassId} {bs L i n o c w ms : Nat} {sc : Nat → Int32} {f g : Nat → xE} (G : xa_G Γ "RowPressLaw" code 1000) (K : va_K (xD Γ) classes (yR cI cO) (xs Γ)) (X : va_X bs L sc (xs Γ) (xs Γ).heap ∧ bs < (xs Γ).heap.size ∧ ¬ xA Γ bs ∧ L ≤ 2560) (hi : i + 5 ≤ L) (hI : xI n o c w ms) (nx : ∀ (n' o' c' w' ms' : Nat) (f' g' : Nat → xE), xI n' o' c' w' ms' → xa_At Γ (xw a cI cO n' o' c' w' ms' f' ++ mw d cI n' f' g') 687 [some (.ref bs), some (.ref (a 0)), some (.ref (d 0)), some (.int (nI i))] []) : xa_At Γ (xw a cI cO n o c w ms f ++ mw d cI n f g) 116 [some (.ref bs), some (.ref (a 0)), some (.ref (d 0)), some (.int (nI i))] [] := by
  have hn := hI.1
  have hL := X.2.2.2
  refine xa_aload_n G (i := 1) d_law_116 rfl rfl ?_
  refine xa_aload_n G (i := 0) d_law_117 rfl rfl ?_
  refine xa_iload_n G (i := 3) d_law_118 rfl rfl ?_
  refine xa_iconst G (v := nI 1) d_law_119 (by decide +kernel) ?_
  refine xa_addN G d_law_120 ?_
  refine xl_ld G X d_law_121 (by omega) ?_
  refine xa_aload_n G (i := 0) d_law_122 rfl rfl ?_
  refine xa_iload_n G (i := 3) d_law_123 rfl rfl ?_
  refine xa_iconst G (v := nI 2) d_law_124 (by decide +kernel) ?_
  refine xa_addN G d_law_125 ?_
  refine xl_ld G X d_law_126 (by omega) ?_
  refine xl_callR G K k_law_13 (c_R_put (xl Γ) hn (sc (i + 1)) (sc (i + 2))) (by omega) (by decide) rfl rfl (Nat.le_of_ble_eq_true rfl) d_law_127 (fun v n' o' c' w' ms' f' hu => ?_)
  have hu : sp_put n f (sc (i + 1)) (sc (i + 2)) v n' f' ∧ xI n' o' c' w' ms' := by
    obtain ⟨h, rfl, rfl, rfl, rfl⟩ := hu
    refine ⟨h, ?_, hI.2⟩
    rcases h with ⟨_, _, h, _⟩ | ⟨h0, _, h, _⟩ <;> omega
  refine xa_aload_n G (i := 2) d_law_130 rfl rfl ?_
  refine xa_aload_n G (i := 0) d_law_131 rfl rfl ?_
  refine xa_iload_n G (i := 3) d_law_132 rfl rfl ?_
  refine xa_iconst G (v := nI 1) d_law_133 (by decide +kernel) ?_
  refine xa_addN G d_law_134 ?_
  refine xl_ld G X d_law_135 (by omega) ?_
  refine xa_aload_n G (i := 0) d_law_136 rfl rfl ?_
  refine xa_iload_n G (i := 3) d_law_137 rfl rfl ?_
  refine xa_iconst G (v := nI 2) d_law_138 (by decide +kernel) ?_
  refine xa_addN G d_law_139 ?_
  refine xl_ld G X d_law_140 (by omega) ?_
  refine xl_callM G K k_law_17 (c_M_put (xl Γ) hn (sc (i + 1)) (sc (i + 2))) (by omega) (by decide) rfl rfl (Nat.le_of_ble_eq_true rfl) d_law_141 (fun v2 n2 f2 g2 hm => ?_)
  obtain ⟨rfl, rfl, rfl⟩ := ag_put hn hu.1 hm
  exact xa_icmp_eq G (tgt := 687) d_law_144 (by decide) (fun _ => nx _ _ _ _ _ _ _ hu.2) (fun h => absurd rfl h)
set_option maxHeartbeats 1000000 in
theorem law_c1 {Γ : xa_C} {a d : Nat → Nat} {cI cO : ClassId} {bs L i n o c w ms : Nat} {sc : Nat → Int32} {f g : Nat → xE} (G : xa_G Γ "RowPressLaw" code 1000) (K : va_K (xD Γ) classes (yR cI cO) (xs Γ)) (X : va_X bs L sc (xs Γ) (xs Γ).heap ∧ bs < (xs Γ).heap.size ∧ ¬ xA Γ bs ∧ L ≤ 2560) (hi : i + 5 ≤ L) (hI : xI n o c w ms) (nx : ∀ (n' o' c' w' ms' : Nat) (f' g' : Nat → xE), xI n' o' c' w' ms' → xa_At Γ (xw a cI cO n' o' c' w' ms' f' ++ mw d cI n' f' g') 687 [some (.ref bs), some (.ref (a 0)), some (.ref (d 0)), some (.int (nI i))] []) : xa_At Γ (xw a cI cO n o c w ms f ++ mw d cI n f g) 149 [some (.ref bs), some (.ref (a 0)), some (.ref (d 0)), some (.int (nI i))] [] := by
  have hn := hI.1
  have hL := X.2.2.2
  refine xa_aload_n G (i := 1) d_law_149 rfl rfl ?_
  refine xa_aload_n G (i := 0) d_law_150 rfl rfl ?_
  refine xa_iload_n G (i := 3) d_law_151 rfl rfl ?_
  refine xa_iconst G (v := nI 1) d_law_152 (by decide +kernel) ?_
  refine xa_addN G d_law_153 ?_
  refine xl_ld G X d_law_154 (by omega) ?_
  refine xa_aload_n G (i := 0) d_law_155 rfl rfl ?_
  refine xa_iload_n G (i := 3) d_law_156 rfl rfl ?_
  refine xa_iconst G (v := nI 2) d_law_157 (by decide +kernel) ?_
  refine xa_addN G d_law_158 ?_
  refine xl_ld G X d_law_159 (by omega) ?_
  refine xa_aload_n G (i := 0) d_law_160 rfl rfl ?_
  refine xa_iload_n G (i := 3) d_law_161 rfl rfl ?_
  refine xa_iconst G (v := nI 3) d_law_162 (by decide +kernel) ?_
  refine xa_addN G d_law_163 ?_
  refine xl_ld G X d_law_164 (by omega) ?_
  refine xa_aload_n G (i := 0) d_law_165 rfl rfl ?_
  refine xa_iload_n G (i := 3) d_law_166 rfl rfl ?_
  refine xa_iconst G (v := nI 4) d_law_167 (by decide +kernel) ?_
  refine xa_addN G d_law_168 ?_
  refine xl_ld G X d_law_169 (by omega) ?_
  refine xl_callR G K k_law_18 (c_R_run (xl Γ) hn (sc (i + 1)) (sc (i + 2)) (sc (i + 3)) (sc (i + 4))) (by omega) (by decide) rfl rfl (Nat.le_of_ble_eq_true rfl) d_law_170 (fun v n' o' c' w' ms' f' hu => ?_)
  have hu : sp_run n f (sc (i + 1)) (sc (i + 2)) (sc (i + 3)) (sc (i + 4)) v n' f' ∧ xI n' o' c' w' ms' := by
    obtain ⟨h, rfl, rfl, rfl, rfl⟩ := hu
    refine ⟨h, ?_, hI.2⟩
    rcases h with ⟨_, _, h, _⟩ | ⟨k, _, h0, _, _, h, _⟩ <;> omega
  refine xa_aload_n G (i := 2) d_law_173 rfl rfl ?_
  refine xa_aload_n G (i := 0) d_law_174 rfl rfl ?_
  refine xa_iload_n G (i := 3) d_law_175 rfl rfl ?_
  refine xa_iconst G (v := nI 1) d_law_176 (by decide +kernel) ?_
  refine xa_addN G d_law_177 ?_
  refine xl_ld G X d_law_178 (by omega) ?_
  refine xa_aload_n G (i := 0) d_law_179 rfl rfl ?_
  refine xa_iload_n G (i := 3) d_law_180 rfl rfl ?_
  refine xa_iconst G (v := nI 2) d_law_181 (by decide +kernel) ?_
  refine xa_addN G d_law_182 ?_
  refine xl_ld G X d_law_183 (by omega) ?_
  refine xa_aload_n G (i := 0) d_law_184 rfl rfl ?_
  refine xa_iload_n G (i := 3) d_law_185 rfl rfl ?_
  refine xa_iconst G (v := nI 3) d_law_186 (by decide +kernel) ?_
  refine xa_addN G d_law_187 ?_
  refine xl_ld G X d_law_188 (by omega) ?_
  refine xa_aload_n G (i := 0) d_law_189 rfl rfl ?_
  refine xa_iload_n G (i := 3) d_law_190 rfl rfl ?_
  refine xa_iconst G (v := nI 4) d_law_191 (by decide +kernel) ?_
  refine xa_addN G d_law_192 ?_
  refine xl_ld G X d_law_193 (by omega) ?_
  refine xl_callM G K k_law_22 (c_M_run (xl Γ) hn (sc (i + 1)) (sc (i + 2)) (sc (i + 3)) (sc (i + 4))) (by omega) (by decide) rfl rfl (Nat.le_of_ble_eq_true rfl) d_law_194 (fun v2 n2 f2 g2 hm => ?_)
  obtain ⟨rfl, rfl, rfl⟩ := ag_run hn hu.1 hm
  exact xa_icmp_eq G (tgt := 687) d_law_197 (by decide) (fun _ => nx _ _ _ _ _ _ _ hu.2) (fun h => absurd rfl h)
set_option maxHeartbeats 1000000 in
theorem law_c2 {Γ : xa_C} {a d : Nat → Nat} {cI cO : ClassId} {bs L i n o c w ms : Nat} {sc : Nat → Int32} {f g : Nat → xE} (G : xa_G Γ "RowPressLaw" code 1000) (K : va_K (xD Γ) classes (yR cI cO) (xs Γ)) (X : va_X bs L sc (xs Γ) (xs Γ).heap ∧ bs < (xs Γ).heap.size ∧ ¬ xA Γ bs ∧ L ≤ 2560) (hi : i + 5 ≤ L) (hI : xI n o c w ms) (nx : ∀ (n' o' c' w' ms' : Nat) (f' g' : Nat → xE), xI n' o' c' w' ms' → xa_At Γ (xw a cI cO n' o' c' w' ms' f' ++ mw d cI n' f' g') 687 [some (.ref bs), some (.ref (a 0)), some (.ref (d 0)), some (.int (nI i))] []) : xa_At Γ (xw a cI cO n o c w ms f ++ mw d cI n f g) 202 [some (.ref bs), some (.ref (a 0)), some (.ref (d 0)), some (.int (nI i))] [] := by
  have hn := hI.1
  have hL := X.2.2.2
  refine xa_aload_n G (i := 1) d_law_202 rfl rfl ?_
  refine xl_callR G K k_law_23 (c_R_clear (xl Γ)  ) (by omega) (by decide) rfl rfl (Nat.le_of_ble_eq_true rfl) d_law_203 (fun v n' o' c' w' ms' f' hu => ?_)
  have hu : sp_clear n f v n' f' ∧ xI n' o' c' w' ms' := by
    obtain ⟨h1, h2, rfl, rfl, rfl, rfl, h8⟩ := hu
    exact ⟨⟨h1, h2, h8⟩, by omega, hI.2⟩
  refine xa_aload_n G (i := 2) d_law_206 rfl rfl ?_
  refine xl_callM G K k_law_27 (c_M_clear (xl Γ)  ) (by omega) (by decide) rfl rfl (Nat.le_of_ble_eq_true rfl) d_law_207 (fun v2 n2 f2 g2 hm => ?_)
  obtain ⟨rfl, rfl, rfl⟩ := ag_clear hn hu.1 hm
  exact xa_icmp_eq G (tgt := 687) d_law_210 (by decide) (fun _ => nx _ _ _ _ _ _ _ hu.2) (fun h => absurd rfl h)
set_option maxHeartbeats 1000000 in
theorem law_c3 {Γ : xa_C} {a d : Nat → Nat} {cI cO : ClassId} {bs L i n o c w ms : Nat} {sc : Nat → Int32} {f g : Nat → xE} (G : xa_G Γ "RowPressLaw" code 1000) (K : va_K (xD Γ) classes (yR cI cO) (xs Γ)) (X : va_X bs L sc (xs Γ) (xs Γ).heap ∧ bs < (xs Γ).heap.size ∧ ¬ xA Γ bs ∧ L ≤ 2560) (hi : i + 5 ≤ L) (hI : xI n o c w ms) (nx : ∀ (n' o' c' w' ms' : Nat) (f' g' : Nat → xE), xI n' o' c' w' ms' → xa_At Γ (xw a cI cO n' o' c' w' ms' f' ++ mw d cI n' f' g') 687 [some (.ref bs), some (.ref (a 0)), some (.ref (d 0)), some (.int (nI i))] []) : xa_At Γ (xw a cI cO n o c w ms f ++ mw d cI n f g) 215 [some (.ref bs), some (.ref (a 0)), some (.ref (d 0)), some (.int (nI i))] [] := by
  have hn := hI.1
  have hL := X.2.2.2
  refine xa_aload_n G (i := 1) d_law_215 rfl rfl ?_
  refine xa_aload_n G (i := 0) d_law_216 rfl rfl ?_
  refine xa_iload_n G (i := 3) d_law_217 rfl rfl ?_
  refine xa_iconst G (v := nI 1) d_law_218 (by decide +kernel) ?_
  refine xa_addN G d_law_219 ?_
  refine xl_ld G X d_law_220 (by omega) ?_
  refine xl_callR G K k_law_28 (c_R_sort (xl Γ) hI (sc (i + 1))) (by omega) (by decide) rfl rfl (Nat.le_of_ble_eq_true rfl) d_law_221 (fun v n' o' c' w' ms' f' hu => ?_)
  refine xa_aload_n G (i := 2) d_law_224 rfl rfl ?_
  refine xa_aload_n G (i := 0) d_law_225 rfl rfl ?_
  refine xa_iload_n G (i := 3) d_law_226 rfl rfl ?_
  refine xa_iconst G (v := nI 1) d_law_227 (by decide +kernel) ?_
  refine xa_addN G d_law_228 ?_
  refine xl_ld G X d_law_229 (by omega) ?_
  refine xl_callM G K k_law_32 (c_M_sort (xl Γ) hn (sc (i + 1))) (by omega) (by decide) rfl rfl (Nat.le_of_ble_eq_true rfl) d_law_230 (fun v2 n2 f2 g2 hm => ?_)
  obtain ⟨rfl, rfl, rfl⟩ := ag_sortPart hn hu.1 hm
  exact xa_icmp_eq G (tgt := 687) d_law_233 (by decide) (fun _ => nx _ _ _ _ _ _ _ hu.2) (fun h => absurd rfl h)
set_option maxHeartbeats 1000000 in
theorem law_c4 {Γ : xa_C} {a d : Nat → Nat} {cI cO : ClassId} {bs L i n o c w ms : Nat} {sc : Nat → Int32} {f g : Nat → xE} (G : xa_G Γ "RowPressLaw" code 1000) (K : va_K (xD Γ) classes (yR cI cO) (xs Γ)) (X : va_X bs L sc (xs Γ) (xs Γ).heap ∧ bs < (xs Γ).heap.size ∧ ¬ xA Γ bs ∧ L ≤ 2560) (hi : i + 5 ≤ L) (hI : xI n o c w ms) (nx : ∀ (n' o' c' w' ms' : Nat) (f' g' : Nat → xE), xI n' o' c' w' ms' → xa_At Γ (xw a cI cO n' o' c' w' ms' f' ++ mw d cI n' f' g') 687 [some (.ref bs), some (.ref (a 0)), some (.ref (d 0)), some (.int (nI i))] []) : xa_At Γ (xw a cI cO n o c w ms f ++ mw d cI n f g) 238 [some (.ref bs), some (.ref (a 0)), some (.ref (d 0)), some (.int (nI i))] [] := by
  have hn := hI.1
  have hL := X.2.2.2
  refine xa_aload_n G (i := 1) d_law_238 rfl rfl ?_
  refine xa_aload_n G (i := 0) d_law_239 rfl rfl ?_
  refine xa_iload_n G (i := 3) d_law_240 rfl rfl ?_
  refine xa_iconst G (v := nI 1) d_law_241 (by decide +kernel) ?_
  refine xa_addN G d_law_242 ?_
  refine xl_ld G X d_law_243 (by omega) ?_
  refine xa_aload_n G (i := 0) d_law_244 rfl rfl ?_
  refine xa_iload_n G (i := 3) d_law_245 rfl rfl ?_
  refine xa_iconst G (v := nI 2) d_law_246 (by decide +kernel) ?_
  refine xa_addN G d_law_247 ?_
  refine xl_ld G X d_law_248 (by omega) ?_
  refine xa_aload_n G (i := 0) d_law_249 rfl rfl ?_
  refine xa_iload_n G (i := 3) d_law_250 rfl rfl ?_
  refine xa_iconst G (v := nI 3) d_law_251 (by decide +kernel) ?_
  refine xa_addN G d_law_252 ?_
  refine xl_ld G X d_law_253 (by omega) ?_
  refine xl_callR G K k_law_33 (c_R_sortPart (xl Γ) hI (sc (i + 1)) (sc (i + 2)) (sc (i + 3))) (by omega) (by decide) rfl rfl (Nat.le_of_ble_eq_true rfl) d_law_254 (fun v n' o' c' w' ms' f' hu => ?_)
  refine xa_aload_n G (i := 2) d_law_257 rfl rfl ?_
  refine xa_aload_n G (i := 0) d_law_258 rfl rfl ?_
  refine xa_iload_n G (i := 3) d_law_259 rfl rfl ?_
  refine xa_iconst G (v := nI 1) d_law_260 (by decide +kernel) ?_
  refine xa_addN G d_law_261 ?_
  refine xl_ld G X d_law_262 (by omega) ?_
  refine xa_aload_n G (i := 0) d_law_263 rfl rfl ?_
  refine xa_iload_n G (i := 3) d_law_264 rfl rfl ?_
  refine xa_iconst G (v := nI 2) d_law_265 (by decide +kernel) ?_
  refine xa_addN G d_law_266 ?_
  refine xl_ld G X d_law_267 (by omega) ?_
  refine xa_aload_n G (i := 0) d_law_268 rfl rfl ?_
  refine xa_iload_n G (i := 3) d_law_269 rfl rfl ?_
  refine xa_iconst G (v := nI 3) d_law_270 (by decide +kernel) ?_
  refine xa_addN G d_law_271 ?_
  refine xl_ld G X d_law_272 (by omega) ?_
  refine xl_callM G K k_law_37 (c_M_sortPart (xl Γ) hn (sc (i + 1)) (sc (i + 2)) (sc (i + 3))) (by omega) (by decide) rfl rfl (Nat.le_of_ble_eq_true rfl) d_law_273 (fun v2 n2 f2 g2 hm => ?_)
  obtain ⟨rfl, rfl, rfl⟩ := ag_sortPart hn hu.1 hm
  exact xa_icmp_eq G (tgt := 687) d_law_276 (by decide) (fun _ => nx _ _ _ _ _ _ _ hu.2) (fun h => absurd rfl h)
set_option maxHeartbeats 1000000 in
theorem law_c5 {Γ : xa_C} {a d : Nat → Nat} {cI cO : ClassId} {bs L i n o c w ms : Nat} {sc : Nat → Int32} {f g : Nat → xE} (G : xa_G Γ "RowPressLaw" code 1000) (K : va_K (xD Γ) classes (yR cI cO) (xs Γ)) (X : va_X bs L sc (xs Γ) (xs Γ).heap ∧ bs < (xs Γ).heap.size ∧ ¬ xA Γ bs ∧ L ≤ 2560) (hi : i + 5 ≤ L) (hI : xI n o c w ms) (nx : ∀ (n' o' c' w' ms' : Nat) (f' g' : Nat → xE), xI n' o' c' w' ms' → xa_At Γ (xw a cI cO n' o' c' w' ms' f' ++ mw d cI n' f' g') 687 [some (.ref bs), some (.ref (a 0)), some (.ref (d 0)), some (.int (nI i))] []) : xa_At Γ (xw a cI cO n o c w ms f ++ mw d cI n f g) 281 [some (.ref bs), some (.ref (a 0)), some (.ref (d 0)), some (.int (nI i))] [] := by
  have hn := hI.1
  have hL := X.2.2.2
  refine xa_aload_n G (i := 1) d_law_281 rfl rfl ?_
  refine xa_aload_n G (i := 0) d_law_282 rfl rfl ?_
  refine xa_iload_n G (i := 3) d_law_283 rfl rfl ?_
  refine xa_iconst G (v := nI 1) d_law_284 (by decide +kernel) ?_
  refine xa_addN G d_law_285 ?_
  refine xl_ld G X d_law_286 (by omega) ?_
  refine xa_aload_n G (i := 0) d_law_287 rfl rfl ?_
  refine xa_iload_n G (i := 3) d_law_288 rfl rfl ?_
  refine xa_iconst G (v := nI 2) d_law_289 (by decide +kernel) ?_
  refine xa_addN G d_law_290 ?_
  refine xl_ld G X d_law_291 (by omega) ?_
  refine xa_aload_n G (i := 0) d_law_292 rfl rfl ?_
  refine xa_iload_n G (i := 3) d_law_293 rfl rfl ?_
  refine xa_iconst G (v := nI 3) d_law_294 (by decide +kernel) ?_
  refine xa_addN G d_law_295 ?_
  refine xl_ld G X d_law_296 (by omega) ?_
  refine xa_aload_n G (i := 0) d_law_297 rfl rfl ?_
  refine xa_iload_n G (i := 3) d_law_298 rfl rfl ?_
  refine xa_iconst G (v := nI 4) d_law_299 (by decide +kernel) ?_
  refine xa_addN G d_law_300 ?_
  refine xl_ld G X d_law_301 (by omega) ?_
  refine xl_callR G K k_law_38 (c_R_merge (xl Γ) hI (sc (i + 1)) (sc (i + 2)) (sc (i + 3)) (sc (i + 4))) (by omega) (by decide) rfl rfl (Nat.le_of_ble_eq_true rfl) d_law_302 (fun v n' o' c' w' ms' f' hu => ?_)
  refine xa_aload_n G (i := 2) d_law_305 rfl rfl ?_
  refine xa_aload_n G (i := 0) d_law_306 rfl rfl ?_
  refine xa_iload_n G (i := 3) d_law_307 rfl rfl ?_
  refine xa_iconst G (v := nI 1) d_law_308 (by decide +kernel) ?_
  refine xa_addN G d_law_309 ?_
  refine xl_ld G X d_law_310 (by omega) ?_
  refine xa_aload_n G (i := 0) d_law_311 rfl rfl ?_
  refine xa_iload_n G (i := 3) d_law_312 rfl rfl ?_
  refine xa_iconst G (v := nI 2) d_law_313 (by decide +kernel) ?_
  refine xa_addN G d_law_314 ?_
  refine xl_ld G X d_law_315 (by omega) ?_
  refine xa_aload_n G (i := 0) d_law_316 rfl rfl ?_
  refine xa_iload_n G (i := 3) d_law_317 rfl rfl ?_
  refine xa_iconst G (v := nI 3) d_law_318 (by decide +kernel) ?_
  refine xa_addN G d_law_319 ?_
  refine xl_ld G X d_law_320 (by omega) ?_
  refine xa_aload_n G (i := 0) d_law_321 rfl rfl ?_
  refine xa_iload_n G (i := 3) d_law_322 rfl rfl ?_
  refine xa_iconst G (v := nI 4) d_law_323 (by decide +kernel) ?_
  refine xa_addN G d_law_324 ?_
  refine xl_ld G X d_law_325 (by omega) ?_
  refine xl_callM G K k_law_41 (c_M_merge (xl Γ) hn (sc (i + 1)) (sc (i + 2)) (sc (i + 3)) (sc (i + 4))) (by omega) (by decide) rfl rfl (Nat.le_of_ble_eq_true rfl) d_law_326 (fun v2 n2 f2 g2 hm => ?_)
  obtain ⟨rfl, rfl, rfl⟩ := ag_merge hn hu.1 hm
  exact xa_icmp_eq G (tgt := 687) d_law_329 (by decide) (fun _ => nx _ _ _ _ _ _ _ hu.2) (fun h => absurd rfl h)
set_option maxHeartbeats 1000000 in
theorem law_c6 {Γ : xa_C} {a d : Nat → Nat} {cI cO : ClassId} {bs L i n o c w ms : Nat} {sc : Nat → Int32} {f g : Nat → xE} (G : xa_G Γ "RowPressLaw" code 1000) (K : va_K (xD Γ) classes (yR cI cO) (xs Γ)) (X : va_X bs L sc (xs Γ) (xs Γ).heap ∧ bs < (xs Γ).heap.size ∧ ¬ xA Γ bs ∧ L ≤ 2560) (hi : i + 5 ≤ L) (hI : xI n o c w ms) (nx : ∀ (n' o' c' w' ms' : Nat) (f' g' : Nat → xE), xI n' o' c' w' ms' → xa_At Γ (xw a cI cO n' o' c' w' ms' f' ++ mw d cI n' f' g') 687 [some (.ref bs), some (.ref (a 0)), some (.ref (d 0)), some (.int (nI i))] []) : xa_At Γ (xw a cI cO n o c w ms f ++ mw d cI n f g) 334 [some (.ref bs), some (.ref (a 0)), some (.ref (d 0)), some (.int (nI i))] [] := by
  have hn := hI.1
  have hL := X.2.2.2
  refine xa_aload_n G (i := 1) d_law_334 rfl rfl ?_
  refine xa_aload_n G (i := 0) d_law_335 rfl rfl ?_
  refine xa_iload_n G (i := 3) d_law_336 rfl rfl ?_
  refine xa_iconst G (v := nI 1) d_law_337 (by decide +kernel) ?_
  refine xa_addN G d_law_338 ?_
  refine xl_ld G X d_law_339 (by omega) ?_
  refine xa_aload_n G (i := 0) d_law_340 rfl rfl ?_
  refine xa_iload_n G (i := 3) d_law_341 rfl rfl ?_
  refine xa_iconst G (v := nI 2) d_law_342 (by decide +kernel) ?_
  refine xa_addN G d_law_343 ?_
  refine xl_ld G X d_law_344 (by omega) ?_
  refine xa_aload_n G (i := 0) d_law_345 rfl rfl ?_
  refine xa_iload_n G (i := 3) d_law_346 rfl rfl ?_
  refine xa_iconst G (v := nI 3) d_law_347 (by decide +kernel) ?_
  refine xa_addN G d_law_348 ?_
  refine xl_ld G X d_law_349 (by omega) ?_
  refine xl_callR G K k_law_42 (c_R_rotate (xl Γ) hI (sc (i + 1)) (sc (i + 2)) (sc (i + 3))) (by omega) (by decide) rfl rfl (Nat.le_of_ble_eq_true rfl) d_law_350 (fun v n' o' c' w' ms' f' hu => ?_)
  refine xa_aload_n G (i := 2) d_law_353 rfl rfl ?_
  refine xa_aload_n G (i := 0) d_law_354 rfl rfl ?_
  refine xa_iload_n G (i := 3) d_law_355 rfl rfl ?_
  refine xa_iconst G (v := nI 1) d_law_356 (by decide +kernel) ?_
  refine xa_addN G d_law_357 ?_
  refine xl_ld G X d_law_358 (by omega) ?_
  refine xa_aload_n G (i := 0) d_law_359 rfl rfl ?_
  refine xa_iload_n G (i := 3) d_law_360 rfl rfl ?_
  refine xa_iconst G (v := nI 2) d_law_361 (by decide +kernel) ?_
  refine xa_addN G d_law_362 ?_
  refine xl_ld G X d_law_363 (by omega) ?_
  refine xa_aload_n G (i := 0) d_law_364 rfl rfl ?_
  refine xa_iload_n G (i := 3) d_law_365 rfl rfl ?_
  refine xa_iconst G (v := nI 3) d_law_366 (by decide +kernel) ?_
  refine xa_addN G d_law_367 ?_
  refine xl_ld G X d_law_368 (by omega) ?_
  refine xl_callM G K k_law_45 (c_M_rotate (xl Γ) hn (sc (i + 1)) (sc (i + 2)) (sc (i + 3))) (by omega) (by decide) rfl rfl (Nat.le_of_ble_eq_true rfl) d_law_369 (fun v2 n2 f2 g2 hm => ?_)
  obtain ⟨rfl, rfl, rfl⟩ := ag_rotate hn hu.1 hm
  exact xa_icmp_eq G (tgt := 687) d_law_372 (by decide) (fun _ => nx _ _ _ _ _ _ _ hu.2) (fun h => absurd rfl h)
set_option maxHeartbeats 1000000 in
theorem law_c7 {Γ : xa_C} {a d : Nat → Nat} {cI cO : ClassId} {bs L i n o c w ms : Nat} {sc : Nat → Int32} {f g : Nat → xE} (G : xa_G Γ "RowPressLaw" code 1000) (K : va_K (xD Γ) classes (yR cI cO) (xs Γ)) (X : va_X bs L sc (xs Γ) (xs Γ).heap ∧ bs < (xs Γ).heap.size ∧ ¬ xA Γ bs ∧ L ≤ 2560) (hi : i + 5 ≤ L) (hI : xI n o c w ms) (nx : ∀ (n' o' c' w' ms' : Nat) (f' g' : Nat → xE), xI n' o' c' w' ms' → xa_At Γ (xw a cI cO n' o' c' w' ms' f' ++ mw d cI n' f' g') 687 [some (.ref bs), some (.ref (a 0)), some (.ref (d 0)), some (.int (nI i))] []) : xa_At Γ (xw a cI cO n o c w ms f ++ mw d cI n f g) 377 [some (.ref bs), some (.ref (a 0)), some (.ref (d 0)), some (.int (nI i))] [] := by
  have hn := hI.1
  have hL := X.2.2.2
  refine xa_aload_n G (i := 1) d_law_377 rfl rfl ?_
  refine xa_aload_n G (i := 0) d_law_378 rfl rfl ?_
  refine xa_iload_n G (i := 3) d_law_379 rfl rfl ?_
  refine xa_iconst G (v := nI 1) d_law_380 (by decide +kernel) ?_
  refine xa_addN G d_law_381 ?_
  refine xl_ld G X d_law_382 (by omega) ?_
  refine xa_aload_n G (i := 0) d_law_383 rfl rfl ?_
  refine xa_iload_n G (i := 3) d_law_384 rfl rfl ?_
  refine xa_iconst G (v := nI 2) d_law_385 (by decide +kernel) ?_
  refine xa_addN G d_law_386 ?_
  refine xl_ld G X d_law_387 (by omega) ?_
  refine xl_callR G K k_law_46 (c_R_turn (xl Γ) hI (sc (i + 1)) (sc (i + 2))) (by omega) (by decide) rfl rfl (Nat.le_of_ble_eq_true rfl) d_law_388 (fun v n' o' c' w' ms' f' hu => ?_)
  refine xa_aload_n G (i := 2) d_law_391 rfl rfl ?_
  refine xa_aload_n G (i := 0) d_law_392 rfl rfl ?_
  refine xa_iload_n G (i := 3) d_law_393 rfl rfl ?_
  refine xa_iconst G (v := nI 1) d_law_394 (by decide +kernel) ?_
  refine xa_addN G d_law_395 ?_
  refine xl_ld G X d_law_396 (by omega) ?_
  refine xa_aload_n G (i := 0) d_law_397 rfl rfl ?_
  refine xa_iload_n G (i := 3) d_law_398 rfl rfl ?_
  refine xa_iconst G (v := nI 2) d_law_399 (by decide +kernel) ?_
  refine xa_addN G d_law_400 ?_
  refine xl_ld G X d_law_401 (by omega) ?_
  refine xl_callM G K k_law_49 (c_M_turn (xl Γ) hn (sc (i + 1)) (sc (i + 2))) (by omega) (by decide) rfl rfl (Nat.le_of_ble_eq_true rfl) d_law_402 (fun v2 n2 f2 g2 hm => ?_)
  obtain ⟨rfl, rfl, rfl⟩ := ag_turn hn hu.1 hm
  exact xa_icmp_eq G (tgt := 687) d_law_405 (by decide) (fun _ => nx _ _ _ _ _ _ _ hu.2) (fun h => absurd rfl h)
set_option maxHeartbeats 1000000 in
theorem law_c8 {Γ : xa_C} {a d : Nat → Nat} {cI cO : ClassId} {bs L i n o c w ms : Nat} {sc : Nat → Int32} {f g : Nat → xE} (G : xa_G Γ "RowPressLaw" code 1000) (K : va_K (xD Γ) classes (yR cI cO) (xs Γ)) (X : va_X bs L sc (xs Γ) (xs Γ).heap ∧ bs < (xs Γ).heap.size ∧ ¬ xA Γ bs ∧ L ≤ 2560) (hi : i + 5 ≤ L) (hI : xI n o c w ms) (nx : ∀ (n' o' c' w' ms' : Nat) (f' g' : Nat → xE), xI n' o' c' w' ms' → xa_At Γ (xw a cI cO n' o' c' w' ms' f' ++ mw d cI n' f' g') 687 [some (.ref bs), some (.ref (a 0)), some (.ref (d 0)), some (.int (nI i))] []) : xa_At Γ (xw a cI cO n o c w ms f ++ mw d cI n f g) 410 [some (.ref bs), some (.ref (a 0)), some (.ref (d 0)), some (.int (nI i))] [] := by
  have hn := hI.1
  have hL := X.2.2.2
  refine xa_aload_n G (i := 1) d_law_410 rfl rfl ?_
  refine xa_aload_n G (i := 0) d_law_411 rfl rfl ?_
  refine xa_iload_n G (i := 3) d_law_412 rfl rfl ?_
  refine xa_iconst G (v := nI 1) d_law_413 (by decide +kernel) ?_
  refine xa_addN G d_law_414 ?_
  refine xl_ld G X d_law_415 (by omega) ?_
  refine xa_aload_n G (i := 0) d_law_416 rfl rfl ?_
  refine xa_iload_n G (i := 3) d_law_417 rfl rfl ?_
  refine xa_iconst G (v := nI 2) d_law_418 (by decide +kernel) ?_
  refine xa_addN G d_law_419 ?_
  refine xl_ld G X d_law_420 (by omega) ?_
  refine xa_aload_n G (i := 0) d_law_421 rfl rfl ?_
  refine xa_iload_n G (i := 3) d_law_422 rfl rfl ?_
  refine xa_iconst G (v := nI 3) d_law_423 (by decide +kernel) ?_
  refine xa_addN G d_law_424 ?_
  refine xl_ld G X d_law_425 (by omega) ?_
  refine xa_aload_n G (i := 0) d_law_426 rfl rfl ?_
  refine xa_iload_n G (i := 3) d_law_427 rfl rfl ?_
  refine xa_iconst G (v := nI 4) d_law_428 (by decide +kernel) ?_
  refine xa_addN G d_law_429 ?_
  refine xl_ld G X d_law_430 (by omega) ?_
  refine xl_callR G K k_law_50 (c_R_split (xl Γ) hI (sc (i + 1)) (sc (i + 2)) (sc (i + 3)) (sc (i + 4))) (by omega) (by decide) rfl rfl (Nat.le_of_ble_eq_true rfl) d_law_431 (fun v n' o' c' w' ms' f' hu => ?_)
  refine xa_aload_n G (i := 2) d_law_434 rfl rfl ?_
  refine xa_aload_n G (i := 0) d_law_435 rfl rfl ?_
  refine xa_iload_n G (i := 3) d_law_436 rfl rfl ?_
  refine xa_iconst G (v := nI 1) d_law_437 (by decide +kernel) ?_
  refine xa_addN G d_law_438 ?_
  refine xl_ld G X d_law_439 (by omega) ?_
  refine xa_aload_n G (i := 0) d_law_440 rfl rfl ?_
  refine xa_iload_n G (i := 3) d_law_441 rfl rfl ?_
  refine xa_iconst G (v := nI 2) d_law_442 (by decide +kernel) ?_
  refine xa_addN G d_law_443 ?_
  refine xl_ld G X d_law_444 (by omega) ?_
  refine xa_aload_n G (i := 0) d_law_445 rfl rfl ?_
  refine xa_iload_n G (i := 3) d_law_446 rfl rfl ?_
  refine xa_iconst G (v := nI 3) d_law_447 (by decide +kernel) ?_
  refine xa_addN G d_law_448 ?_
  refine xl_ld G X d_law_449 (by omega) ?_
  refine xa_aload_n G (i := 0) d_law_450 rfl rfl ?_
  refine xa_iload_n G (i := 3) d_law_451 rfl rfl ?_
  refine xa_iconst G (v := nI 4) d_law_452 (by decide +kernel) ?_
  refine xa_addN G d_law_453 ?_
  refine xl_ld G X d_law_454 (by omega) ?_
  refine xl_callM G K k_law_53 (c_M_split (xl Γ) hn (sc (i + 1)) (sc (i + 2)) (sc (i + 3)) (sc (i + 4))) (by omega) (by decide) rfl rfl (Nat.le_of_ble_eq_true rfl) d_law_455 (fun v2 n2 f2 g2 hm => ?_)
  obtain ⟨rfl, rfl, rfl⟩ := ag_split hn hu.1 hm
  exact xa_icmp_eq G (tgt := 687) d_law_458 (by decide) (fun _ => nx _ _ _ _ _ _ _ hu.2) (fun h => absurd rfl h)
set_option maxHeartbeats 1000000 in
theorem law_c9 {Γ : xa_C} {a d : Nat → Nat} {cI cO : ClassId} {bs L i n o c w ms : Nat} {sc : Nat → Int32} {f g : Nat → xE} (G : xa_G Γ "RowPressLaw" code 1000) (K : va_K (xD Γ) classes (yR cI cO) (xs Γ)) (X : va_X bs L sc (xs Γ) (xs Γ).heap ∧ bs < (xs Γ).heap.size ∧ ¬ xA Γ bs ∧ L ≤ 2560) (hi : i + 5 ≤ L) (hI : xI n o c w ms) (nx : ∀ (n' o' c' w' ms' : Nat) (f' g' : Nat → xE), xI n' o' c' w' ms' → xa_At Γ (xw a cI cO n' o' c' w' ms' f' ++ mw d cI n' f' g') 687 [some (.ref bs), some (.ref (a 0)), some (.ref (d 0)), some (.int (nI i))] []) : xa_At Γ (xw a cI cO n o c w ms f ++ mw d cI n f g) 463 [some (.ref bs), some (.ref (a 0)), some (.ref (d 0)), some (.int (nI i))] [] := by
  have hn := hI.1
  have hL := X.2.2.2
  refine xa_aload_n G (i := 1) d_law_463 rfl rfl ?_
  refine xa_aload_n G (i := 0) d_law_464 rfl rfl ?_
  refine xa_iload_n G (i := 3) d_law_465 rfl rfl ?_
  refine xa_iconst G (v := nI 1) d_law_466 (by decide +kernel) ?_
  refine xa_addN G d_law_467 ?_
  refine xl_ld G X d_law_468 (by omega) ?_
  refine xl_callR G K k_law_54 (c_R_thin (xl Γ) hI (sc (i + 1))) (by omega) (by decide) rfl rfl (Nat.le_of_ble_eq_true rfl) d_law_469 (fun v n' o' c' w' ms' f' hu => ?_)
  refine xa_aload_n G (i := 2) d_law_472 rfl rfl ?_
  refine xa_aload_n G (i := 0) d_law_473 rfl rfl ?_
  refine xa_iload_n G (i := 3) d_law_474 rfl rfl ?_
  refine xa_iconst G (v := nI 1) d_law_475 (by decide +kernel) ?_
  refine xa_addN G d_law_476 ?_
  refine xl_ld G X d_law_477 (by omega) ?_
  refine xl_callM G K k_law_57 (c_M_thin (xl Γ) hn (sc (i + 1))) (by omega) (by decide) rfl rfl (Nat.le_of_ble_eq_true rfl) d_law_478 (fun v2 n2 f2 g2 hm => ?_)
  obtain ⟨rfl, rfl, rfl⟩ := ag_thin hn hu.1 hm
  exact xa_icmp_eq G (tgt := 687) d_law_481 (by decide) (fun _ => nx _ _ _ _ _ _ _ hu.2) (fun h => absurd rfl h)
set_option maxHeartbeats 1000000 in
theorem law_c10 {Γ : xa_C} {a d : Nat → Nat} {cI cO : ClassId} {bs L i n o c w ms : Nat} {sc : Nat → Int32} {f g : Nat → xE} (G : xa_G Γ "RowPressLaw" code 1000) (K : va_K (xD Γ) classes (yR cI cO) (xs Γ)) (X : va_X bs L sc (xs Γ) (xs Γ).heap ∧ bs < (xs Γ).heap.size ∧ ¬ xA Γ bs ∧ L ≤ 2560) (hi : i + 5 ≤ L) (hI : xI n o c w ms) (nx : ∀ (n' o' c' w' ms' : Nat) (f' g' : Nat → xE), xI n' o' c' w' ms' → xa_At Γ (xw a cI cO n' o' c' w' ms' f' ++ mw d cI n' f' g') 687 [some (.ref bs), some (.ref (a 0)), some (.ref (d 0)), some (.int (nI i))] []) : xa_At Γ (xw a cI cO n o c w ms f ++ mw d cI n f g) 486 [some (.ref bs), some (.ref (a 0)), some (.ref (d 0)), some (.int (nI i))] [] := by
  have hn := hI.1
  have hL := X.2.2.2
  refine xa_aload_n G (i := 1) d_law_486 rfl rfl ?_
  refine xa_aload_n G (i := 0) d_law_487 rfl rfl ?_
  refine xa_iload_n G (i := 3) d_law_488 rfl rfl ?_
  refine xa_iconst G (v := nI 1) d_law_489 (by decide +kernel) ?_
  refine xa_addN G d_law_490 ?_
  refine xl_ld G X d_law_491 (by omega) ?_
  refine xa_aload_n G (i := 0) d_law_492 rfl rfl ?_
  refine xa_iload_n G (i := 3) d_law_493 rfl rfl ?_
  refine xa_iconst G (v := nI 2) d_law_494 (by decide +kernel) ?_
  refine xa_addN G d_law_495 ?_
  refine xl_ld G X d_law_496 (by omega) ?_
  refine xa_aload_n G (i := 0) d_law_497 rfl rfl ?_
  refine xa_iload_n G (i := 3) d_law_498 rfl rfl ?_
  refine xa_iconst G (v := nI 3) d_law_499 (by decide +kernel) ?_
  refine xa_addN G d_law_500 ?_
  refine xl_ld G X d_law_501 (by omega) ?_
  refine xl_callR G K k_law_58 (c_R_sorted2 (xl Γ) hI (sc (i + 1)) (sc (i + 2)) (sc (i + 3))) (by omega) (by decide) rfl rfl (Nat.le_of_ble_eq_true rfl) d_law_502 (fun v n' o' c' w' ms' f' hu => ?_)
  refine xa_aload_n G (i := 2) d_law_505 rfl rfl ?_
  refine xa_aload_n G (i := 0) d_law_506 rfl rfl ?_
  refine xa_iload_n G (i := 3) d_law_507 rfl rfl ?_
  refine xa_iconst G (v := nI 1) d_law_508 (by decide +kernel) ?_
  refine xa_addN G d_law_509 ?_
  refine xl_ld G X d_law_510 (by omega) ?_
  refine xa_aload_n G (i := 0) d_law_511 rfl rfl ?_
  refine xa_iload_n G (i := 3) d_law_512 rfl rfl ?_
  refine xa_iconst G (v := nI 2) d_law_513 (by decide +kernel) ?_
  refine xa_addN G d_law_514 ?_
  refine xl_ld G X d_law_515 (by omega) ?_
  refine xa_aload_n G (i := 0) d_law_516 rfl rfl ?_
  refine xa_iload_n G (i := 3) d_law_517 rfl rfl ?_
  refine xa_iconst G (v := nI 3) d_law_518 (by decide +kernel) ?_
  refine xa_addN G d_law_519 ?_
  refine xl_ld G X d_law_520 (by omega) ?_
  refine xl_callM G K k_law_61 (c_M_sorted (xl Γ) hn (sc (i + 1)) (sc (i + 2)) (sc (i + 3))) (by omega) (by decide) rfl rfl (Nat.le_of_ble_eq_true rfl) d_law_521 (fun v2 n2 f2 g2 hm => ?_)
  obtain ⟨rfl, rfl, rfl⟩ := ag_sorted hn hu.1 hm
  exact xa_icmp_eq G (tgt := 687) d_law_524 (by decide) (fun _ => nx _ _ _ _ _ _ _ hu.2) (fun h => absurd rfl h)
set_option maxHeartbeats 1000000 in
theorem law_c11 {Γ : xa_C} {a d : Nat → Nat} {cI cO : ClassId} {bs L i n o c w ms : Nat} {sc : Nat → Int32} {f g : Nat → xE} (G : xa_G Γ "RowPressLaw" code 1000) (K : va_K (xD Γ) classes (yR cI cO) (xs Γ)) (X : va_X bs L sc (xs Γ) (xs Γ).heap ∧ bs < (xs Γ).heap.size ∧ ¬ xA Γ bs ∧ L ≤ 2560) (hi : i + 5 ≤ L) (hI : xI n o c w ms) (nx : ∀ (n' o' c' w' ms' : Nat) (f' g' : Nat → xE), xI n' o' c' w' ms' → xa_At Γ (xw a cI cO n' o' c' w' ms' f' ++ mw d cI n' f' g') 687 [some (.ref bs), some (.ref (a 0)), some (.ref (d 0)), some (.int (nI i))] []) : xa_At Γ (xw a cI cO n o c w ms f ++ mw d cI n f g) 529 [some (.ref bs), some (.ref (a 0)), some (.ref (d 0)), some (.int (nI i))] [] := by
  have hn := hI.1
  have hL := X.2.2.2
  refine xa_aload_n G (i := 1) d_law_529 rfl rfl ?_
  refine xa_aload_n G (i := 0) d_law_530 rfl rfl ?_
  refine xa_iload_n G (i := 3) d_law_531 rfl rfl ?_
  refine xa_iconst G (v := nI 1) d_law_532 (by decide +kernel) ?_
  refine xa_addN G d_law_533 ?_
  refine xl_ld G X d_law_534 (by omega) ?_
  refine xa_aload_n G (i := 0) d_law_535 rfl rfl ?_
  refine xa_iload_n G (i := 3) d_law_536 rfl rfl ?_
  refine xa_iconst G (v := nI 2) d_law_537 (by decide +kernel) ?_
  refine xa_addN G d_law_538 ?_
  refine xl_ld G X d_law_539 (by omega) ?_
  refine xa_aload_n G (i := 0) d_law_540 rfl rfl ?_
  refine xa_iload_n G (i := 3) d_law_541 rfl rfl ?_
  refine xa_iconst G (v := nI 3) d_law_542 (by decide +kernel) ?_
  refine xa_addN G d_law_543 ?_
  refine xl_ld G X d_law_544 (by omega) ?_
  refine xl_callR G K k_law_62 (c_R_find (xl Γ) hI (sc (i + 1)) (sc (i + 2)) (sc (i + 3))) (by omega) (by decide) rfl rfl (Nat.le_of_ble_eq_true rfl) d_law_545 (fun v n' o' c' w' ms' f' hu => ?_)
  refine xa_aload_n G (i := 2) d_law_548 rfl rfl ?_
  refine xa_aload_n G (i := 0) d_law_549 rfl rfl ?_
  refine xa_iload_n G (i := 3) d_law_550 rfl rfl ?_
  refine xa_iconst G (v := nI 1) d_law_551 (by decide +kernel) ?_
  refine xa_addN G d_law_552 ?_
  refine xl_ld G X d_law_553 (by omega) ?_
  refine xa_aload_n G (i := 0) d_law_554 rfl rfl ?_
  refine xa_iload_n G (i := 3) d_law_555 rfl rfl ?_
  refine xa_iconst G (v := nI 2) d_law_556 (by decide +kernel) ?_
  refine xa_addN G d_law_557 ?_
  refine xl_ld G X d_law_558 (by omega) ?_
  refine xa_aload_n G (i := 0) d_law_559 rfl rfl ?_
  refine xa_iload_n G (i := 3) d_law_560 rfl rfl ?_
  refine xa_iconst G (v := nI 3) d_law_561 (by decide +kernel) ?_
  refine xa_addN G d_law_562 ?_
  refine xl_ld G X d_law_563 (by omega) ?_
  refine xl_callM G K k_law_65 (c_M_find (xl Γ) hn (sc (i + 1)) (sc (i + 2)) (sc (i + 3))) (by omega) (by decide) rfl rfl (Nat.le_of_ble_eq_true rfl) d_law_564 (fun v2 n2 f2 g2 hm => ?_)
  obtain ⟨rfl, rfl, rfl⟩ := ag_find hn hu.1 hm
  exact xa_icmp_eq G (tgt := 687) d_law_567 (by decide) (fun _ => nx _ _ _ _ _ _ _ hu.2) (fun h => absurd rfl h)
set_option maxHeartbeats 1000000 in
theorem law_c12 {Γ : xa_C} {a d : Nat → Nat} {cI cO : ClassId} {bs L i n o c w ms : Nat} {sc : Nat → Int32} {f g : Nat → xE} (G : xa_G Γ "RowPressLaw" code 1000) (K : va_K (xD Γ) classes (yR cI cO) (xs Γ)) (X : va_X bs L sc (xs Γ) (xs Γ).heap ∧ bs < (xs Γ).heap.size ∧ ¬ xA Γ bs ∧ L ≤ 2560) (hi : i + 5 ≤ L) (hI : xI n o c w ms) (nx : ∀ (n' o' c' w' ms' : Nat) (f' g' : Nat → xE), xI n' o' c' w' ms' → xa_At Γ (xw a cI cO n' o' c' w' ms' f' ++ mw d cI n' f' g') 687 [some (.ref bs), some (.ref (a 0)), some (.ref (d 0)), some (.int (nI i))] []) : xa_At Γ (xw a cI cO n o c w ms f ++ mw d cI n f g) 572 [some (.ref bs), some (.ref (a 0)), some (.ref (d 0)), some (.int (nI i))] [] := by
  have hn := hI.1
  have hL := X.2.2.2
  refine xa_aload_n G (i := 1) d_law_572 rfl rfl ?_
  refine xa_aload_n G (i := 0) d_law_573 rfl rfl ?_
  refine xa_iload_n G (i := 3) d_law_574 rfl rfl ?_
  refine xa_iconst G (v := nI 1) d_law_575 (by decide +kernel) ?_
  refine xa_addN G d_law_576 ?_
  refine xl_ld G X d_law_577 (by omega) ?_
  refine xa_aload_n G (i := 0) d_law_578 rfl rfl ?_
  refine xa_iload_n G (i := 3) d_law_579 rfl rfl ?_
  refine xa_iconst G (v := nI 2) d_law_580 (by decide +kernel) ?_
  refine xa_addN G d_law_581 ?_
  refine xl_ld G X d_law_582 (by omega) ?_
  refine xl_callR G K k_law_66 (c_R_rank (xl Γ) hI (sc (i + 1)) (sc (i + 2))) (by omega) (by decide) rfl rfl (Nat.le_of_ble_eq_true rfl) d_law_583 (fun v n' o' c' w' ms' f' hu => ?_)
  refine xa_aload_n G (i := 2) d_law_586 rfl rfl ?_
  refine xa_aload_n G (i := 0) d_law_587 rfl rfl ?_
  refine xa_iload_n G (i := 3) d_law_588 rfl rfl ?_
  refine xa_iconst G (v := nI 1) d_law_589 (by decide +kernel) ?_
  refine xa_addN G d_law_590 ?_
  refine xl_ld G X d_law_591 (by omega) ?_
  refine xa_aload_n G (i := 0) d_law_592 rfl rfl ?_
  refine xa_iload_n G (i := 3) d_law_593 rfl rfl ?_
  refine xa_iconst G (v := nI 2) d_law_594 (by decide +kernel) ?_
  refine xa_addN G d_law_595 ?_
  refine xl_ld G X d_law_596 (by omega) ?_
  refine xl_callM G K k_law_69 (c_M_rank (xl Γ) hn (sc (i + 1)) (sc (i + 2))) (by omega) (by decide) rfl rfl (Nat.le_of_ble_eq_true rfl) d_law_597 (fun v2 n2 f2 g2 hm => ?_)
  obtain ⟨rfl, rfl, rfl⟩ := ag_rank hn hu.1 hm
  exact xa_icmp_eq G (tgt := 687) d_law_600 (by decide) (fun _ => nx _ _ _ _ _ _ _ hu.2) (fun h => absurd rfl h)
set_option maxHeartbeats 1000000 in
theorem law_c13 {Γ : xa_C} {a d : Nat → Nat} {cI cO : ClassId} {bs L i n o c w ms : Nat} {sc : Nat → Int32} {f g : Nat → xE} (G : xa_G Γ "RowPressLaw" code 1000) (K : va_K (xD Γ) classes (yR cI cO) (xs Γ)) (X : va_X bs L sc (xs Γ) (xs Γ).heap ∧ bs < (xs Γ).heap.size ∧ ¬ xA Γ bs ∧ L ≤ 2560) (hi : i + 5 ≤ L) (hI : xI n o c w ms) (nx : ∀ (n' o' c' w' ms' : Nat) (f' g' : Nat → xE), xI n' o' c' w' ms' → xa_At Γ (xw a cI cO n' o' c' w' ms' f' ++ mw d cI n' f' g') 687 [some (.ref bs), some (.ref (a 0)), some (.ref (d 0)), some (.int (nI i))] []) : xa_At Γ (xw a cI cO n o c w ms f ++ mw d cI n f g) 605 [some (.ref bs), some (.ref (a 0)), some (.ref (d 0)), some (.int (nI i))] [] := by
  have hn := hI.1
  have hL := X.2.2.2
  refine xa_aload_n G (i := 1) d_law_605 rfl rfl ?_
  refine xa_aload_n G (i := 0) d_law_606 rfl rfl ?_
  refine xa_iload_n G (i := 3) d_law_607 rfl rfl ?_
  refine xa_iconst G (v := nI 1) d_law_608 (by decide +kernel) ?_
  refine xa_addN G d_law_609 ?_
  refine xl_ld G X d_law_610 (by omega) ?_
  refine xl_callR G K k_law_70 (c_R_key (xl Γ) hI (sc (i + 1))) (by omega) (by decide) rfl rfl (Nat.le_of_ble_eq_true rfl) d_law_611 (fun v n' o' c' w' ms' f' hu => ?_)
  refine xa_aload_n G (i := 2) d_law_614 rfl rfl ?_
  refine xa_aload_n G (i := 0) d_law_615 rfl rfl ?_
  refine xa_iload_n G (i := 3) d_law_616 rfl rfl ?_
  refine xa_iconst G (v := nI 1) d_law_617 (by decide +kernel) ?_
  refine xa_addN G d_law_618 ?_
  refine xl_ld G X d_law_619 (by omega) ?_
  refine xl_callM G K k_law_73 (c_M_key (xl Γ) hn (sc (i + 1))) (by omega) (by decide) rfl rfl (Nat.le_of_ble_eq_true rfl) d_law_620 (fun v2 n2 f2 g2 hm => ?_)
  obtain ⟨rfl, rfl, rfl⟩ := ag_key hn hu.1 hm
  exact xa_icmp_eq G (tgt := 687) d_law_623 (by decide) (fun _ => nx _ _ _ _ _ _ _ hu.2) (fun h => absurd rfl h)
set_option maxHeartbeats 1000000 in
theorem law_c14 {Γ : xa_C} {a d : Nat → Nat} {cI cO : ClassId} {bs L i n o c w ms : Nat} {sc : Nat → Int32} {f g : Nat → xE} (G : xa_G Γ "RowPressLaw" code 1000) (K : va_K (xD Γ) classes (yR cI cO) (xs Γ)) (X : va_X bs L sc (xs Γ) (xs Γ).heap ∧ bs < (xs Γ).heap.size ∧ ¬ xA Γ bs ∧ L ≤ 2560) (hi : i + 5 ≤ L) (hI : xI n o c w ms) (nx : ∀ (n' o' c' w' ms' : Nat) (f' g' : Nat → xE), xI n' o' c' w' ms' → xa_At Γ (xw a cI cO n' o' c' w' ms' f' ++ mw d cI n' f' g') 687 [some (.ref bs), some (.ref (a 0)), some (.ref (d 0)), some (.int (nI i))] []) : xa_At Γ (xw a cI cO n o c w ms f ++ mw d cI n f g) 628 [some (.ref bs), some (.ref (a 0)), some (.ref (d 0)), some (.int (nI i))] [] := by
  have hn := hI.1
  have hL := X.2.2.2
  refine xa_aload_n G (i := 1) d_law_628 rfl rfl ?_
  refine xa_aload_n G (i := 0) d_law_629 rfl rfl ?_
  refine xa_iload_n G (i := 3) d_law_630 rfl rfl ?_
  refine xa_iconst G (v := nI 1) d_law_631 (by decide +kernel) ?_
  refine xa_addN G d_law_632 ?_
  refine xl_ld G X d_law_633 (by omega) ?_
  refine xl_callR G K k_law_74 (c_R_tag (xl Γ) hI (sc (i + 1))) (by omega) (by decide) rfl rfl (Nat.le_of_ble_eq_true rfl) d_law_634 (fun v n' o' c' w' ms' f' hu => ?_)
  refine xa_aload_n G (i := 2) d_law_637 rfl rfl ?_
  refine xa_aload_n G (i := 0) d_law_638 rfl rfl ?_
  refine xa_iload_n G (i := 3) d_law_639 rfl rfl ?_
  refine xa_iconst G (v := nI 1) d_law_640 (by decide +kernel) ?_
  refine xa_addN G d_law_641 ?_
  refine xl_ld G X d_law_642 (by omega) ?_
  refine xl_callM G K k_law_77 (c_M_tag (xl Γ) hn (sc (i + 1))) (by omega) (by decide) rfl rfl (Nat.le_of_ble_eq_true rfl) d_law_643 (fun v2 n2 f2 g2 hm => ?_)
  obtain ⟨rfl, rfl, rfl⟩ := ag_tag hn hu.1 hm
  exact xa_icmp_eq G (tgt := 687) d_law_646 (by decide) (fun _ => nx _ _ _ _ _ _ _ hu.2) (fun h => absurd rfl h)
set_option maxHeartbeats 1000000 in
theorem law_c15 {Γ : xa_C} {a d : Nat → Nat} {cI cO : ClassId} {bs L i n o c w ms : Nat} {sc : Nat → Int32} {f g : Nat → xE} (G : xa_G Γ "RowPressLaw" code 1000) (K : va_K (xD Γ) classes (yR cI cO) (xs Γ)) (X : va_X bs L sc (xs Γ) (xs Γ).heap ∧ bs < (xs Γ).heap.size ∧ ¬ xA Γ bs ∧ L ≤ 2560) (hi : i + 5 ≤ L) (hI : xI n o c w ms) (nx : ∀ (n' o' c' w' ms' : Nat) (f' g' : Nat → xE), xI n' o' c' w' ms' → xa_At Γ (xw a cI cO n' o' c' w' ms' f' ++ mw d cI n' f' g') 687 [some (.ref bs), some (.ref (a 0)), some (.ref (d 0)), some (.int (nI i))] []) : xa_At Γ (xw a cI cO n o c w ms f ++ mw d cI n f g) 651 [some (.ref bs), some (.ref (a 0)), some (.ref (d 0)), some (.int (nI i))] [] := by
  have hn := hI.1
  have hL := X.2.2.2
  refine xa_aload_n G (i := 1) d_law_651 rfl rfl ?_
  refine xa_aload_n G (i := 0) d_law_652 rfl rfl ?_
  refine xa_iload_n G (i := 3) d_law_653 rfl rfl ?_
  refine xa_iconst G (v := nI 1) d_law_654 (by decide +kernel) ?_
  refine xa_addN G d_law_655 ?_
  refine xl_ld G X d_law_656 (by omega) ?_
  refine xl_callR G K k_law_78 (c_R_count (xl Γ) hI (sc (i + 1))) (by omega) (by decide) rfl rfl (Nat.le_of_ble_eq_true rfl) d_law_657 (fun v n' o' c' w' ms' f' hu => ?_)
  refine xa_aload_n G (i := 2) d_law_660 rfl rfl ?_
  refine xa_aload_n G (i := 0) d_law_661 rfl rfl ?_
  refine xa_iload_n G (i := 3) d_law_662 rfl rfl ?_
  refine xa_iconst G (v := nI 1) d_law_663 (by decide +kernel) ?_
  refine xa_addN G d_law_664 ?_
  refine xl_ld G X d_law_665 (by omega) ?_
  refine xl_callM G K k_law_81 (c_M_count (xl Γ) hn (sc (i + 1))) (by omega) (by decide) rfl rfl (Nat.le_of_ble_eq_true rfl) d_law_666 (fun v2 n2 f2 g2 hm => ?_)
  obtain ⟨rfl, rfl, rfl⟩ := ag_count hn hu.1 hm
  exact xa_icmp_eq G (tgt := 687) d_law_669 (by decide) (fun _ => nx _ _ _ _ _ _ _ hu.2) (fun h => absurd rfl h)
set_option maxHeartbeats 1000000 in
theorem law_c16 {Γ : xa_C} {a d : Nat → Nat} {cI cO : ClassId} {bs L i n o c w ms : Nat} {sc : Nat → Int32} {f g : Nat → xE} (G : xa_G Γ "RowPressLaw" code 1000) (K : va_K (xD Γ) classes (yR cI cO) (xs Γ)) (X : va_X bs L sc (xs Γ) (xs Γ).heap ∧ bs < (xs Γ).heap.size ∧ ¬ xA Γ bs ∧ L ≤ 2560) (hi : i + 5 ≤ L) (hI : xI n o c w ms) (nx : ∀ (n' o' c' w' ms' : Nat) (f' g' : Nat → xE), xI n' o' c' w' ms' → xa_At Γ (xw a cI cO n' o' c' w' ms' f' ++ mw d cI n' f' g') 687 [some (.ref bs), some (.ref (a 0)), some (.ref (d 0)), some (.int (nI i))] []) : xa_At Γ (xw a cI cO n o c w ms f ++ mw d cI n f g) 674 [some (.ref bs), some (.ref (a 0)), some (.ref (d 0)), some (.int (nI i))] [] := by
  have hn := hI.1
  have hL := X.2.2.2
  refine xa_aload_n G (i := 1) d_law_674 rfl rfl ?_
  refine xl_callR G K k_law_82 (c_R_check (xl Γ) hI ) (by omega) (by decide) rfl rfl (Nat.le_of_ble_eq_true rfl) d_law_675 (fun v n' o' c' w' ms' f' hu => ?_)
  refine xa_aload_n G (i := 2) d_law_678 rfl rfl ?_
  refine xl_callM G K k_law_85 (c_M_check (xl Γ)  ) (by omega) (by decide) rfl rfl (Nat.le_of_ble_eq_true rfl) d_law_679 (fun v2 n2 f2 g2 hm => ?_)
  obtain ⟨rfl, rfl, rfl⟩ := ag_check hn hu.1 hm
  exact xa_icmp_eq G (tgt := 687) d_law_682 (by decide) (fun _ => nx _ _ _ _ _ _ _ hu.2) (fun h => absurd rfl h)
end
section
set_option maxHeartbeats 2000000 in
/-- the law's loop -/
theorem law_loop {Γ : xa_C} {a d : Nat → Nat} {cI cO : ClassId} {bs L : Nat} {sc : Nat → Int32} (G : xa_G Γ "RowPressLaw" code 1000) (K : va_K (xD Γ) classes (yR cI cO) (xs Γ)) (X : va_X bs L sc (xs Γ) (xs Γ).heap ∧ bs < (xs Γ).heap.size ∧ ¬ xA Γ bs ∧ L ≤ 2560) (fin : ∀ (ws : va_W) (lv : List (Option Value)), xa_At Γ ws 693 lv []) : ∀ (t i n o c w ms : Nat) (f g : Nat → xE), i ≤ L → L ≤ i + t → xI n o c w ms → xa_At Γ (xw a cI cO n o c w ms f ++ mw d cI n f g) 18 [some (.ref bs), some (.ref (a 0)), some (.ref (d 0)), some (.int (nI i))] [] := by
  have hL := X.2.2.2
  intro t
  induction t with
  | zero =>
    intro i n o c w ms f g q1 q2 hI
    refine xa_iload_n G (i := 3) d_law_18 rfl rfl ?_
    refine xa_aload_n G (i := 0) d_law_19 rfl rfl ?_
    refine xl_len G X d_law_20 ?_
    refine xa_iconst G (v := nI 5) d_law_21 (by decide +kernel) ?_
    refine xa_isub G d_law_22 ?_
    refine xa_icmp_gt G (tgt := 693) d_law_23 (by decide) (fun h3 => ?_) (fun h3 => ?_)
    · exact fin _ _
    · rw [Int32.lt_iff_toInt_lt, pk_sub_toInt (by omega) (by omega), nI_toInt (by omega)] at h3
      omega
  | succ t ih =>
    intro i n o c w ms f g q1 q2 hI
    refine xa_iload_n G (i := 3) d_law_18 rfl rfl ?_
    refine xa_aload_n G (i := 0) d_law_19 rfl rfl ?_
    refine xl_len G X d_law_20 ?_
    refine xa_iconst G (v := nI 5) d_law_21 (by decide +kernel) ?_
    refine xa_isub G d_law_22 ?_
    refine xa_icmp_gt G (tgt := 693) d_law_23 (by decide) (fun h3 => ?_) (fun h3 => ?_)
    · exact fin _ _
    · rw [Int32.lt_iff_toInt_lt, pk_sub_toInt (by omega) (by omega), nI_toInt (by omega)] at h3
      have hi : i + 5 ≤ L := by omega
      have nx : ∀ (n' o' c' w' ms' : Nat) (f' g' : Nat → xE), xI n' o' c' w' ms' → xa_At Γ (xw a cI cO n' o' c' w' ms' f' ++ mw d cI n' f' g') 687 [some (.ref bs), some (.ref (a 0)), some (.ref (d 0)), some (.int (nI i))] [] := by
        intro n' o' c' w' ms' f' g' hI'
        refine xa_iinc G d_law_687 rfl rfl (xi_5 _) ?_
        refine xa_goto G (tgt := 18) d_law_690 (by decide) ?_
        exact ih (i + 5) n' o' c' w' ms' f' g' hi (by omega) hI'
      refine xa_aload_n G (i := 0) d_law_26 rfl rfl ?_
      refine xa_iload_n G (i := 3) d_law_27 rfl rfl ?_
      refine xl_ld G X d_law_28 (by omega) ?_
      refine xa_bipush G (v := (31 : Int32)) d_law_29 (by decide +kernel) ?_
      refine xa_iand G d_law_31 ?_
      obtain ⟨j, hj, e⟩ := pk_andE (sc i) (m := 31) 5 (by decide +kernel)
      rw [e]
      match j, hj with
      | 0, _ =>
        refine xa_swIn G (tgt := 116) (off := 84) d_law_32 (by decide +kernel) (by decide +kernel) (by decide +kernel) (by decide) ?_
        exact law_c0 G K X hi hI nx
      | 1, _ =>
        refine xa_swIn G (tgt := 149) (off := 117) d_law_32 (by decide +kernel) (by decide +kernel) (by decide +kernel) (by decide) ?_
        exact law_c1 G K X hi hI nx
      | 2, _ =>
        refine xa_swIn G (tgt := 202) (off := 170) d_law_32 (by decide +kernel) (by decide +kernel) (by decide +kernel) (by decide) ?_
        exact law_c2 G K X hi hI nx
      | 3, _ =>
        refine xa_swIn G (tgt := 215) (off := 183) d_law_32 (by decide +kernel) (by decide +kernel) (by decide +kernel) (by decide) ?_
        exact law_c3 G K X hi hI nx
      | 4, _ =>
        refine xa_swIn G (tgt := 238) (off := 206) d_law_32 (by decide +kernel) (by decide +kernel) (by decide +kernel) (by decide) ?_
        exact law_c4 G K X hi hI nx
      | 5, _ =>
        refine xa_swIn G (tgt := 281) (off := 249) d_law_32 (by decide +kernel) (by decide +kernel) (by decide +kernel) (by decide) ?_
        exact law_c5 G K X hi hI nx
      | 6, _ =>
        refine xa_swIn G (tgt := 334) (off := 302) d_law_32 (by decide +kernel) (by decide +kernel) (by decide +kernel) (by decide) ?_
        exact law_c6 G K X hi hI nx
      | 7, _ =>
        refine xa_swIn G (tgt := 377) (off := 345) d_law_32 (by decide +kernel) (by decide +kernel) (by decide +kernel) (by decide) ?_
        exact law_c7 G K X hi hI nx
      | 8, _ =>
        refine xa_swIn G (tgt := 410) (off := 378) d_law_32 (by decide +kernel) (by decide +kernel) (by decide +kernel) (by decide) ?_
        exact law_c8 G K X hi hI nx
      | 9, _ =>
        refine xa_swIn G (tgt := 463) (off := 431) d_law_32 (by decide +kernel) (by decide +kernel) (by decide +kernel) (by decide) ?_
        exact law_c9 G K X hi hI nx
      | 10, _ =>
        refine xa_swIn G (tgt := 486) (off := 454) d_law_32 (by decide +kernel) (by decide +kernel) (by decide +kernel) (by decide) ?_
        exact law_c10 G K X hi hI nx
      | 11, _ =>
        refine xa_swIn G (tgt := 529) (off := 497) d_law_32 (by decide +kernel) (by decide +kernel) (by decide +kernel) (by decide) ?_
        exact law_c11 G K X hi hI nx
      | 12, _ =>
        refine xa_swIn G (tgt := 572) (off := 540) d_law_32 (by decide +kernel) (by decide +kernel) (by decide +kernel) (by decide) ?_
        exact law_c12 G K X hi hI nx
      | 13, _ =>
        refine xa_swIn G (tgt := 605) (off := 573) d_law_32 (by decide +kernel) (by decide +kernel) (by decide +kernel) (by decide) ?_
        exact law_c13 G K X hi hI nx
      | 14, _ =>
        refine xa_swIn G (tgt := 628) (off := 596) d_law_32 (by decide +kernel) (by decide +kernel) (by decide +kernel) (by decide) ?_
        exact law_c14 G K X hi hI nx
      | 15, _ =>
        refine xa_swIn G (tgt := 651) (off := 619) d_law_32 (by decide +kernel) (by decide +kernel) (by decide +kernel) (by decide) ?_
        exact law_c15 G K X hi hI nx
      | 16, _ =>
        refine xa_swIn G (tgt := 674) (off := 642) d_law_32 (by decide +kernel) (by decide +kernel) (by decide +kernel) (by decide) ?_
        exact law_c16 G K X hi hI nx
      | j + 17, hj =>
        refine xa_swOut G (tgt := 687) d_law_32 (Or.inr (by rw [nI_toInt (by omega)]; omega)) (by decide) ?_
        exact nx _ _ _ _ _ _ _ hI
end
section
/-! THE CLAIM OUT OF ONE WALK OF THE LAW'S BODY. Your part is whole_start (and what it stands on); all else here is the same for every law, but numbers. -/
def R_law : String := "RowPressLaw"
def lw_P (b : Addr) (xs : List Int32) (args : Array Value) (s : State) : Prop := args = #[.ref b] ∧ s.IntsAt b xs ∧ xs.length ≤ 2560 ∧ (Jvm.Cond.and given_1 narrow_1).before args s = true
def lw_Q (_ : Array Value) (s : State) (o : Outcome) (t : State) : Prop := o = .returned (some (.int 1)) ∧ Framed s o t [] 600000 7302249
def lw_Z (below : List Frame) (a : Array Value) (s : State) : State → Prop := fun t => ∃ o, t.status = .running ∧ Ended t below o ∧ lw_Q a s o t
/-- the law's own end, with 1 on the stack, nothing written that was there before, its room as the claim has it -/
theorem lw_ret {p : Program} {l : Launch} {e : Env} {s : State} {m : MethodId} {below : List Frame} {meth : Method} {c : Code} {b : Nat} (hx : p.tables.exec = Jvm.exec) (hb : c.code = code) (hr : meth.sig.returnType = ret) (hlocks : meth.locks = false) {pc : Nat} {H : Heap} {ls : Array Slot} (hdg : decode code pc = .ok (.ireturn, 1)) : W p l e room_1 s m #[Value.ref b] below meth c H [] 600000 7302249 (lw_Z below #[Value.ref b] s) (F0 m pc ls [.int 1]) := by
  intro T hT X
  obtain ⟨fs, hret, hrun, hended, hW, hframe⟩ := X.leave (v := some (.int 1)) (hlocks := hlocks) (fun h => by rw [hr] at h; cases h)
  have hmeth' : T.vm.method? m = some meth := X.method'
  refine ⟨T.setFrames fs, ?_, .returned (some (.int 1)), hrun, hended, rfl, ⟨_, rfl⟩, hW, hframe⟩
  jvm_step X.here [X.here.top, hx, hb, hdg, hmeth', hr, ret, narrow_b1]
  (try refine ⟨rfl, ?_⟩); (try refine ⟨rfl, ?_⟩)
  first | (intro acts; rw [hret _ acts rfl rfl rfl]) | rw [hret _ _ rfl rfl rfl]
  exact Steps.refl _
/-- what holds at the law's entry: the machine, the code, the tables' words (any of lw_tbl by 'hts w (by decide +kernel)'), the script of L ints xs at the cell b, what the Statement gives of the start (any of its parts by flat_of_before) -/
def lw_At (p : Program) (s : State) (m : MethodId) (meth : Method) (c : Code) (b L : Nat) (xs : Nat → Int32) : Prop :=
  p.tables.exec = Jvm.exec ∧ c.code = code ∧ meth.sig.returnType = ret ∧ c.maxLocals = 4 ∧ s.vm.findClass R_law = some m.cls ∧ (∀ w ∈ lw_tbl, w.before #[Value.ref b] s = true) ∧ va_X b L xs s s.heap ∧ b < s.heap.size ∧ meth.locks = false ∧ (Jvm.Cond.and given_1 narrow_1).before #[Value.ref b] s = true
theorem nw_in : ∀ q ∈ nw_l, Cond.methodLinkNest q.1 q.2.1 q.2.2 "RowPress" ∈ lw_tbl := by decide +kernel
theorem nw_dc : Cond.declares y_O_compare ∈ lw_tbl := by decide +kernel
theorem nw_ca : ∀ C ∈ nw_c, Cond.castable C "RowPress$Order" ∈ lw_tbl := by decide +kernel
theorem nw_ao : Cond.arrayOver (.object "RowPress$Order") ∈ lw_tbl := by decide +kernel
theorem xa_Nof {args : Array Value} {s : State} (h : ∀ w ∈ lw_tbl, w.before args s = true) : xa_N s := ⟨fun q hq => va_Nw.of rfl (h _ (nw_in q hq)), va_Nw.of rfl (h _ nw_dc), fun C hC => va_Nw.of rfl (h _ (nw_ca C hC)), va_AO.of (h _ nw_ao)⟩
set_option maxHeartbeats 4000000 in
set_option maxRecDepth 100000 in
/-- THE LAW, from its entry -/
theorem whole_start {p : Program} {e : Env} {s : State} {m : MethodId} {below : List Frame} {meth : Method} {c : Code} (l : Launch) {b L : Nat} {xs : Nat → Int32} (hL : L ≤ 2560) (C0 : lw_At p s m meth c b L xs) : W p l e room_1 s m #[Value.ref b] below meth c s.heap [] 0 0 (lw_Z below #[Value.ref b] s) (entryFrame m ([Value.ref b] : List Value).toArray 4) := by
  obtain ⟨hx, hb, hr, hml, hown, htsT, hX, hbl, hlocks, hgv⟩ := id C0
  have hts : ∀ w ∈ w0, w.before #[Value.ref b] s = true := fun w hw => htsT w (w0_tbl hw)
  have hN : xa_N s := xa_Nof htsT
  have hA : ∀ q : Nat, s.heap.size ≤ q → (fun q : Nat => s.heap.size ≤ q) q := fun _ h => h
  have hbA : ¬ (fun q : Nat => s.heap.size ≤ q) b := Nat.not_le.mpr hbl
  obtain ⟨c0, iS0, hKn0⟩ := u_known (C := R_R) (T := F_R) (N := 8) (n := 8) hts i_R (hts _ it_R)
  obtain ⟨c1, iS1, hKn1⟩ := u_known (C := R_M) (T := F_M) (N := 5) (n := 5) hts i_M (hts _ it_M)
  obtain ⟨c2, iS2, hKn2⟩ := u_known (C := R_S) (T := F_0) (N := 0) (n := 0) hts (i_0 R_S) (hts _ it_S)
  obtain ⟨c3, iS3, hKn3⟩ := u_known (C := R_U) (T := F_0) (N := 0) (n := 0) hts (i_0 R_U) (hts _ it_U)
  obtain ⟨c4, iS4, hKn4⟩ := u_known (C := R_F) (T := F_0) (N := 0) (n := 0) hts (i_0 R_F) (hts _ it_F)
  obtain ⟨c5, iS5, hKn5⟩ := u_known (C := R_L) (T := F_0) (N := 0) (n := 0) hts (i_0 R_L) (hts _ it_L)
  obtain ⟨D, hKc⟩ : ∃ D : va_G, ∀ (k : Nat) (q : vw_C), classes[k]? = some q → u_Kn s q.1 q.2.1 q.2.2 (D.1 k) (D.2 k) := by
    refine ⟨(fun k => match k with | 0 => c0 | 1 => c1 | 2 => c2 | 3 => c3 | 4 => c4 | _ => c5, fun k => match k with | 0 => iS0 | 1 => iS1 | 2 => iS2 | 3 => iS3 | 4 => iS4 | _ => iS5), ?_⟩
    intro k q hq
    match k, hq with
    | 0, hq => cases hq; exact hKn0
    | 1, hq => cases hq; exact hKn1
    | 2, hq => cases hq; exact hKn2
    | 3, hq => cases hq; exact hKn3
    | 4, hq => cases hq; exact hKn4
    | 5, hq => cases hq; exact hKn5
    | k + 6, hq => simp [classes] at hq
  have hS : va_S (fun q : Nat => s.heap.size ≤ q) s.heap s.heap [] := va_S.rf
  have hK : va_K D classes [] s := ⟨hKc, fun k q h => by simp at h⟩
  have hP : va_P D classes [] s.heap := fun k q h => by simp at h
  have hD : va_D (fun q : Nat => s.heap.size ≤ q) [] := ⟨fun i j p q h => by simp at h, fun k q h => by simp at h⟩
  have hl := lv_entry ([.ref b]) (n := 4) (Nat.le_of_ble_eq_true rfl)
  rw [lg_entry_eq]
  generalize (lg_sl ([.ref b]) ++ List.replicate (4 - (lg_sl ([.ref b])).length) Slot.unset).toArray = ls at hl ⊢
  have hl : lv_has ls 4 [(0, .ref b)] := hl
  refine va_new (ci := 0) (fs := xR0) (C := R_R) (T := F_R) (N := 8) hx hb hts i_R t_R t_R_ok hown (hts _ cl_law_7) (hts _ it_R) (hts _ in_R) hK hP hD hS hA rfl (fun j hj => by rcases (show j = 0 ∨ j = 1 ∨ j = 2 ∨ j = 3 ∨ j = 4 ∨ j = 5 ∨ j = 6 ∨ j = 7 by omega) with rfl | rfl | rfl | rfl | rfl | rfl | rfl | rfl <;> rfl) (Nat.le_of_ble_eq_true rfl) (Nat.le_of_ble_eq_true rfl) d_law_0 (fun q0 H hP hD hS => ?_)
  have hP : va_P D classes [(q0, .inr (0, xR0))] H := hP
  have hD : va_D (fun q : Nat => s.heap.size ≤ q) [(q0, .inr (0, xR0))] := hD
  refine lv_dup hx hb d_law_3 rfl ?_
  have hPc := hP.sub (ws' := [(q0, .inr (0, xR0))]) [0] rfl
  have hDc := hD.sub (ws' := [(q0, .inr (0, xR0))]) [0] (by decide) rfl
  have hKc0 := hK.sub (tys' := []) [] rfl
  have hFc := va_free (wc := [(q0, .inr (0, xR0))]) hD hS hA [0] rfl
  refine va_callv (va_runI (As := []) (rest := [.ref q0]) ⟨hx, hb, hml, hown, hts⟩ (c_R_init l D q0 H.size) (cwI 0 hts (w0_good cd_R_init) rfl rfl rfl (hts _ in_R) (hts _ ml_law_9) (hts _ im_R_init) rfl (by decide +kernel) ⟨(Nat.le_of_ble_eq_true rfl), (Nat.le_of_ble_eq_true rfl)⟩) ⟨xa_P.blind, fun U hU hW => ⟨rfl, by rw [hU], by rw [hU]; exact hPc, va_K.moved hW.alike hKc0, hDc.weaken (fun _ _ _ _ => trivial), hN.warm hW⟩⟩ rfl rfl hl.1 rfl (lv_room (Nat.le_of_ble_eq_true rfl)) d_law_4 ⟨(Nat.le_of_ble_eq_true rfl), (Nat.le_of_ble_eq_true rfl)⟩) hS (fun q _ h => hFc q h) hFc (fun u t H1 locs ht hvm hw hB hz1 hk1 hS => ?_)
  obtain ⟨a, cI, cO⟩ := u
  obtain ⟨hP1, hK1, hD1⟩ := hB
  rw [ht] at hP1
  have hK1 := va_K.moved hvm.symm hK1
  have hw : a 0 = q0 := hw
  subst hw
  obtain ⟨hP, hD⟩ := va_join (wr := []) (w1 := xw a cI cO 0 0 0 0 0 (fun _ => (0, 0))) hP hD [0] [] rfl rfl (by decide) (by decide) hk1 hFc hP1 hD1
  generalize H1 = H at hP hS ⊢
  have hP : va_P D classes (xw a cI cO 0 0 0 0 0 (fun _ => (0, 0))) H := hP
  have hD : va_D (fun q : Nat => s.heap.size ≤ q) (xw a cI cO 0 0 0 0 0 (fun _ => (0, 0))) := hD
  have hK : va_K D classes (yR cI cO) s := hK1
  refine lv_astore_n (lv' := [(1, .ref (a 0)), (0, .ref b)]) hx hb d_law_7 rfl hl (by decide) rfl (fun ls hl => ?_)
  refine va_new (ci := 1) (fs := xM0) (C := R_M) (T := F_M) (N := 5) hx hb hts i_M t_M t_M_ok hown (hts _ cl_law_10) (hts _ it_M) (hts _ in_M) hK hP hD hS hA rfl (fun j hj => by rcases (show j = 0 ∨ j = 1 ∨ j = 2 ∨ j = 3 ∨ j = 4 by omega) with rfl | rfl | rfl | rfl | rfl <;> rfl) (Nat.le_of_ble_eq_true rfl) (Nat.le_of_ble_eq_true rfl) d_law_8 (fun q1 H hP hD hS => ?_)
  refine lv_dup hx hb d_law_11 rfl ?_
  have hPc := hP.sub (ws' := [(q1, .inr (1, xM0))]) [8] rfl
  have hDc := hD.sub (ws' := [(q1, .inr (1, xM0))]) [8] (by decide) rfl
  have hKc0 := hK.sub (tys' := []) [] rfl
  have hFc := va_free (wc := [(q1, .inr (1, xM0))]) hD hS hA [8] rfl
  refine va_callv (va_runI (As := []) (rest := [.ref q1]) ⟨hx, hb, hml, hown, hts⟩ (c_M_init l D q1 H.size) (cwI 0 hts (w0_good cd_M_init) rfl rfl rfl (hts _ in_M) (hts _ ml_law_12) (hts _ im_M_init) rfl (by decide +kernel) ⟨(Nat.le_of_ble_eq_true rfl), (Nat.le_of_ble_eq_true rfl)⟩) ⟨xa_P.blind, fun U hU hW => ⟨rfl, by rw [hU], by rw [hU]; exact hPc, va_K.moved hW.alike hKc0, hDc.weaken (fun _ _ _ _ => trivial), hN.warm hW⟩⟩ rfl rfl hl.1 rfl (lv_room (Nat.le_of_ble_eq_true rfl)) d_law_12 ⟨(Nat.le_of_ble_eq_true rfl), (Nat.le_of_ble_eq_true rfl)⟩) hS (fun q _ h => hFc q h) hFc (fun u t H1 locs ht hvm hw hB hz1 hk1 hS => ?_)
  obtain ⟨d, cM⟩ := u
  obtain ⟨hP1, hK1, hD1⟩ := hB
  rw [ht] at hP1
  have hK1 := va_K.moved hvm.symm hK1
  have hw : d 0 = q1 := hw
  subst hw
  obtain ⟨hP, hD⟩ := va_join (wr := xw a cI cO 0 0 0 0 0 (fun _ => (0, 0))) (w1 := mw d cM 0 (fun _ => (0, 0)) (fun _ => (0, 0))) hP hD [8] [0, 1, 2, 3, 4, 5, 6, 7] rfl rfl (by decide) (by decide) hk1 hFc hP1 hD1
  generalize H1 = H at hP hS ⊢
  have hc : cI = cM := Option.some.inj ((hK.2 0 _ rfl).2.symm.trans (hK1.2 0 _ rfl).2)
  subst hc
  refine lv_astore_n (lv' := [(2, .ref (d 0)), (1, .ref (a 0)), (0, .ref b)]) hx hb d_law_15 rfl hl (by decide) rfl (fun ls hl => ?_)
  refine W.widen (k := 600000) (n := 7302249) (Nat.le_of_ble_eq_true rfl) (Nat.le_of_ble_eq_true rfl) ?_
  have hLs : xa_L ls 4 [some (.ref b), some (.ref (a 0)), some (.ref (d 0)), none] := by
    refine ⟨hl.1, hl.2.1, rfl, fun i v hi => ?_⟩
    match i, hi with
    | 0, hi => cases hi; exact lv_at hl 2 rfl
    | 1, hi => cases hi; exact lv_at hl 1 rfl
    | 2, hi => cases hi; exact lv_at hl 0 rfl
    | 3, hi => cases hi
    | i + 4, hi => cases hi
  have G : xa_G ((p, l, e, room_1, s, m, #[Value.ref b], below), (meth, c, lw_Z below #[Value.ref b] s, 600000, 7302249), ((fun q : Nat => s.heap.size ≤ q), D, 4)) "RowPressLaw" code 1000 := ⟨hx, hb, hml, hown, hts, hA, hN, ⟨(Nat.le_of_ble_eq_true rfl), (Nat.le_of_ble_eq_true rfl)⟩, (Nat.le_of_ble_eq_true rfl), (Nat.le_of_ble_eq_true rfl)⟩
  have fin : ∀ (ws : va_W) (lv : List (Option Value)), xa_At ((p, l, e, room_1, s, m, #[Value.ref b], below), (meth, c, lw_Z below #[Value.ref b] s, 600000, 7302249), ((fun q : Nat => s.heap.size ≤ q), D, 4)) ws 693 lv [] := by
    intro ws lv H locs ls hP hD hS hL
    refine lv_iconst (v := 1) hx hb d_law_693 (by decide) ?_
    refine va_forget (fun q hq => hS.2.2 q hq) ?_
    exact lw_ret hx hb hr hlocks d_law_694
  have go : xa_At ((p, l, e, room_1, s, m, #[Value.ref b], below), (meth, c, lw_Z below #[Value.ref b] s, 600000, 7302249), ((fun q : Nat => s.heap.size ≤ q), D, 4)) (xw a cI cO 0 0 0 0 0 (fun _ => (0, 0)) ++ mw d cI 0 (fun _ => (0, 0)) (fun _ => (0, 0))) 16 [some (.ref b), some (.ref (a 0)), some (.ref (d 0)), none] [] := by
    refine xa_iconst G (v := nI 0) d_law_16 (by decide +kernel) ?_
    refine xa_istore_n G (i := 3) d_law_17 rfl rfl ?_
    exact law_loop G hK ⟨hX, hbl, hbA, hL⟩ fin L 0 0 0 0 0 0 (fun _ => (0, 0)) (fun _ => (0, 0)) (by omega) (by omega) ⟨by omega, by omega, by omega, fun h h1 h2 => ⟨by omega, by omega⟩⟩
  exact go H locs ls hP hD hS hLs
end
section
set_option maxHeartbeats 4000000 in
theorem lw_walk (l : Launch) (b : Addr) (xs : List Int32) : MetFree l x (headSpec (Jvm.Cond.code x code maxLocals ret :: tables_1) room_1) (lw_P b xs) (fun _ _ _ _ _ => True) lw_Q := by
  refine MetFree.of_bodyS (code := code) (maxLocals := maxLocals) (ret := ret) (by decide) ?_ ?_
  · intro args s m h hn
    obtain ⟨meth, c, h1, h2, h3, h4, h5, h6, -, -⟩ := Cond.code_spec hn (atoms_spec (ws := Jvm.Cond.code x code maxLocals ret :: tables_1) h _ List.mem_cons_self)
    exact ⟨meth, c, h1, h2, h3, h4, h5, h6⟩
  · intro p e s m args below meth c s₁ B hml0 hP _
    obtain ⟨rfl, hx, hbd, hgv⟩ := hP
    obtain ⟨scr, harrAt, hlist, hof, hsmall⟩ := hx
    obtain ⟨hcb, hkn, -, -⟩ := State.arrayAt?_spec harrAt
    have hown : s.vm.findClass R_law = some m.cls := findClass_of_methodNamed B.named
    have hts0 : ∀ c ∈ (Jvm.Cond.code x code maxLocals ret :: tables_1), c.before #[Value.ref b] s = true := atoms_spec (ws := Jvm.Cond.code x code maxLocals ret :: tables_1) B.pre
    have hts : ∀ w ∈ lw_tbl, w.before #[Value.ref b] s = true := k2_hts_sels lw_privs (fun w hw => hts0 w (List.mem_cons_of_mem _ hw)) lw_privs_ok
    have hml : c.maxLocals = 4 := B.maxLocals_eq (hts0 _ List.mem_cons_self)
    have X₀ : Stand p l e room_1 s m #[Value.ref b] below meth c s₁ [] 0 0 := Stand.of_body B
    have hh0 : s₁.heap = s.heap := by rw [B.state]; rfl
    have hsz : scr.slots.size = xs.length := by rw [← Array.length_toList, hlist, List.length_map]
    have hval : ∀ j : Nat, j < xs.length → scr.slots[j]? = some (.int (xs.getD j 0)) := fun j hj => by
      rw [← Array.getElem?_toList, hlist]
      simp [hj]
    have hbl : b < s.heap.size := (Array.getElem?_eq_some_iff.mp hcb).1
    have hX : va_X b xs.length (fun j => xs.getD j 0) s s.heap := ⟨scr, hcb, hof, hkn, hsz, hval⟩
    have K : W p l e room_1 s m #[Value.ref b] below meth c s₁.heap [] 0 0 (lw_Z below #[Value.ref b] s) (entryFrame m ([Value.ref b] : List Value).toArray 4) := by
      rw [hh0]
      exact whole_start l hbd ⟨B.exec, B.bytes, B.returns, hml, hown, hts, hX, hbl, B.notSynchronized, hgv⟩
    obtain ⟨t, a1, o, b1, b2, b3⟩ := K s₁ rfl X₀
    exact ⟨t, o, a1, b1, b2, b3⟩
theorem lw_pre_spec {args : Array Value} {s : State} (h : (Jvm.Cond.and given_1 narrow_1).before args s = true) (hr : rest_1_c.before args s = true) : ∃ (b : Addr) (xs : List Int32), lw_P b xs args s := by
  have hs := flat_of_before _ h
  have hq := flat_of_before _ hr
  have hc : (Cond.count 1).before args s = true := hs _ (by decide +kernel)
  have harr : (Cond.arrayOf (.arg 0) .int).before args s = true := hs _ (by decide +kernel)
  have hle : (Cond.le (.length (.arg 0)) (.int 2560)).before args s = true := hs _ (by decide +kernel)
  have hlen : (Cond.isInt (.length (.arg 0))).before args s = true := hq _ (by decide +kernel)
  have hall : (Cond.all (.arg 0) (.isInt (.elem (.arg 0) (.index 0)))).before args s = true := hq _ (by decide +kernel)
  obtain ⟨b, xs, hb, hx⟩ := State.ints_of_pre rfl harr hlen hall
  have hsm : xs.length < 2 ^ 31 := hx.choose_spec.2.2.2
  have hev : (Term.length (.arg 0)).eval args s none [] s = some (.int xs.length.toInt32) := hx.length_eval hb
  have hv := Cond.le_ints hev (show (Term.int 2560).eval args s none [] s = some (.int 2560) from rfl)
  have hd : xs.length.toInt32 ≤ 2560 := by
    simpa [Cond.before, Cond.holds, hv] using hle
  have hN : xs.length ≤ 2560 := (Int32.ofNat_le_ofNat hsm (by decide)).mp (show Int32.ofNat xs.length ≤ Int32.ofNat 2560 from hd)
  exact ⟨b, xs, Cond.one_arg hc (show args[0]? = some (.ref b) from hb), hx, hN, h⟩
theorem lw_comes (l : Launch) : Comes l x (Jvm.Cond.code x code maxLocals ret :: tables_1) room_1 (fun tb e args s => Calls_1 tb e args s ∧ rest_1 tb e args s ∧ Pre_1 tb e args s)
    (fun _ _ args s o t => lw_Q args s o t) := by
  intro p e ha hc hk s m args below hf hfit hheap happ hpre
  obtain ⟨b, xs, hP⟩ := lw_pre_spec hpre.2.2 hpre.2.1
  obtain ⟨k, o, h1, h2, h3, hQ⟩ := lw_walk l b xs p e ha hc hk s m args below hf ((Spec.applies_iff_loose hf).mp happ).1 hP trivial
  exact ⟨k, o, h1, h2, h3, hQ⟩
theorem lw_frame {s t : State} {o : Outcome} {args : Array Value} (h : Framed s o t [] 600000 7302249) :
    Framed s o t (fieldLocs frame_1_writes args s ++ arrayLocs frame_1_arrays args s ++ staticLocs frame_1_statics s) 600000 7302249 := h
theorem lw_limb (L : Cond) (hL : ∀ (args : Array Value) (s t : State), L.after args s (.returned (some (.int 1))) t = true) :
    ArmFor flags0 classFile x code maxLocals ret World_1 tables_1 room_1 Calls_1 rest_1 Pre_1
      (fun tb e a s o t => postC L tb e a s o t ∧ Framed s o t (fieldLocs frame_1_writes a s ++ arrayLocs frame_1_arrays a s ++ staticLocs frame_1_statics s) 600000 7302249) := by
  intro l _ _ _ p e ha hc hk s m args below hf hfit hheap happ hpre
  obtain ⟨k, o, h1, h2, h3, rfl, hF⟩ := lw_comes l p e ha hc hk s m args below hf hfit hheap happ hpre
  exact ⟨k, _, h1, h2, h3, hL args s _, lw_frame hF⟩
theorem i_vc : Claimed_1_1 ∧ Claimed_1_2 := ⟨lw_limb limb_1_1 (fun args s t => by simp [limb_1_1, Cond.after, Cond.holds, Cond.value]), lw_limb limb_1_2 (fun args s t => Cond.after_iff.mpr (by
  first | (rw [show limb_1_2 = Cond.eq .result (.int 1) from rfl, Cond.eq_ints (x := 1) (y := 1) rfl rfl]; simp; done) | (simp [limb_1_2, Cond.value, Term.eval]; done)))⟩
end
